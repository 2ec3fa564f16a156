section
/-! pure rows to paste: stores, nI and lN arithmetic, masks, shifts, narrowing, branches by naturals (pk_le, pk_lt, pk_eq), loops (lp1 .. lp16: the measure of the state; rp1 ..: recursion), negatives. Take what you need -/
theorem pk_us {f : Nat → Int32} {k : Nat} {x : Int32} : upd f k x k = x := if_pos rfl
theorem pk_un {f : Nat → Int32} {k j : Nat} {x : Int32} (h : j ≠ k) : upd f k x j = f j := if_neg h
theorem pk_uLs {f : Nat → Int64} {k : Nat} {x : Int64} : vp_updL f k x k = x := if_pos rfl
theorem pk_uLn {f : Nat → Int64} {k j : Nat} {x : Int64} (h : j ≠ k) : vp_updL f k x j = f j := if_neg h
theorem pk_sub {a b : Nat} (h : b ≤ a) : nI a - nI b = nI (a - b) := by
  obtain ⟨c, rfl⟩ : ∃ c, a = c + b := ⟨a - b, by omega⟩
  rw [← nI_add, Int32.add_sub_cancel, Nat.add_sub_cancel]
theorem pk_m1 (n : Nat) : nI (n + 1) + (-1) = nI n := by
  rw [← nI_1, Int32.add_assoc, show (1 : Int32) + (-1) = 0 from rfl, Int32.add_zero]
theorem pk_mul (a b : Nat) : nI a * nI b = nI (a * b) := (Int32.ofNat_mul a b).symm
theorem pk_div {a d : Nat} (ha : a < 2 ^ 31) (h0 : 0 < d) (hd : d < 2 ^ 31) : nI a / nI d = nI (a / d) := by
  apply Int32.toInt_inj.mp
  rw [lg_idiv_nonneg (by rw [nI_toInt ha]; omega) (by rw [nI_toInt hd]; omega), nI_toInt ha, nI_toInt hd, nI_toInt (Nat.lt_of_le_of_lt (Nat.div_le_self a d) ha)]
  first | rfl | exact (Int.natCast_ediv _ _).symm
theorem pk_rem {a d : Nat} (ha : a < 2 ^ 31) (h0 : 0 < d) (hd : d < 2 ^ 31) : nI a - nI a / nI d * nI d = nI (a % d) := by
  rw [pk_div ha h0 hd, pk_mul, pk_sub (Nat.div_mul_le_self a d)]
  exact congrArg nI (by have := Nat.div_add_mod' a d; omega)
theorem pk_sub_toInt {a b : Nat} (ha : a < 2 ^ 30) (hb : b < 2 ^ 30) : (nI a - nI b).toInt = (a : Int) - b := by
  rw [Int32.toInt_sub, nI_toInt (by omega), nI_toInt (by omega)]
  exact Int.bmod_eq_of_le (by omega) (by omega)
theorem pk_sneg {a b : Nat} (hb : b < 2 ^ 30) (h : a < b) : nI a - nI b < 0 := by
  rw [Int32.lt_iff_toInt_lt, pk_sub_toInt (by omega) hb, show (0 : Int32).toInt = 0 from by decide]
  omega
theorem pk_ix (x : Int32) {n : Nat} (hn : n < 2 ^ 31) : x < 0 ∨ nI n ≤ x ∨ ∃ j : Nat, j < n ∧ x = nI j := by
  by_cases h : x < 0
  · exact Or.inl h
  · obtain ⟨j, hj, rfl⟩ := nI_of h
    by_cases h2 : j < n
    · exact Or.inr (Or.inr ⟨j, h2, rfl⟩)
    · exact Or.inr (Or.inl (nI_le (by omega) hj))
theorem pk_le {x y : Int32} {A B : Prop} (a b : Nat) (f : a ≤ b → A) (g : b < a → B) (hx : x = nI a := by rfl) (hy : y = nI b := by rfl) (ha : a < 2 ^ 31 := by omega) (hb : b < 2 ^ 31 := by omega) : (x ≤ y → A) ∧ (¬ x ≤ y → B) := by
  subst hx hy
  rw [nI_leI ha hb]
  exact ⟨f, fun z => g (by omega)⟩
theorem pk_lt {x y : Int32} {A B : Prop} (a b : Nat) (f : a < b → A) (g : b ≤ a → B) (hx : x = nI a := by rfl) (hy : y = nI b := by rfl) (ha : a < 2 ^ 31 := by omega) (hb : b < 2 ^ 31 := by omega) : (x < y → A) ∧ (¬ x < y → B) := by
  subst hx hy
  rw [nI_ltI ha hb]
  exact ⟨f, fun z => g (by omega)⟩
theorem pk_eq {x y : Int32} {A B : Prop} (a b : Nat) (f : a = b → A) (g : a ≠ b → B) (hx : x = nI a := by rfl) (hy : y = nI b := by rfl) (ha : a < 2 ^ 31 := by omega) (hb : b < 2 ^ 31 := by omega) : (x = y → A) ∧ (¬ x = y → B) := by
  subst hx hy
  rw [nI_eq ha hb]
  exact ⟨f, g⟩
theorem pk_in {x : Int32} (n N : Nat) (h : n < N) (hx : x = nI n := by rfl) (hN : N < 2 ^ 31 := by omega) : vp_in x N := by
  subst hx
  exact vp_in_nI h hN
theorem pk_cl {x : Int32} (n : Nat) (hx : x = nI n := by rfl) (h : n < 2 ^ 31 := by omega) : x.toNatClampNeg = n := by
  subst hx
  exact nI_clamp h
theorem pk_tn {n : Nat} (h : n < 2 ^ 32) : (nI n).toBitVec.toNat = n := Nat.mod_eq_of_lt h
theorem pk_and (x : Int32) {m : Int32} (k : Nat) (hm : m.toBitVec.toNat = 2 ^ k - 1) : x &&& m = nI (x.toBitVec.toNat % 2 ^ k) := by
  apply Int32.toBitVec_inj.mp
  apply BitVec.eq_of_toNat_eq
  rw [Int32.toBitVec_and, BitVec.toNat_and, hm, Nat.and_two_pow_sub_one_eq_mod]
  show _ = (BitVec.ofNat 32 _).toNat
  rw [BitVec.toNat_ofNat]
  exact (Nat.mod_eq_of_lt (Nat.lt_of_le_of_lt (Nat.mod_le _ _) x.toBitVec.isLt)).symm
theorem pk_andN {n : Nat} (h : n < 2 ^ 32) {m : Int32} (k : Nat) (hm : m.toBitVec.toNat = 2 ^ k - 1) : nI n &&& m = nI (n % 2 ^ k) := by
  rw [pk_and _ k hm, pk_tn h]
theorem pk_andE (x : Int32) {m : Int32} (k : Nat) (hm : m.toBitVec.toNat = 2 ^ k - 1) : ∃ j : Nat, j < 2 ^ k ∧ x &&& m = nI j := ⟨_, Nat.mod_lt _ (Nat.two_pow_pos k), pk_and x k hm⟩
theorem pk_andIn (x : Int32) {m : Int32} (k : Nat) (hm : m.toBitVec.toNat = 2 ^ k - 1) (hk : k ≤ 30) : vp_in (x &&& m) (2 ^ k) := by
  obtain ⟨j, hj, e⟩ := pk_andE x k hm
  rw [e]
  exact vp_in_nI hj (Nat.lt_of_le_of_lt (Nat.pow_le_pow_right (by decide) hk) (by decide))
theorem pk_shl (a s : Int32) (k : Nat) (hs : (s.toBitVec.smod 32).toNat = k) : (a <<< s).toBitVec.toNat = a.toBitVec.toNat * 2 ^ k % 2 ^ 32 := by
  show (a.toBitVec <<< (s.toBitVec.smod 32).toNat).toNat = _
  rw [hs, BitVec.toNat_shiftLeft, Nat.shiftLeft_eq]
theorem pk_shlN {n : Nat} (s : Int32) (k : Nat) (hs : (s.toBitVec.smod 32).toNat = k) (h : n * 2 ^ k < 2 ^ 32) : nI n <<< s = nI (n * 2 ^ k) := by
  apply Int32.toBitVec_inj.mp
  apply BitVec.eq_of_toNat_eq
  have hn : n < 2 ^ 32 := Nat.lt_of_le_of_lt (Nat.le_mul_of_pos_right n (Nat.two_pow_pos k)) h
  rw [pk_shl _ _ k hs, pk_tn hn, pk_tn h, Nat.mod_eq_of_lt h]
theorem pk_shr (a s : Int32) (k : Nat) (hs : (s.toBitVec.smod 32).toNat = k) : (a >>> s).toInt = a.toInt >>> k := by
  show (a.toBitVec.sshiftRight (s.toBitVec.smod 32).toNat).toInt = _
  rw [hs, BitVec.toInt_sshiftRight]
  rfl
theorem pk_shrN {n : Nat} (h : n < 2 ^ 31) (s : Int32) (k : Nat) (hs : (s.toBitVec.smod 32).toNat = k) : nI n >>> s = nI (n / 2 ^ k) := by
  apply Int32.toInt_inj.mp
  have h2 : n / 2 ^ k ≤ n := Nat.div_le_self _ _
  rw [pk_shr _ _ k hs, nI_toInt h, nI_toInt (by omega), Int.shiftRight_eq_div_pow]
  rfl
theorem pk_ushr (x s : Int32) (k : Nat) (hs : ((s.toUInt32 &&& Int32.toUInt32 31).toBitVec % 32).toNat = k) : (x.toUInt32 >>> (s.toUInt32 &&& Int32.toUInt32 31)).toInt32.toBitVec.toNat = x.toBitVec.toNat / 2 ^ k := by
  have e : (x.toUInt32 >>> (s.toUInt32 &&& Int32.toUInt32 31)).toInt32.toBitVec = x.toBitVec >>> k := by
    rw [← hs]
    exact UInt32.toBitVec_shiftRight _ _
  rw [e, BitVec.toNat_ushiftRight, Nat.shiftRight_eq_div_pow]
theorem pk_ushrN {n : Nat} (hn : n < 2 ^ 32) (s : Int32) (k : Nat) (hs : ((s.toUInt32 &&& Int32.toUInt32 31).toBitVec % 32).toNat = k) : ((nI n).toUInt32 >>> (s.toUInt32 &&& Int32.toUInt32 31)).toInt32 = nI (n / 2 ^ k) := by
  apply Int32.toBitVec_inj.mp
  apply BitVec.eq_of_toNat_eq
  rw [pk_ushr _ s k hs, pk_tn hn, pk_tn (Nat.lt_of_le_of_lt (Nat.div_le_self _ _) hn)]
theorem pk_nb (z : Int32) : narrow .byte (.int z.toInt8.toInt32) = .int z.toInt8.toInt32 := congrArg Value.int (by simp)
theorem pk_ns (z : Int32) : narrow .short (.int z.toInt16.toInt32) = .int z.toInt16.toInt32 := congrArg Value.int (by simp)
theorem pk_fb (r : Int32) : fits .byte (.int r.toInt8.toInt32) = true := by
  have ⟨a, b⟩ := lg_i2b_range r
  have h1 : (-128 : Int32).toInt = -128 := by decide
  have h2 : (127 : Int32).toInt = 127 := by decide
  simp only [fits, Bool.and_eq_true, decide_eq_true_eq, Int32.le_iff_toInt_le, h1, h2]
  omega
theorem pk_fs (r : Int32) : fits .short (.int r.toInt16.toInt32) = true := by
  have ⟨a, b⟩ := lg_i2s_range r
  have h1 : (-32768 : Int32).toInt = -32768 := by decide
  have h2 : (32767 : Int32).toInt = 32767 := by decide
  simp only [fits, Bool.and_eq_true, decide_eq_true_eq, Int32.le_iff_toInt_le, h1, h2]
  omega
theorem pk_charN {q : Nat} (hq : q < 65536) : narrow .char (.int (nI q)) = .int (nI q) ∧ fits .char (.int (nI q)) = true := by
  constructor
  · have e : (nI q).toUInt32.toUInt16.toUInt32.toInt32 = nI q := by
      apply Int32.toBitVec_inj.mp
      apply BitVec.eq_of_toNat_eq
      show (nI q).toUInt32.toUInt16.toUInt32.toNat = q % 2 ^ 32
      rw [UInt16.toNat_toUInt32, UInt32.toNat_toUInt16, show (nI q).toUInt32.toNat = q % 2 ^ 32 from rfl]
      omega
    exact congrArg Value.int e
  · have a : (0 : Int32) ≤ nI q := nI_pos' (by omega)
    have b : nI q ≤ 65535 := nI_le (b := 65535) (by omega) (by decide)
    show (decide ((0 : Int32) ≤ nI q) && decide (nI q ≤ 65535)) = true
    rw [decide_eq_true a, decide_eq_true b]
    rfl
theorem pk_char (x : Int32) : (x.toUInt32 % 65536).toInt32 = nI (x.toBitVec.toNat % 65536) := by
  apply Int32.toBitVec_inj.mp
  apply BitVec.eq_of_toNat_eq
  rw [pk_tn (by omega)]
  show (x.toUInt32 % 65536).toNat = _
  rw [UInt32.toNat_mod]
  rfl
theorem pk_nc (x : Int32) : narrow .char (.int (x.toUInt32 % 65536).toInt32) = .int (x.toUInt32 % 65536).toInt32 := by
  rw [pk_char]
  exact (pk_charN (Nat.mod_lt _ (by decide))).1
theorem pk_fc (x : Int32) : fits .char (.int (x.toUInt32 % 65536).toInt32) = true := by
  rw [pk_char]
  exact (pk_charN (Nat.mod_lt _ (by decide))).2
theorem pk_vb (z : Int32) : vp_nar .byte z.toInt8.toInt32 = z.toInt8.toInt32 := by rw [vp_nar_byte]; simp
theorem pk_vs (z : Int32) : vp_nar .short z.toInt16.toInt32 = z.toInt16.toInt32 := by rw [vp_nar_short]; simp
theorem pk_vc (z : Int32) : vp_nar .char (z.toUInt32 % 65536).toInt32 = (z.toUInt32 % 65536).toInt32 := Value.int.inj (pk_nc z)
theorem pk_lT {n : Nat} (h : n < 2 ^ 63) : (lN n).toInt = (n : Int) := lg_ofNat_toInt h
theorem pk_lLT {a b : Nat} (ha : a < 2 ^ 63) (hb : b < 2 ^ 63) : lN a < lN b ↔ a < b := by
  rw [Int64.lt_iff_toInt_lt, pk_lT ha, pk_lT hb]; omega
theorem pk_lLE {a b : Nat} (ha : a < 2 ^ 63) (hb : b < 2 ^ 63) : lN a ≤ lN b ↔ a ≤ b := by
  rw [Int64.le_iff_toInt_le, pk_lT ha, pk_lT hb]; omega
theorem pk_lEQ {a b : Nat} (ha : a < 2 ^ 63) (hb : b < 2 ^ 63) : lN a = lN b ↔ a = b := by
  rw [← Int64.toInt_inj, pk_lT ha, pk_lT hb]; omega
theorem pk_lOf {x : Int64} (h : ¬ x < 0) : ∃ k : Nat, k < 2 ^ 63 ∧ x = lN k := by
  rw [Int64.lt_iff_toInt_lt] at h
  have h0 : (0 : Int64).toInt = 0 := by decide
  have hx := Int64.toInt_lt x
  refine ⟨x.toInt.toNat, by omega, Int64.toInt_inj.mp ?_⟩
  rw [pk_lT (by omega)]
  omega
theorem pk_lDiv {a b : Nat} (ha : a < 2 ^ 63) (h0 : 0 < b) (hb : b < 2 ^ 63) : lN a / lN b = lN (a / b) := by
  apply Int64.toInt_inj.mp
  rw [lg_ldiv_nonneg (by rw [pk_lT ha]; omega) (by rw [pk_lT hb]; omega), pk_lT ha, pk_lT hb, pk_lT (Nat.lt_of_le_of_lt (Nat.div_le_self a b) ha)]
  rfl
theorem pk_lRem {a b : Nat} (ha : a < 2 ^ 63) (h0 : 0 < b) (hb : b < 2 ^ 63) : lN a - lN a / lN b * lN b = lN (a % b) := by
  rw [pk_lDiv ha h0 hb, lN_mul, lN_sub (Nat.div_mul_le_self a b)]
  exact congrArg lN (by have := Nat.div_add_mod' a b; omega)
theorem pk_loop {σ : Type} (W : Nat → Nat → σ → Prop) (I : Nat → σ → Prop) (e i0 : Nat) (s : σ) (hi : i0 ≤ e) (h0 : I i0 s) (hx : ∀ n s, I e s → W (n + 1) e s)
    (hs : ∀ n i s, i < e → I i s → (∀ s', I (i + 1) s' → W n (i + 1) s') → W (n + 1) i s) : ∃ n, W n i0 s :=
  ⟨e + 1, loop_i W I e hx hs (e + 1) i0 s hi (by omega) h0⟩
theorem pk_loopD {σ : Type} (W : Nat → Nat → σ → Prop) (I : Nat → σ → Prop) (hx : ∀ n s, I 0 s → W (n + 1) 0 s)
    (hs : ∀ n i s, I (i + 1) s → (∀ s', I i s' → W n i s') → W (n + 1) (i + 1) s) : ∀ (e : Nat) (s : σ), I e s → W (e + 1) e s := by
  intro e
  induction e with
  | zero => exact fun s h => hx 0 s h
  | succ e ih => exact fun s h => hs (e + 1) e s h (fun s' h' => ih s' h')
theorem lp1 {A1 : Type} (W : Nat → A1 → Prop) (I : A1 → Prop) (μ : A1 → Nat) (hs : ∀ (n : Nat) (a1 : A1), I a1 → (∀ (b1 : A1), I b1 → μ b1 < μ a1 → W n b1) → W (n + 1) a1) (a1 : A1) (h : I a1) : ∃ n, W n a1 :=
  loop_m (σ := A1) (fun n s => W n s) (fun s => I s) (fun s => μ s) (fun n s hI hk => hs n s hI (fun b1 h9 hm => hk b1 h9 hm)) a1 h
theorem lp2 {A1 A2 : Type} (W : Nat → A1 → A2 → Prop) (I : A1 → A2 → Prop) (μ : A1 → A2 → Nat) (hs : ∀ (n : Nat) (a1 : A1) (a2 : A2), I a1 a2 → (∀ (b1 : A1) (b2 : A2), I b1 b2 → μ b1 b2 < μ a1 a2 → W n b1 b2) → W (n + 1) a1 a2) (a1 : A1) (a2 : A2) (h : I a1 a2) : ∃ n, W n a1 a2 :=
  loop_m (σ := A1 × A2) (fun n s => W n s.1 s.2) (fun s => I s.1 s.2) (fun s => μ s.1 s.2) (fun n s hI hk => hs n s.1 s.2 hI (fun b1 b2 h9 hm => hk (b1, b2) h9 hm)) (a1, a2) h
theorem lp3 {A1 A2 A3 : Type} (W : Nat → A1 → A2 → A3 → Prop) (I : A1 → A2 → A3 → Prop) (μ : A1 → A2 → A3 → Nat) (hs : ∀ (n : Nat) (a1 : A1) (a2 : A2) (a3 : A3), I a1 a2 a3 → (∀ (b1 : A1) (b2 : A2) (b3 : A3), I b1 b2 b3 → μ b1 b2 b3 < μ a1 a2 a3 → W n b1 b2 b3) → W (n + 1) a1 a2 a3) (a1 : A1) (a2 : A2) (a3 : A3) (h : I a1 a2 a3) : ∃ n, W n a1 a2 a3 :=
  loop_m (σ := A1 × A2 × A3) (fun n s => W n s.1 s.2.1 s.2.2) (fun s => I s.1 s.2.1 s.2.2) (fun s => μ s.1 s.2.1 s.2.2) (fun n s hI hk => hs n s.1 s.2.1 s.2.2 hI (fun b1 b2 b3 h9 hm => hk (b1, b2, b3) h9 hm)) (a1, a2, a3) h
theorem lp4 {A1 A2 A3 A4 : Type} (W : Nat → A1 → A2 → A3 → A4 → Prop) (I : A1 → A2 → A3 → A4 → Prop) (μ : A1 → A2 → A3 → A4 → Nat) (hs : ∀ (n : Nat) (a1 : A1) (a2 : A2) (a3 : A3) (a4 : A4), I a1 a2 a3 a4 → (∀ (b1 : A1) (b2 : A2) (b3 : A3) (b4 : A4), I b1 b2 b3 b4 → μ b1 b2 b3 b4 < μ a1 a2 a3 a4 → W n b1 b2 b3 b4) → W (n + 1) a1 a2 a3 a4) (a1 : A1) (a2 : A2) (a3 : A3) (a4 : A4) (h : I a1 a2 a3 a4) : ∃ n, W n a1 a2 a3 a4 :=
  loop_m (σ := A1 × A2 × A3 × A4) (fun n s => W n s.1 s.2.1 s.2.2.1 s.2.2.2) (fun s => I s.1 s.2.1 s.2.2.1 s.2.2.2) (fun s => μ s.1 s.2.1 s.2.2.1 s.2.2.2) (fun n s hI hk => hs n s.1 s.2.1 s.2.2.1 s.2.2.2 hI (fun b1 b2 b3 b4 h9 hm => hk (b1, b2, b3, b4) h9 hm)) (a1, a2, a3, a4) h
theorem lp5 {A1 A2 A3 A4 A5 : Type} (W : Nat → A1 → A2 → A3 → A4 → A5 → Prop) (I : A1 → A2 → A3 → A4 → A5 → Prop) (μ : A1 → A2 → A3 → A4 → A5 → Nat) (hs : ∀ (n : Nat) (a1 : A1) (a2 : A2) (a3 : A3) (a4 : A4) (a5 : A5), I a1 a2 a3 a4 a5 → (∀ (b1 : A1) (b2 : A2) (b3 : A3) (b4 : A4) (b5 : A5), I b1 b2 b3 b4 b5 → μ b1 b2 b3 b4 b5 < μ a1 a2 a3 a4 a5 → W n b1 b2 b3 b4 b5) → W (n + 1) a1 a2 a3 a4 a5) (a1 : A1) (a2 : A2) (a3 : A3) (a4 : A4) (a5 : A5) (h : I a1 a2 a3 a4 a5) : ∃ n, W n a1 a2 a3 a4 a5 :=
  loop_m (σ := A1 × A2 × A3 × A4 × A5) (fun n s => W n s.1 s.2.1 s.2.2.1 s.2.2.2.1 s.2.2.2.2) (fun s => I s.1 s.2.1 s.2.2.1 s.2.2.2.1 s.2.2.2.2) (fun s => μ s.1 s.2.1 s.2.2.1 s.2.2.2.1 s.2.2.2.2) (fun n s hI hk => hs n s.1 s.2.1 s.2.2.1 s.2.2.2.1 s.2.2.2.2 hI (fun b1 b2 b3 b4 b5 h9 hm => hk (b1, b2, b3, b4, b5) h9 hm)) (a1, a2, a3, a4, a5) h
theorem lp6 {A1 A2 A3 A4 A5 A6 : Type} (W : Nat → A1 → A2 → A3 → A4 → A5 → A6 → Prop) (I : A1 → A2 → A3 → A4 → A5 → A6 → Prop) (μ : A1 → A2 → A3 → A4 → A5 → A6 → Nat) (hs : ∀ (n : Nat) (a1 : A1) (a2 : A2) (a3 : A3) (a4 : A4) (a5 : A5) (a6 : A6), I a1 a2 a3 a4 a5 a6 → (∀ (b1 : A1) (b2 : A2) (b3 : A3) (b4 : A4) (b5 : A5) (b6 : A6), I b1 b2 b3 b4 b5 b6 → μ b1 b2 b3 b4 b5 b6 < μ a1 a2 a3 a4 a5 a6 → W n b1 b2 b3 b4 b5 b6) → W (n + 1) a1 a2 a3 a4 a5 a6) (a1 : A1) (a2 : A2) (a3 : A3) (a4 : A4) (a5 : A5) (a6 : A6) (h : I a1 a2 a3 a4 a5 a6) : ∃ n, W n a1 a2 a3 a4 a5 a6 :=
  loop_m (σ := A1 × A2 × A3 × A4 × A5 × A6) (fun n s => W n s.1 s.2.1 s.2.2.1 s.2.2.2.1 s.2.2.2.2.1 s.2.2.2.2.2) (fun s => I s.1 s.2.1 s.2.2.1 s.2.2.2.1 s.2.2.2.2.1 s.2.2.2.2.2) (fun s => μ s.1 s.2.1 s.2.2.1 s.2.2.2.1 s.2.2.2.2.1 s.2.2.2.2.2) (fun n s hI hk => hs n s.1 s.2.1 s.2.2.1 s.2.2.2.1 s.2.2.2.2.1 s.2.2.2.2.2 hI (fun b1 b2 b3 b4 b5 b6 h9 hm => hk (b1, b2, b3, b4, b5, b6) h9 hm)) (a1, a2, a3, a4, a5, a6) h
theorem lp7 {A1 A2 A3 A4 A5 A6 A7 : Type} (W : Nat → A1 → A2 → A3 → A4 → A5 → A6 → A7 → Prop) (I : A1 → A2 → A3 → A4 → A5 → A6 → A7 → Prop) (μ : A1 → A2 → A3 → A4 → A5 → A6 → A7 → Nat) (hs : ∀ (n : Nat) (a1 : A1) (a2 : A2) (a3 : A3) (a4 : A4) (a5 : A5) (a6 : A6) (a7 : A7), I a1 a2 a3 a4 a5 a6 a7 → (∀ (b1 : A1) (b2 : A2) (b3 : A3) (b4 : A4) (b5 : A5) (b6 : A6) (b7 : A7), I b1 b2 b3 b4 b5 b6 b7 → μ b1 b2 b3 b4 b5 b6 b7 < μ a1 a2 a3 a4 a5 a6 a7 → W n b1 b2 b3 b4 b5 b6 b7) → W (n + 1) a1 a2 a3 a4 a5 a6 a7) (a1 : A1) (a2 : A2) (a3 : A3) (a4 : A4) (a5 : A5) (a6 : A6) (a7 : A7) (h : I a1 a2 a3 a4 a5 a6 a7) : ∃ n, W n a1 a2 a3 a4 a5 a6 a7 :=
  loop_m (σ := A1 × A2 × A3 × A4 × A5 × A6 × A7) (fun n s => W n s.1 s.2.1 s.2.2.1 s.2.2.2.1 s.2.2.2.2.1 s.2.2.2.2.2.1 s.2.2.2.2.2.2) (fun s => I s.1 s.2.1 s.2.2.1 s.2.2.2.1 s.2.2.2.2.1 s.2.2.2.2.2.1 s.2.2.2.2.2.2) (fun s => μ s.1 s.2.1 s.2.2.1 s.2.2.2.1 s.2.2.2.2.1 s.2.2.2.2.2.1 s.2.2.2.2.2.2) (fun n s hI hk => hs n s.1 s.2.1 s.2.2.1 s.2.2.2.1 s.2.2.2.2.1 s.2.2.2.2.2.1 s.2.2.2.2.2.2 hI (fun b1 b2 b3 b4 b5 b6 b7 h9 hm => hk (b1, b2, b3, b4, b5, b6, b7) h9 hm)) (a1, a2, a3, a4, a5, a6, a7) h
theorem lp8 {A1 A2 A3 A4 A5 A6 A7 A8 : Type} (W : Nat → A1 → A2 → A3 → A4 → A5 → A6 → A7 → A8 → Prop) (I : A1 → A2 → A3 → A4 → A5 → A6 → A7 → A8 → Prop) (μ : A1 → A2 → A3 → A4 → A5 → A6 → A7 → A8 → Nat) (hs : ∀ (n : Nat) (a1 : A1) (a2 : A2) (a3 : A3) (a4 : A4) (a5 : A5) (a6 : A6) (a7 : A7) (a8 : A8), I a1 a2 a3 a4 a5 a6 a7 a8 → (∀ (b1 : A1) (b2 : A2) (b3 : A3) (b4 : A4) (b5 : A5) (b6 : A6) (b7 : A7) (b8 : A8), I b1 b2 b3 b4 b5 b6 b7 b8 → μ b1 b2 b3 b4 b5 b6 b7 b8 < μ a1 a2 a3 a4 a5 a6 a7 a8 → W n b1 b2 b3 b4 b5 b6 b7 b8) → W (n + 1) a1 a2 a3 a4 a5 a6 a7 a8) (a1 : A1) (a2 : A2) (a3 : A3) (a4 : A4) (a5 : A5) (a6 : A6) (a7 : A7) (a8 : A8) (h : I a1 a2 a3 a4 a5 a6 a7 a8) : ∃ n, W n a1 a2 a3 a4 a5 a6 a7 a8 :=
  loop_m (σ := A1 × A2 × A3 × A4 × A5 × A6 × A7 × A8) (fun n s => W n s.1 s.2.1 s.2.2.1 s.2.2.2.1 s.2.2.2.2.1 s.2.2.2.2.2.1 s.2.2.2.2.2.2.1 s.2.2.2.2.2.2.2) (fun s => I s.1 s.2.1 s.2.2.1 s.2.2.2.1 s.2.2.2.2.1 s.2.2.2.2.2.1 s.2.2.2.2.2.2.1 s.2.2.2.2.2.2.2) (fun s => μ s.1 s.2.1 s.2.2.1 s.2.2.2.1 s.2.2.2.2.1 s.2.2.2.2.2.1 s.2.2.2.2.2.2.1 s.2.2.2.2.2.2.2) (fun n s hI hk => hs n s.1 s.2.1 s.2.2.1 s.2.2.2.1 s.2.2.2.2.1 s.2.2.2.2.2.1 s.2.2.2.2.2.2.1 s.2.2.2.2.2.2.2 hI (fun b1 b2 b3 b4 b5 b6 b7 b8 h9 hm => hk (b1, b2, b3, b4, b5, b6, b7, b8) h9 hm)) (a1, a2, a3, a4, a5, a6, a7, a8) h
theorem lp9 {A1 A2 A3 A4 A5 A6 A7 A8 A9 : Type} (W : Nat → A1 → A2 → A3 → A4 → A5 → A6 → A7 → A8 → A9 → Prop) (I : A1 → A2 → A3 → A4 → A5 → A6 → A7 → A8 → A9 → Prop) (μ : A1 → A2 → A3 → A4 → A5 → A6 → A7 → A8 → A9 → Nat) (hs : ∀ (n : Nat) (a1 : A1) (a2 : A2) (a3 : A3) (a4 : A4) (a5 : A5) (a6 : A6) (a7 : A7) (a8 : A8) (a9 : A9), I a1 a2 a3 a4 a5 a6 a7 a8 a9 → (∀ (b1 : A1) (b2 : A2) (b3 : A3) (b4 : A4) (b5 : A5) (b6 : A6) (b7 : A7) (b8 : A8) (b9 : A9), I b1 b2 b3 b4 b5 b6 b7 b8 b9 → μ b1 b2 b3 b4 b5 b6 b7 b8 b9 < μ a1 a2 a3 a4 a5 a6 a7 a8 a9 → W n b1 b2 b3 b4 b5 b6 b7 b8 b9) → W (n + 1) a1 a2 a3 a4 a5 a6 a7 a8 a9) (a1 : A1) (a2 : A2) (a3 : A3) (a4 : A4) (a5 : A5) (a6 : A6) (a7 : A7) (a8 : A8) (a9 : A9) (h : I a1 a2 a3 a4 a5 a6 a7 a8 a9) : ∃ n, W n a1 a2 a3 a4 a5 a6 a7 a8 a9 :=
  loop_m (σ := A1 × A2 × A3 × A4 × A5 × A6 × A7 × A8 × A9) (fun n s => W n s.1 s.2.1 s.2.2.1 s.2.2.2.1 s.2.2.2.2.1 s.2.2.2.2.2.1 s.2.2.2.2.2.2.1 s.2.2.2.2.2.2.2.1 s.2.2.2.2.2.2.2.2) (fun s => I s.1 s.2.1 s.2.2.1 s.2.2.2.1 s.2.2.2.2.1 s.2.2.2.2.2.1 s.2.2.2.2.2.2.1 s.2.2.2.2.2.2.2.1 s.2.2.2.2.2.2.2.2) (fun s => μ s.1 s.2.1 s.2.2.1 s.2.2.2.1 s.2.2.2.2.1 s.2.2.2.2.2.1 s.2.2.2.2.2.2.1 s.2.2.2.2.2.2.2.1 s.2.2.2.2.2.2.2.2) (fun n s hI hk => hs n s.1 s.2.1 s.2.2.1 s.2.2.2.1 s.2.2.2.2.1 s.2.2.2.2.2.1 s.2.2.2.2.2.2.1 s.2.2.2.2.2.2.2.1 s.2.2.2.2.2.2.2.2 hI (fun b1 b2 b3 b4 b5 b6 b7 b8 b9 h9 hm => hk (b1, b2, b3, b4, b5, b6, b7, b8, b9) h9 hm)) (a1, a2, a3, a4, a5, a6, a7, a8, a9) h
theorem lp10 {A1 A2 A3 A4 A5 A6 A7 A8 A9 A10 : Type} (W : Nat → A1 → A2 → A3 → A4 → A5 → A6 → A7 → A8 → A9 → A10 → Prop) (I : A1 → A2 → A3 → A4 → A5 → A6 → A7 → A8 → A9 → A10 → Prop) (μ : A1 → A2 → A3 → A4 → A5 → A6 → A7 → A8 → A9 → A10 → Nat) (hs : ∀ (n : Nat) (a1 : A1) (a2 : A2) (a3 : A3) (a4 : A4) (a5 : A5) (a6 : A6) (a7 : A7) (a8 : A8) (a9 : A9) (a10 : A10), I a1 a2 a3 a4 a5 a6 a7 a8 a9 a10 → (∀ (b1 : A1) (b2 : A2) (b3 : A3) (b4 : A4) (b5 : A5) (b6 : A6) (b7 : A7) (b8 : A8) (b9 : A9) (b10 : A10), I b1 b2 b3 b4 b5 b6 b7 b8 b9 b10 → μ b1 b2 b3 b4 b5 b6 b7 b8 b9 b10 < μ a1 a2 a3 a4 a5 a6 a7 a8 a9 a10 → W n b1 b2 b3 b4 b5 b6 b7 b8 b9 b10) → W (n + 1) a1 a2 a3 a4 a5 a6 a7 a8 a9 a10) (a1 : A1) (a2 : A2) (a3 : A3) (a4 : A4) (a5 : A5) (a6 : A6) (a7 : A7) (a8 : A8) (a9 : A9) (a10 : A10) (h : I a1 a2 a3 a4 a5 a6 a7 a8 a9 a10) : ∃ n, W n a1 a2 a3 a4 a5 a6 a7 a8 a9 a10 :=
  loop_m (σ := A1 × A2 × A3 × A4 × A5 × A6 × A7 × A8 × A9 × A10) (fun n s => W n s.1 s.2.1 s.2.2.1 s.2.2.2.1 s.2.2.2.2.1 s.2.2.2.2.2.1 s.2.2.2.2.2.2.1 s.2.2.2.2.2.2.2.1 s.2.2.2.2.2.2.2.2.1 s.2.2.2.2.2.2.2.2.2) (fun s => I s.1 s.2.1 s.2.2.1 s.2.2.2.1 s.2.2.2.2.1 s.2.2.2.2.2.1 s.2.2.2.2.2.2.1 s.2.2.2.2.2.2.2.1 s.2.2.2.2.2.2.2.2.1 s.2.2.2.2.2.2.2.2.2) (fun s => μ s.1 s.2.1 s.2.2.1 s.2.2.2.1 s.2.2.2.2.1 s.2.2.2.2.2.1 s.2.2.2.2.2.2.1 s.2.2.2.2.2.2.2.1 s.2.2.2.2.2.2.2.2.1 s.2.2.2.2.2.2.2.2.2) (fun n s hI hk => hs n s.1 s.2.1 s.2.2.1 s.2.2.2.1 s.2.2.2.2.1 s.2.2.2.2.2.1 s.2.2.2.2.2.2.1 s.2.2.2.2.2.2.2.1 s.2.2.2.2.2.2.2.2.1 s.2.2.2.2.2.2.2.2.2 hI (fun b1 b2 b3 b4 b5 b6 b7 b8 b9 b10 h9 hm => hk (b1, b2, b3, b4, b5, b6, b7, b8, b9, b10) h9 hm)) (a1, a2, a3, a4, a5, a6, a7, a8, a9, a10) h
theorem lp11 {A1 A2 A3 A4 A5 A6 A7 A8 A9 A10 A11 : Type} (W : Nat → A1 → A2 → A3 → A4 → A5 → A6 → A7 → A8 → A9 → A10 → A11 → Prop) (I : A1 → A2 → A3 → A4 → A5 → A6 → A7 → A8 → A9 → A10 → A11 → Prop) (μ : A1 → A2 → A3 → A4 → A5 → A6 → A7 → A8 → A9 → A10 → A11 → Nat) (hs : ∀ (n : Nat) (a1 : A1) (a2 : A2) (a3 : A3) (a4 : A4) (a5 : A5) (a6 : A6) (a7 : A7) (a8 : A8) (a9 : A9) (a10 : A10) (a11 : A11), I a1 a2 a3 a4 a5 a6 a7 a8 a9 a10 a11 → (∀ (b1 : A1) (b2 : A2) (b3 : A3) (b4 : A4) (b5 : A5) (b6 : A6) (b7 : A7) (b8 : A8) (b9 : A9) (b10 : A10) (b11 : A11), I b1 b2 b3 b4 b5 b6 b7 b8 b9 b10 b11 → μ b1 b2 b3 b4 b5 b6 b7 b8 b9 b10 b11 < μ a1 a2 a3 a4 a5 a6 a7 a8 a9 a10 a11 → W n b1 b2 b3 b4 b5 b6 b7 b8 b9 b10 b11) → W (n + 1) a1 a2 a3 a4 a5 a6 a7 a8 a9 a10 a11) (a1 : A1) (a2 : A2) (a3 : A3) (a4 : A4) (a5 : A5) (a6 : A6) (a7 : A7) (a8 : A8) (a9 : A9) (a10 : A10) (a11 : A11) (h : I a1 a2 a3 a4 a5 a6 a7 a8 a9 a10 a11) : ∃ n, W n a1 a2 a3 a4 a5 a6 a7 a8 a9 a10 a11 :=
  loop_m (σ := A1 × A2 × A3 × A4 × A5 × A6 × A7 × A8 × A9 × A10 × A11) (fun n s => W n s.1 s.2.1 s.2.2.1 s.2.2.2.1 s.2.2.2.2.1 s.2.2.2.2.2.1 s.2.2.2.2.2.2.1 s.2.2.2.2.2.2.2.1 s.2.2.2.2.2.2.2.2.1 s.2.2.2.2.2.2.2.2.2.1 s.2.2.2.2.2.2.2.2.2.2) (fun s => I s.1 s.2.1 s.2.2.1 s.2.2.2.1 s.2.2.2.2.1 s.2.2.2.2.2.1 s.2.2.2.2.2.2.1 s.2.2.2.2.2.2.2.1 s.2.2.2.2.2.2.2.2.1 s.2.2.2.2.2.2.2.2.2.1 s.2.2.2.2.2.2.2.2.2.2) (fun s => μ s.1 s.2.1 s.2.2.1 s.2.2.2.1 s.2.2.2.2.1 s.2.2.2.2.2.1 s.2.2.2.2.2.2.1 s.2.2.2.2.2.2.2.1 s.2.2.2.2.2.2.2.2.1 s.2.2.2.2.2.2.2.2.2.1 s.2.2.2.2.2.2.2.2.2.2) (fun n s hI hk => hs n s.1 s.2.1 s.2.2.1 s.2.2.2.1 s.2.2.2.2.1 s.2.2.2.2.2.1 s.2.2.2.2.2.2.1 s.2.2.2.2.2.2.2.1 s.2.2.2.2.2.2.2.2.1 s.2.2.2.2.2.2.2.2.2.1 s.2.2.2.2.2.2.2.2.2.2 hI (fun b1 b2 b3 b4 b5 b6 b7 b8 b9 b10 b11 h9 hm => hk (b1, b2, b3, b4, b5, b6, b7, b8, b9, b10, b11) h9 hm)) (a1, a2, a3, a4, a5, a6, a7, a8, a9, a10, a11) h
theorem lp12 {A1 A2 A3 A4 A5 A6 A7 A8 A9 A10 A11 A12 : Type} (W : Nat → A1 → A2 → A3 → A4 → A5 → A6 → A7 → A8 → A9 → A10 → A11 → A12 → Prop) (I : A1 → A2 → A3 → A4 → A5 → A6 → A7 → A8 → A9 → A10 → A11 → A12 → Prop) (μ : A1 → A2 → A3 → A4 → A5 → A6 → A7 → A8 → A9 → A10 → A11 → A12 → Nat) (hs : ∀ (n : Nat) (a1 : A1) (a2 : A2) (a3 : A3) (a4 : A4) (a5 : A5) (a6 : A6) (a7 : A7) (a8 : A8) (a9 : A9) (a10 : A10) (a11 : A11) (a12 : A12), I a1 a2 a3 a4 a5 a6 a7 a8 a9 a10 a11 a12 → (∀ (b1 : A1) (b2 : A2) (b3 : A3) (b4 : A4) (b5 : A5) (b6 : A6) (b7 : A7) (b8 : A8) (b9 : A9) (b10 : A10) (b11 : A11) (b12 : A12), I b1 b2 b3 b4 b5 b6 b7 b8 b9 b10 b11 b12 → μ b1 b2 b3 b4 b5 b6 b7 b8 b9 b10 b11 b12 < μ a1 a2 a3 a4 a5 a6 a7 a8 a9 a10 a11 a12 → W n b1 b2 b3 b4 b5 b6 b7 b8 b9 b10 b11 b12) → W (n + 1) a1 a2 a3 a4 a5 a6 a7 a8 a9 a10 a11 a12) (a1 : A1) (a2 : A2) (a3 : A3) (a4 : A4) (a5 : A5) (a6 : A6) (a7 : A7) (a8 : A8) (a9 : A9) (a10 : A10) (a11 : A11) (a12 : A12) (h : I a1 a2 a3 a4 a5 a6 a7 a8 a9 a10 a11 a12) : ∃ n, W n a1 a2 a3 a4 a5 a6 a7 a8 a9 a10 a11 a12 :=
  loop_m (σ := A1 × A2 × A3 × A4 × A5 × A6 × A7 × A8 × A9 × A10 × A11 × A12) (fun n s => W n s.1 s.2.1 s.2.2.1 s.2.2.2.1 s.2.2.2.2.1 s.2.2.2.2.2.1 s.2.2.2.2.2.2.1 s.2.2.2.2.2.2.2.1 s.2.2.2.2.2.2.2.2.1 s.2.2.2.2.2.2.2.2.2.1 s.2.2.2.2.2.2.2.2.2.2.1 s.2.2.2.2.2.2.2.2.2.2.2) (fun s => I s.1 s.2.1 s.2.2.1 s.2.2.2.1 s.2.2.2.2.1 s.2.2.2.2.2.1 s.2.2.2.2.2.2.1 s.2.2.2.2.2.2.2.1 s.2.2.2.2.2.2.2.2.1 s.2.2.2.2.2.2.2.2.2.1 s.2.2.2.2.2.2.2.2.2.2.1 s.2.2.2.2.2.2.2.2.2.2.2) (fun s => μ s.1 s.2.1 s.2.2.1 s.2.2.2.1 s.2.2.2.2.1 s.2.2.2.2.2.1 s.2.2.2.2.2.2.1 s.2.2.2.2.2.2.2.1 s.2.2.2.2.2.2.2.2.1 s.2.2.2.2.2.2.2.2.2.1 s.2.2.2.2.2.2.2.2.2.2.1 s.2.2.2.2.2.2.2.2.2.2.2) (fun n s hI hk => hs n s.1 s.2.1 s.2.2.1 s.2.2.2.1 s.2.2.2.2.1 s.2.2.2.2.2.1 s.2.2.2.2.2.2.1 s.2.2.2.2.2.2.2.1 s.2.2.2.2.2.2.2.2.1 s.2.2.2.2.2.2.2.2.2.1 s.2.2.2.2.2.2.2.2.2.2.1 s.2.2.2.2.2.2.2.2.2.2.2 hI (fun b1 b2 b3 b4 b5 b6 b7 b8 b9 b10 b11 b12 h9 hm => hk (b1, b2, b3, b4, b5, b6, b7, b8, b9, b10, b11, b12) h9 hm)) (a1, a2, a3, a4, a5, a6, a7, a8, a9, a10, a11, a12) h
theorem lp13 {A1 A2 A3 A4 A5 A6 A7 A8 A9 A10 A11 A12 A13 : Type} (W : Nat → A1 → A2 → A3 → A4 → A5 → A6 → A7 → A8 → A9 → A10 → A11 → A12 → A13 → Prop) (I : A1 → A2 → A3 → A4 → A5 → A6 → A7 → A8 → A9 → A10 → A11 → A12 → A13 → Prop) (μ : A1 → A2 → A3 → A4 → A5 → A6 → A7 → A8 → A9 → A10 → A11 → A12 → A13 → Nat) (hs : ∀ (n : Nat) (a1 : A1) (a2 : A2) (a3 : A3) (a4 : A4) (a5 : A5) (a6 : A6) (a7 : A7) (a8 : A8) (a9 : A9) (a10 : A10) (a11 : A11) (a12 : A12) (a13 : A13), I a1 a2 a3 a4 a5 a6 a7 a8 a9 a10 a11 a12 a13 → (∀ (b1 : A1) (b2 : A2) (b3 : A3) (b4 : A4) (b5 : A5) (b6 : A6) (b7 : A7) (b8 : A8) (b9 : A9) (b10 : A10) (b11 : A11) (b12 : A12) (b13 : A13), I b1 b2 b3 b4 b5 b6 b7 b8 b9 b10 b11 b12 b13 → μ b1 b2 b3 b4 b5 b6 b7 b8 b9 b10 b11 b12 b13 < μ a1 a2 a3 a4 a5 a6 a7 a8 a9 a10 a11 a12 a13 → W n b1 b2 b3 b4 b5 b6 b7 b8 b9 b10 b11 b12 b13) → W (n + 1) a1 a2 a3 a4 a5 a6 a7 a8 a9 a10 a11 a12 a13) (a1 : A1) (a2 : A2) (a3 : A3) (a4 : A4) (a5 : A5) (a6 : A6) (a7 : A7) (a8 : A8) (a9 : A9) (a10 : A10) (a11 : A11) (a12 : A12) (a13 : A13) (h : I a1 a2 a3 a4 a5 a6 a7 a8 a9 a10 a11 a12 a13) : ∃ n, W n a1 a2 a3 a4 a5 a6 a7 a8 a9 a10 a11 a12 a13 :=
  loop_m (σ := A1 × A2 × A3 × A4 × A5 × A6 × A7 × A8 × A9 × A10 × A11 × A12 × A13) (fun n s => W n s.1 s.2.1 s.2.2.1 s.2.2.2.1 s.2.2.2.2.1 s.2.2.2.2.2.1 s.2.2.2.2.2.2.1 s.2.2.2.2.2.2.2.1 s.2.2.2.2.2.2.2.2.1 s.2.2.2.2.2.2.2.2.2.1 s.2.2.2.2.2.2.2.2.2.2.1 s.2.2.2.2.2.2.2.2.2.2.2.1 s.2.2.2.2.2.2.2.2.2.2.2.2) (fun s => I s.1 s.2.1 s.2.2.1 s.2.2.2.1 s.2.2.2.2.1 s.2.2.2.2.2.1 s.2.2.2.2.2.2.1 s.2.2.2.2.2.2.2.1 s.2.2.2.2.2.2.2.2.1 s.2.2.2.2.2.2.2.2.2.1 s.2.2.2.2.2.2.2.2.2.2.1 s.2.2.2.2.2.2.2.2.2.2.2.1 s.2.2.2.2.2.2.2.2.2.2.2.2) (fun s => μ s.1 s.2.1 s.2.2.1 s.2.2.2.1 s.2.2.2.2.1 s.2.2.2.2.2.1 s.2.2.2.2.2.2.1 s.2.2.2.2.2.2.2.1 s.2.2.2.2.2.2.2.2.1 s.2.2.2.2.2.2.2.2.2.1 s.2.2.2.2.2.2.2.2.2.2.1 s.2.2.2.2.2.2.2.2.2.2.2.1 s.2.2.2.2.2.2.2.2.2.2.2.2) (fun n s hI hk => hs n s.1 s.2.1 s.2.2.1 s.2.2.2.1 s.2.2.2.2.1 s.2.2.2.2.2.1 s.2.2.2.2.2.2.1 s.2.2.2.2.2.2.2.1 s.2.2.2.2.2.2.2.2.1 s.2.2.2.2.2.2.2.2.2.1 s.2.2.2.2.2.2.2.2.2.2.1 s.2.2.2.2.2.2.2.2.2.2.2.1 s.2.2.2.2.2.2.2.2.2.2.2.2 hI (fun b1 b2 b3 b4 b5 b6 b7 b8 b9 b10 b11 b12 b13 h9 hm => hk (b1, b2, b3, b4, b5, b6, b7, b8, b9, b10, b11, b12, b13) h9 hm)) (a1, a2, a3, a4, a5, a6, a7, a8, a9, a10, a11, a12, a13) h
theorem lp14 {A1 A2 A3 A4 A5 A6 A7 A8 A9 A10 A11 A12 A13 A14 : Type} (W : Nat → A1 → A2 → A3 → A4 → A5 → A6 → A7 → A8 → A9 → A10 → A11 → A12 → A13 → A14 → Prop) (I : A1 → A2 → A3 → A4 → A5 → A6 → A7 → A8 → A9 → A10 → A11 → A12 → A13 → A14 → Prop) (μ : A1 → A2 → A3 → A4 → A5 → A6 → A7 → A8 → A9 → A10 → A11 → A12 → A13 → A14 → Nat) (hs : ∀ (n : Nat) (a1 : A1) (a2 : A2) (a3 : A3) (a4 : A4) (a5 : A5) (a6 : A6) (a7 : A7) (a8 : A8) (a9 : A9) (a10 : A10) (a11 : A11) (a12 : A12) (a13 : A13) (a14 : A14), I a1 a2 a3 a4 a5 a6 a7 a8 a9 a10 a11 a12 a13 a14 → (∀ (b1 : A1) (b2 : A2) (b3 : A3) (b4 : A4) (b5 : A5) (b6 : A6) (b7 : A7) (b8 : A8) (b9 : A9) (b10 : A10) (b11 : A11) (b12 : A12) (b13 : A13) (b14 : A14), I b1 b2 b3 b4 b5 b6 b7 b8 b9 b10 b11 b12 b13 b14 → μ b1 b2 b3 b4 b5 b6 b7 b8 b9 b10 b11 b12 b13 b14 < μ a1 a2 a3 a4 a5 a6 a7 a8 a9 a10 a11 a12 a13 a14 → W n b1 b2 b3 b4 b5 b6 b7 b8 b9 b10 b11 b12 b13 b14) → W (n + 1) a1 a2 a3 a4 a5 a6 a7 a8 a9 a10 a11 a12 a13 a14) (a1 : A1) (a2 : A2) (a3 : A3) (a4 : A4) (a5 : A5) (a6 : A6) (a7 : A7) (a8 : A8) (a9 : A9) (a10 : A10) (a11 : A11) (a12 : A12) (a13 : A13) (a14 : A14) (h : I a1 a2 a3 a4 a5 a6 a7 a8 a9 a10 a11 a12 a13 a14) : ∃ n, W n a1 a2 a3 a4 a5 a6 a7 a8 a9 a10 a11 a12 a13 a14 :=
  loop_m (σ := A1 × A2 × A3 × A4 × A5 × A6 × A7 × A8 × A9 × A10 × A11 × A12 × A13 × A14) (fun n s => W n s.1 s.2.1 s.2.2.1 s.2.2.2.1 s.2.2.2.2.1 s.2.2.2.2.2.1 s.2.2.2.2.2.2.1 s.2.2.2.2.2.2.2.1 s.2.2.2.2.2.2.2.2.1 s.2.2.2.2.2.2.2.2.2.1 s.2.2.2.2.2.2.2.2.2.2.1 s.2.2.2.2.2.2.2.2.2.2.2.1 s.2.2.2.2.2.2.2.2.2.2.2.2.1 s.2.2.2.2.2.2.2.2.2.2.2.2.2) (fun s => I s.1 s.2.1 s.2.2.1 s.2.2.2.1 s.2.2.2.2.1 s.2.2.2.2.2.1 s.2.2.2.2.2.2.1 s.2.2.2.2.2.2.2.1 s.2.2.2.2.2.2.2.2.1 s.2.2.2.2.2.2.2.2.2.1 s.2.2.2.2.2.2.2.2.2.2.1 s.2.2.2.2.2.2.2.2.2.2.2.1 s.2.2.2.2.2.2.2.2.2.2.2.2.1 s.2.2.2.2.2.2.2.2.2.2.2.2.2) (fun s => μ s.1 s.2.1 s.2.2.1 s.2.2.2.1 s.2.2.2.2.1 s.2.2.2.2.2.1 s.2.2.2.2.2.2.1 s.2.2.2.2.2.2.2.1 s.2.2.2.2.2.2.2.2.1 s.2.2.2.2.2.2.2.2.2.1 s.2.2.2.2.2.2.2.2.2.2.1 s.2.2.2.2.2.2.2.2.2.2.2.1 s.2.2.2.2.2.2.2.2.2.2.2.2.1 s.2.2.2.2.2.2.2.2.2.2.2.2.2) (fun n s hI hk => hs n s.1 s.2.1 s.2.2.1 s.2.2.2.1 s.2.2.2.2.1 s.2.2.2.2.2.1 s.2.2.2.2.2.2.1 s.2.2.2.2.2.2.2.1 s.2.2.2.2.2.2.2.2.1 s.2.2.2.2.2.2.2.2.2.1 s.2.2.2.2.2.2.2.2.2.2.1 s.2.2.2.2.2.2.2.2.2.2.2.1 s.2.2.2.2.2.2.2.2.2.2.2.2.1 s.2.2.2.2.2.2.2.2.2.2.2.2.2 hI (fun b1 b2 b3 b4 b5 b6 b7 b8 b9 b10 b11 b12 b13 b14 h9 hm => hk (b1, b2, b3, b4, b5, b6, b7, b8, b9, b10, b11, b12, b13, b14) h9 hm)) (a1, a2, a3, a4, a5, a6, a7, a8, a9, a10, a11, a12, a13, a14) h
theorem lp15 {A1 A2 A3 A4 A5 A6 A7 A8 A9 A10 A11 A12 A13 A14 A15 : Type} (W : Nat → A1 → A2 → A3 → A4 → A5 → A6 → A7 → A8 → A9 → A10 → A11 → A12 → A13 → A14 → A15 → Prop) (I : A1 → A2 → A3 → A4 → A5 → A6 → A7 → A8 → A9 → A10 → A11 → A12 → A13 → A14 → A15 → Prop) (μ : A1 → A2 → A3 → A4 → A5 → A6 → A7 → A8 → A9 → A10 → A11 → A12 → A13 → A14 → A15 → Nat) (hs : ∀ (n : Nat) (a1 : A1) (a2 : A2) (a3 : A3) (a4 : A4) (a5 : A5) (a6 : A6) (a7 : A7) (a8 : A8) (a9 : A9) (a10 : A10) (a11 : A11) (a12 : A12) (a13 : A13) (a14 : A14) (a15 : A15), I a1 a2 a3 a4 a5 a6 a7 a8 a9 a10 a11 a12 a13 a14 a15 → (∀ (b1 : A1) (b2 : A2) (b3 : A3) (b4 : A4) (b5 : A5) (b6 : A6) (b7 : A7) (b8 : A8) (b9 : A9) (b10 : A10) (b11 : A11) (b12 : A12) (b13 : A13) (b14 : A14) (b15 : A15), I b1 b2 b3 b4 b5 b6 b7 b8 b9 b10 b11 b12 b13 b14 b15 → μ b1 b2 b3 b4 b5 b6 b7 b8 b9 b10 b11 b12 b13 b14 b15 < μ a1 a2 a3 a4 a5 a6 a7 a8 a9 a10 a11 a12 a13 a14 a15 → W n b1 b2 b3 b4 b5 b6 b7 b8 b9 b10 b11 b12 b13 b14 b15) → W (n + 1) a1 a2 a3 a4 a5 a6 a7 a8 a9 a10 a11 a12 a13 a14 a15) (a1 : A1) (a2 : A2) (a3 : A3) (a4 : A4) (a5 : A5) (a6 : A6) (a7 : A7) (a8 : A8) (a9 : A9) (a10 : A10) (a11 : A11) (a12 : A12) (a13 : A13) (a14 : A14) (a15 : A15) (h : I a1 a2 a3 a4 a5 a6 a7 a8 a9 a10 a11 a12 a13 a14 a15) : ∃ n, W n a1 a2 a3 a4 a5 a6 a7 a8 a9 a10 a11 a12 a13 a14 a15 :=
  loop_m (σ := A1 × A2 × A3 × A4 × A5 × A6 × A7 × A8 × A9 × A10 × A11 × A12 × A13 × A14 × A15) (fun n s => W n s.1 s.2.1 s.2.2.1 s.2.2.2.1 s.2.2.2.2.1 s.2.2.2.2.2.1 s.2.2.2.2.2.2.1 s.2.2.2.2.2.2.2.1 s.2.2.2.2.2.2.2.2.1 s.2.2.2.2.2.2.2.2.2.1 s.2.2.2.2.2.2.2.2.2.2.1 s.2.2.2.2.2.2.2.2.2.2.2.1 s.2.2.2.2.2.2.2.2.2.2.2.2.1 s.2.2.2.2.2.2.2.2.2.2.2.2.2.1 s.2.2.2.2.2.2.2.2.2.2.2.2.2.2) (fun s => I s.1 s.2.1 s.2.2.1 s.2.2.2.1 s.2.2.2.2.1 s.2.2.2.2.2.1 s.2.2.2.2.2.2.1 s.2.2.2.2.2.2.2.1 s.2.2.2.2.2.2.2.2.1 s.2.2.2.2.2.2.2.2.2.1 s.2.2.2.2.2.2.2.2.2.2.1 s.2.2.2.2.2.2.2.2.2.2.2.1 s.2.2.2.2.2.2.2.2.2.2.2.2.1 s.2.2.2.2.2.2.2.2.2.2.2.2.2.1 s.2.2.2.2.2.2.2.2.2.2.2.2.2.2) (fun s => μ s.1 s.2.1 s.2.2.1 s.2.2.2.1 s.2.2.2.2.1 s.2.2.2.2.2.1 s.2.2.2.2.2.2.1 s.2.2.2.2.2.2.2.1 s.2.2.2.2.2.2.2.2.1 s.2.2.2.2.2.2.2.2.2.1 s.2.2.2.2.2.2.2.2.2.2.1 s.2.2.2.2.2.2.2.2.2.2.2.1 s.2.2.2.2.2.2.2.2.2.2.2.2.1 s.2.2.2.2.2.2.2.2.2.2.2.2.2.1 s.2.2.2.2.2.2.2.2.2.2.2.2.2.2) (fun n s hI hk => hs n s.1 s.2.1 s.2.2.1 s.2.2.2.1 s.2.2.2.2.1 s.2.2.2.2.2.1 s.2.2.2.2.2.2.1 s.2.2.2.2.2.2.2.1 s.2.2.2.2.2.2.2.2.1 s.2.2.2.2.2.2.2.2.2.1 s.2.2.2.2.2.2.2.2.2.2.1 s.2.2.2.2.2.2.2.2.2.2.2.1 s.2.2.2.2.2.2.2.2.2.2.2.2.1 s.2.2.2.2.2.2.2.2.2.2.2.2.2.1 s.2.2.2.2.2.2.2.2.2.2.2.2.2.2 hI (fun b1 b2 b3 b4 b5 b6 b7 b8 b9 b10 b11 b12 b13 b14 b15 h9 hm => hk (b1, b2, b3, b4, b5, b6, b7, b8, b9, b10, b11, b12, b13, b14, b15) h9 hm)) (a1, a2, a3, a4, a5, a6, a7, a8, a9, a10, a11, a12, a13, a14, a15) h
theorem lp16 {A1 A2 A3 A4 A5 A6 A7 A8 A9 A10 A11 A12 A13 A14 A15 A16 : Type} (W : Nat → A1 → A2 → A3 → A4 → A5 → A6 → A7 → A8 → A9 → A10 → A11 → A12 → A13 → A14 → A15 → A16 → Prop) (I : A1 → A2 → A3 → A4 → A5 → A6 → A7 → A8 → A9 → A10 → A11 → A12 → A13 → A14 → A15 → A16 → Prop) (μ : A1 → A2 → A3 → A4 → A5 → A6 → A7 → A8 → A9 → A10 → A11 → A12 → A13 → A14 → A15 → A16 → Nat) (hs : ∀ (n : Nat) (a1 : A1) (a2 : A2) (a3 : A3) (a4 : A4) (a5 : A5) (a6 : A6) (a7 : A7) (a8 : A8) (a9 : A9) (a10 : A10) (a11 : A11) (a12 : A12) (a13 : A13) (a14 : A14) (a15 : A15) (a16 : A16), I a1 a2 a3 a4 a5 a6 a7 a8 a9 a10 a11 a12 a13 a14 a15 a16 → (∀ (b1 : A1) (b2 : A2) (b3 : A3) (b4 : A4) (b5 : A5) (b6 : A6) (b7 : A7) (b8 : A8) (b9 : A9) (b10 : A10) (b11 : A11) (b12 : A12) (b13 : A13) (b14 : A14) (b15 : A15) (b16 : A16), I b1 b2 b3 b4 b5 b6 b7 b8 b9 b10 b11 b12 b13 b14 b15 b16 → μ b1 b2 b3 b4 b5 b6 b7 b8 b9 b10 b11 b12 b13 b14 b15 b16 < μ a1 a2 a3 a4 a5 a6 a7 a8 a9 a10 a11 a12 a13 a14 a15 a16 → W n b1 b2 b3 b4 b5 b6 b7 b8 b9 b10 b11 b12 b13 b14 b15 b16) → W (n + 1) a1 a2 a3 a4 a5 a6 a7 a8 a9 a10 a11 a12 a13 a14 a15 a16) (a1 : A1) (a2 : A2) (a3 : A3) (a4 : A4) (a5 : A5) (a6 : A6) (a7 : A7) (a8 : A8) (a9 : A9) (a10 : A10) (a11 : A11) (a12 : A12) (a13 : A13) (a14 : A14) (a15 : A15) (a16 : A16) (h : I a1 a2 a3 a4 a5 a6 a7 a8 a9 a10 a11 a12 a13 a14 a15 a16) : ∃ n, W n a1 a2 a3 a4 a5 a6 a7 a8 a9 a10 a11 a12 a13 a14 a15 a16 :=
  loop_m (σ := A1 × A2 × A3 × A4 × A5 × A6 × A7 × A8 × A9 × A10 × A11 × A12 × A13 × A14 × A15 × A16) (fun n s => W n s.1 s.2.1 s.2.2.1 s.2.2.2.1 s.2.2.2.2.1 s.2.2.2.2.2.1 s.2.2.2.2.2.2.1 s.2.2.2.2.2.2.2.1 s.2.2.2.2.2.2.2.2.1 s.2.2.2.2.2.2.2.2.2.1 s.2.2.2.2.2.2.2.2.2.2.1 s.2.2.2.2.2.2.2.2.2.2.2.1 s.2.2.2.2.2.2.2.2.2.2.2.2.1 s.2.2.2.2.2.2.2.2.2.2.2.2.2.1 s.2.2.2.2.2.2.2.2.2.2.2.2.2.2.1 s.2.2.2.2.2.2.2.2.2.2.2.2.2.2.2) (fun s => I s.1 s.2.1 s.2.2.1 s.2.2.2.1 s.2.2.2.2.1 s.2.2.2.2.2.1 s.2.2.2.2.2.2.1 s.2.2.2.2.2.2.2.1 s.2.2.2.2.2.2.2.2.1 s.2.2.2.2.2.2.2.2.2.1 s.2.2.2.2.2.2.2.2.2.2.1 s.2.2.2.2.2.2.2.2.2.2.2.1 s.2.2.2.2.2.2.2.2.2.2.2.2.1 s.2.2.2.2.2.2.2.2.2.2.2.2.2.1 s.2.2.2.2.2.2.2.2.2.2.2.2.2.2.1 s.2.2.2.2.2.2.2.2.2.2.2.2.2.2.2) (fun s => μ s.1 s.2.1 s.2.2.1 s.2.2.2.1 s.2.2.2.2.1 s.2.2.2.2.2.1 s.2.2.2.2.2.2.1 s.2.2.2.2.2.2.2.1 s.2.2.2.2.2.2.2.2.1 s.2.2.2.2.2.2.2.2.2.1 s.2.2.2.2.2.2.2.2.2.2.1 s.2.2.2.2.2.2.2.2.2.2.2.1 s.2.2.2.2.2.2.2.2.2.2.2.2.1 s.2.2.2.2.2.2.2.2.2.2.2.2.2.1 s.2.2.2.2.2.2.2.2.2.2.2.2.2.2.1 s.2.2.2.2.2.2.2.2.2.2.2.2.2.2.2) (fun n s hI hk => hs n s.1 s.2.1 s.2.2.1 s.2.2.2.1 s.2.2.2.2.1 s.2.2.2.2.2.1 s.2.2.2.2.2.2.1 s.2.2.2.2.2.2.2.1 s.2.2.2.2.2.2.2.2.1 s.2.2.2.2.2.2.2.2.2.1 s.2.2.2.2.2.2.2.2.2.2.1 s.2.2.2.2.2.2.2.2.2.2.2.1 s.2.2.2.2.2.2.2.2.2.2.2.2.1 s.2.2.2.2.2.2.2.2.2.2.2.2.2.1 s.2.2.2.2.2.2.2.2.2.2.2.2.2.2.1 s.2.2.2.2.2.2.2.2.2.2.2.2.2.2.2 hI (fun b1 b2 b3 b4 b5 b6 b7 b8 b9 b10 b11 b12 b13 b14 b15 b16 h9 hm => hk (b1, b2, b3, b4, b5, b6, b7, b8, b9, b10, b11, b12, b13, b14, b15, b16) h9 hm)) (a1, a2, a3, a4, a5, a6, a7, a8, a9, a10, a11, a12, a13, a14, a15, a16) h
theorem pk_least (P : Nat → Prop) (h : ∃ k, P k) : ∃ k, P k ∧ ∀ j, j < k → ¬ P j := by
  obtain ⟨k, hk⟩ := h
  induction k using Nat.strongRecOn with
  | ind k ih =>
    by_cases e : ∃ j, j < k ∧ P j
    · obtain ⟨j, hj, pj⟩ := e
      exact ih j hj pj
    · exact ⟨k, hk, fun j hj pj => e ⟨j, hj, pj⟩⟩
theorem rp1 {ρ A1 : Type} (W : Nat → (ρ → Prop) → A1 → Prop) (ok : A1 → Prop) (μ : A1 → Nat) (val : A1 → ρ)
    (hs : ∀ (d : Nat) (post : ρ → Prop) (a1 : A1), ok a1 → post (val a1) → (∀ (post' : ρ → Prop) (b1 : A1), ok b1 → μ b1 < μ a1 → post' (val b1) → W d post' b1) → W (d + 1) post a1) :
    ∀ (d : Nat) (post : ρ → Prop) (a1 : A1), ok a1 → μ a1 < d → post (val a1) → W d post a1 := by
  intro d
  induction d with
  | zero => intro post a1 _ h; omega
  | succ d ih =>
    intro post a1 ho hm hp
    exact hs d post a1 ho hp (fun post' b1 ho' hm' hp' => ih post' b1 ho' (by omega) hp')
theorem rp2 {ρ A1 A2 : Type} (W : Nat → (ρ → Prop) → A1 → A2 → Prop) (ok : A1 → A2 → Prop) (μ : A1 → A2 → Nat) (val : A1 → A2 → ρ)
    (hs : ∀ (d : Nat) (post : ρ → Prop) (a1 : A1) (a2 : A2), ok a1 a2 → post (val a1 a2) → (∀ (post' : ρ → Prop) (b1 : A1) (b2 : A2), ok b1 b2 → μ b1 b2 < μ a1 a2 → post' (val b1 b2) → W d post' b1 b2) → W (d + 1) post a1 a2) :
    ∀ (d : Nat) (post : ρ → Prop) (a1 : A1) (a2 : A2), ok a1 a2 → μ a1 a2 < d → post (val a1 a2) → W d post a1 a2 := by
  intro d
  induction d with
  | zero => intro post a1 a2 _ h; omega
  | succ d ih =>
    intro post a1 a2 ho hm hp
    exact hs d post a1 a2 ho hp (fun post' b1 b2 ho' hm' hp' => ih post' b1 b2 ho' (by omega) hp')
theorem rp3 {ρ A1 A2 A3 : Type} (W : Nat → (ρ → Prop) → A1 → A2 → A3 → Prop) (ok : A1 → A2 → A3 → Prop) (μ : A1 → A2 → A3 → Nat) (val : A1 → A2 → A3 → ρ)
    (hs : ∀ (d : Nat) (post : ρ → Prop) (a1 : A1) (a2 : A2) (a3 : A3), ok a1 a2 a3 → post (val a1 a2 a3) → (∀ (post' : ρ → Prop) (b1 : A1) (b2 : A2) (b3 : A3), ok b1 b2 b3 → μ b1 b2 b3 < μ a1 a2 a3 → post' (val b1 b2 b3) → W d post' b1 b2 b3) → W (d + 1) post a1 a2 a3) :
    ∀ (d : Nat) (post : ρ → Prop) (a1 : A1) (a2 : A2) (a3 : A3), ok a1 a2 a3 → μ a1 a2 a3 < d → post (val a1 a2 a3) → W d post a1 a2 a3 := by
  intro d
  induction d with
  | zero => intro post a1 a2 a3 _ h; omega
  | succ d ih =>
    intro post a1 a2 a3 ho hm hp
    exact hs d post a1 a2 a3 ho hp (fun post' b1 b2 b3 ho' hm' hp' => ih post' b1 b2 b3 ho' (by omega) hp')
theorem rp4 {ρ A1 A2 A3 A4 : Type} (W : Nat → (ρ → Prop) → A1 → A2 → A3 → A4 → Prop) (ok : A1 → A2 → A3 → A4 → Prop) (μ : A1 → A2 → A3 → A4 → Nat) (val : A1 → A2 → A3 → A4 → ρ)
    (hs : ∀ (d : Nat) (post : ρ → Prop) (a1 : A1) (a2 : A2) (a3 : A3) (a4 : A4), ok a1 a2 a3 a4 → post (val a1 a2 a3 a4) → (∀ (post' : ρ → Prop) (b1 : A1) (b2 : A2) (b3 : A3) (b4 : A4), ok b1 b2 b3 b4 → μ b1 b2 b3 b4 < μ a1 a2 a3 a4 → post' (val b1 b2 b3 b4) → W d post' b1 b2 b3 b4) → W (d + 1) post a1 a2 a3 a4) :
    ∀ (d : Nat) (post : ρ → Prop) (a1 : A1) (a2 : A2) (a3 : A3) (a4 : A4), ok a1 a2 a3 a4 → μ a1 a2 a3 a4 < d → post (val a1 a2 a3 a4) → W d post a1 a2 a3 a4 := by
  intro d
  induction d with
  | zero => intro post a1 a2 a3 a4 _ h; omega
  | succ d ih =>
    intro post a1 a2 a3 a4 ho hm hp
    exact hs d post a1 a2 a3 a4 ho hp (fun post' b1 b2 b3 b4 ho' hm' hp' => ih post' b1 b2 b3 b4 ho' (by omega) hp')
theorem rp5 {ρ A1 A2 A3 A4 A5 : Type} (W : Nat → (ρ → Prop) → A1 → A2 → A3 → A4 → A5 → Prop) (ok : A1 → A2 → A3 → A4 → A5 → Prop) (μ : A1 → A2 → A3 → A4 → A5 → Nat) (val : A1 → A2 → A3 → A4 → A5 → ρ)
    (hs : ∀ (d : Nat) (post : ρ → Prop) (a1 : A1) (a2 : A2) (a3 : A3) (a4 : A4) (a5 : A5), ok a1 a2 a3 a4 a5 → post (val a1 a2 a3 a4 a5) → (∀ (post' : ρ → Prop) (b1 : A1) (b2 : A2) (b3 : A3) (b4 : A4) (b5 : A5), ok b1 b2 b3 b4 b5 → μ b1 b2 b3 b4 b5 < μ a1 a2 a3 a4 a5 → post' (val b1 b2 b3 b4 b5) → W d post' b1 b2 b3 b4 b5) → W (d + 1) post a1 a2 a3 a4 a5) :
    ∀ (d : Nat) (post : ρ → Prop) (a1 : A1) (a2 : A2) (a3 : A3) (a4 : A4) (a5 : A5), ok a1 a2 a3 a4 a5 → μ a1 a2 a3 a4 a5 < d → post (val a1 a2 a3 a4 a5) → W d post a1 a2 a3 a4 a5 := by
  intro d
  induction d with
  | zero => intro post a1 a2 a3 a4 a5 _ h; omega
  | succ d ih =>
    intro post a1 a2 a3 a4 a5 ho hm hp
    exact hs d post a1 a2 a3 a4 a5 ho hp (fun post' b1 b2 b3 b4 b5 ho' hm' hp' => ih post' b1 b2 b3 b4 b5 ho' (by omega) hp')
theorem rp6 {ρ A1 A2 A3 A4 A5 A6 : Type} (W : Nat → (ρ → Prop) → A1 → A2 → A3 → A4 → A5 → A6 → Prop) (ok : A1 → A2 → A3 → A4 → A5 → A6 → Prop) (μ : A1 → A2 → A3 → A4 → A5 → A6 → Nat) (val : A1 → A2 → A3 → A4 → A5 → A6 → ρ)
    (hs : ∀ (d : Nat) (post : ρ → Prop) (a1 : A1) (a2 : A2) (a3 : A3) (a4 : A4) (a5 : A5) (a6 : A6), ok a1 a2 a3 a4 a5 a6 → post (val a1 a2 a3 a4 a5 a6) → (∀ (post' : ρ → Prop) (b1 : A1) (b2 : A2) (b3 : A3) (b4 : A4) (b5 : A5) (b6 : A6), ok b1 b2 b3 b4 b5 b6 → μ b1 b2 b3 b4 b5 b6 < μ a1 a2 a3 a4 a5 a6 → post' (val b1 b2 b3 b4 b5 b6) → W d post' b1 b2 b3 b4 b5 b6) → W (d + 1) post a1 a2 a3 a4 a5 a6) :
    ∀ (d : Nat) (post : ρ → Prop) (a1 : A1) (a2 : A2) (a3 : A3) (a4 : A4) (a5 : A5) (a6 : A6), ok a1 a2 a3 a4 a5 a6 → μ a1 a2 a3 a4 a5 a6 < d → post (val a1 a2 a3 a4 a5 a6) → W d post a1 a2 a3 a4 a5 a6 := by
  intro d
  induction d with
  | zero => intro post a1 a2 a3 a4 a5 a6 _ h; omega
  | succ d ih =>
    intro post a1 a2 a3 a4 a5 a6 ho hm hp
    exact hs d post a1 a2 a3 a4 a5 a6 ho hp (fun post' b1 b2 b3 b4 b5 b6 ho' hm' hp' => ih post' b1 b2 b3 b4 b5 b6 ho' (by omega) hp')
theorem rec_p {σ ρ : Type} (W : Nat → (ρ → Prop) → σ → Prop) (ok : σ → Prop) (μ : σ → Nat) (val : σ → ρ)
    (hs : ∀ d s post, ok s → post (val s) → (∀ s' post', ok s' → μ s' < μ s → post' (val s') → W d post' s') → W (d + 1) post s) :
    ∀ d s post, ok s → μ s < d → post (val s) → W d post s := by
  intro d
  induction d with
  | zero => intro s post _ h; omega
  | succ d ih =>
    intro s post ho hm hp
    exact hs d s post ho hp (fun s' post' ho' hm' hp' => ih s' post' ho' (by omega) hp')
theorem rec_q {σ ρ : Type} (W : Nat → (ρ → Prop) → σ → Prop) (ok : σ → Prop) (μ : σ → Nat) (Q : σ → ρ → Prop)
    (hs : ∀ d s post, ok s → (∀ r, Q s r → post r) → (∀ s' post', ok s' → μ s' < μ s → (∀ r, Q s' r → post' r) → W d post' s') → W (d + 1) post s) :
    ∀ d s post, ok s → μ s < d → (∀ r, Q s r → post r) → W d post s := by
  intro d
  induction d with
  | zero => intro s post _ h; omega
  | succ d ih =>
    intro s post ho hm hp
    exact hs d s post ho hp (fun s' post' ho' hm' hp' => ih s' post' ho' (by omega) hp')
def bx_sum (f : Nat → Int32) : Nat → Int32
  | 0 => 0
  | n + 1 => bx_sum f n + f n
theorem ek_u {A : Prop} {B : Nat → Prop} {k N : Nat} (hk : k < N) (h : B k) : (some k = none → A) ∧ (∀ y : Nat, some k = some y → (y < N ∧ B y)) :=
  ⟨fun z => absurd z (Option.some_ne_none k), fun _ e => (by cases e; exact ⟨hk, h⟩)⟩
theorem ek_nu {A : Prop} {B : Nat → Prop} (h : A) : ((none : Option Nat) = none → A) ∧ (∀ y : Nat, (none : Option Nat) = some y → B y) :=
  ⟨fun _ => h, fun _ e => (by cases e)⟩
theorem ek_if {c d A B : Prop} (e : c ↔ d) (f : d → A) (g : ¬ d → B) : (c → A) ∧ (¬ c → B) :=
  ⟨fun z => f (e.mp z), fun z => g (fun y => z (e.mpr y))⟩
theorem ek_v {α : Sort _} {P : α → Prop} {a b : α} (e : a = b) (h : P b) : P a := e ▸ h
theorem co_some {x : Option Nat} {A : Prop} {B : Nat → Prop} (i : Nat) (h : B i) (hx : x = some i := by rfl) : (x = none → A) ∧ (∀ y : Nat, x = some y → B y) := by
  subst hx
  exact ⟨fun e => (nomatch e), fun y e => Option.some.inj e ▸ h⟩
theorem co_none {x : Option Nat} {A : Prop} {B : Nat → Prop} (h : A) (hx : x = none := by rfl) : (x = none → A) ∧ (∀ y : Nat, x = some y → B y) := by
  subst hx
  exact ⟨fun _ => h, fun y e => (nomatch e)⟩
theorem co_any {x : Option Nat} {A : Prop} {B : Nat → Prop} (hn : x = none → A) (hs : ∀ i : Nat, x = some i → B i) : (x = none → A) ∧ (∀ y : Nat, x = some y → B y) := ⟨hn, hs⟩
theorem co_2 {P : Nat → Prop} (h0 : P 0) (h1 : P 1) {i : Nat} (hi : i < 2) : P i :=
  match i, hi with
  | 0, _ => h0
  | 1, _ => h1
theorem co_3 {P : Nat → Prop} (h0 : P 0) (h1 : P 1) (h2 : P 2) {i : Nat} (hi : i < 3) : P i :=
  match i, hi with
  | 0, _ => h0
  | 1, _ => h1
  | 2, _ => h2
theorem co_4 {P : Nat → Prop} (h0 : P 0) (h1 : P 1) (h2 : P 2) (h3 : P 3) {i : Nat} (hi : i < 4) : P i :=
  match i, hi with
  | 0, _ => h0
  | 1, _ => h1
  | 2, _ => h2
  | 3, _ => h3
theorem co_dec {N : Nat} {P : Nat → Prop} [DecidablePred P] (h : (List.range N).all (fun i => decide (P i)) = true) {i : Nat} (hi : i < N) : P i := by
  have := List.all_eq_true.mp h i (List.mem_range.mpr hi)
  exact of_decide_eq_true this
theorem co_tab {α : Type} {l : List α} {d : α} {P : α → Prop} (h : ∀ a, a ∈ l → P a) {i : Nat} (hi : i < l.length) : P (l.getD i d) := by
  rw [List.getD_eq_getElem?_getD, List.getElem?_eq_getElem hi]
  exact h _ (List.getElem_mem hi)
theorem pk_mu {x : Int32} {L : Nat} (h0 : ¬ x < 0) (h : ¬ nI L ≤ x) (hL : L < 2 ^ 31) : ∃ j : Nat, j < L ∧ x = nI j ∧ x + 1 = nI (j + 1) ∧ x.toNatClampNeg = j ∧ L - (x + 1).toNatClampNeg < L - x.toNatClampNeg := by
  obtain ⟨j, hj, rfl⟩ := nI_of h0
  have hl : j < L := Nat.not_le.mp fun q => h (nI_le q hj)
  refine ⟨j, hl, rfl, nI_1 j, nI_clamp hj, ?_⟩
  rw [nI_1, nI_clamp (by omega), nI_clamp hj]
  omega
theorem op_s {α : Type} {r : Option α} {A : Prop} {B : α → Prop} {y : α} (h : r = some y) (b : B y) : (r = none → A) ∧ ∀ z, r = some z → B z :=
  ⟨fun e => (by rw [h] at e; cases e), fun z e => (by rw [h] at e; cases e; exact b)⟩
def l_holds {α : Type} (a : Nat → Option Nat) (LP : List Nat) (p : Nat → α) (c : Nat) (b : Nat → α) : Prop :=
  ∀ j, j < c → ∃ y, a j = some y ∧ y ∈ LP ∧ p y = b j
theorem l_holds_0 {α : Type} {a : Nat → Option Nat} {LP : List Nat} {p b : Nat → α} : l_holds a LP p 0 b := fun j h => absurd h (Nat.not_lt_zero j)
theorem l_in_new (LP : List Nat) (q : Nat) : q ∈ LP ++ [q] := List.mem_append.mpr (Or.inr (List.mem_singleton.mpr rfl))
def l_sum (b : Nat → Int32) : Nat → Int32
  | 0 => 0
  | k + 1 => l_sum b k + b k
theorem sb_shr0 (x : Int32) : x >>> ((0 : Int32) &&& 31) = x := by
  rw [show ((0 : Int32) &&& 31) = 0 by decide]
  simp
theorem sb_shl0 (x : Int32) : x <<< ((0 : Int32) &&& 31) = x := by
  rw [show ((0 : Int32) &&& 31) = 0 by decide]
  simp
theorem sb_cl0 : (0 : Int32).toNatClampNeg = 0 := by decide
theorem sb_m1 {p : Nat} (h : 0 < p) : nI p + (-1) = nI (p - 1) := by
  obtain ⟨q, rfl⟩ : ∃ q, p = q + 1 := ⟨p - 1, by omega⟩
  exact pk_m1 q
def sb_b (c : Nat) : Int32 := (nI c).toInt8.toInt32
theorem sb_byte : ∀ c, c < 256 → sb_b c &&& 255 = nI c ∧ ((nI c).toUInt32 % 65536).toInt32 = nI c ∧ nI c ≤ 255 := by decide +kernel
def sb_Fit (a : Nat → Int32) : Prop := ∀ j, fits .byte (.int (a j)) = true
def sb_Lat (t : Nat → Nat) (n : Nat) (a : Nat → Int32) : Prop := ∀ j, j < n → t j < 256 ∧ a j = sb_b (t j)
theorem sb_fitB (c : Nat) : fits .byte (.int (sb_b c)) = true := pk_fb _
theorem sb_fit0 : sb_Fit (fun _ => 0) := fun _ => by
  show fits .byte (.int 0) = true
  decide
theorem sb_fitU {a : Nat → Int32} {k : Nat} {x : Int32} (h : sb_Fit a) (hx : fits .byte (.int x) = true) : sb_Fit (upd a k x) := by
  intro j
  by_cases e : j = k
  · subst e
    rw [pk_us]
    exact hx
  · rw [pk_un e]
    exact h j
def sb_cat (t : Nat → Nat) (n : Nat) (s : Nat → Nat) : Nat → Nat := fun j => if j < n then t j else s (j - n)
theorem sb_cat_lo {t s : Nat → Nat} {n j : Nat} (h : j < n) : sb_cat t n s j = t j := if_pos h
theorem sb_cat_hi {t s : Nat → Nat} {n j : Nat} : sb_cat t n s (n + j) = s j := by
  show (if n + j < n then t (n + j) else s (n + j - n)) = s j
  rw [if_neg (by omega), Nat.add_sub_cancel_left]
theorem sb_latPut {t s : Nat → Nat} {n w : Nat} {a a' : Nat → Int32} (h : sb_Lat t n a) (hk : ∀ j, j < n → a' j = a j) (hs : ∀ i, i < w → s i < 256 ∧ a' (n + i) = sb_b (s i)) : sb_Lat (sb_cat t n s) (n + w) a' := by
  intro j hj
  by_cases e : j < n
  · rw [sb_cat_lo e, hk j e]
    exact h j e
  · obtain ⟨i, rfl⟩ : ∃ i, j = n + i := ⟨j - n, by omega⟩
    rw [sb_cat_hi]
    exact hs i (by omega)
theorem sb_latKeep {t : Nat → Nat} {n : Nat} {a a' : Nat → Int32} (h : sb_Lat t n a) (hk : ∀ j, j < n → a' j = a j) : sb_Lat t n a' := fun j hj => by
  rw [hk j hj]
  exact h j hj
def sb_cap (q m : Nat) : Nat := if q ≤ m then m else if 2 * m + 2 < q then q else 2 * m + 2
def sb_Room (q m mc ms : Nat) : Prop := q ≤ m ∨ (1 ≤ mc ∧ sb_cap q m ≤ ms ∧ sb_cap q m ≤ 65536)
theorem sb_cap_ge (q m : Nat) : q ≤ sb_cap q m := by
  unfold sb_cap
  split
  · omega
  · split <;> omega
theorem sb_cap_gem (q m : Nat) : m ≤ sb_cap q m := by
  unfold sb_cap
  split
  · omega
  · split <;> omega
theorem sb_cap_le {q m mc ms : Nat} (hm : m ≤ 65536) (hr : sb_Room q m mc ms) : sb_cap q m ≤ 65536 := by
  rcases hr with h | h
  · rw [sb_cap, if_pos h]
    exact hm
  · exact h.2.2
theorem sb_at {P : Int32 → Prop} {x y : Int32} (e : x = y) (h : P y) : P x := e ▸ h
def sb_dg (w : Nat) : Nat := if w < 10 then 1 else if w < 100 then 2 else if w < 1000 then 3 else if w < 10000 then 4 else if w < 100000 then 5 else if w < 1000000 then 6 else if w < 10000000 then 7 else if w < 100000000 then 8 else if w < 1000000000 then 9 else 10
def sb_dec (v : Nat) : Nat → Nat := fun i => 48 + v / 10 ^ (sb_dg v - 1 - i) % 10
theorem sb_dg_in (w : Nat) : 1 ≤ sb_dg w ∧ sb_dg w ≤ 10 := by
  unfold sb_dg
  constructor <;> (repeat' split) <;> omega
theorem sb_dg100 {w : Nat} (h : 100 ≤ w) (hw : w < 2 ^ 31) : sb_dg w = sb_dg (w / 100) + 2 := by
  rw [sb_dg, sb_dg, if_neg (show ¬ w < 10 by omega), if_neg (show ¬ w < 100 by omega)]
  by_cases h3 : w < 1000
  · rw [if_pos h3, if_pos (show w / 100 < 10 by omega)]
  rw [if_neg h3, if_neg (show ¬ w / 100 < 10 by omega)]
  by_cases h4 : w < 10000
  · rw [if_pos h4, if_pos (show w / 100 < 100 by omega)]
  rw [if_neg h4, if_neg (show ¬ w / 100 < 100 by omega)]
  by_cases h5 : w < 100000
  · rw [if_pos h5, if_pos (show w / 100 < 1000 by omega)]
  rw [if_neg h5, if_neg (show ¬ w / 100 < 1000 by omega)]
  by_cases h6 : w < 1000000
  · rw [if_pos h6, if_pos (show w / 100 < 10000 by omega)]
  rw [if_neg h6, if_neg (show ¬ w / 100 < 10000 by omega)]
  by_cases h7 : w < 10000000
  · rw [if_pos h7, if_pos (show w / 100 < 100000 by omega)]
  rw [if_neg h7, if_neg (show ¬ w / 100 < 100000 by omega)]
  by_cases h8 : w < 100000000
  · rw [if_pos h8, if_pos (show w / 100 < 1000000 by omega)]
  rw [if_neg h8, if_neg (show ¬ w / 100 < 1000000 by omega)]
  by_cases h9 : w < 1000000000
  · rw [if_pos h9, if_pos (show w / 100 < 10000000 by omega)]
  rw [if_neg h9, if_neg (show ¬ w / 100 < 10000000 by omega)]
  rw [if_pos (show w / 100 < 100000000 by omega)]
theorem sb_negT {w : Nat} (h : w < 2 ^ 31) : (-nI w).toInt = -(w : Int) := by
  rw [Int32.toInt_neg, nI_toInt h]
  exact Int.bmod_eq_of_le (by omega) (by omega)
theorem sb_nle {a b : Nat} (ha : a < 2 ^ 31) (hb : b < 2 ^ 31) : -nI a ≤ -nI b ↔ b ≤ a := by
  rw [Int32.le_iff_toInt_le, sb_negT ha, sb_negT hb]
  omega
theorem sb_nlt {a b : Nat} (ha : a < 2 ^ 31) (hb : b < 2 ^ 31) : -nI a < -nI b ↔ b < a := by
  rw [Int32.lt_iff_toInt_lt, sb_negT ha, sb_negT hb]
  omega
theorem sb_cmp {A B : Prop} {x : Int32} (v c : Nat) (f : c ≤ v → A) (g : v < c → B) (hv : v < 2 ^ 31) (hx : x = -nI c := by rfl) (hc : c < 2 ^ 31 := by omega) : (-nI v ≤ x → A) ∧ (¬ -nI v ≤ x → B) := by
  subst hx
  rw [sb_nle hv hc]
  exact ⟨f, fun z => g (by omega)⟩
theorem sb_ndiv {w : Nat} (hw : w < 2 ^ 31) : (-nI w) / 100 = -nI (w / 100) := by
  apply Int32.toInt_inj.mp
  have h100 : (100 : Int32).toInt = 100 := by decide
  rw [Int32.toInt_div, sb_negT hw, h100, sb_negT (by omega), Int.neg_tdiv, Int.tdiv_eq_ediv_of_nonneg (by omega), Int.bmod_eq_of_le (by omega) (by omega)]
  omega
theorem sb_nrem {w : Nat} (hw : w < 2 ^ 31) : (-nI (w / 100)) * 100 - (-nI w) = nI (w % 100) := by
  have h := pk_rem (a := w) (d := 100) hw (by decide) (by decide)
  rw [pk_div hw (by decide) (by decide)] at h
  rw [← h]
  show (-nI (w / 100)) * nI 100 - (-nI w) = nI w - nI (w / 100) * nI 100
  rw [Int32.neg_mul, Int32.sub_neg, Int32.add_comm, ← Int32.sub_eq_add_neg]
/-! rows on bits, shifts and unsigned numbers, to paste: each family out of a closed proof of our own, whole with what it rests on; each by itself clean at Lean in its own claim (generation 39, form 5). Take a family whole -/
/-! ===== Int32 by its bits: bt x i ===== -/
def bt (x : Int32) (i : Nat) : Bool := x.toBitVec.getLsbD i
theorem b_ext {x y : Int32} (h : ∀ i, i < 32 → bt x i = bt y i) : x = y := Int32.toBitVec_inj.mp (BitVec.eq_of_getLsbD_eq (fun i hi => h i hi))
theorem b_or (x y : Int32) (i : Nat) : bt (x ||| y) i = (bt x i || bt y i) := by unfold bt; rw [Int32.toBitVec_or, BitVec.getLsbD_or]
theorem b_and (x y : Int32) (i : Nat) : bt (x &&& y) i = (bt x i && bt y i) := by unfold bt; rw [Int32.toBitVec_and, BitVec.getLsbD_and]
theorem b_xor (x y : Int32) (i : Nat) : bt (x ^^^ y) i = (bt x i ^^ bt y i) := by unfold bt; rw [Int32.toBitVec_xor, BitVec.getLsbD_xor]
theorem b_big {x : Int32} {i : Nat} (h : 32 ≤ i) : bt x i = false := BitVec.getLsbD_of_ge _ _ h
theorem b_255 (i : Nat) : bt 255 i = decide (i < 8) := by
  rcases Nat.lt_or_ge i 32 with h | h
  · exact (by decide +kernel : ∀ i, i < 32 → bt 255 i = decide (i < 8)) i h
  · rw [b_big h, decide_eq_false (by omega)]
theorem b_65535 (i : Nat) : bt 65535 i = decide (i < 16) := by
  rcases Nat.lt_or_ge i 32 with h | h
  · exact (by decide +kernel : ∀ i, i < 32 → bt 65535 i = decide (i < 16)) i h
  · rw [b_big h, decide_eq_false (by omega)]
theorem b_m1 : ∀ i, i < 32 → bt (-1) i = true := by decide +kernel
theorem b_0 (i : Nat) : bt 0 i = false := BitVec.getLsbD_zero
theorem s_l : ∀ n, n < 32 → ((nI n &&& 31).toBitVec.smod 32).toNat = n := by decide +kernel
theorem s_u : ∀ n, n < 32 → (((nI n).toUInt32 &&& Int32.toUInt32 31).toBitVec % 32).toNat = n := by decide +kernel
theorem b_shl (n : Nat) (hn : n < 32) (x : Int32) {i : Nat} (hi : i < 32) : bt (x <<< (nI n &&& 31)) i = (decide (n ≤ i) && bt x (i - n)) := by
  unfold bt
  rw [Int32.toBitVec_shiftLeft]
  show (x.toBitVec <<< ((nI n &&& 31).toBitVec.smod 32).toNat).getLsbD i = _
  rw [s_l n hn, BitVec.getLsbD_shiftLeft]
  rcases Nat.lt_or_ge i n with h | h
  · simp [h, Nat.not_le.mpr h]
  · simp [hi, h, Nat.not_lt.mpr h]
theorem b_ushr (n : Nat) (hn : n < 32) (x : Int32) (i : Nat) : bt ((x.toUInt32 >>> ((nI n).toUInt32 &&& Int32.toUInt32 31)).toInt32) i = bt x (n + i) := by
  show (x.toUInt32 >>> ((nI n).toUInt32 &&& Int32.toUInt32 31)).toBitVec.getLsbD i = x.toUInt32.toBitVec.getLsbD (n + i)
  rw [UInt32.toBitVec_shiftRight]
  show (x.toUInt32.toBitVec >>> (((nI n).toUInt32 &&& Int32.toUInt32 31).toBitVec % 32).toNat).getLsbD i = _
  rw [s_u n hn, BitVec.getLsbD_ushiftRight]
theorem b_sshr (n : Nat) (hn : n < 32) (x : Int32) {i : Nat} (hi : i < 32) : bt (x >>> (nI n &&& 31)) i = if n + i < 32 then bt x (n + i) else bt x 31 := by
  unfold bt
  rw [Int32.toBitVec_shiftRight]
  show (x.toBitVec.sshiftRight ((nI n &&& 31).toBitVec.smod 32).toNat).getLsbD i = _
  rw [s_l n hn, BitVec.getLsbD_sshiftRight, BitVec.msb_eq_getLsbD_last]
  simp [hi]
theorem b_shl8 (x : Int32) {i : Nat} (hi : i < 32) : bt (x <<< ((8 : Int32) &&& 31)) i = (decide (8 ≤ i) && bt x (i - 8)) := b_shl 8 (by omega) x hi
theorem b_shl16 (x : Int32) {i : Nat} (hi : i < 32) : bt (x <<< ((16 : Int32) &&& 31)) i = (decide (16 ≤ i) && bt x (i - 16)) := b_shl 16 (by omega) x hi
theorem b_shl24 (x : Int32) {i : Nat} (hi : i < 32) : bt (x <<< ((24 : Int32) &&& 31)) i = (decide (24 ≤ i) && bt x (i - 24)) := b_shl 24 (by omega) x hi
theorem b_sshr8 (x : Int32) {i : Nat} (hi : i < 32) : bt (x >>> ((8 : Int32) &&& 31)) i = if 8 + i < 32 then bt x (8 + i) else bt x 31 := b_sshr 8 (by omega) x hi
/-! ===== nI under and, xor, >>>, one bit, 65535 ===== -/
theorem nx_and (a b : Nat) : nI a &&& nI b = nI (a &&& b) := by
  apply Int32.toBitVec_inj.1
  show BitVec.ofNat 32 a &&& BitVec.ofNat 32 b = BitVec.ofNat 32 (a &&& b)
  apply BitVec.eq_of_getLsbD_eq
  intro i hi
  simp [hi]
theorem nx_xor (a b : Nat) : nI a ^^^ nI b = nI (a ^^^ b) := by
  apply Int32.toBitVec_inj.1
  show BitVec.ofNat 32 a ^^^ BitVec.ofNat 32 b = BitVec.ofNat 32 (a ^^^ b)
  apply BitVec.eq_of_getLsbD_eq
  intro i hi
  simp [hi]
theorem nx_cnt : ∀ j : Fin 32, (UInt32.ofNat j.val &&& Int32.toUInt32 31).toNat % 32 = j.val := by decide +kernel
theorem nx_ush {k j : Nat} (hk : k < 65536) (hj : j < 32) : ((nI k).toUInt32 >>> ((nI j).toUInt32 &&& Int32.toUInt32 31)).toInt32 = nI (k >>> j) := by
  have hs : k >>> j ≤ k := by
    rw [Nat.shiftRight_eq_div_pow]
    exact Nat.div_le_self _ _
  have e2 : UInt32.ofNat k >>> (UInt32.ofNat j &&& Int32.toUInt32 31) = UInt32.ofNat (k >>> j) := by
    apply UInt32.toNat_inj.1
    have h1 : (UInt32.ofNat k).toNat = k := Nat.mod_eq_of_lt (by omega)
    have h2 : (UInt32.ofNat (k >>> j)).toNat = k >>> j := Nat.mod_eq_of_lt (by omega)
    rw [UInt32.toNat_shiftRight, nx_cnt ⟨j, hj⟩, h1, h2]
  show (UInt32.ofNat k >>> (UInt32.ofNat j &&& Int32.toUInt32 31)).toInt32 = _
  rw [e2]
  rfl
theorem nx_bit {k j : Nat} (hk : k < 65536) (hj : j < 16) : (((nI k).toUInt32 >>> ((nI j).toUInt32 &&& Int32.toUInt32 31)).toInt32 &&& 1) = 0 ↔ k.testBit j = false := by
  rw [nx_ush hk (by omega)]
  show nI (k >>> j) &&& nI 1 = 0 ↔ _
  rw [nx_and, Nat.and_one_is_mod, ← nI_0, nI_eq (by omega) (by omega), Nat.testBit_eq_decide_div_mod_eq, Nat.shiftRight_eq_div_pow, decide_eq_false_iff_not]
  generalize k / 2 ^ j = z
  omega
theorem nx_mod (k : Nat) : nI k &&& 65535 = nI (k % 65536) := by
  show nI k &&& nI 65535 = _
  rw [nx_and, show (65535 : Nat) = 2 ^ 16 - 1 from rfl, Nat.and_two_pow_sub_one_eq_mod]
theorem nx_m16 {k : Nat} (h : k < 65536) : nI k &&& 65535 = nI k := by rw [nx_mod, Nat.mod_eq_of_lt h]
theorem nx_mask (x : Int32) : ∃ k, k < 65536 ∧ x &&& 65535 = nI k := by
  have e : x = nI x.toBitVec.toNat := by
    apply Int32.toBitVec_inj.1
    show x.toBitVec = BitVec.ofNat 32 x.toBitVec.toNat
    simp
  refine ⟨x.toBitVec.toNat % 65536, Nat.mod_lt _ (by omega), ?_⟩
  rw [← nx_mod, ← e]
/-! ===== Int32 as a set of bits: test, set ===== -/
def nf_M (m : Int32) : Nat := 4294967296 - m.toBitVec.toNat
theorem nf_sh : ∀ l, l < 32 → ((1 : Int32) <<< (nI l &&& 31)).toBitVec = BitVec.twoPow 32 l := by decide +kernel
theorem nf_sl : ∀ l, l < 32 → (((nI l).toUInt32 &&& Int32.toUInt32 31).toBitVec % 32).toNat = l := by decide +kernel
theorem nf_tp : ∀ l, l < 32 → BitVec.twoPow 32 l ≠ 0#32 := by decide +kernel
theorem nf_bit (m : Int32) (l : Nat) (hl : l < 32) : ((m.toUInt32 >>> ((nI l).toUInt32 &&& Int32.toUInt32 31)).toInt32 &&& 1) = 0 ↔ (m &&& ((1 : Int32) <<< (nI l &&& 31))) = 0 := by
  have e : ((m.toUInt32 >>> ((nI l).toUInt32 &&& Int32.toUInt32 31)).toInt32).toBitVec = m.toBitVec >>> l := by
    show m.toBitVec >>> (((nI l).toUInt32 &&& Int32.toUInt32 31).toBitVec % 32) = m.toBitVec >>> l
    rw [BitVec.ushiftRight_eq', nf_sl l hl]
  rw [← Int32.toBitVec_inj, ← Int32.toBitVec_inj, Int32.toBitVec_and, Int32.toBitVec_and, nf_sh l hl, e, BitVec.and_twoPow]
  show (m.toBitVec >>> l &&& 1#32) = 0#32 ↔ _ = 0#32
  rw [BitVec.and_one_eq_setWidth_ofBool_getLsbD, BitVec.getLsbD_ushiftRight, Nat.add_zero]
  cases hb : m.toBitVec.getLsbD l
  · exact ⟨fun _ => by simp, fun _ => by decide⟩
  · exact ⟨fun z => absurd z (by decide), fun z => absurd ((if_pos rfl).symm.trans z) (nf_tp l hl)⟩
theorem nf_gr (m k : Int32) (h : m &&& k = 0) (hk : k ≠ 0) : nf_M (m ||| k) < nf_M m := by
  have hm := m.toBitVec.isLt
  have hm' := (m ||| k).toBitVec.isLt
  have h1 : m.toBitVec.toNat ≤ (m ||| k).toBitVec.toNat := by
    rw [Int32.toBitVec_or, BitVec.toNat_or]
    exact Nat.left_le_or
  have h2 : m.toBitVec.toNat ≠ (m ||| k).toBitVec.toNat := by
    intro e
    have e2 : m = m ||| k := Int32.toBitVec_inj.mp (BitVec.eq_of_toNat_eq e)
    apply hk
    apply Int32.toBitVec_inj.mp
    show k.toBitVec = 0#32
    apply BitVec.eq_of_getLsbD_eq
    intro i hi
    have a : m.toBitVec.getLsbD i = (m.toBitVec.getLsbD i || k.toBitVec.getLsbD i) := by rw [← BitVec.getLsbD_or, ← Int32.toBitVec_or, ← e2]
    have b : (m.toBitVec.getLsbD i && k.toBitVec.getLsbD i) = false := by
      rw [← BitVec.getLsbD_and, ← Int32.toBitVec_and, h]
      exact BitVec.getLsbD_zero
    rw [BitVec.getLsbD_zero]
    revert a b
    cases m.toBitVec.getLsbD i <;> cases k.toBitVec.getLsbD i <;> simp
  unfold nf_M
  omega
end
section
/-! ===== the pure machine of the check: states (stack from the top, locals 0 and 1), sets of kinds as bits: 1 number, 2 reference, 4 unset ===== -/
def hs_at : List Nat → Nat → Nat
  | [], _ => 0
  | c :: _, 0 => c
  | _ :: t, j + 1 => hs_at t j
def hs_loc (b : Nat) (A : List Nat × Nat × Nat) : Nat := if b = 0 then A.2.1 else A.2.2
def hs_tk (w : Nat) (A : List Nat × Nat × Nat) : Option (List Nat × Nat × Nat) := match A.1 with
  | [] => none
  | c :: t => if w = 3 ∨ c = w then some (t, A.2) else none
def hs_ps (c : Nat) (A : List Nat × Nat × Nat) : Option (List Nat × Nat × Nat) := if A.1.length = 4 then none else some (c :: A.1, A.2)
def hs_ld (b : Nat) (A : List Nat × Nat × Nat) : Option (List Nat × Nat × Nat) := if hs_loc b A &&& 4 = 0 then hs_ps (hs_loc b A) A else none
def hs_sto (b : Nat) (A : List Nat × Nat × Nat) : Option (List Nat × Nat × Nat) := match A.1 with
  | [] => none
  | c :: t => some (t, if b = 0 then (c, A.2.2) else (A.2.1, c))
def hs_dup (A : List Nat × Nat × Nat) : Option (List Nat × Nat × Nat) := match A.1 with
  | [] => none
  | c :: _ => hs_ps c A
def hs_sq : List (List Nat × Nat × Nat → Option (List Nat × Nat × Nat)) → List Nat × Nat × Nat → Option (List Nat × Nat × Nat)
  | [], A => some A
  | g :: gs, A => match g A with
    | none => none
    | some B => hs_sq gs B
def hs_pr (op b : Nat) : List (List Nat × Nat × Nat → Option (List Nat × Nat × Nat)) := match op with
  | 0 => [hs_ps 1]
  | 1 => [hs_ld b]
  | 2 => [hs_sto b]
  | 3 => [hs_tk 1, hs_tk 1, hs_ps 1]
  | 4 => [hs_tk 1, hs_tk 1, hs_ps 1]
  | 5 => [hs_tk 1, hs_tk 1, hs_ps 1]
  | 6 => [hs_tk 1, hs_tk 1, hs_ps 1]
  | 8 => [hs_tk 1]
  | 9 => [hs_ps 2]
  | 10 => [hs_tk 2]
  | 11 => [hs_tk 1, hs_ps 2]
  | 12 => [hs_tk 1, hs_tk 2, hs_ps 1]
  | 13 => [hs_tk 1, hs_tk 1, hs_tk 2]
  | 14 => [hs_tk 2]
  | 15 => [hs_tk 2, hs_ps 1]
  | 16 => [hs_ps 2]
  | 17 => [hs_ps 2]
  | 18 => [hs_tk 1, hs_ps 1]
  | 19 => [hs_tk 1]
  | 20 => [hs_dup]
  | 21 => [hs_tk 3]
  | _ => []
def hs_ef (op b : Nat) (A : List Nat × Nat × Nat) : Option (List Nat × Nat × Nat) := hs_sq (hs_pr op b) A
/-- closed under the steps of the code -/
def hs_cl (opf bf : Nat → Nat) (S : Nat → List Nat × Nat × Nat → Prop) : Prop := S 0 ([], 1, 4) ∧ ∀ k A A', S k A → hs_ef (opf k) (bf k) A = some A' → ((opf k = 7 ∨ opf k = 8) → S (bf k) A') ∧ (opf k ≠ 7 → opf k ≠ 19 → S (k + 1) A')
/-- what can be come to -/
def hs_R (opf bf : Nat → Nat) (k : Nat) (A : List Nat × Nat × Nat) : Prop := ∀ S, hs_cl opf bf S → S k A
theorem hs_Rcl (opf bf : Nat → Nat) : hs_cl opf bf (hs_R opf bf) :=
  ⟨fun _ h => h.1, fun k A A' hA e => ⟨fun o S h => (h.2 k A A' (hA S h) e).1 o, fun o1 o2 S h => (h.2 k A A' (hA S h) e).2 o1 o2⟩⟩
/-- the check's answer -/
def hs_G (opf bf : Nat → Nat) (n : Nat) : Prop := ∀ k A, hs_R opf bf k A → k < n ∧ ∃ A', hs_ef (opf k) (bf k) A = some A'
def hs_CK (opf bf : Nat → Nat) (n : Nat) : Prop := hs_G opf bf n ∧ ∀ k A B, hs_R opf bf k A → hs_R opf bf k B → A.1.length = B.1.length
def hs_w1 (A : List Nat × Nat × Nat) : Prop := A.1.length ≤ 4 ∧ (∀ c, c ∈ A.1 → c = 1 ∨ c = 2) ∧ (A.2.1 = 1 ∨ A.2.1 = 2 ∨ A.2.1 = 4) ∧ (A.2.2 = 1 ∨ A.2.2 = 2 ∨ A.2.2 = 4)
def hs_wA (A : List Nat × Nat × Nat) : Prop := A.1.length ≤ 4 ∧ (∀ c, c ∈ A.1 → 1 ≤ c ∧ c ≤ 3) ∧ (1 ≤ A.2.1 ∧ A.2.1 ≤ 7) ∧ (1 ≤ A.2.2 ∧ A.2.2 ≤ 7)
theorem hs_w1A {A : List Nat × Nat × Nat} (h : hs_w1 A) : hs_wA A := ⟨h.1, fun c hc => by have := h.2.1 c hc; omega, by have := h.2.2.1; omega, by have := h.2.2.2; omega⟩
theorem hs_loc1 {A : List Nat × Nat × Nat} (h : hs_w1 A) (b : Nat) : hs_loc b A = 1 ∨ hs_loc b A = 2 ∨ hs_loc b A = 4 := by
  unfold hs_loc; split
  · exact h.2.2.1
  · exact h.2.2.2
theorem hs_locA {A : List Nat × Nat × Nat} (h : hs_wA A) (b : Nat) : 1 ≤ hs_loc b A ∧ hs_loc b A ≤ 7 := by
  unfold hs_loc; split
  · exact h.2.2.1
  · exact h.2.2.2
theorem hs_tk_s {w : Nat} {A B : List Nat × Nat × Nat} (h : hs_tk w A = some B) : ∃ c, A.1 = c :: B.1 ∧ (w = 3 ∨ c = w) ∧ B.2 = A.2 := by
  unfold hs_tk at h
  split at h
  · cases h
  · rename_i c t e
    split at h
    · rename_i hw
      cases h
      exact ⟨c, e, hw, rfl⟩
    · cases h
theorem hs_ps_s {c : Nat} {A B : List Nat × Nat × Nat} (h : hs_ps c A = some B) : A.1.length ≠ 4 ∧ B = (c :: A.1, A.2) := by
  unfold hs_ps at h
  split at h
  · cases h
  · rename_i z; cases h; exact ⟨z, rfl⟩
theorem hs_ld_s {b : Nat} {A B : List Nat × Nat × Nat} (h : hs_ld b A = some B) : hs_loc b A &&& 4 = 0 ∧ A.1.length ≠ 4 ∧ B = (hs_loc b A :: A.1, A.2) := by
  unfold hs_ld at h
  split at h
  · rename_i z; exact ⟨z, hs_ps_s h⟩
  · cases h
theorem hs_sto_s {b : Nat} {A B : List Nat × Nat × Nat} (h : hs_sto b A = some B) : ∃ c, A.1 = c :: B.1 ∧ B.2 = if b = 0 then (c, A.2.2) else (A.2.1, c) := by
  unfold hs_sto at h
  split at h
  · cases h
  · rename_i c t e; cases h; exact ⟨c, e, rfl⟩
theorem hs_dup_s {A B : List Nat × Nat × Nat} (h : hs_dup A = some B) : ∃ c t, A.1 = c :: t ∧ A.1.length ≠ 4 ∧ B = (c :: A.1, A.2) := by
  unfold hs_dup at h
  split at h
  · cases h
  · rename_i c t e; exact ⟨c, t, e, hs_ps_s h⟩
/-! ### what the primitives keep -/
def hs_Kp (g : List Nat × Nat × Nat → Option (List Nat × Nat × Nat)) : Prop := ∀ A B, g A = some B → (hs_w1 A → hs_w1 B) ∧ (hs_wA A → hs_wA B)
theorem hs_tk_k (w : Nat) : hs_Kp (hs_tk w) := fun A B h => by
  obtain ⟨c, e, _, e2⟩ := hs_tk_s h
  unfold hs_w1 hs_wA
  rw [e2, e]
  refine ⟨fun z => ⟨?_, fun x hx => z.2.1 x (List.mem_cons_of_mem _ hx), z.2.2⟩, fun z => ⟨?_, fun x hx => z.2.1 x (List.mem_cons_of_mem _ hx), z.2.2⟩⟩ <;>
  · have := z.1; rw [List.length_cons] at this; omega
theorem hs_psk {c : Nat} {A B : List Nat × Nat × Nat} (hl : A.1.length ≠ 4) (e : B = (c :: A.1, A.2)) : ((c = 1 ∨ c = 2) → hs_w1 A → hs_w1 B) ∧ ((1 ≤ c ∧ c ≤ 3) → hs_wA A → hs_wA B) := by
  subst e
  refine ⟨fun hc z => ⟨?_, fun x hx => ?_, z.2.2⟩, fun hc z => ⟨?_, fun x hx => ?_, z.2.2⟩⟩
  · have := z.1; show (c :: A.1).length ≤ 4; rw [List.length_cons]; omega
  · rcases List.mem_cons.mp hx with q | q
    · rw [q]; exact hc
    · exact z.2.1 x q
  · have := z.1; show (c :: A.1).length ≤ 4; rw [List.length_cons]; omega
  · rcases List.mem_cons.mp hx with q | q
    · rw [q]; exact hc
    · exact z.2.1 x q
theorem hs_ps_k {c : Nat} (hc : c = 1 ∨ c = 2) : hs_Kp (hs_ps c) := fun A B h => by
  obtain ⟨hl, e⟩ := hs_ps_s h
  exact ⟨(hs_psk hl e).1 hc, (hs_psk hl e).2 (by omega)⟩
theorem hs_and4 : ∀ x, x < 8 → x &&& 4 = 0 → x < 4 := by decide
theorem hs_ld_k (b : Nat) : hs_Kp (hs_ld b) := fun A B h => by
  obtain ⟨h4, hl, e⟩ := hs_ld_s h
  refine ⟨fun z => (hs_psk hl e).1 ?_ z, fun z => (hs_psk hl e).2 ?_ z⟩
  · have a := hs_loc1 z b
    have := hs_and4 _ (by omega) h4; omega
  · have a := hs_locA z b
    have := hs_and4 _ (by omega) h4; omega
theorem hs_sto_k (b : Nat) : hs_Kp (hs_sto b) := fun A B h => by
  obtain ⟨c, e, e2⟩ := hs_sto_s h
  unfold hs_w1 hs_wA
  rw [e2, e]
  refine ⟨fun z => ⟨?_, fun x hx => z.2.1 x (List.mem_cons_of_mem _ hx), ?_, ?_⟩, fun z => ⟨?_, fun x hx => z.2.1 x (List.mem_cons_of_mem _ hx), ?_, ?_⟩⟩
  · have := z.1; rw [List.length_cons] at this; omega
  · have := z.2.1 c (List.mem_cons_self ..); split
    · show c = 1 ∨ c = 2 ∨ c = 4; omega
    · exact z.2.2.1
  · have := z.2.1 c (List.mem_cons_self ..); split
    · exact z.2.2.2
    · show c = 1 ∨ c = 2 ∨ c = 4; omega
  · have := z.1; rw [List.length_cons] at this; omega
  · have := z.2.1 c (List.mem_cons_self ..); split
    · show 1 ≤ c ∧ c ≤ 7; omega
    · exact z.2.2.1
  · have := z.2.1 c (List.mem_cons_self ..); split
    · exact z.2.2.2
    · show 1 ≤ c ∧ c ≤ 7; omega
theorem hs_dup_k : hs_Kp hs_dup := fun A B h => by
  obtain ⟨c, t, e, hl, e2⟩ := hs_dup_s h
  have hm : c ∈ A.1 := by rw [e]; exact List.mem_cons_self ..
  exact ⟨fun z => (hs_psk hl e2).1 (z.2.1 c hm) z, fun z => (hs_psk hl e2).2 (z.2.1 c hm) z⟩
/-! ### sound: below -/
def hs_ll : List Nat → List Nat → Prop
  | [], [] => True
  | a :: s, b :: t => a ||| b = b ∧ hs_ll s t
  | _, _ => False
def hs_le (A B : List Nat × Nat × Nat) : Prop := hs_ll A.1 B.1 ∧ A.2.1 ||| B.2.1 = B.2.1 ∧ A.2.2 ||| B.2.2 = B.2.2
theorem hs_ll_len : ∀ {s t : List Nat}, hs_ll s t → s.length = t.length
  | [], [], _ => rfl
  | _ :: s, _ :: t, h => by rw [List.length_cons, List.length_cons, hs_ll_len h.2]
  | [], _ :: _, h => h.elim
  | _ :: _, [], h => h.elim
theorem hs_ll_r {c : Nat} {s t : List Nat} (h : hs_ll s (c :: t)) : ∃ a s', s = a :: s' ∧ a ||| c = c ∧ hs_ll s' t := by
  cases s with
  | nil => exact h.elim
  | cons a s' => exact ⟨a, s', rfl, h.1, h.2⟩
def hs_Sn (g : List Nat × Nat × Nat → Option (List Nat × Nat × Nat)) : Prop := ∀ A B B', hs_w1 A → hs_wA B → hs_le A B → g B = some B' → ∃ A', g A = some A' ∧ hs_le A' B'
theorem hs_or12' : ∀ a, a < 8 → ∀ c, c < 8 → ((a = 1 ∨ a = 2 ∨ a = 4) ∧ (c = 1 ∨ c = 2 ∨ c = 4) ∧ a ||| c = c) → a = c := by decide
theorem hs_or12 (a : Nat) (ha : a < 8) (c : Nat) (hc : c < 8) (h1 : a = 1 ∨ a = 2 ∨ a = 4) (h2 : c = 1 ∨ c = 2 ∨ c = 4) (h3 : a ||| c = c) : a = c := hs_or12' a ha c hc ⟨h1, h2, h3⟩
theorem hs_tk_n {w : Nat} (hw : w = 1 ∨ w = 2 ∨ w = 3) : hs_Sn (hs_tk w) := fun A B B' hA _ hl h => by
  obtain ⟨c, e, h3, e2⟩ := hs_tk_s h
  have hl1 := hl.1
  rw [e] at hl1
  obtain ⟨a, s, ea, hac, hs⟩ := hs_ll_r hl1
  have ha := hA.2.1 a (by rw [ea]; exact List.mem_cons_self ..)
  refine ⟨(s, A.2), ?_, hs, by rw [e2]; exact hl.2⟩
  unfold hs_tk
  rw [ea]
  refine if_pos ?_
  by_cases z : w = 3
  · exact Or.inl z
  · right
    have hcw : c = w := by omega
    rw [hcw] at hac
    exact hs_or12 a (by omega) w (by omega) (by omega) (by omega) hac
theorem hs_psn {c a : Nat} {A B B' : List Nat × Nat × Nat} (hac : a ||| c = c) (hl : hs_le A B) (h : hs_ps c B = some B') : ∃ A', hs_ps a A = some A' ∧ hs_le A' B' := by
  obtain ⟨h4, e⟩ := hs_ps_s h
  refine ⟨(a :: A.1, A.2), ?_, ?_⟩
  · unfold hs_ps
    rw [if_neg (by rw [hs_ll_len hl.1]; exact h4)]
  · rw [e]; exact ⟨⟨hac, hl.1⟩, hl.2⟩
theorem hs_ps_n (c : Nat) : hs_Sn (hs_ps c) := fun A B B' _ _ hl h => hs_psn (Nat.or_self c) hl h
theorem hs_le_loc {A B : List Nat × Nat × Nat} (hl : hs_le A B) (b : Nat) : hs_loc b A ||| hs_loc b B = hs_loc b B := by
  unfold hs_loc; split
  · exact hl.2.1
  · exact hl.2.2
theorem hs_or4 : ∀ x, x < 8 → ∀ y, y < 8 → x ||| y = y → y &&& 4 = 0 → x &&& 4 = 0 := by decide
theorem hs_ld_n (b : Nat) : hs_Sn (hs_ld b) := fun A B B' hA hB hl h => by
  unfold hs_ld at h
  split at h
  · rename_i z
    obtain ⟨A', e, hle⟩ := hs_psn (hs_le_loc hl b) hl h
    refine ⟨A', ?_, hle⟩
    unfold hs_ld
    rw [if_pos]
    · exact e
    · have a := hs_loc1 hA b
      have b' := hs_locA hB b
      exact hs_or4 _ (by omega) _ (by omega) (hs_le_loc hl b) z
  · cases h
theorem hs_sto_n (b : Nat) : hs_Sn (hs_sto b) := fun A B B' hA _ hl h => by
  obtain ⟨c, e, e2⟩ := hs_sto_s h
  have hl1 := hl.1
  rw [e] at hl1
  obtain ⟨a, s, ea, hac, hs⟩ := hs_ll_r hl1
  refine ⟨(s, if b = 0 then (a, A.2.2) else (A.2.1, a)), ?_, hs, ?_⟩
  · unfold hs_sto
    rw [ea]
  · rw [e2]
    by_cases z : b = 0
    · rw [if_pos z, if_pos z]; exact ⟨hac, hl.2.2⟩
    · rw [if_neg z, if_neg z]; exact ⟨hl.2.1, hac⟩
theorem hs_dup_n : hs_Sn hs_dup := fun A B B' hA _ hl h => by
  obtain ⟨c, t, e, h4, e2⟩ := hs_dup_s h
  have hl1 := hl.1
  rw [e] at hl1
  obtain ⟨a, s, ea, hac, hs⟩ := hs_ll_r hl1
  have hps : hs_ps c B = some B' := by unfold hs_ps; rw [if_neg h4, e2]
  obtain ⟨A', eA, hle⟩ := hs_psn hac hl hps
  refine ⟨A', ?_, hle⟩
  unfold hs_dup
  rw [ea]
  exact eA
end
section
/-! ### exact: each bit has a witness -/
def hs_Wt (R : List Nat × Nat × Nat → Prop) (B : List Nat × Nat × Nat) : Prop :=
  (∃ A, R A) ∧ (∀ A, R A → hs_w1 A ∧ A.1.length = B.1.length) ∧
  (∀ j x, j < B.1.length → (x = 1 ∨ x = 2) → x ||| hs_at B.1 j = hs_at B.1 j → ∃ A, R A ∧ hs_at A.1 j = x) ∧
  (∀ b x, (x = 1 ∨ x = 2 ∨ x = 4) → x ||| hs_loc b B = hs_loc b B → ∃ A, R A ∧ hs_loc b A = x)
def hs_im (g : List Nat × Nat × Nat → Option (List Nat × Nat × Nat)) (R : List Nat × Nat × Nat → Prop) (A' : List Nat × Nat × Nat) : Prop := ∃ A, R A ∧ g A = some A'
def hs_Gd (g : List Nat × Nat × Nat → Option (List Nat × Nat × Nat)) : Prop := ∀ R B, hs_wA B → hs_Wt R B → (∀ A, R A → ∃ A', g A = some A') → ∃ B', g B = some B' ∧ hs_Wt (hs_im g R) B'
theorem hs_locE {A B : List Nat × Nat × Nat} (h : B.2 = A.2) (b : Nat) : hs_loc b B = hs_loc b A := by unfold hs_loc; rw [h]
theorem hs_one (c : Nat) (hc : c < 8) (h1 : 1 ≤ c ∧ c ≤ 3) (w : Nat) (hw : w < 8) (h : ∀ x, x < 8 → (x = 1 ∨ x = 2) → x ||| c = c → x = w) : c = w := by
  have h12 : c = 1 ∨ c = 2 ∨ c = 3 := by omega
  rcases h12 with rfl | rfl | rfl
  · exact h 1 (by decide) (Or.inl rfl) (by decide)
  · exact h 2 (by decide) (Or.inr rfl) (by decide)
  · have a := h 1 (by decide) (Or.inl rfl) (by decide)
    have b := h 2 (by decide) (Or.inr rfl) (by decide)
    omega
theorem hs_im_w {g : List Nat × Nat × Nat → Option (List Nat × Nat × Nat)} {R : List Nat × Nat × Nat → Prop} {A' : List Nat × Nat × Nat} (hk : hs_Kp g) (hR : ∀ A, R A → hs_w1 A) (h : hs_im g R A') : hs_w1 A' := by
  obtain ⟨A, hA, e⟩ := h
  exact (hk A A' e).1 (hR A hA)
theorem hs_tk_g {w : Nat} (hw : w = 1 ∨ w = 2 ∨ w = 3) : hs_Gd (hs_tk w) := fun R B hB W hp => by
  obtain ⟨⟨A0, hA0⟩, hlen, hst, hlo⟩ := W
  cases e : B.1 with
  | nil =>
    obtain ⟨A', e'⟩ := hp A0 hA0
    obtain ⟨c, ec, _⟩ := hs_tk_s e'
    have := (hlen A0 hA0).2
    rw [e, ec, List.length_cons] at this
    cases this
  | cons c t =>
    have hc := hB.2.1 c (by rw [e]; exact List.mem_cons_self ..)
    have hcw : w = 3 ∨ c = w := by
      by_cases z : w = 3
      · exact Or.inl z
      · right
        refine hs_one c (by omega) hc w (by omega) (fun x _ hx hxc => ?_)
        obtain ⟨A, hA, ea⟩ := hst 0 x (by rw [e]; exact Nat.succ_pos _) hx (by rw [e]; exact hxc)
        obtain ⟨A', e'⟩ := hp A hA
        obtain ⟨d, ed, hd, _⟩ := hs_tk_s e'
        rw [ed] at ea
        have : d = x := ea
        omega
    have eB : hs_tk w B = some (t, B.2) := by unfold hs_tk; rw [e]; exact if_pos hcw
    refine ⟨(t, B.2), eB, ?_, ?_, ?_, ?_⟩
    · obtain ⟨A', e'⟩ := hp A0 hA0
      exact ⟨A', A0, hA0, e'⟩
    · intro A' hA'
      refine ⟨hs_im_w (hs_tk_k w) (fun A hA => (hlen A hA).1) hA', ?_⟩
      obtain ⟨A, hA, e'⟩ := hA'
      obtain ⟨d, ed, _, _⟩ := hs_tk_s e'
      have := (hlen A hA).2
      rw [e, ed, List.length_cons, List.length_cons] at this
      show A'.1.length = t.length
      omega
    · intro j x hj hx hxc
      obtain ⟨A, hA, ea⟩ := hst (j + 1) x (by rw [e, List.length_cons]; exact Nat.succ_lt_succ hj) hx (by rw [e]; exact hxc)
      obtain ⟨A', e'⟩ := hp A hA
      obtain ⟨d, ed, _, _⟩ := hs_tk_s e'
      refine ⟨A', ⟨A, hA, e'⟩, ?_⟩
      rw [ed] at ea
      exact ea
    · intro b x hx hxc
      obtain ⟨A, hA, ea⟩ := hlo b x hx (by rw [← hs_locE (A := B) (B := (t, B.2)) rfl]; exact hxc)
      obtain ⟨A', e'⟩ := hp A hA
      obtain ⟨d, _, _, e2⟩ := hs_tk_s e'
      exact ⟨A', ⟨A, hA, e'⟩, by rw [hs_locE e2]; exact ea⟩
/-- a push whose value is read off the state -/
theorem hs_push_g {g : List Nat × Nat × Nat → Option (List Nat × Nat × Nat)} (v : List Nat × Nat × Nat → Nat) (hk : hs_Kp g) (hs : ∀ A A', g A = some A' → A.1.length ≠ 4 ∧ A' = (v A :: A.1, A.2))
    {R : List Nat × Nat × Nat → Prop} {B : List Nat × Nat × Nat} (W : hs_Wt R B) (hp : ∀ A, R A → ∃ A', g A = some A') (hB : B.1.length ≠ 4 → g B = some (v B :: B.1, B.2)) (hv : ∀ x, (x = 1 ∨ x = 2) → x ||| v B = v B → ∃ A, R A ∧ v A = x) : ∃ B', g B = some B' ∧ hs_Wt (hs_im g R) B' := by
  obtain ⟨⟨A0, hA0⟩, hlen, hst, hlo⟩ := W
  have h4 : B.1.length ≠ 4 := by
    obtain ⟨A', e'⟩ := hp A0 hA0
    have := (hs _ _ e').1
    rw [(hlen A0 hA0).2] at this
    exact this
  refine ⟨_, hB h4, ?_, ?_, ?_, ?_⟩
  · obtain ⟨A', e'⟩ := hp A0 hA0
    exact ⟨A', A0, hA0, e'⟩
  · intro A' hA'
    refine ⟨hs_im_w hk (fun A hA => (hlen A hA).1) hA', ?_⟩
    obtain ⟨A, hA, e'⟩ := hA'
    have e2 := (hs _ _ e').2
    rw [e2]
    show (v A :: A.1).length = (v B :: B.1).length
    rw [List.length_cons, List.length_cons, (hlen A hA).2]
  · intro j x hj hx hxc
    cases j with
    | zero =>
      obtain ⟨A, hA, ea⟩ := hv x hx hxc
      obtain ⟨A', e'⟩ := hp A hA
      refine ⟨A', ⟨A, hA, e'⟩, ?_⟩
      rw [(hs _ _ e').2]
      exact ea
    | succ j =>
      obtain ⟨A, hA, ea⟩ := hst j x (Nat.lt_of_succ_lt_succ (by have : j + 1 < (v B :: B.1).length := hj; rwa [List.length_cons] at this)) hx hxc
      obtain ⟨A', e'⟩ := hp A hA
      refine ⟨A', ⟨A, hA, e'⟩, ?_⟩
      rw [(hs _ _ e').2]
      exact ea
  · intro b x hx hxc
    obtain ⟨A, hA, ea⟩ := hlo b x hx (by rw [← hs_locE (A := B) (B := (v B :: B.1, B.2)) rfl]; exact hxc)
    obtain ⟨A', e'⟩ := hp A hA
    refine ⟨A', ⟨A, hA, e'⟩, ?_⟩
    rw [hs_locE (A := A) (by rw [(hs _ _ e').2])]
    exact ea
theorem hs_ps_g {c : Nat} (hc : c = 1 ∨ c = 2) : hs_Gd (hs_ps c) := fun R B hB W hp => by
  refine hs_push_g (fun _ => c) (hs_ps_k hc) (fun A A' h => hs_ps_s h) W hp (fun h4 => ?_) (fun x hx hxc => ?_)
  · unfold hs_ps; exact if_neg h4
  · obtain ⟨⟨A0, hA0⟩, _⟩ := W
    exact ⟨A0, hA0, (hs_or12 x (by omega) c (by omega) (by omega) (by omega) hxc).symm⟩
theorem hs_bit4 : ∀ y, y < 8 → y &&& 4 ≠ 0 → 4 ||| y = y := by decide
theorem hs_ld_g (b : Nat) : hs_Gd (hs_ld b) := fun R B hB W hp => by
  have hz : hs_loc b B &&& 4 = 0 := by
    refine Classical.byContradiction (fun z => ?_)
    have hb := hs_locA hB b
    obtain ⟨A, hA, ea⟩ := W.2.2.2 b 4 (by omega) (hs_bit4 _ (by omega) z)
    obtain ⟨A', e'⟩ := hp A hA
    have := (hs_ld_s e').1
    rw [ea] at this
    exact absurd this (by decide)
  refine hs_push_g (fun A => hs_loc b A) (hs_ld_k b) (fun A A' h => (hs_ld_s h).2) W hp (fun h4 => ?_) (fun x hx hxc => ?_)
  · unfold hs_ld; rw [if_pos hz]; unfold hs_ps; exact if_neg h4
  · exact W.2.2.2 b x (by omega) hxc
theorem hs_dup_g : hs_Gd hs_dup := fun R B hB W hp => by
  have hne : ∃ c t, B.1 = c :: t := by
    cases e : B.1 with
    | nil =>
      obtain ⟨⟨A0, hA0⟩, hlen, _⟩ := W
      obtain ⟨A', e'⟩ := hp A0 hA0
      obtain ⟨c, t, ec, _⟩ := hs_dup_s e'
      have := (hlen A0 hA0).2
      rw [e, ec, List.length_cons] at this
      cases this
    | cons c t => exact ⟨c, t, rfl⟩
  obtain ⟨c, t, e⟩ := hne
  refine hs_push_g (fun A => hs_at A.1 0) hs_dup_k (fun A A' h => ?_) W hp (fun h4 => ?_) (fun x hx hxc => ?_)
  · obtain ⟨c, t, e, h4, e2⟩ := hs_dup_s h
    refine ⟨h4, ?_⟩
    rw [e2, e]; rfl
  · have e1 : hs_dup B = hs_ps c B := by unfold hs_dup; rw [e]
    have e2 : hs_ps c B = some (c :: B.1, B.2) := if_neg h4
    rw [e1, e2, e]; rfl
  · exact W.2.2.1 0 x (by rw [e]; exact Nat.succ_pos _) hx hxc
theorem hs_12' : ∀ x, x < 8 → ∀ c, c < 8 → ((x = 1 ∨ x = 2 ∨ x = 4) ∧ c ≤ 3 ∧ x ||| c = c) → x = 1 ∨ x = 2 := by decide
theorem hs_12 (x : Nat) (hx : x < 8) (c : Nat) (hc : c < 8) (h1 : x = 1 ∨ x = 2 ∨ x = 4) (h2 : c ≤ 3) (h3 : x ||| c = c) : x = 1 ∨ x = 2 := hs_12' x hx c hc ⟨h1, h2, h3⟩
theorem hs_sto_g (b : Nat) : hs_Gd (hs_sto b) := fun R B hB W hp => by
  obtain ⟨⟨A0, hA0⟩, hlen, hst, hlo⟩ := W
  cases e : B.1 with
  | nil =>
    obtain ⟨A', e'⟩ := hp A0 hA0
    obtain ⟨c, ec, _⟩ := hs_sto_s e'
    have := (hlen A0 hA0).2
    rw [e, ec, List.length_cons] at this
    cases this
  | cons c t =>
    have hc := hB.2.1 c (by rw [e]; exact List.mem_cons_self ..)
    have eB : hs_sto b B = some (t, if b = 0 then (c, B.2.2) else (B.2.1, c)) := by unfold hs_sto; rw [e]
    refine ⟨_, eB, ?_, ?_, ?_, ?_⟩
    · obtain ⟨A', e'⟩ := hp A0 hA0
      exact ⟨A', A0, hA0, e'⟩
    · intro A' hA'
      refine ⟨hs_im_w (hs_sto_k b) (fun A hA => (hlen A hA).1) hA', ?_⟩
      obtain ⟨A, hA, e'⟩ := hA'
      obtain ⟨d, ed, _⟩ := hs_sto_s e'
      have := (hlen A hA).2
      rw [e, ed, List.length_cons, List.length_cons] at this
      show A'.1.length = t.length
      omega
    · intro j x hj hx hxc
      obtain ⟨A, hA, ea⟩ := hst (j + 1) x (by rw [e, List.length_cons]; exact Nat.succ_lt_succ hj) hx (by rw [e]; exact hxc)
      obtain ⟨A', e'⟩ := hp A hA
      obtain ⟨d, ed, _⟩ := hs_sto_s e'
      refine ⟨A', ⟨A, hA, e'⟩, ?_⟩
      rw [ed] at ea
      exact ea
    · intro b' x hx hxc
      by_cases zb : (b = 0 ↔ b' = 0)
      · have el : hs_loc b' (t, if b = 0 then (c, B.2.2) else (B.2.1, c)) = c := by
          unfold hs_loc
          by_cases z : b = 0
          · rw [if_pos (zb.mp z), if_pos z]
          · rw [if_neg (fun q => z (zb.mpr q)), if_neg z]
        rw [el] at hxc
        have hx2 := hs_12 x (by omega) c (by omega) hx hc.2 hxc
        obtain ⟨A, hA, ea⟩ := hst 0 x (by rw [e]; exact Nat.succ_pos _) hx2 (by rw [e]; exact hxc)
        obtain ⟨A', e'⟩ := hp A hA
        obtain ⟨d, ed, e2⟩ := hs_sto_s e'
        refine ⟨A', ⟨A, hA, e'⟩, ?_⟩
        rw [ed] at ea
        have hd : d = x := ea
        unfold hs_loc
        rw [e2]
        by_cases z : b = 0
        · rw [if_pos (zb.mp z), if_pos z]; exact hd
        · rw [if_neg (fun q => z (zb.mpr q)), if_neg z]; exact hd
      · have el : ∀ (C : List Nat × Nat × Nat) (s : List Nat) (d : Nat), hs_loc b' (s, if b = 0 then (d, C.2.2) else (C.2.1, d)) = hs_loc b' C := by
          intro C s d
          unfold hs_loc
          by_cases z : b = 0
          · rw [if_neg (fun q => zb ⟨fun _ => q, fun _ => z⟩), if_pos z, if_neg (fun q => zb ⟨fun _ => q, fun _ => z⟩)]
          · by_cases z' : b' = 0
            · rw [if_pos z', if_neg z, if_pos z']
            · exact absurd ⟨fun q => absurd q z, fun q => absurd q z'⟩ zb
        rw [el] at hxc
        obtain ⟨A, hA, ea⟩ := hlo b' x hx hxc
        obtain ⟨A', e'⟩ := hp A hA
        obtain ⟨d, ed, e2⟩ := hs_sto_s e'
        refine ⟨A', ⟨A, hA, e'⟩, ?_⟩
        have : hs_loc b' A' = hs_loc b' (A'.1, if b = 0 then (d, A.2.2) else (A.2.1, d)) := hs_locE e2 b'
        rw [this, el]
        exact ea
/-! ### in a row -/
theorem hs_sq_k : ∀ {gs : List (List Nat × Nat × Nat → Option (List Nat × Nat × Nat))}, (∀ g, g ∈ gs → hs_Kp g) → hs_Kp (hs_sq gs)
  | [], _, A, B, h => by cases h; exact ⟨id, id⟩
  | g :: gs, H, A, B, h => by
    unfold hs_sq at h
    split at h
    · cases h
    · rename_i C e
      have a := H g (List.mem_cons_self ..) A C e
      have b := hs_sq_k (fun g' hg => H g' (List.mem_cons_of_mem _ hg)) C B h
      exact ⟨fun z => b.1 (a.1 z), fun z => b.2 (a.2 z)⟩
theorem hs_sq_n : ∀ {gs : List (List Nat × Nat × Nat → Option (List Nat × Nat × Nat))}, (∀ g, g ∈ gs → hs_Kp g ∧ hs_Sn g) → hs_Sn (hs_sq gs)
  | [], _, A, B, B', _, _, hl, h => by cases h; exact ⟨A, rfl, hl⟩
  | g :: gs, H, A, B, B', hA, hB, hl, h => by
    unfold hs_sq at h
    split at h
    · cases h
    · rename_i C e
      have a := H g (List.mem_cons_self ..)
      obtain ⟨A1, e1, l1⟩ := a.2 A B C hA hB hl e
      obtain ⟨A2, e2, l2⟩ := hs_sq_n (fun g' hg => H g' (List.mem_cons_of_mem _ hg)) A1 C B' ((a.1 A A1 e1).1 hA) ((a.1 B C e).2 hB) l1 h
      refine ⟨A2, ?_, l2⟩
      unfold hs_sq
      rw [e1]
      exact e2
theorem hs_Wt_c {R R' : List Nat × Nat × Nat → Prop} {B : List Nat × Nat × Nat} (h : ∀ A, R A ↔ R' A) (W : hs_Wt R B) : hs_Wt R' B := by
  obtain ⟨⟨A0, hA0⟩, hlen, hst, hlo⟩ := W
  refine ⟨⟨A0, (h A0).mp hA0⟩, fun A hA => hlen A ((h A).mpr hA), fun j x h1 h2 h3 => ?_, fun b x h1 h2 => ?_⟩
  · obtain ⟨A, hA, e⟩ := hst j x h1 h2 h3
    exact ⟨A, (h A).mp hA, e⟩
  · obtain ⟨A, hA, e⟩ := hlo b x h1 h2
    exact ⟨A, (h A).mp hA, e⟩
theorem hs_sq_g : ∀ {gs : List (List Nat × Nat × Nat → Option (List Nat × Nat × Nat))}, (∀ g, g ∈ gs → hs_Kp g ∧ hs_Gd g) → hs_Gd (hs_sq gs)
  | [], _, R, B, _, W, _ => ⟨B, rfl, hs_Wt_c (fun A => ⟨fun hA => ⟨A, hA, rfl⟩, fun ⟨A', hA', e⟩ => by cases e; exact hA'⟩) W⟩
  | g :: gs, H, R, B, hB, W, hp => by
    have a := H g (List.mem_cons_self ..)
    have hp1 : ∀ A, R A → ∃ A', g A = some A' ∧ ∃ A'', hs_sq gs A' = some A'' := fun A hA => by
      obtain ⟨A'', e⟩ := hp A hA
      unfold hs_sq at e
      split at e
      · cases e
      · rename_i C eC; exact ⟨C, eC, A'', e⟩
    obtain ⟨C, eC, WC⟩ := a.2 R B hB W (fun A hA => by obtain ⟨A', e, _⟩ := hp1 A hA; exact ⟨A', e⟩)
    obtain ⟨D, eD, WD⟩ := hs_sq_g (fun g' hg => H g' (List.mem_cons_of_mem _ hg)) (hs_im g R) C ((a.1 B C eC).2 hB) WC (fun A' hA' => by
      obtain ⟨A, hA, e⟩ := hA'
      obtain ⟨A1, e1, z⟩ := hp1 A hA
      rw [e] at e1; cases e1
      exact z)
    refine ⟨D, ?_, hs_Wt_c (fun A'' => ⟨fun ⟨A', ⟨A, hA, e⟩, e'⟩ => ⟨A, hA, ?_⟩, fun ⟨A, hA, e⟩ => ?_⟩) WD⟩
    · unfold hs_sq; rw [eC]; exact eD
    · unfold hs_sq; rw [e]; exact e'
    · unfold hs_sq at e
      split at e
      · cases e
      · rename_i C' eC'; exact ⟨C', ⟨A, hA, eC'⟩, e⟩
theorem hs_prim {op b : Nat} : ∀ g, g ∈ hs_pr op b → hs_Kp g ∧ hs_Sn g ∧ hs_Gd g := by
  intro g hg
  have p1 : hs_Kp (hs_ps 1) ∧ hs_Sn (hs_ps 1) ∧ hs_Gd (hs_ps 1) := ⟨hs_ps_k (by decide), hs_ps_n 1, hs_ps_g (by decide)⟩
  have p2 : hs_Kp (hs_ps 2) ∧ hs_Sn (hs_ps 2) ∧ hs_Gd (hs_ps 2) := ⟨hs_ps_k (by decide), hs_ps_n 2, hs_ps_g (by decide)⟩
  have t1 : hs_Kp (hs_tk 1) ∧ hs_Sn (hs_tk 1) ∧ hs_Gd (hs_tk 1) := ⟨hs_tk_k 1, hs_tk_n (by decide), hs_tk_g (by decide)⟩
  have t2 : hs_Kp (hs_tk 2) ∧ hs_Sn (hs_tk 2) ∧ hs_Gd (hs_tk 2) := ⟨hs_tk_k 2, hs_tk_n (by decide), hs_tk_g (by decide)⟩
  have t3 : hs_Kp (hs_tk 3) ∧ hs_Sn (hs_tk 3) ∧ hs_Gd (hs_tk 3) := ⟨hs_tk_k 3, hs_tk_n (by decide), hs_tk_g (by decide)⟩
  unfold hs_pr at hg
  split at hg <;> simp only [List.mem_cons, List.not_mem_nil, or_false] at hg
  all_goals first
    | (subst hg; first | exact p1 | exact p2 | exact t1 | exact t2 | exact t3 | exact ⟨hs_ld_k _, hs_ld_n _, hs_ld_g _⟩ | exact ⟨hs_sto_k _, hs_sto_n _, hs_sto_g _⟩ | exact ⟨hs_dup_k, hs_dup_n, hs_dup_g⟩)
    | (rcases hg with e | e <;> subst e <;> first | exact p1 | exact p2 | exact t1 | exact t2)
    | (rcases hg with e | e | e <;> subst e <;> first | exact p1 | exact p2 | exact t1 | exact t2)
theorem hs_ef_k (op b : Nat) : hs_Kp (hs_ef op b) := hs_sq_k (fun g hg => (hs_prim g hg).1)
theorem hs_ef_n (op b : Nat) : hs_Sn (hs_ef op b) := hs_sq_n (fun g hg => ⟨(hs_prim g hg).1, (hs_prim g hg).2.1⟩)
theorem hs_ef_g (op b : Nat) : hs_Gd (hs_ef op b) := hs_sq_g (fun g hg => ⟨(hs_prim g hg).1, (hs_prim g hg).2.2⟩)
theorem hs_Rw {opf bf : Nat → Nat} {k : Nat} {A : List Nat × Nat × Nat} (h : hs_R opf bf k A) : hs_w1 A :=
  h (fun _ A => hs_w1 A) ⟨⟨Nat.zero_le _, (fun _ h => nomatch h), Or.inl rfl, Or.inr (Or.inr rfl)⟩, fun _ A A' hA e => ⟨fun _ => (hs_ef_k _ _ A A' e).1 hA, fun _ _ => (hs_ef_k _ _ A A' e).1 hA⟩⟩
end
section
/-! ===== joins and the pure worklist ===== -/
def hs_jl : List Nat → List Nat → List Nat
  | a :: s, b :: t => (a ||| b) :: hs_jl s t
  | _, _ => []
def hs_jn (A B : List Nat × Nat × Nat) : List Nat × Nat × Nat := (hs_jl A.1 B.1, A.2.1 ||| B.2.1, A.2.2 ||| B.2.2)
theorem hs_jl_len : ∀ {s t : List Nat}, s.length = t.length → (hs_jl s t).length = s.length
  | [], [], _ => rfl
  | _ :: s, _ :: t, h => by
    rw [List.length_cons, List.length_cons] at h
    show (hs_jl s t).length + 1 = s.length + 1
    rw [hs_jl_len (by omega)]
  | [], _ :: _, h => by cases h
  | _ :: _, [], h => by cases h
theorem hs_or_l (a b : Nat) : a ||| (a ||| b) = a ||| b := by rw [← Nat.or_assoc, Nat.or_self]
theorem hs_or_r (a b : Nat) : b ||| (a ||| b) = a ||| b := by rw [Nat.or_comm a b, hs_or_l]
theorem hs_jl_le : ∀ {s t : List Nat}, s.length = t.length → hs_ll s (hs_jl s t) ∧ hs_ll t (hs_jl s t)
  | [], [], _ => ⟨True.intro, True.intro⟩
  | a :: s, b :: t, h => by
    rw [List.length_cons, List.length_cons] at h
    have := hs_jl_le (s := s) (t := t) (by omega)
    exact ⟨⟨hs_or_l a b, this.1⟩, ⟨hs_or_r a b, this.2⟩⟩
  | [], _ :: _, h => by cases h
  | _ :: _, [], h => by cases h
theorem hs_jn_le {A B : List Nat × Nat × Nat} (h : A.1.length = B.1.length) : hs_le A (hs_jn A B) ∧ hs_le B (hs_jn A B) :=
  ⟨⟨(hs_jl_le h).1, hs_or_l _ _, hs_or_l _ _⟩, ⟨(hs_jl_le h).2, hs_or_r _ _, hs_or_r _ _⟩⟩
theorem hs_or_t {a b c : Nat} (h1 : a ||| b = b) (h2 : b ||| c = c) : a ||| c = c := by rw [← h2, ← Nat.or_assoc, h1]
theorem hs_ll_t : ∀ {s t r : List Nat}, hs_ll s t → hs_ll t r → hs_ll s r
  | [], [], [], _, _ => True.intro
  | _ :: _, _ :: _, _ :: _, h1, h2 => ⟨hs_or_t h1.1 h2.1, hs_ll_t h1.2 h2.2⟩
  | [], _ :: _, _, h, _ => h.elim
  | _ :: _, [], _, h, _ => h.elim
  | [], [], _ :: _, _, h => h.elim
  | _ :: _, _ :: _, [], _, h => h.elim
theorem hs_le_t {A B C : List Nat × Nat × Nat} (h1 : hs_le A B) (h2 : hs_le B C) : hs_le A C := ⟨hs_ll_t h1.1 h2.1, hs_or_t h1.2.1 h2.2.1, hs_or_t h1.2.2 h2.2.2⟩
theorem hs_ll_i : ∀ (s : List Nat), hs_ll s s
  | [] => True.intro
  | a :: s => ⟨Nat.or_self a, hs_ll_i s⟩
theorem hs_le_i (A : List Nat × Nat × Nat) : hs_le A A := ⟨hs_ll_i _, Nat.or_self _, Nat.or_self _⟩
theorem hs_or3' : ∀ a, a < 8 → ∀ b, b < 8 → ((1 ≤ a ∧ a ≤ 3) ∧ (1 ≤ b ∧ b ≤ 3)) → 1 ≤ a ||| b ∧ a ||| b ≤ 3 := by decide
theorem hs_or3 (a : Nat) (ha : a < 8) (b : Nat) (hb : b < 8) (h1 : 1 ≤ a ∧ a ≤ 3) (h2 : 1 ≤ b ∧ b ≤ 3) : 1 ≤ a ||| b ∧ a ||| b ≤ 3 := hs_or3' a ha b hb ⟨h1, h2⟩
theorem hs_or7' : ∀ a, a < 8 → ∀ b, b < 8 → ((1 ≤ a ∧ a ≤ 7) ∧ (1 ≤ b ∧ b ≤ 7)) → 1 ≤ a ||| b ∧ a ||| b ≤ 7 := by decide
theorem hs_or7 (a : Nat) (ha : a < 8) (b : Nat) (hb : b < 8) (h1 : 1 ≤ a ∧ a ≤ 7) (h2 : 1 ≤ b ∧ b ≤ 7) : 1 ≤ a ||| b ∧ a ||| b ≤ 7 := hs_or7' a ha b hb ⟨h1, h2⟩
theorem hs_jl_w : ∀ {s t : List Nat}, (∀ c, c ∈ s → 1 ≤ c ∧ c ≤ 3) → (∀ c, c ∈ t → 1 ≤ c ∧ c ≤ 3) → ∀ c, c ∈ hs_jl s t → 1 ≤ c ∧ c ≤ 3
  | [], _, _, _, c, h => nomatch h
  | _ :: _, [], _, _, c, h => nomatch h
  | a :: s, b :: t, h1, h2, c, h => by
    rcases List.mem_cons.mp h with e | e
    · rw [e]
      have x := h1 a (List.mem_cons_self ..)
      have y := h2 b (List.mem_cons_self ..)
      exact hs_or3 a (by omega) b (by omega) x y
    · exact hs_jl_w (fun c hc => h1 c (List.mem_cons_of_mem _ hc)) (fun c hc => h2 c (List.mem_cons_of_mem _ hc)) c e
theorem hs_jn_w {A B : List Nat × Nat × Nat} (h : A.1.length = B.1.length) (hA : hs_wA A) (hB : hs_wA B) : hs_wA (hs_jn A B) := by
  refine ⟨?_, hs_jl_w hA.2.1 hB.2.1, ?_, ?_⟩
  · show (hs_jl A.1 B.1).length ≤ 4
    rw [hs_jl_len h]; exact hA.1
  · have a := hA.2.2.1; have b := hB.2.2.1
    exact hs_or7 _ (by omega) _ (by omega) a b
  · have a := hA.2.2.2; have b := hB.2.2.2
    exact hs_or7 _ (by omega) _ (by omega) a b
theorem hs_at_j : ∀ {s t : List Nat}, s.length = t.length → ∀ j, j < s.length → hs_at (hs_jl s t) j = hs_at s j ||| hs_at t j
  | [], [], _, j, hj => by cases hj
  | a :: s, b :: t, h, 0, _ => rfl
  | a :: s, b :: t, h, j + 1, hj => by
    rw [List.length_cons, List.length_cons] at h
    rw [List.length_cons] at hj
    exact hs_at_j (s := s) (t := t) (by omega) j (by omega)
  | [], _ :: _, h, _, _ => by cases h
  | _ :: _, [], h, _, _ => by cases h
theorem hs_or_x1 : ∀ a, a < 8 → ∀ b, b < 8 → 1 ||| (a ||| b) = a ||| b → 1 ||| a = a ∨ 1 ||| b = b := by decide
theorem hs_or_x2 : ∀ a, a < 8 → ∀ b, b < 8 → 2 ||| (a ||| b) = a ||| b → 2 ||| a = a ∨ 2 ||| b = b := by decide
theorem hs_or_x4 : ∀ a, a < 8 → ∀ b, b < 8 → 4 ||| (a ||| b) = a ||| b → 4 ||| a = a ∨ 4 ||| b = b := by decide
theorem hs_or_x (x : Nat) (hx : x < 8) (a : Nat) (ha : a < 8) (b : Nat) (hb : b < 8) (h1 : x = 1 ∨ x = 2 ∨ x = 4) (h2 : x ||| (a ||| b) = a ||| b) : x ||| a = a ∨ x ||| b = b := by
  rcases h1 with rfl | rfl | rfl
  · exact hs_or_x1 a ha b hb h2
  · exact hs_or_x2 a ha b hb h2
  · exact hs_or_x4 a ha b hb h2
theorem hs_at_w : ∀ {s : List Nat}, (∀ c, c ∈ s → 1 ≤ c ∧ c ≤ 3) → ∀ j, hs_at s j ≤ 3
  | [], _, _ => Nat.zero_le _
  | c :: _, h, 0 => (h c (List.mem_cons_self ..)).2
  | _ :: s, h, j + 1 => hs_at_w (s := s) (fun c hc => h c (List.mem_cons_of_mem _ hc)) j
theorem hs_loc_j (b : Nat) (A B : List Nat × Nat × Nat) : hs_loc b (hs_jn A B) = hs_loc b A ||| hs_loc b B := by
  unfold hs_loc hs_jn; split <;> rfl
theorem hs_Wt_j {R : List Nat × Nat × Nat → Prop} {A B : List Nat × Nat × Nat} (h : A.1.length = B.1.length) (hA : hs_wA A) (hB : hs_wA B) (WA : hs_Wt R A) (WB : hs_Wt R B) : hs_Wt R (hs_jn A B) := by
  have hlen : (hs_jn A B).1.length = A.1.length := hs_jl_len h
  refine ⟨WA.1, fun C hC => ⟨(WA.2.1 C hC).1, by rw [hlen]; exact (WA.2.1 C hC).2⟩, fun j x hj hx hxc => ?_, fun b x hx hxc => ?_⟩
  · rw [hlen] at hj
    have e : hs_at (hs_jn A B).1 j = hs_at A.1 j ||| hs_at B.1 j := hs_at_j h j hj
    rw [e] at hxc
    have a := hs_at_w hA.2.1 j
    have b := hs_at_w hB.2.1 j
    rcases hs_or_x x (by omega) _ (by omega) _ (by omega) (by omega) hxc with q | q
    · exact WA.2.2.1 j x hj hx q
    · exact WB.2.2.1 j x (by omega) hx q
  · rw [hs_loc_j] at hxc
    have a := hs_locA hA b
    have b' := hs_locA hB b
    rcases hs_or_x x (by omega) _ (by omega) _ (by omega) hx hxc with q | q
    · exact WA.2.2.2 b x hx q
    · exact WB.2.2.2 b x hx q
/-! ### the measure -/
def hs_p3 (x : Nat) : Nat := x % 2 + x / 2 % 2 + x / 4 % 2
def hs_ms : List Nat → Nat
  | [] => 0
  | c :: t => hs_p3 c + hs_ms t
def hs_mz (A : List Nat × Nat × Nat) : Nat := hs_ms A.1 + hs_p3 A.2.1 + hs_p3 A.2.2
theorem hs_p3_or : ∀ a, a < 8 → ∀ b, b < 8 → hs_p3 a ≤ hs_p3 (a ||| b) ∧ (hs_p3 (a ||| b) ≤ hs_p3 a → a ||| b = a) := by decide
theorem hs_p3_3 : ∀ a, a < 4 → hs_p3 a ≤ 2 := by decide
theorem hs_p3_7 (a : Nat) : hs_p3 a ≤ 3 := by unfold hs_p3; omega
theorem hs_ms_j : ∀ {s t : List Nat}, s.length = t.length → (∀ c, c ∈ s → 1 ≤ c ∧ c ≤ 3) → (∀ c, c ∈ t → 1 ≤ c ∧ c ≤ 3) → hs_ms s ≤ hs_ms (hs_jl s t) ∧ (hs_ms (hs_jl s t) ≤ hs_ms s → hs_jl s t = s)
  | [], [], _, _, _ => ⟨Nat.le_refl _, fun _ => rfl⟩
  | a :: s, b :: t, h, h1, h2 => by
    rw [List.length_cons, List.length_cons] at h
    have ih := hs_ms_j (s := s) (t := t) (by omega) (fun c hc => h1 c (List.mem_cons_of_mem _ hc)) (fun c hc => h2 c (List.mem_cons_of_mem _ hc))
    have x := h1 a (List.mem_cons_self ..)
    have y := h2 b (List.mem_cons_self ..)
    have p := hs_p3_or a (by omega) b (by omega)
    show hs_p3 a + hs_ms s ≤ hs_p3 (a ||| b) + hs_ms (hs_jl s t) ∧ (hs_p3 (a ||| b) + hs_ms (hs_jl s t) ≤ hs_p3 a + hs_ms s → (a ||| b) :: hs_jl s t = a :: s)
    refine ⟨by omega, fun z => ?_⟩
    rw [p.2 (by omega), ih.2 (by omega)]
  | [], _ :: _, h, _, _ => by cases h
  | _ :: _, [], h, _, _ => by cases h
theorem hs_mz_j {A B : List Nat × Nat × Nat} (h : A.1.length = B.1.length) (hA : hs_wA A) (hB : hs_wA B) (hne : hs_jn A B ≠ A) : hs_mz A + 1 ≤ hs_mz (hs_jn A B) := by
  have a := hs_ms_j h hA.2.1 hB.2.1
  have a1 := hA.2.2.1; have b1 := hB.2.2.1
  have a2 := hA.2.2.2; have b2 := hB.2.2.2
  have p := hs_p3_or A.2.1 (by omega) B.2.1 (by omega)
  have q := hs_p3_or A.2.2 (by omega) B.2.2 (by omega)
  refine Nat.lt_of_not_le (fun z => hne ?_)
  have z' : hs_ms (hs_jl A.1 B.1) + hs_p3 (A.2.1 ||| B.2.1) + hs_p3 (A.2.2 ||| B.2.2) ≤ hs_ms A.1 + hs_p3 A.2.1 + hs_p3 A.2.2 := z
  unfold hs_jn
  rw [a.2 (by omega), p.2 (by omega), q.2 (by omega)]
theorem hs_ms_b : ∀ {s : List Nat}, (∀ c, c ∈ s → 1 ≤ c ∧ c ≤ 3) → hs_ms s ≤ 2 * s.length
  | [], _ => Nat.le_refl _
  | a :: s, h => by
    have ih := hs_ms_b (s := s) (fun c hc => h c (List.mem_cons_of_mem _ hc))
    have x := h a (List.mem_cons_self ..)
    have p := hs_p3_3 a (by omega)
    show hs_p3 a + hs_ms s ≤ 2 * (s.length + 1)
    omega
theorem hs_mz_b {A : List Nat × Nat × Nat} (hA : hs_wA A) : hs_mz A ≤ 14 := by
  have a := hs_ms_b hA.2.1
  have b := hs_p3_7 A.2.1
  have c := hs_p3_7 A.2.2
  have d := hA.1
  unfold hs_mz
  omega
def hs_su (f : Nat → Nat) : Nat → Nat
  | 0 => 0
  | n + 1 => hs_su f n + f n
theorem hs_su_m {f g : Nat → Nat} : ∀ {n : Nat}, (∀ i, i < n → f i ≤ g i) → hs_su f n ≤ hs_su g n
  | 0, _ => Nat.le_refl _
  | n + 1, h => by
    have a := hs_su_m (f := f) (g := g) (n := n) (fun i hi => h i (by omega))
    have b := h n (by omega)
    show hs_su f n + f n ≤ hs_su g n + g n
    omega
theorem hs_su_p {f g : Nat → Nat} {k : Nat} (hk : f k + 1 ≤ g k) : ∀ {n : Nat}, (∀ i, i < n → f i ≤ g i) → k < n → hs_su f n + 1 ≤ hs_su g n
  | 0, _, h => by omega
  | n + 1, h, hn => by
    have b := h n (by omega)
    show hs_su f n + f n + 1 ≤ hs_su g n + g n
    rcases Nat.lt_or_ge k n with z | z
    · have a := hs_su_p hk (n := n) (fun i hi => h i (by omega)) z
      omega
    · have e : k = n := by omega
      subst e
      have a := hs_su_m (f := f) (g := g) (n := k) (fun i hi => h i (by omega))
      omega
theorem hs_su_b {f : Nat → Nat} {c : Nat} : ∀ {n : Nat}, (∀ i, i < n → f i ≤ c) → hs_su f n ≤ n * c
  | 0, _ => Nat.zero_le _
  | n + 1, h => by
    have a := hs_su_b (n := n) (fun i hi => h i (by omega))
    have b := h n (by omega)
    rw [Nat.succ_mul]
    show hs_su f n + f n ≤ n * c + c
    omega
def hs_mo (o : Option (List Nat × Nat × Nat)) : Nat := match o with
  | none => 0
  | some A => 1 + hs_mz A
def hs_g (kn : Nat → Option (List Nat × Nat × Nat)) (wt : Nat → Bool) (k : Nat) : Nat := hs_mo (kn k) - (if wt k = true then 1 else 0)
def hs_sm (kn : Nat → Option (List Nat × Nat × Nat)) (wt : Nat → Bool) : Nat := hs_su (hs_g kn wt) 16
/-! ### the invariant of the worklist -/
def hs_ok (opf bf : Nat → Nat) (kn : Nat → Option (List Nat × Nat × Nat)) (k : Nat) (B : List Nat × Nat × Nat) : Prop :=
  ∃ B', hs_ef (opf k) (bf k) B = some B' ∧ ((opf k = 7 ∨ opf k = 8) → ∃ C, kn (bf k) = some C ∧ hs_le B' C) ∧ (opf k ≠ 7 → opf k ≠ 19 → ∃ C, kn (k + 1) = some C ∧ hs_le B' C)
def hs_I (opf bf : Nat → Nat) (n : Nat) (ex : Nat → Prop) (kn : Nat → Option (List Nat × Nat × Nat)) (wt : Nat → Bool) : Prop :=
  (∀ k B, kn k = some B → k < n ∧ hs_wA B ∧ (hs_CK opf bf n → hs_Wt (hs_R opf bf k) B)) ∧
  (∀ k, wt k = true → ∃ B, kn k = some B) ∧
  (∀ k B, kn k = some B → wt k = false → ¬ ex k → hs_ok opf bf kn k B)
/-- from one list to a later one -/
def hs_up (kn : Nat → Option (List Nat × Nat × Nat)) (wt : Nat → Bool) (kn' : Nat → Option (List Nat × Nat × Nat)) (wt' : Nat → Bool) : Prop :=
  (∀ k C, kn k = some C → ∃ C', kn' k = some C' ∧ hs_le C C') ∧ (∀ k, wt' k = false → kn' k = kn k ∧ wt k = false) ∧ hs_sm kn wt ≤ hs_sm kn' wt'
theorem hs_up_i (kn : Nat → Option (List Nat × Nat × Nat)) (wt : Nat → Bool) : hs_up kn wt kn wt := ⟨fun _ C h => ⟨C, h, hs_le_i C⟩, fun _ h => ⟨rfl, h⟩, Nat.le_refl _⟩
theorem hs_up_t {kn kn' kn'' : Nat → Option (List Nat × Nat × Nat)} {wt wt' wt'' : Nat → Bool} (h : hs_up kn wt kn' wt') (h' : hs_up kn' wt' kn'' wt'') : hs_up kn wt kn'' wt'' := by
  refine ⟨fun k C e => ?_, fun k e => ?_, Nat.le_trans h.2.2 h'.2.2⟩
  · obtain ⟨C1, e1, l1⟩ := h.1 k C e
    obtain ⟨C2, e2, l2⟩ := h'.1 k C1 e1
    exact ⟨C2, e2, hs_le_t l1 l2⟩
  · obtain ⟨e1, w1⟩ := h'.2.1 k e
    obtain ⟨e2, w2⟩ := h.2.1 k w1
    exact ⟨e1.trans e2, w2⟩
/-- an entry set, and waiting -/
def hs_sk (kn : Nat → Option (List Nat × Nat × Nat)) (t : Nat) (A : List Nat × Nat × Nat) : Nat → Option (List Nat × Nat × Nat) := fun j => if j = t then some A else kn j
def hs_sw (wt : Nat → Bool) (t : Nat) (b : Bool) : Nat → Bool := fun j => if j = t then b else wt j
theorem hs_sk_s (kn : Nat → Option (List Nat × Nat × Nat)) (t : Nat) (A : List Nat × Nat × Nat) : hs_sk kn t A t = some A := if_pos rfl
theorem hs_sk_n {kn : Nat → Option (List Nat × Nat × Nat)} {t j : Nat} {A : List Nat × Nat × Nat} (h : j ≠ t) : hs_sk kn t A j = kn j := if_neg h
theorem hs_sw_s (wt : Nat → Bool) (t : Nat) (b : Bool) : hs_sw wt t b t = b := if_pos rfl
theorem hs_sw_n {wt : Nat → Bool} {t j : Nat} {b : Bool} (h : j ≠ t) : hs_sw wt t b j = wt j := if_neg h
theorem hs_set {opf bf : Nat → Nat} {n : Nat} {ex : Nat → Prop} {kn : Nat → Option (List Nat × Nat × Nat)} {wt : Nat → Bool} (hn : n ≤ 16) (I : hs_I opf bf n ex kn wt) {t : Nat} {A : List Nat × Nat × Nat}
    (ht : t < n) (hw : hs_wA A) (hW : hs_CK opf bf n → hs_Wt (hs_R opf bf t) A) (hg : ∀ C, kn t = some C → hs_le C A ∧ hs_mz C + 1 ≤ hs_mz A) :
    hs_I opf bf n ex (hs_sk kn t A) (hs_sw wt t true) ∧ hs_up kn wt (hs_sk kn t A) (hs_sw wt t true) := by
  have hup1 : ∀ k C, kn k = some C → ∃ C', hs_sk kn t A k = some C' ∧ hs_le C C' := fun k C e => by
    by_cases z : k = t
    · subst z; exact ⟨A, hs_sk_s .., (hg C e).1⟩
    · exact ⟨C, by rw [hs_sk_n z]; exact e, hs_le_i C⟩
  refine ⟨⟨fun k B e => ?_, fun k e => ?_, fun k B e w hx => ?_⟩, hup1, fun k e => ?_, ?_⟩
  · by_cases z : k = t
    · subst z; rw [hs_sk_s] at e; cases e; exact ⟨ht, hw, hW⟩
    · rw [hs_sk_n z] at e; exact I.1 k B e
  · by_cases z : k = t
    · subst z; exact ⟨A, hs_sk_s ..⟩
    · rw [hs_sw_n z] at e
      obtain ⟨B, eB⟩ := I.2.1 k e
      exact ⟨B, by rw [hs_sk_n z]; exact eB⟩
  · by_cases z : k = t
    · subst z; rw [hs_sw_s] at w; cases w
    · rw [hs_sk_n z] at e
      rw [hs_sw_n z] at w
      obtain ⟨B', eB, h1, h2⟩ := I.2.2 k B e w hx
      refine ⟨B', eB, fun o => ?_, fun o1 o2 => ?_⟩
      · obtain ⟨C, eC, lC⟩ := h1 o
        obtain ⟨C', eC', lC'⟩ := hup1 _ C eC
        exact ⟨C', eC', hs_le_t lC lC'⟩
      · obtain ⟨C, eC, lC⟩ := h2 o1 o2
        obtain ⟨C', eC', lC'⟩ := hup1 _ C eC
        exact ⟨C', eC', hs_le_t lC lC'⟩
  · by_cases z : k = t
    · subst z; rw [hs_sw_s] at e; cases e
    · rw [hs_sw_n z] at e; exact ⟨hs_sk_n z, e⟩
  · refine hs_su_m (fun i _ => ?_)
    unfold hs_g
    by_cases z : i = t
    · subst z
      rw [hs_sk_s, hs_sw_s, if_pos rfl]
      cases e : kn i with
      | none =>
        show 0 - _ ≤ _
        omega
      | some C =>
        have := (hg C e).2
        show (1 + hs_mz C) - _ ≤ (1 + hs_mz A) - 1
        omega
    · rw [hs_sk_n z, hs_sw_n z]
      exact Nat.le_refl _
/-- the entry taken off -/
theorem hs_off {opf bf : Nat → Nat} {n : Nat} {kn : Nat → Option (List Nat × Nat × Nat)} {wt : Nat → Bool} (I : hs_I opf bf n (fun _ => False) kn wt) {k : Nat} (hk : k < 16) (hw : wt k = true) :
    hs_I opf bf n (fun j => j = k) kn (hs_sw wt k false) ∧ hs_sm kn wt + 1 ≤ hs_sm kn (hs_sw wt k false) := by
  refine ⟨⟨I.1, fun j e => ?_, fun j B e w hx => ?_⟩, ?_⟩
  · by_cases z : j = k
    · subst z; rw [hs_sw_s] at e; cases e
    · rw [hs_sw_n z] at e; exact I.2.1 j e
  · rw [hs_sw_n hx] at w
    exact I.2.2 j B e w id
  · refine hs_su_p (k := k) ?_ (fun i _ => ?_) hk
    · obtain ⟨B, e⟩ := I.2.1 k hw
      unfold hs_g
      rw [hs_sw_s, hw, e, if_pos rfl]
      show (1 + hs_mz B) - 1 + 1 ≤ 1 + hs_mz B - 0
      omega
    · unfold hs_g
      by_cases z : i = k
      · subst z
        rw [hs_sw_s, hw, if_pos rfl]
        show _ - 1 ≤ _ - 0
        omega
      · rw [hs_sw_n z]; exact Nat.le_refl _
/-- the turn is over -/
theorem hs_on {opf bf : Nat → Nat} {n k : Nat} {kn kn' : Nat → Option (List Nat × Nat × Nat)} {wt wt' : Nat → Bool} {B B' : List Nat × Nat × Nat} (I : hs_I opf bf n (fun j => j = k) kn' wt') (u : hs_up kn wt kn' wt') (eB : kn k = some B) (ee : hs_ef (opf k) (bf k) B = some B')
    (h1 : (opf k = 7 ∨ opf k = 8) → ∃ C, kn' (bf k) = some C ∧ hs_le B' C) (h2 : opf k ≠ 7 → opf k ≠ 19 → ∃ C, kn' (k + 1) = some C ∧ hs_le B' C) : hs_I opf bf n (fun _ => False) kn' wt' := by
  refine ⟨I.1, I.2.1, fun j C e w _ => ?_⟩
  by_cases z : j = k
  · subst z
    have := (u.2.1 j w).1
    rw [this, eB] at e
    cases e
    exact ⟨B', ee, h1, h2⟩
  · exact I.2.2 j C e w z
/-- nothing waits: the code is good -/
theorem hs_fin {opf bf : Nat → Nat} {n : Nat} {kn : Nat → Option (List Nat × Nat × Nat)} {wt : Nat → Bool} (I : hs_I opf bf n (fun _ => False) kn wt) (h0 : ∃ C, kn 0 = some C ∧ hs_le ([], 1, 4) C) (hw : ∀ k, wt k = false) : hs_CK opf bf n := by
  have key : ∀ k A, hs_R opf bf k A → ∃ C, kn k = some C ∧ hs_le A C := fun k A h => by
    have : hs_w1 A ∧ ∃ C, kn k = some C ∧ hs_le A C := by
      refine h (fun k A => hs_w1 A ∧ ∃ C, kn k = some C ∧ hs_le A C) ⟨⟨⟨Nat.zero_le _, (fun _ h => nomatch h), Or.inl rfl, Or.inr (Or.inr rfl)⟩, h0⟩, fun k A A' hA e => ?_⟩
      obtain ⟨w1, C, eC, lC⟩ := hA
      obtain ⟨C', eC', h7, h8⟩ := I.2.2 k C eC (hw k) id
      obtain ⟨A2, eA2, lA2⟩ := hs_ef_n _ _ A C C' w1 (I.1 k C eC).2.1 lC eC'
      rw [e] at eA2; cases eA2
      have w2 := (hs_ef_k _ _ A A' e).1 w1
      refine ⟨fun o => ⟨w2, ?_⟩, fun o1 o2 => ⟨w2, ?_⟩⟩
      · obtain ⟨D, eD, lD⟩ := h7 o
        exact ⟨D, eD, hs_le_t lA2 lD⟩
      · obtain ⟨D, eD, lD⟩ := h8 o1 o2
        exact ⟨D, eD, hs_le_t lA2 lD⟩
    exact this.2
  refine ⟨fun k A h => ?_, fun k A B hA hB => ?_⟩
  · obtain ⟨C, eC, lC⟩ := key k A h
    obtain ⟨C', eC', _⟩ := I.2.2 k C eC (hw k) id
    obtain ⟨A', eA', _⟩ := hs_ef_n _ _ A C C' (hs_Rw h) (I.1 k C eC).2.1 lC eC'
    exact ⟨(I.1 k C eC).1, A', eA'⟩
  · obtain ⟨C, eC, lC⟩ := key k A hA
    obtain ⟨D, eD, lD⟩ := key k B hB
    rw [eC] at eD; cases eD
    rw [hs_ll_len lC.1, hs_ll_len lD.1]
theorem hs_sm_b {opf bf : Nat → Nat} {n : Nat} {ex : Nat → Prop} {kn : Nat → Option (List Nat × Nat × Nat)} {wt : Nat → Bool} (I : hs_I opf bf n ex kn wt) : hs_sm kn wt ≤ 240 := by
  refine Nat.le_trans (hs_su_b (c := 15) (fun i _ => ?_)) (by decide)
  unfold hs_g
  cases e : kn i with
  | none => show 0 - _ ≤ 15; omega
  | some A =>
    have := hs_mz_b (I.1 i A e).2.1
    show 1 + hs_mz A - _ ≤ 15
    omega
end
section
/-! ===== numbers: shifts of nI, packing ===== -/
theorem hx_ushr {n k : Nat} (hn : n < 2 ^ 32) (hk : k < 32) : ((nI n).toUInt32 >>> ((nI k).toUInt32 &&& Int32.toUInt32 31)).toInt32 = nI (n / 2 ^ k) := pk_ushrN hn (nI k) k (s_u k hk)
theorem hx_shl {n k : Nat} (hk : k < 32) (h : n * 2 ^ k < 2 ^ 32) : nI n <<< (nI k &&& 31) = nI (n * 2 ^ k) := pk_shlN _ k (s_l k hk) h
theorem hx_shr {n k : Nat} (h : n < 2 ^ 31) (hk : k < 32) : nI n >>> (nI k &&& 31) = nI (n / 2 ^ k) := pk_shrN h _ k (s_l k hk)
theorem hx_or (a b : Nat) : nI a ||| nI b = nI (a ||| b) := by
  apply Int32.toBitVec_inj.1
  show BitVec.ofNat 32 a ||| BitVec.ofNat 32 b = BitVec.ofNat 32 (a ||| b)
  apply BitVec.eq_of_getLsbD_eq
  intro i hi
  simp [hi]
theorem hx_p8 (l : Nat) : 2 ^ (3 * l) = 8 ^ l := by rw [Nat.pow_mul]
theorem hx_addor {a b i : Nat} (h : b < 2 ^ i) : b + a * 2 ^ i = b ||| a * 2 ^ i := by
  rw [Nat.add_comm, Nat.mul_comm, Nat.two_pow_add_eq_or_of_lt h, Nat.or_comm]
theorem hx_oror {a b c d i : Nat} (hb : b < 2 ^ i) (hd : d < 2 ^ i) : (b + a * 2 ^ i) ||| (d + c * 2 ^ i) = (b ||| d) + (a ||| c) * 2 ^ i := by
  rw [hx_addor hb, hx_addor hd, hx_addor (Nat.or_lt_two_pow hb hd)]
  have e : (a ||| c) * 2 ^ i = a * 2 ^ i ||| c * 2 ^ i := by
    rw [← Nat.shiftLeft_eq, ← Nat.shiftLeft_eq, ← Nat.shiftLeft_eq, Nat.shiftLeft_or_distrib]
  rw [e, Nat.or_assoc, Nat.or_assoc, ← Nat.or_assoc (a * 2 ^ i) d, Nat.or_comm (a * 2 ^ i) d, Nat.or_assoc d]
def hx_e8 : List Nat → Nat
  | [] => 0
  | c :: t => hx_e8 t + c * 2 ^ (3 * t.length)
theorem hx_e8_lt : ∀ {t : List Nat}, (∀ c, c ∈ t → 1 ≤ c ∧ c ≤ 3) → hx_e8 t < 2 ^ (3 * t.length)
  | [], _ => by decide
  | c :: t, h => by
    have ih := hx_e8_lt (t := t) (fun c hc => h c (List.mem_cons_of_mem _ hc))
    have hc := h c (List.mem_cons_self ..)
    show hx_e8 t + c * 2 ^ (3 * t.length) < 2 ^ (3 * (t.length + 1))
    rw [Nat.mul_add, Nat.pow_add]
    generalize 2 ^ (3 * t.length) = z at *
    have : c * z ≤ 3 * z := Nat.mul_le_mul_right z hc.2
    omega
theorem hx_e8_4 {t : List Nat} (h : ∀ c, c ∈ t → 1 ≤ c ∧ c ≤ 3) (hl : t.length ≤ 4) : hx_e8 t < 4096 :=
  Nat.lt_of_lt_of_le (hx_e8_lt h) (Nat.pow_le_pow_right (n := 2) (by decide) (show 3 * t.length ≤ 12 by omega))
theorem hx_e8_j : ∀ {s t : List Nat}, s.length = t.length → (∀ c, c ∈ s → 1 ≤ c ∧ c ≤ 3) → (∀ c, c ∈ t → 1 ≤ c ∧ c ≤ 3) → hx_e8 s ||| hx_e8 t = hx_e8 (hs_jl s t)
  | [], [], _, _, _ => rfl
  | a :: s, b :: t, h, h1, h2 => by
    rw [List.length_cons, List.length_cons] at h
    have h1' := fun c hc => h1 c (List.mem_cons_of_mem a hc)
    have h2' := fun c hc => h2 c (List.mem_cons_of_mem b hc)
    have e : s.length = t.length := by omega
    show (hx_e8 s + a * 2 ^ (3 * s.length)) ||| (hx_e8 t + b * 2 ^ (3 * t.length)) = hx_e8 (hs_jl s t) + (a ||| b) * 2 ^ (3 * (hs_jl s t).length)
    rw [← e, hx_oror (hx_e8_lt h1') (by rw [e]; exact hx_e8_lt h2'), hx_e8_j e h1' h2', hs_jl_len e]
  | [], _ :: _, h, _, _ => by cases h
  | _ :: _, [], h, _, _ => by cases h
theorem hx_e8_i : ∀ {s t : List Nat}, s.length = t.length → (∀ c, c ∈ s → 1 ≤ c ∧ c ≤ 3) → (∀ c, c ∈ t → 1 ≤ c ∧ c ≤ 3) → hx_e8 s = hx_e8 t → s = t
  | [], [], _, _, _, _ => rfl
  | a :: s, b :: t, h, h1, h2, he => by
    rw [List.length_cons, List.length_cons] at h
    have h1' := fun c hc => h1 c (List.mem_cons_of_mem a hc)
    have h2' := fun c hc => h2 c (List.mem_cons_of_mem b hc)
    have e : s.length = t.length := by omega
    have he' : hx_e8 s + a * 2 ^ (3 * s.length) = hx_e8 t + b * 2 ^ (3 * t.length) := he
    have l1 := hx_e8_lt h1'
    have l2 := hx_e8_lt h2'
    rw [← e] at he' l2
    have hp : 0 < 2 ^ (3 * s.length) := Nat.two_pow_pos _
    have d1 := congrArg (· / 2 ^ (3 * s.length)) he'
    have m1 := congrArg (· % 2 ^ (3 * s.length)) he'
    simp only [Nat.add_mul_div_right _ _ hp, Nat.add_mul_mod_self_right, Nat.div_eq_of_lt l1, Nat.div_eq_of_lt l2, Nat.mod_eq_of_lt l1, Nat.mod_eq_of_lt l2] at d1 m1
    rw [hx_e8_i e h1' h2' m1, show a = b by omega]
  | [], _ :: _, h, _, _, _ => by cases h
  | _ :: _, [], h, _, _, _ => by cases h
theorem hx_pw {l : Nat} (h : l ≤ 4) : 2 ^ (3 * l) ≤ 4096 := Nat.pow_le_pow_right (n := 2) (by decide) (show 3 * l ≤ 12 by omega)
theorem hx_top {c : Nat} {t : List Nat} (h : ∀ x, x ∈ c :: t → 1 ≤ x ∧ x ≤ 3) (hl : (c :: t).length ≤ 4) : (((nI (hx_e8 (c :: t))).toUInt32 >>> ((3 * (nI (c :: t).length - 1)).toUInt32 &&& Int32.toUInt32 31)).toInt32) &&& 7 = nI c := by
  have hc := h c (List.mem_cons_self ..)
  have h' := fun x hx => h x (List.mem_cons_of_mem c hx)
  rw [List.length_cons] at hl ⊢
  have h4 := hx_e8_4 h (by rw [List.length_cons]; omega)
  rw [nI_pred, show (3 : Int32) * nI t.length = nI (3 * t.length) from pk_mul 3 t.length, hx_ushr (by omega) (by omega), pk_andN (Nat.lt_of_le_of_lt (Nat.div_le_self _ _) (by omega)) 3 (by decide)]
  apply congrArg nI
  show (hx_e8 t + c * 2 ^ (3 * t.length)) / 2 ^ (3 * t.length) % 8 = c
  rw [Nat.add_mul_div_right _ _ (Nat.two_pow_pos _), Nat.div_eq_of_lt (hx_e8_lt h')]
  omega
theorem hx_drop {c : Nat} {t : List Nat} (h : ∀ x, x ∈ c :: t → 1 ≤ x ∧ x ≤ 3) (hl : (c :: t).length ≤ 4) : nI (hx_e8 (c :: t)) &&& (((1 : Int32) <<< ((3 * nI t.length) &&& 31)) - 1) = nI (hx_e8 t) := by
  have h' := fun x hx => h x (List.mem_cons_of_mem c hx)
  rw [List.length_cons] at hl
  have hp := hx_pw (l := t.length) (by omega)
  rw [show (3 : Int32) * nI t.length = nI (3 * t.length) from pk_mul 3 t.length, show (1 : Int32) <<< (nI (3 * t.length) &&& 31) = nI (1 * 2 ^ (3 * t.length)) from hx_shl (n := 1) (by omega) (by omega), Nat.one_mul,
    show nI (2 ^ (3 * t.length)) - 1 = nI (2 ^ (3 * t.length) - 1) from pk_sub (b := 1) Nat.one_le_two_pow, nx_and, Nat.and_two_pow_sub_one_eq_mod]
  apply congrArg nI
  show (hx_e8 t + c * 2 ^ (3 * t.length)) % 2 ^ (3 * t.length) = hx_e8 t
  rw [Nat.add_mul_mod_self_right, Nat.mod_eq_of_lt (hx_e8_lt h')]
theorem hx_grow {c : Nat} {t : List Nat} (hc : c < 8) (h : ∀ x, x ∈ t → 1 ≤ x ∧ x ≤ 3) (hl : t.length ≤ 4) : nI (hx_e8 t) ||| (nI c <<< ((3 * nI t.length) &&& 31)) = nI (hx_e8 (c :: t)) := by
  have hp := hx_pw hl
  have : c * 2 ^ (3 * t.length) ≤ 8 * 4096 := Nat.mul_le_mul (by omega) hp
  rw [show (3 : Int32) * nI t.length = nI (3 * t.length) from pk_mul 3 t.length, hx_shl (by omega) (by omega), hx_or]
  apply congrArg nI
  show _ = hx_e8 t + c * 2 ^ (3 * t.length)
  rw [hx_addor (hx_e8_lt h)]
def hx_lo (A : List Nat × Nat × Nat) : Nat := A.2.1 + 8 * A.2.2
def hx_pk (A : List Nat × Nat × Nat) : Nat := (hx_e8 A.1 + hx_lo A * 2 ^ 12) + A.1.length * 2 ^ 24
theorem hx_lo_lt {A : List Nat × Nat × Nat} (h : hs_wA A) : hx_lo A < 64 := by
  have a := h.2.2.1; have b := h.2.2.2
  unfold hx_lo; omega
theorem hx_pk_lt {A : List Nat × Nat × Nat} (h : hs_wA A) : hx_e8 A.1 < 4096 ∧ hx_lo A < 64 ∧ A.1.length ≤ 4 ∧ hx_pk A < 2 ^ 27 := by
  have a := hx_e8_4 h.2.1 h.1
  have b := hx_lo_lt h
  have c := h.1
  refine ⟨a, b, c, ?_⟩
  unfold hx_pk; omega
theorem hx_now {A : List Nat × Nat × Nat} (h : hs_wA A) : ((nI A.1.length <<< ((24 : Int32) &&& 31)) ||| (nI (hx_lo A) <<< ((12 : Int32) &&& 31))) ||| nI (hx_e8 A.1) = nI (hx_pk A) := by
  obtain ⟨a, b, c, _⟩ := hx_pk_lt h
  rw [show nI A.1.length <<< ((24 : Int32) &&& 31) = nI (A.1.length * 2 ^ 24) from hx_shl (k := 24) (by omega) (by omega), show nI (hx_lo A) <<< ((12 : Int32) &&& 31) = nI (hx_lo A * 2 ^ 12) from hx_shl (k := 12) (by omega) (by omega), hx_or, hx_or]
  apply congrArg nI
  unfold hx_pk
  rw [hx_addor (show hx_e8 A.1 + hx_lo A * 2 ^ 12 < 2 ^ 24 by omega), hx_addor (show hx_e8 A.1 < 2 ^ 12 by omega), Nat.or_comm, Nat.or_comm (A.1.length * 2 ^ 24), Nat.or_assoc]
theorem hx_un {A : List Nat × Nat × Nat} (h : hs_wA A) : ((nI (hx_pk A)).toUInt32 >>> ((24 : Int32).toUInt32 &&& Int32.toUInt32 31)).toInt32 = nI A.1.length ∧ (((nI (hx_pk A)).toUInt32 >>> ((12 : Int32).toUInt32 &&& Int32.toUInt32 31)).toInt32) &&& 63 = nI (hx_lo A) ∧ nI (hx_pk A) &&& 4095 = nI (hx_e8 A.1) := by
  obtain ⟨a, b, c, d⟩ := hx_pk_lt h
  refine ⟨?_, ?_, ?_⟩
  · rw [show ((nI (hx_pk A)).toUInt32 >>> ((24 : Int32).toUInt32 &&& Int32.toUInt32 31)).toInt32 = nI (hx_pk A / 2 ^ 24) from hx_ushr (k := 24) (by omega) (by omega)]
    apply congrArg nI; unfold hx_pk; omega
  · rw [show ((nI (hx_pk A)).toUInt32 >>> ((12 : Int32).toUInt32 &&& Int32.toUInt32 31)).toInt32 = nI (hx_pk A / 2 ^ 12) from hx_ushr (k := 12) (by omega) (by omega), pk_andN (by omega) 6 (by decide)]
    apply congrArg nI; unfold hx_pk; omega
  · rw [pk_andN (by omega) 12 (by decide)]
    apply congrArg nI; unfold hx_pk; omega
theorem hx_pk_j {A B : List Nat × Nat × Nat} (h : A.1.length = B.1.length) (hA : hs_wA A) (hB : hs_wA B) : nI (hx_pk A) ||| nI (hx_pk B) = nI (hx_pk (hs_jn A B)) := by
  obtain ⟨a1, a2, a3, _⟩ := hx_pk_lt hA
  obtain ⟨b1, b2, b3, _⟩ := hx_pk_lt hB
  rw [hx_or]
  apply congrArg nI
  unfold hx_pk
  have e3 : hx_lo A ||| hx_lo B = hx_lo (hs_jn A B) := by
    have x1 := hA.2.2.1; have y1 := hB.2.2.1
    have : (A.2.1 + A.2.2 * 2 ^ 3) ||| (B.2.1 + B.2.2 * 2 ^ 3) = (A.2.1 ||| B.2.1) + (A.2.2 ||| B.2.2) * 2 ^ 3 := hx_oror (by omega) (by omega)
    unfold hx_lo hs_jn
    rw [Nat.mul_comm 8, Nat.mul_comm 8, Nat.mul_comm 8]
    exact this
  rw [hx_oror (by omega) (by omega), hx_oror (by omega) (by omega), hx_e8_j h hA.2.1 hB.2.1, e3, ← h, Nat.or_self]
  show _ = _ + (hs_jl A.1 B.1).length * 2 ^ 24
  rw [hs_jl_len h]
  rfl
theorem hx_pk_i {A B : List Nat × Nat × Nat} (hA : hs_wA A) (hB : hs_wA B) (e : hx_pk A = hx_pk B) : A = B := by
  obtain ⟨a1, a2, a3, _⟩ := hx_pk_lt hA
  obtain ⟨b1, b2, b3, _⟩ := hx_pk_lt hB
  have x1 := hA.2.2.1; have y1 := hB.2.2.1
  unfold hx_pk at e
  have hl : A.1.length = B.1.length := by omega
  have he : hx_e8 A.1 = hx_e8 B.1 := by omega
  have ho : hx_lo A = hx_lo B := by omega
  unfold hx_lo at ho
  have h1 := hx_e8_i hl hA.2.1 hB.2.1 he
  have h2 : A.2.1 = B.2.1 := by omega
  have h3 : A.2.2 = B.2.2 := by omega
  obtain ⟨s, l0, l1⟩ := A
  obtain ⟨t, m0, m1⟩ := B
  dsimp only at h1 h2 h3
  rw [h1, h2, h3]
theorem hx_ld0 : ∀ l0, l0 < 8 → ∀ l1, l1 < 8 → (((nI (l0 + 8 * l1)).toUInt32 >>> ((3 * nI 0).toUInt32 &&& Int32.toUInt32 31)).toInt32) &&& 7 = nI l0 := by decide +kernel
theorem hx_ld1 : ∀ l0, l0 < 8 → ∀ l1, l1 < 8 → (((nI (l0 + 8 * l1)).toUInt32 >>> ((3 * nI 1).toUInt32 &&& Int32.toUInt32 31)).toInt32) &&& 7 = nI l1 := by decide +kernel
theorem hx_st0 : ∀ l0, l0 < 8 → ∀ l1, l1 < 8 → ∀ c, c < 8 → (nI (l0 + 8 * l1) &&& (((7 : Int32) <<< ((3 * nI 0) &&& 31)) ^^^ (-1))) ||| (nI c <<< ((3 * nI 0) &&& 31)) = nI (c + 8 * l1) := by decide +kernel
theorem hx_st1 : ∀ l0, l0 < 8 → ∀ l1, l1 < 8 → ∀ c, c < 8 → (nI (l0 + 8 * l1) &&& (((7 : Int32) <<< ((3 * nI 1) &&& 31)) ^^^ (-1))) ||| (nI c <<< ((3 * nI 1) &&& 31)) = nI (l0 + 8 * c) := by decide +kernel
theorem hx_ld {A : List Nat × Nat × Nat} (h : hs_wA A) {b : Nat} (hb : b < 2) : (((nI (hx_lo A)).toUInt32 >>> ((3 * nI b).toUInt32 &&& Int32.toUInt32 31)).toInt32) &&& 7 = nI (hs_loc b A) := by
  have a := h.2.2.1; have c := h.2.2.2
  have : b = 0 ∨ b = 1 := by omega
  rcases this with rfl | rfl
  · exact hx_ld0 A.2.1 (by omega) A.2.2 (by omega)
  · exact hx_ld1 A.2.1 (by omega) A.2.2 (by omega)
theorem hx_st {A : List Nat × Nat × Nat} (h : hs_wA A) {b c : Nat} (hb : b < 2) (hc : c < 8) (s : List Nat) : (nI (hx_lo A) &&& (((7 : Int32) <<< ((3 * nI b) &&& 31)) ^^^ (-1))) ||| (nI c <<< ((3 * nI b) &&& 31)) = nI (hx_lo (s, if b = 0 then (c, A.2.2) else (A.2.1, c))) := by
  have a := h.2.2.1; have d := h.2.2.2
  have : b = 0 ∨ b = 1 := by omega
  rcases this with rfl | rfl
  · exact hx_st0 A.2.1 (by omega) A.2.2 (by omega) c hc
  · exact hx_st1 A.2.1 (by omega) A.2.2 (by omega) c hc
end
section
/-! ===== X: takes, adds, grow, drop, effect ===== -/
def hx_tl (op : Nat) : List Nat := match op with
  | 2 => [3]
  | 3 => [1, 1]
  | 4 => [1, 1]
  | 5 => [1, 1]
  | 6 => [1, 1]
  | 8 => [1]
  | 10 => [2]
  | 11 => [1]
  | 12 => [1, 2]
  | 13 => [1, 1, 2]
  | 14 => [2]
  | 15 => [2]
  | 18 => [1]
  | 19 => [1]
  | 21 => [3]
  | _ => []
def hx_pe : List Nat → Nat
  | [] => 0
  | w :: ws => w + 4 * hx_pe ws
def hx_ad (op : Nat) : Nat := match op with
  | 0 => 1
  | 3 => 1
  | 4 => 1
  | 5 => 1
  | 6 => 1
  | 9 => 2
  | 11 => 2
  | 12 => 1
  | 15 => 1
  | 16 => 2
  | 17 => 2
  | 18 => 1
  | _ => 0
theorem hx_25 {op : Nat} (h : op ≤ 24) : op = 0 ∨ op = 1 ∨ op = 2 ∨ op = 3 ∨ op = 4 ∨ op = 5 ∨ op = 6 ∨ op = 7 ∨ op = 8 ∨ op = 9 ∨ op = 10 ∨ op = 11 ∨ op = 12 ∨ op = 13 ∨ op = 14 ∨ op = 15 ∨ op = 16 ∨ op = 17 ∨ op = 18 ∨ op = 19 ∨ op = 20 ∨ op = 21 ∨ op = 22 ∨ op = 23 ∨ op = 24 := by omega
theorem hx_takes {post : Int32 → Prop} {op : Nat} (h : op ≤ 24) (hp : post (nI (hx_pe (hx_tl op)))) : wpX_takes post (nI op) := by
  unfold wpX_takes
  rcases hx_25 h with rfl | rfl | rfl | rfl | rfl | rfl | rfl | rfl | rfl | rfl | rfl | rfl | rfl | rfl | rfl | rfl | rfl | rfl | rfl | rfl | rfl | rfl | rfl | rfl | rfl
  all_goals
    repeat (first | refine br_t (by decide) ?_ | refine br_f (by decide) ?_)
    exact hp
theorem hx_adds {post : Int32 → Prop} {op : Nat} (h : op ≤ 24) (hp : post (nI (hx_ad op))) : wpX_adds post (nI op) := by
  unfold wpX_adds
  rcases hx_25 h with rfl | rfl | rfl | rfl | rfl | rfl | rfl | rfl | rfl | rfl | rfl | rfl | rfl | rfl | rfl | rfl | rfl | rfl | rfl | rfl | rfl | rfl | rfl | rfl | rfl
  all_goals
    repeat (first | refine br_t (by decide) ?_ | refine br_f (by decide) ?_)
    exact hp
theorem hx_prE {op b : Nat} (h : op ≤ 24) (h1 : op ≠ 1) (h2 : op ≠ 2) (h20 : op ≠ 20) : hs_pr op b = (hx_tl op).map hs_tk ++ (if hx_ad op = 0 then [] else [hs_ps (hx_ad op)]) := by
  rcases hx_25 h with rfl | rfl | rfl | rfl | rfl | rfl | rfl | rfl | rfl | rfl | rfl | rfl | rfl | rfl | rfl | rfl | rfl | rfl | rfl | rfl | rfl | rfl | rfl | rfl | rfl
  all_goals first | rfl | exact absurd rfl h1 | exact absurd rfl h2 | exact absurd rfl h20
theorem hx_tlw {op : Nat} (h : op ≤ 24) : (∀ w, w ∈ hx_tl op → w = 1 ∨ w = 2 ∨ w = 3) ∧ (hx_tl op).length ≤ 3 := by
  rcases hx_25 h with rfl | rfl | rfl | rfl | rfl | rfl | rfl | rfl | rfl | rfl | rfl | rfl | rfl | rfl | rfl | rfl | rfl | rfl | rfl | rfl | rfl | rfl | rfl | rfl | rfl
  all_goals exact ⟨by simp [hx_tl], by decide⟩
theorem hx_adw {op : Nat} (h : op ≤ 24) : hx_ad op ≤ 2 := by
  rcases hx_25 h with rfl | rfl | rfl | rfl | rfl | rfl | rfl | rfl | rfl | rfl | rfl | rfl | rfl | rfl | rfl | rfl | rfl | rfl | rfl | rfl | rfl | rfl | rfl | rfl | rfl
  all_goals decide
theorem hx_sqa : ∀ (l1 l2 : List (List Nat × Nat × Nat → Option (List Nat × Nat × Nat))) (A : List Nat × Nat × Nat), hs_sq (l1 ++ l2) A = match hs_sq l1 A with
    | none => none
    | some C => hs_sq l2 C
  | [], l2, A => rfl
  | g :: gs, l2, A => by
    show (match g A with
      | none => none
      | some B => hs_sq (gs ++ l2) B) = _
    show _ = match (match g A with
      | none => none
      | some B => hs_sq gs B) with
      | none => none
      | some C => hs_sq l2 C
    cases g A with
    | none => rfl
    | some B => exact hx_sqa gs l2 B
section
variable {f_limit f_pending f_wide f_waiting f_height f_entries f_locals f_logLength f_open f_awaited f_frames f_sp f_base f_pc f_method f_steps f_status f_lastResult f_lastPlace : Int32} {a_ops a_args a_quick a_length a_exported a_known a_alive a_fresh a_lasting a_shared a_owner a_size a_element a_roots a_logCell a_logOld a_logged a_slot a_frameMethod a_framePc : Nat → Int32}
theorem hx_growW {post : Int32 → SX → Prop} {A : List Nat × Nat × Nat} {c : Nat} (hA : hs_wA A) (hc : c < 8) (H1 : ∀ B, hs_ps c A = some B → post 1 (f_limit, f_pending, f_wide, f_waiting, nI B.1.length, nI (hx_e8 B.1), nI (hx_lo B), f_logLength, f_open, f_awaited, f_frames, f_sp, f_base, f_pc, f_method, f_steps, f_status, f_lastResult, f_lastPlace, a_ops, a_args, a_quick, a_length, a_exported, a_known, a_alive, a_fresh, a_lasting, a_shared, a_owner, a_size, a_element, a_roots, a_logCell, a_logOld, a_logged, a_slot, a_frameMethod, a_framePc)) (H0 : hs_ps c A = none → post 0 (f_limit, f_pending, f_wide, f_waiting, nI A.1.length, nI (hx_e8 A.1), nI (hx_lo A), f_logLength, f_open, f_awaited, f_frames, f_sp, f_base, f_pc, f_method, f_steps, f_status, f_lastResult, f_lastPlace, a_ops, a_args, a_quick, a_length, a_exported, a_known, a_alive, a_fresh, a_lasting, a_shared, a_owner, a_size, a_element, a_roots, a_logCell, a_logOld, a_logged, a_slot, a_frameMethod, a_framePc)) :
    wpX_grow post (f_limit, f_pending, f_wide, f_waiting, nI A.1.length, nI (hx_e8 A.1), nI (hx_lo A), f_logLength, f_open, f_awaited, f_frames, f_sp, f_base, f_pc, f_method, f_steps, f_status, f_lastResult, f_lastPlace, a_ops, a_args, a_quick, a_length, a_exported, a_known, a_alive, a_fresh, a_lasting, a_shared, a_owner, a_size, a_element, a_roots, a_logCell, a_logOld, a_logged, a_slot, a_frameMethod, a_framePc) (nI c) := by
  have h4 := hA.1
  unfold wpX_grow hs_ps at *
  refine pk_eq A.1.length 4 (fun e => ?_) (fun e => ?_)
  · rw [if_pos e] at H0; exact H0 rfl
  · rw [if_neg e] at H1
    have := H1 _ rfl
    refine nm_r (nI_1 _) (nm_r (hx_grow hc hA.2.1 h4) this)
theorem hx_t1 {post : Int32 → SX → Prop} {x1 x2 x3 : Int32} {A : List Nat × Nat × Nat} {w rest n : Nat} (hA : hs_wA A) (hw : w = 1 ∨ w = 2 ∨ w = 3) (hr : rest < 100)
    (H1 : ∀ B, hs_tk w A = some B → wX_effect_22 post x1 x2 x3 n (nI rest) f_limit f_pending f_wide f_waiting (nI B.1.length) (nI (hx_e8 B.1)) (nI (hx_lo B)) f_logLength f_open f_awaited f_frames f_sp f_base f_pc f_method f_steps f_status f_lastResult f_lastPlace a_ops a_args a_quick a_length a_exported a_known a_alive a_fresh a_lasting a_shared a_owner a_size a_element a_roots a_logCell a_logOld a_logged a_slot a_frameMethod a_framePc)
    (H0 : hs_tk w A = none → post 0 (f_limit, f_pending, f_wide, f_waiting, nI A.1.length, nI (hx_e8 A.1), nI (hx_lo A), f_logLength, f_open, f_awaited, f_frames, f_sp, f_base, f_pc, f_method, f_steps, f_status, f_lastResult, f_lastPlace, a_ops, a_args, a_quick, a_length, a_exported, a_known, a_alive, a_fresh, a_lasting, a_shared, a_owner, a_size, a_element, a_roots, a_logCell, a_logOld, a_logged, a_slot, a_frameMethod, a_framePc)) :
    wX_effect_22 post x1 x2 x3 (n + 1) (nI (w + 4 * rest)) f_limit f_pending f_wide f_waiting (nI A.1.length) (nI (hx_e8 A.1)) (nI (hx_lo A)) f_logLength f_open f_awaited f_frames f_sp f_base f_pc f_method f_steps f_status f_lastResult f_lastPlace a_ops a_args a_quick a_length a_exported a_known a_alive a_fresh a_lasting a_shared a_owner a_size a_element a_roots a_logCell a_logOld a_logged a_slot a_frameMethod a_framePc := by
  have h4 := hA.1
  rw [wX_effect_22]
  refine br_f (nI_ne0 (by omega) (by omega)) (nm_r (e' := nI w) ?_ ?_)
  · rw [pk_andN (by omega) 2 (by decide)]; exact congrArg nI (by omega)
  · cases eA : A.1 with
    | nil =>
      refine br_t rfl ?_
      have := H0 (by unfold hs_tk; rw [eA])
      rw [eA] at this
      exact this
    | cons c t =>
      have hA1 := hA.2.1
      rw [eA] at hA1 h4
      have hc := hA1 c (List.mem_cons_self ..)
      have hd : hs_tk w A = some (t, A.2) → wX_effect_57 post (wX_effect_22 post x1 x2 x3 n) x1 x2 x3 (nI (w + 4 * rest)) f_limit f_pending f_wide f_waiting (nI (c :: t).length) (nI (hx_e8 (c :: t))) (nI (hx_lo A)) f_logLength f_open f_awaited f_frames f_sp f_base f_pc f_method f_steps f_status f_lastResult f_lastPlace a_ops a_args a_quick a_length a_exported a_known a_alive a_fresh a_lasting a_shared a_owner a_size a_element a_roots a_logCell a_logOld a_logged a_slot a_frameMethod a_framePc := fun e => by
        unfold wX_effect_57 wpX_drop
        refine nm_r (e' := nI t.length) (by rw [List.length_cons, nI_pred]) (nm_r (hx_drop hA1 h4) ?_)
        refine nm_r (e' := nI rest) ?_ (H1 _ e)
        rw [show ((nI (w + 4 * rest)).toUInt32 >>> ((2 : Int32).toUInt32 &&& Int32.toUInt32 31)).toInt32 = nI ((w + 4 * rest) / 2 ^ 2) from hx_ushr (k := 2) (by omega) (by omega)]
        exact congrArg nI (by omega)
      refine br_f (nI_ne0 (Nat.succ_pos _) (by rw [List.length_cons] at *; omega)) ?_
      refine pk_eq w 3 (fun e => ?_) (fun e => ?_)
      · exact hd (by unfold hs_tk; rw [eA]; exact if_pos (Or.inl e))
      · unfold wpX_top
        show (_ = nI w → _) ∧ (¬ _ = nI w → _)
        rw [hx_top hA1 h4]
        refine pk_eq c w (fun ec => ?_) (fun ec => ?_)
        · exact hd (by unfold hs_tk; rw [eA]; exact if_pos (Or.inr ec))
        · have := H0 (by unfold hs_tk; rw [eA]; exact if_neg (by omega))
          rw [eA] at this
          exact this
theorem hx_tN {post : Int32 → SX → Prop} {x1 x2 x3 : Int32} : ∀ (ws : List Nat) (n : Nat) (A : List Nat × Nat × Nat), hs_wA A → (∀ w, w ∈ ws → w = 1 ∨ w = 2 ∨ w = 3) → hx_pe ws < 400 →
    (∀ C, hs_sq (ws.map hs_tk) A = some C → wX_effect_22 post x1 x2 x3 n (nI 0) f_limit f_pending f_wide f_waiting (nI C.1.length) (nI (hx_e8 C.1)) (nI (hx_lo C)) f_logLength f_open f_awaited f_frames f_sp f_base f_pc f_method f_steps f_status f_lastResult f_lastPlace a_ops a_args a_quick a_length a_exported a_known a_alive a_fresh a_lasting a_shared a_owner a_size a_element a_roots a_logCell a_logOld a_logged a_slot a_frameMethod a_framePc) →
    (hs_sq (ws.map hs_tk) A = none → ∀ he en lo, post 0 (f_limit, f_pending, f_wide, f_waiting, he, en, lo, f_logLength, f_open, f_awaited, f_frames, f_sp, f_base, f_pc, f_method, f_steps, f_status, f_lastResult, f_lastPlace, a_ops, a_args, a_quick, a_length, a_exported, a_known, a_alive, a_fresh, a_lasting, a_shared, a_owner, a_size, a_element, a_roots, a_logCell, a_logOld, a_logged, a_slot, a_frameMethod, a_framePc)) →
    wX_effect_22 post x1 x2 x3 (n + ws.length) (nI (hx_pe ws)) f_limit f_pending f_wide f_waiting (nI A.1.length) (nI (hx_e8 A.1)) (nI (hx_lo A)) f_logLength f_open f_awaited f_frames f_sp f_base f_pc f_method f_steps f_status f_lastResult f_lastPlace a_ops a_args a_quick a_length a_exported a_known a_alive a_fresh a_lasting a_shared a_owner a_size a_element a_roots a_logCell a_logOld a_logged a_slot a_frameMethod a_framePc
  | [], n, A, _, _, _, H1, _ => H1 A rfl
  | w :: ws, n, A, hA, hw, hp, H1, H0 => by
    have hp' : w + 4 * hx_pe ws < 400 := hp
    show wX_effect_22 post x1 x2 x3 ((n + ws.length) + 1) (nI (w + 4 * hx_pe ws)) f_limit f_pending f_wide f_waiting (nI A.1.length) (nI (hx_e8 A.1)) (nI (hx_lo A)) f_logLength f_open f_awaited f_frames f_sp f_base f_pc f_method f_steps f_status f_lastResult f_lastPlace a_ops a_args a_quick a_length a_exported a_known a_alive a_fresh a_lasting a_shared a_owner a_size a_element a_roots a_logCell a_logOld a_logged a_slot a_frameMethod a_framePc
    refine hx_t1 hA (hw w (List.mem_cons_self ..)) (by omega) (fun B e => ?_) (fun e => ?_)
    · refine hx_tN ws n B ((hs_tk_k w A B e).2 hA) (fun w' h' => hw w' (List.mem_cons_of_mem _ h')) (by omega) (fun C eC => H1 C ?_) (fun eC => H0 ?_)
      · show (match hs_tk w A with
          | none => none
          | some B => hs_sq (ws.map hs_tk) B) = some C
        rw [e]; exact eC
      · show (match hs_tk w A with
          | none => none
          | some B => hs_sq (ws.map hs_tk) B) = none
        rw [e]; exact eC
    · refine H0 ?_ _ _ _
      show (match hs_tk w A with
          | none => none
          | some B => hs_sq (ws.map hs_tk) B) = none
      rw [e]
/-- behind the takes: 98 for an instruction that isn't 1, 2, 20 -/
theorem hx_98 {post : Int32 → SX → Prop} {op : Nat} {x2 x3 : Int32} {C : List Nat × Nat × Nat} (hop : op ≤ 24) (h1 : op ≠ 1) (h20 : op ≠ 20) (hC : hs_wA C)
    (H1 : ∀ B, hs_sq (if hx_ad op = 0 then [] else [hs_ps (hx_ad op)]) C = some B → post 1 (f_limit, f_pending, f_wide, f_waiting, nI B.1.length, nI (hx_e8 B.1), nI (hx_lo B), f_logLength, f_open, f_awaited, f_frames, f_sp, f_base, f_pc, f_method, f_steps, f_status, f_lastResult, f_lastPlace, a_ops, a_args, a_quick, a_length, a_exported, a_known, a_alive, a_fresh, a_lasting, a_shared, a_owner, a_size, a_element, a_roots, a_logCell, a_logOld, a_logged, a_slot, a_frameMethod, a_framePc))
    (H0 : hs_sq (if hx_ad op = 0 then [] else [hs_ps (hx_ad op)]) C = none → ∀ he en lo, post 0 (f_limit, f_pending, f_wide, f_waiting, he, en, lo, f_logLength, f_open, f_awaited, f_frames, f_sp, f_base, f_pc, f_method, f_steps, f_status, f_lastResult, f_lastPlace, a_ops, a_args, a_quick, a_length, a_exported, a_known, a_alive, a_fresh, a_lasting, a_shared, a_owner, a_size, a_element, a_roots, a_logCell, a_logOld, a_logged, a_slot, a_frameMethod, a_framePc)) :
    wX_effect_98 post (nI op) x2 x3 f_limit f_pending f_wide f_waiting (nI C.1.length) (nI (hx_e8 C.1)) (nI (hx_lo C)) f_logLength f_open f_awaited f_frames f_sp f_base f_pc f_method f_steps f_status f_lastResult f_lastPlace a_ops a_args a_quick a_length a_exported a_known a_alive a_fresh a_lasting a_shared a_owner a_size a_element a_roots a_logCell a_logOld a_logged a_slot a_frameMethod a_framePc := by
  have had := hx_adw hop
  unfold wX_effect_98
  refine br_f (fun e => h1 ((nI_eq (a := op) (b := 1) (by omega) (by omega)).mp e)) (br_f (fun e => h20 ((nI_eq (a := op) (b := 20) (by omega) (by omega)).mp e)) (hx_adds hop ?_))
  refine pk_eq (hx_ad op) 0 (fun e => ?_) (fun e => ?_)
  · rw [if_pos e] at H1; exact H1 C rfl
  · rw [if_neg e] at H1 H0
    refine hx_growW hC (by omega) (fun B e => ?_) (fun e => ?_)
    · refine br_f (by decide) (H1 B ?_)
      show (match hs_ps (hx_ad op) C with
        | none => none
        | some B => hs_sq [] B) = some B
      rw [e]; rfl
    · refine br_t rfl (H0 ?_ _ _ _)
      show (match hs_ps (hx_ad op) C with
        | none => none
        | some B => hs_sq [] B) = none
      rw [e]
theorem hx_eff15 {post : Int32 → SX → Prop} {op b : Nat} {p1 : Int32} {A : List Nat × Nat × Nat} (hA : hs_wA A) (hop : op ≤ 24) (hb : (op = 1 ∨ op = 2) → b < 2 ∧ p1 = nI b)
    (H1 : ∀ B, hs_ef op b A = some B → post 1 (f_limit, f_pending, f_wide, f_waiting, nI B.1.length, nI (hx_e8 B.1), nI (hx_lo B), f_logLength, f_open, f_awaited, f_frames, f_sp, f_base, f_pc, f_method, f_steps, f_status, f_lastResult, f_lastPlace, a_ops, a_args, a_quick, a_length, a_exported, a_known, a_alive, a_fresh, a_lasting, a_shared, a_owner, a_size, a_element, a_roots, a_logCell, a_logOld, a_logged, a_slot, a_frameMethod, a_framePc))
    (H0 : hs_ef op b A = none → ∀ he en lo, post 0 (f_limit, f_pending, f_wide, f_waiting, he, en, lo, f_logLength, f_open, f_awaited, f_frames, f_sp, f_base, f_pc, f_method, f_steps, f_status, f_lastResult, f_lastPlace, a_ops, a_args, a_quick, a_length, a_exported, a_known, a_alive, a_fresh, a_lasting, a_shared, a_owner, a_size, a_element, a_roots, a_logCell, a_logOld, a_logged, a_slot, a_frameMethod, a_framePc)) :
    wX_effect_15 post (nI op) p1 (nI (hs_at A.1 0)) f_limit f_pending f_wide f_waiting (nI A.1.length) (nI (hx_e8 A.1)) (nI (hx_lo A)) f_logLength f_open f_awaited f_frames f_sp f_base f_pc f_method f_steps f_status f_lastResult f_lastPlace a_ops a_args a_quick a_length a_exported a_known a_alive a_fresh a_lasting a_shared a_owner a_size a_element a_roots a_logCell a_logOld a_logged a_slot a_frameMethod a_framePc := by
  unfold wX_effect_15
  have htl := hx_tlw hop
  refine hx_takes hop ?_
  have hpe : hx_pe (hx_tl op) < 400 := by
    rcases hx_25 hop with rfl | rfl | rfl | rfl | rfl | rfl | rfl | rfl | rfl | rfl | rfl | rfl | rfl | rfl | rfl | rfl | rfl | rfl | rfl | rfl | rfl | rfl | rfl | rfl | rfl
    all_goals decide
  by_cases z1 : op = 1
  · subst z1
    obtain ⟨hb2, rfl⟩ := hb (Or.inl rfl)
    have hlA := hs_locA hA b
    refine ⟨1, ?_⟩
    show wX_effect_22 post (nI 1) (nI b) (nI (hs_at A.1 0)) (0 + 1) (nI 0) _ _ _ _ _ _ _ _ _ _ _ _ _ _ _ _ _ _ _ _ _ _ _ _ _ _ _ _ _ _ _ _ _ _ _ _ _ _ _
    rw [wX_effect_22]
    refine br_t rfl (br_f (by decide) ?_)
    unfold wX_effect_98
    refine br_t rfl (nm_r (hx_ld hA hb2) ?_)
    have ee : hs_ef 1 b A = hs_ld b A := by
      show (match hs_ld b A with
        | none => none
        | some B => hs_sq [] B) = _
      cases hs_ld b A <;> rfl
    rw [ee] at H1 H0
    unfold hs_ld at H1 H0
    have e4 : nI (hs_loc b A) &&& 4 = nI (hs_loc b A &&& 4) := nx_and _ 4
    have hle : hs_loc b A &&& 4 ≤ 4 := Nat.and_le_right
    refine pk_eq (hs_loc b A &&& 4) 0 (fun e => ?_) (fun e => ?_) e4 rfl
    · rw [if_pos e] at H1 H0
      refine hx_growW hA (by omega) (fun B e => br_f (by decide) (H1 B e)) (fun e => br_t rfl (H0 e _ _ _))
    · rw [if_neg e] at H0
      exact H0 rfl _ _ _
  by_cases z2 : op = 2
  · subst z2
    obtain ⟨hb2, rfl⟩ := hb (Or.inr rfl)
    refine ⟨1 + [3].length, hx_tN [3] 1 A hA (by simp) (by decide) (fun C e => ?_) (fun e => ?_)⟩
    · rw [wX_effect_22]
      refine br_t rfl (br_t rfl ?_)
      have e3 : hs_tk 3 A = some C := by
        have e' : (match hs_tk 3 A with
          | none => none
          | some B => hs_sq [] B) = some C := e
        cases q : hs_tk 3 A with
        | none => rw [q] at e'; cases e'
        | some B => rw [q] at e'; exact e'
      obtain ⟨c, eA, _, eC⟩ := hs_tk_s e3
      have hc := hA.2.1 c (by rw [eA]; exact List.mem_cons_self ..)
      have hCw := (hs_tk_k 3 A C e3).2 hA
      have elo : hx_lo C = hx_lo A := by unfold hx_lo; rw [eC]
      have hs : hs_sto b A = some (C.1, if b = 0 then (c, A.2.2) else (A.2.1, c)) := by
        unfold hs_sto; rw [eA]
      have hBw := (hs_sto_k b A _ hs).2 hA
      have eat : hs_at A.1 0 = c := by rw [eA]; rfl
      rw [elo, eat]
      refine nm_r (hx_st hA hb2 (by omega) C.1) ?_
      refine hx_98 (C := (C.1, if b = 0 then (c, A.2.2) else (A.2.1, c))) hop z1 (by decide) hBw (fun B e => H1 B ?_) (fun e => by cases e)
      show (match hs_sto b A with
        | none => none
        | some B => hs_sq [] B) = some B
      rw [hs]; exact e
    · refine H0 ?_
      show (match hs_sto b A with
        | none => none
        | some B => hs_sq [] B) = none
      have e' : (match hs_tk 3 A with
          | none => none
          | some B => hs_sq [] B) = none := e
      cases q : A.1 with
      | nil => unfold hs_sto; rw [q]
      | cons c t =>
        have : hs_tk 3 A = some (t, A.2) := by unfold hs_tk; rw [q]; exact if_pos (Or.inl rfl)
        rw [this] at e'; cases e'
  by_cases z20 : op = 20
  · subst z20
    refine ⟨1, ?_⟩
    show wX_effect_22 post (nI 20) p1 (nI (hs_at A.1 0)) (0 + 1) (nI 0) _ _ _ _ _ _ _ _ _ _ _ _ _ _ _ _ _ _ _ _ _ _ _ _ _ _ _ _ _ _ _ _ _ _ _ _ _ _ _
    rw [wX_effect_22]
    refine br_t rfl (br_f (by decide) ?_)
    unfold wX_effect_98
    refine br_f (by decide) (br_t rfl ?_)
    have ee : hs_ef 20 b A = hs_dup A := by
      show (match hs_dup A with
        | none => none
        | some B => hs_sq [] B) = _
      cases hs_dup A <;> rfl
    rw [ee] at H1 H0
    cases eA : A.1 with
    | nil =>
      have : hs_dup A = none := by unfold hs_dup; rw [eA]
      refine br_t rfl (H0 this _ _ _)
    | cons c t =>
      have hc := hA.2.1 c (by rw [eA]; exact List.mem_cons_self ..)
      have : hs_dup A = hs_ps c A := by unfold hs_dup; rw [eA]
      rw [this] at H1 H0
      refine br_f (nI_ne0 (n := c) (by omega) (by omega)) ?_
      have eat : hs_at A.1 0 = c := by rw [eA]; rfl
      rw [← eA, eat]
      exact hx_growW hA (by omega) (fun B e => br_f (by decide) (H1 B e)) (fun e => br_t rfl (H0 e _ _ _))
  · have hpr := hx_prE (b := b) hop z1 z2 z20
    have hE : hs_ef op b A = match hs_sq ((hx_tl op).map hs_tk) A with
        | none => none
        | some C => hs_sq (if hx_ad op = 0 then [] else [hs_ps (hx_ad op)]) C := by
      unfold hs_ef; rw [hpr]; exact hx_sqa _ _ _
    refine ⟨1 + (hx_tl op).length, hx_tN (hx_tl op) 1 A hA htl.1 hpe (fun C e => ?_) (fun e => H0 (by rw [hE, e]))⟩
    rw [wX_effect_22]
    refine br_t rfl (br_f (fun e => z2 ((nI_eq (a := op) (b := 2) (by omega) (by omega)).mp e)) ?_)
    have hC : hs_wA C := (hs_sq_k (fun g hg => by
      obtain ⟨w, _, rfl⟩ := List.mem_map.mp hg
      exact hs_tk_k w) A C e).2 hA
    rw [hE, e] at H1 H0
    exact hx_98 hop z1 z20 hC H1 H0
theorem hx_effect {post : Int32 → SX → Prop} {op b : Nat} {p1 : Int32} {A : List Nat × Nat × Nat} (hA : hs_wA A) (hop : op ≤ 24) (hb : (op = 1 ∨ op = 2) → b < 2 ∧ p1 = nI b)
    (H1 : ∀ B, hs_ef op b A = some B → post 1 (f_limit, f_pending, f_wide, f_waiting, nI B.1.length, nI (hx_e8 B.1), nI (hx_lo B), f_logLength, f_open, f_awaited, f_frames, f_sp, f_base, f_pc, f_method, f_steps, f_status, f_lastResult, f_lastPlace, a_ops, a_args, a_quick, a_length, a_exported, a_known, a_alive, a_fresh, a_lasting, a_shared, a_owner, a_size, a_element, a_roots, a_logCell, a_logOld, a_logged, a_slot, a_frameMethod, a_framePc))
    (H0 : hs_ef op b A = none → ∀ he en lo, post 0 (f_limit, f_pending, f_wide, f_waiting, he, en, lo, f_logLength, f_open, f_awaited, f_frames, f_sp, f_base, f_pc, f_method, f_steps, f_status, f_lastResult, f_lastPlace, a_ops, a_args, a_quick, a_length, a_exported, a_known, a_alive, a_fresh, a_lasting, a_shared, a_owner, a_size, a_element, a_roots, a_logCell, a_logOld, a_logged, a_slot, a_frameMethod, a_framePc)) :
    wpX_effect post (f_limit, f_pending, f_wide, f_waiting, nI A.1.length, nI (hx_e8 A.1), nI (hx_lo A), f_logLength, f_open, f_awaited, f_frames, f_sp, f_base, f_pc, f_method, f_steps, f_status, f_lastResult, f_lastPlace, a_ops, a_args, a_quick, a_length, a_exported, a_known, a_alive, a_fresh, a_lasting, a_shared, a_owner, a_size, a_element, a_roots, a_logCell, a_logOld, a_logged, a_slot, a_frameMethod, a_framePc) (nI op) p1 := by
  have key := hx_eff15 (p1 := p1) hA hop hb H1 H0
  have h4 := hA.1
  unfold wpX_effect
  refine pk_le A.1.length 0 (fun e => ?_) (fun e => ?_)
  · have : A.1 = [] := List.eq_nil_of_length_eq_zero (by omega)
    have e0 : hs_at A.1 0 = 0 := by rw [this]; rfl
    rw [e0] at key
    exact key
  · unfold wpX_top
    cases eA : A.1 with
    | nil => rw [eA] at e; exact absurd e (by decide)
    | cons c t =>
      have hA1 := hA.2.1
      rw [eA] at hA1 h4 key
      show wX_effect_15 post (nI op) p1 _ _ _ _ _ _ _ _ _ _ _ _ _ _ _ _ _ _ _ _ _ _ _ _ _ _ _ _ _ _ _ _ _ _ _ _ _ _ _ _
      rw [hx_top hA1 h4]
      exact key
end
end
section
/-! ===== X: arrive, good ===== -/
theorem hx_b1 : ∀ i, i < 32 → bt 1 i = decide (i = 0) := by decide +kernel
theorem hx_bs {k : Nat} (hk : k < 32) (i : Nat) : bt ((1 : Int32) <<< (nI k &&& 31)) i = decide (i = k) := by
  rcases Nat.lt_or_ge i 32 with h | h
  · rw [b_shl k hk 1 h]
    rcases Nat.lt_or_ge i k with z | z
    · rw [decide_eq_false (by omega), decide_eq_false (by omega)]; rfl
    · rw [decide_eq_true z, hx_b1 (i - k) (by omega), Bool.true_and]
      exact decide_eq_decide.mpr (by omega)
  · rw [b_big h, decide_eq_false (by omega)]
theorem hx_bn (x : Int32) {i : Nat} (hi : i < 32) : bt (x ^^^ (-1)) i = !bt x i := by
  rw [b_xor, b_m1 i hi]; cases bt x i <;> rfl
theorem hx_bz (x : Int32) : x &&& 1 = 0 ↔ bt x 0 = false := by
  constructor
  · intro h
    have := congrArg (fun z => bt z 0) h
    simp only [b_and, b_0] at this
    rw [hx_b1 0 (by decide)] at this
    simpa using this
  · intro h
    refine b_ext (fun i hi => ?_)
    rw [b_and, b_0, hx_b1 i hi]
    by_cases z : i = 0
    · subst z; rw [h]; rfl
    · rw [decide_eq_false z, Bool.and_false]
theorem hx_bit (x : Int32) {k : Nat} (hk : k < 32) : ((x.toUInt32 >>> ((nI k).toUInt32 &&& Int32.toUInt32 31)).toInt32 &&& 1) = 0 ↔ bt x k = false := by
  rw [hx_bz, b_ushr k hk, Nat.add_zero]
theorem hx_bzero (x : Int32) : x = 0 ↔ ∀ i, bt x i = false := by
  constructor
  · rintro rfl i; exact b_0 i
  · intro h; exact b_ext (fun i _ => by rw [h i, b_0])
def hx_kv (o : Option (List Nat × Nat × Nat)) : Int32 := match o with
  | none => -1
  | some A => nI (hx_pk A)
def hx_KW (kn : Nat → Option (List Nat × Nat × Nat)) (wt : Nat → Bool) (known : Nat → Int32) (w : Int32) : Prop := (∀ k, k < 16 → known k = hx_kv (kn k)) ∧ ∀ i, bt w i = wt i
theorem hx_KWs {kn : Nat → Option (List Nat × Nat × Nat)} {wt : Nat → Bool} {known : Nat → Int32} {w : Int32} (h : hx_KW kn wt known w) {t : Nat} (ht : t < 16) (A : List Nat × Nat × Nat) : hx_KW (hs_sk kn t A) (hs_sw wt t true) (upd known t (nI (hx_pk A))) (w ||| ((1 : Int32) <<< (nI t &&& 31))) := by
  refine ⟨fun k hk => ?_, fun i => ?_⟩
  · by_cases z : k = t
    · subst z; rw [pk_us, hs_sk_s]; rfl
    · rw [pk_un z, hs_sk_n z]; exact h.1 k hk
  · rw [b_or, hx_bs (by omega), h.2 i]
    by_cases z : i = t
    · subst z; rw [hs_sw_s, decide_eq_true rfl, Bool.or_true]
    · rw [hs_sw_n z, decide_eq_false z, Bool.or_false]
theorem hx_KWo {kn : Nat → Option (List Nat × Nat × Nat)} {wt : Nat → Bool} {known : Nat → Int32} {w : Int32} (h : hx_KW kn wt known w) {t : Nat} (ht : t < 16) : hx_KW kn (hs_sw wt t false) known (w &&& (((1 : Int32) <<< (nI t &&& 31)) ^^^ (-1))) := by
  refine ⟨h.1, fun i => ?_⟩
  rcases Nat.lt_or_ge i 32 with hi | hi
  · rw [b_and, hx_bn _ hi, hx_bs (by omega), h.2 i]
    by_cases z : i = t
    · subst z; rw [hs_sw_s, decide_eq_true rfl]; cases wt i <;> rfl
    · rw [hs_sw_n z, decide_eq_false z]; cases wt i <;> rfl
  · rw [b_big hi, hs_sw_n (by omega), ← h.2 i, b_big hi]
theorem hs_WtU {Q R : List Nat × Nat × Nat → Prop} {B : List Nat × Nat × Nat} (hQ : ∀ A, Q A → R A) (hl : ∀ A B, R A → R B → A.1.length = B.1.length) (hw : ∀ A, R A → hs_w1 A) (W : hs_Wt Q B) : hs_Wt R B := by
  obtain ⟨⟨A0, hA0⟩, hlen, hst, hlo⟩ := W
  refine ⟨⟨A0, hQ A0 hA0⟩, fun A hA => ⟨hw A hA, (hl A A0 hA (hQ A0 hA0)).trans (hlen A0 hA0).2⟩, fun j x h1 h2 h3 => ?_, fun b x h1 h2 => ?_⟩
  · obtain ⟨A, hA, e⟩ := hst j x h1 h2 h3
    exact ⟨A, hQ A hA, e⟩
  · obtain ⟨A, hA, e⟩ := hlo b x h1 h2
    exact ⟨A, hQ A hA, e⟩
section
variable {f_limit f_pending f_wide f_waiting f_height f_entries f_locals f_logLength f_open f_awaited f_frames f_sp f_base f_pc f_method f_steps f_status f_lastResult f_lastPlace : Int32} {a_ops a_args a_quick a_length a_exported a_known a_alive a_fresh a_lasting a_shared a_owner a_size a_element a_roots a_logCell a_logOld a_logged a_slot a_frameMethod a_framePc : Nat → Int32}
theorem hx_arrive {post : Int32 → SX → Prop} {opf bf : Nat → Nat} {n t : Nat} {ex : Nat → Prop} {kn : Nat → Option (List Nat × Nat × Nat)} {wt : Nat → Bool} {known : Nat → Int32} {w : Int32} {A : List Nat × Nat × Nat} (hn : n ≤ 16) (ht : t ≤ 16) (hA : hs_wA A) (hK : hx_KW kn wt known w) (I : hs_I opf bf n ex kn wt) (hW : hs_CK opf bf n → hs_Wt (hs_R opf bf t) A)
    (H1 : ∀ kn' wt' known' w', hx_KW kn' wt' known' w' → hs_I opf bf n ex kn' wt' → hs_up kn wt kn' wt' → (∃ C, kn' t = some C ∧ hs_le A C) → post 1 (f_limit, nI n, f_wide, w', nI A.1.length, nI (hx_e8 A.1), nI (hx_lo A), f_logLength, f_open, f_awaited, f_frames, f_sp, f_base, f_pc, f_method, f_steps, f_status, f_lastResult, f_lastPlace, a_ops, a_args, a_quick, a_length, a_exported, known', a_alive, a_fresh, a_lasting, a_shared, a_owner, a_size, a_element, a_roots, a_logCell, a_logOld, a_logged, a_slot, a_frameMethod, a_framePc))
    (H0 : ¬ hs_CK opf bf n → post 0 (f_limit, nI n, f_wide, w, nI A.1.length, nI (hx_e8 A.1), nI (hx_lo A), f_logLength, f_open, f_awaited, f_frames, f_sp, f_base, f_pc, f_method, f_steps, f_status, f_lastResult, f_lastPlace, a_ops, a_args, a_quick, a_length, a_exported, known, a_alive, a_fresh, a_lasting, a_shared, a_owner, a_size, a_element, a_roots, a_logCell, a_logOld, a_logged, a_slot, a_frameMethod, a_framePc)) :
    wpX_arrive post (f_limit, nI n, f_wide, w, nI A.1.length, nI (hx_e8 A.1), nI (hx_lo A), f_logLength, f_open, f_awaited, f_frames, f_sp, f_base, f_pc, f_method, f_steps, f_status, f_lastResult, f_lastPlace, a_ops, a_args, a_quick, a_length, a_exported, known, a_alive, a_fresh, a_lasting, a_shared, a_owner, a_size, a_element, a_roots, a_logCell, a_logOld, a_logged, a_slot, a_frameMethod, a_framePc) (nI t) := by
  have h4 := hA.1
  unfold wpX_arrive
  refine pk_lt t n (fun htn => ?_) (fun htn => H0 (fun ck => ?_))
  · have hcl : (nI t).toNatClampNeg = t := nI_clamp (by omega)
    refine nm_r (hx_now hA) ⟨vp_in_nI (by omega) (by omega), ?_⟩
    rw [hcl]
    refine nm_r (hK.1 t (by omega)) ?_
    cases e : kn t with
    | none =>
      have hs := hs_set hn I htn hA hW (fun C eC => by rw [e] at eC; cases eC)
      refine br_f (by show ¬ (0 : Int32) ≤ -1; decide) ⟨vp_in_nI (by omega) (by omega), nm_e (nm_e ?_)⟩
      exact H1 _ _ _ _ (hx_KWs hK (by omega) A) hs.1 hs.2 ⟨A, hs_sk_s .., hs_le_i A⟩
    | some B =>
      have hB := (I.1 t B e).2.1
      have hBl := hx_pk_lt hB
      rw [show hx_kv (some B) = nI (hx_pk B) from rfl]
      refine br_t (nI_pos' (by omega)) ?_
      rw [(hx_un hB).1]
      refine pk_eq B.1.length A.1.length (fun el => ?_) (fun el => H0 (fun ck => ?_)) rfl rfl (by have := hB.1; omega) (by omega)
      · rw [hx_pk_j el hB hA]
        have hJ := hs_jn_w el hB hA
        have hJl := hx_pk_lt hJ
        refine pk_eq (hx_pk (hs_jn B A)) (hx_pk B) (fun ej => ?_) (fun ej => ?_) rfl rfl (by omega) (by omega)
        · have ej' := hx_pk_i hJ hB ej
          refine H1 kn wt known w hK I (hs_up_i kn wt) ⟨B, e, ?_⟩
          have := (hs_jn_le el).2
          rw [ej'] at this
          exact this
        · have hne : hs_jn B A ≠ B := fun q => ej (by rw [q])
          have hs := hs_set (A := hs_jn B A) hn I htn hJ (fun ck => hs_Wt_j el hB hA ((I.1 t B e).2.2 ck) (hW ck)) (fun C eC => by
            rw [e] at eC; cases eC
            exact ⟨(hs_jn_le el).1, hs_mz_j el hB hA hne⟩)
          refine ⟨vp_in_nI (by omega) (by omega), nm_e (nm_e ?_)⟩
          exact H1 _ _ _ _ (hx_KWs hK (by omega) _) hs.1 hs.2 ⟨_, hs_sk_s .., (hs_jn_le el).2⟩
      · obtain ⟨⟨A0, hA0⟩, hlA, _⟩ := hW ck
        obtain ⟨_, hlB, _⟩ := (I.1 t B e).2.2 ck
        exact el ((hlB A0 hA0).2.symm.trans (hlA A0 hA0).2)
  · obtain ⟨⟨A0, hA0⟩, _⟩ := hW ck
    have := (ck.1 t A0 hA0).1
    omega
/-- the end of a turn: 200 -/
theorem hx_200 {post : Int32 → SX → Prop} {J : Int32 → Int32 → Int32 → Int32 → Int32 → Int32 → Int32 → Int32 → Int32 → Int32 → Int32 → Int32 → Int32 → Int32 → Int32 → Int32 → Int32 → Int32 → Int32 → Int32 → Int32 → (Nat → Int32) → (Nat → Int32) → (Nat → Int32) → (Nat → Int32) → (Nat → Int32) → (Nat → Int32) → (Nat → Int32) → (Nat → Int32) → (Nat → Int32) → (Nat → Int32) → (Nat → Int32) → (Nat → Int32) → (Nat → Int32) → (Nat → Int32) → (Nat → Int32) → (Nat → Int32) → (Nat → Int32) → (Nat → Int32) → (Nat → Int32) → (Nat → Int32) → Prop}
    {opf bf : Nat → Nat} {n k turn : Nat} {ex : Nat → Prop} {kn : Nat → Option (List Nat × Nat × Nat)} {wt : Nat → Bool} {known : Nat → Int32} {w : Int32} {A : List Nat × Nat × Nat} (hn : n ≤ 16) (hk : k < 16) (hop : opf k ≤ 24) (hA : hs_wA A) (hK : hx_KW kn wt known w) (I : hs_I opf bf n ex kn wt) (hW : hs_CK opf bf n → opf k ≠ 7 → opf k ≠ 19 → hs_Wt (hs_R opf bf (k + 1)) A)
    (H1 : ∀ kn' wt' known' w', hx_KW kn' wt' known' w' → hs_I opf bf n ex kn' wt' → hs_up kn wt kn' wt' → (opf k ≠ 7 → opf k ≠ 19 → ∃ C, kn' (k + 1) = some C ∧ hs_le A C) → J 1 (nI (turn + 1)) f_limit (nI n) f_wide w' (nI A.1.length) (nI (hx_e8 A.1)) (nI (hx_lo A)) f_logLength f_open f_awaited f_frames f_sp f_base f_pc f_method f_steps f_status f_lastResult f_lastPlace a_ops a_args a_quick a_length a_exported known' a_alive a_fresh a_lasting a_shared a_owner a_size a_element a_roots a_logCell a_logOld a_logged a_slot a_frameMethod a_framePc)
    (H0 : ¬ hs_CK opf bf n → ∀ wa he en lo kno, J 0 (nI (turn + 1)) f_limit (nI n) f_wide wa he en lo f_logLength f_open f_awaited f_frames f_sp f_base f_pc f_method f_steps f_status f_lastResult f_lastPlace a_ops a_args a_quick a_length a_exported kno a_alive a_fresh a_lasting a_shared a_owner a_size a_element a_roots a_logCell a_logOld a_logged a_slot a_frameMethod a_framePc) :
    wX_good_200 post J 1 (nI turn) (nI k) (nI (opf k)) f_limit (nI n) f_wide w (nI A.1.length) (nI (hx_e8 A.1)) (nI (hx_lo A)) f_logLength f_open f_awaited f_frames f_sp f_base f_pc f_method f_steps f_status f_lastResult f_lastPlace a_ops a_args a_quick a_length a_exported known a_alive a_fresh a_lasting a_shared a_owner a_size a_element a_roots a_logCell a_logOld a_logged a_slot a_frameMethod a_framePc := by
  unfold wX_good_200
  refine br_f (by decide) (pk_eq (opf k) 7 (fun e => nm_r (nI_1 _) (H1 kn wt known w hK I (hs_up_i kn wt) (fun z _ => absurd e z))) (fun e7 => pk_eq (opf k) 19 (fun e => nm_r (nI_1 _) (H1 kn wt known w hK I (hs_up_i kn wt) (fun _ z => absurd e z))) (fun e19 => ?_)))
  rw [nI_1 k]
  refine hx_arrive hn (by omega) hA hK I (fun ck => hW ck e7 e19) (fun kn' wt' known' w' hK' I' u' hC => nm_r (nI_1 _) (H1 kn' wt' known' w' hK' I' u' (fun _ _ => hC))) (fun nck => nm_r (nI_1 _) (H0 nck _ _ _ _ _))
/-- a turn, from the instruction that was found -/
theorem hx_turn {post : Int32 → SX → Prop} {J : Int32 → Int32 → Int32 → Int32 → Int32 → Int32 → Int32 → Int32 → Int32 → Int32 → Int32 → Int32 → Int32 → Int32 → Int32 → Int32 → Int32 → Int32 → Int32 → Int32 → Int32 → (Nat → Int32) → (Nat → Int32) → (Nat → Int32) → (Nat → Int32) → (Nat → Int32) → (Nat → Int32) → (Nat → Int32) → (Nat → Int32) → (Nat → Int32) → (Nat → Int32) → (Nat → Int32) → (Nat → Int32) → (Nat → Int32) → (Nat → Int32) → (Nat → Int32) → (Nat → Int32) → (Nat → Int32) → (Nat → Int32) → (Nat → Int32) → (Nat → Int32) → Prop}
    {opf bf : Nat → Nat} {n k turn fu : Nat} {kn : Nat → Option (List Nat × Nat × Nat)} {wt : Nat → Bool} {known : Nat → Int32} {w he en lo : Int32} (hn : n ≤ 16)
    (hop : ∀ j, j < n → a_ops (96 + j) = nI (opf j) ∧ opf j ≤ 24) (harg : ∀ j, j < n → (opf j = 1 ∨ opf j = 2 ∨ opf j = 7 ∨ opf j = 8) → a_args (96 + j) = nI (bf j) ∧ bf j < 16 ∧ (opf j = 1 ∨ opf j = 2 → bf j < 2))
    (hK : hx_KW kn wt known w) (I : hs_I opf bf n (fun _ => False) kn wt) (hw : wt k = true)
    (H1 : ∀ kn' wt' known' w' he en lo, hx_KW kn' wt' known' w' → hs_I opf bf n (fun _ => False) kn' wt' → (∀ j C, kn j = some C → ∃ C', kn' j = some C' ∧ hs_le C C') → hs_sm kn wt + 1 ≤ hs_sm kn' wt' → J 1 (nI (turn + 1)) f_limit (nI n) f_wide w' he en lo f_logLength f_open f_awaited f_frames f_sp f_base f_pc f_method f_steps f_status f_lastResult f_lastPlace a_ops a_args a_quick a_length a_exported known' a_alive a_fresh a_lasting a_shared a_owner a_size a_element a_roots a_logCell a_logOld a_logged a_slot a_frameMethod a_framePc)
    (H0 : ¬ hs_CK opf bf n → ∀ wa he en lo kno, J 0 (nI (turn + 1)) f_limit (nI n) f_wide wa he en lo f_logLength f_open f_awaited f_frames f_sp f_base f_pc f_method f_steps f_status f_lastResult f_lastPlace a_ops a_args a_quick a_length a_exported kno a_alive a_fresh a_lasting a_shared a_owner a_size a_element a_roots a_logCell a_logOld a_logged a_slot a_frameMethod a_framePc) :
    wX_good_70 post J (nI turn) f_limit (nI n) f_wide w he en lo f_logLength f_open f_awaited f_frames f_sp f_base f_pc f_method f_steps f_status f_lastResult f_lastPlace a_ops a_args a_quick a_length a_exported known a_alive a_fresh a_lasting a_shared a_owner a_size a_element a_roots a_logCell a_logOld a_logged a_slot a_frameMethod a_framePc (fu + 1) (nI k) := by
  obtain ⟨B, eB⟩ := I.2.1 k hw
  obtain ⟨hkn, hB, hWB⟩ := I.1 k B eB
  obtain ⟨eop, hop24⟩ := hop k hkn
  have hBl := hx_pk_lt hB
  have hBu := hx_un hB
  have hk16 : k < 16 := by omega
  obtain ⟨I1, hsm⟩ := hs_off I hk16 hw
  have hK1 := hx_KWo hK hk16
  have e96 : (96 : Int32) + nI k = nI (96 + k) := nI_add 96 k
  have c96 : (nI (96 + k)).toNatClampNeg = 96 + k := nI_clamp (by omega)
  have ck : (nI k).toNatClampNeg = k := nI_clamp (by omega)
  have hkk : known k = nI (hx_pk B) := by rw [hK.1 k hk16, eB]; rfl
  have v96 : vp_in (nI (96 + k)) 112 := vp_in_nI (by omega) (by omega)
  have v16 : vp_in (nI k) 16 := vp_in_nI (by omega) (by omega)
  rw [wX_good_70]
  refine br_f (fun z => ?_) ?_
  · rw [hx_bit w (by omega), hK.2 k, hw] at z; cases z
  rw [e96, c96, ck, hkk, hBu.1, hBu.2.1, hBu.2.2, eop]
  refine nm_e ⟨v96, nm_e ⟨v96, nm_e ⟨v16, nm_e ⟨v16, nm_e ⟨v16, nm_e ?_⟩⟩⟩⟩⟩
  refine hx_effect (b := bf k) hB hop24 (fun o => ?_) (fun C eC => ?_) (fun eN he en lo => ?_)
  · obtain ⟨ea, _, hb2⟩ := harg k hkn (by omega)
    exact ⟨hb2 o, ea⟩
  · have hC : hs_wA C := (hs_ef_k _ _ B C eC).2 hB
    have hWC : hs_CK opf bf n → hs_Wt (hs_im (hs_ef (opf k) (bf k)) (hs_R opf bf k)) C := fun c => by
      obtain ⟨C', eC', W'⟩ := hs_ef_g (opf k) (bf k) (hs_R opf bf k) B hB (hWB c) (fun A hA => (c.1 k A hA).2)
      rw [eC] at eC'; cases eC'
      exact W'
    have hW1 : hs_CK opf bf n → opf k ≠ 7 → opf k ≠ 19 → hs_Wt (hs_R opf bf (k + 1)) C := fun c o1 o2 =>
      hs_WtU (fun A' ⟨A, hA, e⟩ => ((hs_Rcl opf bf).2 k A A' hA e).2 o1 o2) (c.2 (k + 1)) (fun A hA => hs_Rw hA) (hWC c)
    have hW7 : hs_CK opf bf n → (opf k = 7 ∨ opf k = 8) → hs_Wt (hs_R opf bf (bf k)) C := fun c o =>
      hs_WtU (fun A' ⟨A, hA, e⟩ => ((hs_Rcl opf bf).2 k A A' hA e).1 o) (c.2 (bf k)) (fun A hA => hs_Rw hA) (hWC c)
    have jump : (opf k = 7 ∨ opf k = 8) → wX_good_193 post J (nI turn) (nI k) (nI (opf k)) (a_args (96 + k)) f_limit (nI n) f_wide (w &&& (((1 : Int32) <<< (nI k &&& 31)) ^^^ (-1))) (nI C.1.length) (nI (hx_e8 C.1)) (nI (hx_lo C)) f_logLength f_open f_awaited f_frames f_sp f_base f_pc f_method f_steps f_status f_lastResult f_lastPlace a_ops a_args a_quick a_length a_exported known a_alive a_fresh a_lasting a_shared a_owner a_size a_element a_roots a_logCell a_logOld a_logged a_slot a_frameMethod a_framePc := fun o => by
      obtain ⟨ea, hb16, _⟩ := harg k hkn (by omega)
      rw [ea]
      unfold wX_good_193
      refine hx_arrive hn (by omega) hC hK1 I1 (fun c => hW7 c o) (fun kn' wt' known' w' hK' I' u' hD => ?_) (fun nck => ?_)
      · refine hx_200 hn hk16 hop24 hC hK' I' hW1 (fun kn2 wt2 known2 w2 hK2 I2 u2 hE => ?_) H0
        have u := hs_up_t u' u2
        refine H1 kn2 wt2 known2 w2 _ _ _ hK2 (hs_on I2 u eB eC (fun _ => ?_) hE) u.1 (Nat.le_trans hsm u.2.2)
        obtain ⟨D, eD, lD⟩ := hD
        obtain ⟨D', eD', lD'⟩ := u2.1 _ D eD
        exact ⟨D', eD', hs_le_t lD lD'⟩
      · unfold wX_good_200
        exact br_t rfl (nm_r (nI_1 _) (H0 nck _ _ _ _ _))
    refine br_f (by decide) (pk_eq (opf k) 7 (fun e => jump (Or.inl e)) (fun e7 => pk_eq (opf k) 8 (fun e => jump (Or.inr e)) (fun e8 => ?_)))
    refine hx_200 hn hk16 hop24 hC hK1 I1 hW1 (fun kn2 wt2 known2 w2 hK2 I2 u2 hE => ?_) H0
    exact H1 kn2 wt2 known2 w2 _ _ _ hK2 (hs_on I2 u2 eB eC (fun o => by omega) hE) u2.1 (Nat.le_trans hsm u2.2.2)
  · refine br_t rfl ?_
    have nck : ¬ hs_CK opf bf n := fun c => by
      obtain ⟨C', eC', _⟩ := hs_ef_g (opf k) (bf k) (hs_R opf bf k) B hB (hWB c) (fun A hA => (c.1 k A hA).2)
      rw [eN] at eC'; cases eC'
    unfold wX_good_200
    exact br_t rfl (nm_r (nI_1 _) (H0 nck _ _ _ _ _))
theorem hx_find {post : Int32 → SX → Prop} {J : Int32 → Int32 → Int32 → Int32 → Int32 → Int32 → Int32 → Int32 → Int32 → Int32 → Int32 → Int32 → Int32 → Int32 → Int32 → Int32 → Int32 → Int32 → Int32 → Int32 → Int32 → (Nat → Int32) → (Nat → Int32) → (Nat → Int32) → (Nat → Int32) → (Nat → Int32) → (Nat → Int32) → (Nat → Int32) → (Nat → Int32) → (Nat → Int32) → (Nat → Int32) → (Nat → Int32) → (Nat → Int32) → (Nat → Int32) → (Nat → Int32) → (Nat → Int32) → (Nat → Int32) → (Nat → Int32) → (Nat → Int32) → (Nat → Int32) → (Nat → Int32) → Prop} {x2 : Int32} {k : Nat} (hk : k < 16) (hl : ∀ i, i < k → bt f_waiting i = false) (H : ∀ fu, wX_good_70 post J x2 f_limit f_pending f_wide f_waiting f_height f_entries f_locals f_logLength f_open f_awaited f_frames f_sp f_base f_pc f_method f_steps f_status f_lastResult f_lastPlace a_ops a_args a_quick a_length a_exported a_known a_alive a_fresh a_lasting a_shared a_owner a_size a_element a_roots a_logCell a_logOld a_logged a_slot a_frameMethod a_framePc (fu + 1) (nI k)) : ∀ d j, j + d = k → wX_good_70 post J x2 f_limit f_pending f_wide f_waiting f_height f_entries f_locals f_logLength f_open f_awaited f_frames f_sp f_base f_pc f_method f_steps f_status f_lastResult f_lastPlace a_ops a_args a_quick a_length a_exported a_known a_alive a_fresh a_lasting a_shared a_owner a_size a_element a_roots a_logCell a_logOld a_logged a_slot a_frameMethod a_framePc (d + 1) (nI j) := by
  intro d
  induction d with
  | zero => intro j hj; rw [show j = k by omega]; exact H 0
  | succ d ih =>
    intro j hj
    rw [wX_good_70]
    refine br_t ((hx_bit f_waiting (by omega)).mpr (hl j (by omega))) (nm_r (nI_1 _) (ih (j + 1) (by omega)))
theorem hx_50 {post : Int32 → SX → Prop} {opf bf : Nat → Nat} {n : Nat} (hn : n ≤ 16)
    (hop : ∀ j, j < n → a_ops (96 + j) = nI (opf j) ∧ opf j ≤ 24) (harg : ∀ j, j < n → (opf j = 1 ∨ opf j = 2 ∨ opf j = 7 ∨ opf j = 8) → a_args (96 + j) = nI (bf j) ∧ bf j < 16 ∧ (opf j = 1 ∨ opf j = 2 → bf j < 2))
    (H1 : hs_CK opf bf n → ∀ wa he en lo kno, post 1 (f_limit, nI n, f_wide, wa, he, en, lo, f_logLength, f_open, f_awaited, f_frames, f_sp, f_base, f_pc, f_method, f_steps, f_status, f_lastResult, f_lastPlace, a_ops, a_args, a_quick, a_length, a_exported, kno, a_alive, a_fresh, a_lasting, a_shared, a_owner, a_size, a_element, a_roots, a_logCell, a_logOld, a_logged, a_slot, a_frameMethod, a_framePc))
    (H0 : ¬ hs_CK opf bf n → ∀ wa he en lo kno, post 0 (f_limit, nI n, f_wide, wa, he, en, lo, f_logLength, f_open, f_awaited, f_frames, f_sp, f_base, f_pc, f_method, f_steps, f_status, f_lastResult, f_lastPlace, a_ops, a_args, a_quick, a_length, a_exported, kno, a_alive, a_fresh, a_lasting, a_shared, a_owner, a_size, a_element, a_roots, a_logCell, a_logOld, a_logged, a_slot, a_frameMethod, a_framePc)) :
    ∀ (fu turn : Nat) (kn : Nat → Option (List Nat × Nat × Nat)) (wt : Nat → Bool) (known : Nat → Int32) (w he en lo : Int32), turn < 400 → 400 < fu + turn → hx_KW kn wt known w → hs_I opf bf n (fun _ => False) kn wt → (∃ C, kn 0 = some C ∧ hs_le ([], 1, 4) C) → turn ≤ hs_sm kn wt →
    wX_good_50 post fu 1 (nI turn) f_limit (nI n) f_wide w he en lo f_logLength f_open f_awaited f_frames f_sp f_base f_pc f_method f_steps f_status f_lastResult f_lastPlace a_ops a_args a_quick a_length a_exported known a_alive a_fresh a_lasting a_shared a_owner a_size a_element a_roots a_logCell a_logOld a_logged a_slot a_frameMethod a_framePc := by
  intro fu
  induction fu with
  | zero => intro turn kn wt known w he en lo h1 h2; omega
  | succ fu ih =>
    intro turn kn wt known w he en lo ht hf hK I h0 hs
    have hb := hs_sm_b I
    rw [wX_good_50]
    refine br_f (nI_ge (b := 400) ht (by decide)) (br_f (by decide) ?_)
    by_cases z : w = 0
    · refine br_t z ⟨rfl, H1 (hs_fin I h0 (fun i => ?_)) _ _ _ _ _⟩
      rw [← hK.2 i, z, b_0]
    · refine br_f z ?_
      have hex : ∃ k, wt k = true := Classical.byContradiction (fun q => z ((hx_bzero w).mpr (fun i => by
        rw [hK.2 i]
        cases e : wt i with
        | false => rfl
        | true => exact absurd ⟨i, e⟩ q)))
      obtain ⟨k, hwk, hlk⟩ := pk_least (fun k => wt k = true) hex
      obtain ⟨B, eB⟩ := I.2.1 k hwk
      have hkn := (I.1 k B eB).1
      refine ⟨k + 1, ?_⟩
      refine hx_find (k := k) (by omega) (fun i hi => ?_) (fun f' => ?_) k 0 (by omega)
      · rw [hK.2 i]
        cases e : wt i with
        | false => rfl
        | true => exact absurd e (hlk i hi)
      · refine hx_turn hn hop harg hK I hwk (fun kn' wt' known' w' he en lo hK' I' hup hsm => ?_) (fun nck wa he en lo kno => ?_)
        · have hb' := hs_sm_b I'
          refine ih (turn + 1) kn' wt' known' w' he en lo (by omega) (by omega) hK' I' ?_ (by omega)
          obtain ⟨C, eC, lC⟩ := h0
          obtain ⟨C', eC', lC'⟩ := hup 0 C eC
          exact ⟨C', eC', hs_le_t lC lC'⟩
        · cases fu with
          | zero => omega
          | succ fu =>
            rw [wX_good_50]
            refine br_f (nI_ge (b := 400) (by omega) (by decide)) (br_t rfl ⟨rfl, H0 nck _ _ _ _ _⟩)
theorem hx_W0 (opf bf : Nat → Nat) {n : Nat} (c : hs_CK opf bf n) : hs_Wt (hs_R opf bf 0) ([], 1, 4) := by
  have hR := (hs_Rcl opf bf).1
  refine ⟨⟨_, hR⟩, fun A hA => ⟨hs_Rw hA, c.2 0 A _ hA hR⟩, fun j x hj => (by cases hj), fun b x hx hxc => ⟨_, hR, ?_⟩⟩
  have h1 : hs_loc b ([], 1, 4) = 1 ∨ hs_loc b ([], 1, 4) = 4 := by
    unfold hs_loc; split
    · exact Or.inl rfl
    · exact Or.inr rfl
  exact (hs_or12 x (by omega) _ (by omega) hx (by omega) hxc).symm
theorem hx_good2 {post : Int32 → SX → Prop} {opf bf : Nat → Nat} {n : Nat} (hn : n ≤ 16) (h0 : 0 < n)
    (hop : ∀ j, j < n → a_ops (96 + j) = nI (opf j) ∧ opf j ≤ 24) (harg : ∀ j, j < n → (opf j = 1 ∨ opf j = 2 ∨ opf j = 7 ∨ opf j = 8) → a_args (96 + j) = nI (bf j) ∧ bf j < 16 ∧ (opf j = 1 ∨ opf j = 2 → bf j < 2))
    (H1 : hs_CK opf bf n → ∀ wa he en lo kno, post 1 (f_limit, nI n, f_wide, wa, he, en, lo, f_logLength, f_open, f_awaited, f_frames, f_sp, f_base, f_pc, f_method, f_steps, f_status, f_lastResult, f_lastPlace, a_ops, a_args, a_quick, a_length, a_exported, kno, a_alive, a_fresh, a_lasting, a_shared, a_owner, a_size, a_element, a_roots, a_logCell, a_logOld, a_logged, a_slot, a_frameMethod, a_framePc))
    (H0 : ¬ hs_CK opf bf n → ∀ wa he en lo kno, post 0 (f_limit, nI n, f_wide, wa, he, en, lo, f_logLength, f_open, f_awaited, f_frames, f_sp, f_base, f_pc, f_method, f_steps, f_status, f_lastResult, f_lastPlace, a_ops, a_args, a_quick, a_length, a_exported, kno, a_alive, a_fresh, a_lasting, a_shared, a_owner, a_size, a_element, a_roots, a_logCell, a_logOld, a_logged, a_slot, a_frameMethod, a_framePc)) :
    ∀ (d j : Nat) (known : Nat → Int32), j + d = 16 → (∀ i, i < j → known i = -1) → wX_good_2 post f_limit (nI n) f_wide f_waiting f_height f_entries f_locals f_logLength f_open f_awaited f_frames f_sp f_base f_pc f_method f_steps f_status f_lastResult f_lastPlace (d + 1) (nI j) a_ops a_args a_quick a_length a_exported known a_alive a_fresh a_lasting a_shared a_owner a_size a_element a_roots a_logCell a_logOld a_logged a_slot a_frameMethod a_framePc := by
  intro d
  induction d with
  | zero =>
    intro j known hj hk
    rw [wX_good_2]
    refine br_t (nI_le (a := 16) (by omega) (by omega)) ?_
    have hwA : hs_wA ([], 1, 4) := ⟨by decide, (fun _ h => nomatch h), by decide, by decide⟩
    refine hx_arrive (A := ([], 1, 4)) (t := 0) (ex := fun _ => False) (kn := fun _ => none) (wt := fun _ => false) (opf := opf) (bf := bf) hn (by decide) hwA ⟨fun k hk' => hk k (by omega), fun i => b_0 i⟩ ⟨fun k B e => (by cases e), fun k e => (by cases e), fun k B e => (by cases e)⟩ (fun c => hx_W0 opf bf c) (fun kn' wt' known' w' hK' I' u' hC => ?_) (fun nck => ?_)
    · exact ⟨401, hx_50 hn hop harg H1 H0 401 0 kn' wt' known' w' _ _ _ (by decide) (by decide) hK' I' hC (Nat.zero_le _)⟩
    · refine ⟨1, ?_⟩
      rw [wX_good_50]
      exact br_f (by decide) (br_t rfl ⟨rfl, H0 nck _ _ _ _ _⟩)
  | succ d ih =>
    intro j known hj hk
    rw [wX_good_2]
    have cj : (nI j).toNatClampNeg = j := nI_clamp (by omega)
    refine br_f (nI_ge (b := 16) (by omega) (by decide)) ⟨vp_in_nI (by omega) (by omega), nm_e (nm_r (nI_1 _) (ih (j + 1) _ (by omega) (fun i hi => ?_)))⟩
    rw [cj]
    by_cases z : i = j
    · subst z; exact pk_us
    · rw [pk_un z]; exact hk i (by omega)
theorem hx_goodW {post : Int32 → SX → Prop} {opf bf : Nat → Nat} {n : Nat} (hn : n ≤ 16) (h0 : 0 < n)
    (hop : ∀ j, j < n → a_ops (96 + j) = nI (opf j) ∧ opf j ≤ 24) (harg : ∀ j, j < n → (opf j = 1 ∨ opf j = 2 ∨ opf j = 7 ∨ opf j = 8) → a_args (96 + j) = nI (bf j) ∧ bf j < 16 ∧ (opf j = 1 ∨ opf j = 2 → bf j < 2))
    (H1 : hs_CK opf bf n → ∀ wa he en lo kno, post 1 (f_limit, nI n, f_wide, wa, he, en, lo, f_logLength, f_open, f_awaited, f_frames, f_sp, f_base, f_pc, f_method, f_steps, f_status, f_lastResult, f_lastPlace, a_ops, a_args, a_quick, a_length, a_exported, kno, a_alive, a_fresh, a_lasting, a_shared, a_owner, a_size, a_element, a_roots, a_logCell, a_logOld, a_logged, a_slot, a_frameMethod, a_framePc))
    (H0 : ¬ hs_CK opf bf n → ∀ wa he en lo kno, post 0 (f_limit, nI n, f_wide, wa, he, en, lo, f_logLength, f_open, f_awaited, f_frames, f_sp, f_base, f_pc, f_method, f_steps, f_status, f_lastResult, f_lastPlace, a_ops, a_args, a_quick, a_length, a_exported, kno, a_alive, a_fresh, a_lasting, a_shared, a_owner, a_size, a_element, a_roots, a_logCell, a_logOld, a_logged, a_slot, a_frameMethod, a_framePc)) :
    wpX_good post (f_limit, nI n, f_wide, f_waiting, f_height, f_entries, f_locals, f_logLength, f_open, f_awaited, f_frames, f_sp, f_base, f_pc, f_method, f_steps, f_status, f_lastResult, f_lastPlace, a_ops, a_args, a_quick, a_length, a_exported, a_known, a_alive, a_fresh, a_lasting, a_shared, a_owner, a_size, a_element, a_roots, a_logCell, a_logOld, a_logged, a_slot, a_frameMethod, a_framePc) := by
  unfold wpX_good
  exact ⟨16 + 1, hx_good2 hn h0 hop harg H1 H0 16 0 a_known (by decide) (fun i hi => by cases hi)⟩
end
end
section
/-! ===== Y: the stack as a number, take, leave, look ===== -/
def hy_e2 : List Nat → Nat
  | [] => 1
  | c :: t => 2 * hy_e2 t + (c - 1)
def hy_lc (x : Nat) : Nat := if x = 4 then 0 else x
def hy_l (A : List Nat × Nat × Nat) : Nat := hy_lc A.2.1 + 3 * hy_lc A.2.2
theorem hy_e2_b : ∀ {t : List Nat}, (∀ c, c ∈ t → c = 1 ∨ c = 2) → 2 ^ t.length ≤ hy_e2 t ∧ hy_e2 t < 2 ^ (t.length + 1)
  | [], _ => by decide
  | c :: t, h => by
    have ih := hy_e2_b (t := t) (fun c hc => h c (List.mem_cons_of_mem _ hc))
    have hc := h c (List.mem_cons_self ..)
    show 2 ^ (t.length + 1) ≤ 2 * hy_e2 t + (c - 1) ∧ 2 * hy_e2 t + (c - 1) < 2 ^ (t.length + 1 + 1)
    rw [Nat.pow_succ] at ih
    rw [Nat.pow_succ, Nat.pow_succ]
    omega
theorem hy_e2_5 {t : List Nat} (h : ∀ c, c ∈ t → c = 1 ∨ c = 2) (hl : t.length ≤ 4) : 1 ≤ hy_e2 t ∧ hy_e2 t < 32 := by
  have a := hy_e2_b h
  have b : 2 ^ (t.length + 1) ≤ 2 ^ 5 := Nat.pow_le_pow_right (by decide) (by omega)
  have c : 0 < 2 ^ t.length := Nat.two_pow_pos _
  omega
theorem hy_lc_b {x : Nat} (h : x = 1 ∨ x = 2 ∨ x = 4) : hy_lc x < 3 := by unfold hy_lc; split <;> omega
theorem hy_l_b {A : List Nat × Nat × Nat} (h : hs_w1 A) : hy_l A < 9 := by
  have a := hy_lc_b h.2.2.1
  have b := hy_lc_b h.2.2.2
  unfold hy_l; omega
theorem hy_sh (s b : Nat) (hs : s < 64) (hb : b < 2) : (nI s <<< ((1 : Int32) &&& 31)) ||| nI b = nI (2 * s + b) := by
  rw [show nI s <<< ((1 : Int32) &&& 31) = nI (s * 2 ^ 1) from hx_shl (k := 1) (by omega) (by omega), hx_or]
  apply congrArg nI
  have := hx_addor (a := s) (b := b) (i := 1) (by omega)
  rw [Nat.or_comm, ← this]
  omega
section
variable {g_limit g_waiting g_stack g_locals g_running g_steps g_awaited g_answer g_where g_outcome : Int32} {g_made : Int64} {g_good g_open : Int32} {b_ops b_bs b_sizes b_exported : Nat → Int32} {b_stamp : Nat → Int64} {b_owner b_lengths b_elements b_lasting b_shared b_roots : Nat → Int32} {b_oldStamp : Nat → Int64} {b_oldElements b_oldShared b_oldRoots b_rows b_nexts b_depths b_places b_kinds b_met b_todo b_heights : Nat → Int32}
theorem hy_takeAny {post : Int32 → SY → Prop} {A : List Nat × Nat × Nat} (hA : hs_w1 A) (H1 : ∀ c t, A.1 = c :: t → post (nI (c - 1)) (g_limit, g_waiting, nI (hy_e2 t), g_locals, g_running, g_steps, g_awaited, g_answer, g_where, g_outcome, g_made, 1, g_open, b_ops, b_bs, b_sizes, b_exported, b_stamp, b_owner, b_lengths, b_elements, b_lasting, b_shared, b_roots, b_oldStamp, b_oldElements, b_oldShared, b_oldRoots, b_rows, b_nexts, b_depths, b_places, b_kinds, b_met, b_todo, b_heights)) (H0 : A.1 = [] → post 1 (g_limit, g_waiting, 1, g_locals, g_running, g_steps, g_awaited, g_answer, g_where, g_outcome, g_made, 0, g_open, b_ops, b_bs, b_sizes, b_exported, b_stamp, b_owner, b_lengths, b_elements, b_lasting, b_shared, b_roots, b_oldStamp, b_oldElements, b_oldShared, b_oldRoots, b_rows, b_nexts, b_depths, b_places, b_kinds, b_met, b_todo, b_heights)) : wpY_takeAny post (g_limit, g_waiting, nI (hy_e2 A.1), g_locals, g_running, g_steps, g_awaited, g_answer, g_where, g_outcome, g_made, 1, g_open, b_ops, b_bs, b_sizes, b_exported, b_stamp, b_owner, b_lengths, b_elements, b_lasting, b_shared, b_roots, b_oldStamp, b_oldElements, b_oldShared, b_oldRoots, b_rows, b_nexts, b_depths, b_places, b_kinds, b_met, b_todo, b_heights) := by
  unfold wpY_takeAny
  have hb := hy_e2_5 hA.2.1 hA.1
  cases e : A.1 with
  | nil =>
    refine nm_r (e' := 1) (by decide) (br_f (by decide) ?_)
    unfold wY_takeAny_20
    exact br_f (by decide) (H0 e)
  | cons c t =>
    have h1 := hA.2.1
    have hl := hA.1
    rw [e] at h1 hl hb
    rw [List.length_cons] at hl
    have hc := h1 c (List.mem_cons_self ..)
    have ht := hy_e2_5 (fun x hx => h1 x (List.mem_cons_of_mem _ hx)) (show t.length ≤ 4 by omega)
    have e2 : hy_e2 (c :: t) = 2 * hy_e2 t + (c - 1) := rfl
    rw [e2]
    have hle : (2 : Int32) ≤ nI (2 * hy_e2 t + (c - 1)) := nI_le (a := 2) (by omega) (by omega)
    refine nm_r (e' := nI (c - 1)) ?_ (br_t hle ?_)
    · rw [pk_andN (by omega) 1 (by decide)]
      exact congrArg nI (by omega)
    · unfold wY_takeAny_20
      refine br_t hle (nm_r (e' := nI (hy_e2 t)) ?_ (H1 c t e))
      rw [show nI (2 * hy_e2 t + (c - 1)) >>> ((1 : Int32) &&& 31) = nI ((2 * hy_e2 t + (c - 1)) / 2 ^ 1) from hx_shr (k := 1) (by omega) (by omega)]
      exact congrArg nI (by omega)
theorem hy_takeAnyB {post : Int32 → SY → Prop} {y : Int32} (H : ∀ r x, post r (g_limit, g_waiting, x, g_locals, g_running, g_steps, g_awaited, g_answer, g_where, g_outcome, g_made, 0, g_open, b_ops, b_bs, b_sizes, b_exported, b_stamp, b_owner, b_lengths, b_elements, b_lasting, b_shared, b_roots, b_oldStamp, b_oldElements, b_oldShared, b_oldRoots, b_rows, b_nexts, b_depths, b_places, b_kinds, b_met, b_todo, b_heights)) : wpY_takeAny post (g_limit, g_waiting, y, g_locals, g_running, g_steps, g_awaited, g_answer, g_where, g_outcome, g_made, 0, g_open, b_ops, b_bs, b_sizes, b_exported, b_stamp, b_owner, b_lengths, b_elements, b_lasting, b_shared, b_roots, b_oldStamp, b_oldElements, b_oldShared, b_oldRoots, b_rows, b_nexts, b_depths, b_places, b_kinds, b_met, b_todo, b_heights) := by
  unfold wpY_takeAny wY_takeAny_20
  exact nm_e (br_c (fun _ => br_c (fun _ => nm_e (H _ _)) (fun _ => H _ _)) (fun _ => br_c (fun _ => nm_e (H _ _)) (fun _ => H _ _)))
theorem hy_take {post : SY → Prop} {A : List Nat × Nat × Nat} (hA : hs_w1 A) (w : Nat) (hw : w = 1 ∨ w = 2) (H1 : ∀ B, hs_tk w A = some B → hs_w1 B → B.2 = A.2 → post (g_limit, g_waiting, nI (hy_e2 B.1), g_locals, g_running, g_steps, g_awaited, g_answer, g_where, g_outcome, g_made, 1, g_open, b_ops, b_bs, b_sizes, b_exported, b_stamp, b_owner, b_lengths, b_elements, b_lasting, b_shared, b_roots, b_oldStamp, b_oldElements, b_oldShared, b_oldRoots, b_rows, b_nexts, b_depths, b_places, b_kinds, b_met, b_todo, b_heights)) (H0 : hs_tk w A = none → ∀ x, post (g_limit, g_waiting, x, g_locals, g_running, g_steps, g_awaited, g_answer, g_where, g_outcome, g_made, 0, g_open, b_ops, b_bs, b_sizes, b_exported, b_stamp, b_owner, b_lengths, b_elements, b_lasting, b_shared, b_roots, b_oldStamp, b_oldElements, b_oldShared, b_oldRoots, b_rows, b_nexts, b_depths, b_places, b_kinds, b_met, b_todo, b_heights)) : wpY_take post (g_limit, g_waiting, nI (hy_e2 A.1), g_locals, g_running, g_steps, g_awaited, g_answer, g_where, g_outcome, g_made, 1, g_open, b_ops, b_bs, b_sizes, b_exported, b_stamp, b_owner, b_lengths, b_elements, b_lasting, b_shared, b_roots, b_oldStamp, b_oldElements, b_oldShared, b_oldRoots, b_rows, b_nexts, b_depths, b_places, b_kinds, b_met, b_todo, b_heights) (nI (w - 1)) := by
  unfold wpY_take
  refine hy_takeAny hA (fun c t e => ?_) (fun e => ?_)
  · have hc := hA.2.1 c (by rw [e]; exact List.mem_cons_self ..)
    refine pk_eq (c - 1) (w - 1) (fun q => ?_) (fun q => ?_)
    · have e1 : hs_tk w A = some (t, A.2) := by unfold hs_tk; rw [e]; exact if_pos (by omega)
      exact H1 (t, A.2) e1 ((hs_tk_k w A _ e1).1 hA) rfl
    · exact H0 (by unfold hs_tk; rw [e]; exact if_neg (by omega)) _
  · have h0 := H0 (by unfold hs_tk; rw [e])
    exact br_c (fun _ => h0 _) (fun _ => h0 _)
theorem hy_takeB {post : SY → Prop} {y p : Int32} (H : ∀ x, post (g_limit, g_waiting, x, g_locals, g_running, g_steps, g_awaited, g_answer, g_where, g_outcome, g_made, 0, g_open, b_ops, b_bs, b_sizes, b_exported, b_stamp, b_owner, b_lengths, b_elements, b_lasting, b_shared, b_roots, b_oldStamp, b_oldElements, b_oldShared, b_oldRoots, b_rows, b_nexts, b_depths, b_places, b_kinds, b_met, b_todo, b_heights)) : wpY_take post (g_limit, g_waiting, y, g_locals, g_running, g_steps, g_awaited, g_answer, g_where, g_outcome, g_made, 0, g_open, b_ops, b_bs, b_sizes, b_exported, b_stamp, b_owner, b_lengths, b_elements, b_lasting, b_shared, b_roots, b_oldStamp, b_oldElements, b_oldShared, b_oldRoots, b_rows, b_nexts, b_depths, b_places, b_kinds, b_met, b_todo, b_heights) p := by
  unfold wpY_take
  exact hy_takeAnyB (fun r x => br_c (fun _ => H x) (fun _ => H x))
theorem hy_leave {post : SY → Prop} {A : List Nat × Nat × Nat} (hA : hs_w1 A) (c : Nat) (hc : c = 1 ∨ c = 2) (H1 : ∀ B, hs_ps c A = some B → hs_w1 B → B.2 = A.2 → post (g_limit, g_waiting, nI (hy_e2 B.1), g_locals, g_running, g_steps, g_awaited, g_answer, g_where, g_outcome, g_made, 1, g_open, b_ops, b_bs, b_sizes, b_exported, b_stamp, b_owner, b_lengths, b_elements, b_lasting, b_shared, b_roots, b_oldStamp, b_oldElements, b_oldShared, b_oldRoots, b_rows, b_nexts, b_depths, b_places, b_kinds, b_met, b_todo, b_heights)) (H0 : hs_ps c A = none → ∀ x, post (g_limit, g_waiting, x, g_locals, g_running, g_steps, g_awaited, g_answer, g_where, g_outcome, g_made, 0, g_open, b_ops, b_bs, b_sizes, b_exported, b_stamp, b_owner, b_lengths, b_elements, b_lasting, b_shared, b_roots, b_oldStamp, b_oldElements, b_oldShared, b_oldRoots, b_rows, b_nexts, b_depths, b_places, b_kinds, b_met, b_todo, b_heights)) : wpY_leave post (g_limit, g_waiting, nI (hy_e2 A.1), g_locals, g_running, g_steps, g_awaited, g_answer, g_where, g_outcome, g_made, 1, g_open, b_ops, b_bs, b_sizes, b_exported, b_stamp, b_owner, b_lengths, b_elements, b_lasting, b_shared, b_roots, b_oldStamp, b_oldElements, b_oldShared, b_oldRoots, b_rows, b_nexts, b_depths, b_places, b_kinds, b_met, b_todo, b_heights) (nI (c - 1)) := by
  unfold wpY_leave
  have hb := hy_e2_5 hA.2.1 hA.1
  have hl := hA.1
  refine nm_r (hy_sh (hy_e2 A.1) (c - 1) (by omega) (by omega)) ?_
  by_cases z : A.1.length = 4
  · have h2 := (hy_e2_b hA.2.1).1
    rw [z] at h2
    refine br_f (nI_ge (a := 2 * hy_e2 A.1 + (c - 1)) (b := 31) |> fun _ => ?_) (H0 (if_pos z) _)
    intro q
    have := (nI_leI (a := 2 * hy_e2 A.1 + (c - 1)) (b := 31) (by omega) (by decide)).mp q
    omega
  · have h2 := (hy_e2_b hA.2.1).2
    have h3 : 2 ^ (A.1.length + 1) ≤ 2 ^ 4 := Nat.pow_le_pow_right (by decide) (by omega)
    have e1 : hs_ps c A = some (c :: A.1, A.2) := if_neg z
    exact br_t (nI_le (b := 31) (by omega) (by decide)) (H1 (c :: A.1, A.2) e1 ((hs_ps_k hc A _ e1).1 hA) rfl)
theorem hy_leaveB {post : SY → Prop} {y p : Int32} (H : ∀ x, post (g_limit, g_waiting, x, g_locals, g_running, g_steps, g_awaited, g_answer, g_where, g_outcome, g_made, 0, g_open, b_ops, b_bs, b_sizes, b_exported, b_stamp, b_owner, b_lengths, b_elements, b_lasting, b_shared, b_roots, b_oldStamp, b_oldElements, b_oldShared, b_oldRoots, b_rows, b_nexts, b_depths, b_places, b_kinds, b_met, b_todo, b_heights)) : wpY_leave post (g_limit, g_waiting, y, g_locals, g_running, g_steps, g_awaited, g_answer, g_where, g_outcome, g_made, 0, g_open, b_ops, b_bs, b_sizes, b_exported, b_stamp, b_owner, b_lengths, b_elements, b_lasting, b_shared, b_roots, b_oldStamp, b_oldElements, b_oldShared, b_oldRoots, b_rows, b_nexts, b_depths, b_places, b_kinds, b_met, b_todo, b_heights) p := by
  unfold wpY_leave
  exact nm_e (br_c (fun _ => H _) (fun _ => H _))
theorem hy_279B {post : SY → Prop} {x1 x2 x3 x4 : Int32} (H : post (g_limit, g_waiting, g_stack, g_locals, g_running, g_steps, g_awaited, g_answer, g_where, g_outcome, g_made, 0, g_open, b_ops, b_bs, b_sizes, b_exported, b_stamp, b_owner, b_lengths, b_elements, b_lasting, b_shared, b_roots, b_oldStamp, b_oldElements, b_oldShared, b_oldRoots, b_rows, b_nexts, b_depths, b_places, b_kinds, b_met, b_todo, b_heights)) : wY_look_279 post x1 x2 x3 x4 g_limit g_waiting g_stack g_locals g_running g_steps g_awaited g_answer g_where g_outcome g_made 0 g_open b_ops b_bs b_sizes b_exported b_stamp b_owner b_lengths b_elements b_lasting b_shared b_roots b_oldStamp b_oldElements b_oldShared b_oldRoots b_rows b_nexts b_depths b_places b_kinds b_met b_todo b_heights := by
  unfold wY_look_279
  exact br_t rfl H
end
theorem hy_sq1 (g : List Nat × Nat × Nat → Option (List Nat × Nat × Nat)) (A : List Nat × Nat × Nat) : hs_sq [g] A = g A := by
  show (match g A with
    | none => none
    | some B => hs_sq [] B) = _
  cases g A <;> rfl
theorem hy_sqs {g : List Nat × Nat × Nat → Option (List Nat × Nat × Nat)} {gs : List (List Nat × Nat × Nat → Option (List Nat × Nat × Nat))} {A B : List Nat × Nat × Nat} {o : Option (List Nat × Nat × Nat)} (e : g A = some B) (h : hs_sq gs B = o) : hs_sq (g :: gs) A = o := by
  show (match g A with
    | none => none
    | some B => hs_sq gs B) = _
  rw [e]; exact h
theorem hy_sqn {g : List Nat × Nat × Nat → Option (List Nat × Nat × Nat)} {gs : List (List Nat × Nat × Nat → Option (List Nat × Nat × Nat))} {A : List Nat × Nat × Nat} (e : g A = none) : hs_sq (g :: gs) A = none := by
  show (match g A with
    | none => none
    | some B => hs_sq gs B) = _
  rw [e]
theorem hy_l0 (A : List Nat × Nat × Nat) (s : List Nat) : hy_l (s, A.2) = hy_l A := rfl
theorem hy_lE {A B : List Nat × Nat × Nat} (h : B.2 = A.2) : hy_l B = hy_l A := by unfold hy_l; rw [h]
end
section
/-! ===== Y: look, by the instruction ===== -/
section
variable {g_limit g_waiting g_stack g_locals g_running g_steps g_awaited g_answer g_where g_outcome : Int32} {g_made : Int64} {g_good g_open : Int32} {b_ops b_bs b_sizes b_exported : Nat → Int32} {b_stamp : Nat → Int64} {b_owner b_lengths b_elements b_lasting b_shared b_roots : Nat → Int32} {b_oldStamp : Nat → Int64} {b_oldElements b_oldShared b_oldRoots b_rows b_nexts b_depths b_places b_kinds b_met b_todo b_heights : Nat → Int32}
variable {post : SY → Prop} {k n : Nat} {b : Nat} {x4 : Int32} {A : List Nat × Nat × Nat}
/-- a row of takes and leaves, each as the pure primitive has it -/
theorem hy_pp (hA : hs_w1 A) {c : Nat} (hc : c = 1 ∨ c = 2) {P : SY → Prop}
    (H1 : ∀ B, hs_sq [hs_ps c] A = some B → P (g_limit, g_waiting, nI (hy_e2 B.1), nI (hy_l B), g_running, g_steps, g_awaited, g_answer, g_where, g_outcome, g_made, 1, g_open, b_ops, b_bs, b_sizes, b_exported, b_stamp, b_owner, b_lengths, b_elements, b_lasting, b_shared, b_roots, b_oldStamp, b_oldElements, b_oldShared, b_oldRoots, b_rows, b_nexts, b_depths, b_places, b_kinds, b_met, b_todo, b_heights))
    (H0 : hs_sq [hs_ps c] A = none → ∀ x, P (g_limit, g_waiting, x, nI (hy_l A), g_running, g_steps, g_awaited, g_answer, g_where, g_outcome, g_made, 0, g_open, b_ops, b_bs, b_sizes, b_exported, b_stamp, b_owner, b_lengths, b_elements, b_lasting, b_shared, b_roots, b_oldStamp, b_oldElements, b_oldShared, b_oldRoots, b_rows, b_nexts, b_depths, b_places, b_kinds, b_met, b_todo, b_heights)) : wpY_leave P (g_limit, g_waiting, nI (hy_e2 A.1), nI (hy_l A), g_running, g_steps, g_awaited, g_answer, g_where, g_outcome, g_made, 1, g_open, b_ops, b_bs, b_sizes, b_exported, b_stamp, b_owner, b_lengths, b_elements, b_lasting, b_shared, b_roots, b_oldStamp, b_oldElements, b_oldShared, b_oldRoots, b_rows, b_nexts, b_depths, b_places, b_kinds, b_met, b_todo, b_heights) (nI (c - 1)) := by
  refine hy_leave hA c hc (fun B e _ eB => ?_) (fun e x => H0 (hy_sqn e) x)
  have := H1 B (hy_sqs e rfl)
  rw [hy_lE eB] at this
  exact this
theorem hy_tt (hA : hs_w1 A) {w : Nat} (hw : w = 1 ∨ w = 2) {gs : List (List Nat × Nat × Nat → Option (List Nat × Nat × Nat))} {P : SY → Prop}
    (H1 : ∀ B, hs_w1 B → hs_sq (hs_tk w :: gs) A = hs_sq gs B → P (g_limit, g_waiting, nI (hy_e2 B.1), nI (hy_l B), g_running, g_steps, g_awaited, g_answer, g_where, g_outcome, g_made, 1, g_open, b_ops, b_bs, b_sizes, b_exported, b_stamp, b_owner, b_lengths, b_elements, b_lasting, b_shared, b_roots, b_oldStamp, b_oldElements, b_oldShared, b_oldRoots, b_rows, b_nexts, b_depths, b_places, b_kinds, b_met, b_todo, b_heights))
    (H0 : hs_sq (hs_tk w :: gs) A = none → ∀ x, P (g_limit, g_waiting, x, nI (hy_l A), g_running, g_steps, g_awaited, g_answer, g_where, g_outcome, g_made, 0, g_open, b_ops, b_bs, b_sizes, b_exported, b_stamp, b_owner, b_lengths, b_elements, b_lasting, b_shared, b_roots, b_oldStamp, b_oldElements, b_oldShared, b_oldRoots, b_rows, b_nexts, b_depths, b_places, b_kinds, b_met, b_todo, b_heights)) : wpY_take P (g_limit, g_waiting, nI (hy_e2 A.1), nI (hy_l A), g_running, g_steps, g_awaited, g_answer, g_where, g_outcome, g_made, 1, g_open, b_ops, b_bs, b_sizes, b_exported, b_stamp, b_owner, b_lengths, b_elements, b_lasting, b_shared, b_roots, b_oldStamp, b_oldElements, b_oldShared, b_oldRoots, b_rows, b_nexts, b_depths, b_places, b_kinds, b_met, b_todo, b_heights) (nI (w - 1)) := by
  refine hy_take hA w hw (fun B e wB eB => ?_) (fun e x => H0 (hy_sqn e) x)
  have := H1 B wB (hy_sqs e rfl)
  rw [hy_lE eB] at this
  exact this
theorem hy_look (hA : hs_w1 A) {op : Nat} (hop : op ≤ 24) (hk : k < 16) (eop : b_ops (96 + k) = nI op) (ebs : b_bs (96 + k) = x4) (hbs : (op = 1 ∨ op = 2) → b < 2 ∧ x4 = nI b)
    (H1 : ∀ B, hs_ef op b A = some B → wY_look_279 post (nI k) (nI n) (nI op) x4 g_limit g_waiting (nI (hy_e2 B.1)) (nI (hy_l B)) g_running g_steps g_awaited g_answer g_where g_outcome g_made 1 g_open b_ops b_bs b_sizes b_exported b_stamp b_owner b_lengths b_elements b_lasting b_shared b_roots b_oldStamp b_oldElements b_oldShared b_oldRoots b_rows b_nexts b_depths b_places b_kinds b_met b_todo b_heights)
    (H0 : hs_ef op b A = none → ∀ x y, post (g_limit, g_waiting, x, y, g_running, g_steps, g_awaited, g_answer, g_where, g_outcome, g_made, 0, g_open, b_ops, b_bs, b_sizes, b_exported, b_stamp, b_owner, b_lengths, b_elements, b_lasting, b_shared, b_roots, b_oldStamp, b_oldElements, b_oldShared, b_oldRoots, b_rows, b_nexts, b_depths, b_places, b_kinds, b_met, b_todo, b_heights)) :
    wpY_look post (g_limit, g_waiting, nI (hy_e2 A.1), nI (hy_l A), g_running, g_steps, g_awaited, g_answer, g_where, g_outcome, g_made, 1, g_open, b_ops, b_bs, b_sizes, b_exported, b_stamp, b_owner, b_lengths, b_elements, b_lasting, b_shared, b_roots, b_oldStamp, b_oldElements, b_oldShared, b_oldRoots, b_rows, b_nexts, b_depths, b_places, b_kinds, b_met, b_todo, b_heights) (nI k) (nI n) := by
  have e96 : (96 : Int32) + nI k = nI (96 + k) := nI_add 96 k
  have c96 : (nI (96 + k)).toNatClampNeg = 96 + k := nI_clamp (by omega)
  have v96 : vp_in (nI (96 + k)) 112 := vp_in_nI (by omega) (by omega)
  have hl := hy_l_b hA
  have hm0 := hy_lc_b hA.2.2.1
  have hm1 := hy_lc_b hA.2.2.2
  unfold wpY_look
  refine ⟨by rw [e96]; exact v96, nm_r (e' := nI op) (by rw [e96, c96]; exact eop) ⟨by rw [e96]; exact v96, nm_r (e' := x4) (by rw [e96, c96]; exact ebs) ?_⟩⟩
  have K1 : ∀ B, hs_ef op b A = some B → hs_sq (hs_pr op b) A = some B := fun B e => e
  rcases hx_25 hop with rfl | rfl | rfl | rfl | rfl | rfl | rfl | rfl | rfl | rfl | rfl | rfl | rfl | rfl | rfl | rfl | rfl | rfl | rfl | rfl | rfl | rfl | rfl | rfl | rfl
  -- 0
  · refine br_f (by decide) (br_f (by decide) (br_t (by decide) ?_))
    exact hy_pp (c := 1) hA (by decide) H1 (fun e x => hy_279B (H0 e _ _))
  -- 1
  · refine br_f (by decide) (br_f (by decide) (br_f (by decide) (br_t (by decide) ?_)))
    obtain ⟨hb2, rfl⟩ := hbs (Or.inl rfl)
    have hloc := hs_loc1 hA b
    have key : wY_look_144 post (nI k) (nI n) (nI 1) (nI b) (nI (hy_lc (hs_loc b A))) g_limit g_waiting (nI (hy_e2 A.1)) (nI (hy_l A)) g_running g_steps g_awaited g_answer g_where g_outcome g_made 1 g_open b_ops b_bs b_sizes b_exported b_stamp b_owner b_lengths b_elements b_lasting b_shared b_roots b_oldStamp b_oldElements b_oldShared b_oldRoots b_rows b_nexts b_depths b_places b_kinds b_met b_todo b_heights := by
      unfold wY_look_144
      have ee : hs_ef 1 b A = hs_ld b A := hy_sq1 _ A
      rw [ee] at H1 H0
      rcases hloc with e | e | e
      · have el : hs_ld b A = hs_ps 1 A := by unfold hs_ld; rw [e]; rfl
        rw [el] at H1 H0
        rw [e]
        refine br_f (by decide) ?_
        unfold wY_look_156
        refine br_f (by decide) ?_
        unfold wY_look_168
        exact hy_pp (c := 1) hA (by decide) (fun B e => H1 B ((hy_sq1 _ A).symm.trans e)) (fun e x => hy_279B (H0 ((hy_sq1 _ A).symm.trans e) _ _))
      · have el : hs_ld b A = hs_ps 2 A := by unfold hs_ld; rw [e]; rfl
        rw [el] at H1 H0
        rw [e]
        refine br_f (by decide) ?_
        unfold wY_look_156
        refine br_t (by decide) ?_
        unfold wY_look_168
        exact hy_pp (c := 2) hA (by decide) (fun B e => H1 B ((hy_sq1 _ A).symm.trans e)) (fun e x => hy_279B (H0 ((hy_sq1 _ A).symm.trans e) _ _))
      · have el : hs_ld b A = none := by unfold hs_ld; rw [e]; rfl
        rw [el] at H0
        rw [e]
        refine br_t (by decide) ?_
        unfold wY_look_156
        refine br_f (by decide) ?_
        unfold wY_look_168
        exact hy_leaveB (fun x => hy_279B (H0 rfl _ _))
    refine pk_eq b 0 (fun e => ⟨by decide, ?_⟩) (fun e => ⟨by decide, ?_⟩)
    · subst e
      rw [show nI (hy_l A) - nI (hy_l A) / 3 * 3 = nI (hy_l A % 3) from pk_rem (d := 3) (by omega) (by decide) (by decide)]
      have : hy_l A % 3 = hy_lc (hs_loc 0 A) := by unfold hy_l hs_loc; rw [if_pos rfl]; omega
      rw [this]; exact key
    · have e1 : b = 1 := by omega
      subst e1
      rw [show nI (hy_l A) / 3 = nI (hy_l A / 3) from pk_div (d := 3) (by omega) (by decide) (by decide)]
      have : hy_l A / 3 = hy_lc (hs_loc 1 A) := by unfold hy_l hs_loc; rw [if_neg (by decide)]; omega
      rw [this]; exact key
  -- 2
  · refine br_f (by decide) (br_f (by decide) (br_f (by decide) (br_f (by decide) (br_t (by decide) ?_))))
    obtain ⟨hb2, rfl⟩ := hbs (Or.inr rfl)
    have ee : hs_ef 2 b A = hs_sto b A := hy_sq1 _ A
    rw [ee] at H1 H0
    refine hy_takeAny hA (fun c t e => ?_) (fun e => ?_)
    · have hc := hA.2.1 c (by rw [e]; exact List.mem_cons_self ..)
      have hs : hs_sto b A = some (t, if b = 0 then (c, A.2.2) else (A.2.1, c)) := by unfold hs_sto; rw [e]
      have h1 := H1 _ hs
      have hlc : hy_lc c = c := by unfold hy_lc; exact if_neg (by omega)
      refine nm_r (e' := nI c) (by rw [nI_1]; exact congrArg nI (by omega)) (pk_eq b 0 (fun e0 => ⟨by decide, ?_⟩) (fun e0 => ⟨by decide, ?_⟩))
      · unfold wY_look_213
        have el : nI (hy_l A) / 3 * 3 + nI c = nI (hy_l (t, if b = 0 then (c, A.2.2) else (A.2.1, c))) := by
          rw [show nI (hy_l A) / 3 = nI (hy_l A / 3) from pk_div (d := 3) (by omega) (by decide) (by decide), show nI (hy_l A / 3) * 3 = nI (hy_l A / 3 * 3) from pk_mul _ 3, nI_add, if_pos e0]
          apply congrArg nI
          show hy_l A / 3 * 3 + c = hy_lc c + 3 * hy_lc A.2.2
          unfold hy_l; omega
        rw [el]; exact h1
      · unfold wY_look_213
        have el : nI (hy_l A) - nI (hy_l A) / 3 * 3 + 3 * nI c = nI (hy_l (t, if b = 0 then (c, A.2.2) else (A.2.1, c))) := by
          rw [show nI (hy_l A) - nI (hy_l A) / 3 * 3 = nI (hy_l A % 3) from pk_rem (d := 3) (by omega) (by decide) (by decide), show 3 * nI c = nI (3 * c) from pk_mul 3 c, nI_add, if_neg e0]
          apply congrArg nI
          show hy_l A % 3 + 3 * c = hy_lc A.2.1 + 3 * hy_lc c
          unfold hy_l; omega
        rw [el]; exact h1
    · have h0 := H0 (by unfold hs_sto; rw [e])
      refine nm_e (br_c (fun _ => ⟨by decide, ?_⟩) (fun _ => ⟨by decide, ?_⟩))
      · unfold wY_look_213; exact hy_279B (h0 _ _)
      · unfold wY_look_213; exact hy_279B (h0 _ _)
  -- 3 .. 6
  · refine br_f (by decide) (br_f (by decide) (br_f (by decide) (br_f (by decide) (br_f (by decide) (br_t (by decide) ?_)))))
    unfold wY_look_219
    exact hy_tt (w := 1) hA (by decide) (fun B hB e => hy_tt (w := 1) hB (by decide) (fun C hC e' => hy_pp (c := 1) hC (by decide) (fun D e'' => H1 D (e.trans (e'.trans e''))) (fun e'' x => hy_279B (H0 (e.trans (e'.trans e'')) _ _))) (fun e' x => hy_leaveB (fun x => hy_279B (H0 (e.trans e') _ _)))) (fun e x => hy_takeB (fun x => hy_leaveB (fun x => hy_279B (H0 e _ _))))
  · refine br_f (by decide) (br_f (by decide) (br_f (by decide) (br_f (by decide) (br_f (by decide) (br_f (by decide) (br_t (by decide) ?_))))))
    unfold wY_look_219
    exact hy_tt (w := 1) hA (by decide) (fun B hB e => hy_tt (w := 1) hB (by decide) (fun C hC e' => hy_pp (c := 1) hC (by decide) (fun D e'' => H1 D (e.trans (e'.trans e''))) (fun e'' x => hy_279B (H0 (e.trans (e'.trans e'')) _ _))) (fun e' x => hy_leaveB (fun x => hy_279B (H0 (e.trans e') _ _)))) (fun e x => hy_takeB (fun x => hy_leaveB (fun x => hy_279B (H0 e _ _))))
  · refine br_f (by decide) (br_f (by decide) (br_f (by decide) (br_f (by decide) (br_f (by decide) (br_f (by decide) (br_f (by decide) (br_t (by decide) ?_)))))))
    unfold wY_look_219
    exact hy_tt (w := 1) hA (by decide) (fun B hB e => hy_tt (w := 1) hB (by decide) (fun C hC e' => hy_pp (c := 1) hC (by decide) (fun D e'' => H1 D (e.trans (e'.trans e''))) (fun e'' x => hy_279B (H0 (e.trans (e'.trans e'')) _ _))) (fun e' x => hy_leaveB (fun x => hy_279B (H0 (e.trans e') _ _)))) (fun e x => hy_takeB (fun x => hy_leaveB (fun x => hy_279B (H0 e _ _))))
  · refine br_f (by decide) (br_f (by decide) (br_f (by decide) (br_f (by decide) (br_f (by decide) (br_f (by decide) (br_f (by decide) (br_f (by decide) (br_t (by decide) ?_))))))))
    unfold wY_look_219
    exact hy_tt (w := 1) hA (by decide) (fun B hB e => hy_tt (w := 1) hB (by decide) (fun C hC e' => hy_pp (c := 1) hC (by decide) (fun D e'' => H1 D (e.trans (e'.trans e''))) (fun e'' x => hy_279B (H0 (e.trans (e'.trans e'')) _ _))) (fun e' x => hy_leaveB (fun x => hy_279B (H0 (e.trans e') _ _)))) (fun e x => hy_takeB (fun x => hy_leaveB (fun x => hy_279B (H0 e _ _))))
  -- 7
  · refine br_f (by decide) (br_f (by decide) (br_f (by decide) (br_f (by decide) (br_f (by decide) (br_f (by decide) (br_f (by decide) (br_f (by decide) (br_f (by decide) (br_t (by decide) ?_)))))))))
    unfold wY_look_274 wpY_lookRest
    refine br_t (by decide) ?_
    exact H1 A rfl
  -- 8
  · refine br_f (by decide) (br_f (by decide) (br_f (by decide) (br_f (by decide) (br_f (by decide) (br_f (by decide) (br_f (by decide) (br_f (by decide) (br_f (by decide) (br_f (by decide) (br_t (by decide) ?_))))))))))
    unfold wY_look_237
    exact hy_tt (w := 1) hA (by decide) (fun B hB e => H1 B e) (fun e x => hy_279B (H0 e _ _))
  -- 9
  · refine br_f (by decide) (br_f (by decide) (br_f (by decide) (br_f (by decide) (br_f (by decide) (br_f (by decide) (br_f (by decide) (br_f (by decide) (br_f (by decide) (br_f (by decide) (br_f (by decide) (br_t (by decide) ?_)))))))))))
    unfold wY_look_245
    exact hy_pp (c := 2) hA (by decide) H1 (fun e x => hy_279B (H0 e _ _))
  -- 10
  · refine br_f (by decide) (br_f (by decide) (br_f (by decide) (br_f (by decide) (br_f (by decide) (br_f (by decide) (br_f (by decide) (br_f (by decide) (br_f (by decide) (br_f (by decide) (br_f (by decide) (br_f (by decide) (br_t (by decide) ?_))))))))))))
    unfold wY_look_253
    exact hy_tt (w := 2) hA (by decide) (fun B hB e => H1 B e) (fun e x => hy_279B (H0 e _ _))
  -- 11
  · refine br_f (by decide) (br_f (by decide) (br_f (by decide) (br_f (by decide) (br_f (by decide) (br_f (by decide) (br_f (by decide) (br_f (by decide) (br_f (by decide) (br_f (by decide) (br_f (by decide) (br_f (by decide) (br_f (by decide) (br_t (by decide) ?_)))))))))))))
    exact hy_tt (w := 1) hA (by decide) (fun B hB e => hy_pp (c := 2) hB (by decide) (fun D e' => H1 D (e.trans e')) (fun e' x => hy_279B (H0 (e.trans e') _ _))) (fun e x => hy_leaveB (fun x => hy_279B (H0 e _ _)))
  -- 12
  · refine br_f (by decide) (br_f (by decide) (br_f (by decide) (br_f (by decide) (br_f (by decide) (br_f (by decide) (br_f (by decide) (br_f (by decide) (br_f (by decide) (br_f (by decide) (br_f (by decide) (br_f (by decide) (br_f (by decide) (br_f (by decide) (br_t (by decide) ?_))))))))))))))
    unfold wY_look_274 wpY_lookRest
    refine br_f (by decide) (br_f (by decide) (br_t (by decide) ?_))
    exact hy_tt (w := 1) hA (by decide) (fun B hB e => hy_tt (w := 2) hB (by decide) (fun C hC e' => hy_pp (c := 1) hC (by decide) (fun D e'' => H1 D (e.trans (e'.trans e''))) (fun e'' x => hy_279B (H0 (e.trans (e'.trans e'')) _ _))) (fun e' x => hy_leaveB (fun x => hy_279B (H0 (e.trans e') _ _)))) (fun e x => hy_takeB (fun x => hy_leaveB (fun x => hy_279B (H0 e _ _))))
  -- 13
  · refine br_f (by decide) (br_f (by decide) (br_f (by decide) (br_f (by decide) (br_f (by decide) (br_f (by decide) (br_f (by decide) (br_f (by decide) (br_f (by decide) (br_f (by decide) (br_f (by decide) (br_f (by decide) (br_f (by decide) (br_f (by decide) (br_f (by decide) (br_t (by decide) ?_)))))))))))))))
    unfold wY_look_274 wpY_lookRest
    refine br_f (by decide) (br_f (by decide) (br_f (by decide) (br_t (by decide) ?_)))
    exact hy_tt (w := 1) hA (by decide) (fun B hB e => hy_tt (w := 1) hB (by decide) (fun C hC e' => hy_tt (w := 2) hC (by decide) (fun D hD e'' => H1 D (e.trans (e'.trans e''))) (fun e'' x => hy_279B (H0 (e.trans (e'.trans e'')) _ _))) (fun e' x => hy_takeB (fun x => hy_279B (H0 (e.trans e') _ _)))) (fun e x => hy_takeB (fun x => hy_takeB (fun x => hy_279B (H0 e _ _))))
  -- 14
  · refine br_f (by decide) (br_f (by decide) (br_f (by decide) (br_f (by decide) (br_f (by decide) (br_f (by decide) (br_f (by decide) (br_f (by decide) (br_f (by decide) (br_f (by decide) (br_f (by decide) (br_f (by decide) (br_f (by decide) (br_f (by decide) (br_f (by decide) (br_f (by decide) (br_t (by decide) ?_))))))))))))))))
    unfold wY_look_253
    exact hy_tt (w := 2) hA (by decide) (fun B hB e => H1 B e) (fun e x => hy_279B (H0 e _ _))
  -- 15
  · refine br_f (by decide) (br_f (by decide) (br_f (by decide) (br_f (by decide) (br_f (by decide) (br_f (by decide) (br_f (by decide) (br_f (by decide) (br_f (by decide) (br_f (by decide) (br_f (by decide) (br_f (by decide) (br_f (by decide) (br_f (by decide) (br_f (by decide) (br_f (by decide) (br_f (by decide) (br_t (by decide) ?_)))))))))))))))))
    unfold wY_look_274 wpY_lookRest
    refine br_f (by decide) (br_f (by decide) (br_f (by decide) (br_f (by decide) (br_f (by decide) (br_t (by decide) ?_)))))
    exact hy_tt (w := 2) hA (by decide) (fun B hB e => hy_pp (c := 1) hB (by decide) (fun D e' => H1 D (e.trans e')) (fun e' x => hy_279B (H0 (e.trans e') _ _))) (fun e x => hy_leaveB (fun x => hy_279B (H0 e _ _)))
  -- 16
  · refine br_f (by decide) (br_f (by decide) (br_f (by decide) (br_f (by decide) (br_f (by decide) (br_f (by decide) (br_f (by decide) (br_f (by decide) (br_f (by decide) (br_f (by decide) (br_f (by decide) (br_f (by decide) (br_f (by decide) (br_f (by decide) (br_f (by decide) (br_f (by decide) (br_f (by decide) (br_f (by decide) (br_t (by decide) ?_))))))))))))))))))
    unfold wY_look_245
    exact hy_pp (c := 2) hA (by decide) H1 (fun e x => hy_279B (H0 e _ _))
  -- 17
  · refine br_f (by decide) (br_f (by decide) (br_f (by decide) (br_f (by decide) (br_f (by decide) (br_f (by decide) (br_f (by decide) (br_f (by decide) (br_f (by decide) (br_f (by decide) (br_f (by decide) (br_f (by decide) (br_f (by decide) (br_f (by decide) (br_f (by decide) (br_f (by decide) (br_f (by decide) (br_f (by decide) (br_f (by decide) (br_t (by decide) ?_)))))))))))))))))))
    unfold wY_look_245
    exact hy_pp (c := 2) hA (by decide) H1 (fun e x => hy_279B (H0 e _ _))
  -- 18
  · refine br_f (by decide) (br_f (by decide) (br_f (by decide) (br_f (by decide) (br_f (by decide) (br_f (by decide) (br_f (by decide) (br_f (by decide) (br_f (by decide) (br_f (by decide) (br_f (by decide) (br_f (by decide) (br_f (by decide) (br_f (by decide) (br_f (by decide) (br_f (by decide) (br_f (by decide) (br_f (by decide) (br_f (by decide) (br_f (by decide) (br_t (by decide) ?_))))))))))))))))))))
    unfold wY_look_274 wpY_lookRest
    refine br_f (by decide) (br_f (by decide) (br_f (by decide) (br_f (by decide) (br_f (by decide) (br_f (by decide) (br_f (by decide) (br_f (by decide) (br_t (by decide) ?_))))))))
    exact hy_tt (w := 1) hA (by decide) (fun B hB e => hy_pp (c := 1) hB (by decide) (fun D e' => H1 D (e.trans e')) (fun e' x => hy_279B (H0 (e.trans e') _ _))) (fun e x => hy_leaveB (fun x => hy_279B (H0 e _ _)))
  -- 19
  · refine br_f (by decide) (br_f (by decide) (br_f (by decide) (br_f (by decide) (br_f (by decide) (br_f (by decide) (br_f (by decide) (br_f (by decide) (br_f (by decide) (br_f (by decide) (br_f (by decide) (br_f (by decide) (br_f (by decide) (br_f (by decide) (br_f (by decide) (br_f (by decide) (br_f (by decide) (br_f (by decide) (br_f (by decide) (br_f (by decide) (br_f (by decide) (br_t (by decide) ?_)))))))))))))))))))))
    unfold wY_look_237
    exact hy_tt (w := 1) hA (by decide) (fun B hB e => H1 B e) (fun e x => hy_279B (H0 e _ _))
  -- 20
  · refine br_f (by decide) (br_t (by decide) ?_)
    unfold wY_look_274 wpY_lookRest
    refine br_f (by decide) (br_f (by decide) (br_f (by decide) (br_f (by decide) (br_f (by decide) (br_f (by decide) (br_f (by decide) (br_f (by decide) (br_f (by decide) (br_f (by decide) (br_t (by decide) ?_))))))))))
    have ee : hs_ef 20 b A = hs_dup A := hy_sq1 _ A
    rw [ee] at H1 H0
    refine hy_takeAny hA (fun c t e => ?_) (fun e => ?_)
    · have hc := hA.2.1 c (by rw [e]; exact List.mem_cons_self ..)
      have ed : hs_dup A = hs_ps c A := by unfold hs_dup; rw [e]
      rw [ed] at H1 H0
      have et : hs_tk 3 A = some (t, A.2) := by unfold hs_tk; rw [e]; exact if_pos (Or.inl rfl)
      have hB : hs_w1 (t, A.2) := (hs_tk_k 3 A _ et).1 hA
      refine hy_leave (A := (t, A.2)) hB c (by omega) (fun C e1 hC eC => ?_) (fun e1 x => ?_)
      · have e2 := (hs_ps_s e1).2
        have eCA : C = A := by
          rw [e2]
          show (c :: t, A.2) = A
          rw [← e]
        rw [eCA]
        exact hy_pp (c := c) hA (by omega) (fun D e' => H1 D ((hy_sq1 _ A).symm.trans e')) (fun e' x => hy_279B (H0 ((hy_sq1 _ A).symm.trans e') _ _))
      · have hl4 := hA.1
        rw [e, List.length_cons] at hl4
        have : hs_ps c (t, A.2) = some (c :: t, A.2) := if_neg (by show ¬ t.length = 4; omega)
        rw [this] at e1; cases e1
    · have h0 := H0 (by unfold hs_dup; rw [e])
      exact hy_leaveB (fun x => hy_leaveB (fun x => hy_279B (h0 _ _)))
  -- 21
  · refine br_f (by decide) (br_t (by decide) ?_)
    unfold wY_look_274 wpY_lookRest
    refine br_f (by decide) (br_f (by decide) (br_f (by decide) (br_f (by decide) (br_f (by decide) (br_f (by decide) (br_f (by decide) (br_f (by decide) (br_f (by decide) (br_f (by decide) (br_f (by decide) (br_t (by decide) ?_)))))))))))
    have ee : hs_ef 21 b A = hs_tk 3 A := hy_sq1 _ A
    rw [ee] at H1 H0
    refine hy_takeAny hA (fun c t e => ?_) (fun e => ?_)
    · exact H1 (t, A.2) (by unfold hs_tk; rw [e]; exact if_pos (Or.inl rfl))
    · exact hy_279B (H0 (by unfold hs_tk; rw [e]) _ _)
  -- 22 .. 24
  · refine br_f (by decide) (br_t (by decide) ?_)
    unfold wY_look_274 wpY_lookRest
    refine br_f (by decide) (br_t (by decide) ?_)
    exact H1 A rfl
  · refine br_f (by decide) (br_t (by decide) ?_)
    unfold wY_look_274 wpY_lookRest
    refine br_f (by decide) (br_t (by decide) ?_)
    exact H1 A rfl
  · refine br_f (by decide) (br_t (by decide) ?_)
    unfold wY_look_274 wpY_lookRest
    refine br_f (by decide) (br_t (by decide) ?_)
    exact H1 A rfl
end
end
section
/-! ===== Y: meet, the list of what is to be looked at, check ===== -/
def hy_sn (k : Nat) (A : List Nat × Nat × Nat) : Nat := k * 288 + hy_e2 A.1 * 9 + hy_l A
theorem hy_e2_i : ∀ {s t : List Nat}, (∀ c, c ∈ s → c = 1 ∨ c = 2) → (∀ c, c ∈ t → c = 1 ∨ c = 2) → hy_e2 s = hy_e2 t → s = t
  | [], [], _, _, _ => rfl
  | a :: s, b :: t, h1, h2, e => by
    have e' : 2 * hy_e2 s + (a - 1) = 2 * hy_e2 t + (b - 1) := e
    have ha := h1 a (List.mem_cons_self ..)
    have hb := h2 b (List.mem_cons_self ..)
    rw [hy_e2_i (s := s) (t := t) (fun c hc => h1 c (List.mem_cons_of_mem _ hc)) (fun c hc => h2 c (List.mem_cons_of_mem _ hc)) (by omega), show a = b by omega]
  | [], b :: t, _, h2, e => by
    have e' : 1 = 2 * hy_e2 t + (b - 1) := e
    have := (hy_e2_b (t := t) (fun c hc => h2 c (List.mem_cons_of_mem _ hc))).1
    have p : 0 < 2 ^ t.length := Nat.two_pow_pos _
    omega
  | a :: s, [], h1, _, e => by
    have e' : 2 * hy_e2 s + (a - 1) = 1 := e
    have := (hy_e2_b (t := s) (fun c hc => h1 c (List.mem_cons_of_mem _ hc))).1
    have p : 0 < 2 ^ s.length := Nat.two_pow_pos _
    omega
theorem hy_lc_i {x y : Nat} (hx : x = 1 ∨ x = 2 ∨ x = 4) (hy : y = 1 ∨ y = 2 ∨ y = 4) (e : hy_lc x = hy_lc y) : x = y := by
  unfold hy_lc at e
  split at e <;> split at e <;> omega
theorem hy_sn_b {k : Nat} {A : List Nat × Nat × Nat} (hk : k < 16) (hA : hs_w1 A) : hy_sn k A < 4608 := by
  have a := hy_e2_5 hA.2.1 hA.1
  have b := hy_l_b hA
  unfold hy_sn; omega
theorem hy_sn_d {k : Nat} {A : List Nat × Nat × Nat} (hA : hs_w1 A) : hy_sn k A / 288 = k ∧ hy_sn k A / 9 % 32 = hy_e2 A.1 ∧ hy_sn k A % 9 = hy_l A := by
  have a := hy_e2_5 hA.2.1 hA.1
  have b := hy_l_b hA
  unfold hy_sn; omega
theorem hy_sn_i {k k' : Nat} {A B : List Nat × Nat × Nat} (hA : hs_w1 A) (hB : hs_w1 B) (e : hy_sn k A = hy_sn k' B) : k = k' ∧ A = B := by
  obtain ⟨a1, a2, a3⟩ := hy_sn_d (k := k) hA
  obtain ⟨b1, b2, b3⟩ := hy_sn_d (k := k') hB
  rw [e] at a1 a2 a3
  refine ⟨a1.symm.trans b1, ?_⟩
  have e2 := hy_e2_i hA.2.1 hB.2.1 (a2.symm.trans b2)
  have el : hy_l A = hy_l B := a3.symm.trans b3
  have x0 := hy_lc_b hA.2.2.1
  have y0 := hy_lc_b hB.2.2.1
  unfold hy_l at el
  have l0 := hy_lc_i hA.2.2.1 hB.2.2.1 (by omega)
  have l1 := hy_lc_i hA.2.2.2 hB.2.2.2 (by omega)
  obtain ⟨s, p, q⟩ := A
  obtain ⟨s', p', q'⟩ := B
  dsimp only at e2 l0 l1
  rw [e2, l0, l1]
def hy_ct (met : Nat → Int32) : Nat := hs_su (fun i => if met i = 0 then 0 else 1) 4608
theorem hy_ct_b (met : Nat → Int32) : hy_ct met ≤ 4608 := by
  refine Nat.le_trans (hs_su_b (c := 1) (fun i _ => ?_)) (by decide)
  split <;> omega
theorem hy_ct_m (met : Nat → Int32) (i : Nat) : hy_ct met ≤ hy_ct (upd met i 1) := by
  refine hs_su_m (fun j _ => ?_)
  by_cases z : j = i
  · subst z; rw [pk_us]; split <;> decide
  · rw [pk_un z]; exact Nat.le_refl _
theorem hy_ct_p {met : Nat → Int32} {i : Nat} (hi : i < 4608) (h : met i = 0) : hy_ct met + 1 ≤ hy_ct (upd met i 1) := by
  refine hs_su_p (k := i) ?_ (fun j _ => ?_) hi
  · rw [pk_us, if_pos h]; decide
  · by_cases z : j = i
    · subst z; rw [pk_us]; split <;> decide
    · rw [pk_un z]; exact Nat.le_refl _
def hy_ok (opf bf : Nat → Nat) (n : Nat) (met : Nat → Int32) (k : Nat) (A : List Nat × Nat × Nat) : Prop :=
  ∃ A', hs_ef (opf k) (bf k) A = some A' ∧ ((opf k = 7 ∨ opf k = 8) → bf k < n ∧ met (hy_sn (bf k) A') ≠ 0) ∧ (opf k ≠ 7 → opf k ≠ 19 → k + 1 < n ∧ met (hy_sn (k + 1) A') ≠ 0)
def hy_I (opf bf : Nat → Nat) (n : Nat) (ex : Nat → Prop) (met todo : Nat → Int32) (W : Nat) (hts : Nat → Int32) : Prop :=
  (∀ i, i < 4608 → met i ≠ 0 → ∃ k A, i = hy_sn k A ∧ k < n ∧ hs_R opf bf k A) ∧
  (∀ k A, k < n → hs_w1 A → met (hy_sn k A) ≠ 0 → ¬ ex (hy_sn k A) → (∃ j, j < W ∧ todo j = nI (hy_sn k A)) ∨ hy_ok opf bf n met k A) ∧
  (∀ j, j < W → ∃ k A, todo j = nI (hy_sn k A) ∧ k < n ∧ hs_R opf bf k A) ∧
  (∀ k, k < n → (hts k = -1 ∧ ∀ A, hs_w1 A → met (hy_sn k A) = 0) ∨ ∃ h, hts k = nI h ∧ (∃ A, hs_R opf bf k A ∧ A.1.length = h) ∧ ∀ A, hs_w1 A → met (hy_sn k A) ≠ 0 → A.1.length = h)
theorem hy_okm {opf bf : Nat → Nat} {n : Nat} {met met' : Nat → Int32} {k : Nat} {A : List Nat × Nat × Nat} (hm : ∀ i, met i ≠ 0 → met' i ≠ 0) (h : hy_ok opf bf n met k A) : hy_ok opf bf n met' k A := by
  obtain ⟨A', e, h1, h2⟩ := h
  exact ⟨A', e, fun o => ⟨(h1 o).1, hm _ (h1 o).2⟩, fun o1 o2 => ⟨(h2 o1 o2).1, hm _ (h2 o1 o2).2⟩⟩
theorem hy_um (met : Nat → Int32) (x : Nat) : ∀ i, met i ≠ 0 → upd met x 1 i ≠ 0 := fun i h => by
  by_cases z : i = x
  · subst z; rw [pk_us]; decide
  · rw [pk_un z]; exact h
/-- a state is met: W stays if it was known, else it is put at W -/
theorem hy_Imet {opf bf : Nat → Nat} {n : Nat} {ex : Nat → Prop} {met todo hts todo' : Nat → Int32} {W W' k : Nat} {A : List Nat × Nat × Nat} (hn : n ≤ 16) (I : hy_I opf bf n ex met todo W hts) (hk : k < n) (hR : hs_R opf bf k A) (hl : ∀ B, hs_w1 B → met (hy_sn k B) ≠ 0 → B.1.length = A.1.length)
    (hW : W ≤ W') (ht : ∀ j, j < W → todo' j = todo j) (hn' : ∀ j, W ≤ j → j < W' → todo' j = nI (hy_sn k A)) (hz : met (hy_sn k A) = 0 → W < W') :
    hy_I opf bf n ex (upd met (hy_sn k A) 1) todo' W' (upd hts k (nI A.1.length)) := by
  have hw := hs_Rw hR
  have hm := hy_um met (hy_sn k A)
  refine ⟨fun i hi h => ?_, fun j B hj hB h hx => ?_, fun j hj => ?_, fun j hj => ?_⟩
  · by_cases z : i = hy_sn k A
    · exact ⟨k, A, z, hk, hR⟩
    · rw [pk_un z] at h; exact I.1 i hi h
  · by_cases z : met (hy_sn j B) ≠ 0
    · rcases I.2.1 j B hj hB z hx with ⟨i, hi, e⟩ | h'
      · exact Or.inl ⟨i, by omega, by rw [ht i hi]; exact e⟩
      · exact Or.inr (hy_okm hm h')
    · have z0 : met (hy_sn j B) = 0 := Classical.byContradiction z
      by_cases zz : hy_sn j B = hy_sn k A
      · rw [zz] at z0
        have := hz z0
        exact Or.inl ⟨W, this, by rw [zz]; exact hn' W (Nat.le_refl _) this⟩
      · rw [pk_un zz] at h; exact absurd z0 h
  · rcases Nat.lt_or_ge j W with z | z
    · obtain ⟨a, B, e, ha, hB⟩ := I.2.2.1 j z
      exact ⟨a, B, by rw [ht j z]; exact e, ha, hB⟩
    · exact ⟨k, A, hn' j z hj, hk, hR⟩
  · by_cases z : j = k
    · subst z
      refine Or.inr ⟨A.1.length, pk_us, ⟨A, hR, rfl⟩, fun B hB h => ?_⟩
      by_cases zz : hy_sn j B = hy_sn j A
      · rw [(hy_sn_i hB hw zz).2]
      · rw [pk_un zz] at h; exact hl B hB h
    · have hne : ∀ B, hs_w1 B → hy_sn j B ≠ hy_sn k A := fun B hB e => z (hy_sn_i hB hw e).1
      rw [pk_un z]
      rcases I.2.2.2 j hj with ⟨h1, h2⟩ | ⟨h, h1, h2, h3⟩
      · exact Or.inl ⟨h1, fun B hB => by rw [pk_un (hne B hB)]; exact h2 B hB⟩
      · exact Or.inr ⟨h, h1, h2, fun B hB q => h3 B hB (by rw [pk_un (hne B hB)] at q; exact q)⟩
theorem hy_s16 {x : Nat} (h : x < 32768) : vp_nar .short (nI x).toInt16.toInt32 = nI x := by
  rw [pk_vs]
  exact lg_i2s_small (by rw [nI_toInt (by omega)]; omega) (by rw [nI_toInt (by omega)]; omega)
section
variable {g_limit g_waiting g_stack g_locals g_running g_steps g_awaited g_answer g_where g_outcome : Int32} {g_made : Int64} {g_good g_open : Int32} {b_ops b_bs b_sizes b_exported : Nat → Int32} {b_stamp : Nat → Int64} {b_owner b_lengths b_elements b_lasting b_shared b_roots : Nat → Int32} {b_oldStamp : Nat → Int64} {b_oldElements b_oldShared b_oldRoots b_rows b_nexts b_depths b_places b_kinds b_met b_todo b_heights : Nat → Int32}
variable {post : SY → Prop} {opf bf : Nat → Nat} {n : Nat} {ex : Nat → Prop}
/-- the state's cell is set; the pure facts are asked for a good one alone -/
theorem hy_54 {k W : Nat} {A : List Nat × Nat × Nat} {g : Int32} {met todo hts : Nat → Int32} (hn : n ≤ 16) (hk : k < n) (hR : hs_R opf bf k A) (hg : g = 1 ∨ (g = 0 ∧ ¬ hs_CK opf bf n)) (hc : W ≤ hy_ct met) (hI : g = 1 → hy_I opf bf n ex met todo W hts ∧ ∀ B, hs_w1 B → met (hy_sn k B) ≠ 0 → B.1.length = A.1.length)
    (H : ∀ g' W' met' todo' hts', (g' = 1 ∨ (g' = 0 ∧ ¬ hs_CK opf bf n)) → W' ≤ hy_ct met' → 2 * (4608 - hy_ct met') + W' ≤ 2 * (4608 - hy_ct met) + W → (g' = 1 → g = 1 ∧ hy_I opf bf n ex met' todo' W' hts' ∧ k < n ∧ met' (hy_sn k A) ≠ 0 ∧ ∀ i, met i ≠ 0 → met' i ≠ 0) → post (g_limit, nI W', g_stack, g_locals, g_running, g_steps, g_awaited, g_answer, g_where, g_outcome, g_made, g', g_open, b_ops, b_bs, b_sizes, b_exported, b_stamp, b_owner, b_lengths, b_elements, b_lasting, b_shared, b_roots, b_oldStamp, b_oldElements, b_oldShared, b_oldRoots, b_rows, b_nexts, b_depths, b_places, b_kinds, met', todo', hts')) :
    wY_meet_54 post (nI k) (nI (hy_e2 A.1)) (nI (hy_l A)) (nI A.1.length) g_limit (nI W) g_stack g_locals g_running g_steps g_awaited g_answer g_where g_outcome g_made g g_open b_ops b_bs b_sizes b_exported b_stamp b_owner b_lengths b_elements b_lasting b_shared b_roots b_oldStamp b_oldElements b_oldShared b_oldRoots b_rows b_nexts b_depths b_places b_kinds met todo hts := by
  have hw := hs_Rw hR
  have hsb := hy_sn_b (k := k) (by omega) hw
  have hcb := hy_ct_b met
  have hcm := hy_ct_m met (hy_sn k A)
  have hcm' := hy_ct_b (upd met (hy_sn k A) 1)
  have ck : (nI k).toNatClampNeg = k := nI_clamp (by omega)
  have cs : (nI (hy_sn k A)).toNatClampNeg = hy_sn k A := nI_clamp (by omega)
  have cW : (nI W).toNatClampNeg = W := nI_clamp (by omega)
  have vs : vp_in (nI (hy_sn k A)) 4608 := vp_in_nI hsb (by omega)
  have es : (nI k * 288 + nI (hy_e2 A.1) * 9) + nI (hy_l A) = nI (hy_sn k A) := by
    rw [show nI k * 288 = nI (k * 288) from pk_mul k 288, show nI (hy_e2 A.1) * 9 = nI (hy_e2 A.1 * 9) from pk_mul _ 9, nI_add, nI_add]
    rfl
  have vb1 : vp_nar .boolean 1 = 1 := rfl
  have hn0 : upd met (hy_sn k A) 1 (hy_sn k A) ≠ 0 := by rw [pk_us]; decide
  unfold wY_meet_54
  rw [ck, es]
  refine ⟨vp_in_nI (by omega) (by omega), nm_e (nm_e ⟨vs, ?_⟩)⟩
  rw [cs, cW, vb1, hy_s16 (by omega), nI_1]
  by_cases z : met (hy_sn k A) = 0
  · have hcp := hy_ct_p hsb z
    refine br_t z (nm_e ⟨vp_in_nI (by omega) (by omega), nm_e ⟨vs, nm_e ?_⟩⟩)
    refine H g (W + 1) _ _ _ hg (by omega) (by omega) (fun e => ⟨e, ?_, hk, hn0, hy_um met _⟩)
    exact hy_Imet hn (hI e).1 hk hR (hI e).2 (by omega) (fun j hj => pk_un (by omega)) (fun j h1 h2 => by rw [show j = W by omega]; exact pk_us) (fun _ => by omega)
  · refine br_f z ⟨vs, nm_e ?_⟩
    refine H g W _ _ _ hg (by omega) (by omega) (fun e => ⟨e, ?_, hk, hn0, hy_um met _⟩)
    exact hy_Imet hn (hI e).1 hk hR (hI e).2 (Nat.le_refl _) (fun j _ => rfl) (fun j h1 h2 => by omega) (fun q => absurd q z)
theorem hy_15 {x1 x3 : Int32} {s : List Nat} (hs : ∀ c, c ∈ s → c = 1 ∨ c = 2) (hl : s.length ≤ 4) (H : ∀ fu, wY_meet_15 post x1 (nI (hy_e2 s)) x3 g_limit g_waiting g_stack g_locals g_running g_steps g_awaited g_answer g_where g_outcome g_made g_good g_open b_ops b_bs b_sizes b_exported b_stamp b_owner b_lengths b_elements b_lasting b_shared b_roots b_oldStamp b_oldElements b_oldShared b_oldRoots b_rows b_nexts b_depths b_places b_kinds b_met b_todo b_heights (fu + 1) (nI s.length)) : ∀ d j, j + d = s.length → wY_meet_15 post x1 (nI (hy_e2 s)) x3 g_limit g_waiting g_stack g_locals g_running g_steps g_awaited g_answer g_where g_outcome g_made g_good g_open b_ops b_bs b_sizes b_exported b_stamp b_owner b_lengths b_elements b_lasting b_shared b_roots b_oldStamp b_oldElements b_oldShared b_oldRoots b_rows b_nexts b_depths b_places b_kinds b_met b_todo b_heights (d + 1) (nI j) := by
  intro d
  induction d with
  | zero => intro j hj; rw [show j = s.length by omega]; exact H 0
  | succ d ih =>
    intro j hj
    have hb := hy_e2_5 hs hl
    rw [wY_meet_15]
    refine br_f ?_ (nm_r (nI_1 _) (ih (j + 1) (by omega)))
    rw [hx_shr (by omega) (by omega)]
    have h2 : 2 ≤ hy_e2 s / 2 ^ j := by
      rw [Nat.le_div_iff_mul_le (Nat.two_pow_pos _)]
      have a := (hy_e2_b hs).1
      have b : 2 ^ (j + 1) ≤ 2 ^ s.length := Nat.pow_le_pow_right (by decide) (by omega)
      rw [Nat.pow_succ] at b
      omega
    have h3 : hy_e2 s / 2 ^ j ≤ hy_e2 s := Nat.div_le_self _ _
    intro q
    have := (nI_leI (a := hy_e2 s / 2 ^ j) (b := 1) (by omega) (by decide)).mp q
    omega
theorem hy_meet {k W : Nat} {A : List Nat × Nat × Nat} {g : Int32} {met todo hts : Nat → Int32} (hn : n ≤ 16) (hk : k ≤ 16) (hR : hs_R opf bf k A) (hg : g = 1 ∨ (g = 0 ∧ ¬ hs_CK opf bf n)) (hc : W ≤ hy_ct met) (hI : g = 1 → hy_I opf bf n ex met todo W hts)
    (H : ∀ g' W' met' todo' hts', (g' = 1 ∨ (g' = 0 ∧ ¬ hs_CK opf bf n)) → W' ≤ hy_ct met' → 2 * (4608 - hy_ct met') + W' ≤ 2 * (4608 - hy_ct met) + W → (g' = 1 → g = 1 ∧ hy_I opf bf n ex met' todo' W' hts' ∧ k < n ∧ met' (hy_sn k A) ≠ 0 ∧ ∀ i, met i ≠ 0 → met' i ≠ 0) → post (g_limit, nI W', g_stack, g_locals, g_running, g_steps, g_awaited, g_answer, g_where, g_outcome, g_made, g', g_open, b_ops, b_bs, b_sizes, b_exported, b_stamp, b_owner, b_lengths, b_elements, b_lasting, b_shared, b_roots, b_oldStamp, b_oldElements, b_oldShared, b_oldRoots, b_rows, b_nexts, b_depths, b_places, b_kinds, met', todo', hts')) :
    wpY_meet post (g_limit, nI W, g_stack, g_locals, g_running, g_steps, g_awaited, g_answer, g_where, g_outcome, g_made, g, g_open, b_ops, b_bs, b_sizes, b_exported, b_stamp, b_owner, b_lengths, b_elements, b_lasting, b_shared, b_roots, b_oldStamp, b_oldElements, b_oldShared, b_oldRoots, b_rows, b_nexts, b_depths, b_places, b_kinds, met, todo, hts) (nI k) (nI (hy_e2 A.1)) (nI (hy_l A)) (nI n) := by
  have hw := hs_Rw hR
  have hl := hw.1
  have hb := hy_e2_5 hw.2.1 hl
  unfold wpY_meet
  refine pk_lt k n (fun hkn => ?_) (fun hkn => ?_)
  · refine ⟨A.1.length + 1, hy_15 hw.2.1 hl (fun fu => ?_) A.1.length 0 (by omega)⟩
    have ck : (nI k).toNatClampNeg = k := nI_clamp (by omega)
    have vk : vp_in (nI k) 16 := vp_in_nI (by omega) (by omega)
    rw [wY_meet_15]
    refine br_t ?_ ⟨vk, ?_⟩
    · rw [hx_shr (by omega) (by omega)]
      have h2 : hy_e2 A.1 / 2 ^ A.1.length < 2 := by
        rw [Nat.div_lt_iff_lt_mul (Nat.two_pow_pos _)]
        have a := (hy_e2_b hw.2.1).2
        rw [Nat.pow_succ] at a
        omega
      exact nI_le (b := 1) (by omega) (by decide)
    · rw [ck]
      rcases hg with rfl | ⟨rfl, nck⟩
      · have I := hI rfl
        rcases I.2.2.2 k hkn with ⟨h1, h2⟩ | ⟨h, h1, ⟨B, hB, eB⟩, h3⟩
        · refine br_t (by rw [h1]; decide) (hy_54 hn hkn hR (Or.inl rfl) hc (fun _ => ⟨I, fun B hB q => absurd (h2 B hB) q⟩) H)
        · have hBl := (hs_Rw hB).1
          rw [h1]
          refine br_f (nI_pos (by omega)) ⟨vk, pk_eq h A.1.length (fun e => ?_) (fun e => ?_)⟩
          · exact hy_54 hn hkn hR (Or.inl rfl) hc (fun _ => ⟨I, fun B hB q => by rw [h3 B hB q]; exact e⟩) H
          · have nck : ¬ hs_CK opf bf n := fun c => e (by rw [← eB]; exact c.2 k B A hB hR)
            exact hy_54 (ex := ex) hn hkn hR (Or.inr ⟨rfl, nck⟩) hc (fun q => absurd q (by decide)) (fun g' W' met' todo' hts' a b c d => H g' W' met' todo' hts' a b c (fun e => absurd (d e).1 (by decide)))
      · have key := hy_54 (post := post) (ex := ex) (todo := todo) (hts := hts) hn hkn hR (Or.inr ⟨rfl, nck⟩) hc (fun q => absurd q (by decide)) H
        exact br_c (fun _ => key) (fun _ => ⟨vk, br_c (fun _ => key) (fun _ => key)⟩)
  · have nck : ¬ hs_CK opf bf n := fun c => by have := (c.1 k A hR).1; omega
    exact H 0 W met todo hts (Or.inr ⟨rfl, nck⟩) hc (Nat.le_refl _) (fun e => absurd e (by decide))
end
end
section
/-! ===== Y: a turn, the loop, fits, check ===== -/
def hs_fit (op : Nat) (b : Int32) (n : Nat) : Prop :=
  (op = 0 → -128 ≤ b.toInt ∧ b.toInt ≤ 127) ∧ ((op = 1 ∨ op = 2 ∨ op = 9 ∨ op = 10 ∨ op = 11) → ∃ j, j < 2 ∧ b = nI j) ∧ ((op = 7 ∨ op = 8) → ∃ j, j < n ∧ b = nI j) ∧ ((op = 16 ∨ op = 18) → ∃ j, j < 6 ∧ b = nI j)
theorem hs_fit_o {op : Nat} {b : Int32} {n : Nat} (h0 : op ≠ 0) (h1 : ¬ (op = 1 ∨ op = 2 ∨ op = 9 ∨ op = 10 ∨ op = 11)) (h2 : ¬ (op = 7 ∨ op = 8)) (h3 : ¬ (op = 16 ∨ op = 18)) : hs_fit op b n := ⟨fun e => absurd e h0, fun e => absurd e h1, fun e => absurd e h2, fun e => absurd e h3⟩
theorem hy_fits {post : Int32 → Prop} {op n : Nat} {b : Int32} (hop : op ≤ 24) (hn : n ≤ 16) (H1 : hs_fit op b n → post 1) (H0 : ¬ hs_fit op b n → post 0) : wpY_fits post (nI op) b (nI n) := by
  have h2 : (op = 1 ∨ op = 2 ∨ op = 9 ∨ op = 10 ∨ op = 11) → wY_fits_110 post b := fun o => by
    have key : hs_fit op b n ↔ (b = 0 ∨ b = 1) := by
      refine ⟨fun h => ?_, fun h => ⟨fun e => by omega, fun _ => ?_, fun e => by omega, fun e => by omega⟩⟩
      · obtain ⟨j, hj, rfl⟩ := h.2.1 o
        have : j = 0 ∨ j = 1 := by omega
        rcases this with rfl | rfl
        · exact Or.inl rfl
        · exact Or.inr rfl
      · rcases h with rfl | rfl
        · exact ⟨0, by decide, rfl⟩
        · exact ⟨1, by decide, rfl⟩
    unfold wY_fits_110
    refine br_c (fun e => H1 (key.mpr (Or.inl e))) (fun e => br_c (fun e' => H1 (key.mpr (Or.inr e'))) (fun e' => H0 (fun q => ?_)))
    rcases key.mp q with z | z
    · exact e z
    · exact e' z
  have h7 : (op = 7 ∨ op = 8) → wY_fits_125 post b (nI n) := fun o => by
    have key : hs_fit op b n ↔ ∃ j, j < n ∧ b = nI j := ⟨fun h => h.2.2.1 o, fun h => ⟨fun e => by omega, fun e => by omega, fun _ => h, fun e => by omega⟩⟩
    unfold wY_fits_125
    rcases pk_ix b (n := n) (by omega) with z | z | ⟨j, hj, rfl⟩
    · refine br_t z (H0 (fun q => ?_))
      obtain ⟨j, hj, rfl⟩ := key.mp q
      exact nI_pos (by omega) z
    · have hnq : ¬ hs_fit op b n := fun q => by
        obtain ⟨j, hj, rfl⟩ := key.mp q
        exact nI_ge hj (by omega) z
      exact br_c (fun _ => H0 hnq) (fun _ => br_t z (H0 hnq))
    · exact br_f (nI_pos (by omega)) (br_f (nI_ge hj (by omega)) (H1 (key.mpr ⟨j, hj, rfl⟩)))
  have h6 : (op = 16 ∨ op = 18) → wY_fits_140 post b := fun o => by
    have key : hs_fit op b n ↔ ∃ j, j < 6 ∧ b = nI j := ⟨fun h => h.2.2.2 o, fun h => ⟨fun e => by omega, fun e => by omega, fun e => by omega, fun _ => h⟩⟩
    unfold wY_fits_140
    rcases pk_ix b (n := 6) (by decide) with z | z | ⟨j, hj, rfl⟩
    · refine br_t z (H0 (fun q => ?_))
      obtain ⟨j, hj, rfl⟩ := key.mp q
      exact nI_pos (by omega) z
    · have hnq : ¬ hs_fit op b n := fun q => by
        obtain ⟨j, hj, rfl⟩ := key.mp q
        exact nI_ge hj (by omega) z
      have z5 : (5 : Int32) < b := by
        rw [Int32.lt_iff_toInt_lt]
        rw [Int32.le_iff_toInt_le, nI_toInt (by decide)] at z
        rw [show (5 : Int32).toInt = 5 by decide]
        omega
      exact br_c (fun _ => H0 hnq) (fun _ => br_t z5 (H0 hnq))
    · exact br_f (nI_pos (by omega)) (br_f (nI_nlt (a := 5) (b := j) (by omega) (by decide)) (H1 (key.mpr ⟨j, hj, rfl⟩)))
  have ho : op ≠ 0 → ¬ (op = 1 ∨ op = 2 ∨ op = 9 ∨ op = 10 ∨ op = 11) → ¬ (op = 7 ∨ op = 8) → ¬ (op = 16 ∨ op = 18) → post 1 := fun a b c d => H1 (hs_fit_o a b c d)
  have h0 : op = 0 → ((b < (-128) → post 0) ∧ (¬ b < (-128) → (((127 < b → post 0) ∧ (¬ 127 < b → post 1))))) := fun o => by
    have e1 : (-128 : Int32).toInt = -128 := by decide
    have e2 : (127 : Int32).toInt = 127 := by decide
    rw [Int32.lt_iff_toInt_lt, Int32.lt_iff_toInt_lt, e1, e2]
    refine br_c (fun z => H0 (fun q => ?_)) (fun z => br_c (fun z' => H0 (fun q => ?_)) (fun z' => H1 ⟨fun _ => by omega, fun e => by omega, fun e => by omega, fun e => by omega⟩))
    · have := q.1 o; omega
    · have := q.1 o; omega
  unfold wpY_fits
  rcases hx_25 hop with rfl | rfl | rfl | rfl | rfl | rfl | rfl | rfl | rfl | rfl | rfl | rfl | rfl | rfl | rfl | rfl | rfl | rfl | rfl | rfl | rfl | rfl | rfl | rfl | rfl
  all_goals
    repeat (first | exact h0 rfl | refine br_t (by decide) ?_ | refine br_f (by decide) ?_)
    try first | exact h2 (by decide) | exact h7 (by decide) | exact h6 (by decide) | exact ho (by decide) (by decide) (by decide) (by decide)
theorem hy_fin {opf bf : Nat → Nat} {n : Nat} {met todo hts : Nat → Int32} (I : hy_I opf bf n (fun _ => False) met todo 0 hts) (h0 : 0 < n) (hs : met (hy_sn 0 ([], 1, 4)) ≠ 0) : hs_CK opf bf n := by
  have key : ∀ k A, hs_R opf bf k A → hs_w1 A ∧ k < n ∧ met (hy_sn k A) ≠ 0 := fun k A h => by
    refine h (fun k A => hs_w1 A ∧ k < n ∧ met (hy_sn k A) ≠ 0) ⟨⟨⟨Nat.zero_le _, (fun _ h => nomatch h), Or.inl rfl, Or.inr (Or.inr rfl)⟩, h0, hs⟩, fun k A A' hA e => ?_⟩
    have w2 := (hs_ef_k _ _ A A' e).1 hA.1
    rcases I.2.1 k A hA.2.1 hA.1 hA.2.2 id with ⟨j, hj, _⟩ | ⟨B, eB, h1, h2⟩
    · exact absurd hj (by omega)
    · rw [e] at eB; cases eB
      exact ⟨fun o => ⟨w2, (h1 o).1, (h1 o).2⟩, fun o1 o2 => ⟨w2, (h2 o1 o2).1, (h2 o1 o2).2⟩⟩
  refine ⟨fun k A h => ?_, fun k A B hA hB => ?_⟩
  · obtain ⟨w, hk, hm⟩ := key k A h
    rcases I.2.1 k A hk w hm id with ⟨j, hj, _⟩ | ⟨B, eB, _⟩
    · exact absurd hj (by omega)
    · exact ⟨hk, B, eB⟩
  · obtain ⟨wA, hk, hmA⟩ := key k A hA
    obtain ⟨wB, _, hmB⟩ := key k B hB
    rcases I.2.2.2 k hk with ⟨_, h2⟩ | ⟨h, _, _, h3⟩
    · exact absurd (h2 A wA) hmA
    · rw [h3 A wA hmA, h3 B wB hmB]
section
variable {g_limit g_waiting g_stack g_locals g_running g_steps g_awaited g_answer g_where g_outcome : Int32} {g_made : Int64} {g_good g_open : Int32} {b_ops b_bs b_sizes b_exported : Nat → Int32} {b_stamp : Nat → Int64} {b_owner b_lengths b_elements b_lasting b_shared b_roots : Nat → Int32} {b_oldStamp : Nat → Int64} {b_oldElements b_oldShared b_oldRoots b_rows b_nexts b_depths b_places b_kinds b_met b_todo b_heights : Nat → Int32}
variable {opf bf : Nat → Nat} {n : Nat}
theorem hy_turn {post : SY → Prop} {k W : Nat} {A : List Nat × Nat × Nat} {met todo hts : Nat → Int32} (hn : n ≤ 16)
    (hop : ∀ j, j < n → b_ops (96 + j) = nI (opf j) ∧ opf j ≤ 24) (hbs : ∀ j, j < n → (opf j = 1 ∨ opf j = 2 ∨ opf j = 7 ∨ opf j = 8) → b_bs (96 + j) = nI (bf j) ∧ bf j < 16 ∧ (opf j = 1 ∨ opf j = 2 → bf j < 2))
    (hk : k < n) (hR : hs_R opf bf k A) (I : hy_I opf bf n (fun x => x = hy_sn k A) met todo W hts) (hc : W ≤ hy_ct met)
    (H : ∀ g' W' met' todo' hts' st lo, (g' = 1 ∨ (g' = 0 ∧ ¬ hs_CK opf bf n)) → W' ≤ hy_ct met' → 2 * (4608 - hy_ct met') + W' ≤ 2 * (4608 - hy_ct met) + W → (g' = 1 → hy_I opf bf n (fun _ => False) met' todo' W' hts' ∧ ∀ i, met i ≠ 0 → met' i ≠ 0) → post (g_limit, nI W', st, lo, g_running, g_steps, g_awaited, g_answer, g_where, g_outcome, g_made, g', g_open, b_ops, b_bs, b_sizes, b_exported, b_stamp, b_owner, b_lengths, b_elements, b_lasting, b_shared, b_roots, b_oldStamp, b_oldElements, b_oldShared, b_oldRoots, b_rows, b_nexts, b_depths, b_places, b_kinds, met', todo', hts')) :
    wpY_look post (g_limit, nI W, nI (hy_e2 A.1), nI (hy_l A), g_running, g_steps, g_awaited, g_answer, g_where, g_outcome, g_made, 1, g_open, b_ops, b_bs, b_sizes, b_exported, b_stamp, b_owner, b_lengths, b_elements, b_lasting, b_shared, b_roots, b_oldStamp, b_oldElements, b_oldShared, b_oldRoots, b_rows, b_nexts, b_depths, b_places, b_kinds, met, todo, hts) (nI k) (nI n) := by
  have hw := hs_Rw hR
  obtain ⟨eop, h24⟩ := hop k hk
  refine hy_look (b := bf k) hw h24 (by omega) eop rfl (fun o => ?_) (fun B eB => ?_) (fun eN x y => ?_)
  · obtain ⟨e, _, h2⟩ := hbs k hk (by omega)
    exact ⟨h2 o, e⟩
  · have hfin : ∀ {met' todo' hts' : Nat → Int32} {W' : Nat}, hy_I opf bf n (fun x => x = hy_sn k A) met' todo' W' hts' → ((opf k = 7 ∨ opf k = 8) → bf k < n ∧ met' (hy_sn (bf k) B) ≠ 0) → (opf k ≠ 7 → opf k ≠ 19 → k + 1 < n ∧ met' (hy_sn (k + 1) B) ≠ 0) → hy_I opf bf n (fun _ => False) met' todo' W' hts' := fun {met' todo' hts' W'} J h1 h2 => by
      refine ⟨J.1, fun j C hj hC hm _ => ?_, J.2.2⟩
      by_cases z : hy_sn j C = hy_sn k A
      · obtain ⟨rfl, rfl⟩ := hy_sn_i hC hw z
        exact Or.inr ⟨B, eB, h1, h2⟩
      · exact J.2.1 j C hj hC hm z
    have m320 : ∀ {g : Int32} {W1 : Nat} {met1 todo1 hts1 : Nat → Int32}, opf k ≠ 19 → (g = 1 ∨ (g = 0 ∧ ¬ hs_CK opf bf n)) → W1 ≤ hy_ct met1 → 2 * (4608 - hy_ct met1) + W1 ≤ 2 * (4608 - hy_ct met) + W → (g = 1 → hy_I opf bf n (fun x => x = hy_sn k A) met1 todo1 W1 hts1 ∧ (∀ i, met i ≠ 0 → met1 i ≠ 0) ∧ ((opf k = 7 ∨ opf k = 8) → bf k < n ∧ met1 (hy_sn (bf k) B) ≠ 0)) →
        wY_look_320 post (nI k) (nI n) (nI (opf k)) g_limit (nI W1) (nI (hy_e2 B.1)) (nI (hy_l B)) g_running g_steps g_awaited g_answer g_where g_outcome g_made g g_open b_ops b_bs b_sizes b_exported b_stamp b_owner b_lengths b_elements b_lasting b_shared b_roots b_oldStamp b_oldElements b_oldShared b_oldRoots b_rows b_nexts b_depths b_places b_kinds met1 todo1 hts1 := fun {g W1 met1 todo1 hts1} h19 hg hc1 hm1 h1 => by
      unfold wY_look_320
      refine pk_eq (opf k) 7 (fun e => ?_) (fun e7 => ?_)
      · refine H g W1 met1 todo1 hts1 _ _ hg hc1 hm1 (fun eg => ?_)
        obtain ⟨J, hmm, h7⟩ := h1 eg
        exact ⟨hfin J h7 (fun q => absurd e q), hmm⟩
      · rw [nI_1 k]
        refine hy_meet (A := B) hn (by omega) (((hs_Rcl opf bf).2 k A B hR eB).2 e7 h19) hg hc1 (fun eg => (h1 eg).1) (fun g' W' met' todo' hts' a b c d => ?_)
        refine H g' W' met' todo' hts' _ _ a b (by omega) (fun eg => ?_)
        obtain ⟨eg1, J', hk1, hn1, hmm'⟩ := d eg
        obtain ⟨J, hmm, h7⟩ := h1 eg1
        exact ⟨hfin J' (fun o => ⟨(h7 o).1, hmm' _ (h7 o).2⟩) (fun _ _ => ⟨hk1, hn1⟩), fun i q => hmm' i (hmm i q)⟩
    have m305 : (opf k = 7 ∨ opf k = 8) → wY_look_305 post (nI k) (nI n) (nI (opf k)) (b_bs (96 + k)) g_limit (nI W) (nI (hy_e2 B.1)) (nI (hy_l B)) g_running g_steps g_awaited g_answer g_where g_outcome g_made 1 g_open b_ops b_bs b_sizes b_exported b_stamp b_owner b_lengths b_elements b_lasting b_shared b_roots b_oldStamp b_oldElements b_oldShared b_oldRoots b_rows b_nexts b_depths b_places b_kinds met todo hts := fun o => by
      obtain ⟨e, hb16, _⟩ := hbs k hk (by omega)
      rw [e]
      unfold wY_look_305
      refine hy_meet (A := B) hn (by omega) (((hs_Rcl opf bf).2 k A B hR eB).1 o) (Or.inl rfl) hc (fun _ => I) (fun g' W' met' todo' hts' a b c d => ?_)
      refine m320 (by omega) a b c (fun eg => ?_)
      obtain ⟨_, J', hk1, hn1, hmm'⟩ := d eg
      exact ⟨J', hmm', fun _ => ⟨hk1, hn1⟩⟩
    unfold wY_look_279
    refine br_f (by decide) (pk_eq (opf k) 19 (fun e => ?_) (fun e19 => pk_eq (opf k) 7 (fun e => m305 (Or.inl e)) (fun e7 => pk_eq (opf k) 8 (fun e => m305 (Or.inr e)) (fun e8 => ?_))))
    · exact H 1 W met todo hts _ _ (Or.inl rfl) hc (Nat.le_refl _) (fun _ => ⟨hfin I (fun o => by omega) (fun _ q => absurd e q), fun _ q => q⟩)
    · exact m320 e19 (Or.inl rfl) hc (Nat.le_refl _) (fun _ => ⟨I, fun _ q => q, fun o => by omega⟩)
  · refine H 0 W met todo hts _ _ (Or.inr ⟨rfl, fun c => ?_⟩) hc (Nat.le_refl _) (fun e => absurd e (by decide))
    obtain ⟨A', e⟩ := (c.1 k A hR).2
    rw [eN] at e; cases e
theorem hy_87 {post : Int32 → SY → Prop} (hn : n ≤ 16) (h0 : 0 < n)
    (hop : ∀ j, j < n → b_ops (96 + j) = nI (opf j) ∧ opf j ≤ 24) (hbs : ∀ j, j < n → (opf j = 1 ∨ opf j = 2 ∨ opf j = 7 ∨ opf j = 8) → b_bs (96 + j) = nI (bf j) ∧ bf j < 16 ∧ (opf j = 1 ∨ opf j = 2 → bf j < 2))
    (H1 : hs_CK opf bf n → ∀ wa st lo met todo hts, post 1 (g_limit, wa, st, lo, g_running, g_steps, g_awaited, g_answer, g_where, g_outcome, g_made, 1, g_open, b_ops, b_bs, b_sizes, b_exported, b_stamp, b_owner, b_lengths, b_elements, b_lasting, b_shared, b_roots, b_oldStamp, b_oldElements, b_oldShared, b_oldRoots, b_rows, b_nexts, b_depths, b_places, b_kinds, met, todo, hts))
    (H0 : ¬ hs_CK opf bf n → ∀ wa st lo met todo hts, post 0 (g_limit, wa, st, lo, g_running, g_steps, g_awaited, g_answer, g_where, g_outcome, g_made, 0, g_open, b_ops, b_bs, b_sizes, b_exported, b_stamp, b_owner, b_lengths, b_elements, b_lasting, b_shared, b_roots, b_oldStamp, b_oldElements, b_oldShared, b_oldRoots, b_rows, b_nexts, b_depths, b_places, b_kinds, met, todo, hts)) :
    ∀ (fu W : Nat) (g : Int32) (met todo hts : Nat → Int32) (st lo : Int32), 2 * (4608 - hy_ct met) + W < fu → (g = 1 ∨ (g = 0 ∧ ¬ hs_CK opf bf n)) → W ≤ hy_ct met → (g = 1 → hy_I opf bf n (fun _ => False) met todo W hts ∧ met (hy_sn 0 ([], 1, 4)) ≠ 0) →
    wY_check_87 post (nI n) fu g_limit (nI W) st lo g_running g_steps g_awaited g_answer g_where g_outcome g_made g g_open b_ops b_bs b_sizes b_exported b_stamp b_owner b_lengths b_elements b_lasting b_shared b_roots b_oldStamp b_oldElements b_oldShared b_oldRoots b_rows b_nexts b_depths b_places b_kinds met todo hts := by
  intro fu
  induction fu with
  | zero => intro W g met todo hts st lo h; omega
  | succ fu ih =>
    intro W g met todo hts st lo hf hg hc hI
    have hcb := hy_ct_b met
    rw [wY_check_87]
    rcases hg with rfl | ⟨rfl, nck⟩
    · obtain ⟨I, hs⟩ := hI rfl
      cases W with
      | zero => exact br_t (by decide) ⟨rfl, H1 (hy_fin I h0 hs) _ _ _ _ _ _⟩
      | succ W =>
        have cW : (nI W).toNatClampNeg = W := nI_clamp (by omega)
        obtain ⟨k, A, et, hk, hR⟩ := I.2.2.1 W (by omega)
        have hw := hs_Rw hR
        have hsb := hy_sn_b (k := k) (by omega) hw
        obtain ⟨d1, d2, d3⟩ := hy_sn_d (k := k) hw
        refine br_f (nI_nle (by omega) (by omega)) (br_f (by decide) ?_)
        rw [nI_pred, cW, et]
        have e9 : nI (hy_sn k A) / 9 = nI (hy_sn k A / 9) := pk_div (d := 9) (by omega) (by decide) (by decide)
        have e32 : nI (hy_sn k A / 9) - nI (hy_sn k A / 9) / 32 * 32 = nI (hy_sn k A / 9 % 32) := pk_rem (d := 32) (by omega) (by decide) (by decide)
        have er9 : nI (hy_sn k A) - nI (hy_sn k A) / 9 * 9 = nI (hy_sn k A % 9) := pk_rem (d := 9) (by omega) (by decide) (by decide)
        have e288 : nI (hy_sn k A) / 288 = nI (hy_sn k A / 288) := pk_div (d := 288) (by omega) (by decide) (by decide)
        refine nm_e ⟨vp_in_nI (by omega) (by omega), nm_e ⟨by decide, by decide, nm_r (e' := nI (hy_e2 A.1)) (by rw [e9, e32, d2]) ⟨by decide, nm_r (e' := nI (hy_l A)) (by rw [er9, d3]) ⟨by decide, ?_⟩⟩⟩⟩
        rw [e288, d1]
        refine hy_turn hn hop hbs hk hR ⟨I.1, fun j C hj hC hm hx => ?_, fun j hj => I.2.2.1 j (by omega), I.2.2.2⟩ (by omega) (fun g' W' met' todo' hts' st lo a b c d => ?_)
        · rcases I.2.1 j C hj hC hm id with ⟨i, hi, e⟩ | h
          · refine Or.inl ⟨i, ?_, e⟩
            rcases Nat.lt_or_ge i W with z | z
            · exact z
            · have eiW : i = W := by omega
              rw [eiW, et] at e
              have hjb := hy_sn_b (k := j) (by omega) hC
              exact absurd ((nI_eq (by omega) (by omega)).mp e).symm hx
          · exact Or.inr h
        · exact ih W' g' met' todo' hts' st lo (by omega) a b (fun eg => ⟨(d eg).1, (d eg).2 _ hs⟩)
    · have h00 := H0 nck
      exact br_c (fun _ => ⟨rfl, h00 _ _ _ _ _ _⟩) (fun _ => br_t rfl ⟨rfl, h00 _ _ _ _ _ _⟩)
theorem hy_c0 (met : Nat → Int32) (h : ∀ i, i < 4608 → met i = 0) : hy_ct met = 0 := by
  have : hy_ct met ≤ 4608 * 0 := hs_su_b (fun i hi => by rw [if_pos (h i hi)]; exact Nat.le_refl _)
  omega
theorem hy_chk54 {post : Int32 → SY → Prop} {hts : Nat → Int32} (hn : n ≤ 16) (h0 : 0 < n)
    (hop : ∀ j, j < n → b_ops (96 + j) = nI (opf j) ∧ opf j ≤ 24) (hbs : ∀ j, j < n → (opf j = 1 ∨ opf j = 2 ∨ opf j = 7 ∨ opf j = 8) → b_bs (96 + j) = nI (bf j) ∧ bf j < 16 ∧ (opf j = 1 ∨ opf j = 2 → bf j < 2)) (hh : ∀ j, j < n → hts j = -1)
    (H1 : hs_CK opf bf n → ∀ wa st lo met todo hts, post 1 (g_limit, wa, st, lo, g_running, g_steps, g_awaited, g_answer, g_where, g_outcome, g_made, 1, g_open, b_ops, b_bs, b_sizes, b_exported, b_stamp, b_owner, b_lengths, b_elements, b_lasting, b_shared, b_roots, b_oldStamp, b_oldElements, b_oldShared, b_oldRoots, b_rows, b_nexts, b_depths, b_places, b_kinds, met, todo, hts))
    (H0 : ¬ hs_CK opf bf n → ∀ wa st lo met todo hts, post 0 (g_limit, wa, st, lo, g_running, g_steps, g_awaited, g_answer, g_where, g_outcome, g_made, 0, g_open, b_ops, b_bs, b_sizes, b_exported, b_stamp, b_owner, b_lengths, b_elements, b_lasting, b_shared, b_roots, b_oldStamp, b_oldElements, b_oldShared, b_oldRoots, b_rows, b_nexts, b_depths, b_places, b_kinds, met, todo, hts)) :
    ∀ (d j : Nat) (met : Nat → Int32), j + d = 4608 → (∀ i, i < j → met i = 0) → wY_check_54 post (nI n) g_limit g_waiting g_stack g_locals g_running g_steps g_awaited g_answer g_where g_outcome g_made 1 g_open (d + 1) (nI j) b_ops b_bs b_sizes b_exported b_stamp b_owner b_lengths b_elements b_lasting b_shared b_roots b_oldStamp b_oldElements b_oldShared b_oldRoots b_rows b_nexts b_depths b_places b_kinds met b_todo hts := by
  intro d
  induction d with
  | zero =>
    intro j met hj hm
    have hc0 := hy_c0 met (fun i hi => hm i (by omega))
    rw [wY_check_54]
    refine br_t (nI_le (a := 4608) (by omega) (by omega)) ?_
    have hm0 : ∀ k A, k < n → hs_w1 A → met (hy_sn k A) = 0 := fun k A hk hA => hm _ (by have := hy_sn_b (k := k) (by omega) hA; omega)
    refine hy_meet (k := 0) (A := ([], 1, 4)) (W := 0) (opf := opf) (bf := bf) (ex := fun _ => False) (g := 1) hn (by decide) (hs_Rcl opf bf).1 (Or.inl rfl) (by omega) (fun _ => ⟨fun i hi h => absurd (hm i (by omega)) h, fun k A hk hA h => absurd (hm0 k A hk hA) h, fun j hj => by omega, fun k hk => Or.inl ⟨hh k hk, fun A hA => hm0 k A hk hA⟩⟩) (fun g' W' met' todo' hts' a b c e => ?_)
    refine ⟨2 * 4608 + 1, hy_87 hn h0 hop hbs H1 H0 _ W' g' met' todo' hts' _ _ (by omega) a b (fun eg => ?_)⟩
    exact ⟨(e eg).2.1, (e eg).2.2.2.1⟩
  | succ d ih =>
    intro j met hj hm
    rw [wY_check_54]
    have cj : (nI j).toNatClampNeg = j := nI_clamp (by omega)
    refine br_f (nI_ge (b := 4608) (by omega) (by decide)) ⟨vp_in_nI (by omega) (by omega), nm_e (nm_r (nI_1 _) (ih (j + 1) _ (by omega) (fun i hi => ?_)))⟩
    rw [cj]
    by_cases z : i = j
    · subst z; exact pk_us
    · rw [pk_un z]; exact hm i (by omega)
theorem hy_chk7 {post : Int32 → SY → Prop} (hn : n ≤ 16) (h0 : 0 < n)
    (hop : ∀ j, j < n → b_ops (96 + j) = nI (opf j) ∧ opf j ≤ 24) (hbf : ∀ j, j < n → bf j = (b_bs (96 + j)).toNatClampNeg)
    (H1 : (∀ j, j < n → hs_fit (opf j) (b_bs (96 + j)) n) → hs_CK opf bf n → ∀ wa st lo met todo hts, post 1 (g_limit, wa, st, lo, g_running, g_steps, g_awaited, g_answer, g_where, g_outcome, g_made, 1, g_open, b_ops, b_bs, b_sizes, b_exported, b_stamp, b_owner, b_lengths, b_elements, b_lasting, b_shared, b_roots, b_oldStamp, b_oldElements, b_oldShared, b_oldRoots, b_rows, b_nexts, b_depths, b_places, b_kinds, met, todo, hts))
    (H0 : ¬ ((∀ j, j < n → hs_fit (opf j) (b_bs (96 + j)) n) ∧ hs_CK opf bf n) → ∀ wa st lo go met todo hts, post 0 (g_limit, wa, st, lo, g_running, g_steps, g_awaited, g_answer, g_where, g_outcome, g_made, go, g_open, b_ops, b_bs, b_sizes, b_exported, b_stamp, b_owner, b_lengths, b_elements, b_lasting, b_shared, b_roots, b_oldStamp, b_oldElements, b_oldShared, b_oldRoots, b_rows, b_nexts, b_depths, b_places, b_kinds, met, todo, hts)) :
    ∀ (d j : Nat) (hts : Nat → Int32), j + d = n → (∀ i, i < j → hts i = -1 ∧ hs_fit (opf i) (b_bs (96 + i)) n) → wY_check_7 post (nI n) g_limit g_waiting g_stack g_locals g_running g_steps g_awaited g_answer g_where g_outcome g_made 1 g_open (d + 1) (nI j) b_ops b_bs b_sizes b_exported b_stamp b_owner b_lengths b_elements b_lasting b_shared b_roots b_oldStamp b_oldElements b_oldShared b_oldRoots b_rows b_nexts b_depths b_places b_kinds b_met b_todo hts := by
  intro d
  induction d with
  | zero =>
    intro j hts hj hh
    rw [wY_check_7]
    have hfit : ∀ j, j < n → hs_fit (opf j) (b_bs (96 + j)) n := fun i hi => (hh i (by omega)).2
    refine br_t (nI_le (by omega) (by omega)) ⟨4608 + 1, hy_chk54 hn h0 hop (fun i hi o => ?_) (fun i hi => (hh i (by omega)).1) (H1 hfit) (fun nck wa st lo met todo hts => H0 (fun q => nck q.2) wa st lo 0 met todo hts) 4608 0 b_met (by decide) (fun i hi => by cases hi)⟩
    have f := hfit i hi
    rw [hbf i hi]
    by_cases o7 : opf i = 7 ∨ opf i = 8
    · obtain ⟨x, hx, e⟩ := f.2.2.1 o7
      rw [e, nI_clamp (by omega)]
      exact ⟨rfl, by omega, fun q => by omega⟩
    · obtain ⟨x, hx, e⟩ := f.2.1 (by omega)
      rw [e, nI_clamp (by omega)]
      exact ⟨rfl, by omega, fun q => hx⟩
  | succ d ih =>
    intro j hts hj hh
    rw [wY_check_7]
    have e96 : (96 : Int32) + nI j = nI (96 + j) := nI_add 96 j
    have c96 : (nI (96 + j)).toNatClampNeg = 96 + j := nI_clamp (by omega)
    have v96 : vp_in (nI (96 + j)) 112 := vp_in_nI (by omega) (by omega)
    have cj : (nI j).toNatClampNeg = j := nI_clamp (by omega)
    refine br_f (nI_ge (by omega) (by omega)) ?_
    rw [e96, c96, (hop j (by omega)).1]
    refine ⟨v96, v96, hy_fits (hop j (by omega)).2 hn (fun f => ?_) (fun f => ?_)⟩
    · refine br_f (by decide) ⟨vp_in_nI (by omega) (by omega), nm_e (nm_r (nI_1 _) (ih (j + 1) _ (by omega) (fun i hi => ?_)))⟩
      rw [cj]
      by_cases z : i = j
      · subst z; exact ⟨pk_us, f⟩
      · rw [pk_un z]; exact hh i (by omega)
    · exact br_t rfl (H0 (fun q => f (q.1 j (by omega))) _ _ _ _ _ _ _)
theorem hy_check {post : Int32 → SY → Prop} (hn : n ≤ 16) (h0 : 0 < n)
    (hop : ∀ j, j < n → b_ops (96 + j) = nI (opf j) ∧ opf j ≤ 24) (hbf : ∀ j, j < n → bf j = (b_bs (96 + j)).toNatClampNeg)
    (H1 : (∀ j, j < n → hs_fit (opf j) (b_bs (96 + j)) n) → hs_CK opf bf n → ∀ wa st lo met todo hts, post 1 (g_limit, wa, st, lo, g_running, g_steps, g_awaited, g_answer, g_where, g_outcome, g_made, 1, g_open, b_ops, b_bs, b_sizes, b_exported, b_stamp, b_owner, b_lengths, b_elements, b_lasting, b_shared, b_roots, b_oldStamp, b_oldElements, b_oldShared, b_oldRoots, b_rows, b_nexts, b_depths, b_places, b_kinds, met, todo, hts))
    (H0 : ¬ ((∀ j, j < n → hs_fit (opf j) (b_bs (96 + j)) n) ∧ hs_CK opf bf n) → ∀ wa st lo go met todo hts, post 0 (g_limit, wa, st, lo, g_running, g_steps, g_awaited, g_answer, g_where, g_outcome, g_made, go, g_open, b_ops, b_bs, b_sizes, b_exported, b_stamp, b_owner, b_lengths, b_elements, b_lasting, b_shared, b_roots, b_oldStamp, b_oldElements, b_oldShared, b_oldRoots, b_rows, b_nexts, b_depths, b_places, b_kinds, met, todo, hts)) :
    wpY_check post (g_limit, g_waiting, g_stack, g_locals, g_running, g_steps, g_awaited, g_answer, g_where, g_outcome, g_made, g_good, g_open, b_ops, b_bs, b_sizes, b_exported, b_stamp, b_owner, b_lengths, b_elements, b_lasting, b_shared, b_roots, b_oldStamp, b_oldElements, b_oldShared, b_oldRoots, b_rows, b_nexts, b_depths, b_places, b_kinds, b_met, b_todo, b_heights) (nI n) := by
  unfold wpY_check
  exact ⟨n + 1, hy_chk7 hn h0 hop hbf H1 H0 n 0 b_heights (by omega) (fun i hi => by cases hi)⟩
end
end
section
/-! ===== the relation ===== -/
def ca_sh (x : Int32) : Prop := x.toInt16.toInt32 = x
def ca_Sh (a : Nat → Int32) : Prop := ∀ i, ca_sh (a i)
def ca_B (a : Nat → Int32) : Prop := ∀ i, a i = 0 ∨ a i = 1
theorem ca_sh16 (x : Int32) : ca_sh x.toInt16.toInt32 := by unfold ca_sh; simp
theorem ca_sh_of {x : Int32} (h1 : -32768 ≤ x.toInt) (h2 : x.toInt < 32768) : ca_sh x := lg_i2s_small h1 h2
theorem ca_sh_r {x : Int32} (h : ca_sh x) : -32768 ≤ x.toInt ∧ x.toInt < 32768 := by
  have := lg_i2s_range x
  rw [show x.toInt16.toInt32 = x from h] at this
  exact this
theorem ca_shN {n : Nat} (h : n < 32768) : ca_sh (nI n) := ca_sh_of (by rw [nI_toInt (by omega)]; omega) (by rw [nI_toInt (by omega)]; omega)
theorem ca_ShU {a : Nat → Int32} {k : Nat} {x : Int32} (h : ca_Sh a) (hx : ca_sh x) : ca_Sh (upd a k x) := fun i => by
  by_cases z : i = k
  · subst z; rw [pk_us]; exact hx
  · rw [pk_un z]; exact h i
theorem ca_BU {a : Nat → Int32} {k : Nat} {x : Int32} (h : ca_B a) (hx : x = 0 ∨ x = 1) : ca_B (upd a k x) := fun i => by
  by_cases z : i = k
  · subst z; rw [pk_us]; exact hx
  · rw [pk_un z]; exact h i
theorem ca_ns {x : Int32} (h : ca_sh x) : vp_nar .short x = x := by rw [vp_nar_short]; exact h
theorem ca_nb {x : Int32} (h : x = 0 ∨ x = 1) : vp_nar .boolean x = x := by rcases h with rfl | rfl <;> rfl
theorem ca_by : ∀ n, n < 128 → (nI n).toInt8.toInt32 = nI n := by decide +kernel
theorem ca_vb {n : Nat} (h : n < 128) : vp_nar .byte (nI n) = nI n := by rw [vp_nar_byte]; exact ca_by n h
theorem ca_vb' {n : Nat} (h : n < 128) : vp_nar .byte (nI n).toInt8.toInt32 = nI n := by rw [ca_by n h]; exact ca_vb h
/-- references: X 65536 + o, null 65544; Y o, null -1 -/
theorem ca_ref_i {a b : Nat} (ha : a < 9) (hb : b < 9) (h : nI (65536 + a) = nI (65536 + b)) : a = b := by
  have := (nI_eq (by omega) (by omega)).mp h
  omega
theorem ca_sh_ref {x : Int32} (h : ca_sh x) {o : Nat} (ho : o < 9) : x ≠ nI (65536 + o) := fun e => by
  have a := (ca_sh_r h).2
  rw [e, nI_toInt (by omega)] at a
  omega
/-- used arguments -/
def hc_us (op : Nat) : Prop := op = 0 ∨ op = 1 ∨ op = 2 ∨ op = 7 ∨ op = 8 ∨ op = 9 ∨ op = 10 ∨ op = 11 ∨ op = 16 ∨ op = 18
def hc_qk (opf : Nat → Nat) (l k : Nat) (q : Int32) : Prop := q = nI (opf k) ∨ (k + 1 < l ∧ ((opf k = 0 ∧ opf (k + 1) = 3 ∧ q = 25) ∨ (opf k = 6 ∧ opf (k + 1) = 8 ∧ q = 26) ∨ (opf k = 1 ∧ opf (k + 1) = 3 ∧ q = 27)))
def hc_M (ops args quick bs : Nat → Int32) (m l : Nat) (opf bf : Nat → Nat) : Prop :=
  (∀ k, k < l → ops (16 * m + k) = nI (opf k) ∧ opf k ≤ 24 ∧ bf k = (bs (16 * m + k)).toNatClampNeg ∧ hs_fit (opf k) (bs (16 * m + k)) l ∧ (hc_us (opf k) → args (16 * m + k) = bs (16 * m + k)) ∧ hc_qk opf l k (quick (16 * m + k))) ∧ hs_G opf bf l
def hc_CD (ops args quick length exported bops bs sizes bexported : Nat → Int32) : Prop :=
  bops = ops ∧ bexported = exported ∧ ∀ m, m < 6 → ∃ l, l ≤ 16 ∧ length m = nI l ∧ sizes m = nI l ∧ (0 < l → ∃ opf bf, hc_M ops args quick bs m l opf bf)
def hc_PD (pending wide : Int32) (ops args bs sizes : Nat → Int32) : Prop :=
  ∃ P, P ≤ 16 ∧ pending = nI P ∧ sizes 6 = nI P ∧ (∀ k, k < P → (∃ op, op ≤ 24 ∧ ops (96 + k) = nI op) ∧ args (96 + k) = (bs (96 + k)).toInt8.toInt32 ∧ (bt wide k = true ↔ ¬ (-128 ≤ (bs (96 + k)).toInt ∧ (bs (96 + k)).toInt ≤ 127))) ∧ ∀ k, P ≤ k → bt wide k = false
def ho_P (π ρ : Nat → Nat) : Prop := ∀ o, o < 8 → π o < 8 ∧ ρ o < 8 ∧ ρ (π o) = o ∧ π (ρ o) = o
def ho_o (π : Nat → Nat) (alive lasting shared owner size element bowner blengths belements blasting bshared : Nat → Int32) (o : Nat) : Prop :=
  o < 8 ∧ alive o ≠ 0 ∧ owner o = bowner (π o) ∧ (∃ z, 1 ≤ z ∧ z ≤ 4 ∧ size o = nI z) ∧ size o = blengths (π o) ∧ lasting o = blasting (π o) ∧ shared o = bshared (π o) ∧ ∀ i, i < 4 → element (4 * o + i) = belements (4 * π o + i)
def ho_V (π : Nat → Nat) (H : Nat → Prop) (x y : Int32) : Prop := (x = nI 65544 ∧ y = -1) ∨ ∃ o, H o ∧ x = nI (65536 + o) ∧ y = nI (π o)
def ho_W (alive lasting shared element belements blasting bshared : Nat → Int32) : Prop := ca_B alive ∧ ca_B lasting ∧ ca_B shared ∧ ca_Sh element ∧ ca_Sh belements ∧ ca_B blasting ∧ ca_B bshared
def hr_OB (alive lasting shared owner size element roots bowner blengths belements blasting bshared broots : Nat → Int32) : Prop :=
  ∃ π ρ H, ho_P π ρ ∧ (∀ o, H o → ho_o π alive lasting shared owner size element bowner blengths belements blasting bshared o) ∧ (∀ r, r < 6 → ho_V π H (roots r) (broots r)) ∧ ho_W alive lasting shared element belements blasting bshared
def hr_ST (B : Nat) (made : Int64) (stamp : Nat → Int64) : Prop := ∃ mm, made = lN mm ∧ mm ≤ B ∧ ∀ p, p < 8 → ∃ s, s ≤ mm ∧ stamp p = lN s
def hr_F (k : Nat) (limit pending wide opn awaited lastResult lastPlace : Int32) (ops args quick length exported alive lasting shared owner size element roots : Nat → Int32) (glimit gawaited ganswer gwhere : Int32) (gmade : Int64) (gopen : Int32) (bops bs sizes bexported : Nat → Int32) (bstamp : Nat → Int64) (bowner blengths belements blasting bshared broots : Nat → Int32) : Prop :=
  (glimit = limit ∧ ∃ L, limit = nI L ∧ 20 ≤ L ∧ L ≤ 250) ∧ gawaited = awaited ∧ ganswer = lastResult ∧ gwhere = lastPlace ∧ opn = 0 ∧ gopen = 0 ∧
  hc_CD ops args quick length exported bops bs sizes bexported ∧ hc_PD pending wide ops args bs sizes ∧ hr_OB alive lasting shared owner size element roots bowner blengths belements blasting bshared broots ∧ hr_ST (250 * k) gmade bstamp
def i_Rel (k : Nat) (u : SX) (v : SY) : Prop := match u with
  | (f_limit, f_pending, f_wide, f_waiting, f_height, f_entries, f_locals, f_logLength, f_open, f_awaited, f_frames, f_sp, f_base, f_pc, f_method, f_steps, f_status, f_lastResult, f_lastPlace, a_ops, a_args, a_quick, a_length, a_exported, a_known, a_alive, a_fresh, a_lasting, a_shared, a_owner, a_size, a_element, a_roots, a_logCell, a_logOld, a_logged, a_slot, a_frameMethod, a_framePc) => match v with
    | (g_limit, g_waiting, g_stack, g_locals, g_running, g_steps, g_awaited, g_answer, g_where, g_outcome, g_made, g_good, g_open, b_ops, b_bs, b_sizes, b_exported, b_stamp, b_owner, b_lengths, b_elements, b_lasting, b_shared, b_roots, b_oldStamp, b_oldElements, b_oldShared, b_oldRoots, b_rows, b_nexts, b_depths, b_places, b_kinds, b_met, b_todo, b_heights) => hr_F k f_limit f_pending f_wide f_open f_awaited f_lastResult f_lastPlace a_ops a_args a_quick a_length a_exported a_alive a_lasting a_shared a_owner a_size a_element a_roots g_limit g_awaited g_answer g_where g_made g_open b_ops b_bs b_sizes b_exported b_stamp b_owner b_lengths b_elements b_lasting b_shared b_roots
theorem zz_el {P : SX → SY → Prop} {k : Nat} {u : SX} {v : SY} (h : ∀ {f_limit f_pending f_wide f_waiting f_height f_entries f_locals f_logLength f_open f_awaited f_frames f_sp f_base f_pc f_method f_steps f_status f_lastResult f_lastPlace : Int32} {a_ops a_args a_quick a_length a_exported a_known a_alive a_fresh a_lasting a_shared a_owner a_size a_element a_roots a_logCell a_logOld a_logged a_slot a_frameMethod a_framePc : Nat → Int32} {g_limit g_waiting g_stack g_locals g_running g_steps g_awaited g_answer g_where g_outcome : Int32} {g_made : Int64} {g_good g_open : Int32} {b_ops b_bs b_sizes b_exported : Nat → Int32} {b_stamp : Nat → Int64} {b_owner b_lengths b_elements b_lasting b_shared b_roots : Nat → Int32} {b_oldStamp : Nat → Int64} {b_oldElements b_oldShared b_oldRoots b_rows b_nexts b_depths b_places b_kinds b_met b_todo b_heights : Nat → Int32}, hr_F k f_limit f_pending f_wide f_open f_awaited f_lastResult f_lastPlace a_ops a_args a_quick a_length a_exported a_alive a_lasting a_shared a_owner a_size a_element a_roots g_limit g_awaited g_answer g_where g_made g_open b_ops b_bs b_sizes b_exported b_stamp b_owner b_lengths b_elements b_lasting b_shared b_roots → P (f_limit, f_pending, f_wide, f_waiting, f_height, f_entries, f_locals, f_logLength, f_open, f_awaited, f_frames, f_sp, f_base, f_pc, f_method, f_steps, f_status, f_lastResult, f_lastPlace, a_ops, a_args, a_quick, a_length, a_exported, a_known, a_alive, a_fresh, a_lasting, a_shared, a_owner, a_size, a_element, a_roots, a_logCell, a_logOld, a_logged, a_slot, a_frameMethod, a_framePc) (g_limit, g_waiting, g_stack, g_locals, g_running, g_steps, g_awaited, g_answer, g_where, g_outcome, g_made, g_good, g_open, b_ops, b_bs, b_sizes, b_exported, b_stamp, b_owner, b_lengths, b_elements, b_lasting, b_shared, b_roots, b_oldStamp, b_oldElements, b_oldShared, b_oldRoots, b_rows, b_nexts, b_depths, b_places, b_kinds, b_met, b_todo, b_heights)) (I : i_Rel k u v) : P u v :=
  match u, v, I with
  | (f_limit, f_pending, f_wide, f_waiting, f_height, f_entries, f_locals, f_logLength, f_open, f_awaited, f_frames, f_sp, f_base, f_pc, f_method, f_steps, f_status, f_lastResult, f_lastPlace, a_ops, a_args, a_quick, a_length, a_exported, a_known, a_alive, a_fresh, a_lasting, a_shared, a_owner, a_size, a_element, a_roots, a_logCell, a_logOld, a_logged, a_slot, a_frameMethod, a_framePc), (g_limit, g_waiting, g_stack, g_locals, g_running, g_steps, g_awaited, g_answer, g_where, g_outcome, g_made, g_good, g_open, b_ops, b_bs, b_sizes, b_exported, b_stamp, b_owner, b_lengths, b_elements, b_lasting, b_shared, b_roots, b_oldStamp, b_oldElements, b_oldShared, b_oldRoots, b_rows, b_nexts, b_depths, b_places, b_kinds, b_met, b_todo, b_heights), I => h I
theorem i_up {k : Nat} {u : SX} {v : SY} (h : i_Rel k u v) : i_Rel (k + 4) u v := by
  refine zz_el (P := fun u v => i_Rel (k + 4) u v) ?_ h
  intros
  rename_i F
  obtain ⟨h1, h2, h3, h4, h5, h6, h7, h8, h9, mm, e, hm, hs⟩ := F
  exact ⟨h1, h2, h3, h4, h5, h6, h7, h8, h9, mm, e, by omega, hs⟩
end
section
/-! ===== constructors, put, result, place, tear, reset ===== -/
theorem ca_s0v : vp_nar .short 0 = 0 := by rw [vp_nar_short]; decide
theorem ca_s0 : ca_sh (vp_nar .short 0) := by rw [ca_s0v]; exact ca_shN (n := 0) (by decide)
theorem zz_mk {f_limit f_pending f_wide f_waiting f_height f_entries f_locals f_logLength f_open f_awaited f_frames f_sp f_base f_pc f_method f_steps f_status f_lastResult f_lastPlace : Int32} {a_ops a_args a_quick a_length a_exported a_known a_alive a_fresh a_lasting a_shared a_owner a_size a_element a_roots a_logCell a_logOld a_logged a_slot a_frameMethod a_framePc : Nat → Int32} {g_limit g_waiting g_stack g_locals g_running g_steps g_awaited g_answer g_where g_outcome : Int32} {g_made : Int64} {g_good g_open : Int32} {b_ops b_bs b_sizes b_exported : Nat → Int32} {b_stamp : Nat → Int64} {b_owner b_lengths b_elements b_lasting b_shared b_roots : Nat → Int32} {b_oldStamp : Nat → Int64} {b_oldElements b_oldShared b_oldRoots b_rows b_nexts b_depths b_places b_kinds b_met b_todo b_heights : Nat → Int32} {k : Nat} (F : hr_F k f_limit f_pending f_wide f_open f_awaited f_lastResult f_lastPlace a_ops a_args a_quick a_length a_exported a_alive a_lasting a_shared a_owner a_size a_element a_roots g_limit g_awaited g_answer g_where g_made g_open b_ops b_bs b_sizes b_exported b_stamp b_owner b_lengths b_elements b_lasting b_shared b_roots) : i_Rel k (f_limit, f_pending, f_wide, f_waiting, f_height, f_entries, f_locals, f_logLength, f_open, f_awaited, f_frames, f_sp, f_base, f_pc, f_method, f_steps, f_status, f_lastResult, f_lastPlace, a_ops, a_args, a_quick, a_length, a_exported, a_known, a_alive, a_fresh, a_lasting, a_shared, a_owner, a_size, a_element, a_roots, a_logCell, a_logOld, a_logged, a_slot, a_frameMethod, a_framePc) (g_limit, g_waiting, g_stack, g_locals, g_running, g_steps, g_awaited, g_answer, g_where, g_outcome, g_made, g_good, g_open, b_ops, b_bs, b_sizes, b_exported, b_stamp, b_owner, b_lengths, b_elements, b_lasting, b_shared, b_roots, b_oldStamp, b_oldElements, b_oldShared, b_oldRoots, b_rows, b_nexts, b_depths, b_places, b_kinds, b_met, b_todo, b_heights) := F
theorem hr_STm {B B' : Nat} {m : Int64} {s : Nat → Int64} (h : B ≤ B') (hs : hr_ST B m s) : hr_ST B' m s := by
  obtain ⟨mm, e, hm, q⟩ := hs
  exact ⟨mm, e, by omega, q⟩
theorem hr_ST4 {k : Nat} {m : Int64} {s : Nat → Int64} (hs : hr_ST (250 * k) m s) : hr_ST (250 * (k + 4)) m s := hr_STm (by omega) hs
theorem hc_CDc {ops args quick length exported bops bs sizes bexported ops' args' bs' sizes' : Nat → Int32} (h : hc_CD ops args quick length exported bops bs sizes bexported) (h1 : ∀ i, i < 96 → ops' i = ops i) (h2 : ∀ i, i < 96 → args' i = args i) (h3 : ∀ i, i < 96 → bs' i = bs i) (h4 : ∀ m, m < 6 → sizes' m = sizes m) : hc_CD ops' args' quick length exported ops' bs' sizes' bexported := by
  obtain ⟨_, e2, hm⟩ := h
  refine ⟨rfl, e2, fun m hm6 => ?_⟩
  obtain ⟨l, hl, el, es, hc⟩ := hm m hm6
  refine ⟨l, hl, el, by rw [h4 m hm6]; exact es, fun l0 => ?_⟩
  obtain ⟨opf, bf, hk, hg⟩ := hc l0
  refine ⟨opf, bf, fun k hkl => ?_, hg⟩
  rw [h1 _ (by omega), h2 _ (by omega), h3 _ (by omega)]
  exact hk k hkl
section
variable {f_limit f_pending f_wide f_waiting f_height f_entries f_locals f_logLength f_open f_awaited f_frames f_sp f_base f_pc f_method f_steps f_status f_lastResult f_lastPlace : Int32} {a_ops a_args a_quick a_length a_exported a_known a_alive a_fresh a_lasting a_shared a_owner a_size a_element a_roots a_logCell a_logOld a_logged a_slot a_frameMethod a_framePc : Nat → Int32}
theorem hx_init {post : SX → Prop} (H : ∀ roots, (∀ r, r < 6 → roots r = nI 65544) → post (f_limit, f_pending, f_wide, f_waiting, f_height, f_entries, f_locals, f_logLength, f_open, -1, f_frames, f_sp, f_base, f_pc, f_method, f_steps, f_status, f_lastResult, -1, a_ops, a_args, a_quick, a_length, a_exported, a_known, a_alive, a_fresh, a_lasting, a_shared, a_owner, a_size, a_element, roots, a_logCell, a_logOld, a_logged, a_slot, a_frameMethod, a_framePc)) : ∀ (d j : Nat) (roots : Nat → Int32), j + d = 6 → (∀ r, r < j → roots r = nI 65544) → wX_init_193 post f_limit f_pending f_wide f_waiting f_height f_entries f_locals f_logLength f_open f_awaited f_frames f_sp f_base f_pc f_method f_steps f_status f_lastResult f_lastPlace (d + 1) (nI j) a_ops a_args a_quick a_length a_exported a_known a_alive a_fresh a_lasting a_shared a_owner a_size a_element roots a_logCell a_logOld a_logged a_slot a_frameMethod a_framePc := by
  intro d
  induction d with
  | zero =>
    intro j roots hj hr
    rw [wX_init_193]
    exact br_t (nI_le (a := 6) (by omega) (by omega)) (H roots (fun r h => hr r (by omega)))
  | succ d ih =>
    intro j roots hj hr
    rw [wX_init_193]
    have cj : (nI j).toNatClampNeg = j := nI_clamp (by omega)
    refine br_f (nI_ge (b := 6) (by omega) (by decide)) ⟨vp_in_nI (by omega) (by omega), nm_e (nm_r (nI_1 _) (ih (j + 1) _ (by omega) (fun r h => ?_)))⟩
    rw [cj]
    by_cases z : r = j
    · subst z; exact pk_us
    · rw [pk_un z]; exact hr r (by omega)
theorem hx_power7 {post : SX → Prop} (H : ∀ el, ca_Sh el → (∀ i, i < 32 → el i = if a_lasting (i / 4) = 0 then 0 else a_element i) → post (f_limit, f_pending, f_wide, f_waiting, f_height, f_entries, f_locals, f_logLength, f_open, f_awaited, f_frames, f_sp, f_base, f_pc, f_method, f_steps, f_status, f_lastResult, f_lastPlace, a_ops, a_args, a_quick, a_length, a_exported, a_known, a_alive, a_fresh, a_lasting, a_shared, a_owner, a_size, el, a_roots, a_logCell, a_logOld, a_logged, a_slot, a_frameMethod, a_framePc)) : ∀ (d j : Nat) (el : Nat → Int32), j + d = 32 → ca_Sh el → (∀ i, i < j → el i = if a_lasting (i / 4) = 0 then 0 else a_element i) → (∀ i, j ≤ i → el i = a_element i) → wX_powerUp_7 post f_limit f_pending f_wide f_waiting f_height f_entries f_locals f_logLength f_open f_awaited f_frames f_sp f_base f_pc f_method f_steps f_status f_lastResult f_lastPlace (d + 1) (nI j) a_ops a_args a_quick a_length a_exported a_known a_alive a_fresh a_lasting a_shared a_owner a_size el a_roots a_logCell a_logOld a_logged a_slot a_frameMethod a_framePc := by
  intro d
  induction d with
  | zero =>
    intro j el hj hs h1 h2
    rw [wX_powerUp_7]
    exact br_t (nI_le (a := 32) (by omega) (by omega)) (H el hs (fun i hi => h1 i (by omega)))
  | succ d ih =>
    intro j el hj hs h1 h2
    rw [wX_powerUp_7]
    have cj : (nI j).toNatClampNeg = j := nI_clamp (by omega)
    have e4 : nI j >>> ((2 : Int32) &&& 31) = nI (j / 4) := hx_shr (k := 2) (by omega) (by decide)
    have c4 : (nI (j / 4)).toNatClampNeg = j / 4 := nI_clamp (by omega)
    have vj : vp_in (nI j) 32 := vp_in_nI (by omega) (by omega)
    refine br_f (nI_ge (b := 32) (by omega) (by decide)) ?_
    rw [e4, c4, cj]
    refine ⟨vp_in_nI (by omega) (by omega), br_c (fun z => ⟨vj, nm_e (nm_r (nI_1 _) (ih (j + 1) _ (by omega) (ca_ShU hs ca_s0) (fun i hi => ?_) (fun i hi => ?_)))⟩) (fun z => ⟨vj, vj, nm_e (nm_r (nI_1 _) (ih (j + 1) _ (by omega) (ca_ShU hs (by rw [ca_ns (hs j)]; exact hs j)) (fun i hi => ?_) (fun i hi => ?_)))⟩)⟩
    · by_cases q : i = j
      · subst q; rw [pk_us, if_pos z]; rfl
      · rw [pk_un q]; exact h1 i (by omega)
    · rw [pk_un (by omega)]; exact h2 i (by omega)
    · by_cases q : i = j
      · subst q; rw [pk_us, if_neg z, ca_ns (hs i)]; exact h2 i (by omega)
      · rw [pk_un q]; exact h1 i (by omega)
    · rw [pk_un (by omega)]; exact h2 i (by omega)
theorem hx_power {post : SX → Prop} (hs : ca_Sh a_element) (H : ∀ el, ca_Sh el → (∀ i, i < 32 → el i = if a_lasting (i / 4) = 0 then 0 else a_element i) → post (f_limit, f_pending, f_wide, f_waiting, f_height, f_entries, f_locals, f_logLength, f_open, -1, f_frames, f_sp, f_base, f_pc, f_method, f_steps, f_status, f_lastResult, f_lastPlace, a_ops, a_args, a_quick, a_length, a_exported, a_known, a_alive, a_fresh, a_lasting, a_shared, a_owner, a_size, el, a_roots, a_logCell, a_logOld, a_logged, a_slot, a_frameMethod, a_framePc)) : wpX_powerUp post (f_limit, f_pending, f_wide, f_waiting, f_height, f_entries, f_locals, f_logLength, f_open, f_awaited, f_frames, f_sp, f_base, f_pc, f_method, f_steps, f_status, f_lastResult, f_lastPlace, a_ops, a_args, a_quick, a_length, a_exported, a_known, a_alive, a_fresh, a_lasting, a_shared, a_owner, a_size, a_element, a_roots, a_logCell, a_logOld, a_logged, a_slot, a_frameMethod, a_framePc) := by
  unfold wpX_powerUp
  exact ⟨32 + 1, hx_power7 H 32 0 a_element (by decide) hs (fun i hi => by cases hi) (fun i _ => rfl)⟩
end
section
variable {g_limit g_waiting g_stack g_locals g_running g_steps g_awaited g_answer g_where g_outcome : Int32} {g_made : Int64} {g_good g_open : Int32} {b_ops b_bs b_sizes b_exported : Nat → Int32} {b_stamp : Nat → Int64} {b_owner b_lengths b_elements b_lasting b_shared b_roots : Nat → Int32} {b_oldStamp : Nat → Int64} {b_oldElements b_oldShared b_oldRoots b_rows b_nexts b_depths b_places b_kinds b_met b_todo b_heights : Nat → Int32}
theorem hy_init {post : SY → Prop} (H : ∀ roots, (∀ r, r < 6 → roots r = -1) → post (g_limit, g_waiting, g_stack, g_locals, g_running, g_steps, -1, g_answer, -1, g_outcome, g_made, g_good, g_open, b_ops, b_bs, b_sizes, b_exported, b_stamp, b_owner, b_lengths, b_elements, b_lasting, b_shared, roots, b_oldStamp, b_oldElements, b_oldShared, b_oldRoots, b_rows, b_nexts, b_depths, b_places, b_kinds, b_met, b_todo, b_heights)) : ∀ (d j : Nat) (roots : Nat → Int32), j + d = 6 → (∀ r, r < j → roots r = -1) → wY_init_218 post g_limit g_waiting g_stack g_locals g_running g_steps g_awaited g_answer g_where g_outcome g_made g_good g_open (d + 1) (nI j) b_ops b_bs b_sizes b_exported b_stamp b_owner b_lengths b_elements b_lasting b_shared roots b_oldStamp b_oldElements b_oldShared b_oldRoots b_rows b_nexts b_depths b_places b_kinds b_met b_todo b_heights := by
  intro d
  induction d with
  | zero =>
    intro j roots hj hr
    rw [wY_init_218]
    exact br_t (nI_le (a := 6) (by omega) (by omega)) (H roots (fun r h => hr r (by omega)))
  | succ d ih =>
    intro j roots hj hr
    rw [wY_init_218]
    have cj : (nI j).toNatClampNeg = j := nI_clamp (by omega)
    refine br_f (nI_ge (b := 6) (by omega) (by decide)) ⟨vp_in_nI (by omega) (by omega), nm_e (nm_r (nI_1 _) (ih (j + 1) _ (by omega) (fun r h => ?_)))⟩
    rw [cj]
    by_cases z : r = j
    · subst z; exact pk_us
    · rw [pk_un z]; exact hr r (by omega)
theorem hy_reset7 {post : SY → Prop} (H : ∀ el, ca_Sh el → (∀ i, i < 32 → el i = if b_lasting (i / 4) = 0 then 0 else b_elements i) → post (g_limit, g_waiting, g_stack, g_locals, g_running, g_steps, g_awaited, g_answer, g_where, g_outcome, g_made, g_good, g_open, b_ops, b_bs, b_sizes, b_exported, b_stamp, b_owner, b_lengths, el, b_lasting, b_shared, b_roots, b_oldStamp, b_oldElements, b_oldShared, b_oldRoots, b_rows, b_nexts, b_depths, b_places, b_kinds, b_met, b_todo, b_heights)) : ∀ (d j : Nat) (el : Nat → Int32), j + d = 32 → ca_Sh el → (∀ i, i < j → el i = if b_lasting (i / 4) = 0 then 0 else b_elements i) → (∀ i, j ≤ i → el i = b_elements i) → wY_reset_7 post g_limit g_waiting g_stack g_locals g_running g_steps g_awaited g_answer g_where g_outcome g_made g_good g_open (d + 1) (nI j) b_ops b_bs b_sizes b_exported b_stamp b_owner b_lengths el b_lasting b_shared b_roots b_oldStamp b_oldElements b_oldShared b_oldRoots b_rows b_nexts b_depths b_places b_kinds b_met b_todo b_heights := by
  intro d
  induction d with
  | zero =>
    intro j el hj hs h1 h2
    rw [wY_reset_7]
    exact br_t (nI_le (a := 32) (by omega) (by omega)) (H el hs (fun i hi => h1 i (by omega)))
  | succ d ih =>
    intro j el hj hs h1 h2
    rw [wY_reset_7]
    have cj : (nI j).toNatClampNeg = j := nI_clamp (by omega)
    have e4 : nI j / 4 = nI (j / 4) := pk_div (d := 4) (by omega) (by decide) (by decide)
    have c4 : (nI (j / 4)).toNatClampNeg = j / 4 := nI_clamp (by omega)
    have vj : vp_in (nI j) 32 := vp_in_nI (by omega) (by omega)
    refine br_f (nI_ge (b := 32) (by omega) (by decide)) ⟨by decide, ?_⟩
    rw [e4, c4, cj]
    refine ⟨vp_in_nI (by omega) (by omega), br_c (fun z => ⟨vj, nm_e (nm_r (nI_1 _) (ih (j + 1) _ (by omega) (ca_ShU hs ca_s0) (fun i hi => ?_) (fun i hi => ?_)))⟩) (fun z => nm_r (nI_1 _) (ih (j + 1) _ (by omega) hs (fun i hi => ?_) (fun i hi => h2 i (by omega))))⟩
    · by_cases q : i = j
      · subst q; rw [pk_us, if_pos z]; rfl
      · rw [pk_un q]; exact h1 i (by omega)
    · rw [pk_un (by omega)]; exact h2 i (by omega)
    · by_cases q : i = j
      · subst q; rw [if_neg z]; exact h2 i (by omega)
      · exact h1 i (by omega)
theorem hy_reset {post : SY → Prop} (hs : ca_Sh b_elements) (H : ∀ el, ca_Sh el → (∀ i, i < 32 → el i = if b_lasting (i / 4) = 0 then 0 else b_elements i) → post (g_limit, g_waiting, g_stack, g_locals, g_running, g_steps, -1, g_answer, g_where, g_outcome, g_made, g_good, g_open, b_ops, b_bs, b_sizes, b_exported, b_stamp, b_owner, b_lengths, el, b_lasting, b_shared, b_roots, b_oldStamp, b_oldElements, b_oldShared, b_oldRoots, b_rows, b_nexts, b_depths, b_places, b_kinds, b_met, b_todo, b_heights)) : wpY_reset post (g_limit, g_waiting, g_stack, g_locals, g_running, g_steps, g_awaited, g_answer, g_where, g_outcome, g_made, g_good, g_open, b_ops, b_bs, b_sizes, b_exported, b_stamp, b_owner, b_lengths, b_elements, b_lasting, b_shared, b_roots, b_oldStamp, b_oldElements, b_oldShared, b_oldRoots, b_rows, b_nexts, b_depths, b_places, b_kinds, b_met, b_todo, b_heights) := by
  unfold wpY_reset
  exact ⟨32 + 1, hy_reset7 H 32 0 b_elements (by decide) hs (fun i hi => by cases hi) (fun i _ => rfl)⟩
end
/-- power comes back on both sides -/
theorem ho_pw {π ρ : Nat → Nat} {H : Nat → Prop} {alive lasting shared owner size element bowner blengths belements blasting bshared el bel : Nat → Int32} (hP : ho_P π ρ) (hO : ∀ o, H o → ho_o π alive lasting shared owner size element bowner blengths belements blasting bshared o) (h1 : ∀ i, i < 32 → el i = if lasting (i / 4) = 0 then 0 else element i) (h2 : ∀ i, i < 32 → bel i = if blasting (i / 4) = 0 then 0 else belements i) : ∀ o, H o → ho_o π alive lasting shared owner size el bowner blengths bel blasting bshared o := fun o ho => by
  obtain ⟨a, b, c, d, e, f, g, h⟩ := hO o ho
  refine ⟨a, b, c, d, e, f, g, fun i hi => ?_⟩
  have hp := (hP o a).1
  rw [h1 _ (by omega), h2 _ (by omega), show (4 * o + i) / 4 = o by omega, show (4 * π o + i) / 4 = π o by omega, f, h i hi]
theorem hr_OBpw {alive lasting shared owner size element roots bowner blengths belements blasting bshared broots el bel : Nat → Int32} (hOB : hr_OB alive lasting shared owner size element roots bowner blengths belements blasting bshared broots) (s1 : ca_Sh el) (s2 : ca_Sh bel) (h1 : ∀ i, i < 32 → el i = if lasting (i / 4) = 0 then 0 else element i) (h2 : ∀ i, i < 32 → bel i = if blasting (i / 4) = 0 then 0 else belements i) : hr_OB alive lasting shared owner size el roots bowner blengths bel blasting bshared broots := by
  obtain ⟨π, ρ, H, hP, hO, hV, w1, w2, w3, w4, w5, w6, w7⟩ := hOB
  exact ⟨π, ρ, H, hP, ho_pw hP hO h1 h2, hV, w1, w2, w3, s1, s2, w6, w7⟩
theorem hr_sh {alive lasting shared owner size element roots bowner blengths belements blasting bshared broots : Nat → Int32} (hOB : hr_OB alive lasting shared owner size element roots bowner blengths belements blasting bshared broots) : ca_Sh element ∧ ca_Sh belements := by
  obtain ⟨π, ρ, H, hP, hO, hV, w1, w2, w3, w4, w5, w6, w7⟩ := hOB
  exact ⟨w4, w5⟩
theorem i_vc_result {k : Nat} {u : SX} {v : SY} (I : i_Rel k u v) (hk : k + 4 ≤ 2049) : wpX_result (fun r => wpY_result (fun r' => r' = r ∧ i_Rel (k + 4) u v) v) u := by
  have I4 := i_up I
  revert I4
  refine zz_el (P := fun u v => i_Rel (k + 4) u v → wpX_result (fun r => wpY_result (fun r' => r' = r ∧ i_Rel (k + 4) u v) v) u) ?_ I
  intro f_limit f_pending f_wide f_waiting f_height f_entries f_locals f_logLength f_open f_awaited f_frames f_sp f_base f_pc f_method f_steps f_status f_lastResult f_lastPlace a_ops a_args a_quick a_length a_exported a_known a_alive a_fresh a_lasting a_shared a_owner a_size a_element a_roots a_logCell a_logOld a_logged a_slot a_frameMethod a_framePc g_limit g_waiting g_stack g_locals g_running g_steps g_awaited g_answer g_where g_outcome g_made g_good g_open b_ops b_bs b_sizes b_exported b_stamp b_owner b_lengths b_elements b_lasting b_shared b_roots b_oldStamp b_oldElements b_oldShared b_oldRoots b_rows b_nexts b_depths b_places b_kinds b_met b_todo b_heights F I4
  exact ⟨F.2.2.1, I4⟩
theorem i_vc_place {k : Nat} {u : SX} {v : SY} (I : i_Rel k u v) (hk : k + 4 ≤ 2049) : wpX_place (fun r => wpY_place (fun r' => r' = r ∧ i_Rel (k + 4) u v) v) u := by
  have I4 := i_up I
  revert I4
  refine zz_el (P := fun u v => i_Rel (k + 4) u v → wpX_place (fun r => wpY_place (fun r' => r' = r ∧ i_Rel (k + 4) u v) v) u) ?_ I
  intro f_limit f_pending f_wide f_waiting f_height f_entries f_locals f_logLength f_open f_awaited f_frames f_sp f_base f_pc f_method f_steps f_status f_lastResult f_lastPlace a_ops a_args a_quick a_length a_exported a_known a_alive a_fresh a_lasting a_shared a_owner a_size a_element a_roots a_logCell a_logOld a_logged a_slot a_frameMethod a_framePc g_limit g_waiting g_stack g_locals g_running g_steps g_awaited g_answer g_where g_outcome g_made g_good g_open b_ops b_bs b_sizes b_exported b_stamp b_owner b_lengths b_elements b_lasting b_shared b_roots b_oldStamp b_oldElements b_oldShared b_oldRoots b_rows b_nexts b_depths b_places b_kinds b_met b_todo b_heights F I4
  exact ⟨F.2.2.2.1, I4⟩
theorem i_vc_tear {k : Nat} {u : SX} {v : SY} (I : i_Rel k u v) (hk : k + 4 ≤ 2049) (v1 : Int32) : wpX_tear (fun r u' => wpY_tear (fun r' v' => r' = r ∧ i_Rel (k + 4) u' v') v v1) u v1 := by
  refine zz_el (P := fun u v => wpX_tear (fun r u' => wpY_tear (fun r' v' => r' = r ∧ i_Rel (k + 4) u' v') v v1) u v1) ?_ I
  intro f_limit f_pending f_wide f_waiting f_height f_entries f_locals f_logLength f_open f_awaited f_frames f_sp f_base f_pc f_method f_steps f_status f_lastResult f_lastPlace a_ops a_args a_quick a_length a_exported a_known a_alive a_fresh a_lasting a_shared a_owner a_size a_element a_roots a_logCell a_logOld a_logged a_slot a_frameMethod a_framePc g_limit g_waiting g_stack g_locals g_running g_steps g_awaited g_answer g_where g_outcome g_made g_good g_open b_ops b_bs b_sizes b_exported b_stamp b_owner b_lengths b_elements b_lasting b_shared b_roots b_oldStamp b_oldElements b_oldShared b_oldRoots b_rows b_nexts b_depths b_places b_kinds b_met b_todo b_heights F
  obtain ⟨h1, h2, h3, h4, h5, h6, h7, h8, h9, hst⟩ := F
  have h10 := hr_ST4 hst
  unfold wpX_tear
  refine br_c (fun z => br_t z ⟨rfl, zz_mk ⟨h1, rfl, h3, h4, h5, h6, h7, h8, h9, h10⟩⟩) (fun z => br_c (fun z' => br_f z (br_t z' ⟨rfl, zz_mk ⟨h1, rfl, h3, h4, h5, h6, h7, h8, h9, h10⟩⟩)) (fun z' => br_f z (br_f z' ⟨rfl, zz_mk ⟨h1, rfl, h3, h4, h5, h6, h7, h8, h9, h10⟩⟩)))
theorem i_vc_reset {k : Nat} {u : SX} {v : SY} (I : i_Rel k u v) (hk : k + 4 ≤ 2049) : wpX_reset (fun u' => wpY_reset (fun v' => i_Rel (k + 4) u' v') v) u := by
  refine zz_el (P := fun u v => wpX_reset (fun u' => wpY_reset (fun v' => i_Rel (k + 4) u' v') v) u) ?_ I
  intro f_limit f_pending f_wide f_waiting f_height f_entries f_locals f_logLength f_open f_awaited f_frames f_sp f_base f_pc f_method f_steps f_status f_lastResult f_lastPlace a_ops a_args a_quick a_length a_exported a_known a_alive a_fresh a_lasting a_shared a_owner a_size a_element a_roots a_logCell a_logOld a_logged a_slot a_frameMethod a_framePc g_limit g_waiting g_stack g_locals g_running g_steps g_awaited g_answer g_where g_outcome g_made g_good g_open b_ops b_bs b_sizes b_exported b_stamp b_owner b_lengths b_elements b_lasting b_shared b_roots b_oldStamp b_oldElements b_oldShared b_oldRoots b_rows b_nexts b_depths b_places b_kinds b_met b_todo b_heights F
  obtain ⟨h1, h2, h3, h4, h5, h6, h7, h8, h9, hst⟩ := F
  have h10 := hr_ST4 hst
  have hsh := hr_sh h9
  unfold wpX_reset
  refine hx_power hsh.1 (fun el s1 e1 => hy_reset hsh.2 (fun bel s2 e2 => zz_mk ⟨h1, rfl, h3, h4, h5, h6, h7, h8, hr_OBpw h9 s1 s2 e1 e2, h10⟩))
theorem hr_0 {L : Nat} (h1 : 20 ≤ L) (h2 : L ≤ 250) {roots broots : Nat → Int32} (hr : ∀ r, r < 6 → roots r = nI 65544) (hb : ∀ r, r < 6 → broots r = -1) : hr_F 1 (nI L) 0 0 0 (-1) 0 (-1) (fun _ => 0) (fun _ => 0) (fun _ => 0) (fun _ => 0) (fun _ => 0) (fun _ => 0) (fun _ => 0) (fun _ => 0) (fun _ => 0) (fun _ => 0) (fun _ => 0) roots (nI L) (-1) 0 (-1) 0 0 (fun _ => 0) (fun _ => 0) (fun _ => 0) (fun _ => 0) (fun _ => 0) (fun _ => 0) (fun _ => 0) (fun _ => 0) (fun _ => 0) (fun _ => 0) broots := by
  have hB : ca_B (fun _ => 0) := fun _ => Or.inl rfl
  have hS : ca_Sh (fun _ => 0) := fun _ => ca_shN (n := 0) (by decide)
  refine ⟨⟨rfl, L, rfl, h1, h2⟩, rfl, rfl, rfl, rfl, rfl, ⟨rfl, rfl, fun m hm => ⟨0, by decide, rfl, rfl, fun z => absurd z (by decide)⟩⟩, ⟨0, by decide, rfl, rfl, fun k hk => (by cases hk), fun k _ => b_0 k⟩, ⟨id, id, fun _ => False, fun o ho => ⟨ho, ho, rfl, rfl⟩, fun o ho => ho.elim, fun r h => Or.inl ⟨hr r h, hb r h⟩, hB, hB, hB, hS, hS, hB, hB⟩, ⟨0, rfl, Nat.zero_le _, fun p _ => ⟨0, Nat.le_refl _, rfl⟩⟩⟩
theorem i_vc0 (k0 : Int32) : wpX_init (fun u => wpY_init (fun v => i_Rel 1 u v) k0) k0 := by
  have hX : ∀ (L : Nat) (post : SX → Prop), (∀ roots, (∀ r, r < 6 → roots r = nI 65544) → post (nI L, 0, 0, 0, 0, 0, 0, 0, 0, -1, 0, 0, 0, 0, 0, 0, 0, 0, -1, (fun _ => 0), (fun _ => 0), (fun _ => 0), (fun _ => 0), (fun _ => 0), (fun _ => 0), (fun _ => 0), (fun _ => 0), (fun _ => 0), (fun _ => 0), (fun _ => 0), (fun _ => 0), (fun _ => 0), roots, (fun _ => 0), (fun _ => 0), (fun _ => 0), (fun _ => 0), (fun _ => 0), (fun _ => 0))) → ∃ n, wX_init_193 post (nI L) 0 0 0 0 0 0 0 0 0 0 0 0 0 0 0 0 0 0 n 0 (fun _ => 0) (fun _ => 0) (fun _ => 0) (fun _ => 0) (fun _ => 0) (fun _ => 0) (fun _ => 0) (fun _ => 0) (fun _ => 0) (fun _ => 0) (fun _ => 0) (fun _ => 0) (fun _ => 0) (fun _ => 0) (fun _ => 0) (fun _ => 0) (fun _ => 0) (fun _ => 0) (fun _ => 0) (fun _ => 0) :=
    fun L post H => ⟨6 + 1, hx_init H 6 0 (fun _ => 0) (by decide) (fun r h => by cases h)⟩
  have hY : ∀ (L : Nat) (post : SY → Prop), (∀ roots, (∀ r, r < 6 → roots r = -1) → post (nI L, 0, 0, 0, 0, 0, -1, 0, -1, 0, 0, 0, 0, (fun _ => 0), (fun _ => 0), (fun _ => 0), (fun _ => 0), (fun _ => 0), (fun _ => 0), (fun _ => 0), (fun _ => 0), (fun _ => 0), (fun _ => 0), roots, (fun _ => 0), (fun _ => 0), (fun _ => 0), (fun _ => 0), (fun _ => 0), (fun _ => 0), (fun _ => 0), (fun _ => 0), (fun _ => 0), (fun _ => 0), (fun _ => 0), (fun _ => 0))) → ∃ n, wY_init_218 post (nI L) 0 0 0 0 0 0 0 0 0 0 0 0 n 0 (fun _ => 0) (fun _ => 0) (fun _ => 0) (fun _ => 0) (fun _ => 0) (fun _ => 0) (fun _ => 0) (fun _ => 0) (fun _ => 0) (fun _ => 0) (fun _ => 0) (fun _ => 0) (fun _ => 0) (fun _ => 0) (fun _ => 0) (fun _ => 0) (fun _ => 0) (fun _ => 0) (fun _ => 0) (fun _ => 0) (fun _ => 0) (fun _ => 0) (fun _ => 0) :=
    fun L post H => ⟨6 + 1, hy_init H 6 0 (fun _ => 0) (by decide) (fun r h => by cases h)⟩
  unfold wpX_init wpY_init
  by_cases h1 : (20 : Int32) ≤ k0
  · by_cases h2 : k0 ≤ 250
    · have h0 : ¬ k0 < 0 := fun z => by
        rw [Int32.le_iff_toInt_le, show (20 : Int32).toInt = 20 by decide] at h1
        rw [Int32.lt_iff_toInt_lt, show (0 : Int32).toInt = 0 by decide] at z
        omega
      obtain ⟨L, hL, rfl⟩ := nI_of h0
      have a := (nI_leI (a := 20) (by decide) hL).mp h1
      have b := (nI_leI (b := 250) hL (by decide)).mp h2
      exact br_t h1 (br_t h2 (hX L _ (fun roots hr => br_t h1 (br_t h2 (hY L _ (fun broots hb => zz_mk (hr_0 a b hr hb)))))))
    · exact br_t h1 (br_f h2 (hX 250 _ (fun roots hr => br_t h1 (br_f h2 (hY 250 _ (fun broots hb => zz_mk (hr_0 (by decide) (by decide) hr hb)))))))
  · exact br_f h1 (hX 20 _ (fun roots hr => br_f h1 (hY 20 _ (fun broots hb => zz_mk (hr_0 (by decide) (by decide) hr hb)))))
end
section
/-! ===== put, length, element, traits, same ===== -/
theorem i_vc_put {k : Nat} {u : SX} {v : SY} (I : i_Rel k u v) (hk : k + 4 ≤ 2049) (v1 : Int32) (v2 : Int32) : wpX_put (fun r u' => wpY_put (fun r' v' => r' = r ∧ i_Rel (k + 4) u' v') v v1 v2) u v1 v2 := by
  have I4 := i_up I
  revert I4
  refine zz_el (P := fun u v => i_Rel (k + 4) u v → wpX_put (fun r u' => wpY_put (fun r' v' => r' = r ∧ i_Rel (k + 4) u' v') v v1 v2) u v1 v2) ?_ I
  intro f_limit f_pending f_wide f_waiting f_height f_entries f_locals f_logLength f_open f_awaited f_frames f_sp f_base f_pc f_method f_steps f_status f_lastResult f_lastPlace a_ops a_args a_quick a_length a_exported a_known a_alive a_fresh a_lasting a_shared a_owner a_size a_element a_roots a_logCell a_logOld a_logged a_slot a_frameMethod a_framePc g_limit g_waiting g_stack g_locals g_running g_steps g_awaited g_answer g_where g_outcome g_made g_good g_open b_ops b_bs b_sizes b_exported b_stamp b_owner b_lengths b_elements b_lasting b_shared b_roots b_oldStamp b_oldElements b_oldShared b_oldRoots b_rows b_nexts b_depths b_places b_kinds b_met b_todo b_heights F I4
  obtain ⟨h1, h2, h3, h4, h5, h6, h7, ⟨P, hP, eP, eS, hp, hz⟩, h9, hst⟩ := F
  have h10 := hr_ST4 hst
  subst eP
  unfold wpX_put wpY_put
  by_cases z0 : v1 < 0
  · exact br_t z0 (br_t z0 ⟨rfl, I4⟩)
  by_cases z24 : (24 : Int32) < v1
  · exact br_f z0 (br_t z24 (br_f z0 (br_t z24 ⟨rfl, I4⟩)))
  obtain ⟨op, hop, rfl⟩ := nI_of z0
  have hop24 : op ≤ 24 := by
    refine Nat.le_of_not_lt (fun q => z24 ?_)
    exact nI_lt (a := 24) q hop
  by_cases zP : P = 16
  · subst zP
    exact br_f z0 (br_f z24 (br_t rfl (br_f z0 (br_f z24 (br_t eS ⟨rfl, I4⟩)))))
  have nP : ¬ nI P = 16 := fun e => zP ((nI_eq (b := 16) (by omega) (by decide)).mp e)
  have nS : ¬ b_sizes 6 = 16 := by rw [eS]; exact nP
  have e96 : (96 : Int32) + nI P = nI (96 + P) := nI_add 96 P
  have c96 : (nI (96 + P)).toNatClampNeg = 96 + P := nI_clamp (by omega)
  have v96 : vp_in (nI (96 + P)) 112 := vp_in_nI (by omega) (by omega)
  have e96S : (96 : Int32) + b_sizes 6 = nI (96 + P) := by rw [eS, e96]
  have key : ∀ w, (∀ i, bt w i = if i = P then decide (¬ (-128 ≤ v2.toInt ∧ v2.toInt ≤ 127)) else bt f_wide i) → i_Rel (k + 4) (f_limit, nI P + 1, w, f_waiting, f_height, f_entries, f_locals, f_logLength, f_open, f_awaited, f_frames, f_sp, f_base, f_pc, f_method, f_steps, f_status, f_lastResult, f_lastPlace, upd a_ops (96 + P) (vp_nar .byte (nI op).toInt8.toInt32), upd a_args (96 + P) (vp_nar .byte v2.toInt8.toInt32), a_quick, a_length, a_exported, a_known, a_alive, a_fresh, a_lasting, a_shared, a_owner, a_size, a_element, a_roots, a_logCell, a_logOld, a_logged, a_slot, a_frameMethod, a_framePc) (g_limit, g_waiting, g_stack, g_locals, g_running, g_steps, g_awaited, g_answer, g_where, g_outcome, g_made, g_good, g_open, upd b_ops (96 + P) (vp_nar .byte (nI op).toInt8.toInt32), upd b_bs (96 + P) v2, upd b_sizes 6 (b_sizes 6 + 1), b_exported, b_stamp, b_owner, b_lengths, b_elements, b_lasting, b_shared, b_roots, b_oldStamp, b_oldElements, b_oldShared, b_oldRoots, b_rows, b_nexts, b_depths, b_places, b_kinds, b_met, b_todo, b_heights) := fun w hw => by
    have eo : b_ops = a_ops := h7.1
    subst eo
    refine zz_mk ⟨h1, h2, h3, h4, h5, h6, hc_CDc h7 (fun i hi => pk_un (by omega)) (fun i hi => pk_un (by omega)) (fun i hi => pk_un (by omega)) (fun m hm => pk_un (by omega)), ⟨P + 1, by omega, nI_1 P, by rw [pk_us, eS, nI_1], fun i hi => ?_, fun i hi => ?_⟩, h9, h10⟩
    · by_cases z : i = P
      · subst z
        rw [pk_us, pk_us, pk_us, hw i, if_pos rfl, decide_eq_true_iff, pk_vb v2]
        exact ⟨⟨op, hop24, ca_vb' (by omega)⟩, rfl, Iff.rfl⟩
      · rw [pk_un (by omega), pk_un (by omega), pk_un (by omega), hw i, if_neg z]
        exact hp i (by omega)
    · rw [hw i, if_neg (by omega)]
      exact hz i (by omega)
  have hY : ∀ w, (∀ i, bt w i = if i = P then decide (¬ (-128 ≤ v2.toInt ∧ v2.toInt ≤ 127)) else bt f_wide i) → wpY_put (fun r' v' => r' = nI P + 1 ∧ i_Rel (k + 4) (f_limit, nI P + 1, w, f_waiting, f_height, f_entries, f_locals, f_logLength, f_open, f_awaited, f_frames, f_sp, f_base, f_pc, f_method, f_steps, f_status, f_lastResult, f_lastPlace, upd a_ops (96 + P) (vp_nar .byte (nI op).toInt8.toInt32), upd a_args (96 + P) (vp_nar .byte v2.toInt8.toInt32), a_quick, a_length, a_exported, a_known, a_alive, a_fresh, a_lasting, a_shared, a_owner, a_size, a_element, a_roots, a_logCell, a_logOld, a_logged, a_slot, a_frameMethod, a_framePc) v') (g_limit, g_waiting, g_stack, g_locals, g_running, g_steps, g_awaited, g_answer, g_where, g_outcome, g_made, g_good, g_open, b_ops, b_bs, b_sizes, b_exported, b_stamp, b_owner, b_lengths, b_elements, b_lasting, b_shared, b_roots, b_oldStamp, b_oldElements, b_oldShared, b_oldRoots, b_rows, b_nexts, b_depths, b_places, b_kinds, b_met, b_todo, b_heights) (nI op) v2 := fun w hw => by
    unfold wpY_put
    refine br_f z0 (br_f z24 (br_f nS ⟨by rw [e96S]; exact v96, nm_r (by rw [e96S, c96]) (nm_e ⟨by rw [e96S]; exact v96, nm_r (by rw [e96S, c96]) ⟨?_, key w hw⟩⟩)⟩))
    rw [pk_us, eS]
  have e1 : (-128 : Int32).toInt = -128 := by decide
  have e2 : (127 : Int32).toInt = 127 := by decide
  have wo : ¬ (-128 ≤ v2.toInt ∧ v2.toInt ≤ 127) → ∀ i, bt (f_wide ||| ((1 : Int32) <<< (nI P &&& 31))) i = if i = P then decide (¬ (-128 ≤ v2.toInt ∧ v2.toInt ≤ 127)) else bt f_wide i := fun hn i => by
    rw [b_or, hx_bs (by omega)]
    by_cases z : i = P
    · rw [if_pos z, decide_eq_true z, decide_eq_true hn, Bool.or_true]
    · rw [if_neg z, decide_eq_false z, Bool.or_false]
  have wn : (-128 ≤ v2.toInt ∧ v2.toInt ≤ 127) → ∀ i, bt f_wide i = if i = P then decide (¬ (-128 ≤ v2.toInt ∧ v2.toInt ≤ 127)) else bt f_wide i := fun hn i => by
    by_cases z : i = P
    · rw [if_pos z, decide_eq_false (fun q => q hn), z]; exact hz P (Nat.le_refl _)
    · rw [if_neg z]
  have hX : wpX_put (fun r u' => wpY_put (fun r' v' => r' = r ∧ i_Rel (k + 4) u' v') (g_limit, g_waiting, g_stack, g_locals, g_running, g_steps, g_awaited, g_answer, g_where, g_outcome, g_made, g_good, g_open, b_ops, b_bs, b_sizes, b_exported, b_stamp, b_owner, b_lengths, b_elements, b_lasting, b_shared, b_roots, b_oldStamp, b_oldElements, b_oldShared, b_oldRoots, b_rows, b_nexts, b_depths, b_places, b_kinds, b_met, b_todo, b_heights) (nI op) v2) (f_limit, nI P, f_wide, f_waiting, f_height, f_entries, f_locals, f_logLength, f_open, f_awaited, f_frames, f_sp, f_base, f_pc, f_method, f_steps, f_status, f_lastResult, f_lastPlace, a_ops, a_args, a_quick, a_length, a_exported, a_known, a_alive, a_fresh, a_lasting, a_shared, a_owner, a_size, a_element, a_roots, a_logCell, a_logOld, a_logged, a_slot, a_frameMethod, a_framePc) (nI op) v2 := by
    unfold wpX_put
    refine br_f z0 (br_f z24 (br_f nP ⟨by rw [e96]; exact v96, nm_r (by rw [e96, c96]) ⟨by rw [e96]; exact v96, nm_r (by rw [e96, c96]) ?_⟩⟩))
    unfold wX_put_61 wX_put_76
    by_cases q1 : v2 < -128
    · refine br_t q1 (nm_e (nm_e (hY _ (wo (fun q => ?_)))))
      rw [Int32.lt_iff_toInt_lt, e1] at q1
      omega
    · by_cases q2 : v2 ≤ 127
      · refine br_f q1 (br_t q2 (nm_e (hY _ (wn ?_))))
        rw [Int32.lt_iff_toInt_lt, e1] at q1
        rw [Int32.le_iff_toInt_le, e2] at q2
        omega
      · refine br_f q1 (br_f q2 (nm_e (nm_e (hY _ (wo (fun q => ?_))))))
        rw [Int32.le_iff_toInt_le, e2] at q2
        omega
  exact hX
/-! ### roots -/
theorem ho_V0 {π : Nat → Nat} {H : Nat → Prop} {x y : Int32} (h : ho_V π H x y) (hH : ∀ o, H o → o < 8 ∧ π o < 8) : (x = nI 65544 ∧ y = -1) ∨ ∃ o, H o ∧ o < 8 ∧ π o < 8 ∧ x = nI (65536 + o) ∧ y = nI (π o) ∧ x ≠ nI 65544 := by
  rcases h with h | ⟨o, ho, ex, ey⟩
  · exact Or.inl h
  · refine Or.inr ⟨o, ho, (hH o ho).1, (hH o ho).2, ex, ey, fun e => ?_⟩
    rw [ex] at e
    have := (hH o ho).1
    have := ca_ref_i (a := o) (b := 8) (by omega) (by decide) e
    omega
theorem ho_sub {o : Nat} : nI (65536 + o) - 65536 = nI o := by
  rw [show nI (65536 + o) - 65536 = nI (65536 + o - 65536) from pk_sub (b := 65536) (by omega)]
  exact congrArg nI (by omega)
section
variable {f_limit f_pending f_wide f_waiting f_height f_entries f_locals f_logLength f_open f_awaited f_frames f_sp f_base f_pc f_method f_steps f_status f_lastResult f_lastPlace : Int32} {a_ops a_args a_quick a_length a_exported a_known a_alive a_fresh a_lasting a_shared a_owner a_size a_element a_roots a_logCell a_logOld a_logged a_slot a_frameMethod a_framePc : Nat → Int32} {g_limit g_waiting g_stack g_locals g_running g_steps g_awaited g_answer g_where g_outcome : Int32} {g_made : Int64} {g_good g_open : Int32} {b_ops b_bs b_sizes b_exported : Nat → Int32} {b_stamp : Nat → Int64} {b_owner b_lengths b_elements b_lasting b_shared b_roots : Nat → Int32} {b_oldStamp : Nat → Int64} {b_oldElements b_oldShared b_oldRoots b_rows b_nexts b_depths b_places b_kinds b_met b_todo b_heights : Nat → Int32}
/-- what stands at a root, for both: nothing, or a related object -/
theorem hr_obj {Q : Prop} {π ρ : Nat → Nat} {H : Nat → Prop} (hP : ho_P π ρ) (hO : ∀ o, H o → ho_o π a_alive a_lasting a_shared a_owner a_size a_element b_owner b_lengths b_elements b_lasting b_shared o) (hV : ∀ r, r < 6 → ho_V π H (a_roots r) (b_roots r)) (v1 v2 : Int32)
    (h0 : (∀ PX : Int32 → Prop, PX (-1) → wpX_objectOf PX (f_limit, f_pending, f_wide, f_waiting, f_height, f_entries, f_locals, f_logLength, f_open, f_awaited, f_frames, f_sp, f_base, f_pc, f_method, f_steps, f_status, f_lastResult, f_lastPlace, a_ops, a_args, a_quick, a_length, a_exported, a_known, a_alive, a_fresh, a_lasting, a_shared, a_owner, a_size, a_element, a_roots, a_logCell, a_logOld, a_logged, a_slot, a_frameMethod, a_framePc) v1 v2) → (∀ PY : Int32 → Prop, PY (-1) → wpY_rootOf PY (g_limit, g_waiting, g_stack, g_locals, g_running, g_steps, g_awaited, g_answer, g_where, g_outcome, g_made, g_good, g_open, b_ops, b_bs, b_sizes, b_exported, b_stamp, b_owner, b_lengths, b_elements, b_lasting, b_shared, b_roots, b_oldStamp, b_oldElements, b_oldShared, b_oldRoots, b_rows, b_nexts, b_depths, b_places, b_kinds, b_met, b_todo, b_heights) v1 v2) → Q) (h1 : ∀ o, H o → (∀ PX : Int32 → Prop, PX (nI o) → wpX_objectOf PX (f_limit, f_pending, f_wide, f_waiting, f_height, f_entries, f_locals, f_logLength, f_open, f_awaited, f_frames, f_sp, f_base, f_pc, f_method, f_steps, f_status, f_lastResult, f_lastPlace, a_ops, a_args, a_quick, a_length, a_exported, a_known, a_alive, a_fresh, a_lasting, a_shared, a_owner, a_size, a_element, a_roots, a_logCell, a_logOld, a_logged, a_slot, a_frameMethod, a_framePc) v1 v2) → (∀ PY : Int32 → Prop, PY (nI (π o)) → wpY_rootOf PY (g_limit, g_waiting, g_stack, g_locals, g_running, g_steps, g_awaited, g_answer, g_where, g_outcome, g_made, g_good, g_open, b_ops, b_bs, b_sizes, b_exported, b_stamp, b_owner, b_lengths, b_elements, b_lasting, b_shared, b_roots, b_oldStamp, b_oldElements, b_oldShared, b_oldRoots, b_rows, b_nexts, b_depths, b_places, b_kinds, b_met, b_todo, b_heights) v1 v2) → Q) : Q := by
  unfold wpX_objectOf wpY_rootOf at h0 h1
  by_cases z1 : v1 < 0
  · exact h0 (fun _ p => br_t z1 p) (fun _ p => br_t z1 p)
  by_cases z2 : (2 : Int32) < v1
  · exact h0 (fun _ p => br_f z1 (br_t z2 p)) (fun _ p => br_f z1 (br_t z2 p))
  by_cases z3 : v2 < 0
  · exact h0 (fun _ p => br_f z1 (br_f z2 (br_t z3 p))) (fun _ p => br_f z1 (br_f z2 (br_t z3 p)))
  by_cases z4 : v2 ≤ 1
  · obtain ⟨a, ha, rfl⟩ := nI_of z1
    obtain ⟨b, hb, rfl⟩ := nI_of z3
    have ha2 : a ≤ 2 := Nat.le_of_not_lt (fun q => z2 (nI_lt (a := 2) q ha))
    have hb1 : b ≤ 1 := (nI_leI (b := 1) hb (by decide)).mp z4
    have ei : 2 * nI a + nI b = nI (2 * a + b) := by rw [show 2 * nI a = nI (2 * a) from pk_mul 2 a, nI_add]
    have ci : (2 * nI a + nI b).toNatClampNeg = 2 * a + b := by rw [ei, nI_clamp (by omega)]
    have vi : vp_in (2 * nI a + nI b) 6 := by rw [ei]; exact vp_in_nI (by omega) (by decide)
    rcases ho_V0 (hV (2 * a + b) (by omega)) (fun o ho => ⟨(hO o ho).1, (hP o (hO o ho).1).1⟩) with ⟨ex, ey⟩ | ⟨o, ho, ho8, hp8, ex, ey, hne⟩
    · exact h0 (fun _ p => br_f z1 (br_f z2 (br_f z3 (br_t z4 ⟨vi, nm_r (by rw [ci]; exact ex) (br_t rfl p)⟩)))) (fun _ p => br_f z1 (br_f z2 (br_f z3 (br_t z4 ⟨vi, by rw [ci, ey]; exact p⟩))))
    · exact h1 o ho (fun _ p => br_f z1 (br_f z2 (br_f z3 (br_t z4 ⟨vi, nm_r (by rw [ci]; exact ex) (br_f (fun e => hne (ex.trans e)) (by rw [ho_sub]; exact p))⟩)))) (fun _ p => br_f z1 (br_f z2 (br_f z3 (br_t z4 ⟨vi, by rw [ci, ey]; exact p⟩))))
  · exact h0 (fun _ p => br_f z1 (br_f z2 (br_f z3 (br_f z4 p)))) (fun _ p => br_f z1 (br_f z2 (br_f z3 (br_f z4 p))))
end
theorem i_vc_length {k : Nat} {u : SX} {v : SY} (I : i_Rel k u v) (hk : k + 4 ≤ 2049) (v1 : Int32) (v2 : Int32) : wpX_length (fun r => wpY_length (fun r' => r' = r ∧ i_Rel (k + 4) u v) v v1 v2) u v1 v2 := by
  have I4 := i_up I
  revert I4
  refine zz_el (P := fun u v => i_Rel (k + 4) u v → wpX_length (fun r => wpY_length (fun r' => r' = r ∧ i_Rel (k + 4) u v) v v1 v2) u v1 v2) ?_ I
  intro f_limit f_pending f_wide f_waiting f_height f_entries f_locals f_logLength f_open f_awaited f_frames f_sp f_base f_pc f_method f_steps f_status f_lastResult f_lastPlace a_ops a_args a_quick a_length a_exported a_known a_alive a_fresh a_lasting a_shared a_owner a_size a_element a_roots a_logCell a_logOld a_logged a_slot a_frameMethod a_framePc g_limit g_waiting g_stack g_locals g_running g_steps g_awaited g_answer g_where g_outcome g_made g_good g_open b_ops b_bs b_sizes b_exported b_stamp b_owner b_lengths b_elements b_lasting b_shared b_roots b_oldStamp b_oldElements b_oldShared b_oldRoots b_rows b_nexts b_depths b_places b_kinds b_met b_todo b_heights F I4
  obtain ⟨π, ρ, H, hP, hO, hV, hW⟩ := F.2.2.2.2.2.2.2.2.1
  unfold wpX_length wpY_length
  refine hr_obj hP hO hV v1 v2 (fun hx hy => hx _ (br_f (by decide) (hy _ (br_f (by decide) ⟨rfl, I4⟩)))) (fun o ho hx hy => hx _ ?_)
  have h := hO o ho
  have hp := (hP o h.1).1
  have h8 := h.1
  refine br_t (nI_pos' (by omega)) ⟨vp_in_nI h.1 (by decide), hy _ (br_t (nI_pos' (by omega)) ⟨vp_in_nI hp (by decide), ?_, I4⟩)⟩
  rw [nI_clamp (by omega), nI_clamp (by omega)]
  exact h.2.2.2.2.1.symm
theorem i_vc_element {k : Nat} {u : SX} {v : SY} (I : i_Rel k u v) (hk : k + 4 ≤ 2049) (v1 : Int32) (v2 : Int32) (v3 : Int32) : wpX_element (fun r => wpY_element (fun r' => r' = r ∧ i_Rel (k + 4) u v) v v1 v2 v3) u v1 v2 v3 := by
  have I4 := i_up I
  revert I4
  refine zz_el (P := fun u v => i_Rel (k + 4) u v → wpX_element (fun r => wpY_element (fun r' => r' = r ∧ i_Rel (k + 4) u v) v v1 v2 v3) u v1 v2 v3) ?_ I
  intro f_limit f_pending f_wide f_waiting f_height f_entries f_locals f_logLength f_open f_awaited f_frames f_sp f_base f_pc f_method f_steps f_status f_lastResult f_lastPlace a_ops a_args a_quick a_length a_exported a_known a_alive a_fresh a_lasting a_shared a_owner a_size a_element a_roots a_logCell a_logOld a_logged a_slot a_frameMethod a_framePc g_limit g_waiting g_stack g_locals g_running g_steps g_awaited g_answer g_where g_outcome g_made g_good g_open b_ops b_bs b_sizes b_exported b_stamp b_owner b_lengths b_elements b_lasting b_shared b_roots b_oldStamp b_oldElements b_oldShared b_oldRoots b_rows b_nexts b_depths b_places b_kinds b_met b_todo b_heights F I4
  obtain ⟨π, ρ, H, hP, hO, hV, hW⟩ := F.2.2.2.2.2.2.2.2.1
  unfold wpX_element wpY_element
  refine hr_obj hP hO hV v1 v2 (fun hx hy => hx _ (br_t (by decide) (hy _ (br_t (by decide) ⟨rfl, I4⟩)))) (fun o ho hx hy => hx _ ?_)
  obtain ⟨h8, _, _, ⟨z, hz1, hz4, ez⟩, es, _, _, hel⟩ := hO o ho
  have hp := (hP o h8).1
  have co : (nI o).toNatClampNeg = o := nI_clamp (by omega)
  have cp : (nI (π o)).toNatClampNeg = π o := nI_clamp (by omega)
  have vo : vp_in (nI o) 8 := vp_in_nI h8 (by decide)
  have vp : vp_in (nI (π o)) 8 := vp_in_nI hp (by decide)
  by_cases z0 : v3 < 0
  · exact br_f (nI_pos (by omega)) (br_t z0 (hy _ (br_f (nI_pos (by omega)) (br_t z0 ⟨rfl, I4⟩))))
  · have eS : a_size (nI o).toNatClampNeg = nI z := by rw [co]; exact ez
    have eY : b_lengths (nI (π o)).toNatClampNeg = nI z := by rw [cp, ← es]; exact ez
    refine br_f (nI_pos (by omega)) (br_f z0 ⟨vo, ?_⟩)
    by_cases zz : v3 < nI z
    · obtain ⟨i, hi, rfl⟩ := nI_of z0
      have hiz := (nI_ltI hi (by omega)).mp zz
      have ex : 4 * nI o + nI i = nI (4 * o + i) := by rw [show 4 * nI o = nI (4 * o) from pk_mul 4 o, nI_add]
      have ey : 4 * nI (π o) + nI i = nI (4 * π o + i) := by rw [show 4 * nI (π o) = nI (4 * π o) from pk_mul 4 _, nI_add]
      refine br_t (by rw [eS]; exact zz) ⟨by rw [ex]; exact vp_in_nI (by omega) (by decide), hy _ (br_f (nI_pos (by omega)) (br_f z0 ⟨vp, br_t (by rw [eY]; exact zz) ⟨by rw [ey]; exact vp_in_nI (by omega) (by decide), ?_, I4⟩⟩))⟩
      rw [ex, ey, nI_clamp (by omega), nI_clamp (by omega)]
      exact (hel i (by omega)).symm
    · exact br_f (by rw [eS]; exact zz) (hy _ (br_f (nI_pos (by omega)) (br_f z0 ⟨vp, br_f (by rw [eY]; exact zz) ⟨rfl, I4⟩⟩)))
theorem i_vc_traits {k : Nat} {u : SX} {v : SY} (I : i_Rel k u v) (hk : k + 4 ≤ 2049) (v1 : Int32) (v2 : Int32) : wpX_traits (fun r => wpY_traits (fun r' => r' = r ∧ i_Rel (k + 4) u v) v v1 v2) u v1 v2 := by
  have I4 := i_up I
  revert I4
  refine zz_el (P := fun u v => i_Rel (k + 4) u v → wpX_traits (fun r => wpY_traits (fun r' => r' = r ∧ i_Rel (k + 4) u v) v v1 v2) u v1 v2) ?_ I
  intro f_limit f_pending f_wide f_waiting f_height f_entries f_locals f_logLength f_open f_awaited f_frames f_sp f_base f_pc f_method f_steps f_status f_lastResult f_lastPlace a_ops a_args a_quick a_length a_exported a_known a_alive a_fresh a_lasting a_shared a_owner a_size a_element a_roots a_logCell a_logOld a_logged a_slot a_frameMethod a_framePc g_limit g_waiting g_stack g_locals g_running g_steps g_awaited g_answer g_where g_outcome g_made g_good g_open b_ops b_bs b_sizes b_exported b_stamp b_owner b_lengths b_elements b_lasting b_shared b_roots b_oldStamp b_oldElements b_oldShared b_oldRoots b_rows b_nexts b_depths b_places b_kinds b_met b_todo b_heights F I4
  obtain ⟨π, ρ, H, hP, hO, hV, hW⟩ := F.2.2.2.2.2.2.2.2.1
  unfold wpX_traits wpY_traits
  refine hr_obj hP hO hV v1 v2 (fun hx hy => hx _ (br_f (by decide) (hy _ (br_f (by decide) ⟨rfl, I4⟩)))) (fun o ho hx hy => hx _ ?_)
  obtain ⟨h8, _, eo, _, _, el, es, _⟩ := hO o ho
  have hp := (hP o h8).1
  have co : (nI o).toNatClampNeg = o := nI_clamp (by omega)
  have cp : (nI (π o)).toNatClampNeg = π o := nI_clamp (by omega)
  have vo : vp_in (nI o) 8 := vp_in_nI h8 (by decide)
  have vp : vp_in (nI (π o)) 8 := vp_in_nI hp (by decide)
  have em : b_owner (nI (π o)).toNatClampNeg * 4 = 4 * a_owner (nI o).toNatClampNeg := by rw [co, cp, eo, Int32.mul_comm]
  have eL : b_lasting (nI (π o)).toNatClampNeg = a_lasting (nI o).toNatClampNeg := by rw [co, cp, el]
  have eS : b_shared (nI (π o)).toNatClampNeg = a_shared (nI o).toNatClampNeg := by rw [co, cp, es]
  refine br_t (nI_pos' (by omega)) ⟨vo, vo, ?_⟩
  unfold wX_traits_37
  by_cases zl : a_lasting (nI o).toNatClampNeg = 0
  · refine br_t zl ⟨vo, br_c (fun zs => hy _ ?_) (fun zs => hy _ ?_)⟩ <;> unfold wY_traits_37
    · exact br_t (nI_pos' (by omega)) ⟨vp, vp, br_t (eL.trans zl) ⟨vp, br_t (eS.trans zs) ⟨by rw [em], I4⟩⟩⟩
    · exact br_t (nI_pos' (by omega)) ⟨vp, vp, br_t (eL.trans zl) ⟨vp, br_f (fun q => zs (eS.symm.trans q)) ⟨by rw [em], I4⟩⟩⟩
  · refine br_f zl ⟨vo, br_c (fun zs => hy _ ?_) (fun zs => hy _ ?_)⟩ <;> unfold wY_traits_37
    · exact br_t (nI_pos' (by omega)) ⟨vp, vp, br_f (fun q => zl (eL.symm.trans q)) ⟨vp, br_t (eS.trans zs) ⟨by rw [em], I4⟩⟩⟩
    · exact br_t (nI_pos' (by omega)) ⟨vp, vp, br_f (fun q => zl (eL.symm.trans q)) ⟨vp, br_f (fun q => zs (eS.symm.trans q)) ⟨by rw [em], I4⟩⟩⟩
theorem i_vc_same {k : Nat} {u : SX} {v : SY} (I : i_Rel k u v) (hk : k + 4 ≤ 2049) (v1 : Int32) (v2 : Int32) : wpX_same (fun r => wpY_same (fun r' => r' = r ∧ i_Rel (k + 4) u v) v v1 v2) u v1 v2 := by
  have I4 := i_up I
  revert I4
  refine zz_el (P := fun u v => i_Rel (k + 4) u v → wpX_same (fun r => wpY_same (fun r' => r' = r ∧ i_Rel (k + 4) u v) v v1 v2) u v1 v2) ?_ I
  intro f_limit f_pending f_wide f_waiting f_height f_entries f_locals f_logLength f_open f_awaited f_frames f_sp f_base f_pc f_method f_steps f_status f_lastResult f_lastPlace a_ops a_args a_quick a_length a_exported a_known a_alive a_fresh a_lasting a_shared a_owner a_size a_element a_roots a_logCell a_logOld a_logged a_slot a_frameMethod a_framePc g_limit g_waiting g_stack g_locals g_running g_steps g_awaited g_answer g_where g_outcome g_made g_good g_open b_ops b_bs b_sizes b_exported b_stamp b_owner b_lengths b_elements b_lasting b_shared b_roots b_oldStamp b_oldElements b_oldShared b_oldRoots b_rows b_nexts b_depths b_places b_kinds b_met b_todo b_heights F I4
  obtain ⟨π, ρ, H, hP, hO, hV, hW⟩ := F.2.2.2.2.2.2.2.2.1
  have hH : ∀ o, H o → o < 8 ∧ π o < 8 := fun o ho => ⟨(hO o ho).1, (hP o (hO o ho).1).1⟩
  unfold wpX_same
  have key : ∀ x : Int32, ¬ x < 0 → ((5 : Int32) < x ↔ (6 : Int32) ≤ x) := fun x _ => by
    rw [Int32.lt_iff_toInt_lt, Int32.le_iff_toInt_le, show (5 : Int32).toInt = 5 by decide, show (6 : Int32).toInt = 6 by decide]
    omega
  by_cases z1 : v1 < 0
  · exact br_t z1 (br_t z1 ⟨rfl, I4⟩)
  by_cases z2 : (5 : Int32) < v1
  · exact br_f z1 (br_t z2 (br_f z1 (br_t ((key v1 z1).mp z2) ⟨rfl, I4⟩)))
  have z2' : ¬ (6 : Int32) ≤ v1 := fun q => z2 ((key v1 z1).mpr q)
  by_cases z3 : v2 < 0
  · exact br_f z1 (br_f z2 (br_t z3 (br_f z1 (br_f z2' (br_t z3 ⟨rfl, I4⟩)))))
  by_cases z4 : (5 : Int32) < v2
  · exact br_f z1 (br_f z2 (br_f z3 (br_t z4 (br_f z1 (br_f z2' (br_f z3 (br_t ((key v2 z3).mp z4) ⟨rfl, I4⟩)))))))
  have z4' : ¬ (6 : Int32) ≤ v2 := fun q => z4 ((key v2 z3).mpr q)
  obtain ⟨a, ha, rfl⟩ := nI_of z1
  obtain ⟨b, hb, rfl⟩ := nI_of z3
  have ha5 : a < 6 := Nat.lt_of_not_le (fun q => z2' (nI_le (a := 6) q ha))
  have hb5 : b < 6 := Nat.lt_of_not_le (fun q => z4' (nI_le (a := 6) q hb))
  have ca : (nI a).toNatClampNeg = a := nI_clamp ha
  have cb : (nI b).toNatClampNeg = b := nI_clamp hb
  have va : vp_in (nI a) 6 := vp_in_nI ha5 (by decide)
  have vb : vp_in (nI b) 6 := vp_in_nI hb5 (by decide)
  refine br_f z1 (br_f z2 (br_f z3 (br_f z4 ⟨va, vb, ?_⟩)))
  rw [ca, cb]
  have hY : ∀ x : Int32, (b_roots a < 0 → x = 0) → (¬ b_roots a < 0 → b_roots a = b_roots b → x = 1) → (¬ b_roots a < 0 → ¬ b_roots a = b_roots b → x = 0) → wpY_same (fun r' => r' = x ∧ i_Rel (k + 4) (f_limit, f_pending, f_wide, f_waiting, f_height, f_entries, f_locals, f_logLength, f_open, f_awaited, f_frames, f_sp, f_base, f_pc, f_method, f_steps, f_status, f_lastResult, f_lastPlace, a_ops, a_args, a_quick, a_length, a_exported, a_known, a_alive, a_fresh, a_lasting, a_shared, a_owner, a_size, a_element, a_roots, a_logCell, a_logOld, a_logged, a_slot, a_frameMethod, a_framePc) (g_limit, g_waiting, g_stack, g_locals, g_running, g_steps, g_awaited, g_answer, g_where, g_outcome, g_made, g_good, g_open, b_ops, b_bs, b_sizes, b_exported, b_stamp, b_owner, b_lengths, b_elements, b_lasting, b_shared, b_roots, b_oldStamp, b_oldElements, b_oldShared, b_oldRoots, b_rows, b_nexts, b_depths, b_places, b_kinds, b_met, b_todo, b_heights)) (g_limit, g_waiting, g_stack, g_locals, g_running, g_steps, g_awaited, g_answer, g_where, g_outcome, g_made, g_good, g_open, b_ops, b_bs, b_sizes, b_exported, b_stamp, b_owner, b_lengths, b_elements, b_lasting, b_shared, b_roots, b_oldStamp, b_oldElements, b_oldShared, b_oldRoots, b_rows, b_nexts, b_depths, b_places, b_kinds, b_met, b_todo, b_heights) (nI a) (nI b) := fun x q1 q2 q3 => by
    unfold wpY_same
    refine br_f z1 (br_f z2' (br_f z3 (br_f z4' ⟨va, ?_⟩)))
    rw [ca, cb]
    exact br_c (fun q => ⟨(q1 q).symm, I4⟩) (fun q => ⟨va, vb, br_c (fun q' => ⟨(q2 q q').symm, I4⟩) (fun q' => ⟨(q3 q q').symm, I4⟩)⟩)
  rcases ho_V0 (hV a ha5) hH with ⟨ex, ey⟩ | ⟨o, ho, ho8, hp8, ex, ey, hne⟩
  · have hneg : b_roots a < 0 := by rw [ey]; decide
    refine br_c (fun q => ⟨va, br_t ex ?_⟩) (fun q => ?_)
    · exact hY 0 (fun _ => rfl) (fun q => absurd hneg q) (fun _ _ => rfl)
    · exact hY 0 (fun _ => rfl) (fun q => absurd hneg q) (fun _ _ => rfl)
  · have hnn : ¬ b_roots a < 0 := by rw [ey]; exact nI_pos (by omega)
    rcases ho_V0 (hV b hb5) hH with ⟨fx, fy⟩ | ⟨o', ho', ho8', hp8', fx, fy, hne'⟩
    · refine br_f (fun q => hne (q.trans fx)) (hY 0 (fun _ => rfl) (fun _ q => ?_) (fun _ _ => rfl))
      rw [ey, fy] at q
      have := congrArg (fun z => decide (z < 0)) q
      simp only [decide_eq_false (nI_pos (n := π o) (by omega))] at this
      exact absurd this (by decide)
    · by_cases eo : o = o'
      · subst eo
        refine br_t (ex.trans fx.symm) ⟨va, br_f hne (hY 1 (fun q => absurd q hnn) (fun _ _ => rfl) (fun _ q => absurd (ey.trans fy.symm) q))⟩
      · refine br_f (fun q => eo ?_) (hY 0 (fun _ => rfl) (fun _ q => ?_) (fun _ _ => rfl))
        · rw [ex, fx] at q
          exact ca_ref_i (by omega) (by omega) q
        · rw [ey, fy, nI_eq (by omega) (by omega)] at q
          have := congrArg ρ q
          rw [(hP o ho8).2.2.1, (hP o' ho8').2.2.1] at this
          exact absurd this eo
end
section
/-! ===== what is held: masks, sums, heldNow, isHeld, free, held ===== -/
theorem hs_su_e {f g : Nat → Nat} : ∀ {n : Nat}, (∀ i, i < n → f i = g i) → hs_su f n = hs_su g n
  | 0, _ => rfl
  | n + 1, h => by
    show hs_su f n + f n = hs_su g n + g n
    rw [hs_su_e (n := n) (fun i hi => h i (by omega)), h n (by omega)]
theorem hs_su_a (f g : Nat → Nat) : ∀ n : Nat, hs_su (fun i => f i + g i) n = hs_su f n + hs_su g n
  | 0 => rfl
  | n + 1 => by
    show hs_su (fun i => f i + g i) n + (f n + g n) = hs_su f n + f n + (hs_su g n + g n)
    rw [hs_su_a f g n]; omega
theorem hs_su_0 : ∀ n : Nat, hs_su (fun _ => 0) n = 0
  | 0 => rfl
  | n + 1 => by show hs_su (fun _ => 0) n + 0 = 0; rw [hs_su_0 n]
theorem hs_su_c (f : Nat → Nat → Nat) (m : Nat) : ∀ n : Nat, hs_su (fun i => hs_su (f i) m) n = hs_su (fun j => hs_su (fun i => f i j) n) m
  | 0 => (hs_su_0 m).symm
  | n + 1 => by
    show hs_su (fun i => hs_su (f i) m) n + hs_su (f n) m = hs_su (fun j => hs_su (fun i => f i j) n + f n j) m
    rw [hs_su_c f m n, hs_su_a]
theorem hs_su_i {c : Nat} (v : Nat → Nat) : ∀ {n : Nat}, c < n → hs_su (fun p => if c = p then v p else 0) n = v c
  | 0, h => by omega
  | n + 1, h => by
    show hs_su (fun p => if c = p then v p else 0) n + (if c = n then v n else 0) = v c
    rcases Nat.lt_or_ge c n with z | z
    · rw [hs_su_i v z, if_neg (by omega)]; omega
    · have e : c = n := by omega
      subst e
      rw [hs_su_e (g := fun _ => 0) (fun i hi => if_neg (by omega)), hs_su_0, if_pos rfl]; omega
theorem hs_su_perm {π ρ : Nat → Nat} (hP : ho_P π ρ) {f g : Nat → Nat} (h : ∀ o, o < 8 → g (π o) = f o) : hs_su f 8 = hs_su g 8 := by
  have e1 : hs_su f 8 = hs_su (fun o => hs_su (fun p => if π o = p then g p else 0) 8) 8 := hs_su_e (fun o ho => by rw [hs_su_i g (hP o ho).1, h o ho])
  rw [e1, hs_su_c]
  refine hs_su_e (fun p hp => ?_)
  have e2 : hs_su (fun o => if π o = p then g p else 0) 8 = hs_su (fun o => if ρ p = o then g p else 0) 8 := hs_su_e (fun o ho => by
    by_cases z : π o = p
    · rw [if_pos z, if_pos (by rw [← z, (hP o ho).2.2.1])]
    · rw [if_neg z, if_neg (fun q => z (by rw [← q, (hP p hp).2.2.2]))])
  rw [e2, hs_su_i (fun _ => g p) (hP p hp).2.1]
noncomputable def hs_b (P : Prop) : Nat := @ite Nat P (Classical.propDecidable P) 1 0
theorem hs_b_t {P : Prop} (h : P) : hs_b P = 1 := by unfold hs_b; rw [if_pos h]
theorem hs_b_f {P : Prop} (h : ¬ P) : hs_b P = 0 := by unfold hs_b; rw [if_neg h]
theorem hs_b_c {P Q : Prop} (h : P ↔ Q) : hs_b P = hs_b Q := by
  rcases Classical.em P with p | p
  · rw [hs_b_t p, hs_b_t (h.mp p)]
  · rw [hs_b_f p, hs_b_f (fun q => p (h.mpr q))]
/-- a mask and the set of objects that it stands for -/
def ho_M (m : Int32) (S : Nat → Prop) : Prop := ∀ i, bt m i = true ↔ (i < 8 ∧ S i)
theorem ho_M0 : ho_M 0 (fun _ => False) := fun i => by rw [b_0]; exact ⟨fun h => (by cases h), fun h => h.2.elim⟩
theorem ho_Mc {m : Int32} {S S' : Nat → Prop} (h : ho_M m S) (e : ∀ i, i < 8 → (S i ↔ S' i)) : ho_M m S' := fun i => by
  rw [h i]
  exact ⟨fun q => ⟨q.1, (e i q.1).mp q.2⟩, fun q => ⟨q.1, (e i q.1).mpr q.2⟩⟩
theorem hx_bitOf (v : Int32) : ∃ b, ho_M b (fun i => v = nI (65536 + i)) ∧ ∀ post : Int32 → Prop, post b → wpX_bitOf post v := by
  by_cases z1 : v < 65536
  · refine ⟨0, fun i => ?_, fun post h => br_t z1 h⟩
    rw [b_0]
    refine ⟨fun h => (by cases h), fun ⟨hi, e⟩ => ?_⟩
    rw [e] at z1
    exact absurd z1 (nI_nlt (a := 65536 + i) (b := 65536) (by omega) (by omega))
  · by_cases z2 : (65544 : Int32) ≤ v
    · refine ⟨0, fun i => ?_, fun post h => br_f z1 (br_t z2 h)⟩
      rw [b_0]
      refine ⟨fun h => (by cases h), fun ⟨hi, e⟩ => ?_⟩
      rw [e] at z2
      exact absurd z2 (nI_ge (a := 65536 + i) (b := 65544) (by omega) (by omega))
    · have h0 : ¬ v < 0 := fun q => z1 (Int32.lt_trans q (by decide))
      obtain ⟨x, hx, rfl⟩ := nI_of h0
      have h1 : 65536 ≤ x := Nat.le_of_not_lt (fun q => z1 (nI_lt (b := 65536) q (by decide)))
      have h2 : x < 65544 := Nat.lt_of_not_le (fun q => z2 (nI_le (a := 65544) q hx))
      obtain ⟨o, rfl⟩ : ∃ o, x = 65536 + o := ⟨x - 65536, by omega⟩
      refine ⟨(1 : Int32) <<< (nI o &&& 31), fun i => ?_, fun post h => br_f z1 (br_f z2 (by rw [ho_sub]; exact h))⟩
      rw [hx_bs (by omega), decide_eq_true_iff]
      refine ⟨fun e => ⟨by omega, by rw [e]⟩, fun ⟨hi, e⟩ => (ca_ref_i (by omega) (by omega) e).symm⟩
theorem ho_Mo {m b : Int32} {S T : Nat → Prop} (h : ho_M m S) (h' : ho_M b T) : ho_M (m ||| b) (fun i => S i ∨ T i) := fun i => by
  rw [b_or, Bool.or_eq_true, h i, h' i]
  exact ⟨fun q => q.elim (fun a => ⟨a.1, Or.inl a.2⟩) (fun a => ⟨a.1, Or.inr a.2⟩), fun q => q.2.elim (fun a => Or.inl ⟨q.1, a⟩) (fun a => Or.inr ⟨q.1, a⟩)⟩
section
variable {f_limit f_pending f_wide f_waiting f_height f_entries f_locals f_logLength f_open f_awaited f_frames f_sp f_base f_pc f_method f_steps f_status f_lastResult f_lastPlace : Int32} {a_ops a_args a_quick a_length a_exported a_known a_alive a_fresh a_lasting a_shared a_owner a_size a_element a_roots a_logCell a_logOld a_logged a_slot a_frameMethod a_framePc : Nat → Int32}
theorem hx_141 {post : Int32 → Prop} {J : Int32 → Int32 → Prop} {x3 : Int32} {t : Nat} (ht : t ≤ 24) : ∀ (d j : Nat) (m : Int32) (S : Nat → Prop), j + d = t → ho_M m S → (∀ m', ho_M m' (fun i => S i ∨ ∃ q, j ≤ q ∧ q < t ∧ a_slot q = nI (65536 + i)) → J m' (x3 + 1)) → wX_heldNow_141 post J x3 (nI t) f_limit f_pending f_wide f_waiting f_height f_entries f_locals f_logLength f_open f_awaited f_frames f_sp f_base f_pc f_method f_steps f_status f_lastResult f_lastPlace a_ops a_args a_quick a_length a_exported a_known a_alive a_fresh a_lasting a_shared a_owner a_size a_element a_roots a_logCell a_logOld a_logged a_slot a_frameMethod a_framePc (d + 1) m (nI j) := by
  intro d
  induction d with
  | zero =>
    intro j m S hj hM H
    rw [wX_heldNow_141]
    exact br_t (nI_le (by omega) (by omega)) (nm_e (H m (ho_Mc hM (fun i _ => ⟨Or.inl, fun q => q.elim id (fun ⟨q, h1, h2, _⟩ => by omega)⟩))))
  | succ d ih =>
    intro j m S hj hM H
    rw [wX_heldNow_141]
    have cj : (nI j).toNatClampNeg = j := nI_clamp (by omega)
    obtain ⟨b, hb, hp⟩ := hx_bitOf (a_slot j)
    refine br_f (nI_ge (by omega) (by omega)) ⟨vp_in_nI (by omega) (by decide), ?_⟩
    rw [cj]
    refine hp _ (nm_e (nm_r (nI_1 _) (ih (j + 1) _ _ (by omega) (ho_Mo hM hb) (fun m' hM' => H m' (ho_Mc hM' (fun i _ => ⟨fun q => ?_, fun q => ?_⟩))))))
    · rcases q with (q | q) | ⟨a, h1, h2, h3⟩
      · exact Or.inl q
      · exact Or.inr ⟨j, Nat.le_refl _, by omega, q⟩
      · exact Or.inr ⟨a, by omega, h2, h3⟩
    · rcases q with q | ⟨a, h1, h2, h3⟩
      · exact Or.inl (Or.inl q)
      · by_cases z : a = j
        · subst z; exact Or.inl (Or.inr h3)
        · exact Or.inr ⟨a, by omega, h2, h3⟩
theorem hx_93 {post : Int32 → Prop} {F : Nat} {te : Nat → Nat} (hF : F ≤ 4) (hF0 : 0 < F) (eF : f_frames = nI F) (esp : f_sp = nI (te (F - 1))) (hte : ∀ f, f < F → 6 * f ≤ te f ∧ te f ≤ 24) (hfp : ∀ f, f + 1 < F → ∃ x, x < 128 ∧ a_framePc f = nI x ∧ te f = 6 * f + 2 + x / 16) :
    ∀ (d j : Nat) (m : Int32) (S : Nat → Prop), j + d = F → ho_M m S → (∀ m', ho_M m' (fun i => S i ∨ ∃ f q, j ≤ f ∧ f < F ∧ 6 * f ≤ q ∧ q < te f ∧ a_slot q = nI (65536 + i)) → post m') → wX_heldNow_93 post f_limit f_pending f_wide f_waiting f_height f_entries f_locals f_logLength f_open f_awaited f_frames f_sp f_base f_pc f_method f_steps f_status f_lastResult f_lastPlace a_ops a_args a_quick a_length a_exported a_known a_alive a_fresh a_lasting a_shared a_owner a_size a_element a_roots a_logCell a_logOld a_logged a_slot a_frameMethod a_framePc (d + 1) m (nI j) := by
  intro d
  induction d with
  | zero =>
    intro j m S hj hM H
    rw [wX_heldNow_93]
    refine br_t (by rw [eF]; exact nI_le (by omega) (by omega)) (H m (ho_Mc hM (fun i _ => ⟨Or.inl, fun q => q.elim id (fun ⟨f, q, h1, h2, _⟩ => by omega)⟩)))
  | succ d ih =>
    intro j m S hj hM H
    rw [wX_heldNow_93]
    have cj : (nI j).toNatClampNeg = j := nI_clamp (by omega)
    have hj' := hte j (by omega)
    have eF1 : f_frames - 1 = nI (F - 1) := by rw [eF]; exact pk_sub (b := 1) hF0
    have e6 : 6 * nI j = nI (6 * j) := pk_mul 6 j
    have go : ∀ m', ho_M m' (fun i => S i ∨ ∃ q, 6 * j ≤ q ∧ q < te j ∧ a_slot q = nI (65536 + i)) → wX_heldNow_93 post f_limit f_pending f_wide f_waiting f_height f_entries f_locals f_logLength f_open f_awaited f_frames f_sp f_base f_pc f_method f_steps f_status f_lastResult f_lastPlace a_ops a_args a_quick a_length a_exported a_known a_alive a_fresh a_lasting a_shared a_owner a_size a_element a_roots a_logCell a_logOld a_logged a_slot a_frameMethod a_framePc (d + 1) m' (nI j + 1) := fun m' hM' => by
      rw [nI_1 j]
      refine ih (j + 1) m' _ (by omega) hM' (fun m2 hM2 => H m2 (ho_Mc hM2 (fun i _ => ⟨fun q => ?_, fun q => ?_⟩)))
      · rcases q with (q | ⟨a, h1, h2, h3⟩) | ⟨f, a, h1, h2, h3⟩
        · exact Or.inl q
        · exact Or.inr ⟨j, a, Nat.le_refl _, by omega, h1, h2, h3⟩
        · exact Or.inr ⟨f, a, by omega, h2, h3⟩
      · rcases q with q | ⟨f, a, h1, h2, h3⟩
        · exact Or.inl (Or.inl q)
        · by_cases z : f = j
          · subst z; exact Or.inl (Or.inr ⟨a, h3⟩)
          · exact Or.inr ⟨f, a, by omega, h2, h3⟩
    refine br_f (by rw [eF]; exact nI_ge (by omega) (by omega)) ?_
    by_cases z : j = F - 1
    · refine br_t (by rw [eF1, z]) (nm_r e6 ⟨te j - 6 * j + 1, ?_⟩)
      have all : ∀ x4, x4 = nI (te j) → wX_heldNow_141 post (wX_heldNow_93 post f_limit f_pending f_wide f_waiting f_height f_entries f_locals f_logLength f_open f_awaited f_frames f_sp f_base f_pc f_method f_steps f_status f_lastResult f_lastPlace a_ops a_args a_quick a_length a_exported a_known a_alive a_fresh a_lasting a_shared a_owner a_size a_element a_roots a_logCell a_logOld a_logged a_slot a_frameMethod a_framePc (d + 1)) (nI j) x4 f_limit f_pending f_wide f_waiting f_height f_entries f_locals f_logLength f_open f_awaited f_frames f_sp f_base f_pc f_method f_steps f_status f_lastResult f_lastPlace a_ops a_args a_quick a_length a_exported a_known a_alive a_fresh a_lasting a_shared a_owner a_size a_element a_roots a_logCell a_logOld a_logged a_slot a_frameMethod a_framePc (te j - 6 * j + 1) m (nI (6 * j)) := fun x4 e => by
        rw [e]
        exact hx_141 (by omega) (te j - 6 * j) (6 * j) m S (by omega) hM go
      exact all f_sp (by rw [esp, ← z])
    · obtain ⟨x, hx, ex, et⟩ := hfp j (by omega)
      refine br_f (by rw [eF1]; exact fun q => z ((nI_eq (by omega) (by omega)).mp q)) ⟨vp_in_nI (by omega) (by decide), nm_r (e' := nI (te j)) ?_ (nm_r e6 ⟨te j - 6 * j + 1, ?_⟩)⟩
      · rw [cj, ex, e6, show nI (6 * j) + 2 = nI (6 * j + 2) from nI_add _ 2, show nI x >>> ((4 : Int32) &&& 31) = nI (x / 2 ^ 4) from hx_shr (k := 4) (by omega) (by decide), nI_add, et]
      · exact hx_141 (by omega) (te j - 6 * j) (6 * j) m S (by omega) hM go
theorem hx_36 {post : Int32 → Prop} {q : Nat} {c : Nat → Nat} (eq : f_logLength = nI q) (hq : q ≤ 46) (ho : ¬ f_open = 0) (hc : ∀ j, j < q → a_logCell j = nI (c j) ∧ c j < 46) {T : Nat → Prop}
    (K : ∀ m S, ho_M m S → (∀ m', ho_M m' (fun i => S i ∨ T i) → post m') → ∃ n93, wX_heldNow_93 post f_limit f_pending f_wide f_waiting f_height f_entries f_locals f_logLength f_open f_awaited f_frames f_sp f_base f_pc f_method f_steps f_status f_lastResult f_lastPlace a_ops a_args a_quick a_length a_exported a_known a_alive a_fresh a_lasting a_shared a_owner a_size a_element a_roots a_logCell a_logOld a_logged a_slot a_frameMethod a_framePc n93 m 0) :
    ∀ (d j : Nat) (m : Int32) (S : Nat → Prop), j + d = q → ho_M m S → (∀ m', ho_M m' (fun i => (S i ∨ ∃ e, j ≤ e ∧ e < q ∧ 32 ≤ c e ∧ c e < 38 ∧ a_logOld e = nI (65536 + i)) ∨ T i) → post m') → wX_heldNow_36 post f_limit f_pending f_wide f_waiting f_height f_entries f_locals f_logLength f_open f_awaited f_frames f_sp f_base f_pc f_method f_steps f_status f_lastResult f_lastPlace a_ops a_args a_quick a_length a_exported a_known a_alive a_fresh a_lasting a_shared a_owner a_size a_element a_roots a_logCell a_logOld a_logged a_slot a_frameMethod a_framePc (d + 1) m (nI j) := by
  intro d
  induction d with
  | zero =>
    intro j m S hj hM H
    rw [wX_heldNow_36]
    refine br_t (by rw [eq]; exact nI_le (by omega) (by omega)) (K m S hM (fun m' hM' => H m' (ho_Mc hM' (fun i _ => ⟨fun q => q.elim (fun a => Or.inl (Or.inl a)) Or.inr, fun q => q.elim (fun a => a.elim Or.inl (fun ⟨e, h1, h2, _⟩ => by omega)) Or.inr⟩))))
  | succ d ih =>
    intro j m S hj hM H
    rw [wX_heldNow_36]
    have cj : (nI j).toNatClampNeg = j := nI_clamp (by omega)
    have vj : vp_in (nI j) 46 := vp_in_nI (by omega) (by decide)
    obtain ⟨ec, hc46⟩ := hc j (by omega)
    have skip : ¬ (32 ≤ c j ∧ c j < 38) → wX_heldNow_36 post f_limit f_pending f_wide f_waiting f_height f_entries f_locals f_logLength f_open f_awaited f_frames f_sp f_base f_pc f_method f_steps f_status f_lastResult f_lastPlace a_ops a_args a_quick a_length a_exported a_known a_alive a_fresh a_lasting a_shared a_owner a_size a_element a_roots a_logCell a_logOld a_logged a_slot a_frameMethod a_framePc (d + 1) m (nI (j + 1)) := fun hn =>
      ih (j + 1) m S (by omega) hM (fun m' hM' => H m' (ho_Mc hM' (fun i _ => ⟨fun q => q.elim (fun a => Or.inl (a.elim Or.inl (fun ⟨e, h1, h2⟩ => Or.inr ⟨e, by omega, h2⟩))) Or.inr, fun q => q.elim (fun a => Or.inl (a.elim Or.inl (fun ⟨e, h1, h2, h3, h4, h5⟩ => by
        by_cases z : e = j
        · subst z; exact absurd ⟨h3, h4⟩ hn
        · exact Or.inr ⟨e, by omega, h2, h3, h4, h5⟩))) Or.inr⟩)))
    refine br_f (by rw [eq]; exact nI_ge (by omega) (by omega)) (br_f ho ⟨vj, ?_⟩)
    rw [cj, ec]
    refine pk_lt (c j) 32 (fun z => nm_r (nI_1 _) (skip (by omega))) (fun z => ⟨vj, pk_le 38 (c j) (fun z' => nm_r (nI_1 _) (skip (by omega))) (fun z' => ⟨vj, ?_⟩)⟩)
    obtain ⟨b, hb, hp⟩ := hx_bitOf (a_logOld j)
    refine hp _ (nm_e (nm_r (nI_1 _) (ih (j + 1) _ _ (by omega) (ho_Mo hM hb) (fun m' hM' => H m' (ho_Mc hM' (fun i _ => ⟨fun q => ?_, fun q => ?_⟩))))))
    · rcases q with ((q | q) | ⟨e, h1, h2⟩) | q
      · exact Or.inl (Or.inl q)
      · exact Or.inl (Or.inr ⟨j, Nat.le_refl _, by omega, by omega, by omega, q⟩)
      · exact Or.inl (Or.inr ⟨e, by omega, h2⟩)
      · exact Or.inr q
    · rcases q with (q | ⟨e, h1, h2, h3, h4, h5⟩) | q
      · exact Or.inl (Or.inl (Or.inl q))
      · by_cases zz : e = j
        · subst zz; exact Or.inl (Or.inl (Or.inr h5))
        · exact Or.inl (Or.inr ⟨e, by omega, h2, h3, h4, h5⟩)
      · exact Or.inr q
theorem hx_4 {post : Int32 → Prop} {x1 : Int32} {T : Nat → Prop} (K : ∀ m S, ho_M m S → (∀ m', ho_M m' (fun i => S i ∨ T i) → post m') → ((x1 = 0 → post m) ∧ (¬ x1 = 0 → ∃ n36, wX_heldNow_36 post f_limit f_pending f_wide f_waiting f_height f_entries f_locals f_logLength f_open f_awaited f_frames f_sp f_base f_pc f_method f_steps f_status f_lastResult f_lastPlace a_ops a_args a_quick a_length a_exported a_known a_alive a_fresh a_lasting a_shared a_owner a_size a_element a_roots a_logCell a_logOld a_logged a_slot a_frameMethod a_framePc n36 m 0))) :
    ∀ (d j : Nat) (m : Int32) (S : Nat → Prop), j + d = 6 → ho_M m S → (∀ m', ho_M m' (fun i => (S i ∨ ∃ r, j ≤ r ∧ r < 6 ∧ a_roots r = nI (65536 + i)) ∨ T i) → post m') → wX_heldNow_4 post x1 f_limit f_pending f_wide f_waiting f_height f_entries f_locals f_logLength f_open f_awaited f_frames f_sp f_base f_pc f_method f_steps f_status f_lastResult f_lastPlace a_ops a_args a_quick a_length a_exported a_known a_alive a_fresh a_lasting a_shared a_owner a_size a_element a_roots a_logCell a_logOld a_logged a_slot a_frameMethod a_framePc (d + 1) m (nI j) := by
  intro d
  induction d with
  | zero =>
    intro j m S hj hM H
    rw [wX_heldNow_4]
    exact br_t (nI_le (a := 6) (by omega) (by omega)) (K m S hM (fun m' hM' => H m' (ho_Mc hM' (fun i _ => ⟨fun q => q.elim (fun a => Or.inl (Or.inl a)) Or.inr, fun q => q.elim (fun a => a.elim Or.inl (fun ⟨e, h1, h2, _⟩ => by omega)) Or.inr⟩))))
  | succ d ih =>
    intro j m S hj hM H
    rw [wX_heldNow_4]
    have cj : (nI j).toNatClampNeg = j := nI_clamp (by omega)
    obtain ⟨b, hb, hp⟩ := hx_bitOf (a_roots j)
    refine br_f (nI_ge (b := 6) (by omega) (by decide)) ⟨vp_in_nI (by omega) (by decide), ?_⟩
    rw [cj]
    refine hp _ (nm_e (nm_r (nI_1 _) (ih (j + 1) _ _ (by omega) (ho_Mo hM hb) (fun m' hM' => H m' (ho_Mc hM' (fun i _ => ⟨fun q => ?_, fun q => ?_⟩))))))
    · rcases q with ((q | q) | ⟨e, h1, h2⟩) | q
      · exact Or.inl (Or.inl q)
      · exact Or.inl (Or.inr ⟨j, Nat.le_refl _, by omega, q⟩)
      · exact Or.inl (Or.inr ⟨e, by omega, h2⟩)
      · exact Or.inr q
    · rcases q with (q | ⟨e, h1, h2, h3⟩) | q
      · exact Or.inl (Or.inl (Or.inl q))
      · by_cases zz : e = j
        · subst zz; exact Or.inl (Or.inl (Or.inr h3))
        · exact Or.inl (Or.inr ⟨e, by omega, h2, h3⟩)
      · exact Or.inr q
theorem hx_heldNow0 {post : Int32 → Prop} (H : ∀ m, ho_M m (fun i => ∃ r, r < 6 ∧ a_roots r = nI (65536 + i)) → post m) : wpX_heldNow post (f_limit, f_pending, f_wide, f_waiting, f_height, f_entries, f_locals, f_logLength, f_open, f_awaited, f_frames, f_sp, f_base, f_pc, f_method, f_steps, f_status, f_lastResult, f_lastPlace, a_ops, a_args, a_quick, a_length, a_exported, a_known, a_alive, a_fresh, a_lasting, a_shared, a_owner, a_size, a_element, a_roots, a_logCell, a_logOld, a_logged, a_slot, a_frameMethod, a_framePc) 0 := by
  unfold wpX_heldNow
  exact ⟨6 + 1, hx_4 (T := fun _ => False) (fun m S hM H' => br_t rfl (H' m (ho_Mc hM (fun i _ => ⟨Or.inl, fun q => q.elim id False.elim⟩)))) 6 0 0 _ (by decide) ho_M0 (fun m' hM' => H m' (ho_Mc hM' (fun i _ => ⟨fun q => q.elim (fun a => a.elim False.elim (fun ⟨r, _, h⟩ => ⟨r, h⟩)) False.elim, fun ⟨r, h⟩ => Or.inl (Or.inr ⟨r, Nat.zero_le _, h⟩)⟩)))⟩
end
/-! ### the count -/
def ho_pc (M : Nat) : Nat := hs_su (fun i => if M.testBit i = true then 1 else 0) 8
theorem ho_pc_s : ∀ M, M < 256 → M ≠ 0 → (nI M &&& (nI M - 1) = nI (M &&& (M - 1)) ∧ ho_pc (M &&& (M - 1)) + 1 = ho_pc M ∧ M &&& (M - 1) < M) := by decide +kernel
theorem ho_Mn {m : Int32} {S : Nat → Prop} (h : ho_M m S) : ∃ M, M < 256 ∧ m = nI M ∧ ho_pc M = hs_su (fun i => hs_b (S i)) 8 := by
  have hb : ∀ i, m.toBitVec.toNat.testBit i = bt m i := fun i => rfl
  refine ⟨m.toBitVec.toNat, ?_, ?_, ?_⟩
  · refine Nat.lt_pow_two_of_testBit (n := 8) _ (fun i hi => ?_)
    rw [hb i]
    cases e : bt m i with
    | false => rfl
    | true => exact absurd ((h i).mp e).1 (by omega)
  · apply Int32.toBitVec_inj.1
    show m.toBitVec = BitVec.ofNat 32 m.toBitVec.toNat
    simp
  · refine hs_su_e (fun i hi => ?_)
    by_cases z : S i
    · rw [hs_b_t z, if_pos (by rw [hb i]; exact (h i).mpr ⟨hi, z⟩)]
    · rw [hs_b_f z, if_neg (by rw [hb i]; exact fun q => z ((h i).mp q).2)]
section
variable {f_limit f_pending f_wide f_waiting f_height f_entries f_locals f_logLength f_open f_awaited f_frames f_sp f_base f_pc f_method f_steps f_status f_lastResult f_lastPlace : Int32} {a_ops a_args a_quick a_length a_exported a_known a_alive a_fresh a_lasting a_shared a_owner a_size a_element a_roots a_logCell a_logOld a_logged a_slot a_frameMethod a_framePc : Nat → Int32}
theorem hx_held8 {post : Int32 → Prop} : ∀ (fu M c : Nat), M < fu → M < 256 → post (nI (c + ho_pc M)) → wX_held_8 post f_limit f_pending f_wide f_waiting f_height f_entries f_locals f_logLength f_open f_awaited f_frames f_sp f_base f_pc f_method f_steps f_status f_lastResult f_lastPlace a_ops a_args a_quick a_length a_exported a_known a_alive a_fresh a_lasting a_shared a_owner a_size a_element a_roots a_logCell a_logOld a_logged a_slot a_frameMethod a_framePc fu (nI c) (nI M) := by
  intro fu
  induction fu with
  | zero => intro M c h; omega
  | succ fu ih =>
    intro M c hf hM H
    rw [wX_held_8]
    by_cases z : M = 0
    · subst z; exact br_t rfl H
    · obtain ⟨e1, e2, e3⟩ := ho_pc_s M hM z
      refine br_f (nI_ne0 (by omega) (by omega)) (nm_r (nI_1 _) (nm_r e1 (ih _ _ (by omega) (by omega) ?_)))
      rw [show c + 1 + ho_pc (M &&& (M - 1)) = c + ho_pc M by omega]
      exact H
end
section
variable {g_limit g_waiting g_stack g_locals g_running g_steps g_awaited g_answer g_where g_outcome : Int32} {g_made : Int64} {g_good g_open : Int32} {b_ops b_bs b_sizes b_exported : Nat → Int32} {b_stamp : Nat → Int64} {b_owner b_lengths b_elements b_lasting b_shared b_roots : Nat → Int32} {b_oldStamp : Nat → Int64} {b_oldElements b_oldShared b_oldRoots b_rows b_nexts b_depths b_places b_kinds b_met b_todo b_heights : Nat → Int32}
theorem hy_held15 {post : Int32 → Prop} {J : Int32 → Int32 → Prop} {x1 : Int32} {o : Nat} (Ht : (∃ r, r < 6 ∧ b_roots r = nI o) → J (x1 + 1) (nI (o + 1))) (Hf : ¬ (∃ r, r < 6 ∧ b_roots r = nI o) → J x1 (nI (o + 1))) :
    ∀ (d j : Nat) (fl : Int32), j + d = 6 → ((fl = 0 ∧ ∀ r, r < j → b_roots r ≠ nI o) ∨ (fl = 1 ∧ ∃ r, r < 6 ∧ b_roots r = nI o)) → wY_held_15 post J x1 (nI o) g_limit g_waiting g_stack g_locals g_running g_steps g_awaited g_answer g_where g_outcome g_made g_good g_open b_ops b_bs b_sizes b_exported b_stamp b_owner b_lengths b_elements b_lasting b_shared b_roots b_oldStamp b_oldElements b_oldShared b_oldRoots b_rows b_nexts b_depths b_places b_kinds b_met b_todo b_heights (d + 1) fl (nI j) := by
  intro d
  induction d with
  | zero =>
    intro j fl hj h
    rw [wY_held_15]
    refine br_t (nI_le (a := 6) (by omega) (by omega)) ?_
    rcases h with ⟨rfl, h⟩ | ⟨rfl, h⟩
    · exact br_t rfl (nm_r (nI_1 _) (Hf (fun ⟨r, h1, h2⟩ => h r (by omega) h2)))
    · exact br_f (by decide) (nm_e (nm_r (nI_1 _) (Ht h)))
  | succ d ih =>
    intro j fl hj h
    rw [wY_held_15]
    have cj : (nI j).toNatClampNeg = j := nI_clamp (by omega)
    refine br_f (nI_ge (b := 6) (by omega) (by decide)) ⟨vp_in_nI (by omega) (by decide), ?_⟩
    rw [cj]
    refine br_c (fun z => nm_e (nm_r (nI_1 _) (ih (j + 1) _ (by omega) (Or.inr ⟨?_, j, by omega, z⟩)))) (fun z => nm_e (nm_r (nI_1 _) (ih (j + 1) _ (by omega) ?_)))
    · rcases h with ⟨rfl, _⟩ | ⟨rfl, _⟩ <;> rfl
    · rcases h with ⟨rfl, h⟩ | ⟨rfl, h⟩
      · refine Or.inl ⟨rfl, fun r hr => ?_⟩
        by_cases q : r = j
        · subst q; exact z
        · exact h r (by omega)
      · exact Or.inr ⟨rfl, h⟩
theorem hy_held4 {post : Int32 → Prop} (H : post (nI (hs_su (fun p => hs_b (∃ r, r < 6 ∧ b_roots r = nI p)) 8))) : ∀ (d o : Nat), o + d = 8 → wY_held_4 post g_limit g_waiting g_stack g_locals g_running g_steps g_awaited g_answer g_where g_outcome g_made g_good g_open b_ops b_bs b_sizes b_exported b_stamp b_owner b_lengths b_elements b_lasting b_shared b_roots b_oldStamp b_oldElements b_oldShared b_oldRoots b_rows b_nexts b_depths b_places b_kinds b_met b_todo b_heights (d + 1) (nI (hs_su (fun p => hs_b (∃ r, r < 6 ∧ b_roots r = nI p)) o)) (nI o) := by
  intro d
  induction d with
  | zero =>
    intro o ho
    rw [wY_held_4]
    have e : o = 8 := by omega
    subst e
    exact br_t (by decide) H
  | succ d ih =>
    intro o ho
    rw [wY_held_4]
    have hs : hs_su (fun p => hs_b (∃ r, r < 6 ∧ b_roots r = nI p)) (o + 1) = hs_su (fun p => hs_b (∃ r, r < 6 ∧ b_roots r = nI p)) o + hs_b (∃ r, r < 6 ∧ b_roots r = nI o) := rfl
    have ih' := ih (o + 1) (by omega)
    refine br_f (nI_ge (b := 8) (by omega) (by decide)) ⟨6 + 1, hy_held15 (fun h => ?_) (fun h => ?_) 6 0 0 (by decide) (Or.inl ⟨rfl, fun r hr => by cases hr⟩)⟩
    · rw [hs, hs_b_t h] at ih'
      rw [nI_1]; exact ih'
    · rw [hs, hs_b_f h] at ih'
      exact ih'
/-! ### isHeld, free -/
/-- what the reference holds -/
def hy_H (F : Nat) (opn : Int32) (broots boldRoots bplaces bkinds : Nat → Int32) (D : Nat → Nat) (p : Nat) : Prop :=
  (∃ r, r < 6 ∧ (broots r = nI p ∨ (¬ opn = 0 ∧ boldRoots r = nI p))) ∨ ∃ f q, f < F ∧ 8 * f ≤ q ∧ q < 8 * f + 2 + D f ∧ bkinds q = 2 ∧ bplaces q = nI p
theorem hy_58 {post : Int32 → Prop} {J : Int32 → Prop} {p f t : Nat} (hf : f < 4) (et : 8 * nI f + 2 + b_depths f = nI t) (ht : t ≤ 32) (H1 : (∃ q, 8 * f ≤ q ∧ q < t ∧ b_kinds q = 2 ∧ b_places q = nI p) → post 1) (H0 : ¬ (∃ q, 8 * f ≤ q ∧ q < t ∧ b_kinds q = 2 ∧ b_places q = nI p) → J (nI (f + 1))) :
    ∀ (d j : Nat), j + d = t → 8 * f ≤ j → (∀ q, 8 * f ≤ q → q < j → ¬ (b_kinds q = 2 ∧ b_places q = nI p)) → wY_isHeld_58 post J (nI p) (nI f) g_limit g_waiting g_stack g_locals g_running g_steps g_awaited g_answer g_where g_outcome g_made g_good g_open b_ops b_bs b_sizes b_exported b_stamp b_owner b_lengths b_elements b_lasting b_shared b_roots b_oldStamp b_oldElements b_oldShared b_oldRoots b_rows b_nexts b_depths b_places b_kinds b_met b_todo b_heights (d + 1) (nI j) := by
  intro d
  induction d with
  | zero =>
    intro j hj hfj h
    rw [wY_isHeld_58]
    have cf : (nI f).toNatClampNeg = f := nI_clamp (by omega)
    refine ⟨vp_in_nI hf (by decide), ?_⟩
    rw [cf, et]
    exact br_t (nI_le (by omega) (by omega)) (nm_r (nI_1 _) (H0 (fun ⟨q, h1, h2, h3⟩ => h q h1 (by omega) h3)))
  | succ d ih =>
    intro j hj hfj h
    rw [wY_isHeld_58]
    have cf : (nI f).toNatClampNeg = f := nI_clamp (by omega)
    have cj : (nI j).toNatClampNeg = j := nI_clamp (by omega)
    have vj : vp_in (nI j) 32 := vp_in_nI (by omega) (by decide)
    refine ⟨vp_in_nI hf (by decide), ?_⟩
    rw [cf, et, cj]
    have nx : ¬ (b_kinds j = 2 ∧ b_places j = nI p) → wY_isHeld_58 post J (nI p) (nI f) g_limit g_waiting g_stack g_locals g_running g_steps g_awaited g_answer g_where g_outcome g_made g_good g_open b_ops b_bs b_sizes b_exported b_stamp b_owner b_lengths b_elements b_lasting b_shared b_roots b_oldStamp b_oldElements b_oldShared b_oldRoots b_rows b_nexts b_depths b_places b_kinds b_met b_todo b_heights (d + 1) (nI (j + 1)) := fun hn => ih (j + 1) (by omega) (by omega) (fun q h1 h2 => by
      by_cases z : q = j
      · subst z; exact hn
      · exact h q h1 (by omega))
    exact br_f (nI_ge (by omega) (by omega)) ⟨vj, br_c (fun z => ⟨vj, br_c (fun z' => H1 ⟨j, hfj, by omega, z, z'⟩) (fun z' => nm_r (nI_1 _) (nx (fun q => z' q.2)))⟩) (fun z => nm_r (nI_1 _) (nx (fun q => z q.1)))⟩
theorem hy_45 {post : Int32 → Prop} {p F : Nat} {D : Nat → Nat} (hF : F ≤ 4) (eF : g_running = nI F) (hD : ∀ f, f < F → b_depths f = nI (D f) ∧ D f ≤ 6) (H1 : (∃ f q, f < F ∧ 8 * f ≤ q ∧ q < 8 * f + 2 + D f ∧ b_kinds q = 2 ∧ b_places q = nI p) → post 1) (H0 : ¬ (∃ f q, f < F ∧ 8 * f ≤ q ∧ q < 8 * f + 2 + D f ∧ b_kinds q = 2 ∧ b_places q = nI p) → post 0) :
    ∀ (d j : Nat), j + d = F → (∀ f q, f < j → 8 * f ≤ q → q < 8 * f + 2 + D f → ¬ (b_kinds q = 2 ∧ b_places q = nI p)) → wY_isHeld_45 post (nI p) g_limit g_waiting g_stack g_locals g_running g_steps g_awaited g_answer g_where g_outcome g_made g_good g_open b_ops b_bs b_sizes b_exported b_stamp b_owner b_lengths b_elements b_lasting b_shared b_roots b_oldStamp b_oldElements b_oldShared b_oldRoots b_rows b_nexts b_depths b_places b_kinds b_met b_todo b_heights (d + 1) (nI j) := by
  intro d
  induction d with
  | zero =>
    intro j hj h
    rw [wY_isHeld_45]
    exact br_t (by rw [eF]; exact nI_le (by omega) (by omega)) (H0 (fun ⟨f, q, h1, h2, h3, h4⟩ => h f q (by omega) h2 h3 h4))
  | succ d ih =>
    intro j hj h
    rw [wY_isHeld_45]
    obtain ⟨eD, hD6⟩ := hD j (by omega)
    have e8 : 8 * nI j = nI (8 * j) := pk_mul 8 j
    refine br_f (by rw [eF]; exact nI_ge (by omega) (by omega)) (nm_r e8 ⟨2 + D j + 1, hy_58 (t := 8 * j + 2 + D j) (by omega) ?_ (by omega) (fun ⟨q, h1, h2, h3⟩ => H1 ⟨j, q, by omega, h1, h2, h3⟩) (fun hn => ?_) (2 + D j) (8 * j) (by omega) (Nat.le_refl _) (fun q h1 h2 => by omega)⟩)
    · rw [eD, e8, show nI (8 * j) + 2 = nI (8 * j + 2) from nI_add _ 2, nI_add]
    · exact ih (j + 1) (by omega) (fun f q h1 h2 h3 h4 => by
        by_cases z : f = j
        · subst z; exact hn ⟨q, h2, h3, h4⟩
        · exact h f q (by omega) h2 h3 h4)
theorem hy_isHeld {post : Int32 → Prop} {p F : Nat} {D : Nat → Nat} (hF : F ≤ 4) (eF : g_running = nI F) (hD : ∀ f, f < F → b_depths f = nI (D f) ∧ D f ≤ 6) (H1 : hy_H F g_open b_roots b_oldRoots b_places b_kinds D p → post 1) (H0 : ¬ hy_H F g_open b_roots b_oldRoots b_places b_kinds D p → post 0) : wpY_isHeld post (g_limit, g_waiting, g_stack, g_locals, g_running, g_steps, g_awaited, g_answer, g_where, g_outcome, g_made, g_good, g_open, b_ops, b_bs, b_sizes, b_exported, b_stamp, b_owner, b_lengths, b_elements, b_lasting, b_shared, b_roots, b_oldStamp, b_oldElements, b_oldShared, b_oldRoots, b_rows, b_nexts, b_depths, b_places, b_kinds, b_met, b_todo, b_heights) (nI p) := by
  unfold wpY_isHeld
  have key : ∀ (d j : Nat), j + d = 6 → (∀ r, r < j → ¬ (b_roots r = nI p ∨ (¬ g_open = 0 ∧ b_oldRoots r = nI p))) → wY_isHeld_2 post (nI p) g_limit g_waiting g_stack g_locals g_running g_steps g_awaited g_answer g_where g_outcome g_made g_good g_open b_ops b_bs b_sizes b_exported b_stamp b_owner b_lengths b_elements b_lasting b_shared b_roots b_oldStamp b_oldElements b_oldShared b_oldRoots b_rows b_nexts b_depths b_places b_kinds b_met b_todo b_heights (d + 1) (nI j) := by
    intro d
    induction d with
    | zero =>
      intro j hj h
      rw [wY_isHeld_2]
      refine br_t (nI_le (a := 6) (by omega) (by omega)) ⟨F + 1, hy_45 hF eF hD (fun q => H1 (Or.inr q)) (fun q => H0 (fun z => ?_)) F 0 (by omega) (fun f q hf => by omega)⟩
      rcases z with ⟨r, hr, z⟩ | z
      · exact h r (by omega) z
      · exact q z
    | succ d ih =>
      intro j hj h
      rw [wY_isHeld_2]
      have cj : (nI j).toNatClampNeg = j := nI_clamp (by omega)
      have vj : vp_in (nI j) 6 := vp_in_nI (by omega) (by decide)
      refine br_f (nI_ge (b := 6) (by omega) (by decide)) ⟨vj, ?_⟩
      rw [cj]
      have nx : ¬ (b_roots j = nI p ∨ (¬ g_open = 0 ∧ b_oldRoots j = nI p)) → wY_isHeld_2 post (nI p) g_limit g_waiting g_stack g_locals g_running g_steps g_awaited g_answer g_where g_outcome g_made g_good g_open b_ops b_bs b_sizes b_exported b_stamp b_owner b_lengths b_elements b_lasting b_shared b_roots b_oldStamp b_oldElements b_oldShared b_oldRoots b_rows b_nexts b_depths b_places b_kinds b_met b_todo b_heights (d + 1) (nI (j + 1)) := fun hn => ih (j + 1) (by omega) (fun r hr => by
        by_cases z : r = j
        · subst z; exact hn
        · exact h r (by omega))
      exact br_c (fun z => H1 (Or.inl ⟨j, by omega, Or.inl z⟩)) (fun z => br_c (fun z' => nm_r (nI_1 _) (nx (fun q => q.elim z (fun q => q.1 z')))) (fun z' => ⟨vj, br_c (fun z'' => H1 (Or.inl ⟨j, by omega, Or.inr ⟨z', z''⟩⟩)) (fun z'' => nm_r (nI_1 _) (nx (fun q => q.elim z (fun q => z'' q.2))))⟩))
  exact ⟨6 + 1, key 6 0 (by decide) (fun r hr => by cases hr)⟩
theorem hy_free {post : Int32 → Prop} {F : Nat} {D : Nat → Nat} (hF : F ≤ 4) (eF : g_running = nI F) (hD : ∀ f, f < F → b_depths f = nI (D f) ∧ D f ≤ 6) (H1 : ∀ p, p < 8 → ¬ hy_H F g_open b_roots b_oldRoots b_places b_kinds D p → post (nI p)) (H0 : (∀ p, p < 8 → hy_H F g_open b_roots b_oldRoots b_places b_kinds D p) → post (-1)) : wpY_free post (g_limit, g_waiting, g_stack, g_locals, g_running, g_steps, g_awaited, g_answer, g_where, g_outcome, g_made, g_good, g_open, b_ops, b_bs, b_sizes, b_exported, b_stamp, b_owner, b_lengths, b_elements, b_lasting, b_shared, b_roots, b_oldStamp, b_oldElements, b_oldShared, b_oldRoots, b_rows, b_nexts, b_depths, b_places, b_kinds, b_met, b_todo, b_heights) := by
  unfold wpY_free
  have key : ∀ (d j : Nat), j + d = 8 → (∀ p, p < j → hy_H F g_open b_roots b_oldRoots b_places b_kinds D p) → wY_free_2 post g_limit g_waiting g_stack g_locals g_running g_steps g_awaited g_answer g_where g_outcome g_made g_good g_open b_ops b_bs b_sizes b_exported b_stamp b_owner b_lengths b_elements b_lasting b_shared b_roots b_oldStamp b_oldElements b_oldShared b_oldRoots b_rows b_nexts b_depths b_places b_kinds b_met b_todo b_heights (d + 1) (nI j) := by
    intro d
    induction d with
    | zero =>
      intro j hj h
      rw [wY_free_2]
      exact br_t (nI_le (a := 8) (by omega) (by omega)) (H0 (fun p hp => h p (by omega)))
    | succ d ih =>
      intro j hj h
      rw [wY_free_2]
      refine br_f (nI_ge (b := 8) (by omega) (by decide)) (hy_isHeld hF eF hD (fun z => br_f (by decide) (nm_r (nI_1 _) (ih (j + 1) (by omega) (fun p hp => ?_)))) (fun z => br_t rfl (H1 j (by omega) z)))
      by_cases q : p = j
      · subst q; exact z
      · exact h p (by omega)
  exact ⟨8 + 1, key 8 0 (by decide) (fun p hp => by cases hp)⟩
end
theorem i_vc_held {k : Nat} {u : SX} {v : SY} (I : i_Rel k u v) (hk : k + 4 ≤ 2049) : wpX_held (fun r => wpY_held (fun r' => r' = r ∧ i_Rel (k + 4) u v) v) u := by
  have I4 := i_up I
  revert I4
  refine zz_el (P := fun u v => i_Rel (k + 4) u v → wpX_held (fun r => wpY_held (fun r' => r' = r ∧ i_Rel (k + 4) u v) v) u) ?_ I
  intro f_limit f_pending f_wide f_waiting f_height f_entries f_locals f_logLength f_open f_awaited f_frames f_sp f_base f_pc f_method f_steps f_status f_lastResult f_lastPlace a_ops a_args a_quick a_length a_exported a_known a_alive a_fresh a_lasting a_shared a_owner a_size a_element a_roots a_logCell a_logOld a_logged a_slot a_frameMethod a_framePc g_limit g_waiting g_stack g_locals g_running g_steps g_awaited g_answer g_where g_outcome g_made g_good g_open b_ops b_bs b_sizes b_exported b_stamp b_owner b_lengths b_elements b_lasting b_shared b_roots b_oldStamp b_oldElements b_oldShared b_oldRoots b_rows b_nexts b_depths b_places b_kinds b_met b_todo b_heights F I4
  obtain ⟨π, ρ, H, hP, hO, hV, hW⟩ := F.2.2.2.2.2.2.2.2.1
  have hH : ∀ o, H o → o < 8 ∧ π o < 8 := fun o ho => ⟨(hO o ho).1, (hP o (hO o ho).1).1⟩
  unfold wpX_held
  refine hx_heldNow0 (fun m hM => ?_)
  obtain ⟨M, hM256, rfl, hpc⟩ := ho_Mn hM
  refine ⟨256, hx_held8 256 M 0 hM256 hM256 ?_⟩
  unfold wpY_held
  refine ⟨8 + 1, hy_held4 ⟨?_, I4⟩ 8 0 (by decide)⟩
  rw [Nat.zero_add, hpc]
  refine congrArg nI (hs_su_perm hP (fun o ho => hs_b_c ⟨fun ⟨r, hr, e⟩ => ⟨r, hr, ?_⟩, fun ⟨r, hr, e⟩ => ⟨r, hr, ?_⟩⟩)).symm
  · rcases ho_V0 (hV r hr) hH with ⟨ex, ey⟩ | ⟨o', ho', ho8, hp8, ex, ey, hne⟩
    · rw [e] at ey
      have := congrArg (fun z => decide (z < 0)) ey
      simp only [decide_eq_false (nI_pos (n := π o) (by have := (hP o ho).1; omega))] at this
      exact absurd this (by decide)
    · rw [e, nI_eq (by have := (hP o ho).1; omega) (by omega)] at ey
      have := congrArg ρ ey
      rw [(hP o ho).2.2.1, (hP o' ho8).2.2.1] at this
      rw [ex, this]
  · rcases ho_V0 (hV r hr) hH with ⟨ex, ey⟩ | ⟨o', ho', ho8, hp8, ex, ey, hne⟩
    · rw [e] at ex
      have := ca_ref_i (a := o) (b := 8) (by omega) (by decide) ex
      omega
    · rw [e] at ex
      have := ca_ref_i (by omega) (by omega) ex
      rw [ey, this]
end
section
/-! ===== X: most, argumentsFit ===== -/
def hx_mo (op P : Nat) : Int32 := match op with
  | 0 => -1
  | 1 => nI 2
  | 2 => nI 2
  | 7 => nI P
  | 8 => nI P
  | 9 => nI 2
  | 10 => nI 2
  | 11 => nI 2
  | 16 => nI 6
  | 18 => nI 6
  | _ => nI 0
section
variable {f_limit f_pending f_wide f_waiting f_height f_entries f_locals f_logLength f_open f_awaited f_frames f_sp f_base f_pc f_method f_steps f_status f_lastResult f_lastPlace : Int32} {a_ops a_args a_quick a_length a_exported a_known a_alive a_fresh a_lasting a_shared a_owner a_size a_element a_roots a_logCell a_logOld a_logged a_slot a_frameMethod a_framePc : Nat → Int32}
theorem hx_most {post : Int32 → Prop} {op P : Nat} (h : op ≤ 24) (hp : post (hx_mo op P)) : wpX_most post (f_limit, nI P, f_wide, f_waiting, f_height, f_entries, f_locals, f_logLength, f_open, f_awaited, f_frames, f_sp, f_base, f_pc, f_method, f_steps, f_status, f_lastResult, f_lastPlace, a_ops, a_args, a_quick, a_length, a_exported, a_known, a_alive, a_fresh, a_lasting, a_shared, a_owner, a_size, a_element, a_roots, a_logCell, a_logOld, a_logged, a_slot, a_frameMethod, a_framePc) (nI op) := by
  unfold wpX_most
  rcases hx_25 h with rfl | rfl | rfl | rfl | rfl | rfl | rfl | rfl | rfl | rfl | rfl | rfl | rfl | rfl | rfl | rfl | rfl | rfl | rfl | rfl | rfl | rfl | rfl | rfl | rfl
  · refine br_f (by decide) (br_f (by decide) (br_t (by decide) ?_)); exact hp
  · refine br_f (by decide) (br_f (by decide) (br_f (by decide) (br_t (by decide) ?_))); exact hp
  · refine br_f (by decide) (br_f (by decide) (br_f (by decide) (br_f (by decide) (br_t (by decide) ?_)))); exact hp
  · refine br_f (by decide) (br_f (by decide) (br_f (by decide) (br_f (by decide) (br_f (by decide) (br_t (by decide) ?_))))); exact hp
  · refine br_f (by decide) (br_f (by decide) (br_f (by decide) (br_f (by decide) (br_f (by decide) (br_f (by decide) (br_t (by decide) ?_)))))); exact hp
  · refine br_f (by decide) (br_f (by decide) (br_f (by decide) (br_f (by decide) (br_f (by decide) (br_f (by decide) (br_f (by decide) (br_t (by decide) ?_))))))); exact hp
  · refine br_f (by decide) (br_f (by decide) (br_f (by decide) (br_f (by decide) (br_f (by decide) (br_f (by decide) (br_f (by decide) (br_f (by decide) (br_t (by decide) ?_)))))))); exact hp
  · refine br_f (by decide) (br_f (by decide) (br_f (by decide) (br_f (by decide) (br_f (by decide) (br_f (by decide) (br_f (by decide) (br_f (by decide) (br_f (by decide) (br_t (by decide) ?_))))))))); exact hp
  · refine br_f (by decide) (br_f (by decide) (br_f (by decide) (br_f (by decide) (br_f (by decide) (br_f (by decide) (br_f (by decide) (br_f (by decide) (br_f (by decide) (br_f (by decide) (br_t (by decide) ?_)))))))))); exact hp
  · refine br_f (by decide) (br_f (by decide) (br_f (by decide) (br_f (by decide) (br_f (by decide) (br_f (by decide) (br_f (by decide) (br_f (by decide) (br_f (by decide) (br_f (by decide) (br_f (by decide) (br_t (by decide) ?_))))))))))); exact hp
  · refine br_f (by decide) (br_f (by decide) (br_f (by decide) (br_f (by decide) (br_f (by decide) (br_f (by decide) (br_f (by decide) (br_f (by decide) (br_f (by decide) (br_f (by decide) (br_f (by decide) (br_f (by decide) (br_t (by decide) ?_)))))))))))); exact hp
  · refine br_f (by decide) (br_f (by decide) (br_f (by decide) (br_f (by decide) (br_f (by decide) (br_f (by decide) (br_f (by decide) (br_f (by decide) (br_f (by decide) (br_f (by decide) (br_f (by decide) (br_f (by decide) (br_f (by decide) (br_t (by decide) ?_))))))))))))); exact hp
  · refine br_f (by decide) (br_f (by decide) (br_f (by decide) (br_f (by decide) (br_f (by decide) (br_f (by decide) (br_f (by decide) (br_f (by decide) (br_f (by decide) (br_f (by decide) (br_f (by decide) (br_f (by decide) (br_f (by decide) (br_f (by decide) (br_t (by decide) ?_)))))))))))))); exact hp
  · refine br_f (by decide) (br_f (by decide) (br_f (by decide) (br_f (by decide) (br_f (by decide) (br_f (by decide) (br_f (by decide) (br_f (by decide) (br_f (by decide) (br_f (by decide) (br_f (by decide) (br_f (by decide) (br_f (by decide) (br_f (by decide) (br_f (by decide) (br_t (by decide) ?_))))))))))))))); exact hp
  · refine br_f (by decide) (br_f (by decide) (br_f (by decide) (br_f (by decide) (br_f (by decide) (br_f (by decide) (br_f (by decide) (br_f (by decide) (br_f (by decide) (br_f (by decide) (br_f (by decide) (br_f (by decide) (br_f (by decide) (br_f (by decide) (br_f (by decide) (br_f (by decide) (br_t (by decide) ?_)))))))))))))))); exact hp
  · refine br_f (by decide) (br_f (by decide) (br_f (by decide) (br_f (by decide) (br_f (by decide) (br_f (by decide) (br_f (by decide) (br_f (by decide) (br_f (by decide) (br_f (by decide) (br_f (by decide) (br_f (by decide) (br_f (by decide) (br_f (by decide) (br_f (by decide) (br_f (by decide) (br_f (by decide) (br_t (by decide) ?_))))))))))))))))); exact hp
  · refine br_f (by decide) (br_f (by decide) (br_f (by decide) (br_f (by decide) (br_f (by decide) (br_f (by decide) (br_f (by decide) (br_f (by decide) (br_f (by decide) (br_f (by decide) (br_f (by decide) (br_f (by decide) (br_f (by decide) (br_f (by decide) (br_f (by decide) (br_f (by decide) (br_f (by decide) (br_f (by decide) (br_t (by decide) ?_)))))))))))))))))); exact hp
  · refine br_f (by decide) (br_f (by decide) (br_f (by decide) (br_f (by decide) (br_f (by decide) (br_f (by decide) (br_f (by decide) (br_f (by decide) (br_f (by decide) (br_f (by decide) (br_f (by decide) (br_f (by decide) (br_f (by decide) (br_f (by decide) (br_f (by decide) (br_f (by decide) (br_f (by decide) (br_f (by decide) (br_f (by decide) (br_t (by decide) ?_))))))))))))))))))); exact hp
  · refine br_f (by decide) (br_f (by decide) (br_f (by decide) (br_f (by decide) (br_f (by decide) (br_f (by decide) (br_f (by decide) (br_f (by decide) (br_f (by decide) (br_f (by decide) (br_f (by decide) (br_f (by decide) (br_f (by decide) (br_f (by decide) (br_f (by decide) (br_f (by decide) (br_f (by decide) (br_f (by decide) (br_f (by decide) (br_f (by decide) (br_t (by decide) ?_)))))))))))))))))))); exact hp
  · refine br_f (by decide) (br_t (by decide) ?_); exact hp
  · refine br_f (by decide) (br_t (by decide) ?_); exact hp
  · refine br_f (by decide) (br_t (by decide) ?_); exact hp
  · refine br_f (by decide) (br_t (by decide) ?_); exact hp
  · refine br_f (by decide) (br_t (by decide) ?_); exact hp
  · refine br_f (by decide) (br_t (by decide) ?_); exact hp
/-- an argument against a bound M -/
theorem hx_fitM {post : Int32 → Prop} {J : Int32 → Prop} {j M : Nat} {b z : Int32} (hM : 0 < M) (hM' : M ≤ 16) (hz : (z = 0 ∧ (-128 ≤ b.toInt ∧ b.toInt ≤ 127)) ∨ (z = 1 ∧ ¬ (-128 ≤ b.toInt ∧ b.toInt ≤ 127))) (H1 : (∃ i, i < M ∧ b = nI i) → J (nI (j + 1))) (H0 : ¬ (∃ i, i < M ∧ b = nI i) → post 0) : wX_argumentsFit_50 post J (nI j) (nI M) b.toInt8.toInt32 z f_limit f_pending f_wide f_waiting f_height f_entries f_locals f_logLength f_open f_awaited f_frames f_sp f_base f_pc f_method f_steps f_status f_lastResult f_lastPlace a_ops a_args a_quick a_length a_exported a_known a_alive a_fresh a_lasting a_shared a_owner a_size a_element a_roots a_logCell a_logOld a_logged a_slot a_frameMethod a_framePc := by
  unfold wX_argumentsFit_50 wX_argumentsFit_61
  refine br_f (nI_ne0 hM (by omega)) ?_
  rcases hz with ⟨rfl, hr⟩ | ⟨rfl, hr⟩
  · rw [lg_i2b_small hr.1 (by omega)]
    refine br_t rfl (br_f (nI_nle hM (by omega)) ?_)
    rcases pk_ix b (n := M) (by omega) with q | q | ⟨i, hi, rfl⟩
    · exact br_t q (H0 (fun ⟨i, hi, e⟩ => by rw [e] at q; exact nI_pos (by omega) q))
    · refine br_c (fun q' => H0 (fun ⟨i, hi, e⟩ => ?_)) (fun _ => br_f (fun q' => ?_) (H0 (fun ⟨i, hi, e⟩ => ?_)))
      · rw [e] at q'; exact nI_pos (by omega) q'
      · exact absurd q (Int32.not_le.mpr q')
      · rw [e] at q; exact nI_ge hi (by omega) q
    · exact br_f (nI_pos (by omega)) (br_t (nI_lt hi (by omega)) (nm_r (nI_1 _) (H1 ⟨i, hi, rfl⟩)))
  · refine br_f (by decide) (H0 (fun ⟨i, hi, e⟩ => hr ?_))
    rw [e, nI_toInt (by omega)]
    omega
theorem hx_fit1 {post : Int32 → Prop} {J : Int32 → Prop} {op j P : Nat} {b z : Int32} (hop : op ≤ 24) (hP : 0 < P) (hP' : P ≤ 16) (hz : (z = 0 ∧ (-128 ≤ b.toInt ∧ b.toInt ≤ 127)) ∨ (z = 1 ∧ ¬ (-128 ≤ b.toInt ∧ b.toInt ≤ 127))) (H1 : hs_fit op b P → J (nI (j + 1))) (H0 : ¬ hs_fit op b P → post 0) : wX_argumentsFit_50 post J (nI j) (hx_mo op P) b.toInt8.toInt32 z f_limit f_pending f_wide f_waiting f_height f_entries f_locals f_logLength f_open f_awaited f_frames f_sp f_base f_pc f_method f_steps f_status f_lastResult f_lastPlace a_ops a_args a_quick a_length a_exported a_known a_alive a_fresh a_lasting a_shared a_owner a_size a_element a_roots a_logCell a_logOld a_logged a_slot a_frameMethod a_framePc := by
  have h2 : (op = 1 ∨ op = 2 ∨ op = 9 ∨ op = 10 ∨ op = 11) → hx_mo op P = nI 2 → wX_argumentsFit_50 post J (nI j) (hx_mo op P) b.toInt8.toInt32 z f_limit f_pending f_wide f_waiting f_height f_entries f_locals f_logLength f_open f_awaited f_frames f_sp f_base f_pc f_method f_steps f_status f_lastResult f_lastPlace a_ops a_args a_quick a_length a_exported a_known a_alive a_fresh a_lasting a_shared a_owner a_size a_element a_roots a_logCell a_logOld a_logged a_slot a_frameMethod a_framePc := fun o e => by
    rw [e]
    exact hx_fitM (by decide) (by decide) hz (fun h => H1 ⟨fun q => by omega, fun _ => h, fun q => by omega, fun q => by omega⟩) (fun h => H0 (fun q => h (q.2.1 o)))
  have h7 : (op = 7 ∨ op = 8) → hx_mo op P = nI P → wX_argumentsFit_50 post J (nI j) (hx_mo op P) b.toInt8.toInt32 z f_limit f_pending f_wide f_waiting f_height f_entries f_locals f_logLength f_open f_awaited f_frames f_sp f_base f_pc f_method f_steps f_status f_lastResult f_lastPlace a_ops a_args a_quick a_length a_exported a_known a_alive a_fresh a_lasting a_shared a_owner a_size a_element a_roots a_logCell a_logOld a_logged a_slot a_frameMethod a_framePc := fun o e => by
    rw [e]
    exact hx_fitM hP hP' hz (fun h => H1 ⟨fun q => by omega, fun q => by omega, fun _ => h, fun q => by omega⟩) (fun h => H0 (fun q => h (q.2.2.1 o)))
  have h6 : (op = 16 ∨ op = 18) → hx_mo op P = nI 6 → wX_argumentsFit_50 post J (nI j) (hx_mo op P) b.toInt8.toInt32 z f_limit f_pending f_wide f_waiting f_height f_entries f_locals f_logLength f_open f_awaited f_frames f_sp f_base f_pc f_method f_steps f_status f_lastResult f_lastPlace a_ops a_args a_quick a_length a_exported a_known a_alive a_fresh a_lasting a_shared a_owner a_size a_element a_roots a_logCell a_logOld a_logged a_slot a_frameMethod a_framePc := fun o e => by
    rw [e]
    exact hx_fitM (by decide) (by decide) hz (fun h => H1 ⟨fun q => by omega, fun q => by omega, fun q => by omega, fun _ => h⟩) (fun h => H0 (fun q => h (q.2.2.2 o)))
  have h0 : op = 0 → hx_mo op P = -1 → wX_argumentsFit_50 post J (nI j) (hx_mo op P) b.toInt8.toInt32 z f_limit f_pending f_wide f_waiting f_height f_entries f_locals f_logLength f_open f_awaited f_frames f_sp f_base f_pc f_method f_steps f_status f_lastResult f_lastPlace a_ops a_args a_quick a_length a_exported a_known a_alive a_fresh a_lasting a_shared a_owner a_size a_element a_roots a_logCell a_logOld a_logged a_slot a_frameMethod a_framePc := fun o e => by
    rw [e]
    unfold wX_argumentsFit_50 wX_argumentsFit_61
    refine br_f (by decide) ?_
    rcases hz with ⟨rfl, hr⟩ | ⟨rfl, hr⟩
    · exact br_t rfl (br_t (by decide) (nm_r (nI_1 _) (H1 ⟨fun _ => hr, fun q => by omega, fun q => by omega, fun q => by omega⟩)))
    · exact br_f (by decide) (H0 (fun q => hr (q.1 o)))
  have ho : op ≠ 0 → ¬ (op = 1 ∨ op = 2 ∨ op = 9 ∨ op = 10 ∨ op = 11) → ¬ (op = 7 ∨ op = 8) → ¬ (op = 16 ∨ op = 18) → hx_mo op P = nI 0 → wX_argumentsFit_50 post J (nI j) (hx_mo op P) b.toInt8.toInt32 z f_limit f_pending f_wide f_waiting f_height f_entries f_locals f_logLength f_open f_awaited f_frames f_sp f_base f_pc f_method f_steps f_status f_lastResult f_lastPlace a_ops a_args a_quick a_length a_exported a_known a_alive a_fresh a_lasting a_shared a_owner a_size a_element a_roots a_logCell a_logOld a_logged a_slot a_frameMethod a_framePc := fun a1 a2 a3 a4 e => by
    rw [e]
    unfold wX_argumentsFit_50 wX_argumentsFit_61
    exact br_t rfl (br_t (by decide) (nm_r (nI_1 _) (H1 (hs_fit_o a1 a2 a3 a4))))
  rcases hx_25 hop with rfl | rfl | rfl | rfl | rfl | rfl | rfl | rfl | rfl | rfl | rfl | rfl | rfl | rfl | rfl | rfl | rfl | rfl | rfl | rfl | rfl | rfl | rfl | rfl | rfl
  all_goals first
    | exact h0 rfl rfl
    | exact h2 (by decide) rfl
    | exact h7 (by decide) rfl
    | exact h6 (by decide) rfl
    | exact ho (by decide) (by decide) (by decide) (by decide) rfl
theorem hx_argsFit {post : Int32 → Prop} {P : Nat} {opf : Nat → Nat} {bs : Nat → Int32} (hP : P ≤ 16) (hop : ∀ k, k < P → a_ops (96 + k) = nI (opf k) ∧ opf k ≤ 24) (ha : ∀ k, k < P → a_args (96 + k) = (bs (96 + k)).toInt8.toInt32 ∧ (bt f_wide k = true ↔ ¬ (-128 ≤ (bs (96 + k)).toInt ∧ (bs (96 + k)).toInt ≤ 127)))
    (H1 : 0 < P → (∀ k, k < P → hs_fit (opf k) (bs (96 + k)) P) → post 1) (H0 : ¬ (0 < P ∧ ∀ k, k < P → hs_fit (opf k) (bs (96 + k)) P) → post 0) : wpX_argumentsFit post (f_limit, nI P, f_wide, f_waiting, f_height, f_entries, f_locals, f_logLength, f_open, f_awaited, f_frames, f_sp, f_base, f_pc, f_method, f_steps, f_status, f_lastResult, f_lastPlace, a_ops, a_args, a_quick, a_length, a_exported, a_known, a_alive, a_fresh, a_lasting, a_shared, a_owner, a_size, a_element, a_roots, a_logCell, a_logOld, a_logged, a_slot, a_frameMethod, a_framePc) := by
  unfold wpX_argumentsFit
  have key : ∀ (d j : Nat), j + d = P → (∀ k, k < j → hs_fit (opf k) (bs (96 + k)) P) → wX_argumentsFit_2 post f_limit (nI P) f_wide f_waiting f_height f_entries f_locals f_logLength f_open f_awaited f_frames f_sp f_base f_pc f_method f_steps f_status f_lastResult f_lastPlace a_ops a_args a_quick a_length a_exported a_known a_alive a_fresh a_lasting a_shared a_owner a_size a_element a_roots a_logCell a_logOld a_logged a_slot a_frameMethod a_framePc (d + 1) (nI j) := by
    intro d
    induction d with
    | zero =>
      intro j hj h
      rw [wX_argumentsFit_2]
      refine br_t (nI_le (by omega) (by omega)) (pk_le P 0 (fun q => H0 (fun z => by omega)) (fun q => H1 q (fun k hk => h k (by omega))))
    | succ d ih =>
      intro j hj h
      rw [wX_argumentsFit_2]
      have e96 : (96 : Int32) + nI j = nI (96 + j) := nI_add 96 j
      have c96 : (nI (96 + j)).toNatClampNeg = 96 + j := nI_clamp (by omega)
      have v96 : vp_in (nI (96 + j)) 112 := vp_in_nI (by omega) (by omega)
      obtain ⟨eo, ho⟩ := hop j (by omega)
      obtain ⟨ea, hw⟩ := ha j (by omega)
      refine br_f (nI_ge (by omega) (by omega)) ?_
      rw [e96, c96, eo, ea]
      refine ⟨v96, hx_most ho ⟨v96, nm_e ?_⟩⟩
      have go : ∀ z, ((z = 0 ∧ (-128 ≤ (bs (96 + j)).toInt ∧ (bs (96 + j)).toInt ≤ 127)) ∨ (z = 1 ∧ ¬ (-128 ≤ (bs (96 + j)).toInt ∧ (bs (96 + j)).toInt ≤ 127))) → wX_argumentsFit_50 post (wX_argumentsFit_2 post f_limit (nI P) f_wide f_waiting f_height f_entries f_locals f_logLength f_open f_awaited f_frames f_sp f_base f_pc f_method f_steps f_status f_lastResult f_lastPlace a_ops a_args a_quick a_length a_exported a_known a_alive a_fresh a_lasting a_shared a_owner a_size a_element a_roots a_logCell a_logOld a_logged a_slot a_frameMethod a_framePc (d + 1)) (nI j) (hx_mo (opf j) P) (bs (96 + j)).toInt8.toInt32 z f_limit (nI P) f_wide f_waiting f_height f_entries f_locals f_logLength f_open f_awaited f_frames f_sp f_base f_pc f_method f_steps f_status f_lastResult f_lastPlace a_ops a_args a_quick a_length a_exported a_known a_alive a_fresh a_lasting a_shared a_owner a_size a_element a_roots a_logCell a_logOld a_logged a_slot a_frameMethod a_framePc := fun z hz =>
        hx_fit1 ho (by omega) hP hz (fun f => ih (j + 1) (by omega) (fun k hk => by
          by_cases q : k = j
          · subst q; exact f
          · exact h k (by omega))) (fun f => H0 (fun q => f (q.2 j (by omega))))
      refine br_c (fun q => go 0 (Or.inl ⟨rfl, ?_⟩)) (fun q => go 1 (Or.inr ⟨rfl, ?_⟩))
      · rw [hx_bit f_wide (by omega)] at q
        exact Classical.byContradiction (fun z => by rw [hw.mpr z] at q; cases q)
      · rw [hx_bit f_wide (by omega)] at q
        exact hw.mp (by cases e : bt f_wide j with
          | true => rfl
          | false => exact absurd e q)
  exact ⟨P + 1, key P 0 (by omega) (fun k hk => by cases hk)⟩
end
end
section
/-! ===== copying, quicken, install ===== -/
def hc_cp (m n : Nat) (f : Nat → Int32) : Nat → Int32 := fun i => if 16 * m ≤ i ∧ i < 16 * m + n then f (96 + (i - 16 * m)) else f i
theorem hc_cp0 (m : Nat) (f : Nat → Int32) : hc_cp m 0 f = f := by funext i; exact if_neg (by omega)
theorem hc_cpS {m j : Nat} {f : Nat → Int32} {x : Int32} (hm : m < 6) (hj : j < 16) (hx : x = f (96 + j)) : upd (hc_cp m j f) (16 * m + j) x = hc_cp m (j + 1) f := by
  funext i
  by_cases z : i = 16 * m + j
  · subst z; rw [pk_us]; unfold hc_cp; rw [if_pos (by omega), hx]; exact congrArg f (by omega)
  · rw [pk_un z]; unfold hc_cp
    by_cases q : 16 * m ≤ i ∧ i < 16 * m + j
    · rw [if_pos q, if_pos (by omega)]
    · rw [if_neg q, if_neg (by omega)]
theorem hc_cpH {m j i : Nat} {f : Nat → Int32} (hm : m < 6) (hj : j ≤ 16) (hi : 96 ≤ i) : hc_cp m j f i = f i := if_neg (by omega)
theorem hc_cpI {m n k : Nat} {f : Nat → Int32} (hk : k < n) : hc_cp m n f (16 * m + k) = f (96 + k) := by
  unfold hc_cp; rw [if_pos (by omega)]; exact congrArg f (by omega)
theorem hc_cpO {m m' n k : Nat} {f : Nat → Int32} (hn : n ≤ 16) (hne : m' ≠ m) (hk : k < 16) : hc_cp m n f (16 * m' + k) = f (16 * m' + k) := if_neg (by omega)
section
variable {f_limit f_pending f_wide f_waiting f_height f_entries f_locals f_logLength f_open f_awaited f_frames f_sp f_base f_pc f_method f_steps f_status f_lastResult f_lastPlace : Int32} {a_ops a_args a_quick a_length a_exported a_known a_alive a_fresh a_lasting a_shared a_owner a_size a_element a_roots a_logCell a_logOld a_logged a_slot a_frameMethod a_framePc : Nat → Int32}
/-- the first loop of quicken: any targets -/
theorem hx_quick7 {post : SX → Prop} {m n : Nat} (hm : m < 6) (hn : n ≤ 16) (el : a_length m = nI n) (K : ∀ x2, ∃ n66, wX_quicken_66 post (nI m) x2 f_limit f_pending f_wide f_waiting f_height f_entries f_locals f_logLength f_open f_awaited f_frames f_sp f_base f_pc f_method f_steps f_status f_lastResult f_lastPlace n66 (nI (16 * m)) a_ops a_args a_quick a_length a_exported a_known a_alive a_fresh a_lasting a_shared a_owner a_size a_element a_roots a_logCell a_logOld a_logged a_slot a_frameMethod a_framePc) :
    ∀ (d j : Nat) (x2 : Int32), j + d = n → wX_quicken_7 post (nI m) f_limit f_pending f_wide f_waiting f_height f_entries f_locals f_logLength f_open f_awaited f_frames f_sp f_base f_pc f_method f_steps f_status f_lastResult f_lastPlace a_ops a_args a_quick a_length a_exported a_known a_alive a_fresh a_lasting a_shared a_owner a_size a_element a_roots a_logCell a_logOld a_logged a_slot a_frameMethod a_framePc (d + 1) x2 (nI (16 * m + j)) := by
  have cm : (nI m).toNatClampNeg = m := nI_clamp (by omega)
  have vm : vp_in (nI m) 6 := vp_in_nI hm (by decide)
  have e16 : 16 * nI m = nI (16 * m) := pk_mul 16 m
  intro d
  induction d with
  | zero =>
    intro j x2 hj
    rw [wX_quicken_7]
    dsimp only
    rw [cm, el, e16, nI_add]
    exact ⟨vm, br_t (nI_le (by omega) (by omega)) (nm_e (K x2))⟩
  | succ d ih =>
    intro j x2 hj
    have cj : (nI (16 * m + j)).toNatClampNeg = 16 * m + j := nI_clamp (by omega)
    have vj : vp_in (nI (16 * m + j)) 112 := vp_in_nI (by omega) (by decide)
    rw [wX_quicken_7]
    dsimp only
    rw [cm, el, e16, nI_add, cj]
    have k44 : wX_quicken_44 post (wX_quicken_7 post (nI m) f_limit f_pending f_wide f_waiting f_height f_entries f_locals f_logLength f_open f_awaited f_frames f_sp f_base f_pc f_method f_steps f_status f_lastResult f_lastPlace a_ops a_args a_quick a_length a_exported a_known a_alive a_fresh a_lasting a_shared a_owner a_size a_element a_roots a_logCell a_logOld a_logged a_slot a_frameMethod a_framePc (d + 1)) (nI m) x2 (nI (16 * m + j)) f_limit f_pending f_wide f_waiting f_height f_entries f_locals f_logLength f_open f_awaited f_frames f_sp f_base f_pc f_method f_steps f_status f_lastResult f_lastPlace a_ops a_args a_quick a_length a_exported a_known a_alive a_fresh a_lasting a_shared a_owner a_size a_element a_roots a_logCell a_logOld a_logged a_slot a_frameMethod a_framePc := by
      unfold wX_quicken_44
      exact ⟨vj, nm_e (nm_r (nI_1 _) (ih (j + 1) _ (by omega)))⟩
    exact ⟨vm, br_f (nI_ge (by omega) (by omega)) ⟨vj, br_c (fun _ => k44) (fun _ => ⟨vj, br_c (fun _ => k44) (fun _ => nm_r (nI_1 _) (ih (j + 1) _ (by omega)))⟩)⟩⟩
theorem hx_quick66 {post : SX → Prop} {m n : Nat} {opf : Nat → Nat} {x2 : Int32} {quick0 : Nat → Int32} (hm : m < 6) (hn : n ≤ 16) (el : a_length m = nI n) (hop : ∀ k, k < n → a_ops (16 * m + k) = nI (opf k) ∧ opf k ≤ 24)
    (H : ∀ quick, (∀ k, k < n → hc_qk opf n k (quick (16 * m + k))) → (∀ i, ¬ (16 * m ≤ i ∧ i < 16 * m + n) → quick i = quick0 i) → post (f_limit, f_pending, f_wide, f_waiting, f_height, f_entries, f_locals, f_logLength, f_open, f_awaited, f_frames, f_sp, f_base, f_pc, f_method, f_steps, f_status, f_lastResult, f_lastPlace, a_ops, a_args, quick, a_length, a_exported, a_known, a_alive, a_fresh, a_lasting, a_shared, a_owner, a_size, a_element, a_roots, a_logCell, a_logOld, a_logged, a_slot, a_frameMethod, a_framePc)) :
    ∀ (d j : Nat) (quick : Nat → Int32), j + d = n → (∀ k, k < j → hc_qk opf n k (quick (16 * m + k))) → (∀ i, ¬ (16 * m ≤ i ∧ i < 16 * m + j) → quick i = quick0 i) → wX_quicken_66 post (nI m) x2 f_limit f_pending f_wide f_waiting f_height f_entries f_locals f_logLength f_open f_awaited f_frames f_sp f_base f_pc f_method f_steps f_status f_lastResult f_lastPlace (d + 1) (nI (16 * m + j)) a_ops a_args quick a_length a_exported a_known a_alive a_fresh a_lasting a_shared a_owner a_size a_element a_roots a_logCell a_logOld a_logged a_slot a_frameMethod a_framePc := by
  have cm : (nI m).toNatClampNeg = m := nI_clamp (by omega)
  have vm : vp_in (nI m) 6 := vp_in_nI hm (by decide)
  have e16 : 16 * nI m = nI (16 * m) := pk_mul 16 m
  intro d
  induction d with
  | zero =>
    intro j quick hj h1 h2
    rw [wX_quicken_66]
    dsimp only
    rw [cm, el, e16, nI_add]
    exact ⟨vm, br_t (nI_le (by omega) (by omega)) (H quick (fun k hk => h1 k (by omega)) (fun i hi => h2 i (by omega)))⟩
  | succ d ih =>
    intro j quick hj h1 h2
    have cj : (nI (16 * m + j)).toNatClampNeg = 16 * m + j := nI_clamp (by omega)
    have cj1 : (nI (16 * m + j + 1)).toNatClampNeg = 16 * m + j + 1 := nI_clamp (by omega)
    have vj : vp_in (nI (16 * m + j)) 112 := vp_in_nI (by omega) (by decide)
    have vj1 : vp_in (nI (16 * m + j + 1)) 112 := vp_in_nI (by omega) (by decide)
    have vq : vp_in (nI (16 * m + j)) 96 := vp_in_nI (by omega) (by decide)
    obtain ⟨eo, ho⟩ := hop j (by omega)
    have e4 : nI (16 * m + j + 1) - nI (16 * m) = nI (j + 1) := by rw [pk_sub (by omega)]; exact congrArg nI (by omega)
    have step : ∀ (q : Int32) (quick' : Nat → Int32), hc_qk opf n j q → quick' (16 * m + j) = q → (∀ i, i ≠ 16 * m + j → quick' i = quick i) → wX_quicken_66 post (nI m) x2 f_limit f_pending f_wide f_waiting f_height f_entries f_locals f_logLength f_open f_awaited f_frames f_sp f_base f_pc f_method f_steps f_status f_lastResult f_lastPlace (d + 1) (nI (16 * m + j) + 1) a_ops a_args quick' a_length a_exported a_known a_alive a_fresh a_lasting a_shared a_owner a_size a_element a_roots a_logCell a_logOld a_logged a_slot a_frameMethod a_framePc := fun q quick' hq e0 e1 => by
      rw [nI_1]
      refine ih (j + 1) quick' (by omega) (fun k hk => ?_) (fun i hi => ?_)
      · by_cases z : k = j
        · subst z; rw [e0]; exact hq
        · rw [e1 _ (by omega)]; exact h1 k (by omega)
      · rw [e1 _ (by omega)]; exact h2 i (by omega)
    have plain : wX_quicken_66 post (nI m) x2 f_limit f_pending f_wide f_waiting f_height f_entries f_locals f_logLength f_open f_awaited f_frames f_sp f_base f_pc f_method f_steps f_status f_lastResult f_lastPlace (d + 1) (nI (16 * m + j) + 1) a_ops a_args (upd quick (16 * m + j) (vp_nar .byte (nI (opf j)))) a_length a_exported a_known a_alive a_fresh a_lasting a_shared a_owner a_size a_element a_roots a_logCell a_logOld a_logged a_slot a_frameMethod a_framePc :=
      step (nI (opf j)) _ (Or.inl rfl) (by rw [pk_us, ca_vb (by omega)]) (fun i hi => pk_un hi)
    have two : ∀ q : Int32, hc_qk opf n j q → wX_quicken_66 post (nI m) x2 f_limit f_pending f_wide f_waiting f_height f_entries f_locals f_logLength f_open f_awaited f_frames f_sp f_base f_pc f_method f_steps f_status f_lastResult f_lastPlace (d + 1) (nI (16 * m + j) + 1) a_ops a_args (upd (upd quick (16 * m + j) (vp_nar .byte (nI (opf j)))) (16 * m + j) q) a_length a_exported a_known a_alive a_fresh a_lasting a_shared a_owner a_size a_element a_roots a_logCell a_logOld a_logged a_slot a_frameMethod a_framePc := fun q hq =>
      step q _ hq pk_us (fun i hi => by rw [pk_un hi, pk_un hi])
    have q25 : vp_nar .byte 25 = 25 := ca_vb (n := 25) (by decide)
    have q26 : vp_nar .byte 26 = 26 := ca_vb (n := 26) (by decide)
    have q27 : vp_nar .byte 27 = 27 := ca_vb (n := 27) (by decide)
    have oi : ∀ (a b : Nat), a ≤ 24 → b ≤ 24 → nI a = nI b → a = b := fun a b ha hb e => (nI_eq (by omega) (by omega)).mp e
    rw [wX_quicken_66]
    dsimp only
    rw [cm, el, e16, nI_add, cj, eo, nI_1, e4, cj1, q25]
    refine ⟨vm, br_f (nI_ge (by omega) (by omega)) ⟨vj, vq, nm_e (nm_e ⟨vm, ?_⟩)⟩⟩
    refine pk_le n (j + 1) (fun z => nm_r (nI_1 _).symm plain) (fun z => br_c (fun _ => ⟨vj, ?_⟩) (fun _ => nm_r (nI_1 _).symm plain))
    obtain ⟨eo1, ho1⟩ := hop (j + 1) z
    have eo1' : a_ops (16 * m + j + 1) = nI (opf (j + 1)) := eo1
    have k193 : wX_quicken_193 post (wX_quicken_66 post (nI m) x2 f_limit f_pending f_wide f_waiting f_height f_entries f_locals f_logLength f_open f_awaited f_frames f_sp f_base f_pc f_method f_steps f_status f_lastResult f_lastPlace (d + 1)) (nI m) x2 (nI (16 * m + j)) f_limit f_pending f_wide f_waiting f_height f_entries f_locals f_logLength f_open f_awaited f_frames f_sp f_base f_pc f_method f_steps f_status f_lastResult f_lastPlace a_ops a_args (upd quick (16 * m + j) (vp_nar .byte (nI (opf j)))) a_length a_exported a_known a_alive a_fresh a_lasting a_shared a_owner a_size a_element a_roots a_logCell a_logOld a_logged a_slot a_frameMethod a_framePc := by
      unfold wX_quicken_193
      rw [nI_1, cj, cj1, eo, eo1', q27]
      exact ⟨vj, br_c (fun y => ⟨vj1, br_c (fun y' => ⟨vq, nm_e (nm_r (nI_1 _).symm (two 27 (Or.inr ⟨z, Or.inr (Or.inr ⟨oi _ 1 ho (by decide) y, oi _ 3 ho1 (by decide) y', rfl⟩)⟩)))⟩) (fun _ => nm_r (nI_1 _).symm plain)⟩) (fun _ => nm_r (nI_1 _).symm plain)⟩
    have k158 : wX_quicken_158 post (wX_quicken_66 post (nI m) x2 f_limit f_pending f_wide f_waiting f_height f_entries f_locals f_logLength f_open f_awaited f_frames f_sp f_base f_pc f_method f_steps f_status f_lastResult f_lastPlace (d + 1)) (nI m) x2 (nI (16 * m + j)) f_limit f_pending f_wide f_waiting f_height f_entries f_locals f_logLength f_open f_awaited f_frames f_sp f_base f_pc f_method f_steps f_status f_lastResult f_lastPlace a_ops a_args (upd quick (16 * m + j) (vp_nar .byte (nI (opf j)))) a_length a_exported a_known a_alive a_fresh a_lasting a_shared a_owner a_size a_element a_roots a_logCell a_logOld a_logged a_slot a_frameMethod a_framePc := by
      unfold wX_quicken_158
      rw [nI_1, cj, cj1, eo, eo1', q26]
      exact ⟨vj, br_c (fun y => ⟨vj1, br_c (fun y' => ⟨vq, nm_e (nm_r (nI_1 _).symm (two 26 (Or.inr ⟨z, Or.inr (Or.inl ⟨oi _ 6 ho (by decide) y, oi _ 8 ho1 (by decide) y', rfl⟩)⟩)))⟩) (fun _ => k193)⟩) (fun _ => k193)⟩
    rw [eo1']
    exact br_c (fun y => ⟨vj1, br_c (fun y' => ⟨vq, nm_e (nm_r (nI_1 _).symm (two 25 (Or.inr ⟨z, Or.inl ⟨oi _ 0 ho (by decide) y, oi _ 3 ho1 (by decide) y', rfl⟩⟩)))⟩) (fun _ => k158)⟩) (fun _ => k158)
theorem hx_quicken {post : SX → Prop} {m n : Nat} {opf : Nat → Nat} (hm : m < 6) (hn : n ≤ 16) (el : a_length m = nI n) (hop : ∀ k, k < n → a_ops (16 * m + k) = nI (opf k) ∧ opf k ≤ 24)
    (H : ∀ quick, (∀ k, k < n → hc_qk opf n k (quick (16 * m + k))) → (∀ i, ¬ (16 * m ≤ i ∧ i < 16 * m + n) → quick i = a_quick i) → post (f_limit, f_pending, f_wide, f_waiting, f_height, f_entries, f_locals, f_logLength, f_open, f_awaited, f_frames, f_sp, f_base, f_pc, f_method, f_steps, f_status, f_lastResult, f_lastPlace, a_ops, a_args, quick, a_length, a_exported, a_known, a_alive, a_fresh, a_lasting, a_shared, a_owner, a_size, a_element, a_roots, a_logCell, a_logOld, a_logged, a_slot, a_frameMethod, a_framePc)) : wpX_quicken post (f_limit, f_pending, f_wide, f_waiting, f_height, f_entries, f_locals, f_logLength, f_open, f_awaited, f_frames, f_sp, f_base, f_pc, f_method, f_steps, f_status, f_lastResult, f_lastPlace, a_ops, a_args, a_quick, a_length, a_exported, a_known, a_alive, a_fresh, a_lasting, a_shared, a_owner, a_size, a_element, a_roots, a_logCell, a_logOld, a_logged, a_slot, a_frameMethod, a_framePc) (nI m) := by
  unfold wpX_quicken
  refine nm_r (pk_mul 16 m) ⟨n + 1, hx_quick7 hm hn el (fun x2 => ⟨n + 1, ?_⟩) n 0 0 (by omega)⟩
  exact hx_quick66 hm hn el hop H n 0 a_quick (by omega) (fun k hk => by cases hk) (fun i _ => rfl)
/-- X takes the code in -/
theorem hx_inst72 {post : Int32 → SX → Prop} {m n : Nat} {opf : Nat → Nat} {x3 x4 : Int32} (hm : m < 6) (hn : n ≤ 16) (hx3 : x3 = 0 ∨ x3 = 1) (hx4 : ¬ x4 = 0) (hop : ∀ k, k < n → a_ops (96 + k) = nI (opf k) ∧ opf k ≤ 24) (ha : ∀ k, k < n → vp_nar .byte (a_args (96 + k)) = a_args (96 + k))
    (H : ∀ quick, (∀ k, k < n → hc_qk opf n k (quick (16 * m + k))) → (∀ i, ¬ (16 * m ≤ i ∧ i < 16 * m + n) → quick i = a_quick i) → post (nI n) (f_limit, 0, 0, f_waiting, f_height, f_entries, f_locals, f_logLength, f_open, f_awaited, f_frames, f_sp, f_base, f_pc, f_method, f_steps, f_status, f_lastResult, f_lastPlace, hc_cp m n a_ops, hc_cp m n a_args, quick, upd a_length m (nI n), upd a_exported m x3, a_known, a_alive, a_fresh, a_lasting, a_shared, a_owner, a_size, a_element, a_roots, a_logCell, a_logOld, a_logged, a_slot, a_frameMethod, a_framePc)) :
    ∀ (d j : Nat), j + d = n → wX_install_72 post x3 x4 1 (nI n) (nI m) f_limit f_pending f_wide f_waiting f_height f_entries f_locals f_logLength f_open f_awaited f_frames f_sp f_base f_pc f_method f_steps f_status f_lastResult f_lastPlace (d + 1) (nI j) (hc_cp m j a_ops) (hc_cp m j a_args) a_quick a_length a_exported a_known a_alive a_fresh a_lasting a_shared a_owner a_size a_element a_roots a_logCell a_logOld a_logged a_slot a_frameMethod a_framePc := by
  have cm : (nI m).toNatClampNeg = m := nI_clamp (by omega)
  have vm : vp_in (nI m) 6 := vp_in_nI hm (by decide)
  have e16 : 16 * nI m = nI (16 * m) := pk_mul 16 m
  intro d
  induction d with
  | zero =>
    intro j hj
    have ej : j = n := by omega
    subst ej
    rw [wX_install_72]
    dsimp only
    rw [cm, ca_vb' (by omega), ca_nb hx3]
    refine br_t (nI_le (by omega) (by omega)) ⟨vm, nm_e ⟨vm, nm_e ?_⟩⟩
    refine hx_quicken (opf := opf) hm hn pk_us (fun k hk => by rw [hc_cpI hk]; exact hop k hk) (fun quick h1 h2 => ?_)
    unfold wX_install_155
    exact br_f hx4 (br_f (by decide) (H quick h1 h2))
  | succ d ih =>
    intro j hj
    have e96 : (96 : Int32) + nI j = nI (96 + j) := nI_add 96 j
    have c96 : (nI (96 + j)).toNatClampNeg = 96 + j := nI_clamp (by omega)
    have v96 : vp_in (nI (96 + j)) 112 := vp_in_nI (by omega) (by omega)
    have ci : (nI (16 * m + j)).toNatClampNeg = 16 * m + j := nI_clamp (by omega)
    have vi : vp_in (nI (16 * m + j)) 112 := vp_in_nI (by omega) (by omega)
    obtain ⟨eo, ho⟩ := hop j (by omega)
    rw [wX_install_72]
    dsimp only
    rw [e96, c96, e16, nI_add, ci]
    refine br_f (nI_ge (by omega) (by omega)) ⟨v96, vi, nm_r (hc_cpS hm (by omega) ?_) ⟨v96, vi, nm_r (hc_cpS hm (by omega) ?_) (nm_r (nI_1 _) (ih (j + 1) (by omega)))⟩⟩
    · rw [hc_cpH hm (by omega) (by omega), eo, ca_vb (by omega)]
    · rw [hc_cpH hm (by omega) (by omega), ha j (by omega)]
end
section
variable {g_limit g_waiting g_stack g_locals g_running g_steps g_awaited g_answer g_where g_outcome : Int32} {g_made : Int64} {g_good g_open : Int32} {b_ops b_bs b_sizes b_exported : Nat → Int32} {b_stamp : Nat → Int64} {b_owner b_lengths b_elements b_lasting b_shared b_roots : Nat → Int32} {b_oldStamp : Nat → Int64} {b_oldElements b_oldShared b_oldRoots b_rows b_nexts b_depths b_places b_kinds b_met b_todo b_heights : Nat → Int32}
theorem hy_inst64 {post : Int32 → SY → Prop} {m n : Nat} {opf : Nat → Nat} {x3 : Int32} (hm : m < 6) (hn : n ≤ 16) (hx3 : x3 = 0 ∨ x3 = 1) (hop : ∀ k, k < n → b_ops (96 + k) = nI (opf k) ∧ opf k ≤ 24)
    (H : post (nI n) (g_limit, g_waiting, g_stack, g_locals, g_running, g_steps, g_awaited, g_answer, g_where, g_outcome, g_made, g_good, g_open, hc_cp m n b_ops, hc_cp m n b_bs, upd b_sizes m (nI n), upd b_exported m x3, b_stamp, b_owner, b_lengths, b_elements, b_lasting, b_shared, b_roots, b_oldStamp, b_oldElements, b_oldShared, b_oldRoots, b_rows, b_nexts, b_depths, b_places, b_kinds, b_met, b_todo, b_heights)) :
    ∀ (d j : Nat), j + d = n → wY_install_64 post x3 (nI n) (nI m) g_limit g_waiting g_stack g_locals g_running g_steps g_awaited g_answer g_where g_outcome g_made g_good g_open (d + 1) (nI j) (hc_cp m j b_ops) (hc_cp m j b_bs) b_sizes b_exported b_stamp b_owner b_lengths b_elements b_lasting b_shared b_roots b_oldStamp b_oldElements b_oldShared b_oldRoots b_rows b_nexts b_depths b_places b_kinds b_met b_todo b_heights := by
  have cm : (nI m).toNatClampNeg = m := nI_clamp (by omega)
  have e16 : 16 * nI m = nI (16 * m) := pk_mul 16 m
  intro d
  induction d with
  | zero =>
    intro j hj
    have ej : j = n := by omega
    subst ej
    rw [wY_install_64]
    dsimp only
    rw [cm, ca_nb hx3]
    exact br_t (nI_le (by omega) (by omega)) ⟨vp_in_nI (by omega) (by decide), nm_e ⟨vp_in_nI hm (by decide), nm_e H⟩⟩
  | succ d ih =>
    intro j hj
    have e96 : (96 : Int32) + nI j = nI (96 + j) := nI_add 96 j
    have c96 : (nI (96 + j)).toNatClampNeg = 96 + j := nI_clamp (by omega)
    have v96 : vp_in (nI (96 + j)) 112 := vp_in_nI (by omega) (by omega)
    have ci : (nI (16 * m + j)).toNatClampNeg = 16 * m + j := nI_clamp (by omega)
    have vi : vp_in (nI (16 * m + j)) 112 := vp_in_nI (by omega) (by omega)
    obtain ⟨eo, ho⟩ := hop j (by omega)
    rw [wY_install_64]
    dsimp only
    rw [e96, c96, e16, nI_add, ci]
    refine br_f (nI_ge (by omega) (by omega)) ⟨v96, vi, nm_r (hc_cpS hm (by omega) ?_) ⟨v96, vi, nm_r (hc_cpS hm (by omega) ?_) (nm_r (nI_1 _) (ih (j + 1) (by omega)))⟩⟩
    · rw [hc_cpH hm (by omega) (by omega), eo, ca_vb (by omega)]
    · rw [hc_cpH hm (by omega) (by omega)]
end
end
section
/-! ===== install ===== -/
theorem hc_fitB {op n : Nat} {b : Int32} (hn : n ≤ 16) (hu : hc_us op) (f : hs_fit op b n) : b.toInt8.toInt32 = b := by
  have key : ∀ j, j < 16 → b = nI j → b.toInt8.toInt32 = b := fun j hj e => by rw [e]; exact ca_by j (by omega)
  by_cases z : op = 0
  · have := f.1 z
    exact lg_i2b_small this.1 (by omega)
  · by_cases z7 : op = 7 ∨ op = 8
    · obtain ⟨j, hj, e⟩ := f.2.2.1 z7
      exact key j (by omega) e
    · by_cases z6 : op = 16 ∨ op = 18
      · obtain ⟨j, hj, e⟩ := f.2.2.2 z6
        exact key j (by omega) e
      · unfold hc_us at hu
        obtain ⟨j, hj, e⟩ := f.2.1 (by omega)
        exact key j (by omega) e
theorem hc_new {ops args quick quick' length exported bs sizes : Nat → Int32} {m n : Nat} {x3 : Int32} {opf bf : Nat → Nat} (h : hc_CD ops args quick length exported ops bs sizes exported) (hm : m < 6) (hn : n ≤ 16) (hop : ∀ k, k < n → ops (96 + k) = nI (opf k) ∧ opf k ≤ 24) (hbf : ∀ k, k < n → bf k = (bs (96 + k)).toNatClampNeg) (hf : ∀ k, k < n → hs_fit (opf k) (bs (96 + k)) n) (ha : ∀ k, k < n → args (96 + k) = (bs (96 + k)).toInt8.toInt32) (hg : hs_G opf bf n)
    (hq : ∀ k, k < n → hc_qk opf n k (quick' (16 * m + k))) (hq' : ∀ i, ¬ (16 * m ≤ i ∧ i < 16 * m + n) → quick' i = quick i) :
    hc_CD (hc_cp m n ops) (hc_cp m n args) quick' (upd length m (nI n)) (upd exported m x3) (hc_cp m n ops) (hc_cp m n bs) (upd (upd sizes 6 0) m (nI n)) (upd exported m x3) := by
  refine ⟨rfl, rfl, fun m' hm' => ?_⟩
  by_cases z : m' = m
  · subst z
    refine ⟨n, hn, pk_us, pk_us, fun _ => ⟨opf, bf, fun k hk => ?_, hg⟩⟩
    rw [hc_cpI hk, hc_cpI hk, hc_cpI hk]
    exact ⟨(hop k hk).1, (hop k hk).2, hbf k hk, hf k hk, fun hu => by rw [ha k hk, hc_fitB hn hu (hf k hk)], hq k hk⟩
  · obtain ⟨l, hl, el, es, hc⟩ := h.2.2 m' hm'
    refine ⟨l, hl, by rw [pk_un z]; exact el, by rw [pk_un z, pk_un (by omega)]; exact es, fun l0 => ?_⟩
    obtain ⟨of', bf', hk', hg'⟩ := hc l0
    refine ⟨of', bf', fun k hk => ?_, hg'⟩
    rw [hc_cpO hn z (by omega), hc_cpO hn z (by omega), hc_cpO hn z (by omega), hq' _ (by omega)]
    exact hk' k hk
theorem hc_P0 {ops args bs sizes : Nat → Int32} (h : sizes 6 = 0) : hc_PD 0 0 ops args bs sizes := ⟨0, by decide, rfl, h, fun k hk => (by cases hk), fun k _ => b_0 k⟩
theorem i_vc_install {k : Nat} {u : SX} {v : SY} (I : i_Rel k u v) (hk : k + 4 ≤ 2049) (v1 : Int32) (v2 : Int32) (v3 : Int32) : wpX_install (fun r u' => wpY_install (fun r' v' => r' = r ∧ i_Rel (k + 4) u' v') v v1 v2 (lw_bz v3)) u v1 v2 (lw_bz v3) := by
  refine zz_el (P := fun u v => wpX_install (fun r u' => wpY_install (fun r' v' => r' = r ∧ i_Rel (k + 4) u' v') v v1 v2 (lw_bz v3)) u v1 v2 (lw_bz v3)) ?_ I
  intro f_limit f_pending f_wide f_waiting f_height f_entries f_locals f_logLength f_open f_awaited f_frames f_sp f_base f_pc f_method f_steps f_status f_lastResult f_lastPlace a_ops a_args a_quick a_length a_exported a_known a_alive a_fresh a_lasting a_shared a_owner a_size a_element a_roots a_logCell a_logOld a_logged a_slot a_frameMethod a_framePc g_limit g_waiting g_stack g_locals g_running g_steps g_awaited g_answer g_where g_outcome g_made g_good g_open b_ops b_bs b_sizes b_exported b_stamp b_owner b_lengths b_elements b_lasting b_shared b_roots b_oldStamp b_oldElements b_oldShared b_oldRoots b_rows b_nexts b_depths b_places b_kinds b_met b_todo b_heights F
  obtain ⟨h1, h2, h3, h4, h5, h6, h7, ⟨P, hP, eP, eS, hp, hz⟩, h9, hst⟩ := F
  have h10 := hr_ST4 hst
  subst eP
  obtain ⟨eo, ee, _⟩ := id h7
  subst eo
  subst ee
  have hb01 := lw_bz_01 v3
  generalize lw_bz v3 = x3 at hb01 ⊢
  have hop : ∀ j, j < P → b_ops (96 + j) = nI (b_ops (96 + j)).toNatClampNeg ∧ (b_ops (96 + j)).toNatClampNeg ≤ 24 := fun j hj => by
    obtain ⟨⟨op, ho, e⟩, _⟩ := hp j hj
    rw [e, nI_clamp (by omega)]
    exact ⟨rfl, ho⟩
  -- the relation, where nothing is taken in
  have hR0 : ∀ (wa he en lo : Int32) (kno : Nat → Int32) (wa' st' lo' go' : Int32) (me' to' ht' : Nat → Int32), i_Rel (k + 4) (f_limit, 0, 0, wa, he, en, lo, f_logLength, f_open, f_awaited, f_frames, f_sp, f_base, f_pc, f_method, f_steps, f_status, f_lastResult, f_lastPlace, b_ops, a_args, a_quick, a_length, b_exported, kno, a_alive, a_fresh, a_lasting, a_shared, a_owner, a_size, a_element, a_roots, a_logCell, a_logOld, a_logged, a_slot, a_frameMethod, a_framePc) (g_limit, wa', st', lo', g_running, g_steps, g_awaited, g_answer, g_where, g_outcome, g_made, go', g_open, b_ops, b_bs, upd b_sizes 6 0, b_exported, b_stamp, b_owner, b_lengths, b_elements, b_lasting, b_shared, b_roots, b_oldStamp, b_oldElements, b_oldShared, b_oldRoots, b_rows, b_nexts, b_depths, b_places, b_kinds, me', to', ht') := fun _ _ _ _ _ _ _ _ _ _ _ _ =>
    zz_mk ⟨h1, h2, h3, h4, h5, h6, hc_CDc h7 (fun _ _ => rfl) (fun _ _ => rfl) (fun _ _ => rfl) (fun m hm => pk_un (by omega)), hc_P0 pk_us, h9, h10⟩
  have hX22 : ∀ post : Int32 → SX → Prop, post (-1) (f_limit, 0, 0, f_waiting, f_height, f_entries, f_locals, f_logLength, f_open, f_awaited, f_frames, f_sp, f_base, f_pc, f_method, f_steps, f_status, f_lastResult, f_lastPlace, b_ops, a_args, a_quick, a_length, b_exported, a_known, a_alive, a_fresh, a_lasting, a_shared, a_owner, a_size, a_element, a_roots, a_logCell, a_logOld, a_logged, a_slot, a_frameMethod, a_framePc) → wX_install_22 post v1 v2 x3 f_limit (nI P) f_wide f_waiting f_height f_entries f_locals f_logLength f_open f_awaited f_frames f_sp f_base f_pc f_method f_steps f_status f_lastResult f_lastPlace b_ops a_args a_quick a_length b_exported a_known a_alive a_fresh a_lasting a_shared a_owner a_size a_element a_roots a_logCell a_logOld a_logged a_slot a_frameMethod a_framePc := fun post h => by
    unfold wX_install_22 wX_install_23 wX_install_48 wX_install_49 wX_install_155
    exact br_t rfl (nm_e (br_t rfl (br_t rfl h)))
  unfold wpX_install
  by_cases z1 : v1 < 0
  · refine br_t z1 (hX22 _ ?_)
    unfold wpY_install
    exact nm_e (nm_e (br_t z1 ⟨rfl, hR0 _ _ _ _ _ _ _ _ _ _ _ _⟩))
  by_cases z2 : (2 : Int32) < v1
  · refine br_f z1 (br_t z2 (hX22 _ ?_))
    unfold wpY_install
    exact nm_e (nm_e (br_f z1 (br_t z2 ⟨rfl, hR0 _ _ _ _ _ _ _ _ _ _ _ _⟩)))
  have hth : (v2 = 0 ∨ v2 = 1) ↔ (¬ v2 < 0 ∧ v2 ≤ 1) := by
    rw [Int32.lt_iff_toInt_lt, Int32.le_iff_toInt_le, show (0 : Int32).toInt = 0 by decide, show (1 : Int32).toInt = 1 by decide]
    constructor
    · rintro (rfl | rfl) <;> decide
    · intro h
      have : v2.toInt = 0 ∨ v2.toInt = 1 := by omega
      rcases this with e | e
      · exact Or.inl (Int32.toInt_inj.mp (by rw [e]; decide))
      · exact Or.inr (Int32.toInt_inj.mp (by rw [e]; decide))
  by_cases z3 : v2 = 0 ∨ v2 = 1
  · obtain ⟨z4, z5⟩ := hth.mp z3
    obtain ⟨a, ha, rfl⟩ := nI_of z1
    obtain ⟨b, hb, rfl⟩ := nI_of z4
    have ha2 : a ≤ 2 := Nat.le_of_not_lt (fun q => z2 (nI_lt (a := 2) q ha))
    have hb1 : b ≤ 1 := (nI_leI (b := 1) hb (by decide)).mp z5
    have ei : 2 * nI a + nI b = nI (2 * a + b) := by rw [show 2 * nI a = nI (2 * a) from pk_mul 2 a, nI_add]
    -- Y, where the code is refused
    have hY0 : ¬ ((0 < P ∧ ∀ j, j < P → hs_fit (b_ops (96 + j)).toNatClampNeg (b_bs (96 + j)) P) ∧ hs_CK (fun j => (b_ops (96 + j)).toNatClampNeg) (fun j => (b_bs (96 + j)).toNatClampNeg) P) → ∀ (wa he en lo : Int32) (kno : Nat → Int32), wpY_install (fun r' v' => r' = 10 ∧ i_Rel (k + 4) (f_limit, 0, 0, wa, he, en, lo, f_logLength, f_open, f_awaited, f_frames, f_sp, f_base, f_pc, f_method, f_steps, f_status, f_lastResult, f_lastPlace, b_ops, a_args, a_quick, a_length, b_exported, kno, a_alive, a_fresh, a_lasting, a_shared, a_owner, a_size, a_element, a_roots, a_logCell, a_logOld, a_logged, a_slot, a_frameMethod, a_framePc) v') (g_limit, g_waiting, g_stack, g_locals, g_running, g_steps, g_awaited, g_answer, g_where, g_outcome, g_made, g_good, g_open, b_ops, b_bs, b_sizes, b_exported, b_stamp, b_owner, b_lengths, b_elements, b_lasting, b_shared, b_roots, b_oldStamp, b_oldElements, b_oldShared, b_oldRoots, b_rows, b_nexts, b_depths, b_places, b_kinds, b_met, b_todo, b_heights) (nI a) (nI b) x3 := fun hn wa he en lo kno => by
      unfold wpY_install
      refine nm_r eS (nm_e (br_f z1 (br_f z2 (br_f z4 (br_t z5 (pk_eq P 0 (fun _ => ⟨rfl, hR0 _ _ _ _ _ _ _ _ _ _ _ _⟩) (fun hP0 => ?_)))))))
      refine hy_check (opf := fun j => (b_ops (96 + j)).toNatClampNeg) (bf := fun j => (b_bs (96 + j)).toNatClampNeg) hP (by omega) hop (fun _ _ => rfl) (fun f c => absurd ⟨⟨by omega, f⟩, c⟩ hn) (fun _ wa' st' lo' go' me' to' ht' => br_t rfl ⟨rfl, hR0 _ _ _ _ _ _ _ _ _ _ _ _⟩)
    have hX48 : ∀ (wa he en lo : Int32) (kno : Nat → Int32) (post : Int32 → SX → Prop), post 10 (f_limit, 0, 0, wa, he, en, lo, f_logLength, f_open, f_awaited, f_frames, f_sp, f_base, f_pc, f_method, f_steps, f_status, f_lastResult, f_lastPlace, b_ops, a_args, a_quick, a_length, b_exported, kno, a_alive, a_fresh, a_lasting, a_shared, a_owner, a_size, a_element, a_roots, a_logCell, a_logOld, a_logged, a_slot, a_frameMethod, a_framePc) → wX_install_48 post (nI a) (nI b) x3 1 f_limit (nI P) f_wide wa he en lo f_logLength f_open f_awaited f_frames f_sp f_base f_pc f_method f_steps f_status f_lastResult f_lastPlace b_ops a_args a_quick a_length b_exported kno a_alive a_fresh a_lasting a_shared a_owner a_size a_element a_roots a_logCell a_logOld a_logged a_slot a_frameMethod a_framePc := fun wa he en lo kno post h => by
      unfold wX_install_48 wX_install_49 wX_install_155
      exact nm_e (br_t rfl (br_f (by decide) (br_t rfl h)))
    have main : wX_install_18 (fun r u' => wpY_install (fun r' v' => r' = r ∧ i_Rel (k + 4) u' v') (g_limit, g_waiting, g_stack, g_locals, g_running, g_steps, g_awaited, g_answer, g_where, g_outcome, g_made, g_good, g_open, b_ops, b_bs, b_sizes, b_exported, b_stamp, b_owner, b_lengths, b_elements, b_lasting, b_shared, b_roots, b_oldStamp, b_oldElements, b_oldShared, b_oldRoots, b_rows, b_nexts, b_depths, b_places, b_kinds, b_met, b_todo, b_heights) (nI a) (nI b) x3) (nI a) (nI b) x3 f_limit (nI P) f_wide f_waiting f_height f_entries f_locals f_logLength f_open f_awaited f_frames f_sp f_base f_pc f_method f_steps f_status f_lastResult f_lastPlace b_ops a_args a_quick a_length b_exported a_known a_alive a_fresh a_lasting a_shared a_owner a_size a_element a_roots a_logCell a_logOld a_logged a_slot a_frameMethod a_framePc := by
      unfold wX_install_18 wX_install_23
      refine br_f (by decide) (hx_argsFit (opf := fun j => (b_ops (96 + j)).toNatClampNeg) (bs := b_bs) hP hop (fun j hj => (hp j hj).2) (fun hP0 hfit => ?_) (fun hn => br_t rfl (hX48 _ _ _ _ _ _ (hY0 (fun q => hn q.1) _ _ _ _ _))))
      refine br_f (by decide) (hx_goodW (opf := fun j => (b_ops (96 + j)).toNatClampNeg) (bf := fun j => (b_bs (96 + j)).toNatClampNeg) hP hP0 hop (fun j hj o => ?_) (fun c wa he en lo kno => br_f (by decide) ?_) (fun hn wa he en lo kno => br_t rfl (hX48 _ _ _ _ _ _ (hY0 (fun q => hn q.2) _ _ _ _ _))))
      · have f := hfit j hj
        have hu : hc_us (b_ops (96 + j)).toNatClampNeg := by unfold hc_us; omega
        have eb := hc_fitB hP hu f
        rw [(hp j hj).2.1, eb]
        by_cases o7 : (b_ops (96 + j)).toNatClampNeg = 7 ∨ (b_ops (96 + j)).toNatClampNeg = 8
        · obtain ⟨x, hx, e⟩ := f.2.2.1 o7
          rw [e, nI_clamp (by omega)]
          exact ⟨rfl, by omega, fun q => by omega⟩
        · obtain ⟨x, hx, e⟩ := f.2.1 (by omega)
          rw [e, nI_clamp (by omega)]
          exact ⟨rfl, by omega, fun q => hx⟩
      · unfold wX_install_49
        refine nm_r ei (br_f (by decide) ⟨P + 1, ?_⟩)
        have hinst := hx_inst72 (opf := fun j => (b_ops (96 + j)).toNatClampNeg) (m := 2 * a + b) (n := P) (x3 := x3) (x4 := 1) (post := fun r u' => wpY_install (fun r' v' => r' = r ∧ i_Rel (k + 4) u' v') (g_limit, g_waiting, g_stack, g_locals, g_running, g_steps, g_awaited, g_answer, g_where, g_outcome, g_made, g_good, g_open, b_ops, b_bs, b_sizes, b_exported, b_stamp, b_owner, b_lengths, b_elements, b_lasting, b_shared, b_roots, b_oldStamp, b_oldElements, b_oldShared, b_oldRoots, b_rows, b_nexts, b_depths, b_places, b_kinds, b_met, b_todo, b_heights) (nI a) (nI b) x3) (f_limit := f_limit) (f_pending := nI P) (f_wide := f_wide) (f_waiting := wa) (f_height := he) (f_entries := en) (f_locals := lo) (f_logLength := f_logLength) (f_open := f_open) (f_awaited := f_awaited) (f_frames := f_frames) (f_sp := f_sp) (f_base := f_base) (f_pc := f_pc) (f_method := f_method) (f_steps := f_steps) (f_status := f_status) (f_lastResult := f_lastResult) (f_lastPlace := f_lastPlace) (a_ops := b_ops) (a_args := a_args) (a_quick := a_quick) (a_length := a_length) (a_exported := b_exported) (a_known := kno) (a_alive := a_alive) (a_fresh := a_fresh) (a_lasting := a_lasting) (a_shared := a_shared) (a_owner := a_owner) (a_size := a_size) (a_element := a_element) (a_roots := a_roots) (a_logCell := a_logCell) (a_logOld := a_logOld) (a_logged := a_logged) (a_slot := a_slot) (a_frameMethod := a_frameMethod) (a_framePc := a_framePc) (by omega) hP hb01 (by decide) hop (fun j hj => by rw [(hp j hj).2.1, pk_vb]) (fun quick hq hq' => ?_) P 0 (by omega)
        · rw [hc_cp0, hc_cp0] at hinst
          exact hinst
        · unfold wpY_install
          refine nm_r eS (nm_e (br_f z1 (br_f z2 (br_f z4 (br_t z5 (br_f (nI_ne0 hP0 (by omega)) ?_))))))
          refine hy_check (opf := fun j => (b_ops (96 + j)).toNatClampNeg) (bf := fun j => (b_bs (96 + j)).toNatClampNeg) hP hP0 hop (fun _ _ => rfl) (fun f _ wa' st' lo' me' to' ht' => br_f (by decide) (nm_r ei ⟨P + 1, ?_⟩)) (fun hn => absurd ⟨hfit, c⟩ hn)
          have hinst := hy_inst64 (opf := fun j => (b_ops (96 + j)).toNatClampNeg) (m := 2 * a + b) (n := P) (x3 := x3) (post := fun r' v' => r' = nI P ∧ i_Rel (k + 4) (f_limit, 0, 0, wa, he, en, lo, f_logLength, f_open, f_awaited, f_frames, f_sp, f_base, f_pc, f_method, f_steps, f_status, f_lastResult, f_lastPlace, hc_cp (2 * a + b) P b_ops, hc_cp (2 * a + b) P a_args, quick, upd a_length (2 * a + b) (nI P), upd b_exported (2 * a + b) x3, kno, a_alive, a_fresh, a_lasting, a_shared, a_owner, a_size, a_element, a_roots, a_logCell, a_logOld, a_logged, a_slot, a_frameMethod, a_framePc) v') (g_limit := g_limit) (g_waiting := wa') (g_stack := st') (g_locals := lo') (g_running := g_running) (g_steps := g_steps) (g_awaited := g_awaited) (g_answer := g_answer) (g_where := g_where) (g_outcome := g_outcome) (g_made := g_made) (g_good := 1) (g_open := g_open) (b_ops := b_ops) (b_bs := b_bs) (b_sizes := upd b_sizes 6 0) (b_exported := b_exported) (b_stamp := b_stamp) (b_owner := b_owner) (b_lengths := b_lengths) (b_elements := b_elements) (b_lasting := b_lasting) (b_shared := b_shared) (b_roots := b_roots) (b_oldStamp := b_oldStamp) (b_oldElements := b_oldElements) (b_oldShared := b_oldShared) (b_oldRoots := b_oldRoots) (b_rows := b_rows) (b_nexts := b_nexts) (b_depths := b_depths) (b_places := b_places) (b_kinds := b_kinds) (b_met := me') (b_todo := to') (b_heights := ht') (by omega) hP hb01 hop ?_ P 0 (by omega)
          · rw [hc_cp0, hc_cp0] at hinst
            exact hinst
          · refine ⟨rfl, zz_mk ⟨h1, h2, h3, h4, h5, h6, hc_new h7 (by omega) hP hop (fun _ _ => rfl) hfit (fun j hj => (hp j hj).2.1) c.1 hq hq', hc_P0 ?_, h9, h10⟩⟩
            rw [pk_un (by omega), pk_us]
    refine br_f z1 (br_f z2 ?_)
    rcases z3 with e | e
    · exact br_t e main
    · exact br_f (by rw [e]; decide) (br_t e main)
  · refine br_f z1 (br_f z2 (br_f (fun q => z3 (Or.inl q)) (br_f (fun q => z3 (Or.inr q)) (hX22 _ ?_))))
    unfold wpY_install
    refine nm_e (nm_e (br_f z1 (br_f z2 (br_c (fun _ => ⟨rfl, hR0 _ _ _ _ _ _ _ _ _ _ _ _⟩) (fun q => br_f (fun q' => z3 (hth.mpr ⟨q, q'⟩)) ⟨rfl, hR0 _ _ _ _ _ _ _ _ _ _ _ _⟩)))))
end
section
/-! ===== running: frames ===== -/
def hf_lc (k : Nat) : Nat := if k = 0 then 4 else k
def hf_st (E : Nat → Nat) : Nat → List Nat
  | 0 => []
  | d + 1 => E d :: hf_st E d
def hf_u (K : Nat → Nat) (i v : Nat) : Nat → Nat := fun j => if j = i then v else K j
def hf_A (kl E : Nat → Nat) (d : Nat) : List Nat × Nat × Nat := (hf_st E d, hf_lc (kl 0), hf_lc (kl 1))
def ho_K (π : Nat → Nat) (H : Nat → Prop) (k : Nat) (x y : Int32) : Prop := (k = 0 ∧ x = 0) ∨ (k = 1 ∧ y = x ∧ ca_sh x) ∨ (k = 2 ∧ ho_V π H x y)
def hf_S (π : Nat → Nat) (H : Nat → Prop) (f d : Nat) (kl E : Nat → Nat) (slot places kinds : Nat → Int32) : Prop :=
  (∀ i, i < 2 → kinds (8 * f + i) = nI (kl i) ∧ ho_K π H (kl i) (slot (6 * f + i)) (places (8 * f + i))) ∧ (∀ j, j < d → kinds (8 * f + 2 + j) = nI (E j) ∧ ho_K π H (E j) (slot (6 * f + 2 + j)) (places (8 * f + 2 + j)))
def hf_C (ops args quick bs : Nat → Int32) (m p : Nat) (A : List Nat × Nat × Nat) : Prop := ∃ l opf bf, l ≤ 16 ∧ hc_M ops args quick bs m l opf bf ∧ hs_R opf bf p A
def hf_U (π : Nat → Nat) (H : Nat → Prop) (ops args quick bs : Nat → Int32) (n : Nat) (slot frameMethod framePc rows nexts depths places kinds : Nat → Int32) : Prop :=
  ∀ f, f < n → ∃ m p d kl E, m < 6 ∧ p < 16 ∧ d < 4 ∧ frameMethod f = nI m ∧ framePc f = nI (16 * d + p) ∧ rows f = nI m ∧ nexts f = nI p ∧ depths f = nI d ∧ hf_S π H f d kl E slot places kinds ∧ hf_C ops args quick bs m (p + 1) (1 :: hf_st E d, hf_lc (kl 0), hf_lc (kl 1))
def hf_T (π : Nat → Nat) (H : Nat → Prop) (ops args quick bs : Nat → Int32) (n m p d : Nat) (kl E : Nat → Nat) (slot frameMethod rows nexts depths places kinds : Nat → Int32) : Prop :=
  m < 6 ∧ frameMethod n = nI m ∧ rows n = nI m ∧ nexts n = nI p ∧ depths n = nI d ∧ hf_S π H n d kl E slot places kinds ∧ hf_C ops args quick bs m p (hf_A kl E d)
theorem hf_u_s (K : Nat → Nat) (i v : Nat) : hf_u K i v i = v := if_pos rfl
theorem hf_u_n {K : Nat → Nat} {i j v : Nat} (h : j ≠ i) : hf_u K i v j = K j := if_neg h
theorem hf_st_c {E E' : Nat → Nat} : ∀ {d : Nat}, (∀ i, i < d → E i = E' i) → hf_st E d = hf_st E' d
  | 0, _ => rfl
  | d + 1, h => by
    show E d :: hf_st E d = E' d :: hf_st E' d
    rw [h d (by omega), hf_st_c (fun i hi => h i (by omega))]
theorem hf_st_u {E : Nat → Nat} {d v : Nat} : hf_st (hf_u E d v) (d + 1) = v :: hf_st E d := by
  show hf_u E d v d :: hf_st (hf_u E d v) d = _
  rw [hf_u_s, hf_st_c (E' := E) (fun i hi => hf_u_n (by omega))]
theorem hf_st_l (E : Nat → Nat) : ∀ d, (hf_st E d).length = d
  | 0 => rfl
  | d + 1 => by show (hf_st E d).length + 1 = d + 1; rw [hf_st_l E d]
theorem hf_st_i {E : Nat → Nat} {d c : Nat} {t : List Nat} (h : hf_st E d = c :: t) : ∃ e, d = e + 1 ∧ c = E e ∧ t = hf_st E e := by
  cases d with
  | zero => cases h
  | succ e =>
    have h' : E e :: hf_st E e = c :: t := h
    injection h' with h1 h2
    exact ⟨e, rfl, h1.symm, h2.symm⟩
/-! ### what the check gave: the primitives on a frame -/
theorem hf_sqi {g : List Nat × Nat × Nat → Option (List Nat × Nat × Nat)} {gs : List (List Nat × Nat × Nat → Option (List Nat × Nat × Nat))} {A B : List Nat × Nat × Nat} (h : hs_sq (g :: gs) A = some B) : ∃ C, g A = some C ∧ hs_sq gs C = some B := by
  have h' : (match g A with
    | none => none
    | some B => hs_sq gs B) = some B := h
  cases e : g A with
  | none => rw [e] at h'; cases h'
  | some C => rw [e] at h'; exact ⟨C, rfl, h'⟩
theorem hf_sq0 {A B : List Nat × Nat × Nat} (h : hs_sq [] A = some B) : B = A := by cases h; rfl
theorem hf_tk {w d : Nat} {kl E : Nat → Nat} {B : List Nat × Nat × Nat} (h : hs_tk w (hf_A kl E d) = some B) : ∃ e, d = e + 1 ∧ (w = 3 ∨ E e = w) ∧ B = hf_A kl E e := by
  obtain ⟨c, e1, e2, e3⟩ := hs_tk_s h
  obtain ⟨e, ed, ec, et⟩ := hf_st_i e1
  refine ⟨e, ed, by omega, ?_⟩
  obtain ⟨b1, b2⟩ := B
  dsimp only at et e3
  rw [et, e3]; rfl
theorem hf_ps {c d : Nat} {kl E : Nat → Nat} {B : List Nat × Nat × Nat} (h : hs_ps c (hf_A kl E d) = some B) : d ≠ 4 ∧ B = hf_A kl (hf_u E d c) (d + 1) := by
  obtain ⟨h4, e⟩ := hs_ps_s h
  have hl : (hf_A kl E d).1.length = d := hf_st_l E d
  refine ⟨by omega, ?_⟩
  rw [e]
  unfold hf_A
  rw [hf_st_u]
theorem hf_ld {b d : Nat} {kl E : Nat → Nat} {B : List Nat × Nat × Nat} (hb : b < 2) (h : hs_ld b (hf_A kl E d) = some B) : kl b ≠ 0 ∧ d ≠ 4 ∧ B = hf_A kl (hf_u E d (kl b)) (d + 1) := by
  obtain ⟨h4, hl4, e⟩ := hs_ld_s h
  have hl : (hf_A kl E d).1.length = d := hf_st_l E d
  have eloc : hs_loc b (hf_A kl E d) = hf_lc (kl b) := by
    have : b = 0 ∨ b = 1 := by omega
    rcases this with rfl | rfl <;> rfl
  rw [eloc] at h4 e
  have h0 : kl b ≠ 0 := fun q => by rw [q] at h4; exact absurd h4 (by decide)
  have el : hf_lc (kl b) = kl b := if_neg h0
  refine ⟨h0, by omega, ?_⟩
  rw [e, el]
  unfold hf_A
  rw [hf_st_u]
theorem hf_dup {d : Nat} {kl E : Nat → Nat} {B : List Nat × Nat × Nat} (h : hs_dup (hf_A kl E d) = some B) : ∃ e, d = e + 1 ∧ d ≠ 4 ∧ B = hf_A kl (hf_u E d (E e)) (d + 1) := by
  obtain ⟨c, t, e1, h4, e2⟩ := hs_dup_s h
  have hl : (hf_A kl E d).1.length = d := hf_st_l E d
  obtain ⟨e, ed, ec, et⟩ := hf_st_i e1
  refine ⟨e, ed, by omega, ?_⟩
  rw [e2, ec]
  unfold hf_A
  rw [hf_st_u]
theorem hf_sto {b d : Nat} {kl E : Nat → Nat} {B : List Nat × Nat × Nat} (hb : b < 2) (hw : hs_w1 (hf_A kl E d)) (h : hs_sto b (hf_A kl E d) = some B) : ∃ e, d = e + 1 ∧ B = hf_A (hf_u kl b (E e)) E e := by
  obtain ⟨c, e1, e2⟩ := hs_sto_s h
  obtain ⟨e, ed, ec, et⟩ := hf_st_i e1
  have hc := hw.2.1 c (by rw [e1]; exact List.mem_cons_self ..)
  refine ⟨e, ed, ?_⟩
  obtain ⟨b1, b2⟩ := B
  dsimp only at et e2
  have el : hf_lc c = c := if_neg (by omega)
  have : b = 0 ∨ b = 1 := by omega
  rcases this with rfl | rfl
  · rw [et, e2, if_pos rfl]
    unfold hf_A
    rw [hf_u_s, hf_u_n (by decide), ← ec, el]
  · rw [et, e2, if_neg (by decide)]
    unfold hf_A
    rw [hf_u_s, hf_u_n (by decide), ← ec, el]
theorem hf_w {ops args quick bs : Nat → Int32} {m p d : Nat} {kl E : Nat → Nat} (h : hf_C ops args quick bs m p (hf_A kl E d)) : p < 16 ∧ d ≤ 4 ∧ (∀ j, j < d → E j = 1 ∨ E j = 2) := by
  obtain ⟨l, opf, bf, hl, hM, hR⟩ := h
  have w := hs_Rw hR
  have hp := (hM.2 p _ hR).1
  have hd := w.1
  rw [show (hf_A kl E d).1.length = d from hf_st_l E d] at hd
  refine ⟨by omega, hd, fun j hj => w.2.1 _ ?_⟩
  have : ∀ d, j < d → E j ∈ hf_st E d := by
    intro d
    induction d with
    | zero => intro h; omega
    | succ d ih =>
      intro h
      by_cases z : j = d
      · rw [z]; exact List.mem_cons_self ..
      · exact List.mem_cons_of_mem _ (ih (by omega))
  exact this d hj
/-! ### the slots -/
theorem hf_Sle {π : Nat → Nat} {H : Nat → Prop} {f d e : Nat} {kl E : Nat → Nat} {slot places kinds : Nat → Int32} (h : hf_S π H f d kl E slot places kinds) (he : e ≤ d) : hf_S π H f e kl E slot places kinds := ⟨h.1, fun j hj => h.2 j (by omega)⟩
theorem hf_Sput {π : Nat → Nat} {H : Nat → Prop} {f d d' j k : Nat} {kl E : Nat → Nat} {slot places kinds : Nat → Int32} {x y : Int32} (h : hf_S π H f d kl E slot places kinds) (hd : ∀ i, i < d' → i ≠ j → i < d) (hK : ho_K π H k x y) : hf_S π H f d' kl (hf_u E j k) (upd slot (6 * f + 2 + j) x) (upd places (8 * f + 2 + j) y) (upd kinds (8 * f + 2 + j) (nI k)) := by
  refine ⟨fun i hi => ?_, fun i hi => ?_⟩
  · rw [pk_un (by omega), pk_un (by omega), pk_un (by omega)]
    exact h.1 i hi
  · by_cases z : i = j
    · subst z
      rw [pk_us, pk_us, pk_us, hf_u_s]
      exact ⟨rfl, hK⟩
    · rw [pk_un (by omega), pk_un (by omega), pk_un (by omega), hf_u_n z]
      exact h.2 i (hd i hi z)
theorem hf_Sloc {π : Nat → Nat} {H : Nat → Prop} {f d b k : Nat} {kl E : Nat → Nat} {slot places kinds : Nat → Int32} {x y : Int32} (h : hf_S π H f d kl E slot places kinds) (hb : b < 2) (hK : ho_K π H k x y) : hf_S π H f d (hf_u kl b k) E (upd slot (6 * f + b) x) (upd places (8 * f + b) y) (upd kinds (8 * f + b) (nI k)) := by
  refine ⟨fun i hi => ?_, fun i hi => ?_⟩
  · by_cases z : i = b
    · subst z
      rw [pk_us, pk_us, pk_us, hf_u_s]
      exact ⟨rfl, hK⟩
    · rw [pk_un (by omega), pk_un (by omega), pk_un (by omega), hf_u_n z]
      exact h.1 i hi
  · rw [pk_un (by omega), pk_un (by omega), pk_un (by omega)]
    exact h.2 i hi
theorem hf_Sc {π : Nat → Nat} {H : Nat → Prop} {f d : Nat} {kl E : Nat → Nat} {slot places kinds slot' places' kinds' : Nat → Int32} (hd : d ≤ 4) (h : hf_S π H f d kl E slot places kinds) (h1 : ∀ i, 6 * f ≤ i → i < 6 * f + 6 → slot' i = slot i) (h2 : ∀ i, 8 * f ≤ i → i < 8 * f + 8 → places' i = places i) (h3 : ∀ i, 8 * f ≤ i → i < 8 * f + 8 → kinds' i = kinds i) : hf_S π H f d kl E slot' places' kinds' := by
  refine ⟨fun i hi => ?_, fun i hi => ?_⟩
  · rw [h1 _ (by omega) (by omega), h2 _ (by omega) (by omega), h3 _ (by omega) (by omega)]; exact h.1 i hi
  · rw [h1 _ (by omega) (by omega), h2 _ (by omega) (by omega), h3 _ (by omega) (by omega)]; exact h.2 i hi
theorem hf_Uc {π : Nat → Nat} {H : Nat → Prop} {ops args quick bs : Nat → Int32} {n : Nat} {slot frameMethod framePc rows nexts depths places kinds slot' frameMethod' framePc' rows' nexts' depths' places' kinds' : Nat → Int32} (h : hf_U π H ops args quick bs n slot frameMethod framePc rows nexts depths places kinds)
    (h1 : ∀ i, i < 6 * n → slot' i = slot i) (h2 : ∀ i, i < 8 * n → places' i = places i) (h3 : ∀ i, i < 8 * n → kinds' i = kinds i) (h4 : ∀ f, f < n → frameMethod' f = frameMethod f ∧ framePc' f = framePc f ∧ rows' f = rows f ∧ nexts' f = nexts f ∧ depths' f = depths f) : hf_U π H ops args quick bs n slot' frameMethod' framePc' rows' nexts' depths' places' kinds' := fun f hf => by
  obtain ⟨m, p, d, kl, E, a1, a2, a3, a4, a5, a6, a7, a8, a9, a10⟩ := h f hf
  obtain ⟨b1, b2, b3, b4, b5⟩ := h4 f hf
  exact ⟨m, p, d, kl, E, a1, a2, a3, by rw [b1]; exact a4, by rw [b2]; exact a5, by rw [b3]; exact a6, by rw [b4]; exact a7, by rw [b5]; exact a8, hf_Sc (by omega) a9 (fun i h h' => h1 i (by omega)) (fun i h h' => h2 i (by omega)) (fun i h h' => h3 i (by omega)), a10⟩
theorem ho_Vm {π π' : Nat → Nat} {H H' : Nat → Prop} {x y : Int32} (h : ho_V π H x y) (hm : ∀ o, H o → x = nI (65536 + o) → H' o ∧ π' o = π o) : ho_V π' H' x y := by
  rcases h with h | ⟨o, ho, ex, ey⟩
  · exact Or.inl h
  · exact Or.inr ⟨o, (hm o ho ex).1, ex, by rw [(hm o ho ex).2]; exact ey⟩
theorem ho_Km {π π' : Nat → Nat} {H H' : Nat → Prop} {k : Nat} {x y : Int32} (h : ho_K π H k x y) (hm : ∀ o, H o → x = nI (65536 + o) → H' o ∧ π' o = π o) : ho_K π' H' k x y := by
  rcases h with h | h | ⟨h1, h2⟩
  · exact Or.inl h
  · exact Or.inr (Or.inl h)
  · exact Or.inr (Or.inr ⟨h1, ho_Vm h2 hm⟩)
theorem ho_K1 {π : Nat → Nat} {H : Nat → Prop} {x y : Int32} (h : ho_K π H 1 x y) : y = x ∧ ca_sh x := by
  rcases h with ⟨h, _⟩ | h | ⟨h, _⟩
  · exact absurd h (by decide)
  · exact h.2
  · exact absurd h (by decide)
theorem ho_K2 {π : Nat → Nat} {H : Nat → Prop} {x y : Int32} (h : ho_K π H 2 x y) : ho_V π H x y := by
  rcases h with ⟨h, _⟩ | ⟨h, _⟩ | h
  · exact absurd h (by decide)
  · exact absurd h (by decide)
  · exact h.2
theorem ho_Kn {π : Nat → Nat} {H : Nat → Prop} {x : Int32} (h : ca_sh x) : ho_K π H 1 x x := Or.inr (Or.inl ⟨rfl, rfl, h⟩)
theorem ho_Kr {π : Nat → Nat} {H : Nat → Prop} {x y : Int32} (h : ho_V π H x y) : ho_K π H 2 x y := Or.inr (Or.inr ⟨rfl, h⟩)
end
section
/-! ===== objects and the transaction while running; undo ===== -/
def hm_TR (π : Nat → Nat) (H : Nat → Prop) (q : Nat) (c : Nat → Nat) (S : Nat → Int32) (logLength : Int32) (fresh lasting shared element roots logCell logOld logged : Nat → Int32) (bstamp boldStamp : Nat → Int64) (boldElements boldShared boldRoots : Nat → Int32) : Prop :=
  (logLength = nI q ∧ q ≤ 46) ∧
  (∀ j, j < q → logCell j = nI (c j) ∧ c j < 46) ∧
  (∀ i j, i < q → j < q → c i = c j → i = j) ∧
  (∀ x, x < 46 → (¬ logged x = 0 ↔ ∃ j, j < q ∧ c j = x)) ∧
  (∀ j, j < q → (c j < 32 → fresh (c j / 4) = 0 → ¬ lasting (c j / 4) = 0 ∧ logOld j = S (c j)) ∧ (32 ≤ c j → c j < 38 → logOld j = S (c j)) ∧ (38 ≤ c j → fresh (c j - 38) = 0 → logOld j = S (c j))) ∧
  (∀ x, x < 32 → logged x = 0 → fresh (x / 4) = 0 → ¬ lasting (x / 4) = 0 → element x = S x) ∧
  (∀ r, r < 6 → logged (32 + r) = 0 → roots r = S (32 + r)) ∧
  (∀ o, o < 8 → logged (38 + o) = 0 → fresh o = 0 → shared o = S (38 + o)) ∧
  (∀ r, r < 6 → ho_V π H (S (32 + r)) (boldRoots r)) ∧
  (∀ o, H o → (fresh o = 0 → bstamp (π o) = boldStamp (π o) ∧ S (38 + o) = boldShared (π o) ∧ (¬ lasting o = 0 → ∀ i, i < 4 → S (4 * o + i) = boldElements (4 * π o + i))) ∧ (¬ fresh o = 0 → bstamp (π o) ≠ boldStamp (π o))) ∧
  (∀ i, i < 32 → ca_sh (boldElements i)) ∧ (∀ i, i < 8 → boldShared i = 0 ∨ boldShared i = 1)
def hm_ST (B : Nat) (made : Int64) (bstamp : Nat → Int64) (opn : Int32) (boldStamp : Nat → Int64) : Prop := ∃ mm, made = lN mm ∧ mm ≤ B ∧ (∀ p, p < 8 → ∃ s, s ≤ mm ∧ bstamp p = lN s) ∧ (¬ opn = 0 → ∀ p, p < 8 → ∃ s, s ≤ mm ∧ boldStamp p = lN s)
def hm_O (π ρ : Nat → Nat) (H : Nat → Prop) (B : Nat) (opn logLength : Int32) (alive fresh lasting shared owner size element roots logCell logOld logged : Nat → Int32) (made : Int64) (bstamp : Nat → Int64) (bowner blengths belements blasting bshared broots : Nat → Int32) (boldStamp : Nat → Int64) (boldElements boldShared boldRoots : Nat → Int32) : Prop :=
  ho_P π ρ ∧ (∀ o, H o → ho_o π alive lasting shared owner size element bowner blengths belements blasting bshared o) ∧ (∀ r, r < 6 → ho_V π H (roots r) (broots r)) ∧ ho_W alive lasting shared element belements blasting bshared ∧ hm_ST B made bstamp opn boldStamp ∧ (opn = 0 ∨ (opn = 1 ∧ ∃ q c S, hm_TR π H q c S logLength fresh lasting shared element roots logCell logOld logged bstamp boldStamp boldElements boldShared boldRoots))
section
variable {f_limit f_pending f_wide f_waiting f_height f_entries f_locals f_logLength f_open f_awaited f_frames f_sp f_base f_pc f_method f_steps f_status f_lastResult f_lastPlace : Int32} {a_ops a_args a_quick a_length a_exported a_known a_alive a_fresh a_lasting a_shared a_owner a_size a_element a_roots a_logCell a_logOld a_logged a_slot a_frameMethod a_framePc : Nat → Int32}
variable {q : Nat} {c : Nat → Nat} {S : Nat → Int32}
/-- what X's undo has done when the log is down to j -/
def hx_uE (q : Nat) (c : Nat → Nat) (S fresh element : Nat → Int32) (j : Nat) (el : Nat → Int32) : Prop := ∀ x, x < 32 → ((∃ e, j ≤ e ∧ e < q ∧ c e = x) → fresh (x / 4) = 0 → el x = (S x).toInt16.toInt32) ∧ ((¬ (∃ e, j ≤ e ∧ e < q ∧ c e = x) ∨ ¬ fresh (x / 4) = 0) → el x = element x)
def hx_uR (q : Nat) (c : Nat → Nat) (S roots : Nat → Int32) (j : Nat) (ro : Nat → Int32) : Prop := ∀ r, r < 6 → ((∃ e, j ≤ e ∧ e < q ∧ c e = 32 + r) → ro r = S (32 + r)) ∧ (¬ (∃ e, j ≤ e ∧ e < q ∧ c e = 32 + r) → ro r = roots r)
def hx_uS (q : Nat) (c : Nat → Nat) (S fresh shared : Nat → Int32) (j : Nat) (sh : Nat → Int32) : Prop := ∀ o, o < 8 → ((∃ e, j ≤ e ∧ e < q ∧ c e = 38 + o) → fresh o = 0 → sh o = if S (38 + o) = 0 then 0 else 1) ∧ ((¬ (∃ e, j ≤ e ∧ e < q ∧ c e = 38 + o) ∨ ¬ fresh o = 0) → sh o = shared o)
theorem hx_exs {q j x : Nat} {c : Nat → Nat} (hne : c j ≠ x) : (∃ e, j ≤ e ∧ e < q ∧ c e = x) ↔ ∃ e, j + 1 ≤ e ∧ e < q ∧ c e = x := by
  constructor
  · rintro ⟨e, h1, h2, h3⟩
    refine ⟨e, ?_, h2, h3⟩
    by_cases z : e = j
    · subst z; exact absurd h3 hne
    · omega
  · rintro ⟨e, h1, h2, h3⟩
    exact ⟨e, by omega, h2, h3⟩
theorem hx_undo0 (hq : q ≤ 46) (hc : ∀ j, j < q → a_logCell j = nI (c j) ∧ c j < 46)
    (hS : ∀ j, j < q → (c j < 32 → a_fresh (c j / 4) = 0 → a_logOld j = S (c j)) ∧ (32 ≤ c j → c j < 38 → a_logOld j = S (c j)) ∧ (38 ≤ c j → a_fresh (c j - 38) = 0 → a_logOld j = S (c j))) :
    ∀ (j : Nat) (sh el ro : Nat → Int32), j ≤ q → ca_B sh → ca_Sh el → hx_uE q c S a_fresh a_element j el → hx_uR q c S a_roots j ro → hx_uS q c S a_fresh a_shared j sh → ∃ sh' el' ro', ca_B sh' ∧ ca_Sh el' ∧ hx_uE q c S a_fresh a_element 0 el' ∧ hx_uR q c S a_roots 0 ro' ∧ hx_uS q c S a_fresh a_shared 0 sh' ∧
      ∀ post : SX → Prop, post (f_limit, f_pending, f_wide, f_waiting, f_height, f_entries, f_locals, 0, 0, f_awaited, f_frames, f_sp, f_base, f_pc, f_method, f_steps, f_status, f_lastResult, f_lastPlace, a_ops, a_args, a_quick, a_length, a_exported, a_known, a_alive, a_fresh, a_lasting, sh', a_owner, a_size, el', ro', a_logCell, a_logOld, a_logged, a_slot, a_frameMethod, a_framePc) → wX_undo_0 post f_limit f_pending f_wide f_waiting f_height f_entries f_locals 1 f_awaited f_frames f_sp f_base f_pc f_method f_steps f_status f_lastResult f_lastPlace (j + 1) (nI j) a_ops a_args a_quick a_length a_exported a_known a_alive a_fresh a_lasting sh a_owner a_size el ro a_logCell a_logOld a_logged a_slot a_frameMethod a_framePc := by
  intro j
  induction j with
  | zero =>
    intro sh el ro hj hB hE uE uR uS
    refine ⟨sh, el, ro, hB, hE, uE, uR, uS, fun post H => ?_⟩
    rw [wX_undo_0]
    exact br_f (by decide) (br_t (by decide) H)
  | succ j ih =>
    intro sh el ro hj hB hE uE uR uS
    have cj : (nI j).toNatClampNeg = j := nI_clamp (by omega)
    have vj : vp_in (nI j) 46 := vp_in_nI (by omega) (by decide)
    obtain ⟨ec, hc46⟩ := hc j (by omega)
    obtain ⟨s1, s2, s3⟩ := hS j (by omega)
    have eE : (∀ x, x < 32 → c j = x → ¬ a_fresh (x / 4) = 0) → hx_uE q c S a_fresh a_element j el := fun hne x hx => by
      by_cases z : c j = x
      · refine ⟨fun _ h0 => absurd h0 (hne x hx z), fun _ => (uE x hx).2 (Or.inr (hne x hx z))⟩
      · rw [hx_exs z]; exact uE x hx
    have eR : (∀ r, r < 6 → c j ≠ 32 + r) → hx_uR q c S a_roots j ro := fun hne r hr => by rw [hx_exs (hne r hr)]; exact uR r hr
    have eS : (∀ o, o < 8 → c j = 38 + o → ¬ a_fresh o = 0) → hx_uS q c S a_fresh a_shared j sh := fun hne o ho => by
      by_cases z : c j = 38 + o
      · refine ⟨fun _ h0 => absurd h0 (hne o ho z), fun _ => (uS o ho).2 (Or.inr (hne o ho z))⟩
      · rw [hx_exs z]; exact uS o ho
    rcases Nat.lt_or_ge (c j) 32 with h32 | h32
    · have e4 : nI (c j) >>> ((2 : Int32) &&& 31) = nI (c j / 4) := hx_shr (k := 2) (by omega) (by decide)
      have c4 : (nI (c j / 4)).toNatClampNeg = c j / 4 := nI_clamp (by omega)
      have v4 : vp_in (nI (c j / 4)) 8 := vp_in_nI (by omega) (by decide)
      have cc : (nI (c j)).toNatClampNeg = c j := nI_clamp (by omega)
      have vc : vp_in (nI (c j)) 32 := vp_in_nI (by omega) (by decide)
      have n32 : ¬ (32 : Int32) ≤ nI (c j) := nI_ge (b := 32) h32 (by decide)
      by_cases z0 : a_fresh (c j / 4) = 0
      · obtain ⟨sh', el', ro', p1, p2, p3, p4, p5, hw⟩ := ih sh (upd el (c j) (vp_nar .short (a_logOld j).toInt16.toInt32)) ro (by omega) hB (ca_ShU hE (by rw [pk_vs]; exact ca_sh16 _)) (fun x hx => by
          by_cases z : c j = x
          · subst z
            rw [pk_us, pk_vs, s1 h32 z0]
            exact ⟨fun _ _ => rfl, fun hn => hn.elim (fun hn => absurd ⟨j, Nat.le_refl _, by omega, rfl⟩ hn) (fun hn => absurd z0 hn)⟩
          · rw [pk_un (by omega), hx_exs z]; exact uE x hx) (eR (fun r hr e => by omega)) (eS (fun o ho e => by omega))
        refine ⟨sh', el', ro', p1, p2, p3, p4, p5, fun post H => ?_⟩
        rw [wX_undo_0]
        dsimp only
        rw [nI_pred]
        refine br_f (by decide) (br_f (nI_nle (by omega) (by omega)) (nm_e ⟨vj, nm_r (e' := nI (c j)) (by rw [cj]; exact ec) ⟨vj, nm_r (e' := a_logOld j) (by rw [cj]) (br_f n32 ?_)⟩⟩))
        rw [e4, c4, cc]
        exact ⟨v4, br_t z0 ⟨vc, nm_e (hw post H)⟩⟩
      · obtain ⟨sh', el', ro', p1, p2, p3, p4, p5, hw⟩ := ih sh (upd el (c j) (vp_nar .short (el (c j)))) ro (by omega) hB (ca_ShU hE (by rw [ca_ns (hE _)]; exact hE _)) (fun x hx => by
          have := eE (fun x hx e => by rw [← e]; exact z0) x hx
          by_cases z : x = c j
          · rw [z, pk_us, ca_ns (hE _), ← z]; exact this
          · rw [pk_un z]; exact this) (eR (fun r hr e => by omega)) (eS (fun o ho e => by omega))
        refine ⟨sh', el', ro', p1, p2, p3, p4, p5, fun post H => ?_⟩
        rw [wX_undo_0]
        dsimp only
        rw [nI_pred]
        refine br_f (by decide) (br_f (nI_nle (by omega) (by omega)) (nm_e ⟨vj, nm_r (e' := nI (c j)) (by rw [cj]; exact ec) ⟨vj, nm_r (e' := a_logOld j) (by rw [cj]) (br_f n32 ?_)⟩⟩))
        rw [e4, c4, cc]
        exact ⟨v4, br_f z0 ⟨vc, vc, nm_e (hw post H)⟩⟩
    · have y32 : (32 : Int32) ≤ nI (c j) := nI_le (a := 32) h32 (by omega)
      rcases Nat.lt_or_ge (c j) 38 with h38 | h38
      · have n38 : ¬ (38 : Int32) ≤ nI (c j) := nI_ge (b := 38) h38 (by decide)
        have e32 : nI (c j) - 32 = nI (c j - 32) := pk_sub (b := 32) h32
        have c32 : (nI (c j - 32)).toNatClampNeg = c j - 32 := nI_clamp (by omega)
        have v32 : vp_in (nI (c j - 32)) 6 := vp_in_nI (by omega) (by decide)
        obtain ⟨sh', el', ro', p1, p2, p3, p4, p5, hw⟩ := ih sh el (upd ro (c j - 32) (a_logOld j)) (by omega) hB hE (eE (fun x hx e => by omega)) (fun r hr => by
          by_cases z : c j = 32 + r
          · have er : c j - 32 = r := by omega
            rw [er, pk_us, s2 h32 h38, z]
            exact ⟨fun _ => rfl, fun hn => absurd ⟨j, Nat.le_refl _, by omega, z⟩ hn⟩
          · rw [pk_un (by omega), hx_exs z]; exact uR r hr) (eS (fun o ho e => by omega))
        refine ⟨sh', el', ro', p1, p2, p3, p4, p5, fun post H => ?_⟩
        rw [wX_undo_0]
        dsimp only
        rw [nI_pred]
        refine br_f (by decide) (br_f (nI_nle (by omega) (by omega)) (nm_e ⟨vj, nm_r (e' := nI (c j)) (by rw [cj]; exact ec) ⟨vj, nm_r (e' := a_logOld j) (by rw [cj]) (br_t y32 (br_f n38 ?_))⟩⟩))
        rw [e32, c32]
        exact ⟨v32, nm_e (hw post H)⟩
      · have y38 : (38 : Int32) ≤ nI (c j) := nI_le (a := 38) h38 (by omega)
        have e38 : nI (c j) - 38 = nI (c j - 38) := pk_sub (b := 38) h38
        have c38 : (nI (c j - 38)).toNatClampNeg = c j - 38 := nI_clamp (by omega)
        have v38 : vp_in (nI (c j - 38)) 8 := vp_in_nI (by omega) (by decide)
        have upS : a_fresh (c j - 38) = 0 → ∀ w : Int32, w = (if S (c j) = 0 then 0 else 1) → hx_uS q c S a_fresh a_shared j (upd sh (c j - 38) w) := fun h0 w hw o ho => by
          by_cases z : c j = 38 + o
          · have eo : c j - 38 = o := by omega
            rw [eo, pk_us, hw, z]
            rw [eo] at h0
            exact ⟨fun _ _ => rfl, fun hn => hn.elim (fun hn => absurd ⟨j, Nat.le_refl _, by omega, z⟩ hn) (fun hn => absurd h0 hn)⟩
          · rw [pk_un (by omega), hx_exs z]; exact uS o ho
        by_cases z0 : a_fresh (c j - 38) = 0
        · by_cases zo : a_logOld j = 0
          · obtain ⟨sh', el', ro', p1, p2, p3, p4, p5, hw⟩ := ih (upd sh (c j - 38) (vp_nar .boolean 0)) el ro (by omega) (ca_BU hB (Or.inl rfl)) hE (eE (fun x hx e => by omega)) (eR (fun r hr e => by omega)) (upS z0 _ (by rw [← s3 h38 z0, zo]; rfl))
            refine ⟨sh', el', ro', p1, p2, p3, p4, p5, fun post H => ?_⟩
            rw [wX_undo_0]
            dsimp only
            rw [nI_pred]
            refine br_f (by decide) (br_f (nI_nle (by omega) (by omega)) (nm_e ⟨vj, nm_r (e' := nI (c j)) (by rw [cj]; exact ec) ⟨vj, nm_r (e' := a_logOld j) (by rw [cj]) (br_t y32 (br_t y38 ?_))⟩⟩))
            rw [e38, c38]
            exact ⟨v38, br_t z0 (br_t zo ⟨v38, nm_e (hw post H)⟩)⟩
          · obtain ⟨sh', el', ro', p1, p2, p3, p4, p5, hw⟩ := ih (upd sh (c j - 38) (vp_nar .boolean 1)) el ro (by omega) (ca_BU hB (Or.inr rfl)) hE (eE (fun x hx e => by omega)) (eR (fun r hr e => by omega)) (upS z0 _ (by rw [← s3 h38 z0, if_neg zo]; rfl))
            refine ⟨sh', el', ro', p1, p2, p3, p4, p5, fun post H => ?_⟩
            rw [wX_undo_0]
            dsimp only
            rw [nI_pred]
            refine br_f (by decide) (br_f (nI_nle (by omega) (by omega)) (nm_e ⟨vj, nm_r (e' := nI (c j)) (by rw [cj]; exact ec) ⟨vj, nm_r (e' := a_logOld j) (by rw [cj]) (br_t y32 (br_t y38 ?_))⟩⟩))
            rw [e38, c38]
            exact ⟨v38, br_t z0 (br_f zo ⟨v38, nm_e (hw post H)⟩)⟩
        · obtain ⟨sh', el', ro', p1, p2, p3, p4, p5, hw⟩ := ih (upd sh (c j - 38) (vp_nar .boolean (sh (c j - 38)))) el ro (by omega) (ca_BU hB (by rw [ca_nb (hB _)]; exact hB _)) hE (eE (fun x hx e => by omega)) (eR (fun r hr e => by omega)) (fun o ho => by
            have := eS (fun o' ho' e => by rw [show o' = c j - 38 by omega]; exact z0) o ho
            by_cases z : o = c j - 38
            · rw [z, pk_us, ca_nb (hB _), ← z]; exact this
            · rw [pk_un z]; exact this)
          refine ⟨sh', el', ro', p1, p2, p3, p4, p5, fun post H => ?_⟩
          rw [wX_undo_0]
          dsimp only
          rw [nI_pred]
          refine br_f (by decide) (br_f (nI_nle (by omega) (by omega)) (nm_e ⟨vj, nm_r (e' := nI (c j)) (by rw [cj]; exact ec) ⟨vj, nm_r (e' := a_logOld j) (by rw [cj]) (br_t y32 (br_t y38 ?_))⟩⟩))
          rw [e38, c38]
          exact ⟨v38, br_f z0 ⟨v38, v38, nm_e (hw post H)⟩⟩
end
section
variable {g_limit g_waiting g_stack g_locals g_running g_steps g_awaited g_answer g_where g_outcome : Int32} {g_made : Int64} {g_good g_open : Int32} {b_ops b_bs b_sizes b_exported : Nat → Int32} {b_stamp : Nat → Int64} {b_owner b_lengths b_elements b_lasting b_shared b_roots : Nat → Int32} {b_oldStamp : Nat → Int64} {b_oldElements b_oldShared b_oldRoots b_rows b_nexts b_depths b_places b_kinds b_met b_todo b_heights : Nat → Int32}
theorem hy_undo79 {post : SY → Prop} {J : Int32 → (Nat → Int32) → (Nat → Int32) → (Nat → Int32) → (Nat → Int32) → (Nat → Int64) → (Nat → Int32) → (Nat → Int32) → (Nat → Int32) → (Nat → Int32) → (Nat → Int32) → (Nat → Int32) → (Nat → Int64) → (Nat → Int32) → (Nat → Int32) → (Nat → Int32) → (Nat → Int32) → (Nat → Int32) → (Nat → Int32) → (Nat → Int32) → (Nat → Int32) → (Nat → Int32) → (Nat → Int32) → (Nat → Int32) → Prop} {o : Nat} (ho : o < 8) (hs : ∀ i, i < 32 → ca_sh (b_oldElements i)) {el0 : Nat → Int32}
    (H : ∀ el, ca_Sh el → (∀ x, el x = if x / 4 = o ∧ ¬ b_lasting o = 0 then b_oldElements x else el0 x) → J (nI (o + 1)) b_ops b_bs b_sizes b_exported b_stamp b_owner b_lengths el b_lasting b_shared b_roots b_oldStamp b_oldElements b_oldShared b_oldRoots b_rows b_nexts b_depths b_places b_kinds b_met b_todo b_heights) :
    ∀ (d j : Nat) (el : Nat → Int32), j + d = 4 → ca_Sh el → (∀ x, el x = if 4 * o ≤ x ∧ x < 4 * o + j ∧ ¬ b_lasting o = 0 then b_oldElements x else el0 x) → wY_undo_79 post J (nI o) g_limit g_waiting g_stack g_locals g_running g_steps g_awaited g_answer g_where g_outcome g_made g_good g_open (d + 1) (nI (4 * o + j)) b_ops b_bs b_sizes b_exported b_stamp b_owner b_lengths el b_lasting b_shared b_roots b_oldStamp b_oldElements b_oldShared b_oldRoots b_rows b_nexts b_depths b_places b_kinds b_met b_todo b_heights := by
  have e4 : 4 * nI o + 4 = nI (4 * o + 4) := by rw [show 4 * nI o = nI (4 * o) from pk_mul 4 o]; exact nI_add _ 4
  have co : (nI o).toNatClampNeg = o := nI_clamp (by omega)
  intro d
  induction d with
  | zero =>
    intro j el hj hE h
    rw [wY_undo_79]
    dsimp only
    rw [e4]
    refine br_t (nI_le (by omega) (by omega)) (nm_r (nI_1 _) (H el hE (fun x => ?_)))
    rw [h x]
    by_cases z : x / 4 = o ∧ ¬ b_lasting o = 0
    · rw [if_pos z, if_pos ⟨by omega, by omega, z.2⟩]
    · rw [if_neg z, if_neg (fun q => z ⟨by omega, q.2.2⟩)]
  | succ d ih =>
    intro j el hj hE h
    rw [wY_undo_79]
    dsimp only
    have cj : (nI (4 * o + j)).toNatClampNeg = 4 * o + j := nI_clamp (by omega)
    have vj : vp_in (nI (4 * o + j)) 32 := vp_in_nI (by omega) (by decide)
    rw [e4, co, cj]
    refine br_f (nI_ge (by omega) (by omega)) ⟨vp_in_nI ho (by decide), br_c (fun z => nm_r (nI_1 _) (ih (j + 1) el (by omega) hE (fun x => ?_))) (fun z => ⟨vj, vj, nm_e (nm_r (nI_1 _) (ih (j + 1) _ (by omega) (ca_ShU hE (by rw [ca_ns (hs _ (by omega))]; exact hs _ (by omega))) (fun x => ?_)))⟩)⟩
    · rw [h x, if_neg (fun q => q.2.2 z), if_neg (fun q => q.2.2 z)]
    · by_cases q : x = 4 * o + j
      · subst q; rw [pk_us, ca_ns (hs _ (by omega)), if_pos ⟨by omega, by omega, z⟩]
      · rw [pk_un q, h x]
        by_cases r : 4 * o ≤ x ∧ x < 4 * o + j ∧ ¬ b_lasting o = 0
        · rw [if_pos r, if_pos ⟨r.1, by omega, r.2.2⟩]
        · rw [if_neg r, if_neg (fun r' => r ⟨r'.1, by omega, r'.2.2⟩)]
def hy_uE (stamp oldStamp : Nat → Int64) (lasting oldElements elements : Nat → Int32) : Nat → Int32 := fun x => if x / 4 < 8 ∧ stamp (x / 4) = oldStamp (x / 4) ∧ ¬ lasting (x / 4) = 0 then oldElements x else elements x
def hy_uS (stamp oldStamp : Nat → Int64) (oldShared shared : Nat → Int32) : Nat → Int32 := fun p => if p < 8 ∧ stamp p = oldStamp p then oldShared p else shared p
def hy_uR (oldRoots roots : Nat → Int32) (j : Nat) : Nat → Int32 := fun r => if r < j then oldRoots r else roots r
theorem hy_undo41 {post : SY → Prop} (hs : ∀ i, i < 32 → ca_sh (b_oldElements i)) (hb : ∀ i, i < 8 → b_oldShared i = 0 ∨ b_oldShared i = 1)
    (H : post (g_limit, g_waiting, g_stack, g_locals, g_running, g_steps, g_awaited, g_answer, g_where, g_outcome, g_made, g_good, g_open, b_ops, b_bs, b_sizes, b_exported, b_stamp, b_owner, b_lengths, hy_uE b_stamp b_oldStamp b_lasting b_oldElements b_elements, b_lasting, hy_uS b_stamp b_oldStamp b_oldShared b_shared, b_roots, b_oldStamp, b_oldElements, b_oldShared, b_oldRoots, b_rows, b_nexts, b_depths, b_places, b_kinds, b_met, b_todo, b_heights)) :
    ∀ (d o : Nat) (el sh : Nat → Int32), o + d = 8 → ca_Sh el → ca_B sh → (∀ x, el x = if x / 4 < o ∧ b_stamp (x / 4) = b_oldStamp (x / 4) ∧ ¬ b_lasting (x / 4) = 0 then b_oldElements x else b_elements x) → (∀ p, sh p = if p < o ∧ b_stamp p = b_oldStamp p then b_oldShared p else b_shared p) → wY_undo_41 post g_limit g_waiting g_stack g_locals g_running g_steps g_awaited g_answer g_where g_outcome g_made g_good g_open (d + 1) (nI o) b_ops b_bs b_sizes b_exported b_stamp b_owner b_lengths el b_lasting sh b_roots b_oldStamp b_oldElements b_oldShared b_oldRoots b_rows b_nexts b_depths b_places b_kinds b_met b_todo b_heights := by
  intro d
  induction d with
  | zero =>
    intro o el sh ho hE hB h1 h2
    rw [wY_undo_41]
    have e8 : o = 8 := by omega
    subst e8
    have e1 : el = hy_uE b_stamp b_oldStamp b_lasting b_oldElements b_elements := funext h1
    have e2 : sh = hy_uS b_stamp b_oldStamp b_oldShared b_shared := funext h2
    rw [e1, e2]
    exact br_t (by decide) H
  | succ d ih =>
    intro o el sh ho hE hB h1 h2
    rw [wY_undo_41]
    dsimp only
    have co : (nI o).toNatClampNeg = o := nI_clamp (by omega)
    have vo : vp_in (nI o) 8 := vp_in_nI (by omega) (by decide)
    rw [co]
    refine br_f (nI_ge (b := 8) (by omega) (by decide)) ⟨vo, vo, br_c (fun z => ⟨vo, vo, nm_e (nm_r (pk_mul 4 o) ⟨4 + 1, ?_⟩)⟩) (fun z => nm_r (nI_1 _) (ih (o + 1) el sh (by omega) hE hB (fun x => ?_) (fun p => ?_)))⟩
    · rw [ca_nb (hb o (by omega))]
      refine hy_undo79 (el0 := el) (by omega) hs (fun el' hE' h' => ih (o + 1) el' _ (by omega) hE' (ca_BU hB (hb o (by omega))) (fun x => ?_) (fun p => ?_)) 4 0 el (by decide) hE (fun x => (if_neg (by omega)).symm)
      · rw [h' x]
        by_cases y : x / 4 = o
        · rw [y]
          by_cases w : ¬ b_lasting o = 0
          · rw [if_pos ⟨rfl, w⟩, if_pos ⟨by omega, z, w⟩]
          · rw [if_neg (fun r => w r.2), if_neg (fun r => w r.2.2), h1 x, if_neg (fun r => by rw [y] at r; omega)]
        · rw [if_neg (fun r => y r.1), h1 x]
          by_cases r : x / 4 < o ∧ b_stamp (x / 4) = b_oldStamp (x / 4) ∧ ¬ b_lasting (x / 4) = 0
          · rw [if_pos r, if_pos ⟨by omega, r.2⟩]
          · rw [if_neg r, if_neg (fun r' => r ⟨by omega, r'.2⟩)]
      · by_cases y : p = o
        · subst y; rw [pk_us, if_pos ⟨by omega, z⟩]
        · rw [pk_un y, h2 p]
          by_cases r : p < o ∧ b_stamp p = b_oldStamp p
          · rw [if_pos r, if_pos ⟨by omega, r.2⟩]
          · rw [if_neg r, if_neg (fun r' => r ⟨by omega, r'.2⟩)]
    · rw [h1 x]
      by_cases r : x / 4 < o ∧ b_stamp (x / 4) = b_oldStamp (x / 4) ∧ ¬ b_lasting (x / 4) = 0
      · rw [if_pos r, if_pos ⟨by omega, r.2⟩]
      · rw [if_neg r, if_neg (fun r' => r ⟨by
          by_cases y : x / 4 = o
          · rw [y] at r'; exact absurd r'.2.1 z
          · omega, r'.2⟩)]
    · rw [h2 p]
      by_cases r : p < o ∧ b_stamp p = b_oldStamp p
      · rw [if_pos r, if_pos ⟨by omega, r.2⟩]
      · rw [if_neg r, if_neg (fun r' => r ⟨by
          by_cases y : p = o
          · rw [y] at r'; exact absurd r'.2 z
          · omega, r'.2⟩)]
theorem hy_undo15 {post : SY → Prop} (hs : ∀ i, i < 32 → ca_sh (b_oldElements i)) (hb : ∀ i, i < 8 → b_oldShared i = 0 ∨ b_oldShared i = 1) (hE : ca_Sh b_elements) (hB : ca_B b_shared)
    (H : post (g_limit, g_waiting, g_stack, g_locals, g_running, g_steps, g_awaited, g_answer, g_where, g_outcome, g_made, g_good, g_open, b_ops, b_bs, b_sizes, b_exported, b_stamp, b_owner, b_lengths, hy_uE b_stamp b_oldStamp b_lasting b_oldElements b_elements, b_lasting, hy_uS b_stamp b_oldStamp b_oldShared b_shared, hy_uR b_oldRoots b_roots 6, b_oldStamp, b_oldElements, b_oldShared, b_oldRoots, b_rows, b_nexts, b_depths, b_places, b_kinds, b_met, b_todo, b_heights)) :
    ∀ (d j : Nat), j + d = 6 → wY_undo_15 post g_limit g_waiting g_stack g_locals g_running g_steps g_awaited g_answer g_where g_outcome g_made g_good g_open (d + 1) (nI j) b_ops b_bs b_sizes b_exported b_stamp b_owner b_lengths b_elements b_lasting b_shared (hy_uR b_oldRoots b_roots j) b_oldStamp b_oldElements b_oldShared b_oldRoots b_rows b_nexts b_depths b_places b_kinds b_met b_todo b_heights := by
  intro d
  induction d with
  | zero =>
    intro j hj
    have e6 : j = 6 := by omega
    subst e6
    rw [wY_undo_15]
    refine br_t (by decide) ⟨8 + 1, hy_undo41 hs hb H 8 0 b_elements b_shared (by decide) hE hB (fun x => (if_neg (by omega)).symm) (fun p => (if_neg (by omega)).symm)⟩
  | succ d ih =>
    intro j hj
    rw [wY_undo_15]
    have cj : (nI j).toNatClampNeg = j := nI_clamp (by omega)
    have vj : vp_in (nI j) 6 := vp_in_nI (by omega) (by decide)
    refine br_f (nI_ge (b := 6) (by omega) (by decide)) ⟨vj, vj, nm_r (e' := hy_uR b_oldRoots b_roots (j + 1)) ?_ (nm_r (nI_1 _) (ih (j + 1) (by omega)))⟩
    rw [cj]
    funext r
    by_cases z : r = j
    · subst z; rw [pk_us]; exact (if_pos (by omega)).symm
    · rw [pk_un z]; unfold hy_uR
      by_cases y : r < j
      · rw [if_pos y, if_pos (by omega)]
      · rw [if_neg y, if_neg (by omega)]
theorem hy_undoW {post : SY → Prop} (ho : ¬ g_open = 0) (hs : ∀ i, i < 32 → ca_sh (b_oldElements i)) (hb : ∀ i, i < 8 → b_oldShared i = 0 ∨ b_oldShared i = 1) (hE : ca_Sh b_elements) (hB : ca_B b_shared)
    (H : post (g_limit, g_waiting, g_stack, g_locals, g_running, g_steps, g_awaited, g_answer, g_where, g_outcome, g_made, g_good, 0, b_ops, b_bs, b_sizes, b_exported, b_stamp, b_owner, b_lengths, hy_uE b_stamp b_oldStamp b_lasting b_oldElements b_elements, b_lasting, hy_uS b_stamp b_oldStamp b_oldShared b_shared, hy_uR b_oldRoots b_roots 6, b_oldStamp, b_oldElements, b_oldShared, b_oldRoots, b_rows, b_nexts, b_depths, b_places, b_kinds, b_met, b_todo, b_heights)) : wpY_undo post (g_limit, g_waiting, g_stack, g_locals, g_running, g_steps, g_awaited, g_answer, g_where, g_outcome, g_made, g_good, g_open, b_ops, b_bs, b_sizes, b_exported, b_stamp, b_owner, b_lengths, b_elements, b_lasting, b_shared, b_roots, b_oldStamp, b_oldElements, b_oldShared, b_oldRoots, b_rows, b_nexts, b_depths, b_places, b_kinds, b_met, b_todo, b_heights) := by
  unfold wpY_undo
  have := hy_undo15 (g_open := 0) hs hb hE hB H 6 0 (by decide)
  have e0 : hy_uR b_oldRoots b_roots 0 = b_roots := funext (fun r => if_neg (by omega))
  rw [e0] at this
  exact br_f ho ⟨6 + 1, this⟩
end
end
section
/-! ===== undo on both sides, the end of a run, lockstep as one outcome ===== -/
def hx_pF (lasting element : Nat → Int32) (j : Nat) : Nat → Int32 := fun i => if i < j ∧ lasting (i / 4) = 0 then 0 else element i
theorem hx_pF0 (lasting element : Nat → Int32) : hx_pF lasting element 0 = element := funext (fun i => if_neg (by omega))
theorem hx_pFs {lasting element : Nat → Int32} {j : Nat} (h : lasting (j / 4) = 0) : upd (hx_pF lasting element j) j (vp_nar .short 0) = hx_pF lasting element (j + 1) := by
  funext i
  by_cases z : i = j
  · subst z; rw [pk_us, ca_s0v]; exact (if_pos ⟨by omega, h⟩).symm
  · rw [pk_un z]; unfold hx_pF
    by_cases y : i < j ∧ lasting (i / 4) = 0
    · rw [if_pos y, if_pos ⟨by omega, y.2⟩]
    · rw [if_neg y, if_neg (fun q => y ⟨by omega, q.2⟩)]
theorem hx_pFn {lasting element : Nat → Int32} {j : Nat} (h : ¬ lasting (j / 4) = 0) : hx_pF lasting element j = hx_pF lasting element (j + 1) := by
  funext i
  unfold hx_pF
  by_cases y : i < j ∧ lasting (i / 4) = 0
  · rw [if_pos y, if_pos ⟨by omega, y.2⟩]
  · rw [if_neg y, if_neg (fun q => y ⟨by
      by_cases z : i = j
      · rw [z] at q; exact absurd q.2 h
      · omega, q.2⟩)]
theorem hx_pFsh {lasting element : Nat → Int32} {j : Nat} (h : ca_Sh element) : ca_Sh (hx_pF lasting element j) := fun i => by
  unfold hx_pF; split
  · exact ca_shN (n := 0) (by decide)
  · exact h i
theorem hx_updI (a : Nat → Int32) (j : Nat) {x : Int32} (h : x = a j) : upd a j x = a := by
  funext i
  by_cases z : i = j
  · subst z; rw [pk_us, h]
  · rw [pk_un z]
section
variable {f_limit f_pending f_wide f_waiting f_height f_entries f_locals f_logLength f_open f_awaited f_frames f_sp f_base f_pc f_method f_steps f_status f_lastResult f_lastPlace : Int32} {a_ops a_args a_quick a_length a_exported a_known a_alive a_fresh a_lasting a_shared a_owner a_size a_element a_roots a_logCell a_logOld a_logged a_slot a_frameMethod a_framePc : Nat → Int32}
theorem hx_powerF {post : SX → Prop} (hs : ca_Sh a_element) (H : post (f_limit, f_pending, f_wide, f_waiting, f_height, f_entries, f_locals, f_logLength, f_open, -1, f_frames, f_sp, f_base, f_pc, f_method, f_steps, f_status, f_lastResult, f_lastPlace, a_ops, a_args, a_quick, a_length, a_exported, a_known, a_alive, a_fresh, a_lasting, a_shared, a_owner, a_size, hx_pF a_lasting a_element 32, a_roots, a_logCell, a_logOld, a_logged, a_slot, a_frameMethod, a_framePc)) : wpX_powerUp post (f_limit, f_pending, f_wide, f_waiting, f_height, f_entries, f_locals, f_logLength, f_open, f_awaited, f_frames, f_sp, f_base, f_pc, f_method, f_steps, f_status, f_lastResult, f_lastPlace, a_ops, a_args, a_quick, a_length, a_exported, a_known, a_alive, a_fresh, a_lasting, a_shared, a_owner, a_size, a_element, a_roots, a_logCell, a_logOld, a_logged, a_slot, a_frameMethod, a_framePc) := by
  have key : ∀ (d j : Nat), j + d = 32 → wX_powerUp_7 post f_limit f_pending f_wide f_waiting f_height f_entries f_locals f_logLength f_open (-1) f_frames f_sp f_base f_pc f_method f_steps f_status f_lastResult f_lastPlace (d + 1) (nI j) a_ops a_args a_quick a_length a_exported a_known a_alive a_fresh a_lasting a_shared a_owner a_size (hx_pF a_lasting a_element j) a_roots a_logCell a_logOld a_logged a_slot a_frameMethod a_framePc := by
    intro d
    induction d with
    | zero =>
      intro j hj
      have e : j = 32 := by omega
      subst e
      rw [wX_powerUp_7]
      exact br_t (by decide) H
    | succ d ih =>
      intro j hj
      rw [wX_powerUp_7]
      dsimp only
      have cj : (nI j).toNatClampNeg = j := nI_clamp (by omega)
      have e4 : nI j >>> ((2 : Int32) &&& 31) = nI (j / 4) := hx_shr (k := 2) (by omega) (by decide)
      have c4 : (nI (j / 4)).toNatClampNeg = j / 4 := nI_clamp (by omega)
      have vj : vp_in (nI j) 32 := vp_in_nI (by omega) (by omega)
      refine br_f (nI_ge (b := 32) (by omega) (by decide)) ?_
      rw [e4, c4, cj]
      refine ⟨vp_in_nI (by omega) (by omega), br_c (fun z => ⟨vj, nm_r (hx_pFs z) (nm_r (nI_1 _) (ih (j + 1) (by omega)))⟩) (fun z => ⟨vj, vj, nm_r (e' := hx_pF a_lasting a_element (j + 1)) ?_ (nm_r (nI_1 _) (ih (j + 1) (by omega)))⟩)⟩
      rw [hx_updI _ _ (ca_ns (hx_pFsh hs j)), hx_pFn z]
  unfold wpX_powerUp
  have := key 32 0 (by decide)
  rw [hx_pF0] at this
  exact ⟨32 + 1, this⟩
end
section
variable {g_limit g_waiting g_stack g_locals g_running g_steps g_awaited g_answer g_where g_outcome : Int32} {g_made : Int64} {g_good g_open : Int32} {b_ops b_bs b_sizes b_exported : Nat → Int32} {b_stamp : Nat → Int64} {b_owner b_lengths b_elements b_lasting b_shared b_roots : Nat → Int32} {b_oldStamp : Nat → Int64} {b_oldElements b_oldShared b_oldRoots b_rows b_nexts b_depths b_places b_kinds b_met b_todo b_heights : Nat → Int32}
theorem hy_resetF {post : SY → Prop} (H : post (g_limit, g_waiting, g_stack, g_locals, g_running, g_steps, -1, g_answer, g_where, g_outcome, g_made, g_good, g_open, b_ops, b_bs, b_sizes, b_exported, b_stamp, b_owner, b_lengths, hx_pF b_lasting b_elements 32, b_lasting, b_shared, b_roots, b_oldStamp, b_oldElements, b_oldShared, b_oldRoots, b_rows, b_nexts, b_depths, b_places, b_kinds, b_met, b_todo, b_heights)) : wpY_reset post (g_limit, g_waiting, g_stack, g_locals, g_running, g_steps, g_awaited, g_answer, g_where, g_outcome, g_made, g_good, g_open, b_ops, b_bs, b_sizes, b_exported, b_stamp, b_owner, b_lengths, b_elements, b_lasting, b_shared, b_roots, b_oldStamp, b_oldElements, b_oldShared, b_oldRoots, b_rows, b_nexts, b_depths, b_places, b_kinds, b_met, b_todo, b_heights) := by
  have key : ∀ (d j : Nat), j + d = 32 → wY_reset_7 post g_limit g_waiting g_stack g_locals g_running g_steps (-1) g_answer g_where g_outcome g_made g_good g_open (d + 1) (nI j) b_ops b_bs b_sizes b_exported b_stamp b_owner b_lengths (hx_pF b_lasting b_elements j) b_lasting b_shared b_roots b_oldStamp b_oldElements b_oldShared b_oldRoots b_rows b_nexts b_depths b_places b_kinds b_met b_todo b_heights := by
    intro d
    induction d with
    | zero =>
      intro j hj
      have e : j = 32 := by omega
      subst e
      rw [wY_reset_7]
      exact br_t (by decide) H
    | succ d ih =>
      intro j hj
      rw [wY_reset_7]
      dsimp only
      have cj : (nI j).toNatClampNeg = j := nI_clamp (by omega)
      have e4 : nI j / 4 = nI (j / 4) := pk_div (d := 4) (by omega) (by decide) (by decide)
      have c4 : (nI (j / 4)).toNatClampNeg = j / 4 := nI_clamp (by omega)
      have vj : vp_in (nI j) 32 := vp_in_nI (by omega) (by omega)
      refine br_f (nI_ge (b := 32) (by omega) (by decide)) ⟨by decide, ?_⟩
      rw [e4, c4, cj]
      refine ⟨vp_in_nI (by omega) (by omega), br_c (fun z => ⟨vj, nm_r (hx_pFs z) (nm_r (nI_1 _) (ih (j + 1) (by omega)))⟩) (fun z => nm_r (nI_1 _) ?_)⟩
      rw [hx_pFn z]
      exact ih (j + 1) (by omega)
  unfold wpY_reset
  have := key 32 0 (by decide)
  rw [hx_pF0] at this
  exact ⟨32 + 1, this⟩
end
section
variable {f_limit f_pending f_wide f_waiting f_height f_entries f_locals f_logLength f_open f_awaited f_frames f_sp f_base f_pc f_method f_steps f_status f_lastResult f_lastPlace : Int32} {a_ops a_args a_quick a_length a_exported a_known a_alive a_fresh a_lasting a_shared a_owner a_size a_element a_roots a_logCell a_logOld a_logged a_slot a_frameMethod a_framePc : Nat → Int32} {g_limit g_waiting g_stack g_locals g_running g_steps g_awaited g_answer g_where g_outcome : Int32} {g_made : Int64} {g_good g_open : Int32} {b_ops b_bs b_sizes b_exported : Nat → Int32} {b_stamp : Nat → Int64} {b_owner b_lengths b_elements b_lasting b_shared b_roots : Nat → Int32} {b_oldStamp : Nat → Int64} {b_oldElements b_oldShared b_oldRoots b_rows b_nexts b_depths b_places b_kinds b_met b_todo b_heights : Nat → Int32}
variable {π ρ : Nat → Nat} {H : Nat → Prop} {B : Nat}
theorem hm_undo (h : hm_O π ρ H B f_open f_logLength a_alive a_fresh a_lasting a_shared a_owner a_size a_element a_roots a_logCell a_logOld a_logged g_made b_stamp b_owner b_lengths b_elements b_lasting b_shared b_roots b_oldStamp b_oldElements b_oldShared b_oldRoots) :
    ∃ lg sh el ro bel bsh bro, (∀ post : SX → Prop, post (f_limit, f_pending, f_wide, f_waiting, f_height, f_entries, f_locals, lg, 0, f_awaited, f_frames, f_sp, f_base, f_pc, f_method, f_steps, f_status, f_lastResult, f_lastPlace, a_ops, a_args, a_quick, a_length, a_exported, a_known, a_alive, a_fresh, a_lasting, sh, a_owner, a_size, el, ro, a_logCell, a_logOld, a_logged, a_slot, a_frameMethod, a_framePc) → wpX_undo post (f_limit, f_pending, f_wide, f_waiting, f_height, f_entries, f_locals, f_logLength, f_open, f_awaited, f_frames, f_sp, f_base, f_pc, f_method, f_steps, f_status, f_lastResult, f_lastPlace, a_ops, a_args, a_quick, a_length, a_exported, a_known, a_alive, a_fresh, a_lasting, a_shared, a_owner, a_size, a_element, a_roots, a_logCell, a_logOld, a_logged, a_slot, a_frameMethod, a_framePc)) ∧ (∀ post : SY → Prop, post (g_limit, g_waiting, g_stack, g_locals, g_running, g_steps, g_awaited, g_answer, g_where, g_outcome, g_made, g_good, 0, b_ops, b_bs, b_sizes, b_exported, b_stamp, b_owner, b_lengths, bel, b_lasting, bsh, bro, b_oldStamp, b_oldElements, b_oldShared, b_oldRoots, b_rows, b_nexts, b_depths, b_places, b_kinds, b_met, b_todo, b_heights) → wpY_undo post (g_limit, g_waiting, g_stack, g_locals, g_running, g_steps, g_awaited, g_answer, g_where, g_outcome, g_made, g_good, f_open, b_ops, b_bs, b_sizes, b_exported, b_stamp, b_owner, b_lengths, b_elements, b_lasting, b_shared, b_roots, b_oldStamp, b_oldElements, b_oldShared, b_oldRoots, b_rows, b_nexts, b_depths, b_places, b_kinds, b_met, b_todo, b_heights)) ∧
      hm_O π ρ H B 0 lg a_alive a_fresh a_lasting sh a_owner a_size el ro a_logCell a_logOld a_logged g_made b_stamp b_owner b_lengths bel b_lasting bsh bro b_oldStamp b_oldElements b_oldShared b_oldRoots := by
  obtain ⟨hP, hO, hV, hW, hS, hT⟩ := h
  obtain ⟨mm, em, hm, hs1, hs2⟩ := hS
  have hS0 : hm_ST B g_made b_stamp 0 b_oldStamp := ⟨mm, em, hm, hs1, fun q => absurd rfl q⟩
  rcases hT with rfl | ⟨rfl, q, c, S, ⟨rfl, hq⟩, t2, t3, t4, t5, t6, t7, t8, t9, t10, t11, t12⟩
  · refine ⟨f_logLength, a_shared, a_element, a_roots, b_elements, b_shared, b_roots, fun post p => ?_, fun post p => ?_, hP, hO, hV, hW, hS0, Or.inl rfl⟩
    · unfold wpX_undo
      refine ⟨0 + 1, ?_⟩
      rw [wX_undo_0]
      exact br_t rfl p
    · unfold wpY_undo
      exact br_t rfl p
  · obtain ⟨w1, w2, w3, w4, w5, w6, w7⟩ := hW
    have hvac : ∀ x, ¬ ∃ e, q ≤ e ∧ e < q ∧ c e = x := fun x ⟨e, h1, h2, _⟩ => by omega
    have t5' : ∀ j, j < q → (c j < 32 → a_fresh (c j / 4) = 0 → a_logOld j = S (c j)) ∧ (32 ≤ c j → c j < 38 → a_logOld j = S (c j)) ∧ (38 ≤ c j → a_fresh (c j - 38) = 0 → a_logOld j = S (c j)) := fun j hj => ⟨fun a b => ((t5 j hj).1 a b).2, (t5 j hj).2.1, (t5 j hj).2.2⟩
    obtain ⟨sh, el, ro, hB, hE, uE, uR, uS, hX⟩ := hx_undo0 (f_limit := f_limit) (f_pending := f_pending) (f_wide := f_wide) (f_waiting := f_waiting) (f_height := f_height) (f_entries := f_entries) (f_locals := f_locals) (f_awaited := f_awaited) (f_frames := f_frames) (f_sp := f_sp) (f_base := f_base) (f_pc := f_pc) (f_method := f_method) (f_steps := f_steps) (f_status := f_status) (f_lastResult := f_lastResult) (f_lastPlace := f_lastPlace) (a_ops := a_ops) (a_args := a_args) (a_quick := a_quick) (a_length := a_length) (a_exported := a_exported) (a_known := a_known) (a_alive := a_alive) (a_lasting := a_lasting) (a_owner := a_owner) (a_size := a_size) (a_logged := a_logged) (a_slot := a_slot) (a_frameMethod := a_frameMethod) (a_framePc := a_framePc) hq t2 t5' q a_shared a_element a_roots (Nat.le_refl _) w3 w4
      (fun x hx => ⟨fun z => absurd z (hvac x), fun _ => rfl⟩) (fun r hr => ⟨fun z => absurd z (hvac _), fun _ => rfl⟩) (fun o ho => ⟨fun z => absurd z (hvac _), fun _ => rfl⟩)
    have lgd : ∀ x, x < 46 → ((∃ e, 0 ≤ e ∧ e < q ∧ c e = x) ↔ ¬ a_logged x = 0) := fun x hx => by
      rw [t4 x hx]
      exact ⟨fun ⟨e, _, h⟩ => ⟨e, h⟩, fun ⟨e, h⟩ => ⟨e, Nat.zero_le _, h⟩⟩
    have hro : ∀ r, r < 6 → ro r = S (32 + r) := fun r hr => by
      by_cases z : a_logged (32 + r) = 0
      · rw [(uR r hr).2 (fun q => (lgd _ (by omega)).mp q z)]; exact t7 r hr z
      · exact (uR r hr).1 ((lgd _ (by omega)).mpr z)
    refine ⟨0, sh, el, ro, hy_uE b_stamp b_oldStamp b_lasting b_oldElements b_elements, hy_uS b_stamp b_oldStamp b_oldShared b_shared, hy_uR b_oldRoots b_roots 6, fun post p => ?_, fun post p => ?_, hP, fun o ho => ?_, fun r hr => ?_, ⟨w1, w2, hB, hE, fun i => ?_, w6, fun i => ?_⟩, hS0, Or.inl rfl⟩
    · unfold wpX_undo
      exact ⟨q + 1, hX post p⟩
    · exact hy_undoW (by decide) t11 t12 w5 w7 p
    · obtain ⟨h8, ha, how, hz, hsz, hla, hsh, hel⟩ := hO o ho
      have hp8 := (hP o h8).1
      obtain ⟨tf, tn⟩ := t10 o ho
      refine ⟨h8, ha, how, hz, hsz, hla, ?_, fun i hi => ?_⟩
      · by_cases zf : a_fresh o = 0
        · obtain ⟨es, eS, _⟩ := tf zf
          have eY : hy_uS b_stamp b_oldStamp b_oldShared b_shared (π o) = b_oldShared (π o) := if_pos ⟨hp8, es⟩
          rw [eY, ← eS]
          by_cases z : a_logged (38 + o) = 0
          · rw [(uS o h8).2 (Or.inl (fun q => (lgd _ (by omega)).mp q z))]; exact t8 o h8 z zf
          · rw [(uS o h8).1 ((lgd _ (by omega)).mpr z) zf]
            rcases t12 (π o) hp8 with e | e
            · rw [eS, e]; rfl
            · rw [eS, e]; rfl
        · have eY : hy_uS b_stamp b_oldStamp b_oldShared b_shared (π o) = b_shared (π o) := if_neg (fun q => tn zf q.2)
          rw [eY, (uS o h8).2 (Or.inr zf)]; exact hsh
      · have e4 : (4 * o + i) / 4 = o := by omega
        have e4' : (4 * π o + i) / 4 = π o := by omega
        have hx32 : 4 * o + i < 32 := by omega
        by_cases zf : a_fresh o = 0
        · obtain ⟨es, _, eL⟩ := tf zf
          by_cases zl : a_lasting o = 0
          · have eY : hy_uE b_stamp b_oldStamp b_lasting b_oldElements b_elements (4 * π o + i) = b_elements (4 * π o + i) := if_neg (fun q => by
              rw [e4', ← hla] at q
              exact q.2.2 zl)
            rw [eY, (uE _ hx32).2 (Or.inl (fun q => ?_))]
            · exact hel i hi
            · obtain ⟨e, _, he, hce⟩ := q
              have := ((t5 e he).1 (by omega) (by rw [hce, e4]; exact zf)).1
              rw [hce, e4] at this
              exact this zl
          · have eY : hy_uE b_stamp b_oldStamp b_lasting b_oldElements b_elements (4 * π o + i) = b_oldElements (4 * π o + i) := if_pos (by
              rw [e4', ← hla]
              exact ⟨hp8, es, zl⟩)
            rw [eY, ← eL zl i hi]
            by_cases z : a_logged (4 * o + i) = 0
            · rw [(uE _ hx32).2 (Or.inl (fun q => (lgd _ (by omega)).mp q z))]
              exact t6 _ hx32 z (by rw [e4]; exact zf) (by rw [e4]; exact zl)
            · rw [(uE _ hx32).1 ((lgd _ (by omega)).mpr z) (by rw [e4]; exact zf), eL zl i hi]
              exact t11 _ (by omega)
        · have eY : hy_uE b_stamp b_oldStamp b_lasting b_oldElements b_elements (4 * π o + i) = b_elements (4 * π o + i) := if_neg (fun q => by
            rw [e4'] at q
            exact tn zf q.2.1)
          rw [eY, (uE _ hx32).2 (Or.inr (by rw [e4]; exact zf))]
          exact hel i hi
    · rw [hro r hr, show hy_uR b_oldRoots b_roots 6 r = b_oldRoots r from if_pos hr]
      exact t9 r hr
    · unfold hy_uE; split
      · rename_i w; exact t11 i (by omega)
      · exact w5 i
    · unfold hy_uS; split
      · rename_i w; exact t12 i w.1
      · exact w7 i
/-! ### the end of a run -/
theorem hm_end {k L m n p : Nat} {st : Int32} (hst : ¬ st = 0) (h : hm_O π ρ H B f_open f_logLength a_alive a_fresh a_lasting a_shared a_owner a_size a_element a_roots a_logCell a_logOld a_logged g_made b_stamp b_owner b_lengths b_elements b_lasting b_shared b_roots b_oldStamp b_oldElements b_oldShared b_oldRoots) (hB : B ≤ 250 * (k + 4)) (hC : hc_CD a_ops a_args a_quick a_length a_exported b_ops b_bs b_sizes b_exported) (hPd : hc_PD f_pending f_wide a_ops a_args b_bs b_sizes) (hL : 20 ≤ L) (hL' : L ≤ 250) (hm : m < 6) (hp : p < 16) (hn : n < 4) (er : b_rows n = nI m) (en : b_nexts n = nI p) :
    ∃ u' aw bel bsh bro, i_Rel (k + 4) u' (nI L, g_waiting, g_stack, g_locals, 0, g_steps, aw, 0, nI (16 * m + p), st, g_made, g_good, 0, b_ops, b_bs, b_sizes, b_exported, b_stamp, b_owner, b_lengths, bel, b_lasting, bsh, bro, b_oldStamp, b_oldElements, b_oldShared, b_oldRoots, b_rows, b_nexts, b_depths, b_places, b_kinds, b_met, b_todo, b_heights) ∧
      (∀ post : Int32 → SX → Prop, post st u' → wX_run_93 post (nI L) f_pending f_wide f_waiting f_height f_entries f_locals f_logLength f_open f_awaited f_frames f_sp f_base (nI p) (nI m) f_steps st 0 (-1) a_ops a_args a_quick a_length a_exported a_known a_alive a_fresh a_lasting a_shared a_owner a_size a_element a_roots a_logCell a_logOld a_logged a_slot a_frameMethod a_framePc) ∧
      (∀ post : SY → Prop, post (nI L, g_waiting, g_stack, g_locals, 0, g_steps, aw, 0, nI (16 * m + p), st, g_made, g_good, 0, b_ops, b_bs, b_sizes, b_exported, b_stamp, b_owner, b_lengths, bel, b_lasting, bsh, bro, b_oldStamp, b_oldElements, b_oldShared, b_oldRoots, b_rows, b_nexts, b_depths, b_places, b_kinds, b_met, b_todo, b_heights) → wpY_end post (nI L, g_waiting, g_stack, g_locals, nI (n + 1), g_steps, f_awaited, 0, g_where, g_outcome, g_made, g_good, f_open, b_ops, b_bs, b_sizes, b_exported, b_stamp, b_owner, b_lengths, b_elements, b_lasting, b_shared, b_roots, b_oldStamp, b_oldElements, b_oldShared, b_oldRoots, b_rows, b_nexts, b_depths, b_places, b_kinds, b_met, b_todo, b_heights) st) := by
  obtain ⟨lg, sh, el, ro, bel, bsh, bro, hX, hY, hO⟩ := hm_undo (f_limit := nI L) (f_pending := f_pending) (f_wide := f_wide) (f_waiting := f_waiting) (f_height := f_height) (f_entries := f_entries) (f_locals := f_locals) (f_awaited := f_awaited) (f_frames := f_frames) (f_sp := f_sp) (f_base := f_base) (f_pc := nI p) (f_method := nI m) (f_steps := f_steps) (f_status := st) (f_lastResult := 0) (f_lastPlace := nI (16 * m + p)) (a_ops := a_ops) (a_args := a_args) (a_quick := a_quick) (a_length := a_length) (a_exported := a_exported) (a_known := a_known) (a_slot := a_slot) (a_frameMethod := a_frameMethod) (a_framePc := a_framePc)
    (g_limit := nI L) (g_waiting := g_waiting) (g_stack := g_stack) (g_locals := g_locals) (g_running := nI (n + 1)) (g_steps := g_steps) (g_awaited := f_awaited) (g_answer := 0) (g_where := nI (16 * m + p)) (g_outcome := st) (g_good := g_good) (b_ops := b_ops) (b_bs := b_bs) (b_sizes := b_sizes) (b_exported := b_exported) (b_rows := b_rows) (b_nexts := b_nexts) (b_depths := b_depths) (b_places := b_places) (b_kinds := b_kinds) (b_met := b_met) (b_todo := b_todo) (b_heights := b_heights) h
  obtain ⟨hP, hOo, hV, hW, ⟨mm, em, hmm, hs1, _⟩, _⟩ := hO
  have hSt : hr_ST (250 * (k + 4)) g_made b_stamp := ⟨mm, em, by omega, hs1⟩
  have e1 : nI m >>> ((1 : Int32) &&& 31) = nI (m / 2) := hx_shr (k := 1) (by omega) (by decide)
  have e2 : nI m &&& 1 = nI (m % 2) := pk_andN (by omega) 1 (by decide)
  have ep : 32 * (nI m >>> ((1 : Int32) &&& 31)) + 16 * (nI m &&& 1) + nI p = nI (16 * m + p) := by
    rw [e1, e2, show 32 * nI (m / 2) = nI (32 * (m / 2)) from pk_mul 32 _, show 16 * nI (m % 2) = nI (16 * (m % 2)) from pk_mul 16 _, nI_add, nI_add]
    exact congrArg nI (by omega)
  have eq : 16 * nI m + nI p = nI (16 * m + p) := by rw [show 16 * nI m = nI (16 * m) from pk_mul 16 m, nI_add]
  have en1 : nI (n + 1) - 1 = nI n := nI_pred n
  have cn : (nI n).toNatClampNeg = n := nI_clamp (by omega)
  have vn : vp_in (nI n) 4 := vp_in_nI hn (by decide)
  by_cases z9 : st = 9
  · refine ⟨(nI L, f_pending, f_wide, f_waiting, f_height, f_entries, f_locals, lg, 0, -1, f_frames, f_sp, f_base, nI p, nI m, f_steps, st, 0, nI (16 * m + p), a_ops, a_args, a_quick, a_length, a_exported, a_known, a_alive, a_fresh, a_lasting, sh, a_owner, a_size, hx_pF a_lasting el 32, ro, a_logCell, a_logOld, a_logged, a_slot, a_frameMethod, a_framePc), -1, hx_pF b_lasting bel 32, bsh, bro, zz_mk ⟨⟨rfl, L, rfl, hL, hL'⟩, rfl, rfl, rfl, rfl, rfl, hC, hPd, ⟨π, ρ, H, hP, ho_pw hP hOo (fun i hi => ?_) (fun i hi => ?_), hV, hW.1, hW.2.1, hW.2.2.1, hx_pFsh hW.2.2.2.1, hx_pFsh hW.2.2.2.2.1, hW.2.2.2.2.2⟩, hSt⟩, fun post pp => ?_, fun post pp => ?_⟩
    · unfold hx_pF
      by_cases z : a_lasting (i / 4) = 0
      · rw [if_pos ⟨hi, z⟩, if_pos z]
      · rw [if_neg (fun q => z q.2), if_neg z]
    · unfold hx_pF
      by_cases z : b_lasting (i / 4) = 0
      · rw [if_pos ⟨hi, z⟩, if_pos z]
      · rw [if_neg (fun q => z q.2), if_neg z]
    · unfold wX_run_93 wX_run_128
      exact br_f hst (nm_r ep (hX _ (br_t z9 (hx_powerF hW.2.2.2.1 pp))))
    · unfold wpY_end
      refine br_f hst ?_
      rw [en1, cn, er, en, eq]
      unfold wY_end_40
      exact ⟨vn, vn, hY _ (br_t z9 (hy_resetF pp))⟩
  · refine ⟨(nI L, f_pending, f_wide, f_waiting, f_height, f_entries, f_locals, lg, 0, f_awaited, f_frames, f_sp, f_base, nI p, nI m, f_steps, st, 0, nI (16 * m + p), a_ops, a_args, a_quick, a_length, a_exported, a_known, a_alive, a_fresh, a_lasting, sh, a_owner, a_size, el, ro, a_logCell, a_logOld, a_logged, a_slot, a_frameMethod, a_framePc), f_awaited, bel, bsh, bro, zz_mk ⟨⟨rfl, L, rfl, hL, hL'⟩, rfl, rfl, rfl, rfl, rfl, hC, hPd, ⟨π, ρ, H, hP, hOo, hV, hW⟩, hSt⟩, fun post pp => ?_, fun post pp => ?_⟩
    · unfold wX_run_93 wX_run_128
      exact br_f hst (nm_r ep (hX _ (br_f z9 pp)))
    · unfold wpY_end
      refine br_f hst ?_
      rw [en1, cn, er, en, eq]
      unfold wY_end_40
      exact ⟨vn, vn, hY _ (br_f z9 pp)⟩
end
end
section
/-! ===== the end by a return; lockstep as one outcome ===== -/
section
variable {f_limit f_pending f_wide f_waiting f_height f_entries f_locals f_logLength f_open f_awaited f_frames f_sp f_base f_pc f_method f_steps f_status f_lastResult f_lastPlace : Int32} {a_ops a_args a_quick a_length a_exported a_known a_alive a_fresh a_lasting a_shared a_owner a_size a_element a_roots a_logCell a_logOld a_logged a_slot a_frameMethod a_framePc : Nat → Int32} {g_limit g_waiting g_stack g_locals g_running g_steps g_awaited g_answer g_where g_outcome : Int32} {g_made : Int64} {g_good g_open : Int32} {b_ops b_bs b_sizes b_exported : Nat → Int32} {b_stamp : Nat → Int64} {b_owner b_lengths b_elements b_lasting b_shared b_roots : Nat → Int32} {b_oldStamp : Nat → Int64} {b_oldElements b_oldShared b_oldRoots b_rows b_nexts b_depths b_places b_kinds b_met b_todo b_heights : Nat → Int32}
variable {π ρ : Nat → Nat} {H : Nat → Prop} {B : Nat}
theorem hm_end0 {k L : Nat} {v : Int32} (h : hm_O π ρ H B f_open f_logLength a_alive a_fresh a_lasting a_shared a_owner a_size a_element a_roots a_logCell a_logOld a_logged g_made b_stamp b_owner b_lengths b_elements b_lasting b_shared b_roots b_oldStamp b_oldElements b_oldShared b_oldRoots) (hB : B ≤ 250 * (k + 4)) (hC : hc_CD a_ops a_args a_quick a_length a_exported b_ops b_bs b_sizes b_exported) (hPd : hc_PD f_pending f_wide a_ops a_args b_bs b_sizes) (hL : 20 ≤ L) (hL' : L ≤ 250) :
    ∃ u' bel bsh bro, i_Rel (k + 4) u' (nI L, g_waiting, g_stack, g_locals, 0, g_steps, f_awaited, v, -1, 0, g_made, g_good, 0, b_ops, b_bs, b_sizes, b_exported, b_stamp, b_owner, b_lengths, bel, b_lasting, bsh, bro, b_oldStamp, b_oldElements, b_oldShared, b_oldRoots, b_rows, b_nexts, b_depths, b_places, b_kinds, b_met, b_todo, b_heights) ∧
      (∀ post : Int32 → SX → Prop, post 0 u' → wX_run_93 post (nI L) f_pending f_wide f_waiting f_height f_entries f_locals f_logLength f_open f_awaited f_frames f_sp f_base f_pc f_method f_steps 0 v (-1) a_ops a_args a_quick a_length a_exported a_known a_alive a_fresh a_lasting a_shared a_owner a_size a_element a_roots a_logCell a_logOld a_logged a_slot a_frameMethod a_framePc) ∧
      (∀ post : SY → Prop, post (nI L, g_waiting, g_stack, g_locals, 0, g_steps, f_awaited, v, -1, 0, g_made, g_good, 0, b_ops, b_bs, b_sizes, b_exported, b_stamp, b_owner, b_lengths, bel, b_lasting, bsh, bro, b_oldStamp, b_oldElements, b_oldShared, b_oldRoots, b_rows, b_nexts, b_depths, b_places, b_kinds, b_met, b_todo, b_heights) → wpY_giveBack post (nI L, g_waiting, g_stack, g_locals, 1, g_steps, f_awaited, 0, g_where, g_outcome, g_made, g_good, f_open, b_ops, b_bs, b_sizes, b_exported, b_stamp, b_owner, b_lengths, b_elements, b_lasting, b_shared, b_roots, b_oldStamp, b_oldElements, b_oldShared, b_oldRoots, b_rows, b_nexts, b_depths, b_places, b_kinds, b_met, b_todo, b_heights) v) := by
  obtain ⟨lg, sh, el, ro, bel, bsh, bro, hX, hY, hO⟩ := hm_undo (f_limit := nI L) (f_pending := f_pending) (f_wide := f_wide) (f_waiting := f_waiting) (f_height := f_height) (f_entries := f_entries) (f_locals := f_locals) (f_awaited := f_awaited) (f_frames := f_frames) (f_sp := f_sp) (f_base := f_base) (f_pc := f_pc) (f_method := f_method) (f_steps := f_steps) (f_status := 0) (f_lastResult := v) (f_lastPlace := -1) (a_ops := a_ops) (a_args := a_args) (a_quick := a_quick) (a_length := a_length) (a_exported := a_exported) (a_known := a_known) (a_slot := a_slot) (a_frameMethod := a_frameMethod) (a_framePc := a_framePc)
    (g_limit := nI L) (g_waiting := g_waiting) (g_stack := g_stack) (g_locals := g_locals) (g_running := 1) (g_steps := g_steps) (g_awaited := f_awaited) (g_answer := 0) (g_where := -1) (g_outcome := 0) (g_good := g_good) (b_ops := b_ops) (b_bs := b_bs) (b_sizes := b_sizes) (b_exported := b_exported) (b_rows := b_rows) (b_nexts := b_nexts) (b_depths := b_depths) (b_places := b_places) (b_kinds := b_kinds) (b_met := b_met) (b_todo := b_todo) (b_heights := b_heights) h
  obtain ⟨hP, hOo, hV, hW, ⟨mm, em, hmm, hs1, _⟩, _⟩ := hO
  have hSt : hr_ST (250 * (k + 4)) g_made b_stamp := ⟨mm, em, by omega, hs1⟩
  refine ⟨(nI L, f_pending, f_wide, f_waiting, f_height, f_entries, f_locals, lg, 0, f_awaited, f_frames, f_sp, f_base, f_pc, f_method, f_steps, 0, v, -1, a_ops, a_args, a_quick, a_length, a_exported, a_known, a_alive, a_fresh, a_lasting, sh, a_owner, a_size, el, ro, a_logCell, a_logOld, a_logged, a_slot, a_frameMethod, a_framePc), bel, bsh, bro, zz_mk ⟨⟨rfl, L, rfl, hL, hL'⟩, rfl, rfl, rfl, rfl, rfl, hC, hPd, ⟨π, ρ, H, hP, hOo, hV, hW⟩, hSt⟩, fun post pp => ?_, fun post pp => ?_⟩
  · unfold wX_run_93 wX_run_128
    exact br_t rfl (hX _ (br_f (by decide) pp))
  · unfold wpY_giveBack wpY_end
    refine br_t rfl (br_t rfl ?_)
    unfold wY_end_40
    exact hY _ (br_f (by decide) pp)
end
/-- X's and Y's loops over a state in one -/
def hl_RX (post : Int32 → SX → Prop) (n : Nat) (u : SX) : Prop := match u with
  | (f_limit, f_pending, f_wide, f_waiting, f_height, f_entries, f_locals, f_logLength, f_open, f_awaited, f_frames, f_sp, f_base, f_pc, f_method, f_steps, f_status, f_lastResult, f_lastPlace, a_ops, a_args, a_quick, a_length, a_exported, a_known, a_alive, a_fresh, a_lasting, a_shared, a_owner, a_size, a_element, a_roots, a_logCell, a_logOld, a_logged, a_slot, a_frameMethod, a_framePc) => wX_run_72 post n f_limit f_pending f_wide f_waiting f_height f_entries f_locals f_logLength f_open f_awaited f_frames f_sp f_base f_pc f_method f_steps f_status f_lastResult f_lastPlace a_ops a_args a_quick a_length a_exported a_known a_alive a_fresh a_lasting a_shared a_owner a_size a_element a_roots a_logCell a_logOld a_logged a_slot a_frameMethod a_framePc
def hl_RY (post : Int32 → SY → Prop) (n : Nat) (x : Int32) (v : SY) : Prop := match v with
  | (g_limit, g_waiting, g_stack, g_locals, g_running, g_steps, g_awaited, g_answer, g_where, g_outcome, g_made, g_good, g_open, b_ops, b_bs, b_sizes, b_exported, b_stamp, b_owner, b_lengths, b_elements, b_lasting, b_shared, b_roots, b_oldStamp, b_oldElements, b_oldShared, b_oldRoots, b_rows, b_nexts, b_depths, b_places, b_kinds, b_met, b_todo, b_heights) => wY_run_68 post n x g_limit g_waiting g_stack g_locals g_running g_steps g_awaited g_answer g_where g_outcome g_made g_good g_open b_ops b_bs b_sizes b_exported b_stamp b_owner b_lengths b_elements b_lasting b_shared b_roots b_oldStamp b_oldElements b_oldShared b_oldRoots b_rows b_nexts b_depths b_places b_kinds b_met b_todo b_heights
/-- there is one outcome of both -/
def hl_LS (k : Nat) (u : SX) (x : Nat) (v : SY) : Prop := ∃ N r u' v', i_Rel (k + 4) u' v' ∧ (∀ (post : Int32 → SX → Prop) (n : Nat), N ≤ n → post r u' → hl_RX post n u) ∧ (∀ (post : Int32 → SY → Prop) (n : Nat), N ≤ n → post r v' → hl_RY post n (nI x) v)
section
variable {f_limit f_pending f_wide f_waiting f_height f_entries f_locals f_logLength f_open f_awaited f_frames f_sp f_base f_pc f_method f_steps f_status f_lastResult f_lastPlace : Int32} {a_ops a_args a_quick a_length a_exported a_known a_alive a_fresh a_lasting a_shared a_owner a_size a_element a_roots a_logCell a_logOld a_logged a_slot a_frameMethod a_framePc : Nat → Int32} {g_limit g_waiting g_stack g_locals g_running g_steps g_awaited g_answer g_where g_outcome : Int32} {g_made : Int64} {g_good g_open : Int32} {b_ops b_bs b_sizes b_exported : Nat → Int32} {b_stamp : Nat → Int64} {b_owner b_lengths b_elements b_lasting b_shared b_roots : Nat → Int32} {b_oldStamp : Nat → Int64} {b_oldElements b_oldShared b_oldRoots b_rows b_nexts b_depths b_places b_kinds b_met b_todo b_heights : Nat → Int32}
theorem hl_Xs {k x f : Nat} {v : SY} {u1 : SX} (hf : f < 4) (hX : ∀ post : SX → Prop, post u1 → wpX_step post (f_limit, f_pending, f_wide, f_waiting, f_height, f_entries, f_locals, f_logLength, f_open, f_awaited, nI (f + 1), f_sp, f_base, f_pc, f_method, f_steps, 0, f_lastResult, f_lastPlace, a_ops, a_args, a_quick, a_length, a_exported, a_known, a_alive, a_fresh, a_lasting, a_shared, a_owner, a_size, a_element, a_roots, a_logCell, a_logOld, a_logged, a_slot, a_frameMethod, a_framePc)) (h : hl_LS k u1 x v) : hl_LS k (f_limit, f_pending, f_wide, f_waiting, f_height, f_entries, f_locals, f_logLength, f_open, f_awaited, nI (f + 1), f_sp, f_base, f_pc, f_method, f_steps, 0, f_lastResult, f_lastPlace, a_ops, a_args, a_quick, a_length, a_exported, a_known, a_alive, a_fresh, a_lasting, a_shared, a_owner, a_size, a_element, a_roots, a_logCell, a_logOld, a_logged, a_slot, a_frameMethod, a_framePc) x v := by
  obtain ⟨N, r, u', v', hR, h1, h2⟩ := h
  refine ⟨N + 1, r, u', v', hR, fun post n hn hp => ?_, fun post n hn hp => h2 post n (by omega) hp⟩
  obtain ⟨n', rfl⟩ : ∃ n', n = n' + 1 := ⟨n - 1, by omega⟩
  have hu := h1 post n' (by omega) hp
  show wX_run_72 post (n' + 1) f_limit f_pending f_wide f_waiting f_height f_entries f_locals f_logLength f_open f_awaited (nI (f + 1)) f_sp f_base f_pc f_method f_steps 0 f_lastResult f_lastPlace a_ops a_args a_quick a_length a_exported a_known a_alive a_fresh a_lasting a_shared a_owner a_size a_element a_roots a_logCell a_logOld a_logged a_slot a_frameMethod a_framePc
  rw [wX_run_72]
  refine br_f (nI_nle (by omega) (by omega)) (br_t rfl (hX _ ?_))
  obtain ⟨x1, x2, x3, x4, x5, x6, x7, x8, x9, x10, x11, x12, x13, x14, x15, x16, x17, x18, x19, x20, x21, x22, x23, x24, x25, x26, x27, x28, x29, x30, x31, x32, x33, x34, x35, x36, x37, x38, x39⟩ := u1
  exact hu
theorem hl_Ys {k x f : Nat} {u : SX} {v1 : SY} (hf : f < 4) (hx : x < 300) (hY : ∀ post : SY → Prop, post v1 → wpY_step post (g_limit, g_waiting, g_stack, g_locals, nI (f + 1), g_steps, g_awaited, g_answer, g_where, g_outcome, g_made, g_good, g_open, b_ops, b_bs, b_sizes, b_exported, b_stamp, b_owner, b_lengths, b_elements, b_lasting, b_shared, b_roots, b_oldStamp, b_oldElements, b_oldShared, b_oldRoots, b_rows, b_nexts, b_depths, b_places, b_kinds, b_met, b_todo, b_heights)) (h : hl_LS k u (x + 1) v1) : hl_LS k u x (g_limit, g_waiting, g_stack, g_locals, nI (f + 1), g_steps, g_awaited, g_answer, g_where, g_outcome, g_made, g_good, g_open, b_ops, b_bs, b_sizes, b_exported, b_stamp, b_owner, b_lengths, b_elements, b_lasting, b_shared, b_roots, b_oldStamp, b_oldElements, b_oldShared, b_oldRoots, b_rows, b_nexts, b_depths, b_places, b_kinds, b_met, b_todo, b_heights) := by
  obtain ⟨N, r, u', v', hR, h1, h2⟩ := h
  refine ⟨N + 1, r, u', v', hR, fun post n hn hp => h1 post n (by omega) hp, fun post n hn hp => ?_⟩
  obtain ⟨n', rfl⟩ : ∃ n', n = n' + 1 := ⟨n - 1, by omega⟩
  have hv := h2 post n' (by omega) hp
  show wY_run_68 post (n' + 1) (nI x) g_limit g_waiting g_stack g_locals (nI (f + 1)) g_steps g_awaited g_answer g_where g_outcome g_made g_good g_open b_ops b_bs b_sizes b_exported b_stamp b_owner b_lengths b_elements b_lasting b_shared b_roots b_oldStamp b_oldElements b_oldShared b_oldRoots b_rows b_nexts b_depths b_places b_kinds b_met b_todo b_heights
  rw [wY_run_68]
  refine br_f (nI_ge (b := 300) hx (by decide)) (br_f (nI_nle (by omega) (by omega)) (hY _ ?_))
  obtain ⟨x1, x2, x3, x4, x5, x6, x7, x8, x9, x10, x11, x12, x13, x14, x15, x16, x17, x18, x19, x20, x21, x22, x23, x24, x25, x26, x27, x28, x29, x30, x31, x32, x33, x34, x35, x36⟩ := v1
  exact nm_r (nI_1 _) hv
theorem hl_base {k x : Nat} {r : Int32} {u' : SX} (hs : ¬ f_status = 0 ∨ f_frames ≤ 0) (hX : ∀ post : Int32 → SX → Prop, post r u' → wX_run_93 post f_limit f_pending f_wide f_waiting f_height f_entries f_locals f_logLength f_open f_awaited f_frames f_sp f_base f_pc f_method f_steps f_status f_lastResult f_lastPlace a_ops a_args a_quick a_length a_exported a_known a_alive a_fresh a_lasting a_shared a_owner a_size a_element a_roots a_logCell a_logOld a_logged a_slot a_frameMethod a_framePc) (hR : i_Rel (k + 4) u' (g_limit, g_waiting, g_stack, g_locals, 0, g_steps, g_awaited, g_answer, g_where, r, g_made, g_good, g_open, b_ops, b_bs, b_sizes, b_exported, b_stamp, b_owner, b_lengths, b_elements, b_lasting, b_shared, b_roots, b_oldStamp, b_oldElements, b_oldShared, b_oldRoots, b_rows, b_nexts, b_depths, b_places, b_kinds, b_met, b_todo, b_heights)) : hl_LS k (f_limit, f_pending, f_wide, f_waiting, f_height, f_entries, f_locals, f_logLength, f_open, f_awaited, f_frames, f_sp, f_base, f_pc, f_method, f_steps, f_status, f_lastResult, f_lastPlace, a_ops, a_args, a_quick, a_length, a_exported, a_known, a_alive, a_fresh, a_lasting, a_shared, a_owner, a_size, a_element, a_roots, a_logCell, a_logOld, a_logged, a_slot, a_frameMethod, a_framePc) x (g_limit, g_waiting, g_stack, g_locals, 0, g_steps, g_awaited, g_answer, g_where, r, g_made, g_good, g_open, b_ops, b_bs, b_sizes, b_exported, b_stamp, b_owner, b_lengths, b_elements, b_lasting, b_shared, b_roots, b_oldStamp, b_oldElements, b_oldShared, b_oldRoots, b_rows, b_nexts, b_depths, b_places, b_kinds, b_met, b_todo, b_heights) := by
  refine ⟨1, r, u', _, hR, fun post n hn hp => ?_, fun post n hn hp => ?_⟩
  · obtain ⟨n', rfl⟩ : ∃ n', n = n' + 1 := ⟨n - 1, by omega⟩
    show wX_run_72 post (n' + 1) f_limit f_pending f_wide f_waiting f_height f_entries f_locals f_logLength f_open f_awaited f_frames f_sp f_base f_pc f_method f_steps f_status f_lastResult f_lastPlace a_ops a_args a_quick a_length a_exported a_known a_alive a_fresh a_lasting a_shared a_owner a_size a_element a_roots a_logCell a_logOld a_logged a_slot a_frameMethod a_framePc
    rw [wX_run_72]
    have hw := hX post hp
    rcases hs with hs | hs
    · exact br_c (fun _ => hw) (fun _ => br_f hs hw)
    · exact br_t hs hw
  · obtain ⟨n', rfl⟩ : ∃ n', n = n' + 1 := ⟨n - 1, by omega⟩
    show wY_run_68 post (n' + 1) (nI x) g_limit g_waiting g_stack g_locals 0 g_steps g_awaited g_answer g_where r g_made g_good g_open b_ops b_bs b_sizes b_exported b_stamp b_owner b_lengths b_elements b_lasting b_shared b_roots b_oldStamp b_oldElements b_oldShared b_oldRoots b_rows b_nexts b_depths b_places b_kinds b_met b_todo b_heights
    rw [wY_run_68]
    exact br_c (fun _ => hp) (fun _ => br_t (by decide) hp)
end
end
section
/-! ===== the running relation; X's steps within a frame ===== -/
def hm_Q (k L s n m p d : Nat) (kl E π ρ : Nat → Nat) (H : Nat → Prop) (pending wide logLength opn : Int32) (ops args quick length exported alive fresh lasting shared owner size element roots logCell logOld logged slot frameMethod framePc : Nat → Int32) (made : Int64) (bops bs sizes bexported : Nat → Int32) (bstamp : Nat → Int64) (bowner blengths belements blasting bshared broots : Nat → Int32) (boldStamp : Nat → Int64) (boldElements boldShared boldRoots rows nexts depths places kinds : Nat → Int32) : Prop :=
  (n < 4 ∧ s ≤ L ∧ 20 ≤ L ∧ L ≤ 250) ∧ hc_CD ops args quick length exported bops bs sizes bexported ∧ hc_PD pending wide ops args bs sizes ∧ hf_U π H ops args quick bs n slot frameMethod framePc rows nexts depths places kinds ∧ hf_T π H ops args quick bs n m p d kl E slot frameMethod rows nexts depths places kinds ∧
  hm_O π ρ H (250 * k + s) opn logLength alive fresh lasting shared owner size element roots logCell logOld logged made bstamp bowner blengths belements blasting bshared broots boldStamp boldElements boldShared boldRoots
def hm_RR (k L s : Nat) (u : SX) (v : SY) : Prop := ∀ P : SX → SY → Prop, (∀ {f_pending f_wide f_waiting f_height f_entries f_locals f_logLength f_open f_awaited : Int32} {a_ops a_args a_quick a_length a_exported a_known a_alive a_fresh a_lasting a_shared a_owner a_size a_element a_roots a_logCell a_logOld a_logged a_slot a_frameMethod a_framePc : Nat → Int32} {g_waiting g_stack g_locals g_where g_outcome : Int32} {g_made : Int64} {g_good : Int32} {b_ops b_bs b_sizes b_exported : Nat → Int32} {b_stamp : Nat → Int64} {b_owner b_lengths b_elements b_lasting b_shared b_roots : Nat → Int32} {b_oldStamp : Nat → Int64} {b_oldElements b_oldShared b_oldRoots b_rows b_nexts b_depths b_places b_kinds b_met b_todo b_heights : Nat → Int32} (n m p d : Nat) (kl E π ρ : Nat → Nat) (H : Nat → Prop), (hm_Q k L s n m p d kl E π ρ H f_pending f_wide f_logLength f_open a_ops a_args a_quick a_length a_exported a_alive a_fresh a_lasting a_shared a_owner a_size a_element a_roots a_logCell a_logOld a_logged a_slot a_frameMethod a_framePc g_made b_ops b_bs b_sizes b_exported b_stamp b_owner b_lengths b_elements b_lasting b_shared b_roots b_oldStamp b_oldElements b_oldShared b_oldRoots b_rows b_nexts b_depths b_places b_kinds) → P (nI L, f_pending, f_wide, f_waiting, f_height, f_entries, f_locals, f_logLength, f_open, f_awaited, nI (n + 1), nI (6 * n + 2 + d), nI (6 * n), nI p, nI m, nI s, 0, 0, -1, a_ops, a_args, a_quick, a_length, a_exported, a_known, a_alive, a_fresh, a_lasting, a_shared, a_owner, a_size, a_element, a_roots, a_logCell, a_logOld, a_logged, a_slot, a_frameMethod, a_framePc) (nI L, g_waiting, g_stack, g_locals, nI (n + 1), nI s, f_awaited, 0, g_where, g_outcome, g_made, g_good, f_open, b_ops, b_bs, b_sizes, b_exported, b_stamp, b_owner, b_lengths, b_elements, b_lasting, b_shared, b_roots, b_oldStamp, b_oldElements, b_oldShared, b_oldRoots, b_rows, b_nexts, b_depths, b_places, b_kinds, b_met, b_todo, b_heights)) → P u v
theorem hm_mk {f_pending f_wide f_waiting f_height f_entries f_locals f_logLength f_open f_awaited : Int32} {a_ops a_args a_quick a_length a_exported a_known a_alive a_fresh a_lasting a_shared a_owner a_size a_element a_roots a_logCell a_logOld a_logged a_slot a_frameMethod a_framePc : Nat → Int32} {g_waiting g_stack g_locals g_where g_outcome : Int32} {g_made : Int64} {g_good : Int32} {b_ops b_bs b_sizes b_exported : Nat → Int32} {b_stamp : Nat → Int64} {b_owner b_lengths b_elements b_lasting b_shared b_roots : Nat → Int32} {b_oldStamp : Nat → Int64} {b_oldElements b_oldShared b_oldRoots b_rows b_nexts b_depths b_places b_kinds b_met b_todo b_heights : Nat → Int32} {k L s n m p d : Nat} {kl E π ρ : Nat → Nat} {H : Nat → Prop} (h : (hm_Q k L s n m p d kl E π ρ H f_pending f_wide f_logLength f_open a_ops a_args a_quick a_length a_exported a_alive a_fresh a_lasting a_shared a_owner a_size a_element a_roots a_logCell a_logOld a_logged a_slot a_frameMethod a_framePc g_made b_ops b_bs b_sizes b_exported b_stamp b_owner b_lengths b_elements b_lasting b_shared b_roots b_oldStamp b_oldElements b_oldShared b_oldRoots b_rows b_nexts b_depths b_places b_kinds)) : hm_RR k L s (nI L, f_pending, f_wide, f_waiting, f_height, f_entries, f_locals, f_logLength, f_open, f_awaited, nI (n + 1), nI (6 * n + 2 + d), nI (6 * n), nI p, nI m, nI s, 0, 0, -1, a_ops, a_args, a_quick, a_length, a_exported, a_known, a_alive, a_fresh, a_lasting, a_shared, a_owner, a_size, a_element, a_roots, a_logCell, a_logOld, a_logged, a_slot, a_frameMethod, a_framePc) (nI L, g_waiting, g_stack, g_locals, nI (n + 1), nI s, f_awaited, 0, g_where, g_outcome, g_made, g_good, f_open, b_ops, b_bs, b_sizes, b_exported, b_stamp, b_owner, b_lengths, b_elements, b_lasting, b_shared, b_roots, b_oldStamp, b_oldElements, b_oldShared, b_oldRoots, b_rows, b_nexts, b_depths, b_places, b_kinds, b_met, b_todo, b_heights) := fun P hP => hP n m p d kl E π ρ H h
/-- the result of an arithmetic instruction -/
def hx_ar (op : Nat) (x y : Int32) : Int32 := if op = 3 then (x + y).toInt16.toInt32 else if op = 4 then (x - y).toInt16.toInt32 else if op = 5 then (x * y).toInt16.toInt32 else if y ≤ x then 0 else 1
theorem hx_ar_sh (op : Nat) (x y : Int32) : ca_sh (hx_ar op x y) := by
  unfold hx_ar
  repeat' split
  · exact ca_sh16 _
  · exact ca_sh16 _
  · exact ca_sh16 _
  · exact ca_shN (n := 0) (by decide)
  · exact ca_shN (n := 1) (by decide)
section
variable {f_limit f_pending f_wide f_waiting f_height f_entries f_locals f_logLength f_open f_awaited f_frames f_sp f_base f_pc f_method f_steps f_status f_lastResult f_lastPlace : Int32} {a_ops a_args a_quick a_length a_exported a_known a_alive a_fresh a_lasting a_shared a_owner a_size a_element a_roots a_logCell a_logOld a_logged a_slot a_frameMethod a_framePc : Nat → Int32}
variable {L s n m p d : Nat} {post : SX → Prop}
/-- the way to the instruction: H is asked where the walk stands behind the two reads -/
theorem hx_i {q b : Int32} (hm : m < 6) (hp : p < 16) (hL : L ≤ 250) (hs : s < L) (eq : a_quick (16 * m + p) = q) (ea : a_args (16 * m + p) = b)
    (H : ((12 ≤ q → (((19 ≤ q → (((25 ≤ q → (wpX_quickened (fun u => match u with | (f_limit, f_pending, f_wide, f_waiting, f_height, f_entries, f_locals, f_logLength, f_open, f_awaited, f_frames, f_sp, f_base, f_pc, f_method, f_steps, f_status, f_lastResult, f_lastPlace, a_ops, a_args, a_quick, a_length, a_exported, a_known, a_alive, a_fresh, a_lasting, a_shared, a_owner, a_size, a_element, a_roots, a_logCell, a_logOld, a_logged, a_slot, a_frameMethod, a_framePc) => (post (f_limit, f_pending, f_wide, f_waiting, f_height, f_entries, f_locals, f_logLength, f_open, f_awaited, f_frames, f_sp, f_base, f_pc, f_method, f_steps, f_status, f_lastResult, f_lastPlace, a_ops, a_args, a_quick, a_length, a_exported, a_known, a_alive, a_fresh, a_lasting, a_shared, a_owner, a_size, a_element, a_roots, a_logCell, a_logOld, a_logged, a_slot, a_frameMethod, a_framePc))) (nI L, f_pending, f_wide, f_waiting, f_height, f_entries, f_locals, f_logLength, f_open, f_awaited, nI (n + 1), nI (6 * n + 2 + d), nI (6 * n), nI p, nI m, nI (s + 1), 0, 0, -1, a_ops, a_args, a_quick, a_length, a_exported, a_known, a_alive, a_fresh, a_lasting, a_shared, a_owner, a_size, a_element, a_roots, a_logCell, a_logOld, a_logged, a_slot, a_frameMethod, a_framePc) q b)) ∧ (¬ 25 ≤ q → (wpX_control (fun u => match u with | (f_limit, f_pending, f_wide, f_waiting, f_height, f_entries, f_locals, f_logLength, f_open, f_awaited, f_frames, f_sp, f_base, f_pc, f_method, f_steps, f_status, f_lastResult, f_lastPlace, a_ops, a_args, a_quick, a_length, a_exported, a_known, a_alive, a_fresh, a_lasting, a_shared, a_owner, a_size, a_element, a_roots, a_logCell, a_logOld, a_logged, a_slot, a_frameMethod, a_framePc) => (post (f_limit, f_pending, f_wide, f_waiting, f_height, f_entries, f_locals, f_logLength, f_open, f_awaited, f_frames, f_sp, f_base, f_pc, f_method, f_steps, f_status, f_lastResult, f_lastPlace, a_ops, a_args, a_quick, a_length, a_exported, a_known, a_alive, a_fresh, a_lasting, a_shared, a_owner, a_size, a_element, a_roots, a_logCell, a_logOld, a_logged, a_slot, a_frameMethod, a_framePc))) (nI L, f_pending, f_wide, f_waiting, f_height, f_entries, f_locals, f_logLength, f_open, f_awaited, nI (n + 1), nI (6 * n + 2 + d), nI (6 * n), nI p, nI m, nI (s + 1), 0, 0, -1, a_ops, a_args, a_quick, a_length, a_exported, a_known, a_alive, a_fresh, a_lasting, a_shared, a_owner, a_size, a_element, a_roots, a_logCell, a_logOld, a_logged, a_slot, a_frameMethod, a_framePc) q))))) ∧ (¬ 19 ≤ q → (wpX_memory (fun u => match u with | (f_limit, f_pending, f_wide, f_waiting, f_height, f_entries, f_locals, f_logLength, f_open, f_awaited, f_frames, f_sp, f_base, f_pc, f_method, f_steps, f_status, f_lastResult, f_lastPlace, a_ops, a_args, a_quick, a_length, a_exported, a_known, a_alive, a_fresh, a_lasting, a_shared, a_owner, a_size, a_element, a_roots, a_logCell, a_logOld, a_logged, a_slot, a_frameMethod, a_framePc) => (post (f_limit, f_pending, f_wide, f_waiting, f_height, f_entries, f_locals, f_logLength, f_open, f_awaited, f_frames, f_sp, f_base, f_pc, f_method, f_steps, f_status, f_lastResult, f_lastPlace, a_ops, a_args, a_quick, a_length, a_exported, a_known, a_alive, a_fresh, a_lasting, a_shared, a_owner, a_size, a_element, a_roots, a_logCell, a_logOld, a_logged, a_slot, a_frameMethod, a_framePc))) (nI L, f_pending, f_wide, f_waiting, f_height, f_entries, f_locals, f_logLength, f_open, f_awaited, nI (n + 1), nI (6 * n + 2 + d), nI (6 * n), nI p, nI m, nI (s + 1), 0, 0, -1, a_ops, a_args, a_quick, a_length, a_exported, a_known, a_alive, a_fresh, a_lasting, a_shared, a_owner, a_size, a_element, a_roots, a_logCell, a_logOld, a_logged, a_slot, a_frameMethod, a_framePc) q b))))) ∧ (¬ 12 ≤ q → (wpX_simple (fun u => match u with | (f_limit, f_pending, f_wide, f_waiting, f_height, f_entries, f_locals, f_logLength, f_open, f_awaited, f_frames, f_sp, f_base, f_pc, f_method, f_steps, f_status, f_lastResult, f_lastPlace, a_ops, a_args, a_quick, a_length, a_exported, a_known, a_alive, a_fresh, a_lasting, a_shared, a_owner, a_size, a_element, a_roots, a_logCell, a_logOld, a_logged, a_slot, a_frameMethod, a_framePc) => (post (f_limit, f_pending, f_wide, f_waiting, f_height, f_entries, f_locals, f_logLength, f_open, f_awaited, f_frames, f_sp, f_base, f_pc, f_method, f_steps, f_status, f_lastResult, f_lastPlace, a_ops, a_args, a_quick, a_length, a_exported, a_known, a_alive, a_fresh, a_lasting, a_shared, a_owner, a_size, a_element, a_roots, a_logCell, a_logOld, a_logged, a_slot, a_frameMethod, a_framePc))) (nI L, f_pending, f_wide, f_waiting, f_height, f_entries, f_locals, f_logLength, f_open, f_awaited, nI (n + 1), nI (6 * n + 2 + d), nI (6 * n), nI p, nI m, nI (s + 1), 0, 0, -1, a_ops, a_args, a_quick, a_length, a_exported, a_known, a_alive, a_fresh, a_lasting, a_shared, a_owner, a_size, a_element, a_roots, a_logCell, a_logOld, a_logged, a_slot, a_frameMethod, a_framePc) q b)))) : wpX_step post (nI L, f_pending, f_wide, f_waiting, f_height, f_entries, f_locals, f_logLength, f_open, f_awaited, nI (n + 1), nI (6 * n + 2 + d), nI (6 * n), nI p, nI m, nI s, 0, 0, -1, a_ops, a_args, a_quick, a_length, a_exported, a_known, a_alive, a_fresh, a_lasting, a_shared, a_owner, a_size, a_element, a_roots, a_logCell, a_logOld, a_logged, a_slot, a_frameMethod, a_framePc) := by
  have e16 : 16 * nI m + nI p = nI (16 * m + p) := by rw [show 16 * nI m = nI (16 * m) from pk_mul 16 m, nI_add]
  have c16 : (nI (16 * m + p)).toNatClampNeg = 16 * m + p := nI_clamp (by omega)
  unfold wpX_step
  refine br_f (fun e => ?_) (nm_r (nI_1 _) (nm_r e16 ⟨vp_in_nI (by omega) (by decide), nm_r (e' := q) (by rw [c16]; exact eq) ⟨vp_in_nI (by omega) (by decide), nm_r (e' := b) (by rw [c16]; exact ea) H⟩⟩))
  have := (nI_eq (by omega) (by omega)).mp e
  omega
end
end
section
/-! ===== X: instructions within a frame ===== -/
section
variable {f_limit f_pending f_wide f_waiting f_height f_entries f_locals f_logLength f_open f_awaited f_frames f_sp f_base f_pc f_method f_steps f_status f_lastResult f_lastPlace : Int32} {a_ops a_args a_quick a_length a_exported a_known a_alive a_fresh a_lasting a_shared a_owner a_size a_element a_roots a_logCell a_logOld a_logged a_slot a_frameMethod a_framePc : Nat → Int32}
variable {L s n m p d e : Nat} {P : SX → Prop}
theorem hx_s0 {b : Int32} (hn : n < 4) (hd : d < 4) (H : P (nI L, f_pending, f_wide, f_waiting, f_height, f_entries, f_locals, f_logLength, f_open, f_awaited, nI (n + 1), nI (6 * n + 2 + (d + 1)), nI (6 * n), nI (p + 1), nI m, nI s, 0, 0, -1, a_ops, a_args, a_quick, a_length, a_exported, a_known, a_alive, a_fresh, a_lasting, a_shared, a_owner, a_size, a_element, a_roots, a_logCell, a_logOld, a_logged, upd a_slot (6 * n + 2 + d) b, a_frameMethod, a_framePc)) : wpX_simple P (nI L, f_pending, f_wide, f_waiting, f_height, f_entries, f_locals, f_logLength, f_open, f_awaited, nI (n + 1), nI (6 * n + 2 + d), nI (6 * n), nI p, nI m, nI s, 0, 0, -1, a_ops, a_args, a_quick, a_length, a_exported, a_known, a_alive, a_fresh, a_lasting, a_shared, a_owner, a_size, a_element, a_roots, a_logCell, a_logOld, a_logged, a_slot, a_frameMethod, a_framePc) (nI 0) b := by
  have cs : (nI (6 * n + 2 + d)).toNatClampNeg = 6 * n + 2 + d := nI_clamp (by omega)
  unfold wpX_simple
  refine nm_r (nI_1 _) (br_f (by decide) (br_f (by decide) (br_t (by decide) ?_)))
  rw [cs]
  unfold wX_simple_286
  exact nm_r (nI_1 _) ⟨vp_in_nI (by omega) (by decide), nm_e (br_t rfl H)⟩
theorem hx_s1 {b : Nat} (hn : n < 4) (hd : d < 4) (hb : b < 2) (H : P (nI L, f_pending, f_wide, f_waiting, f_height, f_entries, f_locals, f_logLength, f_open, f_awaited, nI (n + 1), nI (6 * n + 2 + (d + 1)), nI (6 * n), nI (p + 1), nI m, nI s, 0, 0, -1, a_ops, a_args, a_quick, a_length, a_exported, a_known, a_alive, a_fresh, a_lasting, a_shared, a_owner, a_size, a_element, a_roots, a_logCell, a_logOld, a_logged, upd a_slot (6 * n + 2 + d) (a_slot (6 * n + b)), a_frameMethod, a_framePc)) : wpX_simple P (nI L, f_pending, f_wide, f_waiting, f_height, f_entries, f_locals, f_logLength, f_open, f_awaited, nI (n + 1), nI (6 * n + 2 + d), nI (6 * n), nI p, nI m, nI s, 0, 0, -1, a_ops, a_args, a_quick, a_length, a_exported, a_known, a_alive, a_fresh, a_lasting, a_shared, a_owner, a_size, a_element, a_roots, a_logCell, a_logOld, a_logged, a_slot, a_frameMethod, a_framePc) (nI 1) (nI b) := by
  have cs : (nI (6 * n + 2 + d)).toNatClampNeg = 6 * n + 2 + d := nI_clamp (by omega)
  have cb : (nI (6 * n + b)).toNatClampNeg = 6 * n + b := nI_clamp (by omega)
  unfold wpX_simple
  refine nm_r (nI_1 _) (br_f (by decide) (br_f (by decide) (br_f (by decide) (br_t (by decide) ?_))))
  rw [nI_add, cs, cb]
  unfold wX_simple_286
  exact nm_r (nI_1 _) ⟨vp_in_nI (by omega) (by decide), vp_in_nI (by omega) (by decide), nm_e (br_t rfl H)⟩
theorem hx_s2 {b : Nat} (hn : n < 4) (he : e < 4) (hb : b < 2) (H : P (nI L, f_pending, f_wide, f_waiting, f_height, f_entries, f_locals, f_logLength, f_open, f_awaited, nI (n + 1), nI (6 * n + 2 + e), nI (6 * n), nI (p + 1), nI m, nI s, 0, 0, -1, a_ops, a_args, a_quick, a_length, a_exported, a_known, a_alive, a_fresh, a_lasting, a_shared, a_owner, a_size, a_element, a_roots, a_logCell, a_logOld, a_logged, upd a_slot (6 * n + b) (a_slot (6 * n + 2 + e)), a_frameMethod, a_framePc)) : wpX_simple P (nI L, f_pending, f_wide, f_waiting, f_height, f_entries, f_locals, f_logLength, f_open, f_awaited, nI (n + 1), nI (6 * n + 2 + (e + 1)), nI (6 * n), nI p, nI m, nI s, 0, 0, -1, a_ops, a_args, a_quick, a_length, a_exported, a_known, a_alive, a_fresh, a_lasting, a_shared, a_owner, a_size, a_element, a_roots, a_logCell, a_logOld, a_logged, a_slot, a_frameMethod, a_framePc) (nI 2) (nI b) := by
  have es : nI (6 * n + 2 + (e + 1)) - 1 = nI (6 * n + 2 + e) := nI_pred _
  have cs : (nI (6 * n + 2 + e)).toNatClampNeg = 6 * n + 2 + e := nI_clamp (by omega)
  have cb : (nI (6 * n + b)).toNatClampNeg = 6 * n + b := nI_clamp (by omega)
  unfold wpX_simple
  refine nm_r (nI_1 _) (br_f (by decide) (br_f (by decide) (br_f (by decide) (br_f (by decide) (br_t (by decide) ?_)))))
  rw [nI_add, es, cs, cb]
  unfold wX_simple_286
  exact nm_e ⟨vp_in_nI (by omega) (by decide), vp_in_nI (by omega) (by decide), nm_e (br_t rfl H)⟩
theorem hx_bin {op : Nat} (hn : n < 4) (he : e < 3) (ho : 3 ≤ op) (ho' : op ≤ 6) (H : P (nI L, f_pending, f_wide, f_waiting, f_height, f_entries, f_locals, f_logLength, f_open, f_awaited, nI (n + 1), nI (6 * n + 2 + (e + 1)), nI (6 * n), nI p, nI m, nI s, 0, 0, -1, a_ops, a_args, a_quick, a_length, a_exported, a_known, a_alive, a_fresh, a_lasting, a_shared, a_owner, a_size, a_element, a_roots, a_logCell, a_logOld, a_logged, upd a_slot (6 * n + 2 + e) (hx_ar op (a_slot (6 * n + 2 + e)) (a_slot (6 * n + 2 + (e + 1)))), a_frameMethod, a_framePc)) : wpX_binary P (nI L, f_pending, f_wide, f_waiting, f_height, f_entries, f_locals, f_logLength, f_open, f_awaited, nI (n + 1), nI (6 * n + 2 + (e + 2)), nI (6 * n), nI p, nI m, nI s, 0, 0, -1, a_ops, a_args, a_quick, a_length, a_exported, a_known, a_alive, a_fresh, a_lasting, a_shared, a_owner, a_size, a_element, a_roots, a_logCell, a_logOld, a_logged, a_slot, a_frameMethod, a_framePc) (nI op) := by
  have es : nI (6 * n + 2 + (e + 2)) - 1 = nI (6 * n + 2 + (e + 1)) := nI_pred _
  have es' : nI (6 * n + 2 + (e + 1)) - 1 = nI (6 * n + 2 + e) := nI_pred _
  have cs : (nI (6 * n + 2 + e)).toNatClampNeg = 6 * n + 2 + e := nI_clamp (by omega)
  have cs' : (nI (6 * n + 2 + (e + 1))).toNatClampNeg = 6 * n + 2 + (e + 1) := nI_clamp (by omega)
  have vs : vp_in (nI (6 * n + 2 + e)) 24 := vp_in_nI (by omega) (by decide)
  have vs' : vp_in (nI (6 * n + 2 + (e + 1))) 24 := vp_in_nI (by omega) (by decide)
  unfold wpX_binary
  refine nm_r es ⟨by rw [es]; exact vs', nm_r (e' := a_slot (6 * n + 2 + (e + 1))) (by rw [es, cs']) ⟨by rw [es']; exact vs, nm_r (e' := a_slot (6 * n + 2 + e)) (by rw [es', cs]) ?_⟩⟩
  rw [es', cs]
  have h4 : op = 3 ∨ op = 4 ∨ op = 5 ∨ op = 6 := by omega
  rcases h4 with rfl | rfl | rfl | rfl
  · refine br_f (by decide) (br_f (by decide) (br_t (by decide) ?_))
    exact ⟨vs, nm_e H⟩
  · refine br_f (by decide) (br_f (by decide) (br_f (by decide) (br_t (by decide) ?_)))
    exact ⟨vs, nm_e H⟩
  · refine br_f (by decide) (br_f (by decide) (br_f (by decide) (br_f (by decide) (br_t (by decide) ?_))))
    exact ⟨vs, nm_e H⟩
  · refine br_f (by decide) (br_t (by decide) ?_)
    have H' : P (nI L, f_pending, f_wide, f_waiting, f_height, f_entries, f_locals, f_logLength, f_open, f_awaited, nI (n + 1), nI (6 * n + 2 + (e + 1)), nI (6 * n), nI p, nI m, nI s, 0, 0, -1, a_ops, a_args, a_quick, a_length, a_exported, a_known, a_alive, a_fresh, a_lasting, a_shared, a_owner, a_size, a_element, a_roots, a_logCell, a_logOld, a_logged, upd a_slot (6 * n + 2 + e) (if a_slot (6 * n + 2 + (e + 1)) ≤ a_slot (6 * n + 2 + e) then 0 else 1), a_frameMethod, a_framePc) := H
    refine br_c (fun z => ⟨vs, nm_e ?_⟩) (fun z => ⟨vs, nm_e ?_⟩)
    · rw [if_pos z] at H'; exact H'
    · rw [if_neg z] at H'; exact H'
theorem hx_sB {op : Nat} {b : Int32} (hn : n < 4) (he : e < 3) (ho : 3 ≤ op) (ho' : op ≤ 6) (H : P (nI L, f_pending, f_wide, f_waiting, f_height, f_entries, f_locals, f_logLength, f_open, f_awaited, nI (n + 1), nI (6 * n + 2 + (e + 1)), nI (6 * n), nI (p + 1), nI m, nI s, 0, 0, -1, a_ops, a_args, a_quick, a_length, a_exported, a_known, a_alive, a_fresh, a_lasting, a_shared, a_owner, a_size, a_element, a_roots, a_logCell, a_logOld, a_logged, upd a_slot (6 * n + 2 + e) (hx_ar op (a_slot (6 * n + 2 + e)) (a_slot (6 * n + 2 + (e + 1)))), a_frameMethod, a_framePc)) : wpX_simple P (nI L, f_pending, f_wide, f_waiting, f_height, f_entries, f_locals, f_logLength, f_open, f_awaited, nI (n + 1), nI (6 * n + 2 + (e + 2)), nI (6 * n), nI p, nI m, nI s, 0, 0, -1, a_ops, a_args, a_quick, a_length, a_exported, a_known, a_alive, a_fresh, a_lasting, a_shared, a_owner, a_size, a_element, a_roots, a_logCell, a_logOld, a_logged, a_slot, a_frameMethod, a_framePc) (nI op) b := by
  have key : wX_simple_148 P (nI op) (nI L) f_pending f_wide f_waiting f_height f_entries f_locals f_logLength f_open f_awaited (nI (n + 1)) (nI (6 * n + 2 + (e + 2))) (nI (6 * n)) (nI (p + 1)) (nI m) (nI s) 0 0 (-1) a_ops a_args a_quick a_length a_exported a_known a_alive a_fresh a_lasting a_shared a_owner a_size a_element a_roots a_logCell a_logOld a_logged a_slot a_frameMethod a_framePc := by
    unfold wX_simple_148 wX_simple_286
    exact hx_bin (p := p + 1) hn he ho ho' (br_t rfl H)
  unfold wpX_simple
  have h4 : op = 3 ∨ op = 4 ∨ op = 5 ∨ op = 6 := by omega
  rcases h4 with rfl | rfl | rfl | rfl
  · refine nm_r (nI_1 _) (br_f (by decide) (br_f (by decide) (br_f (by decide) (br_f (by decide) (br_f (by decide) (br_t (by decide) ?_))))))
    exact key
  · refine nm_r (nI_1 _) (br_f (by decide) (br_f (by decide) (br_f (by decide) (br_f (by decide) (br_f (by decide) (br_f (by decide) (br_t (by decide) ?_)))))))
    exact key
  · refine nm_r (nI_1 _) (br_f (by decide) (br_f (by decide) (br_f (by decide) (br_f (by decide) (br_f (by decide) (br_f (by decide) (br_f (by decide) (br_t (by decide) ?_))))))))
    exact key
  · refine nm_r (nI_1 _) (br_f (by decide) (br_f (by decide) (br_f (by decide) (br_f (by decide) (br_f (by decide) (br_f (by decide) (br_f (by decide) (br_f (by decide) (br_t (by decide) ?_)))))))))
    exact key
theorem hx_s7 {b : Nat} (H : P (nI L, f_pending, f_wide, f_waiting, f_height, f_entries, f_locals, f_logLength, f_open, f_awaited, nI (n + 1), nI (6 * n + 2 + d), nI (6 * n), nI b, nI m, nI s, 0, 0, -1, a_ops, a_args, a_quick, a_length, a_exported, a_known, a_alive, a_fresh, a_lasting, a_shared, a_owner, a_size, a_element, a_roots, a_logCell, a_logOld, a_logged, a_slot, a_frameMethod, a_framePc)) : wpX_simple P (nI L, f_pending, f_wide, f_waiting, f_height, f_entries, f_locals, f_logLength, f_open, f_awaited, nI (n + 1), nI (6 * n + 2 + d), nI (6 * n), nI p, nI m, nI s, 0, 0, -1, a_ops, a_args, a_quick, a_length, a_exported, a_known, a_alive, a_fresh, a_lasting, a_shared, a_owner, a_size, a_element, a_roots, a_logCell, a_logOld, a_logged, a_slot, a_frameMethod, a_framePc) (nI 7) (nI b) := by
  unfold wpX_simple
  refine nm_r (nI_1 _) (br_f (by decide) (br_f (by decide) (br_f (by decide) (br_f (by decide) (br_f (by decide) (br_f (by decide) (br_f (by decide) (br_f (by decide) (br_f (by decide) (br_t (by decide) ?_))))))))))
  unfold wX_simple_286
  exact br_t rfl H
theorem hx_s8 {b : Nat} (hn : n < 4) (he : e < 4) (H1 : a_slot (6 * n + 2 + e) = 0 → P (nI L, f_pending, f_wide, f_waiting, f_height, f_entries, f_locals, f_logLength, f_open, f_awaited, nI (n + 1), nI (6 * n + 2 + e), nI (6 * n), nI b, nI m, nI s, 0, 0, -1, a_ops, a_args, a_quick, a_length, a_exported, a_known, a_alive, a_fresh, a_lasting, a_shared, a_owner, a_size, a_element, a_roots, a_logCell, a_logOld, a_logged, a_slot, a_frameMethod, a_framePc)) (H0 : ¬ a_slot (6 * n + 2 + e) = 0 → P (nI L, f_pending, f_wide, f_waiting, f_height, f_entries, f_locals, f_logLength, f_open, f_awaited, nI (n + 1), nI (6 * n + 2 + e), nI (6 * n), nI (p + 1), nI m, nI s, 0, 0, -1, a_ops, a_args, a_quick, a_length, a_exported, a_known, a_alive, a_fresh, a_lasting, a_shared, a_owner, a_size, a_element, a_roots, a_logCell, a_logOld, a_logged, a_slot, a_frameMethod, a_framePc)) : wpX_simple P (nI L, f_pending, f_wide, f_waiting, f_height, f_entries, f_locals, f_logLength, f_open, f_awaited, nI (n + 1), nI (6 * n + 2 + (e + 1)), nI (6 * n), nI p, nI m, nI s, 0, 0, -1, a_ops, a_args, a_quick, a_length, a_exported, a_known, a_alive, a_fresh, a_lasting, a_shared, a_owner, a_size, a_element, a_roots, a_logCell, a_logOld, a_logged, a_slot, a_frameMethod, a_framePc) (nI 8) (nI b) := by
  have es : nI (6 * n + 2 + (e + 1)) - 1 = nI (6 * n + 2 + e) := nI_pred _
  have cs : (nI (6 * n + 2 + e)).toNatClampNeg = 6 * n + 2 + e := nI_clamp (by omega)
  unfold wpX_simple
  refine nm_r (nI_1 _) (br_f (by decide) (br_f (by decide) (br_f (by decide) (br_f (by decide) (br_f (by decide) (br_f (by decide) (br_f (by decide) (br_f (by decide) (br_f (by decide) (br_f (by decide) (br_t (by decide) ?_)))))))))))
  rw [es, cs]
  unfold wX_simple_286
  exact nm_e ⟨vp_in_nI (by omega) (by decide), br_c (fun z => br_t rfl (H1 z)) (fun z => br_t rfl (H0 z))⟩
theorem hx_ri {m b : Nat} (hm : m < 6) (hb : b < 2) : ((nI m >>> ((1 : Int32) &&& 31)) <<< ((1 : Int32) &&& 31)) ||| nI b = nI (2 * (m / 2) + b) := by
  rw [show nI m >>> ((1 : Int32) &&& 31) = nI (m / 2) from hx_shr (k := 1) (by omega) (by decide)]
  exact hy_sh (m / 2) b (by omega) hb
theorem hx_s9 {b : Nat} (hn : n < 4) (hd : d < 4) (hm : m < 6) (hb : b < 2) (H : P (nI L, f_pending, f_wide, f_waiting, f_height, f_entries, f_locals, f_logLength, f_open, f_awaited, nI (n + 1), nI (6 * n + 2 + (d + 1)), nI (6 * n), nI (p + 1), nI m, nI s, 0, 0, -1, a_ops, a_args, a_quick, a_length, a_exported, a_known, a_alive, a_fresh, a_lasting, a_shared, a_owner, a_size, a_element, a_roots, a_logCell, a_logOld, a_logged, upd a_slot (6 * n + 2 + d) (a_roots (2 * (m / 2) + b)), a_frameMethod, a_framePc)) : wpX_simple P (nI L, f_pending, f_wide, f_waiting, f_height, f_entries, f_locals, f_logLength, f_open, f_awaited, nI (n + 1), nI (6 * n + 2 + d), nI (6 * n), nI p, nI m, nI s, 0, 0, -1, a_ops, a_args, a_quick, a_length, a_exported, a_known, a_alive, a_fresh, a_lasting, a_shared, a_owner, a_size, a_element, a_roots, a_logCell, a_logOld, a_logged, a_slot, a_frameMethod, a_framePc) (nI 9) (nI b) := by
  have cs : (nI (6 * n + 2 + d)).toNatClampNeg = 6 * n + 2 + d := nI_clamp (by omega)
  have cr : (nI (2 * (m / 2) + b)).toNatClampNeg = 2 * (m / 2) + b := nI_clamp (by omega)
  unfold wpX_simple
  refine nm_r (nI_1 _) (br_f (by decide) (br_f (by decide) (br_f (by decide) (br_f (by decide) (br_f (by decide) (br_f (by decide) (br_f (by decide) (br_f (by decide) (br_f (by decide) (br_f (by decide) (br_f (by decide) (br_t (by decide) ?_))))))))))))
  rw [hx_ri hm hb, cs, cr]
  unfold wX_simple_286
  exact nm_r (nI_1 _) ⟨vp_in_nI (by omega) (by decide), vp_in_nI (by omega) (by decide), nm_e (br_t rfl H)⟩
theorem hx_m16 {b : Nat} (hn : n < 4) (hd : d < 4) (hb : b < 6) (H : P (nI L, f_pending, f_wide, f_waiting, f_height, f_entries, f_locals, f_logLength, f_open, f_awaited, nI (n + 1), nI (6 * n + 2 + (d + 1)), nI (6 * n), nI (p + 1), nI m, nI s, 0, 0, -1, a_ops, a_args, a_quick, a_length, a_exported, a_known, a_alive, a_fresh, a_lasting, a_shared, a_owner, a_size, a_element, a_roots, a_logCell, a_logOld, a_logged, upd a_slot (6 * n + 2 + d) (a_roots b), a_frameMethod, a_framePc)) : wpX_memory P (nI L, f_pending, f_wide, f_waiting, f_height, f_entries, f_locals, f_logLength, f_open, f_awaited, nI (n + 1), nI (6 * n + 2 + d), nI (6 * n), nI p, nI m, nI s, 0, 0, -1, a_ops, a_args, a_quick, a_length, a_exported, a_known, a_alive, a_fresh, a_lasting, a_shared, a_owner, a_size, a_element, a_roots, a_logCell, a_logOld, a_logged, a_slot, a_frameMethod, a_framePc) (nI 16) (nI b) := by
  have cs : (nI (6 * n + 2 + d)).toNatClampNeg = 6 * n + 2 + d := nI_clamp (by omega)
  have cb : (nI b).toNatClampNeg = b := nI_clamp (by omega)
  unfold wpX_memory
  refine br_f (by decide) (br_f (by decide) (br_f (by decide) (br_f (by decide) (br_f (by decide) (br_f (by decide) (br_t (by decide) ?_))))))
  rw [cs, cb]
  unfold wX_memory_158
  exact nm_r (nI_1 _) ⟨vp_in_nI (by omega) (by decide), vp_in_nI (by omega) (by decide), nm_e (br_t rfl (nm_r (nI_1 _) H))⟩
theorem hx_m17 {b : Int32} (hn : n < 4) (hd : d < 4) (H : P (nI L, f_pending, f_wide, f_waiting, f_height, f_entries, f_locals, f_logLength, f_open, f_awaited, nI (n + 1), nI (6 * n + 2 + (d + 1)), nI (6 * n), nI (p + 1), nI m, nI s, 0, 0, -1, a_ops, a_args, a_quick, a_length, a_exported, a_known, a_alive, a_fresh, a_lasting, a_shared, a_owner, a_size, a_element, a_roots, a_logCell, a_logOld, a_logged, upd a_slot (6 * n + 2 + d) (nI 65544), a_frameMethod, a_framePc)) : wpX_memory P (nI L, f_pending, f_wide, f_waiting, f_height, f_entries, f_locals, f_logLength, f_open, f_awaited, nI (n + 1), nI (6 * n + 2 + d), nI (6 * n), nI p, nI m, nI s, 0, 0, -1, a_ops, a_args, a_quick, a_length, a_exported, a_known, a_alive, a_fresh, a_lasting, a_shared, a_owner, a_size, a_element, a_roots, a_logCell, a_logOld, a_logged, a_slot, a_frameMethod, a_framePc) (nI 17) b := by
  have cs : (nI (6 * n + 2 + d)).toNatClampNeg = 6 * n + 2 + d := nI_clamp (by omega)
  unfold wpX_memory
  refine br_f (by decide) (br_f (by decide) (br_f (by decide) (br_f (by decide) (br_f (by decide) (br_f (by decide) (br_f (by decide) (br_t (by decide) ?_)))))))
  rw [cs]
  unfold wX_memory_158
  exact nm_r (nI_1 _) ⟨vp_in_nI (by omega) (by decide), nm_e (br_t rfl (nm_r (nI_1 _) H))⟩
theorem hx_c20 (hn : n < 4) (he : e + 1 < 4) (H : P (nI L, f_pending, f_wide, f_waiting, f_height, f_entries, f_locals, f_logLength, f_open, f_awaited, nI (n + 1), nI (6 * n + 2 + (e + 2)), nI (6 * n), nI (p + 1), nI m, nI s, 0, 0, -1, a_ops, a_args, a_quick, a_length, a_exported, a_known, a_alive, a_fresh, a_lasting, a_shared, a_owner, a_size, a_element, a_roots, a_logCell, a_logOld, a_logged, upd a_slot (6 * n + 2 + (e + 1)) (a_slot (6 * n + 2 + e)), a_frameMethod, a_framePc)) : wpX_control P (nI L, f_pending, f_wide, f_waiting, f_height, f_entries, f_locals, f_logLength, f_open, f_awaited, nI (n + 1), nI (6 * n + 2 + (e + 1)), nI (6 * n), nI p, nI m, nI s, 0, 0, -1, a_ops, a_args, a_quick, a_length, a_exported, a_known, a_alive, a_fresh, a_lasting, a_shared, a_owner, a_size, a_element, a_roots, a_logCell, a_logOld, a_logged, a_slot, a_frameMethod, a_framePc) (nI 20) := by
  have es : nI (6 * n + 2 + (e + 1)) - 1 = nI (6 * n + 2 + e) := nI_pred _
  have cs : (nI (6 * n + 2 + e)).toNatClampNeg = 6 * n + 2 + e := nI_clamp (by omega)
  have cs' : (nI (6 * n + 2 + (e + 1))).toNatClampNeg = 6 * n + 2 + (e + 1) := nI_clamp (by omega)
  unfold wpX_control
  refine br_f (by decide) (br_f (by decide) (br_f (by decide) (br_t (by decide) ?_)))
  rw [es, cs, cs']
  unfold wX_control_147
  exact ⟨vp_in_nI (by omega) (by decide), vp_in_nI (by omega) (by decide), nm_e (nm_r (nI_1 _) (br_t rfl (nm_r (nI_1 _) H)))⟩
theorem hx_c21 (hn : n < 4) (he : e < 4) (H : P (nI L, f_pending, f_wide, f_waiting, f_height, f_entries, f_locals, f_logLength, f_open, f_awaited, nI (n + 1), nI (6 * n + 2 + e), nI (6 * n), nI (p + 1), nI m, nI s, 0, 0, -1, a_ops, a_args, a_quick, a_length, a_exported, a_known, a_alive, a_fresh, a_lasting, a_shared, a_owner, a_size, a_element, a_roots, a_logCell, a_logOld, a_logged, a_slot, a_frameMethod, a_framePc)) : wpX_control P (nI L, f_pending, f_wide, f_waiting, f_height, f_entries, f_locals, f_logLength, f_open, f_awaited, nI (n + 1), nI (6 * n + 2 + (e + 1)), nI (6 * n), nI p, nI m, nI s, 0, 0, -1, a_ops, a_args, a_quick, a_length, a_exported, a_known, a_alive, a_fresh, a_lasting, a_shared, a_owner, a_size, a_element, a_roots, a_logCell, a_logOld, a_logged, a_slot, a_frameMethod, a_framePc) (nI 21) := by
  have es : nI (6 * n + 2 + (e + 1)) - 1 = nI (6 * n + 2 + e) := nI_pred _
  unfold wpX_control
  refine br_f (by decide) (br_f (by decide) (br_f (by decide) (br_f (by decide) (br_t (by decide) ?_))))
  unfold wX_control_147
  exact nm_r es (br_t rfl (nm_r (nI_1 _) H))
/-! ### the fused ones -/
theorem hx_qS {q b : Int32} (H : P (nI L, f_pending, f_wide, f_waiting, f_height, f_entries, f_locals, f_logLength, f_open, f_awaited, nI (n + 1), nI (6 * n + 2 + d), nI (6 * n), nI (p + 1), nI m, nI L, 1, 0, -1, a_ops, a_args, a_quick, a_length, a_exported, a_known, a_alive, a_fresh, a_lasting, a_shared, a_owner, a_size, a_element, a_roots, a_logCell, a_logOld, a_logged, a_slot, a_frameMethod, a_framePc)) : wpX_quickened P (nI L, f_pending, f_wide, f_waiting, f_height, f_entries, f_locals, f_logLength, f_open, f_awaited, nI (n + 1), nI (6 * n + 2 + d), nI (6 * n), nI p, nI m, nI L, 0, 0, -1, a_ops, a_args, a_quick, a_length, a_exported, a_known, a_alive, a_fresh, a_lasting, a_shared, a_owner, a_size, a_element, a_roots, a_logCell, a_logOld, a_logged, a_slot, a_frameMethod, a_framePc) q b := by
  unfold wpX_quickened
  refine nm_r (nI_1 _) (br_t rfl (nm_r (nI_pred _) (nm_r (nI_1 _) H)))
theorem hx_q26 {b : Int32} {t : Nat} (hn : n < 4) (he : e < 3) (hm : m < 6) (hp : p < 15) (hs : s < L) (hL : L ≤ 250) (et : a_args (16 * m + (p + 1)) = nI t) (H1 : ¬ a_slot (6 * n + 2 + e) < a_slot (6 * n + 2 + (e + 1)) → P (nI L, f_pending, f_wide, f_waiting, f_height, f_entries, f_locals, f_logLength, f_open, f_awaited, nI (n + 1), nI (6 * n + 2 + e), nI (6 * n), nI t, nI m, nI (s + 1), 0, 0, -1, a_ops, a_args, a_quick, a_length, a_exported, a_known, a_alive, a_fresh, a_lasting, a_shared, a_owner, a_size, a_element, a_roots, a_logCell, a_logOld, a_logged, a_slot, a_frameMethod, a_framePc)) (H0 : a_slot (6 * n + 2 + e) < a_slot (6 * n + 2 + (e + 1)) → P (nI L, f_pending, f_wide, f_waiting, f_height, f_entries, f_locals, f_logLength, f_open, f_awaited, nI (n + 1), nI (6 * n + 2 + e), nI (6 * n), nI (p + 2), nI m, nI (s + 1), 0, 0, -1, a_ops, a_args, a_quick, a_length, a_exported, a_known, a_alive, a_fresh, a_lasting, a_shared, a_owner, a_size, a_element, a_roots, a_logCell, a_logOld, a_logged, a_slot, a_frameMethod, a_framePc)) : wpX_quickened P (nI L, f_pending, f_wide, f_waiting, f_height, f_entries, f_locals, f_logLength, f_open, f_awaited, nI (n + 1), nI (6 * n + 2 + (e + 2)), nI (6 * n), nI p, nI m, nI s, 0, 0, -1, a_ops, a_args, a_quick, a_length, a_exported, a_known, a_alive, a_fresh, a_lasting, a_shared, a_owner, a_size, a_element, a_roots, a_logCell, a_logOld, a_logged, a_slot, a_frameMethod, a_framePc) 26 b := by
  have e16 : 16 * nI m + nI p + 1 = nI (16 * m + (p + 1)) := by rw [show 16 * nI m = nI (16 * m) from pk_mul 16 m, nI_add, nI_1]; rfl
  have c16 : (nI (16 * m + (p + 1))).toNatClampNeg = 16 * m + (p + 1) := nI_clamp (by omega)
  have es : nI (6 * n + 2 + (e + 2)) - 2 = nI (6 * n + 2 + e) := by rw [show nI (6 * n + 2 + (e + 2)) - 2 = nI (6 * n + 2 + (e + 2) - 2) from pk_sub (b := 2) (by omega)]; rfl
  have es' : nI (6 * n + 2 + e) + 1 = nI (6 * n + 2 + (e + 1)) := nI_1 _
  have cs : (nI (6 * n + 2 + e)).toNatClampNeg = 6 * n + 2 + e := nI_clamp (by omega)
  have cs' : (nI (6 * n + 2 + (e + 1))).toNatClampNeg = 6 * n + 2 + (e + 1) := nI_clamp (by omega)
  unfold wpX_quickened
  refine nm_r (nI_1 _) (br_f (fun z => ?_) ⟨by rw [e16]; exact vp_in_nI (by omega) (by decide), nm_r (e' := nI t) (by rw [e16, c16]; exact et) (nm_r (nI_add p 2) (br_t rfl (nm_r es ⟨vp_in_nI (by omega) (by decide), ?_⟩)))⟩)
  · have := (nI_eq (by omega) (by omega)).mp z
    omega
  · rw [es', cs, cs']
    exact ⟨vp_in_nI (by omega) (by decide), br_c H0 H1⟩
theorem hx_q142 {z : Int32} (hn : n < 4) (he : e < 4) (H : P (nI L, f_pending, f_wide, f_waiting, f_height, f_entries, f_locals, f_logLength, f_open, f_awaited, nI (n + 1), nI (6 * n + 2 + (e + 1)), nI (6 * n), nI p, nI m, nI s, 0, 0, -1, a_ops, a_args, a_quick, a_length, a_exported, a_known, a_alive, a_fresh, a_lasting, a_shared, a_owner, a_size, a_element, a_roots, a_logCell, a_logOld, a_logged, upd a_slot (6 * n + 2 + e) ((a_slot (6 * n + 2 + e) + z).toInt16.toInt32), a_frameMethod, a_framePc)) : wX_quickened_142 P z (nI L) f_pending f_wide f_waiting f_height f_entries f_locals f_logLength f_open f_awaited (nI (n + 1)) (nI (6 * n + 2 + (e + 1))) (nI (6 * n)) (nI p) (nI m) (nI s) 0 0 (-1) a_ops a_args a_quick a_length a_exported a_known a_alive a_fresh a_lasting a_shared a_owner a_size a_element a_roots a_logCell a_logOld a_logged a_slot a_frameMethod a_framePc := by
  have es : nI (6 * n + 2 + (e + 1)) - 1 = nI (6 * n + 2 + e) := nI_pred _
  have cs : (nI (6 * n + 2 + e)).toNatClampNeg = 6 * n + 2 + e := nI_clamp (by omega)
  have vs : vp_in (nI (6 * n + 2 + e)) 24 := vp_in_nI (by omega) (by decide)
  unfold wX_quickened_142
  rw [es, cs]
  exact ⟨vs, vs, nm_e H⟩
theorem hx_q25 {b : Int32} (hn : n < 4) (he : e < 4) (hm : m < 6) (hp : p < 15) (hs : s < L) (hL : L ≤ 250) (H : P (nI L, f_pending, f_wide, f_waiting, f_height, f_entries, f_locals, f_logLength, f_open, f_awaited, nI (n + 1), nI (6 * n + 2 + (e + 1)), nI (6 * n), nI (p + 2), nI m, nI (s + 1), 0, 0, -1, a_ops, a_args, a_quick, a_length, a_exported, a_known, a_alive, a_fresh, a_lasting, a_shared, a_owner, a_size, a_element, a_roots, a_logCell, a_logOld, a_logged, upd a_slot (6 * n + 2 + e) ((a_slot (6 * n + 2 + e) + b).toInt16.toInt32), a_frameMethod, a_framePc)) : wpX_quickened P (nI L, f_pending, f_wide, f_waiting, f_height, f_entries, f_locals, f_logLength, f_open, f_awaited, nI (n + 1), nI (6 * n + 2 + (e + 1)), nI (6 * n), nI p, nI m, nI s, 0, 0, -1, a_ops, a_args, a_quick, a_length, a_exported, a_known, a_alive, a_fresh, a_lasting, a_shared, a_owner, a_size, a_element, a_roots, a_logCell, a_logOld, a_logged, a_slot, a_frameMethod, a_framePc) 25 b := by
  have e16 : 16 * nI m + nI p + 1 = nI (16 * m + (p + 1)) := by rw [show 16 * nI m = nI (16 * m) from pk_mul 16 m, nI_add, nI_1]; rfl
  unfold wpX_quickened
  refine nm_r (nI_1 _) (br_f (fun z => ?_) ⟨by rw [e16]; exact vp_in_nI (by omega) (by decide), nm_e (nm_r (nI_add p 2) (br_f (by decide) (br_t rfl (hx_q142 (p := p + 2) (s := s + 1) hn he H))))⟩)
  have := (nI_eq (by omega) (by omega)).mp z
  omega
theorem hx_q27 {b : Nat} (hn : n < 4) (he : e < 4) (hm : m < 6) (hb : b < 2) (hp : p < 15) (hs : s < L) (hL : L ≤ 250) (H : P (nI L, f_pending, f_wide, f_waiting, f_height, f_entries, f_locals, f_logLength, f_open, f_awaited, nI (n + 1), nI (6 * n + 2 + (e + 1)), nI (6 * n), nI (p + 2), nI m, nI (s + 1), 0, 0, -1, a_ops, a_args, a_quick, a_length, a_exported, a_known, a_alive, a_fresh, a_lasting, a_shared, a_owner, a_size, a_element, a_roots, a_logCell, a_logOld, a_logged, upd a_slot (6 * n + 2 + e) ((a_slot (6 * n + 2 + e) + a_slot (6 * n + b)).toInt16.toInt32), a_frameMethod, a_framePc)) : wpX_quickened P (nI L, f_pending, f_wide, f_waiting, f_height, f_entries, f_locals, f_logLength, f_open, f_awaited, nI (n + 1), nI (6 * n + 2 + (e + 1)), nI (6 * n), nI p, nI m, nI s, 0, 0, -1, a_ops, a_args, a_quick, a_length, a_exported, a_known, a_alive, a_fresh, a_lasting, a_shared, a_owner, a_size, a_element, a_roots, a_logCell, a_logOld, a_logged, a_slot, a_frameMethod, a_framePc) 27 (nI b) := by
  have e16 : 16 * nI m + nI p + 1 = nI (16 * m + (p + 1)) := by rw [show 16 * nI m = nI (16 * m) from pk_mul 16 m, nI_add, nI_1]; rfl
  have cb : (nI (6 * n + b)).toNatClampNeg = 6 * n + b := nI_clamp (by omega)
  unfold wpX_quickened
  refine nm_r (nI_1 _) (br_f (fun z => ?_) ⟨by rw [e16]; exact vp_in_nI (by omega) (by decide), nm_e (nm_r (nI_add p 2) (br_f (by decide) (br_f (by decide) ⟨by rw [nI_add]; exact vp_in_nI (by omega) (by decide), ?_⟩)))⟩)
  · have := (nI_eq (by omega) (by omega)).mp z
    omega
  · rw [nI_add, cb]
    exact hx_q142 (p := p + 2) (s := s + 1) hn he H
end
end
section
/-! ===== Y: helpers and instructions within a frame ===== -/
section
variable {g_limit g_waiting g_stack g_locals g_running g_steps g_awaited g_answer g_where g_outcome : Int32} {g_made : Int64} {g_good g_open : Int32} {b_ops b_bs b_sizes b_exported : Nat → Int32} {b_stamp : Nat → Int64} {b_owner b_lengths b_elements b_lasting b_shared b_roots : Nat → Int32} {b_oldStamp : Nat → Int64} {b_oldElements b_oldShared b_oldRoots b_rows b_nexts b_depths b_places b_kinds b_met b_todo b_heights : Nat → Int32}
variable {f_open f_awaited : Int32}
variable {L s n m p d e : Nat}
theorem hy_push {P : SY → Prop} {k : Nat} {y : Int32} (hn : n < 4) (hd : d < 6) (hk : k < 128) (ed : b_depths n = nI d) (H : P (g_limit, g_waiting, g_stack, g_locals, nI (n + 1), g_steps, g_awaited, g_answer, g_where, g_outcome, g_made, g_good, g_open, b_ops, b_bs, b_sizes, b_exported, b_stamp, b_owner, b_lengths, b_elements, b_lasting, b_shared, b_roots, b_oldStamp, b_oldElements, b_oldShared, b_oldRoots, b_rows, b_nexts, upd b_depths n (nI (d + 1)), upd b_places (8 * n + 2 + d) y, upd b_kinds (8 * n + 2 + d) (nI k), b_met, b_todo, b_heights)) : wpY_push P (g_limit, g_waiting, g_stack, g_locals, nI (n + 1), g_steps, g_awaited, g_answer, g_where, g_outcome, g_made, g_good, g_open, b_ops, b_bs, b_sizes, b_exported, b_stamp, b_owner, b_lengths, b_elements, b_lasting, b_shared, b_roots, b_oldStamp, b_oldElements, b_oldShared, b_oldRoots, b_rows, b_nexts, b_depths, b_places, b_kinds, b_met, b_todo, b_heights) (nI k) y := by
  have cn : (nI n).toNatClampNeg = n := nI_clamp (by omega)
  have ci : (nI (8 * n + 2 + d)).toNatClampNeg = 8 * n + 2 + d := nI_clamp (by omega)
  have vn : vp_in (nI n) 4 := vp_in_nI hn (by decide)
  have vi : vp_in (nI (8 * n + 2 + d)) 32 := vp_in_nI (by omega) (by decide)
  unfold wpY_push
  refine nm_r (nI_pred n) ⟨vn, vn, nm_r (e' := upd b_depths n (nI (d + 1))) (by rw [cn, ed, nI_1]) (nm_r (e' := nI (8 * n + 2 + d)) ?_ ⟨vi, nm_r (e' := upd b_kinds (8 * n + 2 + d) (nI k)) (by rw [ci, ca_vb' hk]) ⟨vi, nm_r (by rw [ci]) H⟩⟩)⟩
  rw [cn, ed, show 8 * nI n = nI (8 * n) from pk_mul 8 n, show nI (8 * n) + 2 = nI (8 * n + 2) from nI_add _ 2, nI_add]
theorem hy_entry {P : Int32 → Prop} {j : Nat} (hn : n < 4) (hd : e + 1 + j < 7) (ed : b_depths n = nI (e + 1 + j)) (H : P (b_places (8 * n + 2 + e))) : wpY_entry P (g_limit, g_waiting, g_stack, g_locals, nI (n + 1), g_steps, g_awaited, g_answer, g_where, g_outcome, g_made, g_good, g_open, b_ops, b_bs, b_sizes, b_exported, b_stamp, b_owner, b_lengths, b_elements, b_lasting, b_shared, b_roots, b_oldStamp, b_oldElements, b_oldShared, b_oldRoots, b_rows, b_nexts, b_depths, b_places, b_kinds, b_met, b_todo, b_heights) (nI j) := by
  have cn : (nI n).toNatClampNeg = n := nI_clamp (by omega)
  have ci : (nI (8 * n + 2 + e)).toNatClampNeg = 8 * n + 2 + e := nI_clamp (by omega)
  unfold wpY_entry
  have ei : ((8 * (nI (n + 1) - 1)) + 1) + b_depths (nI (n + 1) - 1).toNatClampNeg - nI j = nI (8 * n + 2 + e) := by
    rw [nI_pred, cn, ed, show 8 * nI n = nI (8 * n) from pk_mul 8 n, nI_1, nI_add, pk_sub (by omega)]
    exact congrArg nI (by omega)
  show vp_in _ 4 ∧ _
  rw [ei, ci, nI_pred]
  exact ⟨vp_in_nI hn (by decide), vp_in_nI (by omega) (by decide), H⟩
theorem hy_drop {P : SY → Prop} {j : Nat} (hn : n < 4) (hd : e + j < 7) (ed : b_depths n = nI (e + j)) (H : P (g_limit, g_waiting, g_stack, g_locals, nI (n + 1), g_steps, g_awaited, g_answer, g_where, g_outcome, g_made, g_good, g_open, b_ops, b_bs, b_sizes, b_exported, b_stamp, b_owner, b_lengths, b_elements, b_lasting, b_shared, b_roots, b_oldStamp, b_oldElements, b_oldShared, b_oldRoots, b_rows, b_nexts, upd b_depths n (nI e), b_places, b_kinds, b_met, b_todo, b_heights)) : wpY_drop P (g_limit, g_waiting, g_stack, g_locals, nI (n + 1), g_steps, g_awaited, g_answer, g_where, g_outcome, g_made, g_good, g_open, b_ops, b_bs, b_sizes, b_exported, b_stamp, b_owner, b_lengths, b_elements, b_lasting, b_shared, b_roots, b_oldStamp, b_oldElements, b_oldShared, b_oldRoots, b_rows, b_nexts, b_depths, b_places, b_kinds, b_met, b_todo, b_heights) (nI j) := by
  have cn : (nI n).toNatClampNeg = n := nI_clamp (by omega)
  have vn : vp_in (nI n) 4 := vp_in_nI hn (by decide)
  unfold wpY_drop
  show vp_in _ 4 ∧ _
  rw [nI_pred, cn, ed, pk_sub (by omega), Nat.add_sub_cancel]
  exact ⟨vn, vn, nm_e H⟩
theorem hy_on {P : SY → Prop} (hn : n < 4) (en : b_nexts n = nI p) (H : P (g_limit, g_waiting, g_stack, g_locals, nI (n + 1), g_steps, g_awaited, g_answer, g_where, g_outcome, g_made, g_good, g_open, b_ops, b_bs, b_sizes, b_exported, b_stamp, b_owner, b_lengths, b_elements, b_lasting, b_shared, b_roots, b_oldStamp, b_oldElements, b_oldShared, b_oldRoots, b_rows, upd b_nexts n (nI (p + 1)), b_depths, b_places, b_kinds, b_met, b_todo, b_heights)) : wpY_on P (g_limit, g_waiting, g_stack, g_locals, nI (n + 1), g_steps, g_awaited, g_answer, g_where, g_outcome, g_made, g_good, g_open, b_ops, b_bs, b_sizes, b_exported, b_stamp, b_owner, b_lengths, b_elements, b_lasting, b_shared, b_roots, b_oldStamp, b_oldElements, b_oldShared, b_oldRoots, b_rows, b_nexts, b_depths, b_places, b_kinds, b_met, b_todo, b_heights) := by
  have cn : (nI n).toNatClampNeg = n := nI_clamp (by omega)
  have vn : vp_in (nI n) 4 := vp_in_nI hn (by decide)
  unfold wpY_on
  show vp_in _ 4 ∧ _
  rw [nI_pred, cn, en, nI_1]
  exact ⟨vn, vn, nm_e H⟩
theorem hy_applet {P : Int32 → Prop} (hn : n < 4) (hm : m < 6) (er : b_rows n = nI m) (H : P (nI (m / 2))) : wpY_applet P (g_limit, g_waiting, g_stack, g_locals, nI (n + 1), g_steps, g_awaited, g_answer, g_where, g_outcome, g_made, g_good, g_open, b_ops, b_bs, b_sizes, b_exported, b_stamp, b_owner, b_lengths, b_elements, b_lasting, b_shared, b_roots, b_oldStamp, b_oldElements, b_oldShared, b_oldRoots, b_rows, b_nexts, b_depths, b_places, b_kinds, b_met, b_todo, b_heights) := by
  have cn : (nI n).toNatClampNeg = n := nI_clamp (by omega)
  unfold wpY_applet
  show vp_in _ 4 ∧ _
  rw [nI_pred, cn, er, show nI m / 2 = nI (m / 2) from pk_div (d := 2) (by omega) (by decide) (by decide)]
  exact ⟨vp_in_nI hn (by decide), by decide, H⟩
/-! ### the way to the instruction -/
theorem hy_iS {post : SY → Prop} {op : Nat} {b : Int32} (hn : n < 4) (hm : m < 6) (hp : p < 16) (hL : L ≤ 250) (hs : s < L) (er : b_rows n = nI m) (en : b_nexts n = nI p) (eo : b_ops (16 * m + p) = nI op) (eb : b_bs (16 * m + p) = b) (ho : op < 9) (H : wpY_simple (fun u => match u with | (g_limit, g_waiting, g_stack, g_locals, g_running, g_steps, g_awaited, g_answer, g_where, g_outcome, g_made, g_good, g_open, b_ops, b_bs, b_sizes, b_exported, b_stamp, b_owner, b_lengths, b_elements, b_lasting, b_shared, b_roots, b_oldStamp, b_oldElements, b_oldShared, b_oldRoots, b_rows, b_nexts, b_depths, b_places, b_kinds, b_met, b_todo, b_heights) => (post (g_limit, g_waiting, g_stack, g_locals, g_running, g_steps, g_awaited, g_answer, g_where, g_outcome, g_made, g_good, g_open, b_ops, b_bs, b_sizes, b_exported, b_stamp, b_owner, b_lengths, b_elements, b_lasting, b_shared, b_roots, b_oldStamp, b_oldElements, b_oldShared, b_oldRoots, b_rows, b_nexts, b_depths, b_places, b_kinds, b_met, b_todo, b_heights))) (nI L, g_waiting, g_stack, g_locals, nI (n + 1), nI (s + 1), f_awaited, 0, g_where, g_outcome, g_made, g_good, f_open, b_ops, b_bs, b_sizes, b_exported, b_stamp, b_owner, b_lengths, b_elements, b_lasting, b_shared, b_roots, b_oldStamp, b_oldElements, b_oldShared, b_oldRoots, b_rows, b_nexts, b_depths, b_places, b_kinds, b_met, b_todo, b_heights) (nI op) b) : wpY_step post (nI L, g_waiting, g_stack, g_locals, nI (n + 1), nI s, f_awaited, 0, g_where, g_outcome, g_made, g_good, f_open, b_ops, b_bs, b_sizes, b_exported, b_stamp, b_owner, b_lengths, b_elements, b_lasting, b_shared, b_roots, b_oldStamp, b_oldElements, b_oldShared, b_oldRoots, b_rows, b_nexts, b_depths, b_places, b_kinds, b_met, b_todo, b_heights) := by
  have cn : (nI n).toNatClampNeg = n := nI_clamp (by omega)
  have vn : vp_in (nI n) 4 := vp_in_nI hn (by decide)
  have e16 : 16 * nI m + nI p = nI (16 * m + p) := by rw [show 16 * nI m = nI (16 * m) from pk_mul 16 m, nI_add]
  have c16 : (nI (16 * m + p)).toNatClampNeg = 16 * m + p := nI_clamp (by omega)
  have v16 : vp_in (nI (16 * m + p)) 112 := vp_in_nI (by omega) (by decide)
  unfold wpY_step
  refine nm_r (nI_pred n) ⟨vn, vn, nm_r (e' := nI (16 * m + p)) (by rw [cn, er, en, e16]) (br_f (fun z => ?_) (nm_r (nI_1 _) ⟨v16, nm_r (e' := nI op) (by rw [c16]; exact eo) (br_f (nI_ge (b := 9) ho (by decide)) ⟨v16, ?_⟩)⟩))⟩
  · have := (nI_eq (by omega) (by omega)).mp z
    omega
  · rw [c16, eb]; exact H
theorem hy_iO {post : SY → Prop} {op : Nat} {b : Int32} (hn : n < 4) (hm : m < 6) (hp : p < 16) (hL : L ≤ 250) (hs : s < L) (er : b_rows n = nI m) (en : b_nexts n = nI p) (eo : b_ops (16 * m + p) = nI op) (eb : b_bs (16 * m + p) = b) (ho : 11 ≤ op) (ho' : op ≤ 15) (H : wpY_onObject (fun u => match u with | (g_limit, g_waiting, g_stack, g_locals, g_running, g_steps, g_awaited, g_answer, g_where, g_outcome, g_made, g_good, g_open, b_ops, b_bs, b_sizes, b_exported, b_stamp, b_owner, b_lengths, b_elements, b_lasting, b_shared, b_roots, b_oldStamp, b_oldElements, b_oldShared, b_oldRoots, b_rows, b_nexts, b_depths, b_places, b_kinds, b_met, b_todo, b_heights) => (post (g_limit, g_waiting, g_stack, g_locals, g_running, g_steps, g_awaited, g_answer, g_where, g_outcome, g_made, g_good, g_open, b_ops, b_bs, b_sizes, b_exported, b_stamp, b_owner, b_lengths, b_elements, b_lasting, b_shared, b_roots, b_oldStamp, b_oldElements, b_oldShared, b_oldRoots, b_rows, b_nexts, b_depths, b_places, b_kinds, b_met, b_todo, b_heights))) (nI L, g_waiting, g_stack, g_locals, nI (n + 1), nI (s + 1), f_awaited, 0, g_where, g_outcome, g_made, g_good, f_open, b_ops, b_bs, b_sizes, b_exported, b_stamp, b_owner, b_lengths, b_elements, b_lasting, b_shared, b_roots, b_oldStamp, b_oldElements, b_oldShared, b_oldRoots, b_rows, b_nexts, b_depths, b_places, b_kinds, b_met, b_todo, b_heights) (nI op) b) : wpY_step post (nI L, g_waiting, g_stack, g_locals, nI (n + 1), nI s, f_awaited, 0, g_where, g_outcome, g_made, g_good, f_open, b_ops, b_bs, b_sizes, b_exported, b_stamp, b_owner, b_lengths, b_elements, b_lasting, b_shared, b_roots, b_oldStamp, b_oldElements, b_oldShared, b_oldRoots, b_rows, b_nexts, b_depths, b_places, b_kinds, b_met, b_todo, b_heights) := by
  have cn : (nI n).toNatClampNeg = n := nI_clamp (by omega)
  have vn : vp_in (nI n) 4 := vp_in_nI hn (by decide)
  have e16 : 16 * nI m + nI p = nI (16 * m + p) := by rw [show 16 * nI m = nI (16 * m) from pk_mul 16 m, nI_add]
  have c16 : (nI (16 * m + p)).toNatClampNeg = 16 * m + p := nI_clamp (by omega)
  have v16 : vp_in (nI (16 * m + p)) 112 := vp_in_nI (by omega) (by decide)
  unfold wpY_step
  refine nm_r (nI_pred n) ⟨vn, vn, nm_r (e' := nI (16 * m + p)) (by rw [cn, er, en, e16]) (br_f (fun z => ?_) (nm_r (nI_1 _) ⟨v16, nm_r (e' := nI op) (by rw [c16]; exact eo) (br_t (nI_le (a := 9) (by omega) (by omega)) (br_f (nI_ge (b := 18) (by omega) (by decide)) (pk_eq op 9 (fun q => by omega) (fun _ => pk_eq op 10 (fun q => by omega) (fun _ => pk_eq op 16 (fun q => by omega) (fun _ => pk_eq op 17 (fun q => by omega) (fun _ => ⟨v16, ?_⟩)))))))⟩))⟩
  · have := (nI_eq (by omega) (by omega)).mp z
    omega
  · rw [c16, eb]; exact H
theorem hy_iT {post : SY → Prop} {op : Nat} {b : Int32} (hn : n < 4) (hm : m < 6) (hp : p < 16) (hL : L ≤ 250) (hs : s < L) (er : b_rows n = nI m) (en : b_nexts n = nI p) (eo : b_ops (16 * m + p) = nI op) (eb : b_bs (16 * m + p) = b) (h24 : op ≤ 24) (ho : op = 9 ∨ op = 10 ∨ op = 16 ∨ op = 17 ∨ 18 ≤ op) (H : wpY_other (fun u => match u with | (g_limit, g_waiting, g_stack, g_locals, g_running, g_steps, g_awaited, g_answer, g_where, g_outcome, g_made, g_good, g_open, b_ops, b_bs, b_sizes, b_exported, b_stamp, b_owner, b_lengths, b_elements, b_lasting, b_shared, b_roots, b_oldStamp, b_oldElements, b_oldShared, b_oldRoots, b_rows, b_nexts, b_depths, b_places, b_kinds, b_met, b_todo, b_heights) => (post (g_limit, g_waiting, g_stack, g_locals, g_running, g_steps, g_awaited, g_answer, g_where, g_outcome, g_made, g_good, g_open, b_ops, b_bs, b_sizes, b_exported, b_stamp, b_owner, b_lengths, b_elements, b_lasting, b_shared, b_roots, b_oldStamp, b_oldElements, b_oldShared, b_oldRoots, b_rows, b_nexts, b_depths, b_places, b_kinds, b_met, b_todo, b_heights))) (nI L, g_waiting, g_stack, g_locals, nI (n + 1), nI (s + 1), f_awaited, 0, g_where, g_outcome, g_made, g_good, f_open, b_ops, b_bs, b_sizes, b_exported, b_stamp, b_owner, b_lengths, b_elements, b_lasting, b_shared, b_roots, b_oldStamp, b_oldElements, b_oldShared, b_oldRoots, b_rows, b_nexts, b_depths, b_places, b_kinds, b_met, b_todo, b_heights) (nI op) b) : wpY_step post (nI L, g_waiting, g_stack, g_locals, nI (n + 1), nI s, f_awaited, 0, g_where, g_outcome, g_made, g_good, f_open, b_ops, b_bs, b_sizes, b_exported, b_stamp, b_owner, b_lengths, b_elements, b_lasting, b_shared, b_roots, b_oldStamp, b_oldElements, b_oldShared, b_oldRoots, b_rows, b_nexts, b_depths, b_places, b_kinds, b_met, b_todo, b_heights) := by
  have cn : (nI n).toNatClampNeg = n := nI_clamp (by omega)
  have vn : vp_in (nI n) 4 := vp_in_nI hn (by decide)
  have e16 : 16 * nI m + nI p = nI (16 * m + p) := by rw [show 16 * nI m = nI (16 * m) from pk_mul 16 m, nI_add]
  have c16 : (nI (16 * m + p)).toNatClampNeg = 16 * m + p := nI_clamp (by omega)
  have v16 : vp_in (nI (16 * m + p)) 112 := vp_in_nI (by omega) (by decide)
  have key : wY_step_122 post (nI (16 * m + p)) (nI op) (nI L) g_waiting g_stack g_locals (nI (n + 1)) (nI (s + 1)) f_awaited 0 g_where g_outcome g_made g_good f_open b_ops b_bs b_sizes b_exported b_stamp b_owner b_lengths b_elements b_lasting b_shared b_roots b_oldStamp b_oldElements b_oldShared b_oldRoots b_rows b_nexts b_depths b_places b_kinds b_met b_todo b_heights := by
    unfold wY_step_122
    rw [c16, eb]
    exact ⟨v16, H⟩
  unfold wpY_step
  refine nm_r (nI_pred n) ⟨vn, vn, nm_r (e' := nI (16 * m + p)) (by rw [cn, er, en, e16]) (br_f (fun z => ?_) (nm_r (nI_1 _) ⟨v16, nm_r (e' := nI op) (by rw [c16]; exact eo) (br_t (nI_le (a := 9) (by omega) (by omega)) (pk_le 18 op (fun _ => key) (fun q => pk_eq op 9 (fun _ => key) (fun _ => pk_eq op 10 (fun _ => key) (fun _ => pk_eq op 16 (fun _ => key) (fun _ => pk_eq op 17 (fun _ => key) (fun _ => by omega)))))))⟩))⟩
  have := (nI_eq (by omega) (by omega)).mp z
  omega
/-! ### within a frame -/
variable {P : SY → Prop}
theorem hy_s0 {b : Int32} (hn : n < 4) (hd : d < 4) (ed : b_depths n = nI d) (en : b_nexts n = nI p) (H : P (nI L, g_waiting, g_stack, g_locals, nI (n + 1), nI s, f_awaited, 0, g_where, g_outcome, g_made, g_good, f_open, b_ops, b_bs, b_sizes, b_exported, b_stamp, b_owner, b_lengths, b_elements, b_lasting, b_shared, b_roots, b_oldStamp, b_oldElements, b_oldShared, b_oldRoots, b_rows, upd b_nexts n (nI (p + 1)), upd b_depths n (nI (d + 1)), upd b_places (8 * n + 2 + d) b, upd b_kinds (8 * n + 2 + d) (nI 1), b_met, b_todo, b_heights)) : wpY_simple P (nI L, g_waiting, g_stack, g_locals, nI (n + 1), nI s, f_awaited, 0, g_where, g_outcome, g_made, g_good, f_open, b_ops, b_bs, b_sizes, b_exported, b_stamp, b_owner, b_lengths, b_elements, b_lasting, b_shared, b_roots, b_oldStamp, b_oldElements, b_oldShared, b_oldRoots, b_rows, b_nexts, b_depths, b_places, b_kinds, b_met, b_todo, b_heights) (nI 0) b := by
  unfold wpY_simple
  refine nm_r (nI_pred n) (br_f (by decide) (br_f (by decide) (br_t (by decide) ?_)))
  unfold wY_simple_268
  exact hy_push (k := 1) hn (by omega) (by decide) ed (hy_on hn en H)
theorem hy_s1 {b k : Nat} (hn : n < 4) (hd : d < 4) (hb : b < 2) (hk : k < 128) (ek : b_kinds (8 * n + b) = nI k) (ed : b_depths n = nI d) (en : b_nexts n = nI p) (H : P (nI L, g_waiting, g_stack, g_locals, nI (n + 1), nI s, f_awaited, 0, g_where, g_outcome, g_made, g_good, f_open, b_ops, b_bs, b_sizes, b_exported, b_stamp, b_owner, b_lengths, b_elements, b_lasting, b_shared, b_roots, b_oldStamp, b_oldElements, b_oldShared, b_oldRoots, b_rows, upd b_nexts n (nI (p + 1)), upd b_depths n (nI (d + 1)), upd b_places (8 * n + 2 + d) (b_places (8 * n + b)), upd b_kinds (8 * n + 2 + d) (nI k), b_met, b_todo, b_heights)) : wpY_simple P (nI L, g_waiting, g_stack, g_locals, nI (n + 1), nI s, f_awaited, 0, g_where, g_outcome, g_made, g_good, f_open, b_ops, b_bs, b_sizes, b_exported, b_stamp, b_owner, b_lengths, b_elements, b_lasting, b_shared, b_roots, b_oldStamp, b_oldElements, b_oldShared, b_oldRoots, b_rows, b_nexts, b_depths, b_places, b_kinds, b_met, b_todo, b_heights) (nI 1) (nI b) := by
  have ci : (nI (8 * n + b)).toNatClampNeg = 8 * n + b := nI_clamp (by omega)
  have vi : vp_in (nI (8 * n + b)) 32 := vp_in_nI (by omega) (by decide)
  unfold wpY_simple
  refine nm_r (nI_pred n) (br_f (by decide) (br_f (by decide) (br_f (by decide) (br_t (by decide) ?_))))
  rw [show 8 * nI n = nI (8 * n) from pk_mul 8 n, nI_add, ci, ek]
  unfold wY_simple_268
  exact ⟨vi, vi, hy_push hn (by omega) hk ed (hy_on hn en H)⟩
theorem hy_s2 {b k : Nat} (hn : n < 4) (he : e < 4) (hb : b < 2) (hk : k < 128) (ek : b_kinds (8 * n + 2 + e) = nI k) (ed : b_depths n = nI (e + 1)) (en : b_nexts n = nI p) (H : P (nI L, g_waiting, g_stack, g_locals, nI (n + 1), nI s, f_awaited, 0, g_where, g_outcome, g_made, g_good, f_open, b_ops, b_bs, b_sizes, b_exported, b_stamp, b_owner, b_lengths, b_elements, b_lasting, b_shared, b_roots, b_oldStamp, b_oldElements, b_oldShared, b_oldRoots, b_rows, upd b_nexts n (nI (p + 1)), upd b_depths n (nI e), upd b_places (8 * n + b) (b_places (8 * n + 2 + e)), upd b_kinds (8 * n + b) (nI k), b_met, b_todo, b_heights)) : wpY_simple P (nI L, g_waiting, g_stack, g_locals, nI (n + 1), nI s, f_awaited, 0, g_where, g_outcome, g_made, g_good, f_open, b_ops, b_bs, b_sizes, b_exported, b_stamp, b_owner, b_lengths, b_elements, b_lasting, b_shared, b_roots, b_oldStamp, b_oldElements, b_oldShared, b_oldRoots, b_rows, b_nexts, b_depths, b_places, b_kinds, b_met, b_todo, b_heights) (nI 2) (nI b) := by
  have cn : (nI n).toNatClampNeg = n := nI_clamp (by omega)
  have ci : (nI (8 * n + b)).toNatClampNeg = 8 * n + b := nI_clamp (by omega)
  have vi : vp_in (nI (8 * n + b)) 32 := vp_in_nI (by omega) (by decide)
  have ct : (nI (8 * n + 2 + e)).toNatClampNeg = 8 * n + 2 + e := nI_clamp (by omega)
  have vt : vp_in (nI (8 * n + 2 + e)) 32 := vp_in_nI (by omega) (by decide)
  unfold wpY_simple
  refine nm_r (nI_pred n) (br_f (by decide) (br_f (by decide) (br_f (by decide) (br_f (by decide) (br_t (by decide) ?_)))))
  rw [show 8 * nI n = nI (8 * n) from pk_mul 8 n, nI_add, ci, cn, ed]
  refine ⟨vp_in_nI hn (by decide), nm_r (e' := nI (8 * n + 2 + e)) (by rw [nI_1, nI_add]; exact congrArg nI (by omega)) ?_⟩
  rw [ct, ek, ca_vb hk]
  unfold wY_simple_268
  exact ⟨vt, vi, nm_e ⟨vt, vi, nm_e (hy_drop (j := 1) hn (by omega) ed (hy_on hn en H))⟩⟩
theorem hy_sB {op : Nat} {b : Int32} (hn : n < 4) (he : e < 3) (ho : 3 ≤ op) (ho' : op ≤ 6) (ed : b_depths n = nI (e + 2)) (en : b_nexts n = nI p) (H : P (nI L, g_waiting, g_stack, g_locals, nI (n + 1), nI s, f_awaited, 0, g_where, g_outcome, g_made, g_good, f_open, b_ops, b_bs, b_sizes, b_exported, b_stamp, b_owner, b_lengths, b_elements, b_lasting, b_shared, b_roots, b_oldStamp, b_oldElements, b_oldShared, b_oldRoots, b_rows, upd b_nexts n (nI (p + 1)), upd (upd b_depths n (nI e)) n (nI (e + 1)), upd b_places (8 * n + 2 + e) (hx_ar op (b_places (8 * n + 2 + e)) (b_places (8 * n + 2 + (e + 1)))), upd b_kinds (8 * n + 2 + e) (nI 1), b_met, b_todo, b_heights)) : wpY_simple P (nI L, g_waiting, g_stack, g_locals, nI (n + 1), nI s, f_awaited, 0, g_where, g_outcome, g_made, g_good, f_open, b_ops, b_bs, b_sizes, b_exported, b_stamp, b_owner, b_lengths, b_elements, b_lasting, b_shared, b_roots, b_oldStamp, b_oldElements, b_oldShared, b_oldRoots, b_rows, b_nexts, b_depths, b_places, b_kinds, b_met, b_todo, b_heights) (nI op) b := by
  have key : wY_simple_190 P (nI op) (nI L) g_waiting g_stack g_locals (nI (n + 1)) (nI s) f_awaited 0 g_where g_outcome g_made g_good f_open b_ops b_bs b_sizes b_exported b_stamp b_owner b_lengths b_elements b_lasting b_shared b_roots b_oldStamp b_oldElements b_oldShared b_oldRoots b_rows b_nexts b_depths b_places b_kinds b_met b_todo b_heights := by
    unfold wY_simple_190
    refine hy_entry (j := 1) (e := e) hn (by omega) ed (hy_entry (j := 0) (e := e + 1) hn (by omega) ed (hy_drop (j := 2) (e := e) hn (by omega) ed ?_))
    have go : wY_simple_265 P (hx_ar op (b_places (8 * n + 2 + e)) (b_places (8 * n + 2 + (e + 1)))) 1 (nI L) g_waiting g_stack g_locals (nI (n + 1)) (nI s) f_awaited 0 g_where g_outcome g_made g_good f_open b_ops b_bs b_sizes b_exported b_stamp b_owner b_lengths b_elements b_lasting b_shared b_roots b_oldStamp b_oldElements b_oldShared b_oldRoots b_rows b_nexts (upd b_depths n (nI e)) b_places b_kinds b_met b_todo b_heights := by
      unfold wY_simple_265 wY_simple_268
      exact hy_push (k := 1) hn (by omega) (by decide) pk_us (hy_on hn en H)
    have h4 : op = 3 ∨ op = 4 ∨ op = 5 ∨ op = 6 := by omega
    rcases h4 with rfl | rfl | rfl | rfl
    · refine br_t (by decide) ?_; exact go
    · refine br_f (by decide) (br_t (by decide) ?_); exact go
    · refine br_f (by decide) (br_f (by decide) (br_t (by decide) ?_)); exact go
    · refine br_f (by decide) (br_f (by decide) (br_f (by decide) ?_))
      have go' : wY_simple_265 P (if b_places (8 * n + 2 + (e + 1)) ≤ b_places (8 * n + 2 + e) then 0 else 1) 1 (nI L) g_waiting g_stack g_locals (nI (n + 1)) (nI s) f_awaited 0 g_where g_outcome g_made g_good f_open b_ops b_bs b_sizes b_exported b_stamp b_owner b_lengths b_elements b_lasting b_shared b_roots b_oldStamp b_oldElements b_oldShared b_oldRoots b_rows b_nexts (upd b_depths n (nI e)) b_places b_kinds b_met b_todo b_heights := go
      refine br_c (fun z => ?_) (fun z => ?_)
      · rw [if_pos z] at go'; exact go'
      · rw [if_neg z] at go'; exact go'
  unfold wpY_simple
  have h4 : op = 3 ∨ op = 4 ∨ op = 5 ∨ op = 6 := by omega
  rcases h4 with rfl | rfl | rfl | rfl
  · refine nm_r (nI_pred n) (br_f (by decide) (br_f (by decide) (br_f (by decide) (br_f (by decide) (br_f (by decide) (br_t (by decide) ?_))))))
    exact key
  · refine nm_r (nI_pred n) (br_f (by decide) (br_f (by decide) (br_f (by decide) (br_f (by decide) (br_f (by decide) (br_f (by decide) (br_t (by decide) ?_)))))))
    exact key
  · refine nm_r (nI_pred n) (br_f (by decide) (br_f (by decide) (br_f (by decide) (br_f (by decide) (br_f (by decide) (br_f (by decide) (br_f (by decide) (br_t (by decide) ?_))))))))
    exact key
  · refine nm_r (nI_pred n) (br_f (by decide) (br_f (by decide) (br_f (by decide) (br_f (by decide) (br_f (by decide) (br_f (by decide) (br_f (by decide) (br_f (by decide) (br_t (by decide) ?_)))))))))
    exact key
theorem hy_s7 {b : Int32} (hn : n < 4) (H : P (nI L, g_waiting, g_stack, g_locals, nI (n + 1), nI s, f_awaited, 0, g_where, g_outcome, g_made, g_good, f_open, b_ops, b_bs, b_sizes, b_exported, b_stamp, b_owner, b_lengths, b_elements, b_lasting, b_shared, b_roots, b_oldStamp, b_oldElements, b_oldShared, b_oldRoots, b_rows, upd b_nexts n b, b_depths, b_places, b_kinds, b_met, b_todo, b_heights)) : wpY_simple P (nI L, g_waiting, g_stack, g_locals, nI (n + 1), nI s, f_awaited, 0, g_where, g_outcome, g_made, g_good, f_open, b_ops, b_bs, b_sizes, b_exported, b_stamp, b_owner, b_lengths, b_elements, b_lasting, b_shared, b_roots, b_oldStamp, b_oldElements, b_oldShared, b_oldRoots, b_rows, b_nexts, b_depths, b_places, b_kinds, b_met, b_todo, b_heights) (nI 7) b := by
  have cn : (nI n).toNatClampNeg = n := nI_clamp (by omega)
  unfold wpY_simple
  refine nm_r (nI_pred n) (br_f (by decide) (br_f (by decide) (br_f (by decide) (br_f (by decide) (br_f (by decide) (br_f (by decide) (br_f (by decide) (br_f (by decide) (br_f (by decide) (br_t (by decide) ?_))))))))))
  rw [cn]
  exact ⟨vp_in_nI hn (by decide), nm_e H⟩
theorem hy_s8 {b : Int32} (hn : n < 4) (he : e < 4) (ed : b_depths n = nI (e + 1)) (en : b_nexts n = nI p) (H1 : b_places (8 * n + 2 + e) = 0 → P (nI L, g_waiting, g_stack, g_locals, nI (n + 1), nI s, f_awaited, 0, g_where, g_outcome, g_made, g_good, f_open, b_ops, b_bs, b_sizes, b_exported, b_stamp, b_owner, b_lengths, b_elements, b_lasting, b_shared, b_roots, b_oldStamp, b_oldElements, b_oldShared, b_oldRoots, b_rows, upd b_nexts n b, upd b_depths n (nI e), b_places, b_kinds, b_met, b_todo, b_heights)) (H0 : ¬ b_places (8 * n + 2 + e) = 0 → P (nI L, g_waiting, g_stack, g_locals, nI (n + 1), nI s, f_awaited, 0, g_where, g_outcome, g_made, g_good, f_open, b_ops, b_bs, b_sizes, b_exported, b_stamp, b_owner, b_lengths, b_elements, b_lasting, b_shared, b_roots, b_oldStamp, b_oldElements, b_oldShared, b_oldRoots, b_rows, upd b_nexts n (nI (p + 1)), upd b_depths n (nI e), b_places, b_kinds, b_met, b_todo, b_heights)) : wpY_simple P (nI L, g_waiting, g_stack, g_locals, nI (n + 1), nI s, f_awaited, 0, g_where, g_outcome, g_made, g_good, f_open, b_ops, b_bs, b_sizes, b_exported, b_stamp, b_owner, b_lengths, b_elements, b_lasting, b_shared, b_roots, b_oldStamp, b_oldElements, b_oldShared, b_oldRoots, b_rows, b_nexts, b_depths, b_places, b_kinds, b_met, b_todo, b_heights) (nI 8) b := by
  have cn : (nI n).toNatClampNeg = n := nI_clamp (by omega)
  unfold wpY_simple
  refine nm_r (nI_pred n) (br_f (by decide) (br_f (by decide) (br_f (by decide) (br_f (by decide) (br_f (by decide) (br_f (by decide) (br_f (by decide) (br_f (by decide) (br_f (by decide) (br_f (by decide) (br_t (by decide) ?_)))))))))))
  refine hy_entry (j := 0) (e := e) hn (by omega) ed (hy_drop (j := 1) (e := e) hn (by omega) ed (br_c (fun z => ⟨vp_in_nI hn (by decide), nm_r (by rw [cn]) (H1 z)⟩) (fun z => ?_)))
  unfold wY_simple_268
  exact hy_on hn en (H0 z)
theorem hy_o9 {b : Nat} (hn : n < 4) (hd : d < 4) (hm : m < 6) (hb : b < 2) (er : b_rows n = nI m) (ed : b_depths n = nI d) (en : b_nexts n = nI p) (H : P (nI L, g_waiting, g_stack, g_locals, nI (n + 1), nI s, f_awaited, 0, g_where, g_outcome, g_made, g_good, f_open, b_ops, b_bs, b_sizes, b_exported, b_stamp, b_owner, b_lengths, b_elements, b_lasting, b_shared, b_roots, b_oldStamp, b_oldElements, b_oldShared, b_oldRoots, b_rows, upd b_nexts n (nI (p + 1)), upd b_depths n (nI (d + 1)), upd b_places (8 * n + 2 + d) (b_roots (2 * (m / 2) + b)), upd b_kinds (8 * n + 2 + d) (nI 2), b_met, b_todo, b_heights)) : wpY_other P (nI L, g_waiting, g_stack, g_locals, nI (n + 1), nI s, f_awaited, 0, g_where, g_outcome, g_made, g_good, f_open, b_ops, b_bs, b_sizes, b_exported, b_stamp, b_owner, b_lengths, b_elements, b_lasting, b_shared, b_roots, b_oldStamp, b_oldElements, b_oldShared, b_oldRoots, b_rows, b_nexts, b_depths, b_places, b_kinds, b_met, b_todo, b_heights) (nI 9) (nI b) := by
  have ci : (nI (2 * (m / 2) + b)).toNatClampNeg = 2 * (m / 2) + b := nI_clamp (by omega)
  unfold wpY_other
  refine br_f (by decide) (br_f (by decide) (br_t (by decide) ?_))
  refine hy_applet hn hm er ?_
  rw [show 2 * nI (m / 2) = nI (2 * (m / 2)) from pk_mul 2 _, nI_add, ci]
  unfold wY_other_222
  exact ⟨vp_in_nI (by omega) (by decide), hy_push (k := 2) hn (by omega) (by decide) ed (hy_on hn en H)⟩
theorem hy_o16 {b : Nat} (hn : n < 4) (hd : d < 4) (hb : b < 6) (ed : b_depths n = nI d) (en : b_nexts n = nI p) (H : P (nI L, g_waiting, g_stack, g_locals, nI (n + 1), nI s, f_awaited, 0, g_where, g_outcome, g_made, g_good, f_open, b_ops, b_bs, b_sizes, b_exported, b_stamp, b_owner, b_lengths, b_elements, b_lasting, b_shared, b_roots, b_oldStamp, b_oldElements, b_oldShared, b_oldRoots, b_rows, upd b_nexts n (nI (p + 1)), upd b_depths n (nI (d + 1)), upd b_places (8 * n + 2 + d) (b_roots b), upd b_kinds (8 * n + 2 + d) (nI 2), b_met, b_todo, b_heights)) : wpY_other P (nI L, g_waiting, g_stack, g_locals, nI (n + 1), nI s, f_awaited, 0, g_where, g_outcome, g_made, g_good, f_open, b_ops, b_bs, b_sizes, b_exported, b_stamp, b_owner, b_lengths, b_elements, b_lasting, b_shared, b_roots, b_oldStamp, b_oldElements, b_oldShared, b_oldRoots, b_rows, b_nexts, b_depths, b_places, b_kinds, b_met, b_todo, b_heights) (nI 16) (nI b) := by
  have ci : (nI b).toNatClampNeg = b := nI_clamp (by omega)
  unfold wpY_other
  refine br_f (by decide) (br_f (by decide) (br_f (by decide) (br_f (by decide) (br_f (by decide) (br_f (by decide) (br_f (by decide) (br_f (by decide) (br_f (by decide) (br_t (by decide) ?_)))))))))
  rw [ci]
  unfold wY_other_222
  exact ⟨vp_in_nI (by omega) (by decide), hy_push (k := 2) hn (by omega) (by decide) ed (hy_on hn en H)⟩
theorem hy_o17 {b : Int32} (hn : n < 4) (hd : d < 4) (ed : b_depths n = nI d) (en : b_nexts n = nI p) (H : P (nI L, g_waiting, g_stack, g_locals, nI (n + 1), nI s, f_awaited, 0, g_where, g_outcome, g_made, g_good, f_open, b_ops, b_bs, b_sizes, b_exported, b_stamp, b_owner, b_lengths, b_elements, b_lasting, b_shared, b_roots, b_oldStamp, b_oldElements, b_oldShared, b_oldRoots, b_rows, upd b_nexts n (nI (p + 1)), upd b_depths n (nI (d + 1)), upd b_places (8 * n + 2 + d) (-1), upd b_kinds (8 * n + 2 + d) (nI 2), b_met, b_todo, b_heights)) : wpY_other P (nI L, g_waiting, g_stack, g_locals, nI (n + 1), nI s, f_awaited, 0, g_where, g_outcome, g_made, g_good, f_open, b_ops, b_bs, b_sizes, b_exported, b_stamp, b_owner, b_lengths, b_elements, b_lasting, b_shared, b_roots, b_oldStamp, b_oldElements, b_oldShared, b_oldRoots, b_rows, b_nexts, b_depths, b_places, b_kinds, b_met, b_todo, b_heights) (nI 17) b := by
  unfold wpY_other
  refine br_f (by decide) (br_f (by decide) (br_f (by decide) (br_f (by decide) (br_f (by decide) (br_f (by decide) (br_f (by decide) (br_f (by decide) (br_f (by decide) (br_f (by decide) (br_t (by decide) ?_))))))))))
  unfold wY_other_222
  exact hy_push (k := 2) hn (by omega) (by decide) ed (hy_on hn en H)
theorem hy_o20 {b : Int32} {k : Nat} (hn : n < 4) (he : e + 1 < 4) (hk : k < 128) (ek : b_kinds (8 * n + 2 + e) = nI k) (ed : b_depths n = nI (e + 1)) (en : b_nexts n = nI p) (H : P (nI L, g_waiting, g_stack, g_locals, nI (n + 1), nI s, f_awaited, 0, g_where, g_outcome, g_made, g_good, f_open, b_ops, b_bs, b_sizes, b_exported, b_stamp, b_owner, b_lengths, b_elements, b_lasting, b_shared, b_roots, b_oldStamp, b_oldElements, b_oldShared, b_oldRoots, b_rows, upd b_nexts n (nI (p + 1)), upd b_depths n (nI (e + 2)), upd b_places (8 * n + 2 + (e + 1)) (b_places (8 * n + 2 + e)), upd b_kinds (8 * n + 2 + (e + 1)) (nI k), b_met, b_todo, b_heights)) : wpY_other P (nI L, g_waiting, g_stack, g_locals, nI (n + 1), nI s, f_awaited, 0, g_where, g_outcome, g_made, g_good, f_open, b_ops, b_bs, b_sizes, b_exported, b_stamp, b_owner, b_lengths, b_elements, b_lasting, b_shared, b_roots, b_oldStamp, b_oldElements, b_oldShared, b_oldRoots, b_rows, b_nexts, b_depths, b_places, b_kinds, b_met, b_todo, b_heights) (nI 20) b := by
  have cn : (nI n).toNatClampNeg = n := nI_clamp (by omega)
  have ct : (nI (8 * n + 2 + e)).toNatClampNeg = 8 * n + 2 + e := nI_clamp (by omega)
  have vt : vp_in (nI (8 * n + 2 + e)) 32 := vp_in_nI (by omega) (by decide)
  unfold wpY_other
  refine br_f (by decide) (br_f (by decide) (br_f (by decide) (br_f (by decide) (br_f (by decide) (br_f (by decide) (br_f (by decide) (br_f (by decide) (br_f (by decide) (br_f (by decide) (br_f (by decide) (br_f (by decide) (br_f (by decide) (br_t (by decide) ?_)))))))))))))
  rw [nI_pred, cn, ed, show 8 * nI n = nI (8 * n) from pk_mul 8 n]
  refine ⟨vp_in_nI hn (by decide), nm_r (e' := nI (8 * n + 2 + e)) (by rw [nI_1, nI_add]; exact congrArg nI (by omega)) ?_⟩
  rw [ct, ek]
  unfold wY_other_222
  exact ⟨vt, vt, hy_push hn (by omega) hk ed (hy_on hn en H)⟩
theorem hy_o21 {b : Int32} (hn : n < 4) (he : e < 4) (ed : b_depths n = nI (e + 1)) (en : b_nexts n = nI p) (H : P (nI L, g_waiting, g_stack, g_locals, nI (n + 1), nI s, f_awaited, 0, g_where, g_outcome, g_made, g_good, f_open, b_ops, b_bs, b_sizes, b_exported, b_stamp, b_owner, b_lengths, b_elements, b_lasting, b_shared, b_roots, b_oldStamp, b_oldElements, b_oldShared, b_oldRoots, b_rows, upd b_nexts n (nI (p + 1)), upd b_depths n (nI e), b_places, b_kinds, b_met, b_todo, b_heights)) : wpY_other P (nI L, g_waiting, g_stack, g_locals, nI (n + 1), nI s, f_awaited, 0, g_where, g_outcome, g_made, g_good, f_open, b_ops, b_bs, b_sizes, b_exported, b_stamp, b_owner, b_lengths, b_elements, b_lasting, b_shared, b_roots, b_oldStamp, b_oldElements, b_oldShared, b_oldRoots, b_rows, b_nexts, b_depths, b_places, b_kinds, b_met, b_todo, b_heights) (nI 21) b := by
  unfold wpY_other
  refine br_f (by decide) (br_f (by decide) (br_f (by decide) (br_f (by decide) (br_f (by decide) (br_f (by decide) (br_f (by decide) (br_f (by decide) (br_f (by decide) (br_f (by decide) (br_f (by decide) (br_f (by decide) (br_f (by decide) (br_f (by decide) (br_t (by decide) ?_))))))))))))))
  unfold wY_other_222
  exact hy_drop (j := 1) hn (by omega) ed (hy_on hn en H)
end
end
section
/-! ===== lockstep, instructions within a frame ===== -/
theorem hm_Om {π ρ : Nat → Nat} {H : Nat → Prop} {B B' : Nat} {opn logLength : Int32} {alive fresh lasting shared owner size element roots logCell logOld logged : Nat → Int32} {made : Int64} {bstamp : Nat → Int64} {bowner blengths belements blasting bshared broots : Nat → Int32} {boldStamp : Nat → Int64} {boldElements boldShared boldRoots : Nat → Int32} (hB : B ≤ B') (h : hm_O π ρ H B opn logLength alive fresh lasting shared owner size element roots logCell logOld logged made bstamp bowner blengths belements blasting bshared broots boldStamp boldElements boldShared boldRoots) : hm_O π ρ H B' opn logLength alive fresh lasting shared owner size element roots logCell logOld logged made bstamp bowner blengths belements blasting bshared broots boldStamp boldElements boldShared boldRoots := by
  obtain ⟨h1, h2, h3, h4, ⟨mm, e, hm, q⟩, h6⟩ := h
  exact ⟨h1, h2, h3, h4, ⟨mm, e, by omega, q⟩, h6⟩
def hm_IH (k L s : Nat) : Prop := ∀ s' u v, s < s' → hm_RR k L s' u v → hl_LS k u s' v
section
variable {f_limit f_pending f_wide f_waiting f_height f_entries f_locals f_logLength f_open f_awaited f_frames f_sp f_base f_pc f_method f_steps f_status f_lastResult f_lastPlace : Int32} {a_ops a_args a_quick a_length a_exported a_known a_alive a_fresh a_lasting a_shared a_owner a_size a_element a_roots a_logCell a_logOld a_logged a_slot a_frameMethod a_framePc : Nat → Int32} {g_limit g_waiting g_stack g_locals g_running g_steps g_awaited g_answer g_where g_outcome : Int32} {g_made : Int64} {g_good g_open : Int32} {b_ops b_bs b_sizes b_exported : Nat → Int32} {b_stamp : Nat → Int64} {b_owner b_lengths b_elements b_lasting b_shared b_roots : Nat → Int32} {b_oldStamp : Nat → Int64} {b_oldElements b_oldShared b_oldRoots b_rows b_nexts b_depths b_places b_kinds b_met b_todo b_heights : Nat → Int32}
variable {k L s n m p d l : Nat} {kl E π ρ opf bf : Nat → Nat} {H : Nat → Prop}
theorem hm_go {p' d' s' : Nat} {kl' E' : Nat → Nat} {slot' places' kinds' depths' nexts' : Nat → Int32} (h : (hm_Q k L s n m p d kl E π ρ H f_pending f_wide f_logLength f_open a_ops a_args a_quick a_length a_exported a_alive a_fresh a_lasting a_shared a_owner a_size a_element a_roots a_logCell a_logOld a_logged a_slot a_frameMethod a_framePc g_made b_ops b_bs b_sizes b_exported b_stamp b_owner b_lengths b_elements b_lasting b_shared b_roots b_oldStamp b_oldElements b_oldShared b_oldRoots b_rows b_nexts b_depths b_places b_kinds)) (hs : s ≤ s') (hs' : s' ≤ L)
    (h1 : ∀ i, i < 6 * n → slot' i = a_slot i) (h2 : ∀ i, i < 8 * n → places' i = b_places i) (h3 : ∀ i, i < 8 * n → kinds' i = b_kinds i) (h4 : ∀ f, f < n → nexts' f = b_nexts f ∧ depths' f = b_depths f) (en : nexts' n = nI p') (ed : depths' n = nI d') (hS : hf_S π H n d' kl' E' slot' places' kinds') (hC : hf_C a_ops a_args a_quick b_bs m p' (hf_A kl' E' d')) :
    (hm_Q k L s' n m p' d' kl' E' π ρ H f_pending f_wide f_logLength f_open a_ops a_args a_quick a_length a_exported a_alive a_fresh a_lasting a_shared a_owner a_size a_element a_roots a_logCell a_logOld a_logged slot' a_frameMethod a_framePc g_made b_ops b_bs b_sizes b_exported b_stamp b_owner b_lengths b_elements b_lasting b_shared b_roots b_oldStamp b_oldElements b_oldShared b_oldRoots b_rows nexts' depths' places' kinds') := by
  obtain ⟨⟨hn, _, hL⟩, hCD, hPD, hU, hT, hO⟩ := h
  exact ⟨⟨hn, hs', hL⟩, hCD, hPD, hf_Uc hU h1 h2 h3 (fun f hf => ⟨rfl, rfl, rfl, (h4 f hf).1, (h4 f hf).2⟩), ⟨hT.1, hT.2.1, hT.2.2.1, en, ed, hS, hC⟩, hm_Om (by omega) hO⟩
/-- a push -/
theorem hm_push {kd : Nat} {x y : Int32} (h : (hm_Q k L s n m p d kl E π ρ H f_pending f_wide f_logLength f_open a_ops a_args a_quick a_length a_exported a_alive a_fresh a_lasting a_shared a_owner a_size a_element a_roots a_logCell a_logOld a_logged a_slot a_frameMethod a_framePc g_made b_ops b_bs b_sizes b_exported b_stamp b_owner b_lengths b_elements b_lasting b_shared b_roots b_oldStamp b_oldElements b_oldShared b_oldRoots b_rows b_nexts b_depths b_places b_kinds)) (hsL : s < L) (hK : ho_K π H kd x y) (hC : hf_C a_ops a_args a_quick b_bs m (p + 1) (hf_A kl (hf_u E d kd) (d + 1))) :
    (hm_Q k L (s + 1) n m (p + 1) (d + 1) kl (hf_u E d kd) π ρ H f_pending f_wide f_logLength f_open a_ops a_args a_quick a_length a_exported a_alive a_fresh a_lasting a_shared a_owner a_size a_element a_roots a_logCell a_logOld a_logged (upd a_slot (6 * n + 2 + d) x) a_frameMethod a_framePc g_made b_ops b_bs b_sizes b_exported b_stamp b_owner b_lengths b_elements b_lasting b_shared b_roots b_oldStamp b_oldElements b_oldShared b_oldRoots b_rows (upd b_nexts n (nI (p + 1))) (upd b_depths n (nI (d + 1))) (upd b_places (8 * n + 2 + d) y) (upd b_kinds (8 * n + 2 + d) (nI kd))) :=
  hm_go h (by omega) hsL (fun i hi => pk_un (by omega)) (fun i hi => pk_un (by omega)) (fun i hi => pk_un (by omega)) (fun f hf => ⟨pk_un (by omega), pk_un (by omega)⟩) pk_us pk_us (hf_Sput h.2.2.2.2.1.2.2.2.2.2.1 (fun i hi hne => by omega) hK) hC
/-- nothing but the depth and the next instruction -/
theorem hm_less {e p' : Nat} (h : (hm_Q k L s n m p d kl E π ρ H f_pending f_wide f_logLength f_open a_ops a_args a_quick a_length a_exported a_alive a_fresh a_lasting a_shared a_owner a_size a_element a_roots a_logCell a_logOld a_logged a_slot a_frameMethod a_framePc g_made b_ops b_bs b_sizes b_exported b_stamp b_owner b_lengths b_elements b_lasting b_shared b_roots b_oldStamp b_oldElements b_oldShared b_oldRoots b_rows b_nexts b_depths b_places b_kinds)) (hsL : s < L) (he : e ≤ d) (hC : hf_C a_ops a_args a_quick b_bs m p' (hf_A kl E e)) :
    (hm_Q k L (s + 1) n m p' e kl E π ρ H f_pending f_wide f_logLength f_open a_ops a_args a_quick a_length a_exported a_alive a_fresh a_lasting a_shared a_owner a_size a_element a_roots a_logCell a_logOld a_logged a_slot a_frameMethod a_framePc g_made b_ops b_bs b_sizes b_exported b_stamp b_owner b_lengths b_elements b_lasting b_shared b_roots b_oldStamp b_oldElements b_oldShared b_oldRoots b_rows (upd b_nexts n (nI p')) (upd b_depths n (nI e)) b_places b_kinds) :=
  hm_go h (by omega) hsL (fun i hi => rfl) (fun i hi => rfl) (fun i hi => rfl) (fun f hf => ⟨pk_un (by omega), pk_un (by omega)⟩) pk_us pk_us (hf_Sle h.2.2.2.2.1.2.2.2.2.2.1 he) hC
/-- what every instruction has -/
theorem hm_at {op : Nat} (h : (hm_Q k L s n m p d kl E π ρ H f_pending f_wide f_logLength f_open a_ops a_args a_quick a_length a_exported a_alive a_fresh a_lasting a_shared a_owner a_size a_element a_roots a_logCell a_logOld a_logged a_slot a_frameMethod a_framePc g_made b_ops b_bs b_sizes b_exported b_stamp b_owner b_lengths b_elements b_lasting b_shared b_roots b_oldStamp b_oldElements b_oldShared b_oldRoots b_rows b_nexts b_depths b_places b_kinds)) (hl : l ≤ 16) (hM : hc_M a_ops a_args a_quick b_bs m l opf bf) (hR : hs_R opf bf p (hf_A kl E d)) (eo : opf p = op) :
    (n < 4 ∧ L ≤ 250 ∧ m < 6 ∧ p < 16 ∧ d ≤ 4) ∧ (b_rows n = nI m ∧ b_nexts n = nI p ∧ b_depths n = nI d ∧ hf_S π H n d kl E a_slot b_places b_kinds ∧ ∀ j, j < d → E j = 1 ∨ E j = 2) ∧ (b_ops (16 * m + p) = nI op ∧ p < l ∧ hs_fit op (b_bs (16 * m + p)) l ∧ (hc_us op → a_args (16 * m + p) = b_bs (16 * m + p)) ∧ bf p = (b_bs (16 * m + p)).toNatClampNeg) ∧
    ∃ A', hs_sq (hs_pr op (bf p)) (hf_A kl E d) = some A' ∧ ((op = 7 ∨ op = 8) → hf_C a_ops a_args a_quick b_bs m (bf p) A') ∧ (op ≠ 7 → op ≠ 19 → hf_C a_ops a_args a_quick b_bs m (p + 1) A') := by
  obtain ⟨⟨hn, _, _, hL2⟩, hCD, hPD, hU, ⟨hm, em, er, en, ed, hS, hCt⟩, hO⟩ := h
  obtain ⟨hp16, hd4, hE⟩ := hf_w hCt
  obtain ⟨hpl, A', eA⟩ := hM.2 p _ hR
  obtain ⟨eop, _, ebf, hfit, hus, _⟩ := hM.1 p hpl
  have hcl := (hs_Rcl opf bf).2 p _ A' hR eA
  rw [eo] at eA eop hfit hus hcl
  refine ⟨⟨hn, hL2, hm, hp16, hd4⟩, ⟨er, en, ed, hS, hE⟩, ⟨by rw [hCD.1]; exact eop, hpl, hfit, hus, ebf⟩, A', eA, fun o => ⟨l, opf, bf, hl, hM, hcl.1 o⟩, fun o1 o2 => ⟨l, opf, bf, hl, hM, hcl.2 o1 o2⟩⟩
theorem hl_0 (h : (hm_Q k L s n m p d kl E π ρ H f_pending f_wide f_logLength f_open a_ops a_args a_quick a_length a_exported a_alive a_fresh a_lasting a_shared a_owner a_size a_element a_roots a_logCell a_logOld a_logged a_slot a_frameMethod a_framePc g_made b_ops b_bs b_sizes b_exported b_stamp b_owner b_lengths b_elements b_lasting b_shared b_roots b_oldStamp b_oldElements b_oldShared b_oldRoots b_rows b_nexts b_depths b_places b_kinds)) (hl : l ≤ 16) (hM : hc_M a_ops a_args a_quick b_bs m l opf bf) (hR : hs_R opf bf p (hf_A kl E d)) (eo : opf p = 0) (eq : a_quick (16 * m + p) = nI 0) (hsL : s < L) (IH : hm_IH k L s) : hl_LS k (nI L, f_pending, f_wide, f_waiting, f_height, f_entries, f_locals, f_logLength, f_open, f_awaited, nI (n + 1), nI (6 * n + 2 + d), nI (6 * n), nI p, nI m, nI s, 0, 0, -1, a_ops, a_args, a_quick, a_length, a_exported, a_known, a_alive, a_fresh, a_lasting, a_shared, a_owner, a_size, a_element, a_roots, a_logCell, a_logOld, a_logged, a_slot, a_frameMethod, a_framePc) s (nI L, g_waiting, g_stack, g_locals, nI (n + 1), nI s, f_awaited, 0, g_where, g_outcome, g_made, g_good, f_open, b_ops, b_bs, b_sizes, b_exported, b_stamp, b_owner, b_lengths, b_elements, b_lasting, b_shared, b_roots, b_oldStamp, b_oldElements, b_oldShared, b_oldRoots, b_rows, b_nexts, b_depths, b_places, b_kinds, b_met, b_todo, b_heights) := by
  obtain ⟨⟨hn, hL2, hm, hp16, hd4⟩, ⟨er, en, ed, hS, hE⟩, ⟨eop, hpl, hfit, hus, ebf⟩, A', eA, _, hN⟩ := hm_at h hl hM hR eo
  have hN' := hN (by decide) (by decide)
  obtain ⟨C, e1, e2⟩ := hf_sqi eA
  obtain ⟨hd, eC⟩ := hf_ps e1
  rw [hf_sq0 e2, eC] at hN'
  have ea := hus (Or.inl rfl)
  have hr := hfit.1 rfl
  have hb : ca_sh (b_bs (16 * m + p)) := ca_sh_of (by omega) (by omega)
  refine hl_Xs hn (fun post hp => hx_i hm hp16 hL2 hsL eq ea (br_f (by decide) (hx_s0 hn (by omega) hp))) (hl_Ys hn (by omega) (fun post hp => hy_iS hn hm hp16 hL2 hsL er en eop rfl (by decide) (hy_s0 hn (by omega) ed en hp)) (IH (s + 1) _ _ (by omega) (hm_mk (hm_push h hsL (ho_Kn hb) hN'))))
end
end
section
/-! ===== lockstep: further instructions within a frame, the end by a status ===== -/
theorem ho_Kb {π : Nat → Nat} {H : Nat → Prop} {k : Nat} {x y : Int32} (h : ho_K π H k x y) : k ≤ 2 := by
  rcases h with ⟨h, _⟩ | ⟨h, _⟩ | ⟨h, _⟩ <;> omega
section
variable {f_limit f_pending f_wide f_waiting f_height f_entries f_locals f_logLength f_open f_awaited f_frames f_sp f_base f_pc f_method f_steps f_status f_lastResult f_lastPlace : Int32} {a_ops a_args a_quick a_length a_exported a_known a_alive a_fresh a_lasting a_shared a_owner a_size a_element a_roots a_logCell a_logOld a_logged a_slot a_frameMethod a_framePc : Nat → Int32} {g_limit g_waiting g_stack g_locals g_running g_steps g_awaited g_answer g_where g_outcome : Int32} {g_made : Int64} {g_good g_open : Int32} {b_ops b_bs b_sizes b_exported : Nat → Int32} {b_stamp : Nat → Int64} {b_owner b_lengths b_elements b_lasting b_shared b_roots : Nat → Int32} {b_oldStamp : Nat → Int64} {b_oldElements b_oldShared b_oldRoots b_rows b_nexts b_depths b_places b_kinds b_met b_todo b_heights : Nat → Int32}
variable {k L s n m p d l : Nat} {kl E π ρ opf bf : Nat → Nat} {H : Nat → Prop}
theorem hl_1 (h : (hm_Q k L s n m p d kl E π ρ H f_pending f_wide f_logLength f_open a_ops a_args a_quick a_length a_exported a_alive a_fresh a_lasting a_shared a_owner a_size a_element a_roots a_logCell a_logOld a_logged a_slot a_frameMethod a_framePc g_made b_ops b_bs b_sizes b_exported b_stamp b_owner b_lengths b_elements b_lasting b_shared b_roots b_oldStamp b_oldElements b_oldShared b_oldRoots b_rows b_nexts b_depths b_places b_kinds)) (hl : l ≤ 16) (hM : hc_M a_ops a_args a_quick b_bs m l opf bf) (hR : hs_R opf bf p (hf_A kl E d)) (eo : opf p = 1) (eq : a_quick (16 * m + p) = nI 1) (hsL : s < L) (IH : hm_IH k L s) : hl_LS k (nI L, f_pending, f_wide, f_waiting, f_height, f_entries, f_locals, f_logLength, f_open, f_awaited, nI (n + 1), nI (6 * n + 2 + d), nI (6 * n), nI p, nI m, nI s, 0, 0, -1, a_ops, a_args, a_quick, a_length, a_exported, a_known, a_alive, a_fresh, a_lasting, a_shared, a_owner, a_size, a_element, a_roots, a_logCell, a_logOld, a_logged, a_slot, a_frameMethod, a_framePc) s (nI L, g_waiting, g_stack, g_locals, nI (n + 1), nI s, f_awaited, 0, g_where, g_outcome, g_made, g_good, f_open, b_ops, b_bs, b_sizes, b_exported, b_stamp, b_owner, b_lengths, b_elements, b_lasting, b_shared, b_roots, b_oldStamp, b_oldElements, b_oldShared, b_oldRoots, b_rows, b_nexts, b_depths, b_places, b_kinds, b_met, b_todo, b_heights) := by
  obtain ⟨⟨hn, hL2, hm, hp16, hd4⟩, ⟨er, en, ed, hS, hE⟩, ⟨eop, hpl, hfit, hus, ebf⟩, A', eA, _, hN⟩ := hm_at h hl hM hR eo
  have hN' := hN (by decide) (by decide)
  obtain ⟨j, hj, ej⟩ := hfit.2.1 (by decide)
  have ea := hus (by unfold hc_us; decide)
  rw [ej] at ea
  rw [ej, nI_clamp (by omega)] at ebf
  rw [ebf] at eA
  obtain ⟨C, e1, e2⟩ := hf_sqi eA
  obtain ⟨hk0, hd, eC⟩ := hf_ld hj e1
  rw [hf_sq0 e2, eC] at hN'
  obtain ⟨ek, hK⟩ := hS.1 j hj
  have hkb := ho_Kb hK
  exact hl_Xs hn (fun post hp => hx_i hm hp16 hL2 hsL eq ea (br_f (by decide) (hx_s1 hn (by omega) hj hp))) (hl_Ys hn (by omega) (fun post hp => hy_iS hn hm hp16 hL2 hsL er en eop ej (by decide) (hy_s1 hn (by omega) hj (by omega) ek ed en hp)) (IH (s + 1) _ _ (by omega) (hm_mk (hm_push h hsL hK hN'))))
theorem hl_2 (h : (hm_Q k L s n m p d kl E π ρ H f_pending f_wide f_logLength f_open a_ops a_args a_quick a_length a_exported a_alive a_fresh a_lasting a_shared a_owner a_size a_element a_roots a_logCell a_logOld a_logged a_slot a_frameMethod a_framePc g_made b_ops b_bs b_sizes b_exported b_stamp b_owner b_lengths b_elements b_lasting b_shared b_roots b_oldStamp b_oldElements b_oldShared b_oldRoots b_rows b_nexts b_depths b_places b_kinds)) (hl : l ≤ 16) (hM : hc_M a_ops a_args a_quick b_bs m l opf bf) (hR : hs_R opf bf p (hf_A kl E d)) (eo : opf p = 2) (eq : a_quick (16 * m + p) = nI 2) (hsL : s < L) (IH : hm_IH k L s) : hl_LS k (nI L, f_pending, f_wide, f_waiting, f_height, f_entries, f_locals, f_logLength, f_open, f_awaited, nI (n + 1), nI (6 * n + 2 + d), nI (6 * n), nI p, nI m, nI s, 0, 0, -1, a_ops, a_args, a_quick, a_length, a_exported, a_known, a_alive, a_fresh, a_lasting, a_shared, a_owner, a_size, a_element, a_roots, a_logCell, a_logOld, a_logged, a_slot, a_frameMethod, a_framePc) s (nI L, g_waiting, g_stack, g_locals, nI (n + 1), nI s, f_awaited, 0, g_where, g_outcome, g_made, g_good, f_open, b_ops, b_bs, b_sizes, b_exported, b_stamp, b_owner, b_lengths, b_elements, b_lasting, b_shared, b_roots, b_oldStamp, b_oldElements, b_oldShared, b_oldRoots, b_rows, b_nexts, b_depths, b_places, b_kinds, b_met, b_todo, b_heights) := by
  obtain ⟨⟨hn, hL2, hm, hp16, hd4⟩, ⟨er, en, ed, hS, hE⟩, ⟨eop, hpl, hfit, hus, ebf⟩, A', eA, _, hN⟩ := hm_at h hl hM hR eo
  have hN' := hN (by decide) (by decide)
  obtain ⟨j, hj, ej⟩ := hfit.2.1 (by decide)
  have ea := hus (by unfold hc_us; decide)
  rw [ej] at ea
  rw [ej, nI_clamp (by omega)] at ebf
  rw [ebf] at eA
  obtain ⟨C, e1, e2⟩ := hf_sqi eA
  obtain ⟨e, rfl, eC⟩ := hf_sto hj (hs_Rw hR) e1
  rw [hf_sq0 e2, eC] at hN'
  obtain ⟨ek, hK⟩ := hS.2 e (by omega)
  have hkb := ho_Kb hK
  exact hl_Xs hn (fun post hp => hx_i hm hp16 hL2 hsL eq ea (br_f (by decide) (hx_s2 hn (by omega) hj hp))) (hl_Ys hn (by omega) (fun post hp => hy_iS hn hm hp16 hL2 hsL er en eop ej (by decide) (hy_s2 hn (by omega) hj (by omega) ek ed en hp)) (IH (s + 1) _ _ (by omega) (hm_mk (hm_go h (by omega) hsL (fun i hi => pk_un (by omega)) (fun i hi => pk_un (by omega)) (fun i hi => pk_un (by omega)) (fun f hf => ⟨pk_un (by omega), pk_un (by omega)⟩) pk_us pk_us (hf_Sloc (hf_Sle hS (by omega)) hj hK) hN'))))
theorem hl_B {op : Nat} (ho : 3 ≤ op) (ho' : op ≤ 6) (h : (hm_Q k L s n m p d kl E π ρ H f_pending f_wide f_logLength f_open a_ops a_args a_quick a_length a_exported a_alive a_fresh a_lasting a_shared a_owner a_size a_element a_roots a_logCell a_logOld a_logged a_slot a_frameMethod a_framePc g_made b_ops b_bs b_sizes b_exported b_stamp b_owner b_lengths b_elements b_lasting b_shared b_roots b_oldStamp b_oldElements b_oldShared b_oldRoots b_rows b_nexts b_depths b_places b_kinds)) (hl : l ≤ 16) (hM : hc_M a_ops a_args a_quick b_bs m l opf bf) (hR : hs_R opf bf p (hf_A kl E d)) (eo : opf p = op) (eq : a_quick (16 * m + p) = nI op) (hsL : s < L) (IH : hm_IH k L s) : hl_LS k (nI L, f_pending, f_wide, f_waiting, f_height, f_entries, f_locals, f_logLength, f_open, f_awaited, nI (n + 1), nI (6 * n + 2 + d), nI (6 * n), nI p, nI m, nI s, 0, 0, -1, a_ops, a_args, a_quick, a_length, a_exported, a_known, a_alive, a_fresh, a_lasting, a_shared, a_owner, a_size, a_element, a_roots, a_logCell, a_logOld, a_logged, a_slot, a_frameMethod, a_framePc) s (nI L, g_waiting, g_stack, g_locals, nI (n + 1), nI s, f_awaited, 0, g_where, g_outcome, g_made, g_good, f_open, b_ops, b_bs, b_sizes, b_exported, b_stamp, b_owner, b_lengths, b_elements, b_lasting, b_shared, b_roots, b_oldStamp, b_oldElements, b_oldShared, b_oldRoots, b_rows, b_nexts, b_depths, b_places, b_kinds, b_met, b_todo, b_heights) := by
  obtain ⟨⟨hn, hL2, hm, hp16, hd4⟩, ⟨er, en, ed, hS, hE⟩, ⟨eop, hpl, hfit, hus, ebf⟩, A', eA, _, hN⟩ := hm_at h hl hM hR eo
  have hN' := hN (by omega) (by omega)
  have epr : hs_pr op (bf p) = [hs_tk 1, hs_tk 1, hs_ps 1] := by
    have h4 : op = 3 ∨ op = 4 ∨ op = 5 ∨ op = 6 := by omega
    rcases h4 with rfl | rfl | rfl | rfl <;> rfl
  rw [epr] at eA
  obtain ⟨C1, e1, eA1⟩ := hf_sqi eA
  obtain ⟨C2, e2, eA2⟩ := hf_sqi eA1
  obtain ⟨C3, e3, eA3⟩ := hf_sqi eA2
  obtain ⟨e', rfl, hw1, rfl⟩ := hf_tk e1
  obtain ⟨e, rfl, hw2, rfl⟩ := hf_tk e2
  obtain ⟨_, eC⟩ := hf_ps e3
  rw [hf_sq0 eA3, eC] at hN'
  have k1 := (hS.2 (e + 1) (by omega)).2
  rw [show E (e + 1) = 1 by omega] at k1
  have k2 := (hS.2 e (by omega)).2
  rw [show E e = 1 by omega] at k2
  have q1 := ho_K1 k1
  have q2 := ho_K1 k2
  have hK : ho_K π H 1 (hx_ar op (a_slot (6 * n + 2 + e)) (a_slot (6 * n + 2 + (e + 1)))) (hx_ar op (b_places (8 * n + 2 + e)) (b_places (8 * n + 2 + (e + 1)))) := by
    rw [q1.1, q2.1]; exact ho_Kn (hx_ar_sh _ _ _)
  exact hl_Xs hn (fun post hp => hx_i hm hp16 hL2 hsL eq rfl (br_f (nI_ge (b := 12) (by omega) (by decide)) (hx_sB hn (by omega) ho ho' hp))) (hl_Ys hn (by omega) (fun post hp => hy_iS hn hm hp16 hL2 hsL er en eop rfl (by omega) (hy_sB hn (by omega) ho ho' ed en hp)) (IH (s + 1) _ _ (by omega) (hm_mk (hm_go h (by omega) hsL (fun i hi => pk_un (by omega)) (fun i hi => pk_un (by omega)) (fun i hi => pk_un (by omega)) (fun f hf => ⟨pk_un (by omega), by rw [pk_un (by omega), pk_un (by omega)]⟩) pk_us pk_us (hf_Sput hS (fun i hi hne => by omega) hK) hN'))))
theorem hl_7 (h : (hm_Q k L s n m p d kl E π ρ H f_pending f_wide f_logLength f_open a_ops a_args a_quick a_length a_exported a_alive a_fresh a_lasting a_shared a_owner a_size a_element a_roots a_logCell a_logOld a_logged a_slot a_frameMethod a_framePc g_made b_ops b_bs b_sizes b_exported b_stamp b_owner b_lengths b_elements b_lasting b_shared b_roots b_oldStamp b_oldElements b_oldShared b_oldRoots b_rows b_nexts b_depths b_places b_kinds)) (hl : l ≤ 16) (hM : hc_M a_ops a_args a_quick b_bs m l opf bf) (hR : hs_R opf bf p (hf_A kl E d)) (eo : opf p = 7) (eq : a_quick (16 * m + p) = nI 7) (hsL : s < L) (IH : hm_IH k L s) : hl_LS k (nI L, f_pending, f_wide, f_waiting, f_height, f_entries, f_locals, f_logLength, f_open, f_awaited, nI (n + 1), nI (6 * n + 2 + d), nI (6 * n), nI p, nI m, nI s, 0, 0, -1, a_ops, a_args, a_quick, a_length, a_exported, a_known, a_alive, a_fresh, a_lasting, a_shared, a_owner, a_size, a_element, a_roots, a_logCell, a_logOld, a_logged, a_slot, a_frameMethod, a_framePc) s (nI L, g_waiting, g_stack, g_locals, nI (n + 1), nI s, f_awaited, 0, g_where, g_outcome, g_made, g_good, f_open, b_ops, b_bs, b_sizes, b_exported, b_stamp, b_owner, b_lengths, b_elements, b_lasting, b_shared, b_roots, b_oldStamp, b_oldElements, b_oldShared, b_oldRoots, b_rows, b_nexts, b_depths, b_places, b_kinds, b_met, b_todo, b_heights) := by
  obtain ⟨⟨hn, hL2, hm, hp16, hd4⟩, ⟨er, en, ed, hS, hE⟩, ⟨eop, hpl, hfit, hus, ebf⟩, A', eA, hN, _⟩ := hm_at h hl hM hR eo
  have hN' := hN (by decide)
  obtain ⟨j, hj, ej⟩ := hfit.2.2.1 (by decide)
  have ea := hus (by unfold hc_us; decide)
  rw [ej] at ea
  rw [ej, nI_clamp (by omega)] at ebf
  rw [hf_sq0 eA, ebf] at hN'
  exact hl_Xs hn (fun post hp => hx_i hm hp16 hL2 hsL eq ea (br_f (by decide) (hx_s7 hp))) (hl_Ys hn (by omega) (fun post hp => hy_iS hn hm hp16 hL2 hsL er en eop ej (by decide) (hy_s7 hn hp)) (IH (s + 1) _ _ (by omega) (hm_mk (hm_go h (by omega) hsL (fun i hi => rfl) (fun i hi => rfl) (fun i hi => rfl) (fun f hf => ⟨pk_un (by omega), rfl⟩) pk_us ed hS hN'))))
theorem hl_8 (h : (hm_Q k L s n m p d kl E π ρ H f_pending f_wide f_logLength f_open a_ops a_args a_quick a_length a_exported a_alive a_fresh a_lasting a_shared a_owner a_size a_element a_roots a_logCell a_logOld a_logged a_slot a_frameMethod a_framePc g_made b_ops b_bs b_sizes b_exported b_stamp b_owner b_lengths b_elements b_lasting b_shared b_roots b_oldStamp b_oldElements b_oldShared b_oldRoots b_rows b_nexts b_depths b_places b_kinds)) (hl : l ≤ 16) (hM : hc_M a_ops a_args a_quick b_bs m l opf bf) (hR : hs_R opf bf p (hf_A kl E d)) (eo : opf p = 8) (eq : a_quick (16 * m + p) = nI 8) (hsL : s < L) (IH : hm_IH k L s) : hl_LS k (nI L, f_pending, f_wide, f_waiting, f_height, f_entries, f_locals, f_logLength, f_open, f_awaited, nI (n + 1), nI (6 * n + 2 + d), nI (6 * n), nI p, nI m, nI s, 0, 0, -1, a_ops, a_args, a_quick, a_length, a_exported, a_known, a_alive, a_fresh, a_lasting, a_shared, a_owner, a_size, a_element, a_roots, a_logCell, a_logOld, a_logged, a_slot, a_frameMethod, a_framePc) s (nI L, g_waiting, g_stack, g_locals, nI (n + 1), nI s, f_awaited, 0, g_where, g_outcome, g_made, g_good, f_open, b_ops, b_bs, b_sizes, b_exported, b_stamp, b_owner, b_lengths, b_elements, b_lasting, b_shared, b_roots, b_oldStamp, b_oldElements, b_oldShared, b_oldRoots, b_rows, b_nexts, b_depths, b_places, b_kinds, b_met, b_todo, b_heights) := by
  obtain ⟨⟨hn, hL2, hm, hp16, hd4⟩, ⟨er, en, ed, hS, hE⟩, ⟨eop, hpl, hfit, hus, ebf⟩, A', eA, hN, hN2⟩ := hm_at h hl hM hR eo
  have hN' := hN (by decide)
  have hN2' := hN2 (by decide) (by decide)
  obtain ⟨j, hj, ej⟩ := hfit.2.2.1 (by decide)
  have ea := hus (by unfold hc_us; decide)
  rw [ej] at ea
  rw [ej, nI_clamp (by omega)] at ebf
  obtain ⟨C1, e1, eA1⟩ := hf_sqi eA
  obtain ⟨e, rfl, hw1, rfl⟩ := hf_tk e1
  rw [hf_sq0 eA1] at hN' hN2'
  rw [ebf] at hN'
  have k1 := (hS.2 e (by omega)).2
  rw [show E e = 1 by omega] at k1
  have q1 := (ho_K1 k1).1
  by_cases z : a_slot (6 * n + 2 + e) = 0
  · have z' : b_places (8 * n + 2 + e) = 0 := q1.trans z
    exact hl_Xs hn (fun post hp => hx_i hm hp16 hL2 hsL eq ea (br_f (by decide) (hx_s8 hn (by omega) (fun _ => hp) (fun q => absurd z q)))) (hl_Ys hn (by omega) (fun post hp => hy_iS hn hm hp16 hL2 hsL er en eop ej (by decide) (hy_s8 hn (by omega) ed en (fun _ => hp) (fun q => absurd z' q))) (IH (s + 1) _ _ (by omega) (hm_mk (hm_less h hsL (by omega) hN'))))
  · have z' : ¬ b_places (8 * n + 2 + e) = 0 := fun q => z (q1.symm.trans q)
    exact hl_Xs hn (fun post hp => hx_i hm hp16 hL2 hsL eq ea (br_f (by decide) (hx_s8 hn (by omega) (fun q => absurd q z) (fun _ => hp)))) (hl_Ys hn (by omega) (fun post hp => hy_iS hn hm hp16 hL2 hsL er en eop ej (by decide) (hy_s8 hn (by omega) ed en (fun q => absurd q z') (fun _ => hp))) (IH (s + 1) _ _ (by omega) (hm_mk (hm_less h hsL (by omega) hN2'))))
theorem hl_9 (h : (hm_Q k L s n m p d kl E π ρ H f_pending f_wide f_logLength f_open a_ops a_args a_quick a_length a_exported a_alive a_fresh a_lasting a_shared a_owner a_size a_element a_roots a_logCell a_logOld a_logged a_slot a_frameMethod a_framePc g_made b_ops b_bs b_sizes b_exported b_stamp b_owner b_lengths b_elements b_lasting b_shared b_roots b_oldStamp b_oldElements b_oldShared b_oldRoots b_rows b_nexts b_depths b_places b_kinds)) (hl : l ≤ 16) (hM : hc_M a_ops a_args a_quick b_bs m l opf bf) (hR : hs_R opf bf p (hf_A kl E d)) (eo : opf p = 9) (eq : a_quick (16 * m + p) = nI 9) (hsL : s < L) (IH : hm_IH k L s) : hl_LS k (nI L, f_pending, f_wide, f_waiting, f_height, f_entries, f_locals, f_logLength, f_open, f_awaited, nI (n + 1), nI (6 * n + 2 + d), nI (6 * n), nI p, nI m, nI s, 0, 0, -1, a_ops, a_args, a_quick, a_length, a_exported, a_known, a_alive, a_fresh, a_lasting, a_shared, a_owner, a_size, a_element, a_roots, a_logCell, a_logOld, a_logged, a_slot, a_frameMethod, a_framePc) s (nI L, g_waiting, g_stack, g_locals, nI (n + 1), nI s, f_awaited, 0, g_where, g_outcome, g_made, g_good, f_open, b_ops, b_bs, b_sizes, b_exported, b_stamp, b_owner, b_lengths, b_elements, b_lasting, b_shared, b_roots, b_oldStamp, b_oldElements, b_oldShared, b_oldRoots, b_rows, b_nexts, b_depths, b_places, b_kinds, b_met, b_todo, b_heights) := by
  obtain ⟨⟨hn, hL2, hm, hp16, hd4⟩, ⟨er, en, ed, hS, hE⟩, ⟨eop, hpl, hfit, hus, ebf⟩, A', eA, _, hN⟩ := hm_at h hl hM hR eo
  have hN' := hN (by decide) (by decide)
  obtain ⟨j, hj, ej⟩ := hfit.2.1 (by decide)
  have ea := hus (by unfold hc_us; decide)
  rw [ej] at ea
  obtain ⟨C, e1, e2⟩ := hf_sqi eA
  obtain ⟨hd, eC⟩ := hf_ps e1
  rw [hf_sq0 e2, eC] at hN'
  have hV := h.2.2.2.2.2.2.2.1 (2 * (m / 2) + j) (by omega)
  exact hl_Xs hn (fun post hp => hx_i hm hp16 hL2 hsL eq ea (br_f (by decide) (hx_s9 hn (by omega) hm hj hp))) (hl_Ys hn (by omega) (fun post hp => hy_iT hn hm hp16 hL2 hsL er en eop ej (by decide) (by decide) (hy_o9 hn (by omega) hm hj er ed en hp)) (IH (s + 1) _ _ (by omega) (hm_mk (hm_push h hsL (ho_Kr hV) hN'))))
theorem hl_16 (h : (hm_Q k L s n m p d kl E π ρ H f_pending f_wide f_logLength f_open a_ops a_args a_quick a_length a_exported a_alive a_fresh a_lasting a_shared a_owner a_size a_element a_roots a_logCell a_logOld a_logged a_slot a_frameMethod a_framePc g_made b_ops b_bs b_sizes b_exported b_stamp b_owner b_lengths b_elements b_lasting b_shared b_roots b_oldStamp b_oldElements b_oldShared b_oldRoots b_rows b_nexts b_depths b_places b_kinds)) (hl : l ≤ 16) (hM : hc_M a_ops a_args a_quick b_bs m l opf bf) (hR : hs_R opf bf p (hf_A kl E d)) (eo : opf p = 16) (eq : a_quick (16 * m + p) = nI 16) (hsL : s < L) (IH : hm_IH k L s) : hl_LS k (nI L, f_pending, f_wide, f_waiting, f_height, f_entries, f_locals, f_logLength, f_open, f_awaited, nI (n + 1), nI (6 * n + 2 + d), nI (6 * n), nI p, nI m, nI s, 0, 0, -1, a_ops, a_args, a_quick, a_length, a_exported, a_known, a_alive, a_fresh, a_lasting, a_shared, a_owner, a_size, a_element, a_roots, a_logCell, a_logOld, a_logged, a_slot, a_frameMethod, a_framePc) s (nI L, g_waiting, g_stack, g_locals, nI (n + 1), nI s, f_awaited, 0, g_where, g_outcome, g_made, g_good, f_open, b_ops, b_bs, b_sizes, b_exported, b_stamp, b_owner, b_lengths, b_elements, b_lasting, b_shared, b_roots, b_oldStamp, b_oldElements, b_oldShared, b_oldRoots, b_rows, b_nexts, b_depths, b_places, b_kinds, b_met, b_todo, b_heights) := by
  obtain ⟨⟨hn, hL2, hm, hp16, hd4⟩, ⟨er, en, ed, hS, hE⟩, ⟨eop, hpl, hfit, hus, ebf⟩, A', eA, _, hN⟩ := hm_at h hl hM hR eo
  have hN' := hN (by decide) (by decide)
  obtain ⟨j, hj, ej⟩ := hfit.2.2.2 (by decide)
  have ea := hus (by unfold hc_us; decide)
  rw [ej] at ea
  obtain ⟨C, e1, e2⟩ := hf_sqi eA
  obtain ⟨hd, eC⟩ := hf_ps e1
  rw [hf_sq0 e2, eC] at hN'
  have hV := h.2.2.2.2.2.2.2.1 j (by omega)
  exact hl_Xs hn (fun post hp => hx_i hm hp16 hL2 hsL eq ea (br_t (by decide) (br_f (by decide) (hx_m16 hn (by omega) hj hp)))) (hl_Ys hn (by omega) (fun post hp => hy_iT hn hm hp16 hL2 hsL er en eop ej (by decide) (by decide) (hy_o16 hn (by omega) hj ed en hp)) (IH (s + 1) _ _ (by omega) (hm_mk (hm_push h hsL (ho_Kr hV) hN'))))
theorem hl_17 (h : (hm_Q k L s n m p d kl E π ρ H f_pending f_wide f_logLength f_open a_ops a_args a_quick a_length a_exported a_alive a_fresh a_lasting a_shared a_owner a_size a_element a_roots a_logCell a_logOld a_logged a_slot a_frameMethod a_framePc g_made b_ops b_bs b_sizes b_exported b_stamp b_owner b_lengths b_elements b_lasting b_shared b_roots b_oldStamp b_oldElements b_oldShared b_oldRoots b_rows b_nexts b_depths b_places b_kinds)) (hl : l ≤ 16) (hM : hc_M a_ops a_args a_quick b_bs m l opf bf) (hR : hs_R opf bf p (hf_A kl E d)) (eo : opf p = 17) (eq : a_quick (16 * m + p) = nI 17) (hsL : s < L) (IH : hm_IH k L s) : hl_LS k (nI L, f_pending, f_wide, f_waiting, f_height, f_entries, f_locals, f_logLength, f_open, f_awaited, nI (n + 1), nI (6 * n + 2 + d), nI (6 * n), nI p, nI m, nI s, 0, 0, -1, a_ops, a_args, a_quick, a_length, a_exported, a_known, a_alive, a_fresh, a_lasting, a_shared, a_owner, a_size, a_element, a_roots, a_logCell, a_logOld, a_logged, a_slot, a_frameMethod, a_framePc) s (nI L, g_waiting, g_stack, g_locals, nI (n + 1), nI s, f_awaited, 0, g_where, g_outcome, g_made, g_good, f_open, b_ops, b_bs, b_sizes, b_exported, b_stamp, b_owner, b_lengths, b_elements, b_lasting, b_shared, b_roots, b_oldStamp, b_oldElements, b_oldShared, b_oldRoots, b_rows, b_nexts, b_depths, b_places, b_kinds, b_met, b_todo, b_heights) := by
  obtain ⟨⟨hn, hL2, hm, hp16, hd4⟩, ⟨er, en, ed, hS, hE⟩, ⟨eop, hpl, hfit, hus, ebf⟩, A', eA, _, hN⟩ := hm_at h hl hM hR eo
  have hN' := hN (by decide) (by decide)
  obtain ⟨C, e1, e2⟩ := hf_sqi eA
  obtain ⟨hd, eC⟩ := hf_ps e1
  rw [hf_sq0 e2, eC] at hN'
  exact hl_Xs hn (fun post hp => hx_i hm hp16 hL2 hsL eq rfl (br_t (by decide) (br_f (by decide) (hx_m17 hn (by omega) hp)))) (hl_Ys hn (by omega) (fun post hp => hy_iT hn hm hp16 hL2 hsL er en eop rfl (by decide) (by decide) (hy_o17 hn (by omega) ed en hp)) (IH (s + 1) _ _ (by omega) (hm_mk (hm_push h hsL (ho_Kr (Or.inl ⟨rfl, rfl⟩)) hN'))))
theorem hl_20 (h : (hm_Q k L s n m p d kl E π ρ H f_pending f_wide f_logLength f_open a_ops a_args a_quick a_length a_exported a_alive a_fresh a_lasting a_shared a_owner a_size a_element a_roots a_logCell a_logOld a_logged a_slot a_frameMethod a_framePc g_made b_ops b_bs b_sizes b_exported b_stamp b_owner b_lengths b_elements b_lasting b_shared b_roots b_oldStamp b_oldElements b_oldShared b_oldRoots b_rows b_nexts b_depths b_places b_kinds)) (hl : l ≤ 16) (hM : hc_M a_ops a_args a_quick b_bs m l opf bf) (hR : hs_R opf bf p (hf_A kl E d)) (eo : opf p = 20) (eq : a_quick (16 * m + p) = nI 20) (hsL : s < L) (IH : hm_IH k L s) : hl_LS k (nI L, f_pending, f_wide, f_waiting, f_height, f_entries, f_locals, f_logLength, f_open, f_awaited, nI (n + 1), nI (6 * n + 2 + d), nI (6 * n), nI p, nI m, nI s, 0, 0, -1, a_ops, a_args, a_quick, a_length, a_exported, a_known, a_alive, a_fresh, a_lasting, a_shared, a_owner, a_size, a_element, a_roots, a_logCell, a_logOld, a_logged, a_slot, a_frameMethod, a_framePc) s (nI L, g_waiting, g_stack, g_locals, nI (n + 1), nI s, f_awaited, 0, g_where, g_outcome, g_made, g_good, f_open, b_ops, b_bs, b_sizes, b_exported, b_stamp, b_owner, b_lengths, b_elements, b_lasting, b_shared, b_roots, b_oldStamp, b_oldElements, b_oldShared, b_oldRoots, b_rows, b_nexts, b_depths, b_places, b_kinds, b_met, b_todo, b_heights) := by
  obtain ⟨⟨hn, hL2, hm, hp16, hd4⟩, ⟨er, en, ed, hS, hE⟩, ⟨eop, hpl, hfit, hus, ebf⟩, A', eA, _, hN⟩ := hm_at h hl hM hR eo
  have hN' := hN (by decide) (by decide)
  obtain ⟨C, e1, e2⟩ := hf_sqi eA
  obtain ⟨e, rfl, hd, eC⟩ := hf_dup e1
  rw [hf_sq0 e2, eC] at hN'
  obtain ⟨ek, hK⟩ := hS.2 e (by omega)
  have hkb := ho_Kb hK
  exact hl_Xs hn (fun post hp => hx_i hm hp16 hL2 hsL eq rfl (br_t (by decide) (br_t (by decide) (br_f (by decide) (hx_c20 hn (by omega) hp))))) (hl_Ys hn (by omega) (fun post hp => hy_iT hn hm hp16 hL2 hsL er en eop rfl (by decide) (by decide) (hy_o20 hn (by omega) (by omega) ek ed en hp)) (IH (s + 1) _ _ (by omega) (hm_mk (hm_push h hsL hK hN'))))
theorem hl_21 (h : (hm_Q k L s n m p d kl E π ρ H f_pending f_wide f_logLength f_open a_ops a_args a_quick a_length a_exported a_alive a_fresh a_lasting a_shared a_owner a_size a_element a_roots a_logCell a_logOld a_logged a_slot a_frameMethod a_framePc g_made b_ops b_bs b_sizes b_exported b_stamp b_owner b_lengths b_elements b_lasting b_shared b_roots b_oldStamp b_oldElements b_oldShared b_oldRoots b_rows b_nexts b_depths b_places b_kinds)) (hl : l ≤ 16) (hM : hc_M a_ops a_args a_quick b_bs m l opf bf) (hR : hs_R opf bf p (hf_A kl E d)) (eo : opf p = 21) (eq : a_quick (16 * m + p) = nI 21) (hsL : s < L) (IH : hm_IH k L s) : hl_LS k (nI L, f_pending, f_wide, f_waiting, f_height, f_entries, f_locals, f_logLength, f_open, f_awaited, nI (n + 1), nI (6 * n + 2 + d), nI (6 * n), nI p, nI m, nI s, 0, 0, -1, a_ops, a_args, a_quick, a_length, a_exported, a_known, a_alive, a_fresh, a_lasting, a_shared, a_owner, a_size, a_element, a_roots, a_logCell, a_logOld, a_logged, a_slot, a_frameMethod, a_framePc) s (nI L, g_waiting, g_stack, g_locals, nI (n + 1), nI s, f_awaited, 0, g_where, g_outcome, g_made, g_good, f_open, b_ops, b_bs, b_sizes, b_exported, b_stamp, b_owner, b_lengths, b_elements, b_lasting, b_shared, b_roots, b_oldStamp, b_oldElements, b_oldShared, b_oldRoots, b_rows, b_nexts, b_depths, b_places, b_kinds, b_met, b_todo, b_heights) := by
  obtain ⟨⟨hn, hL2, hm, hp16, hd4⟩, ⟨er, en, ed, hS, hE⟩, ⟨eop, hpl, hfit, hus, ebf⟩, A', eA, _, hN⟩ := hm_at h hl hM hR eo
  have hN' := hN (by decide) (by decide)
  obtain ⟨C1, e1, eA1⟩ := hf_sqi eA
  obtain ⟨e, rfl, hw1, rfl⟩ := hf_tk e1
  rw [hf_sq0 eA1] at hN'
  exact hl_Xs hn (fun post hp => hx_i hm hp16 hL2 hsL eq rfl (br_t (by decide) (br_t (by decide) (br_f (by decide) (hx_c21 hn (by omega) hp))))) (hl_Ys hn (by omega) (fun post hp => hy_iT hn hm hp16 hL2 hsL er en eop rfl (by decide) (by decide) (hy_o21 hn (by omega) ed en hp)) (IH (s + 1) _ _ (by omega) (hm_mk (hm_less h hsL (by omega) hN'))))
/-! ### the end by a status -/
theorem hl_F {st : Int32} {x s' B : Nat} (hst : ¬ st = 0) (hO : hm_O π ρ H B f_open f_logLength a_alive a_fresh a_lasting a_shared a_owner a_size a_element a_roots a_logCell a_logOld a_logged g_made b_stamp b_owner b_lengths b_elements b_lasting b_shared b_roots b_oldStamp b_oldElements b_oldShared b_oldRoots) (hB : B ≤ 250 * (k + 4)) (hC : hc_CD a_ops a_args a_quick a_length a_exported b_ops b_bs b_sizes b_exported) (hPd : hc_PD f_pending f_wide a_ops a_args b_bs b_sizes) (hL : 20 ≤ L) (hL' : L ≤ 250) (hm : m < 6) (hp : p < 16) (hn : n < 4) (er : b_rows n = nI m) (en : b_nexts n = nI p) (hx : x < 300)
    (hY : ∀ post : SY → Prop, wpY_end (fun u => match u with | (g_limit, g_waiting, g_stack, g_locals, g_running, g_steps, g_awaited, g_answer, g_where, g_outcome, g_made, g_good, g_open, b_ops, b_bs, b_sizes, b_exported, b_stamp, b_owner, b_lengths, b_elements, b_lasting, b_shared, b_roots, b_oldStamp, b_oldElements, b_oldShared, b_oldRoots, b_rows, b_nexts, b_depths, b_places, b_kinds, b_met, b_todo, b_heights) => (post (g_limit, g_waiting, g_stack, g_locals, g_running, g_steps, g_awaited, g_answer, g_where, g_outcome, g_made, g_good, g_open, b_ops, b_bs, b_sizes, b_exported, b_stamp, b_owner, b_lengths, b_elements, b_lasting, b_shared, b_roots, b_oldStamp, b_oldElements, b_oldShared, b_oldRoots, b_rows, b_nexts, b_depths, b_places, b_kinds, b_met, b_todo, b_heights))) (nI L, g_waiting, g_stack, g_locals, nI (n + 1), nI s', f_awaited, 0, g_where, g_outcome, g_made, g_good, f_open, b_ops, b_bs, b_sizes, b_exported, b_stamp, b_owner, b_lengths, b_elements, b_lasting, b_shared, b_roots, b_oldStamp, b_oldElements, b_oldShared, b_oldRoots, b_rows, b_nexts, b_depths, b_places, b_kinds, b_met, b_todo, b_heights) st → wpY_step post (nI L, g_waiting, g_stack, g_locals, nI (n + 1), nI s, f_awaited, 0, g_where, g_outcome, g_made, g_good, f_open, b_ops, b_bs, b_sizes, b_exported, b_stamp, b_owner, b_lengths, b_elements, b_lasting, b_shared, b_roots, b_oldStamp, b_oldElements, b_oldShared, b_oldRoots, b_rows, b_nexts, b_depths, b_places, b_kinds, b_met, b_todo, b_heights)) : hl_LS k (nI L, f_pending, f_wide, f_waiting, f_height, f_entries, f_locals, f_logLength, f_open, f_awaited, f_frames, f_sp, f_base, nI p, nI m, f_steps, st, 0, -1, a_ops, a_args, a_quick, a_length, a_exported, a_known, a_alive, a_fresh, a_lasting, a_shared, a_owner, a_size, a_element, a_roots, a_logCell, a_logOld, a_logged, a_slot, a_frameMethod, a_framePc) x (nI L, g_waiting, g_stack, g_locals, nI (n + 1), nI s, f_awaited, 0, g_where, g_outcome, g_made, g_good, f_open, b_ops, b_bs, b_sizes, b_exported, b_stamp, b_owner, b_lengths, b_elements, b_lasting, b_shared, b_roots, b_oldStamp, b_oldElements, b_oldShared, b_oldRoots, b_rows, b_nexts, b_depths, b_places, b_kinds, b_met, b_todo, b_heights) := by
  obtain ⟨u', aw, bel, bsh, bro, hR, hX, hE⟩ := hm_end (g_steps := nI s') (g_waiting := g_waiting) (g_stack := g_stack) (g_locals := g_locals) (g_where := g_where) (g_outcome := g_outcome) (g_good := g_good) (b_depths := b_depths) (b_places := b_places) (b_kinds := b_kinds) (b_met := b_met) (b_todo := b_todo) (b_heights := b_heights) (f_waiting := f_waiting) (f_height := f_height) (f_entries := f_entries) (f_locals := f_locals) (f_awaited := f_awaited) (f_frames := f_frames) (f_sp := f_sp) (f_base := f_base) (f_steps := f_steps) (a_known := a_known) (a_slot := a_slot) (a_frameMethod := a_frameMethod) (a_framePc := a_framePc) (st := st) hst hO hB hC hPd hL hL' hm hp hn er en
  exact hl_Ys hn hx (fun post hp => hY post (hE _ hp)) (hl_base (Or.inl hst) hX hR)
/-- the step limit -/
theorem hy_iE {post : SY → Prop} (hn : n < 4) (H : wpY_end (fun u => match u with | (g_limit, g_waiting, g_stack, g_locals, g_running, g_steps, g_awaited, g_answer, g_where, g_outcome, g_made, g_good, g_open, b_ops, b_bs, b_sizes, b_exported, b_stamp, b_owner, b_lengths, b_elements, b_lasting, b_shared, b_roots, b_oldStamp, b_oldElements, b_oldShared, b_oldRoots, b_rows, b_nexts, b_depths, b_places, b_kinds, b_met, b_todo, b_heights) => (post (g_limit, g_waiting, g_stack, g_locals, g_running, g_steps, g_awaited, g_answer, g_where, g_outcome, g_made, g_good, g_open, b_ops, b_bs, b_sizes, b_exported, b_stamp, b_owner, b_lengths, b_elements, b_lasting, b_shared, b_roots, b_oldStamp, b_oldElements, b_oldShared, b_oldRoots, b_rows, b_nexts, b_depths, b_places, b_kinds, b_met, b_todo, b_heights))) (nI L, g_waiting, g_stack, g_locals, nI (n + 1), nI L, f_awaited, 0, g_where, g_outcome, g_made, g_good, f_open, b_ops, b_bs, b_sizes, b_exported, b_stamp, b_owner, b_lengths, b_elements, b_lasting, b_shared, b_roots, b_oldStamp, b_oldElements, b_oldShared, b_oldRoots, b_rows, b_nexts, b_depths, b_places, b_kinds, b_met, b_todo, b_heights) 1) : wpY_step post (nI L, g_waiting, g_stack, g_locals, nI (n + 1), nI L, f_awaited, 0, g_where, g_outcome, g_made, g_good, f_open, b_ops, b_bs, b_sizes, b_exported, b_stamp, b_owner, b_lengths, b_elements, b_lasting, b_shared, b_roots, b_oldStamp, b_oldElements, b_oldShared, b_oldRoots, b_rows, b_nexts, b_depths, b_places, b_kinds, b_met, b_todo, b_heights) := by
  have vn : vp_in (nI n) 4 := vp_in_nI hn (by decide)
  unfold wpY_step
  exact nm_r (nI_pred n) ⟨vn, vn, nm_e (br_t rfl H)⟩
theorem hl_S (h : (hm_Q k L L n m p d kl E π ρ H f_pending f_wide f_logLength f_open a_ops a_args a_quick a_length a_exported a_alive a_fresh a_lasting a_shared a_owner a_size a_element a_roots a_logCell a_logOld a_logged a_slot a_frameMethod a_framePc g_made b_ops b_bs b_sizes b_exported b_stamp b_owner b_lengths b_elements b_lasting b_shared b_roots b_oldStamp b_oldElements b_oldShared b_oldRoots b_rows b_nexts b_depths b_places b_kinds)) : hl_LS k (nI L, f_pending, f_wide, f_waiting, f_height, f_entries, f_locals, f_logLength, f_open, f_awaited, nI (n + 1), nI (6 * n + 2 + d), nI (6 * n), nI p, nI m, nI L, 0, 0, -1, a_ops, a_args, a_quick, a_length, a_exported, a_known, a_alive, a_fresh, a_lasting, a_shared, a_owner, a_size, a_element, a_roots, a_logCell, a_logOld, a_logged, a_slot, a_frameMethod, a_framePc) L (nI L, g_waiting, g_stack, g_locals, nI (n + 1), nI L, f_awaited, 0, g_where, g_outcome, g_made, g_good, f_open, b_ops, b_bs, b_sizes, b_exported, b_stamp, b_owner, b_lengths, b_elements, b_lasting, b_shared, b_roots, b_oldStamp, b_oldElements, b_oldShared, b_oldRoots, b_rows, b_nexts, b_depths, b_places, b_kinds, b_met, b_todo, b_heights) := by
  obtain ⟨⟨hn, _, hL1, hL2⟩, hCD, hPD, hU, ⟨hm, em, er, en, ed, hS, hCt⟩, hO⟩ := h
  obtain ⟨hp16, hd4, hE⟩ := hf_w hCt
  refine hl_Xs (u1 := (nI L, f_pending, f_wide, f_waiting, f_height, f_entries, f_locals, f_logLength, f_open, f_awaited, nI (n + 1), nI (6 * n + 2 + d), nI (6 * n), nI p, nI m, nI L, 1, 0, -1, a_ops, a_args, a_quick, a_length, a_exported, a_known, a_alive, a_fresh, a_lasting, a_shared, a_owner, a_size, a_element, a_roots, a_logCell, a_logOld, a_logged, a_slot, a_frameMethod, a_framePc)) hn (fun post hp => ?_) (hl_F (s := L) (s' := L) (by decide) hO (by omega) hCD hPD hL1 hL2 hm hp16 hn er en (by omega) (fun post hp => hy_iE hn hp))
  unfold wpX_step
  exact br_t rfl hp
end
end
section
/-! ===== lockstep: two instructions in one ===== -/
theorem hf_Sc2 {π : Nat → Nat} {H : Nat → Prop} {f d : Nat} {kl E : Nat → Nat} {slot places kinds slot' places' kinds' : Nat → Int32} (h : hf_S π H f d kl E slot places kinds) (h1 : ∀ i, i < 6 * f + 2 + d → slot' i = slot i) (h2 : ∀ i, i < 8 * f + 2 + d → places' i = places i) (h3 : ∀ i, i < 8 * f + 2 + d → kinds' i = kinds i) : hf_S π H f d kl E slot' places' kinds' := by
  refine ⟨fun i hi => ?_, fun i hi => ?_⟩
  · rw [h1 _ (by omega), h2 _ (by omega), h3 _ (by omega)]; exact h.1 i hi
  · rw [h1 _ (by omega), h2 _ (by omega), h3 _ (by omega)]; exact h.2 i hi
theorem hf_Ac {kl E E' : Nat → Nat} {d : Nat} (h : ∀ i, i < d → E i = E' i) : hf_A kl E d = hf_A kl E' d := by
  unfold hf_A; rw [hf_st_c h]
section
variable {f_limit f_pending f_wide f_waiting f_height f_entries f_locals f_logLength f_open f_awaited f_frames f_sp f_base f_pc f_method f_steps f_status f_lastResult f_lastPlace : Int32} {a_ops a_args a_quick a_length a_exported a_known a_alive a_fresh a_lasting a_shared a_owner a_size a_element a_roots a_logCell a_logOld a_logged a_slot a_frameMethod a_framePc : Nat → Int32} {g_limit g_waiting g_stack g_locals g_running g_steps g_awaited g_answer g_where g_outcome : Int32} {g_made : Int64} {g_good g_open : Int32} {b_ops b_bs b_sizes b_exported : Nat → Int32} {b_stamp : Nat → Int64} {b_owner b_lengths b_elements b_lasting b_shared b_roots : Nat → Int32} {b_oldStamp : Nat → Int64} {b_oldElements b_oldShared b_oldRoots b_rows b_nexts b_depths b_places b_kinds b_met b_todo b_heights : Nat → Int32}
variable {k L s n m p d l : Nat} {kl E π ρ opf bf : Nat → Nat} {H : Nat → Prop}
/-- the second one is an addition: first a push of x, y with kind kd, then 3 -/
theorem hl_add {kd : Nat} {x : Int32} (h : (hm_Q k L s n m p d kl E π ρ H f_pending f_wide f_logLength f_open a_ops a_args a_quick a_length a_exported a_alive a_fresh a_lasting a_shared a_owner a_size a_element a_roots a_logCell a_logOld a_logged a_slot a_frameMethod a_framePc g_made b_ops b_bs b_sizes b_exported b_stamp b_owner b_lengths b_elements b_lasting b_shared b_roots b_oldStamp b_oldElements b_oldShared b_oldRoots b_rows b_nexts b_depths b_places b_kinds)) (hl : l ≤ 16) (hM : hc_M a_ops a_args a_quick b_bs m l opf bf) (hd : d ≠ 4) (hR1 : hs_R opf bf (p + 1) (hf_A kl (hf_u E d kd) (d + 1))) (eo1 : opf (p + 1) = 3) (hsL : s < L) (IH : hm_IH k L s) {y : Int32} (hK : ho_K π H kd x y)
    (hX0 : s + 1 = L → ∀ post : SX → Prop, post (nI L, f_pending, f_wide, f_waiting, f_height, f_entries, f_locals, f_logLength, f_open, f_awaited, nI (n + 1), nI (6 * n + 2 + d), nI (6 * n), nI (p + 1), nI m, nI (s + 1), 1, 0, -1, a_ops, a_args, a_quick, a_length, a_exported, a_known, a_alive, a_fresh, a_lasting, a_shared, a_owner, a_size, a_element, a_roots, a_logCell, a_logOld, a_logged, a_slot, a_frameMethod, a_framePc) → wpX_step post (nI L, f_pending, f_wide, f_waiting, f_height, f_entries, f_locals, f_logLength, f_open, f_awaited, nI (n + 1), nI (6 * n + 2 + d), nI (6 * n), nI p, nI m, nI s, 0, 0, -1, a_ops, a_args, a_quick, a_length, a_exported, a_known, a_alive, a_fresh, a_lasting, a_shared, a_owner, a_size, a_element, a_roots, a_logCell, a_logOld, a_logged, a_slot, a_frameMethod, a_framePc)) (hX1 : s + 1 < L → ∀ (e : Nat), d = e + 1 → ∀ post : SX → Prop, post (nI L, f_pending, f_wide, f_waiting, f_height, f_entries, f_locals, f_logLength, f_open, f_awaited, nI (n + 1), nI (6 * n + 2 + (e + 1)), nI (6 * n), nI (p + 2), nI m, nI (s + 2), 0, 0, -1, a_ops, a_args, a_quick, a_length, a_exported, a_known, a_alive, a_fresh, a_lasting, a_shared, a_owner, a_size, a_element, a_roots, a_logCell, a_logOld, a_logged, upd a_slot (6 * n + 2 + e) ((a_slot (6 * n + 2 + e) + x).toInt16.toInt32), a_frameMethod, a_framePc) → wpX_step post (nI L, f_pending, f_wide, f_waiting, f_height, f_entries, f_locals, f_logLength, f_open, f_awaited, nI (n + 1), nI (6 * n + 2 + (e + 1)), nI (6 * n), nI p, nI m, nI s, 0, 0, -1, a_ops, a_args, a_quick, a_length, a_exported, a_known, a_alive, a_fresh, a_lasting, a_shared, a_owner, a_size, a_element, a_roots, a_logCell, a_logOld, a_logged, a_slot, a_frameMethod, a_framePc))
    (hY : ∀ post : SY → Prop, post (nI L, g_waiting, g_stack, g_locals, nI (n + 1), nI (s + 1), f_awaited, 0, g_where, g_outcome, g_made, g_good, f_open, b_ops, b_bs, b_sizes, b_exported, b_stamp, b_owner, b_lengths, b_elements, b_lasting, b_shared, b_roots, b_oldStamp, b_oldElements, b_oldShared, b_oldRoots, b_rows, upd b_nexts n (nI (p + 1)), upd b_depths n (nI (d + 1)), upd b_places (8 * n + 2 + d) y, upd b_kinds (8 * n + 2 + d) (nI kd), b_met, b_todo, b_heights) → wpY_step post (nI L, g_waiting, g_stack, g_locals, nI (n + 1), nI s, f_awaited, 0, g_where, g_outcome, g_made, g_good, f_open, b_ops, b_bs, b_sizes, b_exported, b_stamp, b_owner, b_lengths, b_elements, b_lasting, b_shared, b_roots, b_oldStamp, b_oldElements, b_oldShared, b_oldRoots, b_rows, b_nexts, b_depths, b_places, b_kinds, b_met, b_todo, b_heights)) : hl_LS k (nI L, f_pending, f_wide, f_waiting, f_height, f_entries, f_locals, f_logLength, f_open, f_awaited, nI (n + 1), nI (6 * n + 2 + d), nI (6 * n), nI p, nI m, nI s, 0, 0, -1, a_ops, a_args, a_quick, a_length, a_exported, a_known, a_alive, a_fresh, a_lasting, a_shared, a_owner, a_size, a_element, a_roots, a_logCell, a_logOld, a_logged, a_slot, a_frameMethod, a_framePc) s (nI L, g_waiting, g_stack, g_locals, nI (n + 1), nI s, f_awaited, 0, g_where, g_outcome, g_made, g_good, f_open, b_ops, b_bs, b_sizes, b_exported, b_stamp, b_owner, b_lengths, b_elements, b_lasting, b_shared, b_roots, b_oldStamp, b_oldElements, b_oldShared, b_oldRoots, b_rows, b_nexts, b_depths, b_places, b_kinds, b_met, b_todo, b_heights) := by
  have h1 := hm_push (y := y) h hsL hK ⟨l, opf, bf, hl, hM, hR1⟩
  obtain ⟨⟨hn, hL2, hm, hp16, hd4⟩, ⟨er, en, ed, hS, hE⟩, ⟨eop, hpl, hfit, hus, ebf⟩, A', eA, _, hN⟩ := hm_at h1 hl hM hR1 eo1
  have hN' := hN (by decide) (by decide)
  obtain ⟨⟨_, _, hL1, _⟩, hCD, hPD, hU, ⟨_, em, er0, en0, ed0, hS0, hCt⟩, hO⟩ := id h
  rcases Nat.lt_or_ge (s + 1) L with z | z
  · obtain ⟨C1, e1, eA1⟩ := hf_sqi eA
    obtain ⟨C2, e2, eA2⟩ := hf_sqi eA1
    obtain ⟨C3, e3, eA3⟩ := hf_sqi eA2
    obtain ⟨e', he', hw1, eC1⟩ := hf_tk e1
    have eed : e' = d := by omega
    subst eed
    rw [eC1] at e2
    obtain ⟨e, he, hw2, eC2⟩ := hf_tk e2
    subst he
    rw [eC2] at e3
    obtain ⟨_, eC⟩ := hf_ps e3
    rw [hf_u_s] at hw1
    rw [hf_u_n (by omega)] at hw2
    have ekd : kd = 1 := by omega
    subst ekd
    rw [hf_sq0 eA3, eC, hf_Ac (E' := hf_u E e 1) (fun i hi => by
      by_cases q : i = e
      · subst q; rw [hf_u_s, hf_u_s]
      · rw [hf_u_n q, hf_u_n (by omega), hf_u_n q])] at hN'
    have k2 := (hS0.2 e (by omega)).2
    rw [show E e = 1 by omega] at k2
    have q2 := ho_K1 k2
    have q1 := ho_K1 hK
    have hK3 : ho_K π H 1 ((a_slot (6 * n + 2 + e) + x).toInt16.toInt32) (hx_ar 3 (upd b_places (8 * n + 2 + (e + 1)) y (8 * n + 2 + e)) (upd b_places (8 * n + 2 + (e + 1)) y (8 * n + 2 + (e + 1)))) := by
      rw [pk_us, pk_un (by omega), q2.1, q1.1]
      exact ho_Kn (ca_sh16 _)
    refine hl_Xs hn (hX1 z e rfl) (hl_Ys hn (by omega) hY (hl_Ys hn (by omega) (fun post hp => hy_iS hn hm hp16 hL2 z er en eop rfl (by decide) (hy_sB hn (by omega) (by decide) (by decide) ed en hp)) (IH (s + 2) _ _ (by omega) (hm_mk (hm_go h (by omega) (by omega) (fun i hi => pk_un (by omega)) (fun i hi => by rw [pk_un (by omega), pk_un (by omega)]) (fun i hi => by rw [pk_un (by omega), pk_un (by omega)]) (fun f hf => ⟨by rw [pk_un (by omega), pk_un (by omega)], by rw [pk_un (by omega), pk_un (by omega), pk_un (by omega)]⟩) pk_us pk_us (hf_Sc2 (hf_Sput (d' := e + 1) hS0 (fun i hi hne => by omega) hK3) (fun i hi => rfl) (fun i hi => ?_) (fun i hi => ?_)) hN')))))
    · by_cases q : i = 8 * n + 2 + e
      · subst q; rw [pk_us, pk_us, pk_us]
      · rw [pk_un q, pk_un q, pk_un (by omega)]
    · by_cases q : i = 8 * n + 2 + e
      · subst q; rw [pk_us, pk_us]
      · rw [pk_un q, pk_un q, pk_un (by omega)]
  · have eL : s + 1 = L := by omega
    refine hl_Xs hn (hX0 eL) (hl_Ys hn (by omega) hY ?_)
    subst eL
    exact hl_F (s := s + 1) (s' := s + 1) (by decide) hO (by omega) hCD hPD hL1 hL2 hm hp16 hn er en (by omega) (fun post hp => hy_iE hn hp)
theorem hl_25 (h : (hm_Q k L s n m p d kl E π ρ H f_pending f_wide f_logLength f_open a_ops a_args a_quick a_length a_exported a_alive a_fresh a_lasting a_shared a_owner a_size a_element a_roots a_logCell a_logOld a_logged a_slot a_frameMethod a_framePc g_made b_ops b_bs b_sizes b_exported b_stamp b_owner b_lengths b_elements b_lasting b_shared b_roots b_oldStamp b_oldElements b_oldShared b_oldRoots b_rows b_nexts b_depths b_places b_kinds)) (hl : l ≤ 16) (hM : hc_M a_ops a_args a_quick b_bs m l opf bf) (hR : hs_R opf bf p (hf_A kl E d)) (eo : opf p = 0) (eo1 : opf (p + 1) = 3) (hp1 : p + 1 < l) (eq : a_quick (16 * m + p) = 25) (hsL : s < L) (IH : hm_IH k L s) : hl_LS k (nI L, f_pending, f_wide, f_waiting, f_height, f_entries, f_locals, f_logLength, f_open, f_awaited, nI (n + 1), nI (6 * n + 2 + d), nI (6 * n), nI p, nI m, nI s, 0, 0, -1, a_ops, a_args, a_quick, a_length, a_exported, a_known, a_alive, a_fresh, a_lasting, a_shared, a_owner, a_size, a_element, a_roots, a_logCell, a_logOld, a_logged, a_slot, a_frameMethod, a_framePc) s (nI L, g_waiting, g_stack, g_locals, nI (n + 1), nI s, f_awaited, 0, g_where, g_outcome, g_made, g_good, f_open, b_ops, b_bs, b_sizes, b_exported, b_stamp, b_owner, b_lengths, b_elements, b_lasting, b_shared, b_roots, b_oldStamp, b_oldElements, b_oldShared, b_oldRoots, b_rows, b_nexts, b_depths, b_places, b_kinds, b_met, b_todo, b_heights) := by
  obtain ⟨⟨hn, hL2, hm, hp16, hd4⟩, ⟨er, en, ed, hS, hE⟩, ⟨eop, hpl, hfit, hus, ebf⟩, A', eA, _, hN⟩ := hm_at h hl hM hR eo
  have hRn := ((hs_Rcl opf bf).2 p _ A' hR (by rw [eo]; exact eA)).2 (by rw [eo]; decide) (by rw [eo]; decide)
  obtain ⟨C, e1, e2⟩ := hf_sqi eA
  obtain ⟨hd, eC⟩ := hf_ps e1
  rw [hf_sq0 e2, eC] at hRn
  have ea := hus (Or.inl rfl)
  have hr := hfit.1 rfl
  have hb : ca_sh (b_bs (16 * m + p)) := ca_sh_of (by omega) (by omega)
  refine hl_add h hl hM hd hRn eo1 hsL IH (ho_Kn hb) (fun eL post hp => ?_) (fun hlt e he post hp => ?_) (fun post hp => hy_iS hn hm hp16 hL2 hsL er en eop rfl (by decide) (hy_s0 hn (by omega) ed en hp))
  · subst eL
    exact hx_i hm hp16 hL2 hsL eq ea (br_t (by decide) (br_t (by decide) (br_t (by decide) (hx_qS hp))))
  · exact hx_i hm hp16 hL2 hsL eq ea (br_t (by decide) (br_t (by decide) (br_t (by decide) (hx_q25 hn (by omega) hm (by omega) hlt hL2 hp))))
theorem hl_27 (h : (hm_Q k L s n m p d kl E π ρ H f_pending f_wide f_logLength f_open a_ops a_args a_quick a_length a_exported a_alive a_fresh a_lasting a_shared a_owner a_size a_element a_roots a_logCell a_logOld a_logged a_slot a_frameMethod a_framePc g_made b_ops b_bs b_sizes b_exported b_stamp b_owner b_lengths b_elements b_lasting b_shared b_roots b_oldStamp b_oldElements b_oldShared b_oldRoots b_rows b_nexts b_depths b_places b_kinds)) (hl : l ≤ 16) (hM : hc_M a_ops a_args a_quick b_bs m l opf bf) (hR : hs_R opf bf p (hf_A kl E d)) (eo : opf p = 1) (eo1 : opf (p + 1) = 3) (hp1 : p + 1 < l) (eq : a_quick (16 * m + p) = 27) (hsL : s < L) (IH : hm_IH k L s) : hl_LS k (nI L, f_pending, f_wide, f_waiting, f_height, f_entries, f_locals, f_logLength, f_open, f_awaited, nI (n + 1), nI (6 * n + 2 + d), nI (6 * n), nI p, nI m, nI s, 0, 0, -1, a_ops, a_args, a_quick, a_length, a_exported, a_known, a_alive, a_fresh, a_lasting, a_shared, a_owner, a_size, a_element, a_roots, a_logCell, a_logOld, a_logged, a_slot, a_frameMethod, a_framePc) s (nI L, g_waiting, g_stack, g_locals, nI (n + 1), nI s, f_awaited, 0, g_where, g_outcome, g_made, g_good, f_open, b_ops, b_bs, b_sizes, b_exported, b_stamp, b_owner, b_lengths, b_elements, b_lasting, b_shared, b_roots, b_oldStamp, b_oldElements, b_oldShared, b_oldRoots, b_rows, b_nexts, b_depths, b_places, b_kinds, b_met, b_todo, b_heights) := by
  obtain ⟨⟨hn, hL2, hm, hp16, hd4⟩, ⟨er, en, ed, hS, hE⟩, ⟨eop, hpl, hfit, hus, ebf⟩, A', eA, _, hN⟩ := hm_at h hl hM hR eo
  have hRn := ((hs_Rcl opf bf).2 p _ A' hR (by rw [eo]; exact eA)).2 (by rw [eo]; decide) (by rw [eo]; decide)
  obtain ⟨j, hj, ej⟩ := hfit.2.1 (by decide)
  have ea := hus (by unfold hc_us; decide)
  rw [ej] at ea
  rw [ej, nI_clamp (by omega)] at ebf
  rw [ebf] at eA
  obtain ⟨C, e1, e2⟩ := hf_sqi eA
  obtain ⟨hk0, hd, eC⟩ := hf_ld hj e1
  rw [hf_sq0 e2, eC] at hRn
  obtain ⟨ek, hK⟩ := hS.1 j hj
  have hkb := ho_Kb hK
  refine hl_add h hl hM hd hRn eo1 hsL IH hK (fun eL post hp => ?_) (fun hlt e he post hp => ?_) (fun post hp => hy_iS hn hm hp16 hL2 hsL er en eop ej (by decide) (hy_s1 hn (by omega) hj (by omega) ek ed en hp))
  · subst eL
    exact hx_i hm hp16 hL2 hsL eq ea (br_t (by decide) (br_t (by decide) (br_t (by decide) (hx_qS hp))))
  · exact hx_i hm hp16 hL2 hsL eq ea (br_t (by decide) (br_t (by decide) (br_t (by decide) (hx_q27 hn (by omega) hm hj (by omega) hlt hL2 hp))))
theorem hl_26 (h : (hm_Q k L s n m p d kl E π ρ H f_pending f_wide f_logLength f_open a_ops a_args a_quick a_length a_exported a_alive a_fresh a_lasting a_shared a_owner a_size a_element a_roots a_logCell a_logOld a_logged a_slot a_frameMethod a_framePc g_made b_ops b_bs b_sizes b_exported b_stamp b_owner b_lengths b_elements b_lasting b_shared b_roots b_oldStamp b_oldElements b_oldShared b_oldRoots b_rows b_nexts b_depths b_places b_kinds)) (hl : l ≤ 16) (hM : hc_M a_ops a_args a_quick b_bs m l opf bf) (hR : hs_R opf bf p (hf_A kl E d)) (eo : opf p = 6) (eo1 : opf (p + 1) = 8) (hp1 : p + 1 < l) (eq : a_quick (16 * m + p) = 26) (hsL : s < L) (IH : hm_IH k L s) : hl_LS k (nI L, f_pending, f_wide, f_waiting, f_height, f_entries, f_locals, f_logLength, f_open, f_awaited, nI (n + 1), nI (6 * n + 2 + d), nI (6 * n), nI p, nI m, nI s, 0, 0, -1, a_ops, a_args, a_quick, a_length, a_exported, a_known, a_alive, a_fresh, a_lasting, a_shared, a_owner, a_size, a_element, a_roots, a_logCell, a_logOld, a_logged, a_slot, a_frameMethod, a_framePc) s (nI L, g_waiting, g_stack, g_locals, nI (n + 1), nI s, f_awaited, 0, g_where, g_outcome, g_made, g_good, f_open, b_ops, b_bs, b_sizes, b_exported, b_stamp, b_owner, b_lengths, b_elements, b_lasting, b_shared, b_roots, b_oldStamp, b_oldElements, b_oldShared, b_oldRoots, b_rows, b_nexts, b_depths, b_places, b_kinds, b_met, b_todo, b_heights) := by
  obtain ⟨⟨hn, hL2, hm, hp16, hd4⟩, ⟨er, en, ed, hS, hE⟩, ⟨eop, hpl, hfit, hus, ebf⟩, A', eA, _, hN⟩ := hm_at h hl hM hR eo
  have hRn := ((hs_Rcl opf bf).2 p _ A' hR (by rw [eo]; exact eA)).2 (by rw [eo]; decide) (by rw [eo]; decide)
  obtain ⟨C1, e1, eA1⟩ := hf_sqi eA
  obtain ⟨C2, e2, eA2⟩ := hf_sqi eA1
  obtain ⟨C3, e3, eA3⟩ := hf_sqi eA2
  obtain ⟨e', he', hw1, eC1⟩ := hf_tk e1
  rw [eC1] at e2
  obtain ⟨e, he, hw2, eC2⟩ := hf_tk e2
  rw [eC2] at e3
  obtain ⟨_, eC⟩ := hf_ps e3
  rw [hf_sq0 eA3, eC] at hRn
  subst he
  subst he'
  have k1 := (hS.2 (e + 1) (by omega)).2
  rw [show E (e + 1) = 1 by omega] at k1
  have k2 := (hS.2 e (by omega)).2
  rw [show E e = 1 by omega] at k2
  have q1 := ho_K1 k1
  have q2 := ho_K1 k2
  have hK : ho_K π H 1 (hx_ar 6 (a_slot (6 * n + 2 + e)) (a_slot (6 * n + 2 + (e + 1)))) (hx_ar 6 (b_places (8 * n + 2 + e)) (b_places (8 * n + 2 + (e + 1)))) := by
    rw [q1.1, q2.1]; exact ho_Kn (hx_ar_sh _ _ _)
  -- Y's state in between, and a relation for it
  have h1 : (hm_Q k L (s + 1) n m (p + 1) (e + 1) kl (hf_u E e 1) π ρ H f_pending f_wide f_logLength f_open a_ops a_args a_quick a_length a_exported a_alive a_fresh a_lasting a_shared a_owner a_size a_element a_roots a_logCell a_logOld a_logged (upd a_slot (6 * n + 2 + e) (hx_ar 6 (a_slot (6 * n + 2 + e)) (a_slot (6 * n + 2 + (e + 1))))) a_frameMethod a_framePc g_made b_ops b_bs b_sizes b_exported b_stamp b_owner b_lengths b_elements b_lasting b_shared b_roots b_oldStamp b_oldElements b_oldShared b_oldRoots b_rows (upd b_nexts n (nI (p + 1))) (upd (upd b_depths n (nI e)) n (nI (e + 1))) (upd b_places (8 * n + 2 + e) (hx_ar 6 (b_places (8 * n + 2 + e)) (b_places (8 * n + 2 + (e + 1))))) (upd b_kinds (8 * n + 2 + e) (nI 1))) :=
    hm_go h (by omega) hsL (fun i hi => pk_un (by omega)) (fun i hi => pk_un (by omega)) (fun i hi => pk_un (by omega)) (fun f hf => ⟨pk_un (by omega), by rw [pk_un (by omega), pk_un (by omega)]⟩) pk_us pk_us (hf_Sput hS (fun i hi hne => by omega) hK) ⟨l, opf, bf, hl, hM, hRn⟩
  have hY : ∀ post : SY → Prop, post (nI L, g_waiting, g_stack, g_locals, nI (n + 1), nI (s + 1), f_awaited, 0, g_where, g_outcome, g_made, g_good, f_open, b_ops, b_bs, b_sizes, b_exported, b_stamp, b_owner, b_lengths, b_elements, b_lasting, b_shared, b_roots, b_oldStamp, b_oldElements, b_oldShared, b_oldRoots, b_rows, upd b_nexts n (nI (p + 1)), upd (upd b_depths n (nI e)) n (nI (e + 1)), upd b_places (8 * n + 2 + e) (hx_ar 6 (b_places (8 * n + 2 + e)) (b_places (8 * n + 2 + (e + 1)))), upd b_kinds (8 * n + 2 + e) (nI 1), b_met, b_todo, b_heights) → wpY_step post (nI L, g_waiting, g_stack, g_locals, nI (n + 1), nI s, f_awaited, 0, g_where, g_outcome, g_made, g_good, f_open, b_ops, b_bs, b_sizes, b_exported, b_stamp, b_owner, b_lengths, b_elements, b_lasting, b_shared, b_roots, b_oldStamp, b_oldElements, b_oldShared, b_oldRoots, b_rows, b_nexts, b_depths, b_places, b_kinds, b_met, b_todo, b_heights) := fun post hp => hy_iS hn hm hp16 hL2 hsL er en eop rfl (by decide) (hy_sB (op := 6) hn (by omega) (by decide) (by decide) ed en hp)
  obtain ⟨_, ⟨er1, en1, ed1, _, _⟩, ⟨eop1, hpl1, hfit1, hus1, ebf1⟩, A2, eA', hN7, hN8⟩ := hm_at h1 hl hM hRn eo1
  have hN7' := hN7 (by decide)
  have hN8' := hN8 (by decide) (by decide)
  obtain ⟨t, ht, et⟩ := hfit1.2.2.1 (by decide)
  have ea1 := hus1 (by unfold hc_us; decide)
  rw [et] at ea1
  rw [et, nI_clamp (by omega)] at ebf1
  obtain ⟨D1, f1, fA⟩ := hf_sqi eA'
  obtain ⟨e2', he2, _, eD⟩ := hf_tk f1
  have ee : e2' = e := by omega
  subst ee
  rw [hf_sq0 fA, eD, hf_Ac (E' := E) (fun i hi => hf_u_n (by omega))] at hN7' hN8'
  rw [ebf1] at hN7'
  obtain ⟨⟨_, _, hL1, _⟩, hCD, hPD, hU, ⟨_, em, er0, en0, ed0, hS0, hCt⟩, hO⟩ := id h
  have fin : ∀ p', hf_C a_ops a_args a_quick b_bs m p' (hf_A kl E e2') → s + 1 < L → hm_RR k L (s + 2) (nI L, f_pending, f_wide, f_waiting, f_height, f_entries, f_locals, f_logLength, f_open, f_awaited, nI (n + 1), nI (6 * n + 2 + e2'), nI (6 * n), nI p', nI m, nI (s + 2), 0, 0, -1, a_ops, a_args, a_quick, a_length, a_exported, a_known, a_alive, a_fresh, a_lasting, a_shared, a_owner, a_size, a_element, a_roots, a_logCell, a_logOld, a_logged, a_slot, a_frameMethod, a_framePc) (nI L, g_waiting, g_stack, g_locals, nI (n + 1), nI (s + 2), f_awaited, 0, g_where, g_outcome, g_made, g_good, f_open, b_ops, b_bs, b_sizes, b_exported, b_stamp, b_owner, b_lengths, b_elements, b_lasting, b_shared, b_roots, b_oldStamp, b_oldElements, b_oldShared, b_oldRoots, b_rows, upd (upd b_nexts n (nI (p + 1))) n (nI p'), upd (upd (upd b_depths n (nI e2')) n (nI (e2' + 1))) n (nI e2'), upd b_places (8 * n + 2 + e2') (hx_ar 6 (b_places (8 * n + 2 + e2')) (b_places (8 * n + 2 + (e2' + 1)))), upd b_kinds (8 * n + 2 + e2') (nI 1), b_met, b_todo, b_heights) := fun p' hc hlt =>
    hm_mk (hm_go h (by omega) (by omega) (fun i hi => rfl) (fun i hi => pk_un (by omega)) (fun i hi => pk_un (by omega)) (fun f hf => ⟨by rw [pk_un (by omega), pk_un (by omega)], by rw [pk_un (by omega), pk_un (by omega), pk_un (by omega)]⟩) pk_us pk_us (hf_Sc2 (hf_Sle hS0 (e := e2') (by omega)) (fun i hi => rfl) (fun i hi => pk_un (by omega)) (fun i hi => pk_un (by omega))) hc)
  rcases Nat.lt_or_ge (s + 1) L with z | z
  · have hpl15 : p < 15 := by omega
    have vp : upd b_places (8 * n + 2 + e2') (hx_ar 6 (b_places (8 * n + 2 + e2')) (b_places (8 * n + 2 + (e2' + 1)))) (8 * n + 2 + e2') = if a_slot (6 * n + 2 + (e2' + 1)) ≤ a_slot (6 * n + 2 + e2') then 0 else 1 := by
      rw [pk_us, q1.1, q2.1]; rfl
    by_cases c : a_slot (6 * n + 2 + e2') < a_slot (6 * n + 2 + (e2' + 1))
    · have c' : ¬ a_slot (6 * n + 2 + (e2' + 1)) ≤ a_slot (6 * n + 2 + e2') := Int32.not_le.mpr c
      rw [if_neg c'] at vp
      have v0 : ¬ upd b_places (8 * n + 2 + e2') (hx_ar 6 (b_places (8 * n + 2 + e2')) (b_places (8 * n + 2 + (e2' + 1)))) (8 * n + 2 + e2') = 0 := by rw [vp]; decide
      exact hl_Xs hn (fun post hp => hx_i hm hp16 hL2 hsL eq rfl (br_t (by decide) (br_t (by decide) (br_t (by decide) (hx_q26 hn (by omega) hm hpl15 z hL2 ea1 (fun q => absurd c q) (fun _ => hp)))))) (hl_Ys hn (by omega) hY (hl_Ys hn (by omega) (fun post hp => hy_iS hn hm (by omega) hL2 z er1 en1 eop1 et (by decide) (hy_s8 hn (by omega) ed1 en1 (fun q => absurd q v0) (fun _ => hp))) (IH (s + 2) _ _ (by omega) (fin _ hN8' z))))
    · have c' : a_slot (6 * n + 2 + (e2' + 1)) ≤ a_slot (6 * n + 2 + e2') := Int32.not_lt.mp c
      rw [if_pos c'] at vp
      exact hl_Xs hn (fun post hp => hx_i hm hp16 hL2 hsL eq rfl (br_t (by decide) (br_t (by decide) (br_t (by decide) (hx_q26 hn (by omega) hm hpl15 z hL2 ea1 (fun _ => hp) (fun q => absurd q c)))))) (hl_Ys hn (by omega) hY (hl_Ys hn (by omega) (fun post hp => hy_iS hn hm (by omega) hL2 z er1 en1 eop1 et (by decide) (hy_s8 hn (by omega) ed1 en1 (fun _ => hp) (fun q => absurd vp q))) (IH (s + 2) _ _ (by omega) (fin _ hN7' z))))
  · have eL : s + 1 = L := by omega
    subst eL
    exact hl_Xs (u1 := (nI (s + 1), f_pending, f_wide, f_waiting, f_height, f_entries, f_locals, f_logLength, f_open, f_awaited, nI (n + 1), nI (6 * n + 2 + (e2' + 2)), nI (6 * n), nI (p + 1), nI m, nI (s + 1), 1, 0, -1, a_ops, a_args, a_quick, a_length, a_exported, a_known, a_alive, a_fresh, a_lasting, a_shared, a_owner, a_size, a_element, a_roots, a_logCell, a_logOld, a_logged, a_slot, a_frameMethod, a_framePc)) hn (fun post hp => hx_i hm hp16 hL2 hsL eq rfl (br_t (by decide) (br_t (by decide) (br_t (by decide) (hx_qS hp))))) (hl_Ys hn (by omega) hY (hl_F (s := s + 1) (s' := s + 1) (by decide) hO (by omega) hCD hPD hL1 hL2 hm (by omega) hn er1 en1 (by omega) (fun post hp => hy_iE hn hp)))
end
end
section
/-! ===== due, note: X's log, the relation behind a write ===== -/
def hw_aw (a : Int32) : Int32 := if a ≤ 0 then a else a - 1
theorem hw_full {q x : Nat} {c : Nat → Nat} (hq : q ≤ 46) (hc : ∀ j, j < q → c j < 46) (hi : ∀ i j, i < q → j < q → c i = c j → i = j) (hx : x < 46) (hn : ∀ j, j < q → c j ≠ x) : q < 46 := by
  refine Nat.lt_of_le_of_ne hq (fun e => ?_)
  have key : ∀ n (c : Nat → Nat), (∀ j, j < n → c j < n) → (∀ i j, i < n → j < n → c i = c j → i = j) → ∀ y, y < n → ∃ j, j < n ∧ c j = y := by
    intro n
    induction n with
    | zero => intro c _ _ y hy; omega
    | succ n ih =>
      intro c h1 h2 y hy
      -- put the value n at the place n by a change of names
      by_cases z : c n = n
      · by_cases zy : y = n
        · exact ⟨n, by omega, by rw [zy]; exact z⟩
        · obtain ⟨j, hj, e⟩ := ih c (fun j hj => by
            have a := h1 j (by omega)
            have b : c j ≠ n := fun q => by have := h2 j n (by omega) (by omega) (q.trans z.symm); omega
            omega) (fun i j hi hj e => h2 i j (by omega) (by omega) e) y (by omega)
          exact ⟨j, by omega, e⟩
      · have hcn := h1 n (by omega)
        obtain ⟨j, hj, e⟩ := ih (fun j => if c j = n then c n else c j) (fun j hj => by
          show (if c j = n then c n else c j) < n
          by_cases w : c j = n
          · rw [if_pos w]; omega
          · rw [if_neg w]; have := h1 j (by omega); omega) (fun i j hi hj e => by
          have e' : (if c i = n then c n else c i) = (if c j = n then c n else c j) := e
          by_cases w : c i = n
          · by_cases w' : c j = n
            · exact h2 i j (by omega) (by omega) (w.trans w'.symm)
            · rw [if_pos w, if_neg w'] at e'
              have := h2 n j (by omega) (by omega) e'; omega
          · by_cases w' : c j = n
            · rw [if_neg w, if_pos w'] at e'
              have := h2 i n (by omega) (by omega) e'; omega
            · rw [if_neg w, if_neg w'] at e'
              exact h2 i j (by omega) (by omega) e') (if y = n then c n else y) (by
          by_cases w : y = n
          · rw [if_pos w]; omega
          · rw [if_neg w]; omega)
        have e' : (if c j = n then c n else c j) = (if y = n then c n else y) := e
        by_cases w : c j = n
        · rw [if_pos w] at e'
          by_cases w' : y = n
          · exact ⟨j, by omega, by rw [w, w']⟩
          · rw [if_neg w'] at e'
            exact ⟨n, by omega, e'⟩
        · rw [if_neg w] at e'
          by_cases w' : y = n
          · rw [if_pos w'] at e'
            have := h2 j n (by omega) (by omega) e'; omega
          · rw [if_neg w'] at e'
            exact ⟨j, by omega, e'⟩
  subst e
  obtain ⟨j, hj, e⟩ := key 46 c hc hi x hx
  exact hn j hj e
section
variable {f_limit f_pending f_wide f_waiting f_height f_entries f_locals f_logLength f_open f_awaited f_frames f_sp f_base f_pc f_method f_steps f_status f_lastResult f_lastPlace : Int32} {a_ops a_args a_quick a_length a_exported a_known a_alive a_fresh a_lasting a_shared a_owner a_size a_element a_roots a_logCell a_logOld a_logged a_slot a_frameMethod a_framePc : Nat → Int32}
theorem hx_due {P : Int32 → SX → Prop} (H0 : f_awaited = 0 → P 0 (f_limit, f_pending, f_wide, f_waiting, f_height, f_entries, f_locals, f_logLength, f_open, f_awaited, f_frames, f_sp, f_base, f_pc, f_method, f_steps, 9, f_lastResult, f_lastPlace, a_ops, a_args, a_quick, a_length, a_exported, a_known, a_alive, a_fresh, a_lasting, a_shared, a_owner, a_size, a_element, a_roots, a_logCell, a_logOld, a_logged, a_slot, a_frameMethod, a_framePc)) (H1 : ¬ f_awaited = 0 → P 1 (f_limit, f_pending, f_wide, f_waiting, f_height, f_entries, f_locals, f_logLength, f_open, hw_aw f_awaited, f_frames, f_sp, f_base, f_pc, f_method, f_steps, f_status, f_lastResult, f_lastPlace, a_ops, a_args, a_quick, a_length, a_exported, a_known, a_alive, a_fresh, a_lasting, a_shared, a_owner, a_size, a_element, a_roots, a_logCell, a_logOld, a_logged, a_slot, a_frameMethod, a_framePc)) : wpX_due P (f_limit, f_pending, f_wide, f_waiting, f_height, f_entries, f_locals, f_logLength, f_open, f_awaited, f_frames, f_sp, f_base, f_pc, f_method, f_steps, f_status, f_lastResult, f_lastPlace, a_ops, a_args, a_quick, a_length, a_exported, a_known, a_alive, a_fresh, a_lasting, a_shared, a_owner, a_size, a_element, a_roots, a_logCell, a_logOld, a_logged, a_slot, a_frameMethod, a_framePc) := by
  unfold wpX_due
  refine br_c H0 (fun z => ?_)
  have := H1 z
  unfold hw_aw at this
  refine br_c (fun q => ?_) (fun q => nm_e ?_)
  · rw [if_pos q] at this; exact this
  · rw [if_neg q] at this; exact this
theorem hx_note {P : SX → Prop} {cell q : Nat} {old : Int32} (hc : cell < 46) (hq : ¬ f_open = 0 → a_logged cell = 0 → f_logLength = nI q ∧ q < 46) (H0 : (f_open = 0 ∨ ¬ a_logged cell = 0) → P (f_limit, f_pending, f_wide, f_waiting, f_height, f_entries, f_locals, f_logLength, f_open, f_awaited, f_frames, f_sp, f_base, f_pc, f_method, f_steps, f_status, f_lastResult, f_lastPlace, a_ops, a_args, a_quick, a_length, a_exported, a_known, a_alive, a_fresh, a_lasting, a_shared, a_owner, a_size, a_element, a_roots, a_logCell, a_logOld, a_logged, a_slot, a_frameMethod, a_framePc)) (H1 : ¬ f_open = 0 → a_logged cell = 0 → P (f_limit, f_pending, f_wide, f_waiting, f_height, f_entries, f_locals, nI (q + 1), f_open, f_awaited, f_frames, f_sp, f_base, f_pc, f_method, f_steps, f_status, f_lastResult, f_lastPlace, a_ops, a_args, a_quick, a_length, a_exported, a_known, a_alive, a_fresh, a_lasting, a_shared, a_owner, a_size, a_element, a_roots, upd a_logCell q (nI cell), upd a_logOld q old, upd a_logged cell 1, a_slot, a_frameMethod, a_framePc)) : wpX_note P (f_limit, f_pending, f_wide, f_waiting, f_height, f_entries, f_locals, f_logLength, f_open, f_awaited, f_frames, f_sp, f_base, f_pc, f_method, f_steps, f_status, f_lastResult, f_lastPlace, a_ops, a_args, a_quick, a_length, a_exported, a_known, a_alive, a_fresh, a_lasting, a_shared, a_owner, a_size, a_element, a_roots, a_logCell, a_logOld, a_logged, a_slot, a_frameMethod, a_framePc) (nI cell) old := by
  have cc : (nI cell).toNatClampNeg = cell := nI_clamp (by omega)
  have vc : vp_in (nI cell) 46 := vp_in_nI hc (by decide)
  unfold wpX_note
  refine br_c (fun z => H0 (Or.inl z)) (fun z => ⟨vc, ?_⟩)
  rw [cc]
  refine br_c (fun y => ?_) (fun y => H0 (Or.inr y))
  obtain ⟨eq, hq46⟩ := hq z y
  have cq : (nI q).toNatClampNeg = q := nI_clamp (by omega)
  have vq : vp_in (nI q) 46 := vp_in_nI hq46 (by decide)
  have h1 := H1 z y
  refine ⟨vc, nm_e ⟨by rw [eq]; exact vq, nm_r (e' := upd a_logCell q (nI cell)) (by rw [eq, cq, ca_vb' (by omega)]) (nm_r (e' := nI (q + 1)) (by rw [eq, nI_1]) ⟨by rw [eq]; exact vq, nm_r (e' := upd a_logOld q old) (by rw [eq, cq]) ?_⟩)⟩⟩
  exact h1
end
section
variable {π : Nat → Nat} {H : Nat → Prop} {q : Nat} {c : Nat → Nat} {S : Nat → Int32} {logLength : Int32} {fresh lasting shared element roots logCell logOld logged : Nat → Int32} {bstamp boldStamp : Nat → Int64} {boldElements boldShared boldRoots : Nat → Int32}
/-- a new entry: cell, its old value, and the cell's content then free -/
theorem hm_TRn {cell : Nat} {old : Int32} {shared' element' roots' : Nat → Int32} (h : hm_TR π H q c S logLength fresh lasting shared element roots logCell logOld logged bstamp boldStamp boldElements boldShared boldRoots) (hc : cell < 46) (hl : logged cell = 0)
    (ho : (cell < 32 → fresh (cell / 4) = 0 → ¬ lasting (cell / 4) = 0 ∧ old = S cell) ∧ (32 ≤ cell → cell < 38 → old = S cell) ∧ (38 ≤ cell → fresh (cell - 38) = 0 → old = S cell))
    (e1 : ∀ x, x < 32 → x ≠ cell → element' x = element x) (e2 : ∀ r, r < 6 → 32 + r ≠ cell → roots' r = roots r) (e3 : ∀ o, o < 8 → 38 + o ≠ cell → shared' o = shared o) :
    q < 46 ∧ hm_TR π H (q + 1) (hf_u c q cell) S (nI (q + 1)) fresh lasting shared' element' roots' (upd logCell q (nI cell)) (upd logOld q old) (upd logged cell 1) bstamp boldStamp boldElements boldShared boldRoots := by
  obtain ⟨⟨t1, t1'⟩, t2, t3, t4, t5, t6, t7, t8, t9, t10, t11, t12⟩ := h
  have hn : ∀ j, j < q → c j ≠ cell := fun j hj e => (t4 cell hc).mpr ⟨j, hj, e⟩ hl
  have hq := hw_full t1' (fun j hj => (t2 j hj).2) t3 hc hn
  have lg : ∀ x, upd logged cell 1 x = 0 → x ≠ cell ∧ logged x = 0 := fun x hx => by
    by_cases z : x = cell
    · subst z; rw [pk_us] at hx; exact absurd hx (by decide)
    · rw [pk_un z] at hx; exact ⟨z, hx⟩
  refine ⟨hq, ⟨rfl, by omega⟩, fun j hj => ?_, fun i j hi hj e => ?_, fun x hx => ?_, fun j hj => ?_, fun x hx hl' => ?_, fun r hr hl' => ?_, fun o ho' hl' => ?_, t9, t10, t11, t12⟩
  · by_cases z : j = q
    · subst z; rw [pk_us, hf_u_s]; exact ⟨rfl, hc⟩
    · rw [pk_un z, hf_u_n z]; exact t2 j (by omega)
  · by_cases z : i = q
    · by_cases z' : j = q
      · omega
      · subst z; rw [hf_u_s, hf_u_n z'] at e
        exact absurd e.symm (hn j (by omega))
    · by_cases z' : j = q
      · subst z'; rw [hf_u_s, hf_u_n z] at e
        exact absurd e (hn i (by omega))
      · rw [hf_u_n z, hf_u_n z'] at e
        exact t3 i j (by omega) (by omega) e
  · by_cases z : x = cell
    · subst z; rw [pk_us]
      exact ⟨fun _ => ⟨q, by omega, hf_u_s ..⟩, fun _ => by decide⟩
    · rw [pk_un z, t4 x hx]
      constructor
      · rintro ⟨j, hj, e⟩
        exact ⟨j, by omega, by rw [hf_u_n (by omega)]; exact e⟩
      · rintro ⟨j, hj, e⟩
        by_cases z' : j = q
        · subst z'; rw [hf_u_s] at e; exact absurd e.symm z
        · rw [hf_u_n z'] at e; exact ⟨j, by omega, e⟩
  · by_cases z : j = q
    · subst z; rw [pk_us, hf_u_s]; exact ho
    · rw [pk_un z, hf_u_n z]; exact t5 j (by omega)
  · obtain ⟨a, b⟩ := lg x hl'
    rw [e1 x hx a]; exact t6 x hx b
  · obtain ⟨a, b⟩ := lg _ hl'
    rw [e2 r hr a]; exact t7 r hr b
  · obtain ⟨a, b⟩ := lg _ hl'
    rw [e3 o ho' a]; exact t8 o ho' b
/-- a write to a cell that is logged already, or that no undo looks at -/
theorem hm_TRw {shared' element' roots' : Nat → Int32} (h : hm_TR π H q c S logLength fresh lasting shared element roots logCell logOld logged bstamp boldStamp boldElements boldShared boldRoots)
    (e1 : ∀ x, x < 32 → logged x = 0 → fresh (x / 4) = 0 → ¬ lasting (x / 4) = 0 → element' x = element x) (e2 : ∀ r, r < 6 → logged (32 + r) = 0 → roots' r = roots r) (e3 : ∀ o, o < 8 → logged (38 + o) = 0 → fresh o = 0 → shared' o = shared o) :
    hm_TR π H q c S logLength fresh lasting shared' element' roots' logCell logOld logged bstamp boldStamp boldElements boldShared boldRoots := by
  obtain ⟨t1, t2, t3, t4, t5, t6, t7, t8, t9⟩ := h
  exact ⟨t1, t2, t3, t4, t5, fun x hx a b d => by rw [e1 x hx a b d]; exact t6 x hx a b d, fun r hr a => by rw [e2 r hr a]; exact t7 r hr a, fun o ho a b => by rw [e3 o ho a b]; exact t8 o ho a b, t9⟩
end
section
variable {f_limit f_pending f_wide f_waiting f_height f_entries f_locals f_logLength f_open f_awaited f_frames f_sp f_base f_pc f_method f_steps f_status f_lastResult f_lastPlace : Int32} {a_ops a_args a_quick a_length a_exported a_known a_alive a_fresh a_lasting a_shared a_owner a_size a_element a_roots a_logCell a_logOld a_logged a_slot a_frameMethod a_framePc : Nat → Int32} {g_limit g_waiting g_stack g_locals g_running g_steps g_awaited g_answer g_where g_outcome : Int32} {g_made : Int64} {g_good g_open : Int32} {b_ops b_bs b_sizes b_exported : Nat → Int32} {b_stamp : Nat → Int64} {b_owner b_lengths b_elements b_lasting b_shared b_roots : Nat → Int32} {b_oldStamp : Nat → Int64} {b_oldElements b_oldShared b_oldRoots b_rows b_nexts b_depths b_places b_kinds b_met b_todo b_heights : Nat → Int32}
variable {π ρ : Nat → Nat} {H : Nat → Prop} {B : Nat}
theorem hm_noteR {r : Nat} (hr : r < 6) (h : hm_O π ρ H B f_open f_logLength a_alive a_fresh a_lasting a_shared a_owner a_size a_element a_roots a_logCell a_logOld a_logged g_made b_stamp b_owner b_lengths b_elements b_lasting b_shared b_roots b_oldStamp b_oldElements b_oldShared b_oldRoots) :
    ∃ lg lc lo ld, (∀ P : SX → Prop, P (f_limit, f_pending, f_wide, f_waiting, f_height, f_entries, f_locals, lg, f_open, f_awaited, f_frames, f_sp, f_base, f_pc, f_method, f_steps, f_status, f_lastResult, f_lastPlace, a_ops, a_args, a_quick, a_length, a_exported, a_known, a_alive, a_fresh, a_lasting, a_shared, a_owner, a_size, a_element, a_roots, lc, lo, ld, a_slot, a_frameMethod, a_framePc) → wpX_note P (f_limit, f_pending, f_wide, f_waiting, f_height, f_entries, f_locals, f_logLength, f_open, f_awaited, f_frames, f_sp, f_base, f_pc, f_method, f_steps, f_status, f_lastResult, f_lastPlace, a_ops, a_args, a_quick, a_length, a_exported, a_known, a_alive, a_fresh, a_lasting, a_shared, a_owner, a_size, a_element, a_roots, a_logCell, a_logOld, a_logged, a_slot, a_frameMethod, a_framePc) (nI (32 + r)) (a_roots r)) ∧
      ∀ x y, ho_V π H x y → hm_O π ρ H B f_open lg a_alive a_fresh a_lasting a_shared a_owner a_size a_element (upd a_roots r x) lc lo ld g_made b_stamp b_owner b_lengths b_elements b_lasting b_shared (upd b_roots r y) b_oldStamp b_oldElements b_oldShared b_oldRoots := by
  obtain ⟨hP, hO, hV, hW, hS, hT⟩ := h
  have hV' : ∀ x y, ho_V π H x y → ∀ i, i < 6 → ho_V π H (upd a_roots r x i) (upd b_roots r y i) := fun x y hxy i hi => by
    by_cases z : i = r
    · subst z; rw [pk_us, pk_us]; exact hxy
    · rw [pk_un z, pk_un z]; exact hV i hi
  rcases hT with rfl | ⟨rfl, q, c, S, T⟩
  · exact ⟨f_logLength, a_logCell, a_logOld, a_logged, fun P p => hx_note (q := 0) (by omega) (fun z => absurd rfl z) (fun _ => p) (fun z => absurd rfl z), fun x y hxy => ⟨hP, hO, hV' x y hxy, hW, hS, Or.inl rfl⟩⟩
  · by_cases z : a_logged (32 + r) = 0
    · have hTn := fun x => hm_TRn (cell := 32 + r) (old := a_roots r) (shared' := a_shared) (element' := a_element) (roots' := upd a_roots r x) T (by omega) z ⟨fun a => by omega, fun _ _ => T.2.2.2.2.2.2.1 r hr z, fun a => by omega⟩ (fun _ _ _ => rfl) (fun i hi hne => pk_un (by omega)) (fun _ _ _ => rfl)
      exact ⟨_, _, _, _, fun P p => hx_note (by omega) (fun _ _ => ⟨T.1.1, (hTn 0).1⟩) (fun w => absurd w (by rw [z]; exact fun q => q.elim (by decide) (fun q => q rfl))) (fun _ _ => p), fun x y hxy => ⟨hP, hO, hV' x y hxy, hW, hS, Or.inr ⟨rfl, q + 1, hf_u c q (32 + r), S, (hTn x).2⟩⟩⟩
    · exact ⟨f_logLength, a_logCell, a_logOld, a_logged, fun P p => hx_note (q := 0) (by omega) (fun _ w => absurd w z) (fun _ => p) (fun _ w => absurd w z), fun x y hxy => ⟨hP, hO, hV' x y hxy, hW, hS, Or.inr ⟨rfl, q, c, S, hm_TRw T (fun _ _ _ _ _ => rfl) (fun i hi hl => pk_un (fun e => z (by rw [← e]; exact hl))) (fun _ _ _ _ => rfl)⟩⟩⟩
/-- the elements of one object written on both sides -/
theorem ho_oE {alive lasting shared owner size element bowner blengths belements blasting bshared : Nat → Int32} {o i : Nat} {v : Int32} (hP : ho_P π ρ) (ho8 : o < 8) (hi : i < 4) (hO : ∀ o, H o → ho_o π alive lasting shared owner size element bowner blengths belements blasting bshared o) : ∀ o', H o' → ho_o π alive lasting shared owner size (upd element (4 * o + i) v) bowner blengths (upd belements (4 * π o + i) v) blasting bshared o' := fun o' ho' => by
  obtain ⟨a, b, c, d, e, f, g, hel⟩ := hO o' ho'
  refine ⟨a, b, c, d, e, f, g, fun j hj => ?_⟩
  by_cases z : o' = o
  · subst z
    by_cases z' : j = i
    · subst z'; rw [pk_us, pk_us]
    · rw [pk_un (by omega), pk_un (by omega)]; exact hel j hj
  · have hne : π o' ≠ π o := fun q => z (by
      have := congrArg ρ q
      rw [(hP o' a).2.2.1, (hP o ho8).2.2.1] at this
      exact this)
    rw [pk_un (by omega), pk_un (by omega)]
    exact hel j hj
theorem hm_noteE {o i : Nat} {ho : H o} (hi : i < 4) (hla : ¬ a_lasting o = 0) (h : hm_O π ρ H B f_open f_logLength a_alive a_fresh a_lasting a_shared a_owner a_size a_element a_roots a_logCell a_logOld a_logged g_made b_stamp b_owner b_lengths b_elements b_lasting b_shared b_roots b_oldStamp b_oldElements b_oldShared b_oldRoots) :
    ∃ lg lc lo ld, (∀ P : SX → Prop, P (f_limit, f_pending, f_wide, f_waiting, f_height, f_entries, f_locals, lg, f_open, f_awaited, f_frames, f_sp, f_base, f_pc, f_method, f_steps, f_status, f_lastResult, f_lastPlace, a_ops, a_args, a_quick, a_length, a_exported, a_known, a_alive, a_fresh, a_lasting, a_shared, a_owner, a_size, a_element, a_roots, lc, lo, ld, a_slot, a_frameMethod, a_framePc) → wpX_note P (f_limit, f_pending, f_wide, f_waiting, f_height, f_entries, f_locals, f_logLength, f_open, f_awaited, f_frames, f_sp, f_base, f_pc, f_method, f_steps, f_status, f_lastResult, f_lastPlace, a_ops, a_args, a_quick, a_length, a_exported, a_known, a_alive, a_fresh, a_lasting, a_shared, a_owner, a_size, a_element, a_roots, a_logCell, a_logOld, a_logged, a_slot, a_frameMethod, a_framePc) (nI (4 * o + i)) (a_element (4 * o + i))) ∧
      ∀ v, ca_sh v → hm_O π ρ H B f_open lg a_alive a_fresh a_lasting a_shared a_owner a_size (upd a_element (4 * o + i) v) a_roots lc lo ld g_made b_stamp b_owner b_lengths (upd b_elements (4 * π o + i) v) b_lasting b_shared b_roots b_oldStamp b_oldElements b_oldShared b_oldRoots := by
  obtain ⟨hP, hO, hV, ⟨w1, w2, w3, w4, w5, w6, w7⟩, hS, hT⟩ := h
  have ho8 := (hO o ho).1
  have hW' : ∀ v, ca_sh v → ho_W a_alive a_lasting a_shared (upd a_element (4 * o + i) v) (upd b_elements (4 * π o + i) v) b_lasting b_shared := fun v hv => ⟨w1, w2, w3, ca_ShU w4 hv, ca_ShU w5 hv, w6, w7⟩
  have e4 : (4 * o + i) / 4 = o := by omega
  rcases hT with rfl | ⟨rfl, q, c, S, T⟩
  · exact ⟨f_logLength, a_logCell, a_logOld, a_logged, fun P p => hx_note (q := 0) (by omega) (fun z => absurd rfl z) (fun _ => p) (fun z => absurd rfl z), fun v hv => ⟨hP, ho_oE hP ho8 hi hO, hV, hW' v hv, hS, Or.inl rfl⟩⟩
  · by_cases z : a_logged (4 * o + i) = 0
    · have hTn := fun v => hm_TRn (cell := 4 * o + i) (old := a_element (4 * o + i)) (shared' := a_shared) (element' := upd a_element (4 * o + i) v) (roots' := a_roots) T (by omega) z ⟨fun a b => by
          rw [e4] at b ⊢
          exact ⟨hla, T.2.2.2.2.2.1 _ a z (by rw [e4]; exact b) (by rw [e4]; exact hla)⟩, fun a => by omega, fun a => by omega⟩ (fun x hx hne => pk_un hne) (fun _ _ _ => rfl) (fun _ _ _ => rfl)
      exact ⟨_, _, _, _, fun P p => hx_note (by omega) (fun _ _ => ⟨T.1.1, (hTn 0).1⟩) (fun w => absurd w (by rw [z]; exact fun q => q.elim (by decide) (fun q => q rfl))) (fun _ _ => p), fun v hv => ⟨hP, ho_oE hP ho8 hi hO, hV, hW' v hv, hS, Or.inr ⟨rfl, q + 1, hf_u c q (4 * o + i), S, (hTn v).2⟩⟩⟩
    · exact ⟨f_logLength, a_logCell, a_logOld, a_logged, fun P p => hx_note (q := 0) (by omega) (fun _ w => absurd w z) (fun _ => p) (fun _ w => absurd w z), fun v hv => ⟨hP, ho_oE hP ho8 hi hO, hV, hW' v hv, hS, Or.inr ⟨rfl, q, c, S, hm_TRw T (fun x hx hl _ _ => pk_un (fun e => z (by rw [← e]; exact hl))) (fun _ _ _ => rfl) (fun _ _ _ _ => rfl)⟩⟩⟩
/-- an element of an object that doesn't last -/
theorem hm_wE {o i : Nat} {v : Int32} (ho : H o) (hi : i < 4) (hv : ca_sh v) (hla : a_lasting o = 0) (h : hm_O π ρ H B f_open f_logLength a_alive a_fresh a_lasting a_shared a_owner a_size a_element a_roots a_logCell a_logOld a_logged g_made b_stamp b_owner b_lengths b_elements b_lasting b_shared b_roots b_oldStamp b_oldElements b_oldShared b_oldRoots) :
    hm_O π ρ H B f_open f_logLength a_alive a_fresh a_lasting a_shared a_owner a_size (upd a_element (4 * o + i) v) a_roots a_logCell a_logOld a_logged g_made b_stamp b_owner b_lengths (upd b_elements (4 * π o + i) v) b_lasting b_shared b_roots b_oldStamp b_oldElements b_oldShared b_oldRoots := by
  obtain ⟨hP, hO, hV, ⟨w1, w2, w3, w4, w5, w6, w7⟩, hS, hT⟩ := h
  have ho8 := (hO o ho).1
  refine ⟨hP, ho_oE hP ho8 hi hO, hV, ⟨w1, w2, w3, ca_ShU w4 hv, ca_ShU w5 hv, w6, w7⟩, hS, ?_⟩
  rcases hT with e | ⟨e, q, c, S, T⟩
  · exact Or.inl e
  · exact Or.inr ⟨e, q, c, S, hm_TRw T (fun x hx _ _ hl => pk_un (fun e => hl (by rw [e, show (4 * o + i) / 4 = o by omega]; exact hla))) (fun _ _ _ => rfl) (fun _ _ _ _ => rfl)⟩
theorem hm_noteS {o : Nat} {old : Int32} (ho : H o) (eold : old = a_shared o) (h : hm_O π ρ H B f_open f_logLength a_alive a_fresh a_lasting a_shared a_owner a_size a_element a_roots a_logCell a_logOld a_logged g_made b_stamp b_owner b_lengths b_elements b_lasting b_shared b_roots b_oldStamp b_oldElements b_oldShared b_oldRoots) :
    ∃ lg lc lo ld, (∀ P : SX → Prop, P (f_limit, f_pending, f_wide, f_waiting, f_height, f_entries, f_locals, lg, f_open, f_awaited, f_frames, f_sp, f_base, f_pc, f_method, f_steps, f_status, f_lastResult, f_lastPlace, a_ops, a_args, a_quick, a_length, a_exported, a_known, a_alive, a_fresh, a_lasting, a_shared, a_owner, a_size, a_element, a_roots, lc, lo, ld, a_slot, a_frameMethod, a_framePc) → wpX_note P (f_limit, f_pending, f_wide, f_waiting, f_height, f_entries, f_locals, f_logLength, f_open, f_awaited, f_frames, f_sp, f_base, f_pc, f_method, f_steps, f_status, f_lastResult, f_lastPlace, a_ops, a_args, a_quick, a_length, a_exported, a_known, a_alive, a_fresh, a_lasting, a_shared, a_owner, a_size, a_element, a_roots, a_logCell, a_logOld, a_logged, a_slot, a_frameMethod, a_framePc) (nI (38 + o)) old) ∧
      hm_O π ρ H B f_open lg a_alive a_fresh a_lasting (upd a_shared o 1) a_owner a_size a_element a_roots lc lo ld g_made b_stamp b_owner b_lengths b_elements b_lasting (upd b_shared (π o) 1) b_roots b_oldStamp b_oldElements b_oldShared b_oldRoots := by
  subst eold
  obtain ⟨hP, hO, hV, ⟨w1, w2, w3, w4, w5, w6, w7⟩, hS, hT⟩ := h
  have ho8 := (hO o ho).1
  have hW' : ho_W a_alive a_lasting (upd a_shared o 1) a_element b_elements b_lasting (upd b_shared (π o) 1) := ⟨w1, w2, ca_BU w3 (Or.inr rfl), w4, w5, w6, ca_BU w7 (Or.inr rfl)⟩
  have hO' : ∀ o', H o' → ho_o π a_alive a_lasting (upd a_shared o 1) a_owner a_size a_element b_owner b_lengths b_elements b_lasting (upd b_shared (π o) 1) o' := fun o' ho' => by
    obtain ⟨a, b, c, d, e, f, g, hel⟩ := hO o' ho'
    refine ⟨a, b, c, d, e, f, ?_, hel⟩
    by_cases z : o' = o
    · subst z; rw [pk_us, pk_us]
    · have hne : π o' ≠ π o := fun q => z (by
        have := congrArg ρ q
        rw [(hP o' a).2.2.1, (hP o ho8).2.2.1] at this
        exact this)
      rw [pk_un z, pk_un hne]; exact g
  rcases hT with rfl | ⟨rfl, q, c, S, T⟩
  · exact ⟨f_logLength, a_logCell, a_logOld, a_logged, fun P p => hx_note (q := 0) (by omega) (fun z => absurd rfl z) (fun _ => p) (fun z => absurd rfl z), hP, hO', hV, hW', hS, Or.inl rfl⟩
  · by_cases z : a_logged (38 + o) = 0
    · have hTn := hm_TRn (cell := 38 + o) (old := a_shared o) (shared' := upd a_shared o 1) (element' := a_element) (roots' := a_roots) T (by omega) z ⟨fun a => by omega, fun a b => by omega, fun a b => by
          rw [show 38 + o - 38 = o by omega] at b
          exact T.2.2.2.2.2.2.2.1 o ho8 z b⟩ (fun _ _ _ => rfl) (fun _ _ _ => rfl) (fun i hi hne => pk_un (by omega))
      exact ⟨_, _, _, _, fun P p => hx_note (by omega) (fun _ _ => ⟨T.1.1, hTn.1⟩) (fun w => absurd w (by rw [z]; exact fun q => q.elim (by decide) (fun q => q rfl))) (fun _ _ => p), hP, hO', hV, hW', hS, Or.inr ⟨rfl, q + 1, hf_u c q (38 + o), S, hTn.2⟩⟩
    · exact ⟨f_logLength, a_logCell, a_logOld, a_logged, fun P p => hx_note (q := 0) (by omega) (fun _ w => absurd w z) (fun _ => p) (fun _ w => absurd w z), hP, hO', hV, hW', hS, Or.inr ⟨rfl, q, c, S, hm_TRw T (fun _ _ _ _ _ => rfl) (fun _ _ _ => rfl) (fun i hi hl _ => pk_un (fun e => z (by rw [← e]; exact hl)))⟩⟩
end
end
section
/-! ===== X: roots, access, share, length ===== -/
section
variable {f_limit f_pending f_wide f_waiting f_height f_entries f_locals f_logLength f_open f_awaited f_frames f_sp f_base f_pc f_method f_steps f_status f_lastResult f_lastPlace : Int32} {a_ops a_args a_quick a_length a_exported a_known a_alive a_fresh a_lasting a_shared a_owner a_size a_element a_roots a_logCell a_logOld a_logged a_slot a_frameMethod a_framePc : Nat → Int32}
variable {L s n m p d e : Nat} {P : SX → Prop}
theorem hx_reachN {Q : Int32 → SX → Prop} {own : Int32} (H : Q (-1) (f_limit, f_pending, f_wide, f_waiting, f_height, f_entries, f_locals, f_logLength, f_open, f_awaited, f_frames, f_sp, f_base, f_pc, f_method, f_steps, 2, f_lastResult, f_lastPlace, a_ops, a_args, a_quick, a_length, a_exported, a_known, a_alive, a_fresh, a_lasting, a_shared, a_owner, a_size, a_element, a_roots, a_logCell, a_logOld, a_logged, a_slot, a_frameMethod, a_framePc)) : wpX_reach Q (f_limit, f_pending, f_wide, f_waiting, f_height, f_entries, f_locals, f_logLength, f_open, f_awaited, f_frames, f_sp, f_base, f_pc, f_method, f_steps, f_status, f_lastResult, f_lastPlace, a_ops, a_args, a_quick, a_length, a_exported, a_known, a_alive, a_fresh, a_lasting, a_shared, a_owner, a_size, a_element, a_roots, a_logCell, a_logOld, a_logged, a_slot, a_frameMethod, a_framePc) (nI 65544) own := by
  unfold wpX_reach
  exact nm_r (e' := nI 8) (by decide) (br_t rfl H)
theorem hx_reachO {Q : Int32 → SX → Prop} {own : Int32} {o : Nat} (hm : m < 6) (ho : o < 8) (H1 : (a_owner o = nI (m / 2) ∨ (own = 0 ∧ ¬ a_shared o = 0)) → Q (nI o) (f_limit, f_pending, f_wide, f_waiting, f_height, f_entries, f_locals, f_logLength, f_open, f_awaited, f_frames, f_sp, f_base, f_pc, nI m, f_steps, f_status, f_lastResult, f_lastPlace, a_ops, a_args, a_quick, a_length, a_exported, a_known, a_alive, a_fresh, a_lasting, a_shared, a_owner, a_size, a_element, a_roots, a_logCell, a_logOld, a_logged, a_slot, a_frameMethod, a_framePc)) (H0 : ¬ (a_owner o = nI (m / 2) ∨ (own = 0 ∧ ¬ a_shared o = 0)) → Q (-1) (f_limit, f_pending, f_wide, f_waiting, f_height, f_entries, f_locals, f_logLength, f_open, f_awaited, f_frames, f_sp, f_base, f_pc, nI m, f_steps, 3, f_lastResult, f_lastPlace, a_ops, a_args, a_quick, a_length, a_exported, a_known, a_alive, a_fresh, a_lasting, a_shared, a_owner, a_size, a_element, a_roots, a_logCell, a_logOld, a_logged, a_slot, a_frameMethod, a_framePc)) : wpX_reach Q (f_limit, f_pending, f_wide, f_waiting, f_height, f_entries, f_locals, f_logLength, f_open, f_awaited, f_frames, f_sp, f_base, f_pc, nI m, f_steps, f_status, f_lastResult, f_lastPlace, a_ops, a_args, a_quick, a_length, a_exported, a_known, a_alive, a_fresh, a_lasting, a_shared, a_owner, a_size, a_element, a_roots, a_logCell, a_logOld, a_logged, a_slot, a_frameMethod, a_framePc) (nI (65536 + o)) own := by
  have co : (nI o).toNatClampNeg = o := nI_clamp (by omega)
  have vo : vp_in (nI o) 8 := vp_in_nI ho (by decide)
  have em : nI m >>> ((1 : Int32) &&& 31) = nI (m / 2) := hx_shr (k := 1) (by omega) (by decide)
  unfold wpX_reach
  refine nm_r ho_sub (br_f (fun q => ?_) ⟨vo, ?_⟩)
  · have := (nI_eq (b := 8) (by omega) (by decide)).mp q
    omega
  · rw [co, em]
    refine br_c (fun z => H1 (Or.inl z)) (fun z => br_c (fun y => ⟨vo, br_c (fun w => H0 (fun q => q.elim z (fun q => q.2 w))) (fun w => H1 (Or.inr ⟨y, w⟩))⟩) (fun y => H0 (fun q => q.elim z (fun q => y q.1))))
theorem hx_s10 {b : Nat} {lg : Int32} {lc lo ld : Nat → Int32} (hn : n < 4) (he : e < 4) (hm : m < 6) (hb : b < 2) (hN : ¬ f_awaited = 0 → ∀ Q : SX → Prop, Q (nI L, f_pending, f_wide, f_waiting, f_height, f_entries, f_locals, lg, f_open, hw_aw f_awaited, nI (n + 1), nI (6 * n + 2 + (e + 1)), nI (6 * n), nI (p + 1), nI m, nI s, 0, 0, -1, a_ops, a_args, a_quick, a_length, a_exported, a_known, a_alive, a_fresh, a_lasting, a_shared, a_owner, a_size, a_element, a_roots, lc, lo, ld, a_slot, a_frameMethod, a_framePc) → wpX_note Q (nI L, f_pending, f_wide, f_waiting, f_height, f_entries, f_locals, f_logLength, f_open, hw_aw f_awaited, nI (n + 1), nI (6 * n + 2 + (e + 1)), nI (6 * n), nI (p + 1), nI m, nI s, 0, 0, -1, a_ops, a_args, a_quick, a_length, a_exported, a_known, a_alive, a_fresh, a_lasting, a_shared, a_owner, a_size, a_element, a_roots, a_logCell, a_logOld, a_logged, a_slot, a_frameMethod, a_framePc) (nI (32 + (2 * (m / 2) + b))) (a_roots (2 * (m / 2) + b)))
    (H1 : ¬ f_awaited = 0 → P (nI L, f_pending, f_wide, f_waiting, f_height, f_entries, f_locals, lg, f_open, hw_aw f_awaited, nI (n + 1), nI (6 * n + 2 + e), nI (6 * n), nI (p + 1), nI m, nI s, 0, 0, -1, a_ops, a_args, a_quick, a_length, a_exported, a_known, a_alive, a_fresh, a_lasting, a_shared, a_owner, a_size, a_element, upd a_roots (2 * (m / 2) + b) (a_slot (6 * n + 2 + e)), lc, lo, ld, a_slot, a_frameMethod, a_framePc)) (H0 : f_awaited = 0 → P (nI L, f_pending, f_wide, f_waiting, f_height, f_entries, f_locals, f_logLength, f_open, f_awaited, nI (n + 1), nI (6 * n + 2 + (e + 1)), nI (6 * n), nI p, nI m, nI s, 9, 0, -1, a_ops, a_args, a_quick, a_length, a_exported, a_known, a_alive, a_fresh, a_lasting, a_shared, a_owner, a_size, a_element, a_roots, a_logCell, a_logOld, a_logged, a_slot, a_frameMethod, a_framePc)) : wpX_simple P (nI L, f_pending, f_wide, f_waiting, f_height, f_entries, f_locals, f_logLength, f_open, f_awaited, nI (n + 1), nI (6 * n + 2 + (e + 1)), nI (6 * n), nI p, nI m, nI s, 0, 0, -1, a_ops, a_args, a_quick, a_length, a_exported, a_known, a_alive, a_fresh, a_lasting, a_shared, a_owner, a_size, a_element, a_roots, a_logCell, a_logOld, a_logged, a_slot, a_frameMethod, a_framePc) (nI 10) (nI b) := by
  have es : nI (6 * n + 2 + (e + 1)) - 1 = nI (6 * n + 2 + e) := nI_pred _
  have cs : (nI (6 * n + 2 + e)).toNatClampNeg = 6 * n + 2 + e := nI_clamp (by omega)
  have cr : (nI (2 * (m / 2) + b)).toNatClampNeg = 2 * (m / 2) + b := nI_clamp (by omega)
  have vr : vp_in (nI (2 * (m / 2) + b)) 6 := vp_in_nI (by omega) (by decide)
  have e32 : 32 + nI (2 * (m / 2) + b) = nI (32 + (2 * (m / 2) + b)) := nI_add 32 _
  unfold wpX_simple
  refine nm_r (nI_1 _) (br_f (by decide) (br_f (by decide) (br_f (by decide) (br_f (by decide) (br_f (by decide) (br_f (by decide) (br_f (by decide) (br_f (by decide) (br_f (by decide) (br_f (by decide) (br_f (by decide) (br_f (by decide) (br_t (by decide) ?_)))))))))))))
  rw [hx_ri hm hb]
  unfold wpX_setRoot
  refine hx_due (fun z => br_t rfl ?_) (fun z => br_f (by decide) ⟨vr, ?_⟩)
  · unfold wX_simple_286
    exact br_f (by decide) (nm_r (nI_pred p) (H0 z))
  · rw [e32, cr]
    refine hN z _ (nm_r es ⟨by rw [es]; exact vp_in_nI (by omega) (by decide), vr, nm_r (by rw [es, cs]) ?_⟩)
    unfold wX_simple_286
    exact br_t rfl (H1 z)
/-! ### length -/
theorem hx_m15N {b : Int32} (hn : n < 4) (he : e < 4) (ev : a_slot (6 * n + 2 + e) = nI 65544) (H : P (nI L, f_pending, f_wide, f_waiting, f_height, f_entries, f_locals, f_logLength, f_open, f_awaited, nI (n + 1), nI (6 * n + 2 + (e + 1)), nI (6 * n), nI p, nI m, nI s, 2, 0, -1, a_ops, a_args, a_quick, a_length, a_exported, a_known, a_alive, a_fresh, a_lasting, a_shared, a_owner, a_size, a_element, a_roots, a_logCell, a_logOld, a_logged, a_slot, a_frameMethod, a_framePc)) : wpX_memory P (nI L, f_pending, f_wide, f_waiting, f_height, f_entries, f_locals, f_logLength, f_open, f_awaited, nI (n + 1), nI (6 * n + 2 + (e + 1)), nI (6 * n), nI p, nI m, nI s, 0, 0, -1, a_ops, a_args, a_quick, a_length, a_exported, a_known, a_alive, a_fresh, a_lasting, a_shared, a_owner, a_size, a_element, a_roots, a_logCell, a_logOld, a_logged, a_slot, a_frameMethod, a_framePc) (nI 15) b := by
  have es : nI (6 * n + 2 + (e + 1)) - 1 = nI (6 * n + 2 + e) := nI_pred _
  have cs : (nI (6 * n + 2 + e)).toNatClampNeg = 6 * n + 2 + e := nI_clamp (by omega)
  unfold wpX_memory
  refine br_f (by decide) (br_f (by decide) (br_f (by decide) (br_f (by decide) (br_f (by decide) (br_t (by decide) ?_)))))
  rw [es, cs, ev]
  refine ⟨vp_in_nI (by omega) (by decide), hx_reachN (br_t (by decide) ?_)⟩
  unfold wX_memory_158
  exact br_f (by decide) H
theorem hx_m15 {b : Int32} {o : Nat} (hn : n < 4) (he : e < 4) (hm : m < 6) (ho : o < 8) (ev : a_slot (6 * n + 2 + e) = nI (65536 + o)) (H1 : (a_owner o = nI (m / 2) ∨ ((0 : Int32) = 0 ∧ ¬ a_shared o = 0)) → P (nI L, f_pending, f_wide, f_waiting, f_height, f_entries, f_locals, f_logLength, f_open, f_awaited, nI (n + 1), nI (6 * n + 2 + (e + 1)), nI (6 * n), nI (p + 1), nI m, nI s, 0, 0, -1, a_ops, a_args, a_quick, a_length, a_exported, a_known, a_alive, a_fresh, a_lasting, a_shared, a_owner, a_size, a_element, a_roots, a_logCell, a_logOld, a_logged, upd a_slot (6 * n + 2 + e) (a_size o), a_frameMethod, a_framePc)) (H0 : ¬ (a_owner o = nI (m / 2) ∨ ((0 : Int32) = 0 ∧ ¬ a_shared o = 0)) → P (nI L, f_pending, f_wide, f_waiting, f_height, f_entries, f_locals, f_logLength, f_open, f_awaited, nI (n + 1), nI (6 * n + 2 + (e + 1)), nI (6 * n), nI p, nI m, nI s, 3, 0, -1, a_ops, a_args, a_quick, a_length, a_exported, a_known, a_alive, a_fresh, a_lasting, a_shared, a_owner, a_size, a_element, a_roots, a_logCell, a_logOld, a_logged, a_slot, a_frameMethod, a_framePc)) : wpX_memory P (nI L, f_pending, f_wide, f_waiting, f_height, f_entries, f_locals, f_logLength, f_open, f_awaited, nI (n + 1), nI (6 * n + 2 + (e + 1)), nI (6 * n), nI p, nI m, nI s, 0, 0, -1, a_ops, a_args, a_quick, a_length, a_exported, a_known, a_alive, a_fresh, a_lasting, a_shared, a_owner, a_size, a_element, a_roots, a_logCell, a_logOld, a_logged, a_slot, a_frameMethod, a_framePc) (nI 15) b := by
  have es : nI (6 * n + 2 + (e + 1)) - 1 = nI (6 * n + 2 + e) := nI_pred _
  have cs : (nI (6 * n + 2 + e)).toNatClampNeg = 6 * n + 2 + e := nI_clamp (by omega)
  have co : (nI o).toNatClampNeg = o := nI_clamp (by omega)
  have vs : vp_in (nI (6 * n + 2 + e)) 24 := vp_in_nI (by omega) (by decide)
  unfold wpX_memory
  refine br_f (by decide) (br_f (by decide) (br_f (by decide) (br_f (by decide) (br_f (by decide) (br_t (by decide) ?_)))))
  rw [es, cs, ev]
  refine ⟨vs, hx_reachO hm ho (fun z => br_f (nI_pos (by omega)) ⟨vp_in_nI ho (by decide), by rw [es]; exact vs, nm_r (by rw [es, cs, co]) ?_⟩) (fun z => br_t (by decide) ?_)⟩
  · unfold wX_memory_158
    exact br_t rfl (nm_r (nI_1 _) (H1 z))
  · unfold wX_memory_158
    exact br_f (by decide) (H0 z)
/-! ### access -/
theorem hx_acN {x1 : Int32} {a : Nat} (hn : a < 24) (ev : a_slot a = nI 65544) (H : P (f_limit, f_pending, f_wide, f_waiting, f_height, f_entries, f_locals, f_logLength, f_open, f_awaited, f_frames, f_sp, f_base, f_pc, f_method, f_steps, 2, f_lastResult, f_lastPlace, a_ops, a_args, a_quick, a_length, a_exported, a_known, a_alive, a_fresh, a_lasting, a_shared, a_owner, a_size, a_element, a_roots, a_logCell, a_logOld, a_logged, a_slot, a_frameMethod, a_framePc)) : wX_access_19 P x1 (nI a) f_limit f_pending f_wide f_waiting f_height f_entries f_locals f_logLength f_open f_awaited f_frames f_sp f_base f_pc f_method f_steps f_status f_lastResult f_lastPlace a_ops a_args a_quick a_length a_exported a_known a_alive a_fresh a_lasting a_shared a_owner a_size a_element a_roots a_logCell a_logOld a_logged a_slot a_frameMethod a_framePc := by
  have ca : (nI a).toNatClampNeg = a := nI_clamp (by omega)
  unfold wX_access_19
  rw [ca, ev]
  exact ⟨vp_in_nI hn (by decide), hx_reachN (br_f (by decide) H)⟩
/-- the object may be reached: on to the index; else 3 -/
theorem hx_ac {x1 : Int32} {a o z i : Nat} {x : Int32} (hn : a + 1 < 24) (hm : m < 6) (ho : o < 8) (ev : a_slot a = nI (65536 + o)) (ei : a_slot (a + 1) = x) (ez : a_size o = nI z) (hz : z ≤ 4)
    (HW : ¬ (a_owner o = nI (m / 2) ∨ ((0 : Int32) = 0 ∧ ¬ a_shared o = 0)) → P (f_limit, f_pending, f_wide, f_waiting, f_height, f_entries, f_locals, f_logLength, f_open, f_awaited, f_frames, f_sp, f_base, f_pc, nI m, f_steps, 3, f_lastResult, f_lastPlace, a_ops, a_args, a_quick, a_length, a_exported, a_known, a_alive, a_fresh, a_lasting, a_shared, a_owner, a_size, a_element, a_roots, a_logCell, a_logOld, a_logged, a_slot, a_frameMethod, a_framePc)) (HB : (a_owner o = nI (m / 2) ∨ ((0 : Int32) = 0 ∧ ¬ a_shared o = 0)) → ¬ (∃ i, i < z ∧ x = nI i) → P (f_limit, f_pending, f_wide, f_waiting, f_height, f_entries, f_locals, f_logLength, f_open, f_awaited, f_frames, f_sp, f_base, f_pc, nI m, f_steps, 4, f_lastResult, f_lastPlace, a_ops, a_args, a_quick, a_length, a_exported, a_known, a_alive, a_fresh, a_lasting, a_shared, a_owner, a_size, a_element, a_roots, a_logCell, a_logOld, a_logged, a_slot, a_frameMethod, a_framePc))
    (HG : (a_owner o = nI (m / 2) ∨ ((0 : Int32) = 0 ∧ ¬ a_shared o = 0)) → ∀ i, i < z → x = nI i → ((x1 = 0 → (vp_in (nI (4 * o + i)) 32 ∧ (vp_in (nI a) 24 ∧ ∀ sl, sl = upd a_slot a (a_element (4 * o + i)) → (∀ sp', sp' = f_sp - 1 → P (f_limit, f_pending, f_wide, f_waiting, f_height, f_entries, f_locals, f_logLength, f_open, f_awaited, f_frames, sp', f_base, f_pc, nI m, f_steps, f_status, f_lastResult, f_lastPlace, a_ops, a_args, a_quick, a_length, a_exported, a_known, a_alive, a_fresh, a_lasting, a_shared, a_owner, a_size, a_element, a_roots, a_logCell, a_logOld, a_logged, sl, a_frameMethod, a_framePc))))) ∧ (¬ x1 = 0 → (vp_in (nI o) 8 ∧ ((a_lasting o = 0 → wX_access_135 P (nI a) (nI (4 * o + i)) f_limit f_pending f_wide f_waiting f_height f_entries f_locals f_logLength f_open f_awaited f_frames f_sp f_base f_pc (nI m) f_steps f_status f_lastResult f_lastPlace a_ops a_args a_quick a_length a_exported a_known a_alive a_fresh a_lasting a_shared a_owner a_size a_element a_roots a_logCell a_logOld a_logged a_slot a_frameMethod a_framePc) ∧ (¬ a_lasting o = 0 → wpX_due (fun r u => match u with | (f_limit, f_pending, f_wide, f_waiting, f_height, f_entries, f_locals, f_logLength, f_open, f_awaited, f_frames, f_sp, f_base, f_pc, f_method, f_steps, f_status, f_lastResult, f_lastPlace, a_ops, a_args, a_quick, a_length, a_exported, a_known, a_alive, a_fresh, a_lasting, a_shared, a_owner, a_size, a_element, a_roots, a_logCell, a_logOld, a_logged, a_slot, a_frameMethod, a_framePc) => ((r = 0 → P (f_limit, f_pending, f_wide, f_waiting, f_height, f_entries, f_locals, f_logLength, f_open, f_awaited, f_frames, f_sp, f_base, f_pc, f_method, f_steps, f_status, f_lastResult, f_lastPlace, a_ops, a_args, a_quick, a_length, a_exported, a_known, a_alive, a_fresh, a_lasting, a_shared, a_owner, a_size, a_element, a_roots, a_logCell, a_logOld, a_logged, a_slot, a_frameMethod, a_framePc)) ∧ (¬ r = 0 → (vp_in (nI (4 * o + i)) 32 ∧ wpX_note (fun u => match u with | (f_limit, f_pending, f_wide, f_waiting, f_height, f_entries, f_locals, f_logLength, f_open, f_awaited, f_frames, f_sp, f_base, f_pc, f_method, f_steps, f_status, f_lastResult, f_lastPlace, a_ops, a_args, a_quick, a_length, a_exported, a_known, a_alive, a_fresh, a_lasting, a_shared, a_owner, a_size, a_element, a_roots, a_logCell, a_logOld, a_logged, a_slot, a_frameMethod, a_framePc) => (wX_access_135 P (nI a) (nI (4 * o + i)) f_limit f_pending f_wide f_waiting f_height f_entries f_locals f_logLength f_open f_awaited f_frames f_sp f_base f_pc f_method f_steps f_status f_lastResult f_lastPlace a_ops a_args a_quick a_length a_exported a_known a_alive a_fresh a_lasting a_shared a_owner a_size a_element a_roots a_logCell a_logOld a_logged a_slot a_frameMethod a_framePc)) (f_limit, f_pending, f_wide, f_waiting, f_height, f_entries, f_locals, f_logLength, f_open, f_awaited, f_frames, f_sp, f_base, f_pc, f_method, f_steps, f_status, f_lastResult, f_lastPlace, a_ops, a_args, a_quick, a_length, a_exported, a_known, a_alive, a_fresh, a_lasting, a_shared, a_owner, a_size, a_element, a_roots, a_logCell, a_logOld, a_logged, a_slot, a_frameMethod, a_framePc) (nI (4 * o + i)) (a_element (4 * o + i)))))) (f_limit, f_pending, f_wide, f_waiting, f_height, f_entries, f_locals, f_logLength, f_open, f_awaited, f_frames, f_sp, f_base, f_pc, nI m, f_steps, f_status, f_lastResult, f_lastPlace, a_ops, a_args, a_quick, a_length, a_exported, a_known, a_alive, a_fresh, a_lasting, a_shared, a_owner, a_size, a_element, a_roots, a_logCell, a_logOld, a_logged, a_slot, a_frameMethod, a_framePc))))))) : wX_access_19 P x1 (nI a) f_limit f_pending f_wide f_waiting f_height f_entries f_locals f_logLength f_open f_awaited f_frames f_sp f_base f_pc (nI m) f_steps f_status f_lastResult f_lastPlace a_ops a_args a_quick a_length a_exported a_known a_alive a_fresh a_lasting a_shared a_owner a_size a_element a_roots a_logCell a_logOld a_logged a_slot a_frameMethod a_framePc := by
  have ca : (nI a).toNatClampNeg = a := nI_clamp (by omega)
  have ca1 : (nI (a + 1)).toNatClampNeg = a + 1 := nI_clamp (by omega)
  have co : (nI o).toNatClampNeg = o := nI_clamp (by omega)
  have vo : vp_in (nI o) 8 := vp_in_nI ho (by decide)
  unfold wX_access_19
  rw [ca, ev]
  refine ⟨vp_in_nI (by omega) (by decide), hx_reachO hm ho (fun w => br_t (nI_pos' (by omega)) ⟨by rw [nI_1]; exact vp_in_nI hn (by decide), nm_r (e' := x) (by rw [nI_1, ca1]; exact ei) ?_⟩) (fun w => br_f (by decide) (HW w))⟩
  rw [co, ez]
  rcases pk_ix x (n := z) (by omega) with q | q | ⟨i, hi, rfl⟩
  · exact br_t q (HB w (fun ⟨i, hi, e⟩ => by rw [e] at q; exact nI_pos (by omega) q))
  · have hB : ¬ ∃ i, i < z ∧ x = nI i := fun ⟨i, hi, e⟩ => by rw [e] at q; exact nI_ge hi (by omega) q
    exact br_c (fun _ => HB w hB) (fun _ => ⟨vo, br_f (fun q' => absurd q (Int32.not_le.mpr q')) (HB w hB)⟩)
  · have e4 : 4 * nI o + nI i = nI (4 * o + i) := by rw [show 4 * nI o = nI (4 * o) from pk_mul 4 o, nI_add]
    have c4 : (nI (4 * o + i)).toNatClampNeg = 4 * o + i := nI_clamp (by omega)
    refine br_f (nI_pos (by omega)) ⟨vo, br_t (nI_lt hi (by omega)) (nm_r e4 ?_)⟩
    have := HG w i hi rfl
    rw [c4]
    exact this
theorem hx_135 {a x : Nat} (hn : a + 2 < 24) (hx : x < 32) (hv : ca_sh (a_slot (a + 2))) (H : P (f_limit, f_pending, f_wide, f_waiting, f_height, f_entries, f_locals, f_logLength, f_open, f_awaited, f_frames, nI a, f_base, f_pc, f_method, f_steps, f_status, f_lastResult, f_lastPlace, a_ops, a_args, a_quick, a_length, a_exported, a_known, a_alive, a_fresh, a_lasting, a_shared, a_owner, a_size, upd a_element x (a_slot (a + 2)), a_roots, a_logCell, a_logOld, a_logged, a_slot, a_frameMethod, a_framePc)) : wX_access_135 P (nI a) (nI x) f_limit f_pending f_wide f_waiting f_height f_entries f_locals f_logLength f_open f_awaited f_frames f_sp f_base f_pc f_method f_steps f_status f_lastResult f_lastPlace a_ops a_args a_quick a_length a_exported a_known a_alive a_fresh a_lasting a_shared a_owner a_size a_element a_roots a_logCell a_logOld a_logged a_slot a_frameMethod a_framePc := by
  have ea : nI a + 2 = nI (a + 2) := nI_add a 2
  have ca : (nI (a + 2)).toNatClampNeg = a + 2 := nI_clamp (by omega)
  have cx : (nI x).toNatClampNeg = x := nI_clamp (by omega)
  unfold wX_access_135
  rw [ea, ca, cx, show (a_slot (a + 2)).toInt16.toInt32 = a_slot (a + 2) from hv, ca_ns hv]
  exact ⟨vp_in_nI hn (by decide), vp_in_nI hx (by decide), nm_e H⟩
theorem hx_m12 {b : Int32} (K : wX_access_19 (fun u => match u with | (f_limit, f_pending, f_wide, f_waiting, f_height, f_entries, f_locals, f_logLength, f_open, f_awaited, f_frames, f_sp, f_base, f_pc, f_method, f_steps, f_status, f_lastResult, f_lastPlace, a_ops, a_args, a_quick, a_length, a_exported, a_known, a_alive, a_fresh, a_lasting, a_shared, a_owner, a_size, a_element, a_roots, a_logCell, a_logOld, a_logged, a_slot, a_frameMethod, a_framePc) => (wX_memory_158 P f_limit f_pending f_wide f_waiting f_height f_entries f_locals f_logLength f_open f_awaited f_frames f_sp f_base f_pc f_method f_steps f_status f_lastResult f_lastPlace a_ops a_args a_quick a_length a_exported a_known a_alive a_fresh a_lasting a_shared a_owner a_size a_element a_roots a_logCell a_logOld a_logged a_slot a_frameMethod a_framePc)) 0 (nI (6 * n + 2 + e)) (nI L) f_pending f_wide f_waiting f_height f_entries f_locals f_logLength f_open f_awaited (nI (n + 1)) (nI (6 * n + 2 + (e + 2))) (nI (6 * n)) (nI p) (nI m) (nI s) 0 0 (-1) a_ops a_args a_quick a_length a_exported a_known a_alive a_fresh a_lasting a_shared a_owner a_size a_element a_roots a_logCell a_logOld a_logged a_slot a_frameMethod a_framePc) : wpX_memory P (nI L, f_pending, f_wide, f_waiting, f_height, f_entries, f_locals, f_logLength, f_open, f_awaited, nI (n + 1), nI (6 * n + 2 + (e + 2)), nI (6 * n), nI p, nI m, nI s, 0, 0, -1, a_ops, a_args, a_quick, a_length, a_exported, a_known, a_alive, a_fresh, a_lasting, a_shared, a_owner, a_size, a_element, a_roots, a_logCell, a_logOld, a_logged, a_slot, a_frameMethod, a_framePc) (nI 12) b := by
  have es : nI (6 * n + 2 + (e + 2)) - 2 = nI (6 * n + 2 + e) := by rw [show nI (6 * n + 2 + (e + 2)) - 2 = nI (6 * n + 2 + (e + 2) - 2) from pk_sub (b := 2) (by omega)]; rfl
  unfold wpX_memory
  refine br_f (by decide) (br_f (by decide) (br_t (by decide) ?_))
  unfold wX_memory_40 wX_memory_52 wpX_access
  refine br_f (by decide) (br_t rfl ?_)
  rw [es]
  exact K
theorem hx_m13 {b : Int32} (K : wX_access_19 (fun u => match u with | (f_limit, f_pending, f_wide, f_waiting, f_height, f_entries, f_locals, f_logLength, f_open, f_awaited, f_frames, f_sp, f_base, f_pc, f_method, f_steps, f_status, f_lastResult, f_lastPlace, a_ops, a_args, a_quick, a_length, a_exported, a_known, a_alive, a_fresh, a_lasting, a_shared, a_owner, a_size, a_element, a_roots, a_logCell, a_logOld, a_logged, a_slot, a_frameMethod, a_framePc) => (wX_memory_158 P f_limit f_pending f_wide f_waiting f_height f_entries f_locals f_logLength f_open f_awaited f_frames f_sp f_base f_pc f_method f_steps f_status f_lastResult f_lastPlace a_ops a_args a_quick a_length a_exported a_known a_alive a_fresh a_lasting a_shared a_owner a_size a_element a_roots a_logCell a_logOld a_logged a_slot a_frameMethod a_framePc)) 1 (nI (6 * n + 2 + e)) (nI L) f_pending f_wide f_waiting f_height f_entries f_locals f_logLength f_open f_awaited (nI (n + 1)) (nI (6 * n + 2 + (e + 3))) (nI (6 * n)) (nI p) (nI m) (nI s) 0 0 (-1) a_ops a_args a_quick a_length a_exported a_known a_alive a_fresh a_lasting a_shared a_owner a_size a_element a_roots a_logCell a_logOld a_logged a_slot a_frameMethod a_framePc) : wpX_memory P (nI L, f_pending, f_wide, f_waiting, f_height, f_entries, f_locals, f_logLength, f_open, f_awaited, nI (n + 1), nI (6 * n + 2 + (e + 3)), nI (6 * n), nI p, nI m, nI s, 0, 0, -1, a_ops, a_args, a_quick, a_length, a_exported, a_known, a_alive, a_fresh, a_lasting, a_shared, a_owner, a_size, a_element, a_roots, a_logCell, a_logOld, a_logged, a_slot, a_frameMethod, a_framePc) (nI 13) b := by
  have es : nI (6 * n + 2 + (e + 3)) - 3 = nI (6 * n + 2 + e) := by rw [show nI (6 * n + 2 + (e + 3)) - 3 = nI (6 * n + 2 + (e + 3) - 3) from pk_sub (b := 3) (by omega)]; rfl
  unfold wpX_memory
  refine br_f (by decide) (br_f (by decide) (br_f (by decide) (br_t (by decide) ?_)))
  unfold wX_memory_40 wX_memory_52 wpX_access
  refine br_t (by decide) (br_f (by decide) ?_)
  rw [es]
  exact K
/-! ### share -/
theorem hx_m14N {b : Int32} (hn : n < 4) (he : e < 4) (ev : a_slot (6 * n + 2 + e) = nI 65544) (H : P (nI L, f_pending, f_wide, f_waiting, f_height, f_entries, f_locals, f_logLength, f_open, f_awaited, nI (n + 1), nI (6 * n + 2 + (e + 1)), nI (6 * n), nI p, nI m, nI s, 2, 0, -1, a_ops, a_args, a_quick, a_length, a_exported, a_known, a_alive, a_fresh, a_lasting, a_shared, a_owner, a_size, a_element, a_roots, a_logCell, a_logOld, a_logged, a_slot, a_frameMethod, a_framePc)) : wpX_memory P (nI L, f_pending, f_wide, f_waiting, f_height, f_entries, f_locals, f_logLength, f_open, f_awaited, nI (n + 1), nI (6 * n + 2 + (e + 1)), nI (6 * n), nI p, nI m, nI s, 0, 0, -1, a_ops, a_args, a_quick, a_length, a_exported, a_known, a_alive, a_fresh, a_lasting, a_shared, a_owner, a_size, a_element, a_roots, a_logCell, a_logOld, a_logged, a_slot, a_frameMethod, a_framePc) (nI 14) b := by
  have es : nI (6 * n + 2 + (e + 1)) - 1 = nI (6 * n + 2 + e) := nI_pred _
  have cs : (nI (6 * n + 2 + e)).toNatClampNeg = 6 * n + 2 + e := nI_clamp (by omega)
  unfold wpX_memory
  refine br_f (by decide) (br_f (by decide) (br_f (by decide) (br_f (by decide) (br_t (by decide) ?_))))
  unfold wpX_share
  refine ⟨by rw [es]; exact vp_in_nI (by omega) (by decide), ?_⟩
  rw [es, cs, ev]
  refine hx_reachN (br_t (by decide) ?_)
  unfold wX_memory_158
  exact br_f (by decide) H
theorem hx_m14 {b : Int32} {o : Nat} {lg : Int32} {lc lo ld : Nat → Int32} (hn : n < 4) (he : e < 4) (hm : m < 6) (ho : o < 8) (hb : a_shared o = 0 ∨ a_shared o = 1) (ev : a_slot (6 * n + 2 + e) = nI (65536 + o)) (hN : ¬ f_awaited = 0 → ∀ Q : SX → Prop, Q (nI L, f_pending, f_wide, f_waiting, f_height, f_entries, f_locals, lg, f_open, hw_aw f_awaited, nI (n + 1), nI (6 * n + 2 + (e + 1)), nI (6 * n), nI p, nI m, nI s, 0, 0, -1, a_ops, a_args, a_quick, a_length, a_exported, a_known, a_alive, a_fresh, a_lasting, a_shared, a_owner, a_size, a_element, a_roots, lc, lo, ld, a_slot, a_frameMethod, a_framePc) → wpX_note Q (nI L, f_pending, f_wide, f_waiting, f_height, f_entries, f_locals, f_logLength, f_open, hw_aw f_awaited, nI (n + 1), nI (6 * n + 2 + (e + 1)), nI (6 * n), nI p, nI m, nI s, 0, 0, -1, a_ops, a_args, a_quick, a_length, a_exported, a_known, a_alive, a_fresh, a_lasting, a_shared, a_owner, a_size, a_element, a_roots, a_logCell, a_logOld, a_logged, a_slot, a_frameMethod, a_framePc) (nI (38 + o)) (a_shared o))
    (H1 : a_owner o = nI (m / 2) → ¬ f_awaited = 0 → P (nI L, f_pending, f_wide, f_waiting, f_height, f_entries, f_locals, lg, f_open, hw_aw f_awaited, nI (n + 1), nI (6 * n + 2 + e), nI (6 * n), nI (p + 1), nI m, nI s, 0, 0, -1, a_ops, a_args, a_quick, a_length, a_exported, a_known, a_alive, a_fresh, a_lasting, upd a_shared o 1, a_owner, a_size, a_element, a_roots, lc, lo, ld, a_slot, a_frameMethod, a_framePc)) (HT : a_owner o = nI (m / 2) → f_awaited = 0 → P (nI L, f_pending, f_wide, f_waiting, f_height, f_entries, f_locals, f_logLength, f_open, f_awaited, nI (n + 1), nI (6 * n + 2 + (e + 1)), nI (6 * n), nI p, nI m, nI s, 9, 0, -1, a_ops, a_args, a_quick, a_length, a_exported, a_known, a_alive, a_fresh, a_lasting, a_shared, a_owner, a_size, a_element, a_roots, a_logCell, a_logOld, a_logged, a_slot, a_frameMethod, a_framePc)) (H0 : ¬ a_owner o = nI (m / 2) → P (nI L, f_pending, f_wide, f_waiting, f_height, f_entries, f_locals, f_logLength, f_open, f_awaited, nI (n + 1), nI (6 * n + 2 + (e + 1)), nI (6 * n), nI p, nI m, nI s, 3, 0, -1, a_ops, a_args, a_quick, a_length, a_exported, a_known, a_alive, a_fresh, a_lasting, a_shared, a_owner, a_size, a_element, a_roots, a_logCell, a_logOld, a_logged, a_slot, a_frameMethod, a_framePc)) : wpX_memory P (nI L, f_pending, f_wide, f_waiting, f_height, f_entries, f_locals, f_logLength, f_open, f_awaited, nI (n + 1), nI (6 * n + 2 + (e + 1)), nI (6 * n), nI p, nI m, nI s, 0, 0, -1, a_ops, a_args, a_quick, a_length, a_exported, a_known, a_alive, a_fresh, a_lasting, a_shared, a_owner, a_size, a_element, a_roots, a_logCell, a_logOld, a_logged, a_slot, a_frameMethod, a_framePc) (nI 14) b := by
  have es : nI (6 * n + 2 + (e + 1)) - 1 = nI (6 * n + 2 + e) := nI_pred _
  have cs : (nI (6 * n + 2 + e)).toNatClampNeg = 6 * n + 2 + e := nI_clamp (by omega)
  have co : (nI o).toNatClampNeg = o := nI_clamp (by omega)
  have vo : vp_in (nI o) 8 := vp_in_nI ho (by decide)
  have e38 : 38 + nI o = nI (38 + o) := nI_add 38 o
  unfold wpX_memory
  refine br_f (by decide) (br_f (by decide) (br_f (by decide) (br_f (by decide) (br_t (by decide) ?_))))
  unfold wpX_share
  refine ⟨by rw [es]; exact vp_in_nI (by omega) (by decide), ?_⟩
  rw [es, cs, ev]
  refine hx_reachO hm ho (fun w => br_f (nI_pos (by omega)) ?_) (fun w => br_t (by decide) ?_)
  · have how : a_owner o = nI (m / 2) := w.elim id (fun q => absurd q.1 (by decide))
    refine hx_due (fun z => br_t rfl ?_) (fun z => br_f (by decide) ⟨vo, ?_⟩)
    · unfold wX_memory_158
      exact br_f (by decide) (HT how z)
    · have key : ∀ z0, z0 = a_shared o → wX_share_48 (fun u => match u with | (f_limit, f_pending, f_wide, f_waiting, f_height, f_entries, f_locals, f_logLength, f_open, f_awaited, f_frames, f_sp, f_base, f_pc, f_method, f_steps, f_status, f_lastResult, f_lastPlace, a_ops, a_args, a_quick, a_length, a_exported, a_known, a_alive, a_fresh, a_lasting, a_shared, a_owner, a_size, a_element, a_roots, a_logCell, a_logOld, a_logged, a_slot, a_frameMethod, a_framePc) => (wX_memory_158 P f_limit f_pending f_wide f_waiting f_height f_entries f_locals f_logLength f_open f_awaited f_frames f_sp f_base f_pc f_method f_steps f_status f_lastResult f_lastPlace a_ops a_args a_quick a_length a_exported a_known a_alive a_fresh a_lasting a_shared a_owner a_size a_element a_roots a_logCell a_logOld a_logged a_slot a_frameMethod a_framePc)) (nI o) z0 (38 + nI o) (nI L) f_pending f_wide f_waiting f_height f_entries f_locals f_logLength f_open (hw_aw f_awaited) (nI (n + 1)) (nI (6 * n + 2 + (e + 1))) (nI (6 * n)) (nI p) (nI m) (nI s) 0 0 (-1) a_ops a_args a_quick a_length a_exported a_known a_alive a_fresh a_lasting a_shared a_owner a_size a_element a_roots a_logCell a_logOld a_logged a_slot a_frameMethod a_framePc := fun z0 ez => by
        unfold wX_share_48
        rw [ez, e38]
        refine hN z _ ⟨vo, nm_r (e' := upd a_shared o 1) (by rw [co]; rfl) (nm_r es ?_)⟩
        unfold wX_memory_158
        exact br_t rfl (nm_r (nI_1 _) (H1 how z))
      rw [co]
      refine br_c (fun y => key 0 y.symm) (fun y => key 1 ?_)
      exact (hb.elim (fun q => absurd q y) id).symm
  · unfold wX_memory_158
    exact br_f (by decide) (H0 (fun q => w (Or.inl q)))
end
end
section
/-! ===== Y: write, objects ===== -/
section
variable {g_limit g_waiting g_stack g_locals g_running g_steps g_awaited g_answer g_where g_outcome : Int32} {g_made : Int64} {g_good g_open : Int32} {b_ops b_bs b_sizes b_exported : Nat → Int32} {b_stamp : Nat → Int64} {b_owner b_lengths b_elements b_lasting b_shared b_roots : Nat → Int32} {b_oldStamp : Nat → Int64} {b_oldElements b_oldShared b_oldRoots b_rows b_nexts b_depths b_places b_kinds b_met b_todo b_heights : Nat → Int32}
variable {f_open f_awaited : Int32}
variable {L s n m p d e : Nat} {P : SY → Prop}
theorem hy_write {Q : Int32 → SY → Prop} (H0 : f_awaited = 0 → wpY_end (fun u => match u with | (g_limit, g_waiting, g_stack, g_locals, g_running, g_steps, g_awaited, g_answer, g_where, g_outcome, g_made, g_good, g_open, b_ops, b_bs, b_sizes, b_exported, b_stamp, b_owner, b_lengths, b_elements, b_lasting, b_shared, b_roots, b_oldStamp, b_oldElements, b_oldShared, b_oldRoots, b_rows, b_nexts, b_depths, b_places, b_kinds, b_met, b_todo, b_heights) => (Q 0 (g_limit, g_waiting, g_stack, g_locals, g_running, g_steps, g_awaited, g_answer, g_where, g_outcome, g_made, g_good, g_open, b_ops, b_bs, b_sizes, b_exported, b_stamp, b_owner, b_lengths, b_elements, b_lasting, b_shared, b_roots, b_oldStamp, b_oldElements, b_oldShared, b_oldRoots, b_rows, b_nexts, b_depths, b_places, b_kinds, b_met, b_todo, b_heights))) (nI L, g_waiting, g_stack, g_locals, nI (n + 1), nI s, f_awaited, 0, g_where, g_outcome, g_made, g_good, f_open, b_ops, b_bs, b_sizes, b_exported, b_stamp, b_owner, b_lengths, b_elements, b_lasting, b_shared, b_roots, b_oldStamp, b_oldElements, b_oldShared, b_oldRoots, b_rows, b_nexts, b_depths, b_places, b_kinds, b_met, b_todo, b_heights) 9) (H1 : ¬ f_awaited = 0 → Q 1 (nI L, g_waiting, g_stack, g_locals, nI (n + 1), nI s, hw_aw f_awaited, 0, g_where, g_outcome, g_made, g_good, f_open, b_ops, b_bs, b_sizes, b_exported, b_stamp, b_owner, b_lengths, b_elements, b_lasting, b_shared, b_roots, b_oldStamp, b_oldElements, b_oldShared, b_oldRoots, b_rows, b_nexts, b_depths, b_places, b_kinds, b_met, b_todo, b_heights)) : wpY_write Q (nI L, g_waiting, g_stack, g_locals, nI (n + 1), nI s, f_awaited, 0, g_where, g_outcome, g_made, g_good, f_open, b_ops, b_bs, b_sizes, b_exported, b_stamp, b_owner, b_lengths, b_elements, b_lasting, b_shared, b_roots, b_oldStamp, b_oldElements, b_oldShared, b_oldRoots, b_rows, b_nexts, b_depths, b_places, b_kinds, b_met, b_todo, b_heights) := by
  unfold wpY_write
  refine br_c H0 (fun z => ?_)
  have := H1 z
  unfold hw_aw at this
  refine br_c (fun q => ?_) (fun q => nm_e ?_)
  · rw [if_pos q] at this; exact this
  · rw [if_neg q] at this; exact this
theorem hy_o10 {b : Nat} (hn : n < 4) (he : e < 4) (hm : m < 6) (hb : b < 2) (er : b_rows n = nI m) (ed : b_depths n = nI (e + 1)) (en : b_nexts n = nI p) (H0 : f_awaited = 0 → wpY_end (fun u => match u with | (g_limit, g_waiting, g_stack, g_locals, g_running, g_steps, g_awaited, g_answer, g_where, g_outcome, g_made, g_good, g_open, b_ops, b_bs, b_sizes, b_exported, b_stamp, b_owner, b_lengths, b_elements, b_lasting, b_shared, b_roots, b_oldStamp, b_oldElements, b_oldShared, b_oldRoots, b_rows, b_nexts, b_depths, b_places, b_kinds, b_met, b_todo, b_heights) => (((0 : Int32) = 0 → P (g_limit, g_waiting, g_stack, g_locals, g_running, g_steps, g_awaited, g_answer, g_where, g_outcome, g_made, g_good, g_open, b_ops, b_bs, b_sizes, b_exported, b_stamp, b_owner, b_lengths, b_elements, b_lasting, b_shared, b_roots, b_oldStamp, b_oldElements, b_oldShared, b_oldRoots, b_rows, b_nexts, b_depths, b_places, b_kinds, b_met, b_todo, b_heights)) ∧ (¬ (0 : Int32) = 0 → wpY_applet (fun r_193 => (wpY_entry (fun r_230 => (vp_in ((2 * r_193) + nI b) 6 ∧ ∀ ro, ro = upd b_roots ((2 * r_193) + nI b).toNatClampNeg r_230 → (wpY_drop (fun u => match u with | (g_limit, g_waiting, g_stack, g_locals, g_running, g_steps, g_awaited, g_answer, g_where, g_outcome, g_made, g_good, g_open, b_ops, b_bs, b_sizes, b_exported, b_stamp, b_owner, b_lengths, b_elements, b_lasting, b_shared, b_roots, b_oldStamp, b_oldElements, b_oldShared, b_oldRoots, b_rows, b_nexts, b_depths, b_places, b_kinds, b_met, b_todo, b_heights) => (wY_other_222 P g_limit g_waiting g_stack g_locals g_running g_steps g_awaited g_answer g_where g_outcome g_made g_good g_open b_ops b_bs b_sizes b_exported b_stamp b_owner b_lengths b_elements b_lasting b_shared b_roots b_oldStamp b_oldElements b_oldShared b_oldRoots b_rows b_nexts b_depths b_places b_kinds b_met b_todo b_heights)) (g_limit, g_waiting, g_stack, g_locals, g_running, g_steps, g_awaited, g_answer, g_where, g_outcome, g_made, g_good, g_open, b_ops, b_bs, b_sizes, b_exported, b_stamp, b_owner, b_lengths, b_elements, b_lasting, b_shared, ro, b_oldStamp, b_oldElements, b_oldShared, b_oldRoots, b_rows, b_nexts, b_depths, b_places, b_kinds, b_met, b_todo, b_heights) 1))) (g_limit, g_waiting, g_stack, g_locals, g_running, g_steps, g_awaited, g_answer, g_where, g_outcome, g_made, g_good, g_open, b_ops, b_bs, b_sizes, b_exported, b_stamp, b_owner, b_lengths, b_elements, b_lasting, b_shared, b_roots, b_oldStamp, b_oldElements, b_oldShared, b_oldRoots, b_rows, b_nexts, b_depths, b_places, b_kinds, b_met, b_todo, b_heights) 0)) (g_limit, g_waiting, g_stack, g_locals, g_running, g_steps, g_awaited, g_answer, g_where, g_outcome, g_made, g_good, g_open, b_ops, b_bs, b_sizes, b_exported, b_stamp, b_owner, b_lengths, b_elements, b_lasting, b_shared, b_roots, b_oldStamp, b_oldElements, b_oldShared, b_oldRoots, b_rows, b_nexts, b_depths, b_places, b_kinds, b_met, b_todo, b_heights)))) (nI L, g_waiting, g_stack, g_locals, nI (n + 1), nI s, f_awaited, 0, g_where, g_outcome, g_made, g_good, f_open, b_ops, b_bs, b_sizes, b_exported, b_stamp, b_owner, b_lengths, b_elements, b_lasting, b_shared, b_roots, b_oldStamp, b_oldElements, b_oldShared, b_oldRoots, b_rows, b_nexts, b_depths, b_places, b_kinds, b_met, b_todo, b_heights) 9) (H1 : ¬ f_awaited = 0 → P (nI L, g_waiting, g_stack, g_locals, nI (n + 1), nI s, hw_aw f_awaited, 0, g_where, g_outcome, g_made, g_good, f_open, b_ops, b_bs, b_sizes, b_exported, b_stamp, b_owner, b_lengths, b_elements, b_lasting, b_shared, upd b_roots (2 * (m / 2) + b) (b_places (8 * n + 2 + e)), b_oldStamp, b_oldElements, b_oldShared, b_oldRoots, b_rows, upd b_nexts n (nI (p + 1)), upd b_depths n (nI e), b_places, b_kinds, b_met, b_todo, b_heights)) : wpY_other P (nI L, g_waiting, g_stack, g_locals, nI (n + 1), nI s, f_awaited, 0, g_where, g_outcome, g_made, g_good, f_open, b_ops, b_bs, b_sizes, b_exported, b_stamp, b_owner, b_lengths, b_elements, b_lasting, b_shared, b_roots, b_oldStamp, b_oldElements, b_oldShared, b_oldRoots, b_rows, b_nexts, b_depths, b_places, b_kinds, b_met, b_todo, b_heights) (nI 10) (nI b) := by
  have ei : 2 * nI (m / 2) + nI b = nI (2 * (m / 2) + b) := by rw [show 2 * nI (m / 2) = nI (2 * (m / 2)) from pk_mul 2 _, nI_add]
  have ci : (nI (2 * (m / 2) + b)).toNatClampNeg = 2 * (m / 2) + b := nI_clamp (by omega)
  unfold wpY_other
  refine br_f (by decide) (br_f (by decide) (br_f (by decide) (br_t (by decide) ?_)))
  refine hy_write H0 (fun z => br_f (by decide) (hy_applet hn hm er (hy_entry (j := 0) (e := e) hn (by omega) ed ⟨by rw [ei]; exact vp_in_nI (by omega) (by decide), nm_r (by rw [ei, ci]) (hy_drop (j := 1) hn (by omega) ed ?_)⟩)))
  unfold wY_other_222
  exact hy_on hn en (H1 z)
/-! ### the way to the object -/
theorem hy_obN {op jr ji er ei : Nat} {b : Int32} (hn : n < 4) (hd : er + 1 + jr < 7) (ho : (op = 13 ∧ jr = 2 ∧ ji = 1) ∨ (op = 12 ∧ jr = 1 ∧ ji = 0) ∨ (op = 14 ∧ jr = 0 ∧ ji = 0) ∨ (op = 15 ∧ jr = 0 ∧ ji = 0)) (ed : b_depths n = nI (er + 1 + jr)) (hei : ei + 1 + ji = er + 1 + jr) (ev : b_places (8 * n + 2 + er) = -1) (H : wpY_end (fun u => match u with | (g_limit, g_waiting, g_stack, g_locals, g_running, g_steps, g_awaited, g_answer, g_where, g_outcome, g_made, g_good, g_open, b_ops, b_bs, b_sizes, b_exported, b_stamp, b_owner, b_lengths, b_elements, b_lasting, b_shared, b_roots, b_oldStamp, b_oldElements, b_oldShared, b_oldRoots, b_rows, b_nexts, b_depths, b_places, b_kinds, b_met, b_todo, b_heights) => (P (g_limit, g_waiting, g_stack, g_locals, g_running, g_steps, g_awaited, g_answer, g_where, g_outcome, g_made, g_good, g_open, b_ops, b_bs, b_sizes, b_exported, b_stamp, b_owner, b_lengths, b_elements, b_lasting, b_shared, b_roots, b_oldStamp, b_oldElements, b_oldShared, b_oldRoots, b_rows, b_nexts, b_depths, b_places, b_kinds, b_met, b_todo, b_heights))) (nI L, g_waiting, g_stack, g_locals, nI (n + 1), nI s, f_awaited, 0, g_where, g_outcome, g_made, g_good, f_open, b_ops, b_bs, b_sizes, b_exported, b_stamp, b_owner, b_lengths, b_elements, b_lasting, b_shared, b_roots, b_oldStamp, b_oldElements, b_oldShared, b_oldRoots, b_rows, b_nexts, b_depths, b_places, b_kinds, b_met, b_todo, b_heights) 2) : wpY_onObject P (nI L, g_waiting, g_stack, g_locals, nI (n + 1), nI s, f_awaited, 0, g_where, g_outcome, g_made, g_good, f_open, b_ops, b_bs, b_sizes, b_exported, b_stamp, b_owner, b_lengths, b_elements, b_lasting, b_shared, b_roots, b_oldStamp, b_oldElements, b_oldShared, b_oldRoots, b_rows, b_nexts, b_depths, b_places, b_kinds, b_met, b_todo, b_heights) (nI op) b := by
  have k50 : wY_onObject_50 P (nI op) (b_places (8 * n + 2 + er)) (nI ji) (nI L) g_waiting g_stack g_locals (nI (n + 1)) (nI s) f_awaited 0 g_where g_outcome g_made g_good f_open b_ops b_bs b_sizes b_exported b_stamp b_owner b_lengths b_elements b_lasting b_shared b_roots b_oldStamp b_oldElements b_oldShared b_oldRoots b_rows b_nexts b_depths b_places b_kinds b_met b_todo b_heights := by
    unfold wY_onObject_50
    rw [ev]
    exact hy_entry (e := ei) hn (by omega) (by rw [hei]; exact ed) (br_f (by decide) H)
  unfold wpY_onObject
  rcases ho with ⟨rfl, rfl, rfl⟩ | ⟨rfl, rfl, rfl⟩ | ⟨rfl, rfl, rfl⟩ | ⟨rfl, rfl, rfl⟩
  · refine br_f (by decide) (br_t (by decide) ?_)
    unfold wY_onObject_34
    exact hy_entry (e := er) (j := 2) hn (by omega) ed (br_t (by decide) k50)
  · refine br_f (by decide) (br_f (by decide) (br_t (by decide) ?_))
    unfold wY_onObject_34
    exact hy_entry (e := er) (j := 1) hn (by omega) ed (br_f (by decide) k50)
  · refine br_f (by decide) (br_f (by decide) (br_f (by decide) ?_))
    unfold wY_onObject_34
    exact hy_entry (e := er) (j := 0) hn (by omega) ed (br_f (by decide) k50)
  · refine br_f (by decide) (br_f (by decide) (br_f (by decide) ?_))
    unfold wY_onObject_34
    exact hy_entry (e := er) (j := 0) hn (by omega) ed (br_f (by decide) k50)
theorem hy_ob {op jr ji er ei q : Nat} {b : Int32} (hn : n < 4) (hm : m < 6) (hd : er + 1 + jr < 7) (hq : q < 8) (ho : (op = 13 ∧ jr = 2 ∧ ji = 1) ∨ (op = 12 ∧ jr = 1 ∧ ji = 0) ∨ (op = 14 ∧ jr = 0 ∧ ji = 0) ∨ (op = 15 ∧ jr = 0 ∧ ji = 0)) (erw : b_rows n = nI m) (ed : b_depths n = nI (er + 1 + jr)) (hei : ei + 1 + ji = er + 1 + jr) (ev : b_places (8 * n + 2 + er) = nI q)
    (H1 : (b_owner q = nI (m / 2) ∨ (op ≠ 14 ∧ ¬ b_shared q = 0)) → wY_onObject_111 P (nI op) (nI q) (b_places (8 * n + 2 + ei)) (nI L) g_waiting g_stack g_locals (nI (n + 1)) (nI s) f_awaited 0 g_where g_outcome g_made g_good f_open b_ops b_bs b_sizes b_exported b_stamp b_owner b_lengths b_elements b_lasting b_shared b_roots b_oldStamp b_oldElements b_oldShared b_oldRoots b_rows b_nexts b_depths b_places b_kinds b_met b_todo b_heights) (H0 : ¬ (b_owner q = nI (m / 2) ∨ (op ≠ 14 ∧ ¬ b_shared q = 0)) → wpY_end (fun u => match u with | (g_limit, g_waiting, g_stack, g_locals, g_running, g_steps, g_awaited, g_answer, g_where, g_outcome, g_made, g_good, g_open, b_ops, b_bs, b_sizes, b_exported, b_stamp, b_owner, b_lengths, b_elements, b_lasting, b_shared, b_roots, b_oldStamp, b_oldElements, b_oldShared, b_oldRoots, b_rows, b_nexts, b_depths, b_places, b_kinds, b_met, b_todo, b_heights) => (P (g_limit, g_waiting, g_stack, g_locals, g_running, g_steps, g_awaited, g_answer, g_where, g_outcome, g_made, g_good, g_open, b_ops, b_bs, b_sizes, b_exported, b_stamp, b_owner, b_lengths, b_elements, b_lasting, b_shared, b_roots, b_oldStamp, b_oldElements, b_oldShared, b_oldRoots, b_rows, b_nexts, b_depths, b_places, b_kinds, b_met, b_todo, b_heights))) (nI L, g_waiting, g_stack, g_locals, nI (n + 1), nI s, f_awaited, 0, g_where, g_outcome, g_made, g_good, f_open, b_ops, b_bs, b_sizes, b_exported, b_stamp, b_owner, b_lengths, b_elements, b_lasting, b_shared, b_roots, b_oldStamp, b_oldElements, b_oldShared, b_oldRoots, b_rows, b_nexts, b_depths, b_places, b_kinds, b_met, b_todo, b_heights) 3) : wpY_onObject P (nI L, g_waiting, g_stack, g_locals, nI (n + 1), nI s, f_awaited, 0, g_where, g_outcome, g_made, g_good, f_open, b_ops, b_bs, b_sizes, b_exported, b_stamp, b_owner, b_lengths, b_elements, b_lasting, b_shared, b_roots, b_oldStamp, b_oldElements, b_oldShared, b_oldRoots, b_rows, b_nexts, b_depths, b_places, b_kinds, b_met, b_todo, b_heights) (nI op) b := by
  have cq : (nI q).toNatClampNeg = q := nI_clamp (by omega)
  have vq : vp_in (nI q) 8 := vp_in_nI hq (by decide)
  have k105 : ¬ (b_owner q = nI (m / 2) ∨ (op ≠ 14 ∧ ¬ b_shared q = 0)) → wY_onObject_105 P (nI L) g_waiting g_stack g_locals (nI (n + 1)) (nI s) f_awaited 0 g_where g_outcome g_made g_good f_open b_ops b_bs b_sizes b_exported b_stamp b_owner b_lengths b_elements b_lasting b_shared b_roots b_oldStamp b_oldElements b_oldShared b_oldRoots b_rows b_nexts b_depths b_places b_kinds b_met b_todo b_heights := fun z => by
    unfold wY_onObject_105
    exact H0 z
  have k50 : wY_onObject_50 P (nI op) (b_places (8 * n + 2 + er)) (nI ji) (nI L) g_waiting g_stack g_locals (nI (n + 1)) (nI s) f_awaited 0 g_where g_outcome g_made g_good f_open b_ops b_bs b_sizes b_exported b_stamp b_owner b_lengths b_elements b_lasting b_shared b_roots b_oldStamp b_oldElements b_oldShared b_oldRoots b_rows b_nexts b_depths b_places b_kinds b_met b_todo b_heights := by
    unfold wY_onObject_50
    rw [ev]
    refine hy_entry (e := ei) hn (by omega) (by rw [hei]; exact ed) (br_t (nI_pos' (by omega)) ⟨vq, hy_applet hn hm erw ?_⟩)
    rw [cq]
    unfold wY_onObject_83
    refine br_c (fun z => br_t rfl (H1 (Or.inl z))) (fun z => br_f (by decide) (pk_eq op 14 (fun e14 => k105 (fun w => w.elim z (fun w => w.1 e14))) (fun e14 => ⟨vq, ?_⟩) rfl rfl (by omega) (by decide)))
    rw [cq]
    exact br_c (fun w => k105 (fun y => y.elim z (fun y => y.2 w))) (fun w => H1 (Or.inr ⟨e14, w⟩))
  unfold wpY_onObject
  rcases ho with ⟨rfl, rfl, rfl⟩ | ⟨rfl, rfl, rfl⟩ | ⟨rfl, rfl, rfl⟩ | ⟨rfl, rfl, rfl⟩
  · refine br_f (by decide) (br_t (by decide) ?_)
    unfold wY_onObject_34
    exact hy_entry (e := er) (j := 2) hn (by omega) ed (br_t (by decide) k50)
  · refine br_f (by decide) (br_f (by decide) (br_t (by decide) ?_))
    unfold wY_onObject_34
    exact hy_entry (e := er) (j := 1) hn (by omega) ed (br_f (by decide) k50)
  · refine br_f (by decide) (br_f (by decide) (br_f (by decide) ?_))
    unfold wY_onObject_34
    exact hy_entry (e := er) (j := 0) hn (by omega) ed (br_f (by decide) k50)
  · refine br_f (by decide) (br_f (by decide) (br_f (by decide) ?_))
    unfold wY_onObject_34
    exact hy_entry (e := er) (j := 0) hn (by omega) ed (br_f (by decide) k50)
/-! ### behind it -/
theorem hy_11115 {q : Nat} {x4 : Int32} (hn : n < 4) (he : e < 4) (hq : q < 8) (ed : b_depths n = nI (e + 1)) (en : b_nexts n = nI p) (H : P (nI L, g_waiting, g_stack, g_locals, nI (n + 1), nI s, f_awaited, 0, g_where, g_outcome, g_made, g_good, f_open, b_ops, b_bs, b_sizes, b_exported, b_stamp, b_owner, b_lengths, b_elements, b_lasting, b_shared, b_roots, b_oldStamp, b_oldElements, b_oldShared, b_oldRoots, b_rows, upd b_nexts n (nI (p + 1)), upd (upd b_depths n (nI e)) n (nI (e + 1)), upd b_places (8 * n + 2 + e) (b_lengths q), upd b_kinds (8 * n + 2 + e) (nI 1), b_met, b_todo, b_heights)) : wY_onObject_111 P (nI 15) (nI q) x4 (nI L) g_waiting g_stack g_locals (nI (n + 1)) (nI s) f_awaited 0 g_where g_outcome g_made g_good f_open b_ops b_bs b_sizes b_exported b_stamp b_owner b_lengths b_elements b_lasting b_shared b_roots b_oldStamp b_oldElements b_oldShared b_oldRoots b_rows b_nexts b_depths b_places b_kinds b_met b_todo b_heights := by
  have cq : (nI q).toNatClampNeg = q := nI_clamp (by omega)
  unfold wY_onObject_111 wY_onObject_145 wY_onObject_170 wY_onObject_171 wY_onObject_186 wY_onObject_215 wY_onObject_240 wY_onObject_260 wY_onObject_273 wY_onObject_290
  refine br_f (by decide) (br_f (by decide) (br_f (by decide) (br_f (by decide) (br_t rfl (hy_entry (j := 0) (e := e) hn (by omega) ed (br_f (by decide) (br_f (by decide) (hy_drop (j := 1) hn (by omega) ed (br_f (by decide) (br_f (by decide) (br_f (by decide) (br_t rfl ⟨vp_in_nI hq (by decide), ?_⟩))))))))))))
  rw [cq]
  exact hy_push (k := 1) hn (by omega) (by decide) pk_us (hy_on hn en H)
theorem hy_11114 {q : Nat} {x4 : Int32} (hn : n < 4) (he : e < 4) (hq : q < 8) (ed : b_depths n = nI (e + 1)) (en : b_nexts n = nI p) (H0 : f_awaited = 0 → wpY_end (fun u => match u with | (g_limit, g_waiting, g_stack, g_locals, g_running, g_steps, g_awaited, g_answer, g_where, g_outcome, g_made, g_good, g_open, b_ops, b_bs, b_sizes, b_exported, b_stamp, b_owner, b_lengths, b_elements, b_lasting, b_shared, b_roots, b_oldStamp, b_oldElements, b_oldShared, b_oldRoots, b_rows, b_nexts, b_depths, b_places, b_kinds, b_met, b_todo, b_heights) => (((0 : Int32) = 0 → P (g_limit, g_waiting, g_stack, g_locals, g_running, g_steps, g_awaited, g_answer, g_where, g_outcome, g_made, g_good, g_open, b_ops, b_bs, b_sizes, b_exported, b_stamp, b_owner, b_lengths, b_elements, b_lasting, b_shared, b_roots, b_oldStamp, b_oldElements, b_oldShared, b_oldRoots, b_rows, b_nexts, b_depths, b_places, b_kinds, b_met, b_todo, b_heights)) ∧ (¬ (0 : Int32) = 0 → wY_onObject_186 P (nI 14) (nI q) x4 g_limit g_waiting g_stack g_locals g_running g_steps g_awaited g_answer g_where g_outcome g_made g_good g_open b_ops b_bs b_sizes b_exported b_stamp b_owner b_lengths b_elements b_lasting b_shared b_roots b_oldStamp b_oldElements b_oldShared b_oldRoots b_rows b_nexts b_depths b_places b_kinds b_met b_todo b_heights))) (nI L, g_waiting, g_stack, g_locals, nI (n + 1), nI s, f_awaited, 0, g_where, g_outcome, g_made, g_good, f_open, b_ops, b_bs, b_sizes, b_exported, b_stamp, b_owner, b_lengths, b_elements, b_lasting, b_shared, b_roots, b_oldStamp, b_oldElements, b_oldShared, b_oldRoots, b_rows, b_nexts, b_depths, b_places, b_kinds, b_met, b_todo, b_heights) 9) (H1 : ¬ f_awaited = 0 → P (nI L, g_waiting, g_stack, g_locals, nI (n + 1), nI s, hw_aw f_awaited, 0, g_where, g_outcome, g_made, g_good, f_open, b_ops, b_bs, b_sizes, b_exported, b_stamp, b_owner, b_lengths, b_elements, b_lasting, upd b_shared q 1, b_roots, b_oldStamp, b_oldElements, b_oldShared, b_oldRoots, b_rows, upd b_nexts n (nI (p + 1)), upd b_depths n (nI e), b_places, b_kinds, b_met, b_todo, b_heights)) : wY_onObject_111 P (nI 14) (nI q) x4 (nI L) g_waiting g_stack g_locals (nI (n + 1)) (nI s) f_awaited 0 g_where g_outcome g_made g_good f_open b_ops b_bs b_sizes b_exported b_stamp b_owner b_lengths b_elements b_lasting b_shared b_roots b_oldStamp b_oldElements b_oldShared b_oldRoots b_rows b_nexts b_depths b_places b_kinds b_met b_todo b_heights := by
  have cq : (nI q).toNatClampNeg = q := nI_clamp (by omega)
  unfold wY_onObject_111 wY_onObject_145 wY_onObject_166 wY_onObject_171
  refine br_f (by decide) (br_f (by decide) (br_t (by decide) (br_f (by decide) (hy_write H0 (fun z => br_f (by decide) ?_)))))
  unfold wY_onObject_186 wY_onObject_215 wY_onObject_240 wY_onObject_260 wY_onObject_273 wY_onObject_290
  refine hy_entry (j := 0) (e := e) hn (by omega) ed (br_f (by decide) (br_f (by decide) (hy_drop (j := 1) hn (by omega) ed (br_f (by decide) (br_f (by decide) (br_t rfl ⟨vp_in_nI hq (by decide), nm_r (e' := upd b_shared q 1) (by rw [cq]; rfl) (br_f (by decide) (hy_on hn en (H1 z)))⟩))))))
/-- the bounds -/
theorem hy_123 {q z : Nat} {op : Nat} {x : Int32} (hq : q < 8) (ez : b_lengths q = nI z) (hz : z ≤ 4) (ho : op = 12 ∨ op = 13) (HB : ¬ (∃ i, i < z ∧ x = nI i) → wpY_end (fun u => match u with | (g_limit, g_waiting, g_stack, g_locals, g_running, g_steps, g_awaited, g_answer, g_where, g_outcome, g_made, g_good, g_open, b_ops, b_bs, b_sizes, b_exported, b_stamp, b_owner, b_lengths, b_elements, b_lasting, b_shared, b_roots, b_oldStamp, b_oldElements, b_oldShared, b_oldRoots, b_rows, b_nexts, b_depths, b_places, b_kinds, b_met, b_todo, b_heights) => (P (g_limit, g_waiting, g_stack, g_locals, g_running, g_steps, g_awaited, g_answer, g_where, g_outcome, g_made, g_good, g_open, b_ops, b_bs, b_sizes, b_exported, b_stamp, b_owner, b_lengths, b_elements, b_lasting, b_shared, b_roots, b_oldStamp, b_oldElements, b_oldShared, b_oldRoots, b_rows, b_nexts, b_depths, b_places, b_kinds, b_met, b_todo, b_heights))) (nI L, g_waiting, g_stack, g_locals, nI (n + 1), nI s, f_awaited, 0, g_where, g_outcome, g_made, g_good, f_open, b_ops, b_bs, b_sizes, b_exported, b_stamp, b_owner, b_lengths, b_elements, b_lasting, b_shared, b_roots, b_oldStamp, b_oldElements, b_oldShared, b_oldRoots, b_rows, b_nexts, b_depths, b_places, b_kinds, b_met, b_todo, b_heights) 4) (HG : ∀ i, i < z → x = nI i → wY_onObject_145 P (nI op) (nI q) (nI i) (nI L) g_waiting g_stack g_locals (nI (n + 1)) (nI s) f_awaited 0 g_where g_outcome g_made g_good f_open b_ops b_bs b_sizes b_exported b_stamp b_owner b_lengths b_elements b_lasting b_shared b_roots b_oldStamp b_oldElements b_oldShared b_oldRoots b_rows b_nexts b_depths b_places b_kinds b_met b_todo b_heights) : wY_onObject_111 P (nI op) (nI q) x (nI L) g_waiting g_stack g_locals (nI (n + 1)) (nI s) f_awaited 0 g_where g_outcome g_made g_good f_open b_ops b_bs b_sizes b_exported b_stamp b_owner b_lengths b_elements b_lasting b_shared b_roots b_oldStamp b_oldElements b_oldShared b_oldRoots b_rows b_nexts b_depths b_places b_kinds b_met b_todo b_heights := by
  have cq : (nI q).toNatClampNeg = q := nI_clamp (by omega)
  have vq : vp_in (nI q) 8 := vp_in_nI hq (by decide)
  have k123 : wY_onObject_123 P (nI op) (nI q) x (nI L) g_waiting g_stack g_locals (nI (n + 1)) (nI s) f_awaited 0 g_where g_outcome g_made g_good f_open b_ops b_bs b_sizes b_exported b_stamp b_owner b_lengths b_elements b_lasting b_shared b_roots b_oldStamp b_oldElements b_oldShared b_oldRoots b_rows b_nexts b_depths b_places b_kinds b_met b_todo b_heights := by
    unfold wY_onObject_123 wY_onObject_139
    rw [cq, ez]
    rcases pk_ix x (n := z) (by omega) with w | w | ⟨i, hi, rfl⟩
    · exact br_t w (HB (fun ⟨i, hi, e⟩ => by rw [e] at w; exact nI_pos (by omega) w))
    · have hB : ¬ ∃ i, i < z ∧ x = nI i := fun ⟨i, hi, e⟩ => by rw [e] at w; exact nI_ge hi (by omega) w
      exact br_c (fun _ => HB hB) (fun _ => ⟨vq, br_f (fun w' => absurd w (Int32.not_le.mpr w')) (HB hB)⟩)
    · exact br_f (nI_pos (by omega)) ⟨vq, br_t (nI_lt hi (by omega)) (HG i hi rfl)⟩
  unfold wY_onObject_111
  rcases ho with rfl | rfl
  · exact br_t rfl k123
  · exact br_f (by decide) (br_t rfl k123)
theorem hy_14512 {q i : Nat} (hn : n < 4) (he : e < 3) (hq : q < 8) (hi : i < 4) (ed : b_depths n = nI (e + 2)) (en : b_nexts n = nI p) (H : P (nI L, g_waiting, g_stack, g_locals, nI (n + 1), nI s, f_awaited, 0, g_where, g_outcome, g_made, g_good, f_open, b_ops, b_bs, b_sizes, b_exported, b_stamp, b_owner, b_lengths, b_elements, b_lasting, b_shared, b_roots, b_oldStamp, b_oldElements, b_oldShared, b_oldRoots, b_rows, upd b_nexts n (nI (p + 1)), upd (upd b_depths n (nI e)) n (nI (e + 1)), upd b_places (8 * n + 2 + e) (b_elements (4 * q + i)), upd b_kinds (8 * n + 2 + e) (nI 1), b_met, b_todo, b_heights)) : wY_onObject_145 P (nI 12) (nI q) (nI i) (nI L) g_waiting g_stack g_locals (nI (n + 1)) (nI s) f_awaited 0 g_where g_outcome g_made g_good f_open b_ops b_bs b_sizes b_exported b_stamp b_owner b_lengths b_elements b_lasting b_shared b_roots b_oldStamp b_oldElements b_oldShared b_oldRoots b_rows b_nexts b_depths b_places b_kinds b_met b_todo b_heights := by
  have e4 : 4 * nI q + nI i = nI (4 * q + i) := by rw [show 4 * nI q = nI (4 * q) from pk_mul 4 q, nI_add]
  have c4 : (nI (4 * q + i)).toNatClampNeg = 4 * q + i := nI_clamp (by omega)
  unfold wY_onObject_145 wY_onObject_170 wY_onObject_171 wY_onObject_186 wY_onObject_215 wY_onObject_240 wY_onObject_260 wY_onObject_273 wY_onObject_290
  refine br_f (by decide) (br_f (by decide) (br_t rfl (hy_entry (j := 0) (e := e + 1) hn (by omega) ed (br_f (by decide) (br_t rfl (hy_drop (j := 2) hn (by omega) ed (br_t rfl ?_)))))))
  rw [e4, c4]
  exact ⟨vp_in_nI (by omega) (by decide), hy_push (k := 1) hn (by omega) (by decide) pk_us (br_f (by decide) (br_f (by decide) (br_f (by decide) (hy_on hn en H))))⟩
theorem hy_18613 {q i : Nat} (hn : n < 4) (he : e < 2) (hq : q < 8) (hi : i < 4) (hv : ca_sh (b_places (8 * n + 2 + (e + 2)))) (ed : b_depths n = nI (e + 3)) (en : b_nexts n = nI p) (H : P (nI L, g_waiting, g_stack, g_locals, nI (n + 1), nI s, f_awaited, 0, g_where, g_outcome, g_made, g_good, f_open, b_ops, b_bs, b_sizes, b_exported, b_stamp, b_owner, b_lengths, upd b_elements (4 * q + i) (b_places (8 * n + 2 + (e + 2))), b_lasting, b_shared, b_roots, b_oldStamp, b_oldElements, b_oldShared, b_oldRoots, b_rows, upd b_nexts n (nI (p + 1)), upd b_depths n (nI e), b_places, b_kinds, b_met, b_todo, b_heights)) : wY_onObject_186 P (nI 13) (nI q) (nI i) (nI L) g_waiting g_stack g_locals (nI (n + 1)) (nI s) f_awaited 0 g_where g_outcome g_made g_good f_open b_ops b_bs b_sizes b_exported b_stamp b_owner b_lengths b_elements b_lasting b_shared b_roots b_oldStamp b_oldElements b_oldShared b_oldRoots b_rows b_nexts b_depths b_places b_kinds b_met b_todo b_heights := by
  have e4 : 4 * nI q + nI i = nI (4 * q + i) := by rw [show 4 * nI q = nI (4 * q) from pk_mul 4 q, nI_add]
  have c4 : (nI (4 * q + i)).toNatClampNeg = 4 * q + i := nI_clamp (by omega)
  unfold wY_onObject_186 wY_onObject_215 wY_onObject_240 wY_onObject_260 wY_onObject_273 wY_onObject_290
  refine hy_entry (j := 0) (e := e + 2) hn (by omega) ed (br_t rfl (hy_drop (j := 3) hn (by omega) ed (br_f (by decide) (br_t rfl ?_))))
  rw [e4, c4, show (b_places (8 * n + 2 + (e + 2))).toInt16.toInt32 = b_places (8 * n + 2 + (e + 2)) from hv, ca_ns hv]
  exact ⟨vp_in_nI (by omega) (by decide), nm_e (br_f (by decide) (br_f (by decide) (hy_on hn en H)))⟩
theorem hy_14513 {q i : Nat} (hq : q < 8) (HN : b_lasting q = 0 → wY_onObject_186 P (nI 13) (nI q) (nI i) (nI L) g_waiting g_stack g_locals (nI (n + 1)) (nI s) f_awaited 0 g_where g_outcome g_made g_good f_open b_ops b_bs b_sizes b_exported b_stamp b_owner b_lengths b_elements b_lasting b_shared b_roots b_oldStamp b_oldElements b_oldShared b_oldRoots b_rows b_nexts b_depths b_places b_kinds b_met b_todo b_heights) (H0 : ¬ b_lasting q = 0 → f_awaited = 0 → wpY_end (fun u => match u with | (g_limit, g_waiting, g_stack, g_locals, g_running, g_steps, g_awaited, g_answer, g_where, g_outcome, g_made, g_good, g_open, b_ops, b_bs, b_sizes, b_exported, b_stamp, b_owner, b_lengths, b_elements, b_lasting, b_shared, b_roots, b_oldStamp, b_oldElements, b_oldShared, b_oldRoots, b_rows, b_nexts, b_depths, b_places, b_kinds, b_met, b_todo, b_heights) => (((0 : Int32) = 0 → P (g_limit, g_waiting, g_stack, g_locals, g_running, g_steps, g_awaited, g_answer, g_where, g_outcome, g_made, g_good, g_open, b_ops, b_bs, b_sizes, b_exported, b_stamp, b_owner, b_lengths, b_elements, b_lasting, b_shared, b_roots, b_oldStamp, b_oldElements, b_oldShared, b_oldRoots, b_rows, b_nexts, b_depths, b_places, b_kinds, b_met, b_todo, b_heights)) ∧ (¬ (0 : Int32) = 0 → wY_onObject_186 P (nI 13) (nI q) (nI i) g_limit g_waiting g_stack g_locals g_running g_steps g_awaited g_answer g_where g_outcome g_made g_good g_open b_ops b_bs b_sizes b_exported b_stamp b_owner b_lengths b_elements b_lasting b_shared b_roots b_oldStamp b_oldElements b_oldShared b_oldRoots b_rows b_nexts b_depths b_places b_kinds b_met b_todo b_heights))) (nI L, g_waiting, g_stack, g_locals, nI (n + 1), nI s, f_awaited, 0, g_where, g_outcome, g_made, g_good, f_open, b_ops, b_bs, b_sizes, b_exported, b_stamp, b_owner, b_lengths, b_elements, b_lasting, b_shared, b_roots, b_oldStamp, b_oldElements, b_oldShared, b_oldRoots, b_rows, b_nexts, b_depths, b_places, b_kinds, b_met, b_todo, b_heights) 9) (H1 : ¬ b_lasting q = 0 → ¬ f_awaited = 0 → wY_onObject_186 P (nI 13) (nI q) (nI i) (nI L) g_waiting g_stack g_locals (nI (n + 1)) (nI s) (hw_aw f_awaited) 0 g_where g_outcome g_made g_good f_open b_ops b_bs b_sizes b_exported b_stamp b_owner b_lengths b_elements b_lasting b_shared b_roots b_oldStamp b_oldElements b_oldShared b_oldRoots b_rows b_nexts b_depths b_places b_kinds b_met b_todo b_heights) : wY_onObject_145 P (nI 13) (nI q) (nI i) (nI L) g_waiting g_stack g_locals (nI (n + 1)) (nI s) f_awaited 0 g_where g_outcome g_made g_good f_open b_ops b_bs b_sizes b_exported b_stamp b_owner b_lengths b_elements b_lasting b_shared b_roots b_oldStamp b_oldElements b_oldShared b_oldRoots b_rows b_nexts b_depths b_places b_kinds b_met b_todo b_heights := by
  have cq : (nI q).toNatClampNeg = q := nI_clamp (by omega)
  unfold wY_onObject_145 wY_onObject_170 wY_onObject_166 wY_onObject_171
  refine br_f (by decide) (br_t rfl ⟨vp_in_nI hq (by decide), ?_⟩)
  rw [cq]
  exact br_c (fun z => br_t rfl (HN z)) (fun z => br_f (by decide) (hy_write (H0 z) (fun w => br_f (by decide) (H1 z w))))
end
end
section
/-! ===== lockstep: objects ===== -/
section
variable {f_limit f_pending f_wide f_waiting f_height f_entries f_locals f_logLength f_open f_awaited f_frames f_sp f_base f_pc f_method f_steps f_status f_lastResult f_lastPlace : Int32} {a_ops a_args a_quick a_length a_exported a_known a_alive a_fresh a_lasting a_shared a_owner a_size a_element a_roots a_logCell a_logOld a_logged a_slot a_frameMethod a_framePc : Nat → Int32} {g_limit g_waiting g_stack g_locals g_running g_steps g_awaited g_answer g_where g_outcome : Int32} {g_made : Int64} {g_good g_open : Int32} {b_ops b_bs b_sizes b_exported : Nat → Int32} {b_stamp : Nat → Int64} {b_owner b_lengths b_elements b_lasting b_shared b_roots : Nat → Int32} {b_oldStamp : Nat → Int64} {b_oldElements b_oldShared b_oldRoots b_rows b_nexts b_depths b_places b_kinds b_met b_todo b_heights : Nat → Int32}
variable {k L s n m p d l : Nat} {kl E π ρ opf bf : Nat → Nat} {H : Nat → Prop}
theorem hl_G {st : Int32} {x s' B : Nat} (hst : ¬ st = 0) (hO : hm_O π ρ H B f_open f_logLength a_alive a_fresh a_lasting a_shared a_owner a_size a_element a_roots a_logCell a_logOld a_logged g_made b_stamp b_owner b_lengths b_elements b_lasting b_shared b_roots b_oldStamp b_oldElements b_oldShared b_oldRoots) (hB : B ≤ 250 * (k + 4)) (hC : hc_CD a_ops a_args a_quick a_length a_exported b_ops b_bs b_sizes b_exported) (hPd : hc_PD f_pending f_wide a_ops a_args b_bs b_sizes) (hL : 20 ≤ L) (hL' : L ≤ 250) (hm : m < 6) (hp : p < 16) (hn : n < 4) (er : b_rows n = nI m) (en : b_nexts n = nI p) (hx : x < 300)
    (hY : ∀ (aw wh : Int32) (bel bsh bro : Nat → Int32), (∀ Q : SY → Prop, Q (nI L, g_waiting, g_stack, g_locals, 0, nI s', aw, 0, wh, st, g_made, g_good, 0, b_ops, b_bs, b_sizes, b_exported, b_stamp, b_owner, b_lengths, bel, b_lasting, bsh, bro, b_oldStamp, b_oldElements, b_oldShared, b_oldRoots, b_rows, b_nexts, b_depths, b_places, b_kinds, b_met, b_todo, b_heights) → wpY_end Q (nI L, g_waiting, g_stack, g_locals, nI (n + 1), nI s', f_awaited, 0, g_where, g_outcome, g_made, g_good, f_open, b_ops, b_bs, b_sizes, b_exported, b_stamp, b_owner, b_lengths, b_elements, b_lasting, b_shared, b_roots, b_oldStamp, b_oldElements, b_oldShared, b_oldRoots, b_rows, b_nexts, b_depths, b_places, b_kinds, b_met, b_todo, b_heights) st) → ∀ post : SY → Prop, post (nI L, g_waiting, g_stack, g_locals, 0, nI s', aw, 0, wh, st, g_made, g_good, 0, b_ops, b_bs, b_sizes, b_exported, b_stamp, b_owner, b_lengths, bel, b_lasting, bsh, bro, b_oldStamp, b_oldElements, b_oldShared, b_oldRoots, b_rows, b_nexts, b_depths, b_places, b_kinds, b_met, b_todo, b_heights) → wpY_step post (nI L, g_waiting, g_stack, g_locals, nI (n + 1), nI s, f_awaited, 0, g_where, g_outcome, g_made, g_good, f_open, b_ops, b_bs, b_sizes, b_exported, b_stamp, b_owner, b_lengths, b_elements, b_lasting, b_shared, b_roots, b_oldStamp, b_oldElements, b_oldShared, b_oldRoots, b_rows, b_nexts, b_depths, b_places, b_kinds, b_met, b_todo, b_heights)) : hl_LS k (nI L, f_pending, f_wide, f_waiting, f_height, f_entries, f_locals, f_logLength, f_open, f_awaited, f_frames, f_sp, f_base, nI p, nI m, f_steps, st, 0, -1, a_ops, a_args, a_quick, a_length, a_exported, a_known, a_alive, a_fresh, a_lasting, a_shared, a_owner, a_size, a_element, a_roots, a_logCell, a_logOld, a_logged, a_slot, a_frameMethod, a_framePc) x (nI L, g_waiting, g_stack, g_locals, nI (n + 1), nI s, f_awaited, 0, g_where, g_outcome, g_made, g_good, f_open, b_ops, b_bs, b_sizes, b_exported, b_stamp, b_owner, b_lengths, b_elements, b_lasting, b_shared, b_roots, b_oldStamp, b_oldElements, b_oldShared, b_oldRoots, b_rows, b_nexts, b_depths, b_places, b_kinds, b_met, b_todo, b_heights) := by
  obtain ⟨u', aw, bel, bsh, bro, hR, hX, hE⟩ := hm_end (g_steps := nI s') (g_waiting := g_waiting) (g_stack := g_stack) (g_locals := g_locals) (g_where := g_where) (g_outcome := g_outcome) (g_good := g_good) (b_depths := b_depths) (b_places := b_places) (b_kinds := b_kinds) (b_met := b_met) (b_todo := b_todo) (b_heights := b_heights) (f_waiting := f_waiting) (f_height := f_height) (f_entries := f_entries) (f_locals := f_locals) (f_awaited := f_awaited) (f_frames := f_frames) (f_sp := f_sp) (f_base := f_base) (f_steps := f_steps) (a_known := a_known) (a_slot := a_slot) (a_frameMethod := a_frameMethod) (a_framePc := a_framePc) (st := st) hst hO hB hC hPd hL hL' hm hp hn er en
  exact hl_Ys hn hx (fun post hp => hY aw (nI (16 * m + p)) bel bsh bro hE post hp) (hl_base (Or.inl hst) hX hR)
/-- a failure that has changed nothing -/
theorem hl_fail {st : Int32} (hst : ¬ st = 0) (h : (hm_Q k L s n m p d kl E π ρ H f_pending f_wide f_logLength f_open a_ops a_args a_quick a_length a_exported a_alive a_fresh a_lasting a_shared a_owner a_size a_element a_roots a_logCell a_logOld a_logged a_slot a_frameMethod a_framePc g_made b_ops b_bs b_sizes b_exported b_stamp b_owner b_lengths b_elements b_lasting b_shared b_roots b_oldStamp b_oldElements b_oldShared b_oldRoots b_rows b_nexts b_depths b_places b_kinds)) (hsL : s < L) (hX : ∀ post : SX → Prop, post (nI L, f_pending, f_wide, f_waiting, f_height, f_entries, f_locals, f_logLength, f_open, f_awaited, nI (n + 1), nI (6 * n + 2 + d), nI (6 * n), nI p, nI m, nI (s + 1), st, 0, -1, a_ops, a_args, a_quick, a_length, a_exported, a_known, a_alive, a_fresh, a_lasting, a_shared, a_owner, a_size, a_element, a_roots, a_logCell, a_logOld, a_logged, a_slot, a_frameMethod, a_framePc) → wpX_step post (nI L, f_pending, f_wide, f_waiting, f_height, f_entries, f_locals, f_logLength, f_open, f_awaited, nI (n + 1), nI (6 * n + 2 + d), nI (6 * n), nI p, nI m, nI s, 0, 0, -1, a_ops, a_args, a_quick, a_length, a_exported, a_known, a_alive, a_fresh, a_lasting, a_shared, a_owner, a_size, a_element, a_roots, a_logCell, a_logOld, a_logged, a_slot, a_frameMethod, a_framePc))
    (hY : ∀ (aw wh : Int32) (bel bsh bro : Nat → Int32), (∀ Q : SY → Prop, Q (nI L, g_waiting, g_stack, g_locals, 0, nI (s + 1), aw, 0, wh, st, g_made, g_good, 0, b_ops, b_bs, b_sizes, b_exported, b_stamp, b_owner, b_lengths, bel, b_lasting, bsh, bro, b_oldStamp, b_oldElements, b_oldShared, b_oldRoots, b_rows, b_nexts, b_depths, b_places, b_kinds, b_met, b_todo, b_heights) → wpY_end Q (nI L, g_waiting, g_stack, g_locals, nI (n + 1), nI (s + 1), f_awaited, 0, g_where, g_outcome, g_made, g_good, f_open, b_ops, b_bs, b_sizes, b_exported, b_stamp, b_owner, b_lengths, b_elements, b_lasting, b_shared, b_roots, b_oldStamp, b_oldElements, b_oldShared, b_oldRoots, b_rows, b_nexts, b_depths, b_places, b_kinds, b_met, b_todo, b_heights) st) → ∀ post : SY → Prop, post (nI L, g_waiting, g_stack, g_locals, 0, nI (s + 1), aw, 0, wh, st, g_made, g_good, 0, b_ops, b_bs, b_sizes, b_exported, b_stamp, b_owner, b_lengths, bel, b_lasting, bsh, bro, b_oldStamp, b_oldElements, b_oldShared, b_oldRoots, b_rows, b_nexts, b_depths, b_places, b_kinds, b_met, b_todo, b_heights) → wpY_step post (nI L, g_waiting, g_stack, g_locals, nI (n + 1), nI s, f_awaited, 0, g_where, g_outcome, g_made, g_good, f_open, b_ops, b_bs, b_sizes, b_exported, b_stamp, b_owner, b_lengths, b_elements, b_lasting, b_shared, b_roots, b_oldStamp, b_oldElements, b_oldShared, b_oldRoots, b_rows, b_nexts, b_depths, b_places, b_kinds, b_met, b_todo, b_heights)) : hl_LS k (nI L, f_pending, f_wide, f_waiting, f_height, f_entries, f_locals, f_logLength, f_open, f_awaited, nI (n + 1), nI (6 * n + 2 + d), nI (6 * n), nI p, nI m, nI s, 0, 0, -1, a_ops, a_args, a_quick, a_length, a_exported, a_known, a_alive, a_fresh, a_lasting, a_shared, a_owner, a_size, a_element, a_roots, a_logCell, a_logOld, a_logged, a_slot, a_frameMethod, a_framePc) s (nI L, g_waiting, g_stack, g_locals, nI (n + 1), nI s, f_awaited, 0, g_where, g_outcome, g_made, g_good, f_open, b_ops, b_bs, b_sizes, b_exported, b_stamp, b_owner, b_lengths, b_elements, b_lasting, b_shared, b_roots, b_oldStamp, b_oldElements, b_oldShared, b_oldRoots, b_rows, b_nexts, b_depths, b_places, b_kinds, b_met, b_todo, b_heights) := by
  obtain ⟨⟨hn, _, hL1, hL2⟩, hCD, hPD, hU, ⟨hm, em, er, en, ed, hS, hCt⟩, hO⟩ := h
  obtain ⟨hp16, hd4, hE⟩ := hf_w hCt
  exact hl_Xs hn hX (hl_G hst hO (by omega) hCD hPD hL1 hL2 hm hp16 hn er en (by omega) hY)
/-- on, with changed objects -/
theorem hm_goO {p' d' s' : Nat} {kl' E' : Nat → Nat} {slot' places' kinds' depths' nexts' : Nat → Int32} {lg1 : Int32} {fr1 sh1 el1 ro1 lc1 lo1 ld1 bel1 bsh1 bro1 : Nat → Int32} (h : (hm_Q k L s n m p d kl E π ρ H f_pending f_wide f_logLength f_open a_ops a_args a_quick a_length a_exported a_alive a_fresh a_lasting a_shared a_owner a_size a_element a_roots a_logCell a_logOld a_logged a_slot a_frameMethod a_framePc g_made b_ops b_bs b_sizes b_exported b_stamp b_owner b_lengths b_elements b_lasting b_shared b_roots b_oldStamp b_oldElements b_oldShared b_oldRoots b_rows b_nexts b_depths b_places b_kinds)) (hs : s ≤ s') (hs' : s' ≤ L)
    (h1 : ∀ i, i < 6 * n → slot' i = a_slot i) (h2 : ∀ i, i < 8 * n → places' i = b_places i) (h3 : ∀ i, i < 8 * n → kinds' i = b_kinds i) (h4 : ∀ f, f < n → nexts' f = b_nexts f ∧ depths' f = b_depths f) (en : nexts' n = nI p') (ed : depths' n = nI d') (hS : hf_S π H n d' kl' E' slot' places' kinds') (hC : hf_C a_ops a_args a_quick b_bs m p' (hf_A kl' E' d'))
    (hO' : hm_O π ρ H (250 * k + s) f_open lg1 a_alive fr1 a_lasting sh1 a_owner a_size el1 ro1 lc1 lo1 ld1 g_made b_stamp b_owner b_lengths bel1 b_lasting bsh1 bro1 b_oldStamp b_oldElements b_oldShared b_oldRoots) :
    (hm_Q k L s' n m p' d' kl' E' π ρ H f_pending f_wide lg1 f_open a_ops a_args a_quick a_length a_exported a_alive fr1 a_lasting sh1 a_owner a_size el1 ro1 lc1 lo1 ld1 slot' a_frameMethod a_framePc g_made b_ops b_bs b_sizes b_exported b_stamp b_owner b_lengths bel1 b_lasting bsh1 bro1 b_oldStamp b_oldElements b_oldShared b_oldRoots b_rows nexts' depths' places' kinds') := by
  obtain ⟨⟨hn, _, hL⟩, hCD, hPD, hU, hT, hO⟩ := h
  exact ⟨⟨hn, hs', hL⟩, hCD, hPD, hf_Uc hU h1 h2 h3 (fun f hf => ⟨rfl, rfl, rfl, (h4 f hf).1, (h4 f hf).2⟩), ⟨hT.1, hT.2.1, hT.2.2.1, en, ed, hS, hC⟩, hm_Om (by omega) hO'⟩
theorem hl_15 (h : (hm_Q k L s n m p d kl E π ρ H f_pending f_wide f_logLength f_open a_ops a_args a_quick a_length a_exported a_alive a_fresh a_lasting a_shared a_owner a_size a_element a_roots a_logCell a_logOld a_logged a_slot a_frameMethod a_framePc g_made b_ops b_bs b_sizes b_exported b_stamp b_owner b_lengths b_elements b_lasting b_shared b_roots b_oldStamp b_oldElements b_oldShared b_oldRoots b_rows b_nexts b_depths b_places b_kinds)) (hl : l ≤ 16) (hM : hc_M a_ops a_args a_quick b_bs m l opf bf) (hR : hs_R opf bf p (hf_A kl E d)) (eo : opf p = 15) (eq : a_quick (16 * m + p) = nI 15) (hsL : s < L) (IH : hm_IH k L s) : hl_LS k (nI L, f_pending, f_wide, f_waiting, f_height, f_entries, f_locals, f_logLength, f_open, f_awaited, nI (n + 1), nI (6 * n + 2 + d), nI (6 * n), nI p, nI m, nI s, 0, 0, -1, a_ops, a_args, a_quick, a_length, a_exported, a_known, a_alive, a_fresh, a_lasting, a_shared, a_owner, a_size, a_element, a_roots, a_logCell, a_logOld, a_logged, a_slot, a_frameMethod, a_framePc) s (nI L, g_waiting, g_stack, g_locals, nI (n + 1), nI s, f_awaited, 0, g_where, g_outcome, g_made, g_good, f_open, b_ops, b_bs, b_sizes, b_exported, b_stamp, b_owner, b_lengths, b_elements, b_lasting, b_shared, b_roots, b_oldStamp, b_oldElements, b_oldShared, b_oldRoots, b_rows, b_nexts, b_depths, b_places, b_kinds, b_met, b_todo, b_heights) := by
  obtain ⟨⟨hn, hL2, hm, hp16, hd4⟩, ⟨er, en, ed, hS, hE⟩, ⟨eop, hpl, hfit, hus, ebf⟩, A', eA, _, hN⟩ := hm_at h hl hM hR eo
  have hN' := hN (by decide) (by decide)
  obtain ⟨C1, e1, eA1⟩ := hf_sqi eA
  obtain ⟨C2, e2, eA2⟩ := hf_sqi eA1
  obtain ⟨e, rfl, hw1, rfl⟩ := hf_tk e1
  obtain ⟨_, eC⟩ := hf_ps e2
  rw [hf_sq0 eA2, eC] at hN'
  have k1 := (hS.2 e (by omega)).2
  rw [show E e = 2 by omega] at k1
  have hP := h.2.2.2.2.2.1
  have hO := h.2.2.2.2.2.2.1
  rcases ho_V0 (ho_K2 k1) (fun o ho => ⟨(hO o ho).1, (hP o (hO o ho).1).1⟩) with ⟨ex, ey⟩ | ⟨o, ho, ho8, hq8, ex, ey, _⟩
  · exact hl_fail (st := 2) (by decide) h hsL (fun post hp => hx_i hm hp16 hL2 hsL eq rfl (br_t (by decide) (br_f (by decide) (hx_m15N hn (by omega) ex hp)))) (fun aw wh bel bsh bro hE' post hp => hy_iO hn hm hp16 hL2 hsL er en eop rfl (by decide) (by decide) (hy_obN (jr := 0) (ji := 0) (er := e) (ei := e) hn (by omega) (by decide) ed rfl ey (hE' _ hp)))
  · obtain ⟨_, _, how, ⟨z, hz1, hz4, ez⟩, hsz, _, hsh, _⟩ := hO o ho
    by_cases ac : a_owner o = nI (m / 2) ∨ ((0 : Int32) = 0 ∧ ¬ a_shared o = 0)
    · have acY : b_owner (π o) = nI (m / 2) ∨ (15 ≠ 14 ∧ ¬ b_shared (π o) = 0) := by
        rw [← how, ← hsh]; exact ac.elim Or.inl (fun w => Or.inr ⟨by decide, w.2⟩)
      have hK : ho_K π H 1 (a_size o) (b_lengths (π o)) := by
        rw [← hsz, ez]; exact ho_Kn (ca_shN (by omega))
      exact hl_Xs hn (fun post hp => hx_i hm hp16 hL2 hsL eq rfl (br_t (by decide) (br_f (by decide) (hx_m15 hn (by omega) hm ho8 ex (fun _ => hp) (fun w => absurd ac w))))) (hl_Ys hn (by omega) (fun post hp => hy_iO hn hm hp16 hL2 hsL er en eop rfl (by decide) (by decide) (hy_ob (jr := 0) (ji := 0) (er := e) (ei := e) hn hm (by omega) hq8 (by decide) er ed rfl ey (fun _ => hy_11115 hn (by omega) hq8 ed en hp) (fun w => absurd acY w))) (IH (s + 1) _ _ (by omega) (hm_mk (hm_go h (by omega) hsL (fun i hi => pk_un (by omega)) (fun i hi => pk_un (by omega)) (fun i hi => pk_un (by omega)) (fun f hf => ⟨pk_un (by omega), by rw [pk_un (by omega), pk_un (by omega)]⟩) pk_us pk_us (hf_Sput hS (fun i hi hne => by omega) hK) hN'))))
    · have acY : ¬ (b_owner (π o) = nI (m / 2) ∨ (15 ≠ 14 ∧ ¬ b_shared (π o) = 0)) := by
        rw [← how, ← hsh]; exact fun w => ac (w.elim Or.inl (fun w => Or.inr ⟨rfl, w.2⟩))
      exact hl_fail (st := 3) (by decide) h hsL (fun post hp => hx_i hm hp16 hL2 hsL eq rfl (br_t (by decide) (br_f (by decide) (hx_m15 hn (by omega) hm ho8 ex (fun w => absurd w ac) (fun _ => hp))))) (fun aw wh bel bsh bro hE' post hp => hy_iO hn hm hp16 hL2 hsL er en eop rfl (by decide) (by decide) (hy_ob (jr := 0) (ji := 0) (er := e) (ei := e) hn hm (by omega) hq8 (by decide) er ed rfl ey (fun w => absurd w acY) (fun _ => hE' _ hp)))
theorem hl_14 (h : (hm_Q k L s n m p d kl E π ρ H f_pending f_wide f_logLength f_open a_ops a_args a_quick a_length a_exported a_alive a_fresh a_lasting a_shared a_owner a_size a_element a_roots a_logCell a_logOld a_logged a_slot a_frameMethod a_framePc g_made b_ops b_bs b_sizes b_exported b_stamp b_owner b_lengths b_elements b_lasting b_shared b_roots b_oldStamp b_oldElements b_oldShared b_oldRoots b_rows b_nexts b_depths b_places b_kinds)) (hl : l ≤ 16) (hM : hc_M a_ops a_args a_quick b_bs m l opf bf) (hR : hs_R opf bf p (hf_A kl E d)) (eo : opf p = 14) (eq : a_quick (16 * m + p) = nI 14) (hsL : s < L) (IH : hm_IH k L s) : hl_LS k (nI L, f_pending, f_wide, f_waiting, f_height, f_entries, f_locals, f_logLength, f_open, f_awaited, nI (n + 1), nI (6 * n + 2 + d), nI (6 * n), nI p, nI m, nI s, 0, 0, -1, a_ops, a_args, a_quick, a_length, a_exported, a_known, a_alive, a_fresh, a_lasting, a_shared, a_owner, a_size, a_element, a_roots, a_logCell, a_logOld, a_logged, a_slot, a_frameMethod, a_framePc) s (nI L, g_waiting, g_stack, g_locals, nI (n + 1), nI s, f_awaited, 0, g_where, g_outcome, g_made, g_good, f_open, b_ops, b_bs, b_sizes, b_exported, b_stamp, b_owner, b_lengths, b_elements, b_lasting, b_shared, b_roots, b_oldStamp, b_oldElements, b_oldShared, b_oldRoots, b_rows, b_nexts, b_depths, b_places, b_kinds, b_met, b_todo, b_heights) := by
  obtain ⟨⟨hn, hL2, hm, hp16, hd4⟩, ⟨er, en, ed, hS, hE⟩, ⟨eop, hpl, hfit, hus, ebf⟩, A', eA, _, hN⟩ := hm_at h hl hM hR eo
  have hN' := hN (by decide) (by decide)
  obtain ⟨C1, e1, eA1⟩ := hf_sqi eA
  obtain ⟨e, rfl, hw1, rfl⟩ := hf_tk e1
  rw [hf_sq0 eA1] at hN'
  have k1 := (hS.2 e (by omega)).2
  rw [show E e = 2 by omega] at k1
  have hOO := h.2.2.2.2.2
  have hP := hOO.1
  have hO := hOO.2.1
  rcases ho_V0 (ho_K2 k1) (fun o ho => ⟨(hO o ho).1, (hP o (hO o ho).1).1⟩) with ⟨ex, ey⟩ | ⟨o, ho, ho8, hq8, ex, ey, _⟩
  · exact hl_fail (st := 2) (by decide) h hsL (fun post hp => hx_i hm hp16 hL2 hsL eq rfl (br_t (by decide) (br_f (by decide) (hx_m14N hn (by omega) ex hp)))) (fun aw wh bel bsh bro hE' post hp => hy_iO hn hm hp16 hL2 hsL er en eop rfl (by decide) (by decide) (hy_obN (jr := 0) (ji := 0) (er := e) (ei := e) hn (by omega) (by decide) ed rfl ey (hE' _ hp)))
  · obtain ⟨_, _, how, _, _, _, hsh, _⟩ := hO o ho
    have hb := hOO.2.2.2.1.2.2.1 o
    obtain ⟨lg, lc, lo, ld, hNt, hO'⟩ := hm_noteS (f_limit := nI L) (f_pending := f_pending) (f_wide := f_wide) (f_waiting := f_waiting) (f_height := f_height) (f_entries := f_entries) (f_locals := f_locals) (f_awaited := hw_aw f_awaited) (f_frames := nI (n + 1)) (f_sp := nI (6 * n + 2 + (e + 1))) (f_base := nI (6 * n)) (f_pc := nI p) (f_method := nI m) (f_steps := nI (s + 1)) (f_status := 0) (f_lastResult := 0) (f_lastPlace := -1) (a_ops := a_ops) (a_args := a_args) (a_quick := a_quick) (a_length := a_length) (a_exported := a_exported) (a_known := a_known) (a_slot := a_slot) (a_frameMethod := a_frameMethod) (a_framePc := a_framePc) ho rfl hOO
    by_cases ac : a_owner o = nI (m / 2)
    · have acY : b_owner (π o) = nI (m / 2) ∨ (14 ≠ 14 ∧ ¬ b_shared (π o) = 0) := Or.inl (by rw [← how]; exact ac)
      by_cases z : f_awaited = 0
      · exact hl_fail (st := 9) (by decide) h hsL (fun post hp => hx_i hm hp16 hL2 hsL eq rfl (br_t (by decide) (br_f (by decide) (hx_m14 hn (by omega) hm ho8 hb ex (fun _ => hNt) (fun _ w => absurd z w) (fun _ _ => hp) (fun w => absurd ac w))))) (fun aw wh bel bsh bro hE' post hp => hy_iO hn hm hp16 hL2 hsL er en eop rfl (by decide) (by decide) (hy_ob (jr := 0) (ji := 0) (er := e) (ei := e) hn hm (by omega) hq8 (by decide) er ed rfl ey (fun _ => hy_11114 hn (by omega) hq8 ed en (fun _ => hE' _ (br_t rfl hp)) (fun w => absurd z w)) (fun w => absurd acY w)))
      · exact hl_Xs hn (fun post hp => hx_i hm hp16 hL2 hsL eq rfl (br_t (by decide) (br_f (by decide) (hx_m14 hn (by omega) hm ho8 hb ex (fun _ => hNt) (fun _ _ => hp) (fun _ w => absurd w z) (fun w => absurd ac w))))) (hl_Ys hn (by omega) (fun post hp => hy_iO hn hm hp16 hL2 hsL er en eop rfl (by decide) (by decide) (hy_ob (jr := 0) (ji := 0) (er := e) (ei := e) hn hm (by omega) hq8 (by decide) er ed rfl ey (fun _ => hy_11114 hn (by omega) hq8 ed en (fun w => absurd w z) (fun _ => hp)) (fun w => absurd acY w))) (IH (s + 1) _ _ (by omega) (hm_mk (hm_goO h (by omega) hsL (fun i hi => rfl) (fun i hi => rfl) (fun i hi => rfl) (fun f hf => ⟨pk_un (by omega), pk_un (by omega)⟩) pk_us pk_us (hf_Sle hS (by omega)) hN' hO'))))
    · have acY : ¬ (b_owner (π o) = nI (m / 2) ∨ (14 ≠ 14 ∧ ¬ b_shared (π o) = 0)) := by
        rw [← how]; exact fun w => w.elim ac (fun w => w.1 rfl)
      exact hl_fail (st := 3) (by decide) h hsL (fun post hp => hx_i hm hp16 hL2 hsL eq rfl (br_t (by decide) (br_f (by decide) (hx_m14 hn (by omega) hm ho8 hb ex (fun _ => hNt) (fun w => absurd w ac) (fun w => absurd w ac) (fun _ => hp))))) (fun aw wh bel bsh bro hE' post hp => hy_iO hn hm hp16 hL2 hsL er en eop rfl (by decide) (by decide) (hy_ob (jr := 0) (ji := 0) (er := e) (ei := e) hn hm (by omega) hq8 (by decide) er ed rfl ey (fun w => absurd w acY) (fun _ => hE' _ hp)))
theorem hl_10 (h : (hm_Q k L s n m p d kl E π ρ H f_pending f_wide f_logLength f_open a_ops a_args a_quick a_length a_exported a_alive a_fresh a_lasting a_shared a_owner a_size a_element a_roots a_logCell a_logOld a_logged a_slot a_frameMethod a_framePc g_made b_ops b_bs b_sizes b_exported b_stamp b_owner b_lengths b_elements b_lasting b_shared b_roots b_oldStamp b_oldElements b_oldShared b_oldRoots b_rows b_nexts b_depths b_places b_kinds)) (hl : l ≤ 16) (hM : hc_M a_ops a_args a_quick b_bs m l opf bf) (hR : hs_R opf bf p (hf_A kl E d)) (eo : opf p = 10) (eq : a_quick (16 * m + p) = nI 10) (hsL : s < L) (IH : hm_IH k L s) : hl_LS k (nI L, f_pending, f_wide, f_waiting, f_height, f_entries, f_locals, f_logLength, f_open, f_awaited, nI (n + 1), nI (6 * n + 2 + d), nI (6 * n), nI p, nI m, nI s, 0, 0, -1, a_ops, a_args, a_quick, a_length, a_exported, a_known, a_alive, a_fresh, a_lasting, a_shared, a_owner, a_size, a_element, a_roots, a_logCell, a_logOld, a_logged, a_slot, a_frameMethod, a_framePc) s (nI L, g_waiting, g_stack, g_locals, nI (n + 1), nI s, f_awaited, 0, g_where, g_outcome, g_made, g_good, f_open, b_ops, b_bs, b_sizes, b_exported, b_stamp, b_owner, b_lengths, b_elements, b_lasting, b_shared, b_roots, b_oldStamp, b_oldElements, b_oldShared, b_oldRoots, b_rows, b_nexts, b_depths, b_places, b_kinds, b_met, b_todo, b_heights) := by
  obtain ⟨⟨hn, hL2, hm, hp16, hd4⟩, ⟨er, en, ed, hS, hE⟩, ⟨eop, hpl, hfit, hus, ebf⟩, A', eA, _, hN⟩ := hm_at h hl hM hR eo
  have hN' := hN (by decide) (by decide)
  obtain ⟨j, hj, ej⟩ := hfit.2.1 (by decide)
  have ea := hus (by unfold hc_us; decide)
  rw [ej] at ea
  obtain ⟨C1, e1, eA1⟩ := hf_sqi eA
  obtain ⟨e, rfl, hw1, rfl⟩ := hf_tk e1
  rw [hf_sq0 eA1] at hN'
  have k1 := (hS.2 e (by omega)).2
  rw [show E e = 2 by omega] at k1
  have hOO := h.2.2.2.2.2
  obtain ⟨lg, lc, lo, ld, hNt, hO'⟩ := hm_noteR (f_limit := nI L) (f_pending := f_pending) (f_wide := f_wide) (f_waiting := f_waiting) (f_height := f_height) (f_entries := f_entries) (f_locals := f_locals) (f_awaited := hw_aw f_awaited) (f_frames := nI (n + 1)) (f_sp := nI (6 * n + 2 + (e + 1))) (f_base := nI (6 * n)) (f_pc := nI (p + 1)) (f_method := nI m) (f_steps := nI (s + 1)) (f_status := 0) (f_lastResult := 0) (f_lastPlace := -1) (a_ops := a_ops) (a_args := a_args) (a_quick := a_quick) (a_length := a_length) (a_exported := a_exported) (a_known := a_known) (a_slot := a_slot) (a_frameMethod := a_frameMethod) (a_framePc := a_framePc) (r := 2 * (m / 2) + j) (by omega) hOO
  by_cases z : f_awaited = 0
  · exact hl_fail (st := 9) (by decide) h hsL (fun post hp => hx_i hm hp16 hL2 hsL eq ea (br_f (by decide) (hx_s10 hn (by omega) hm hj (fun _ => hNt) (fun w => absurd z w) (fun _ => hp)))) (fun aw wh bel bsh bro hE' post hp => hy_iT hn hm hp16 hL2 hsL er en eop ej (by decide) (by decide) (hy_o10 hn (by omega) hm hj er ed en (fun _ => hE' _ (br_t rfl hp)) (fun w => absurd z w)))
  · exact hl_Xs hn (fun post hp => hx_i hm hp16 hL2 hsL eq ea (br_f (by decide) (hx_s10 hn (by omega) hm hj (fun _ => hNt) (fun _ => hp) (fun w => absurd w z)))) (hl_Ys hn (by omega) (fun post hp => hy_iT hn hm hp16 hL2 hsL er en eop ej (by decide) (by decide) (hy_o10 hn (by omega) hm hj er ed en (fun w => absurd w z) (fun _ => hp))) (IH (s + 1) _ _ (by omega) (hm_mk (hm_goO h (by omega) hsL (fun i hi => rfl) (fun i hi => rfl) (fun i hi => rfl) (fun f hf => ⟨pk_un (by omega), pk_un (by omega)⟩) pk_us pk_us (hf_Sle hS (by omega)) hN' (hO' _ _ (ho_K2 k1))))))
end
end
section
/-! ===== lockstep: get and put ===== -/
section
variable {f_limit f_pending f_wide f_waiting f_height f_entries f_locals f_logLength f_open f_awaited f_frames f_sp f_base f_pc f_method f_steps f_status f_lastResult f_lastPlace : Int32} {a_ops a_args a_quick a_length a_exported a_known a_alive a_fresh a_lasting a_shared a_owner a_size a_element a_roots a_logCell a_logOld a_logged a_slot a_frameMethod a_framePc : Nat → Int32}
variable {L s n m p d e : Nat} {P : SX → Prop}
theorem hx_gN {op : Nat} {b : Int32} (hn : n < 4) (he : e < 3) (ev : a_slot (6 * n + 2 + e) = nI 65544) (H : P (nI L, f_pending, f_wide, f_waiting, f_height, f_entries, f_locals, f_logLength, f_open, f_awaited, nI (n + 1), nI (6 * n + 2 + (e + 2)), nI (6 * n), nI p, nI m, nI s, 2, 0, -1, a_ops, a_args, a_quick, a_length, a_exported, a_known, a_alive, a_fresh, a_lasting, a_shared, a_owner, a_size, a_element, a_roots, a_logCell, a_logOld, a_logged, a_slot, a_frameMethod, a_framePc)) : wpX_memory P (nI L, f_pending, f_wide, f_waiting, f_height, f_entries, f_locals, f_logLength, f_open, f_awaited, nI (n + 1), nI (6 * n + 2 + (e + 2)), nI (6 * n), nI p, nI m, nI s, 0, 0, -1, a_ops, a_args, a_quick, a_length, a_exported, a_known, a_alive, a_fresh, a_lasting, a_shared, a_owner, a_size, a_element, a_roots, a_logCell, a_logOld, a_logged, a_slot, a_frameMethod, a_framePc) (nI 12) b := by
  refine hx_m12 (hx_acN (by omega) ev ?_)
  show wX_memory_158 P (nI L) f_pending f_wide f_waiting f_height f_entries f_locals f_logLength f_open f_awaited (nI (n + 1)) (nI (6 * n + 2 + (e + 2))) (nI (6 * n)) (nI p) (nI m) (nI s) 2 0 (-1) a_ops a_args a_quick a_length a_exported a_known a_alive a_fresh a_lasting a_shared a_owner a_size a_element a_roots a_logCell a_logOld a_logged a_slot a_frameMethod a_framePc
  unfold wX_memory_158
  exact br_f (by decide) H
theorem hx_pN {b : Int32} (hn : n < 4) (he : e < 2) (ev : a_slot (6 * n + 2 + e) = nI 65544) (H : P (nI L, f_pending, f_wide, f_waiting, f_height, f_entries, f_locals, f_logLength, f_open, f_awaited, nI (n + 1), nI (6 * n + 2 + (e + 3)), nI (6 * n), nI p, nI m, nI s, 2, 0, -1, a_ops, a_args, a_quick, a_length, a_exported, a_known, a_alive, a_fresh, a_lasting, a_shared, a_owner, a_size, a_element, a_roots, a_logCell, a_logOld, a_logged, a_slot, a_frameMethod, a_framePc)) : wpX_memory P (nI L, f_pending, f_wide, f_waiting, f_height, f_entries, f_locals, f_logLength, f_open, f_awaited, nI (n + 1), nI (6 * n + 2 + (e + 3)), nI (6 * n), nI p, nI m, nI s, 0, 0, -1, a_ops, a_args, a_quick, a_length, a_exported, a_known, a_alive, a_fresh, a_lasting, a_shared, a_owner, a_size, a_element, a_roots, a_logCell, a_logOld, a_logged, a_slot, a_frameMethod, a_framePc) (nI 13) b := by
  refine hx_m13 (hx_acN (by omega) ev ?_)
  show wX_memory_158 P (nI L) f_pending f_wide f_waiting f_height f_entries f_locals f_logLength f_open f_awaited (nI (n + 1)) (nI (6 * n + 2 + (e + 3))) (nI (6 * n)) (nI p) (nI m) (nI s) 2 0 (-1) a_ops a_args a_quick a_length a_exported a_known a_alive a_fresh a_lasting a_shared a_owner a_size a_element a_roots a_logCell a_logOld a_logged a_slot a_frameMethod a_framePc
  unfold wX_memory_158
  exact br_f (by decide) H
theorem hx_g12 {b : Int32} {o z : Nat} {x : Int32} (hn : n < 4) (he : e < 3) (hm : m < 6) (ho : o < 8) (ev : a_slot (6 * n + 2 + e) = nI (65536 + o)) (ei : a_slot (6 * n + 2 + (e + 1)) = x) (ez : a_size o = nI z) (hz : z ≤ 4)
    (HW : ¬ (a_owner o = nI (m / 2) ∨ ((0 : Int32) = 0 ∧ ¬ a_shared o = 0)) → P (nI L, f_pending, f_wide, f_waiting, f_height, f_entries, f_locals, f_logLength, f_open, f_awaited, nI (n + 1), nI (6 * n + 2 + (e + 2)), nI (6 * n), nI p, nI m, nI s, 3, 0, -1, a_ops, a_args, a_quick, a_length, a_exported, a_known, a_alive, a_fresh, a_lasting, a_shared, a_owner, a_size, a_element, a_roots, a_logCell, a_logOld, a_logged, a_slot, a_frameMethod, a_framePc)) (HB : (a_owner o = nI (m / 2) ∨ ((0 : Int32) = 0 ∧ ¬ a_shared o = 0)) → ¬ (∃ i, i < z ∧ x = nI i) → P (nI L, f_pending, f_wide, f_waiting, f_height, f_entries, f_locals, f_logLength, f_open, f_awaited, nI (n + 1), nI (6 * n + 2 + (e + 2)), nI (6 * n), nI p, nI m, nI s, 4, 0, -1, a_ops, a_args, a_quick, a_length, a_exported, a_known, a_alive, a_fresh, a_lasting, a_shared, a_owner, a_size, a_element, a_roots, a_logCell, a_logOld, a_logged, a_slot, a_frameMethod, a_framePc))
    (HG : (a_owner o = nI (m / 2) ∨ ((0 : Int32) = 0 ∧ ¬ a_shared o = 0)) → ∀ i, i < z → x = nI i → P (nI L, f_pending, f_wide, f_waiting, f_height, f_entries, f_locals, f_logLength, f_open, f_awaited, nI (n + 1), nI (6 * n + 2 + (e + 1)), nI (6 * n), nI (p + 1), nI m, nI s, 0, 0, -1, a_ops, a_args, a_quick, a_length, a_exported, a_known, a_alive, a_fresh, a_lasting, a_shared, a_owner, a_size, a_element, a_roots, a_logCell, a_logOld, a_logged, upd a_slot (6 * n + 2 + e) (a_element (4 * o + i)), a_frameMethod, a_framePc)) : wpX_memory P (nI L, f_pending, f_wide, f_waiting, f_height, f_entries, f_locals, f_logLength, f_open, f_awaited, nI (n + 1), nI (6 * n + 2 + (e + 2)), nI (6 * n), nI p, nI m, nI s, 0, 0, -1, a_ops, a_args, a_quick, a_length, a_exported, a_known, a_alive, a_fresh, a_lasting, a_shared, a_owner, a_size, a_element, a_roots, a_logCell, a_logOld, a_logged, a_slot, a_frameMethod, a_framePc) (nI 12) b := by
  have es : nI (6 * n + 2 + (e + 2)) - 1 = nI (6 * n + 2 + (e + 1)) := nI_pred _
  refine hx_m12 (hx_ac (a := 6 * n + 2 + e) (i := 0) (by omega) hm ho ev ei ez hz (fun w => ?_) (fun w hb => ?_) (fun w i hi ex => br_t rfl ⟨vp_in_nI (by omega) (by decide), vp_in_nI (by omega) (by decide), nm_e (nm_r es ?_)⟩))
  · show wX_memory_158 P (nI L) f_pending f_wide f_waiting f_height f_entries f_locals f_logLength f_open f_awaited (nI (n + 1)) (nI (6 * n + 2 + (e + 2))) (nI (6 * n)) (nI p) (nI m) (nI s) 3 0 (-1) a_ops a_args a_quick a_length a_exported a_known a_alive a_fresh a_lasting a_shared a_owner a_size a_element a_roots a_logCell a_logOld a_logged a_slot a_frameMethod a_framePc
    unfold wX_memory_158
    exact br_f (by decide) (HW w)
  · show wX_memory_158 P (nI L) f_pending f_wide f_waiting f_height f_entries f_locals f_logLength f_open f_awaited (nI (n + 1)) (nI (6 * n + 2 + (e + 2))) (nI (6 * n)) (nI p) (nI m) (nI s) 4 0 (-1) a_ops a_args a_quick a_length a_exported a_known a_alive a_fresh a_lasting a_shared a_owner a_size a_element a_roots a_logCell a_logOld a_logged a_slot a_frameMethod a_framePc
    unfold wX_memory_158
    exact br_f (by decide) (HB w hb)
  · show wX_memory_158 P (nI L) f_pending f_wide f_waiting f_height f_entries f_locals f_logLength f_open f_awaited (nI (n + 1)) (nI (6 * n + 2 + (e + 1))) (nI (6 * n)) (nI p) (nI m) (nI s) 0 0 (-1) a_ops a_args a_quick a_length a_exported a_known a_alive a_fresh a_lasting a_shared a_owner a_size a_element a_roots a_logCell a_logOld a_logged (upd a_slot (6 * n + 2 + e) (a_element (4 * o + i))) a_frameMethod a_framePc
    unfold wX_memory_158
    exact br_t rfl (nm_r (nI_1 _) (HG w i hi ex))
theorem hx_g13 {b : Int32} {o z : Nat} {x : Int32} (hn : n < 4) (he : e < 2) (hm : m < 6) (ho : o < 8) (ev : a_slot (6 * n + 2 + e) = nI (65536 + o)) (ei : a_slot (6 * n + 2 + (e + 1)) = x) (hv : ca_sh (a_slot (6 * n + 2 + (e + 2)))) (ez : a_size o = nI z) (hz : z ≤ 4)
    (HW : ¬ (a_owner o = nI (m / 2) ∨ ((0 : Int32) = 0 ∧ ¬ a_shared o = 0)) → P (nI L, f_pending, f_wide, f_waiting, f_height, f_entries, f_locals, f_logLength, f_open, f_awaited, nI (n + 1), nI (6 * n + 2 + (e + 3)), nI (6 * n), nI p, nI m, nI s, 3, 0, -1, a_ops, a_args, a_quick, a_length, a_exported, a_known, a_alive, a_fresh, a_lasting, a_shared, a_owner, a_size, a_element, a_roots, a_logCell, a_logOld, a_logged, a_slot, a_frameMethod, a_framePc)) (HB : (a_owner o = nI (m / 2) ∨ ((0 : Int32) = 0 ∧ ¬ a_shared o = 0)) → ¬ (∃ i, i < z ∧ x = nI i) → P (nI L, f_pending, f_wide, f_waiting, f_height, f_entries, f_locals, f_logLength, f_open, f_awaited, nI (n + 1), nI (6 * n + 2 + (e + 3)), nI (6 * n), nI p, nI m, nI s, 4, 0, -1, a_ops, a_args, a_quick, a_length, a_exported, a_known, a_alive, a_fresh, a_lasting, a_shared, a_owner, a_size, a_element, a_roots, a_logCell, a_logOld, a_logged, a_slot, a_frameMethod, a_framePc))
    (HN : (a_owner o = nI (m / 2) ∨ ((0 : Int32) = 0 ∧ ¬ a_shared o = 0)) → ∀ i, i < z → x = nI i → a_lasting o = 0 → P (nI L, f_pending, f_wide, f_waiting, f_height, f_entries, f_locals, f_logLength, f_open, f_awaited, nI (n + 1), nI (6 * n + 2 + e), nI (6 * n), nI (p + 1), nI m, nI s, 0, 0, -1, a_ops, a_args, a_quick, a_length, a_exported, a_known, a_alive, a_fresh, a_lasting, a_shared, a_owner, a_size, upd a_element (4 * o + i) (a_slot (6 * n + 2 + (e + 2))), a_roots, a_logCell, a_logOld, a_logged, a_slot, a_frameMethod, a_framePc))
    (HT : (a_owner o = nI (m / 2) ∨ ((0 : Int32) = 0 ∧ ¬ a_shared o = 0)) → ∀ i, i < z → x = nI i → ¬ a_lasting o = 0 → f_awaited = 0 → P (nI L, f_pending, f_wide, f_waiting, f_height, f_entries, f_locals, f_logLength, f_open, f_awaited, nI (n + 1), nI (6 * n + 2 + (e + 3)), nI (6 * n), nI p, nI m, nI s, 9, 0, -1, a_ops, a_args, a_quick, a_length, a_exported, a_known, a_alive, a_fresh, a_lasting, a_shared, a_owner, a_size, a_element, a_roots, a_logCell, a_logOld, a_logged, a_slot, a_frameMethod, a_framePc))
    (HG : (a_owner o = nI (m / 2) ∨ ((0 : Int32) = 0 ∧ ¬ a_shared o = 0)) → ∀ i, i < z → x = nI i → ¬ a_lasting o = 0 → ¬ f_awaited = 0 → ∃ lg lc lo ld, (∀ Q : SX → Prop, Q (nI L, f_pending, f_wide, f_waiting, f_height, f_entries, f_locals, lg, f_open, hw_aw f_awaited, nI (n + 1), nI (6 * n + 2 + (e + 3)), nI (6 * n), nI p, nI m, nI s, 0, 0, -1, a_ops, a_args, a_quick, a_length, a_exported, a_known, a_alive, a_fresh, a_lasting, a_shared, a_owner, a_size, a_element, a_roots, lc, lo, ld, a_slot, a_frameMethod, a_framePc) → wpX_note Q (nI L, f_pending, f_wide, f_waiting, f_height, f_entries, f_locals, f_logLength, f_open, hw_aw f_awaited, nI (n + 1), nI (6 * n + 2 + (e + 3)), nI (6 * n), nI p, nI m, nI s, 0, 0, -1, a_ops, a_args, a_quick, a_length, a_exported, a_known, a_alive, a_fresh, a_lasting, a_shared, a_owner, a_size, a_element, a_roots, a_logCell, a_logOld, a_logged, a_slot, a_frameMethod, a_framePc) (nI (4 * o + i)) (a_element (4 * o + i))) ∧ P (nI L, f_pending, f_wide, f_waiting, f_height, f_entries, f_locals, lg, f_open, hw_aw f_awaited, nI (n + 1), nI (6 * n + 2 + e), nI (6 * n), nI (p + 1), nI m, nI s, 0, 0, -1, a_ops, a_args, a_quick, a_length, a_exported, a_known, a_alive, a_fresh, a_lasting, a_shared, a_owner, a_size, upd a_element (4 * o + i) (a_slot (6 * n + 2 + (e + 2))), a_roots, lc, lo, ld, a_slot, a_frameMethod, a_framePc)) : wpX_memory P (nI L, f_pending, f_wide, f_waiting, f_height, f_entries, f_locals, f_logLength, f_open, f_awaited, nI (n + 1), nI (6 * n + 2 + (e + 3)), nI (6 * n), nI p, nI m, nI s, 0, 0, -1, a_ops, a_args, a_quick, a_length, a_exported, a_known, a_alive, a_fresh, a_lasting, a_shared, a_owner, a_size, a_element, a_roots, a_logCell, a_logOld, a_logged, a_slot, a_frameMethod, a_framePc) (nI 13) b := by
  refine hx_m13 (hx_ac (a := 6 * n + 2 + e) (i := 0) (by omega) hm ho ev ei ez hz (fun w => ?_) (fun w hb => ?_) (fun w i hi ex => br_f (by decide) ⟨vp_in_nI ho (by decide), br_c (fun y => ?_) (fun y => ?_)⟩))
  · show wX_memory_158 P (nI L) f_pending f_wide f_waiting f_height f_entries f_locals f_logLength f_open f_awaited (nI (n + 1)) (nI (6 * n + 2 + (e + 3))) (nI (6 * n)) (nI p) (nI m) (nI s) 3 0 (-1) a_ops a_args a_quick a_length a_exported a_known a_alive a_fresh a_lasting a_shared a_owner a_size a_element a_roots a_logCell a_logOld a_logged a_slot a_frameMethod a_framePc
    unfold wX_memory_158
    exact br_f (by decide) (HW w)
  · show wX_memory_158 P (nI L) f_pending f_wide f_waiting f_height f_entries f_locals f_logLength f_open f_awaited (nI (n + 1)) (nI (6 * n + 2 + (e + 3))) (nI (6 * n)) (nI p) (nI m) (nI s) 4 0 (-1) a_ops a_args a_quick a_length a_exported a_known a_alive a_fresh a_lasting a_shared a_owner a_size a_element a_roots a_logCell a_logOld a_logged a_slot a_frameMethod a_framePc
    unfold wX_memory_158
    exact br_f (by decide) (HB w hb)
  · refine hx_135 (a := 6 * n + 2 + e) (x := 4 * o + i) (by omega) (by omega) hv ?_
    show wX_memory_158 P (nI L) f_pending f_wide f_waiting f_height f_entries f_locals f_logLength f_open f_awaited (nI (n + 1)) (nI (6 * n + 2 + e)) (nI (6 * n)) (nI p) (nI m) (nI s) 0 0 (-1) a_ops a_args a_quick a_length a_exported a_known a_alive a_fresh a_lasting a_shared a_owner a_size (upd a_element (4 * o + i) (a_slot (6 * n + 2 + (e + 2)))) a_roots a_logCell a_logOld a_logged a_slot a_frameMethod a_framePc
    unfold wX_memory_158
    exact br_t rfl (nm_r (nI_1 _) (HN w i hi ex y))
  · refine hx_due (fun z => br_t rfl ?_) (fun z => br_f (by decide) ⟨vp_in_nI (by omega) (by decide), ?_⟩)
    · show wX_memory_158 P (nI L) f_pending f_wide f_waiting f_height f_entries f_locals f_logLength f_open f_awaited (nI (n + 1)) (nI (6 * n + 2 + (e + 3))) (nI (6 * n)) (nI p) (nI m) (nI s) 9 0 (-1) a_ops a_args a_quick a_length a_exported a_known a_alive a_fresh a_lasting a_shared a_owner a_size a_element a_roots a_logCell a_logOld a_logged a_slot a_frameMethod a_framePc
      unfold wX_memory_158
      exact br_f (by decide) (HT w i hi ex y z)
    · obtain ⟨lg, lc, lo, ld, hN, hp⟩ := HG w i hi ex y z
      refine hN _ (hx_135 (a := 6 * n + 2 + e) (x := 4 * o + i) (by omega) (by omega) hv ?_)
      show wX_memory_158 P (nI L) f_pending f_wide f_waiting f_height f_entries f_locals lg f_open (hw_aw f_awaited) (nI (n + 1)) (nI (6 * n + 2 + e)) (nI (6 * n)) (nI p) (nI m) (nI s) 0 0 (-1) a_ops a_args a_quick a_length a_exported a_known a_alive a_fresh a_lasting a_shared a_owner a_size (upd a_element (4 * o + i) (a_slot (6 * n + 2 + (e + 2)))) a_roots lc lo ld a_slot a_frameMethod a_framePc
      unfold wX_memory_158
      exact br_t rfl (nm_r (nI_1 _) hp)
end
section
variable {f_limit f_pending f_wide f_waiting f_height f_entries f_locals f_logLength f_open f_awaited f_frames f_sp f_base f_pc f_method f_steps f_status f_lastResult f_lastPlace : Int32} {a_ops a_args a_quick a_length a_exported a_known a_alive a_fresh a_lasting a_shared a_owner a_size a_element a_roots a_logCell a_logOld a_logged a_slot a_frameMethod a_framePc : Nat → Int32} {g_limit g_waiting g_stack g_locals g_running g_steps g_awaited g_answer g_where g_outcome : Int32} {g_made : Int64} {g_good g_open : Int32} {b_ops b_bs b_sizes b_exported : Nat → Int32} {b_stamp : Nat → Int64} {b_owner b_lengths b_elements b_lasting b_shared b_roots : Nat → Int32} {b_oldStamp : Nat → Int64} {b_oldElements b_oldShared b_oldRoots b_rows b_nexts b_depths b_places b_kinds b_met b_todo b_heights : Nat → Int32}
variable {k L s n m p d l : Nat} {kl E π ρ opf bf : Nat → Nat} {H : Nat → Prop}
theorem hl_12 (h : (hm_Q k L s n m p d kl E π ρ H f_pending f_wide f_logLength f_open a_ops a_args a_quick a_length a_exported a_alive a_fresh a_lasting a_shared a_owner a_size a_element a_roots a_logCell a_logOld a_logged a_slot a_frameMethod a_framePc g_made b_ops b_bs b_sizes b_exported b_stamp b_owner b_lengths b_elements b_lasting b_shared b_roots b_oldStamp b_oldElements b_oldShared b_oldRoots b_rows b_nexts b_depths b_places b_kinds)) (hl : l ≤ 16) (hM : hc_M a_ops a_args a_quick b_bs m l opf bf) (hR : hs_R opf bf p (hf_A kl E d)) (eo : opf p = 12) (eq : a_quick (16 * m + p) = nI 12) (hsL : s < L) (IH : hm_IH k L s) : hl_LS k (nI L, f_pending, f_wide, f_waiting, f_height, f_entries, f_locals, f_logLength, f_open, f_awaited, nI (n + 1), nI (6 * n + 2 + d), nI (6 * n), nI p, nI m, nI s, 0, 0, -1, a_ops, a_args, a_quick, a_length, a_exported, a_known, a_alive, a_fresh, a_lasting, a_shared, a_owner, a_size, a_element, a_roots, a_logCell, a_logOld, a_logged, a_slot, a_frameMethod, a_framePc) s (nI L, g_waiting, g_stack, g_locals, nI (n + 1), nI s, f_awaited, 0, g_where, g_outcome, g_made, g_good, f_open, b_ops, b_bs, b_sizes, b_exported, b_stamp, b_owner, b_lengths, b_elements, b_lasting, b_shared, b_roots, b_oldStamp, b_oldElements, b_oldShared, b_oldRoots, b_rows, b_nexts, b_depths, b_places, b_kinds, b_met, b_todo, b_heights) := by
  obtain ⟨⟨hn, hL2, hm, hp16, hd4⟩, ⟨er, en, ed, hS, hE⟩, ⟨eop, hpl, hfit, hus, ebf⟩, A', eA, _, hN⟩ := hm_at h hl hM hR eo
  have hN' := hN (by decide) (by decide)
  obtain ⟨C1, e1, eA1⟩ := hf_sqi eA
  obtain ⟨C2, e2, eA2⟩ := hf_sqi eA1
  obtain ⟨C3, e3, eA3⟩ := hf_sqi eA2
  obtain ⟨e', rfl, hw1, rfl⟩ := hf_tk e1
  obtain ⟨e, rfl, hw2, rfl⟩ := hf_tk e2
  obtain ⟨_, eC⟩ := hf_ps e3
  rw [hf_sq0 eA3, eC] at hN'
  have k1 := (hS.2 (e + 1) (by omega)).2
  rw [show E (e + 1) = 1 by omega] at k1
  have q1 := ho_K1 k1
  have k2 := (hS.2 e (by omega)).2
  rw [show E e = 2 by omega] at k2
  have hP := h.2.2.2.2.2.1
  have hO := h.2.2.2.2.2.2.1
  have hWf := h.2.2.2.2.2.2.2.2.1
  rcases ho_V0 (ho_K2 k2) (fun o ho => ⟨(hO o ho).1, (hP o (hO o ho).1).1⟩) with ⟨ex, ey⟩ | ⟨o, ho, ho8, hq8, ex, ey, _⟩
  · exact hl_fail (st := 2) (by decide) h hsL (fun post hp => hx_i hm hp16 hL2 hsL eq rfl (br_t (by decide) (br_f (by decide) (hx_gN (op := 12) hn (by omega) ex hp)))) (fun aw wh bel bsh bro hE' post hp => hy_iO hn hm hp16 hL2 hsL er en eop rfl (by decide) (by decide) (hy_obN (jr := 1) (ji := 0) (er := e) (ei := e + 1) hn (by omega) (by decide) ed rfl ey (hE' _ hp)))
  · obtain ⟨_, _, how, ⟨z, hz1, hz4, ez⟩, hsz, _, hsh, hel⟩ := hO o ho
    have ezY : b_lengths (π o) = nI z := by rw [← hsz]; exact ez
    by_cases ac : a_owner o = nI (m / 2) ∨ ((0 : Int32) = 0 ∧ ¬ a_shared o = 0)
    · have acY : b_owner (π o) = nI (m / 2) ∨ (12 ≠ 14 ∧ ¬ b_shared (π o) = 0) := by
        rw [← how, ← hsh]; exact ac.elim Or.inl (fun w => Or.inr ⟨by decide, w.2⟩)
      by_cases bd : ∃ i, i < z ∧ a_slot (6 * n + 2 + (e + 1)) = nI i
      · obtain ⟨i, hi, exi⟩ := bd
        have eyi : b_places (8 * n + 2 + (e + 1)) = nI i := q1.1.trans exi
        have inj : ∀ i', i' < z → a_slot (6 * n + 2 + (e + 1)) = nI i' → i' = i := fun i' hi' e' => ((nI_eq (by omega) (by omega)).mp (exi.symm.trans e')).symm
        have hK : ho_K π H 1 (a_element (4 * o + i)) (b_elements (4 * π o + i)) := by
          rw [← hel i (by omega)]; exact ho_Kn (hWf.2.2.2.1 _)
        exact hl_Xs (u1 := (nI L, f_pending, f_wide, f_waiting, f_height, f_entries, f_locals, f_logLength, f_open, f_awaited, nI (n + 1), nI (6 * n + 2 + (e + 1)), nI (6 * n), nI (p + 1), nI m, nI (s + 1), 0, 0, -1, a_ops, a_args, a_quick, a_length, a_exported, a_known, a_alive, a_fresh, a_lasting, a_shared, a_owner, a_size, a_element, a_roots, a_logCell, a_logOld, a_logged, upd a_slot (6 * n + 2 + e) (a_element (4 * o + i)), a_frameMethod, a_framePc)) hn (fun post hp => hx_i hm hp16 hL2 hsL eq rfl (br_t (by decide) (br_f (by decide) (hx_g12 hn (by omega) hm ho8 ex rfl ez hz4 (fun w => absurd ac w) (fun _ w => absurd ⟨i, hi, exi⟩ w) (fun _ i' hi' e' => by rw [inj i' hi' e']; exact hp))))) (hl_Ys (v1 := (nI L, g_waiting, g_stack, g_locals, nI (n + 1), nI (s + 1), f_awaited, 0, g_where, g_outcome, g_made, g_good, f_open, b_ops, b_bs, b_sizes, b_exported, b_stamp, b_owner, b_lengths, b_elements, b_lasting, b_shared, b_roots, b_oldStamp, b_oldElements, b_oldShared, b_oldRoots, b_rows, upd b_nexts n (nI (p + 1)), upd (upd b_depths n (nI e)) n (nI (e + 1)), upd b_places (8 * n + 2 + e) (b_elements (4 * π o + i)), upd b_kinds (8 * n + 2 + e) (nI 1), b_met, b_todo, b_heights)) hn (by omega) (fun post hp => hy_iO hn hm hp16 hL2 hsL er en eop rfl (by decide) (by decide) (hy_ob (jr := 1) (ji := 0) (er := e) (ei := e + 1) hn hm (by omega) hq8 (by decide) er ed rfl ey (fun _ => hy_123 hq8 ezY hz4 (Or.inl rfl) (fun w => absurd ⟨i, hi, eyi⟩ w) (fun i' hi' e' => by rw [inj i' hi' (q1.1.symm.trans e')]; exact hy_14512 hn (by omega) hq8 (by omega) ed en hp)) (fun w => absurd acY w))) (IH (s + 1) _ _ (by omega) (hm_mk (hm_go h (by omega) hsL (fun i hi => pk_un (by omega)) (fun i hi => pk_un (by omega)) (fun i hi => pk_un (by omega)) (fun f hf => ⟨pk_un (by omega), by rw [pk_un (by omega), pk_un (by omega)]⟩) pk_us pk_us (hf_Sput hS (fun i hi hne => by omega) hK) hN'))))
      · have bdY : ¬ ∃ i, i < z ∧ b_places (8 * n + 2 + (e + 1)) = nI i := fun ⟨i, hi, e'⟩ => bd ⟨i, hi, q1.1.symm.trans e'⟩
        exact hl_fail (st := 4) (by decide) h hsL (fun post hp => hx_i hm hp16 hL2 hsL eq rfl (br_t (by decide) (br_f (by decide) (hx_g12 hn (by omega) hm ho8 ex rfl ez hz4 (fun w => absurd ac w) (fun _ _ => hp) (fun _ i' hi' e' => absurd ⟨i', hi', e'⟩ bd))))) (fun aw wh bel bsh bro hE' post hp => hy_iO hn hm hp16 hL2 hsL er en eop rfl (by decide) (by decide) (hy_ob (jr := 1) (ji := 0) (er := e) (ei := e + 1) hn hm (by omega) hq8 (by decide) er ed rfl ey (fun _ => hy_123 hq8 ezY hz4 (Or.inl rfl) (fun _ => hE' _ hp) (fun i' hi' e' => absurd ⟨i', hi', e'⟩ bdY)) (fun w => absurd acY w)))
    · have acY : ¬ (b_owner (π o) = nI (m / 2) ∨ (12 ≠ 14 ∧ ¬ b_shared (π o) = 0)) := by
        rw [← how, ← hsh]; exact fun w => ac (w.elim Or.inl (fun w => Or.inr ⟨rfl, w.2⟩))
      exact hl_fail (st := 3) (by decide) h hsL (fun post hp => hx_i hm hp16 hL2 hsL eq rfl (br_t (by decide) (br_f (by decide) (hx_g12 hn (by omega) hm ho8 ex rfl ez hz4 (fun _ => hp) (fun w => absurd w ac) (fun w => absurd w ac))))) (fun aw wh bel bsh bro hE' post hp => hy_iO hn hm hp16 hL2 hsL er en eop rfl (by decide) (by decide) (hy_ob (jr := 1) (ji := 0) (er := e) (ei := e + 1) hn hm (by omega) hq8 (by decide) er ed rfl ey (fun w => absurd w acY) (fun _ => hE' _ hp)))
theorem hl_13 (h : (hm_Q k L s n m p d kl E π ρ H f_pending f_wide f_logLength f_open a_ops a_args a_quick a_length a_exported a_alive a_fresh a_lasting a_shared a_owner a_size a_element a_roots a_logCell a_logOld a_logged a_slot a_frameMethod a_framePc g_made b_ops b_bs b_sizes b_exported b_stamp b_owner b_lengths b_elements b_lasting b_shared b_roots b_oldStamp b_oldElements b_oldShared b_oldRoots b_rows b_nexts b_depths b_places b_kinds)) (hl : l ≤ 16) (hM : hc_M a_ops a_args a_quick b_bs m l opf bf) (hR : hs_R opf bf p (hf_A kl E d)) (eo : opf p = 13) (eq : a_quick (16 * m + p) = nI 13) (hsL : s < L) (IH : hm_IH k L s) : hl_LS k (nI L, f_pending, f_wide, f_waiting, f_height, f_entries, f_locals, f_logLength, f_open, f_awaited, nI (n + 1), nI (6 * n + 2 + d), nI (6 * n), nI p, nI m, nI s, 0, 0, -1, a_ops, a_args, a_quick, a_length, a_exported, a_known, a_alive, a_fresh, a_lasting, a_shared, a_owner, a_size, a_element, a_roots, a_logCell, a_logOld, a_logged, a_slot, a_frameMethod, a_framePc) s (nI L, g_waiting, g_stack, g_locals, nI (n + 1), nI s, f_awaited, 0, g_where, g_outcome, g_made, g_good, f_open, b_ops, b_bs, b_sizes, b_exported, b_stamp, b_owner, b_lengths, b_elements, b_lasting, b_shared, b_roots, b_oldStamp, b_oldElements, b_oldShared, b_oldRoots, b_rows, b_nexts, b_depths, b_places, b_kinds, b_met, b_todo, b_heights) := by
  obtain ⟨⟨hn, hL2, hm, hp16, hd4⟩, ⟨er, en, ed, hS, hE⟩, ⟨eop, hpl, hfit, hus, ebf⟩, A', eA, _, hN⟩ := hm_at h hl hM hR eo
  have hN' := hN (by decide) (by decide)
  obtain ⟨C1, e1, eA1⟩ := hf_sqi eA
  obtain ⟨C2, e2, eA2⟩ := hf_sqi eA1
  obtain ⟨C3, e3, eA3⟩ := hf_sqi eA2
  obtain ⟨e'', rfl, hw1, rfl⟩ := hf_tk e1
  obtain ⟨e', rfl, hw2, rfl⟩ := hf_tk e2
  obtain ⟨e, rfl, hw3, rfl⟩ := hf_tk e3
  rw [hf_sq0 eA3] at hN'
  have k0 := (hS.2 (e + 2) (by omega)).2
  have hE2 : E (e + 1 + 1) = 1 := by omega
  rw [show E (e + 2) = 1 from hE2] at k0
  have q0 := ho_K1 k0
  have k1 := (hS.2 (e + 1) (by omega)).2
  rw [show E (e + 1) = 1 by omega] at k1
  have q1 := ho_K1 k1
  have k2 := (hS.2 e (by omega)).2
  rw [show E e = 2 by omega] at k2
  have hOO := h.2.2.2.2.2
  have hP := hOO.1
  have hO := hOO.2.1
  have hvY : ca_sh (b_places (8 * n + 2 + (e + 2))) := by rw [q0.1]; exact q0.2
  rcases ho_V0 (ho_K2 k2) (fun o ho => ⟨(hO o ho).1, (hP o (hO o ho).1).1⟩) with ⟨ex, ey⟩ | ⟨o, ho, ho8, hq8, ex, ey, _⟩
  · exact hl_fail (st := 2) (by decide) h hsL (fun post hp => hx_i hm hp16 hL2 hsL eq rfl (br_t (by decide) (br_f (by decide) (hx_pN hn (by omega) ex hp)))) (fun aw wh bel bsh bro hE' post hp => hy_iO hn hm hp16 hL2 hsL er en eop rfl (by decide) (by decide) (hy_obN (jr := 2) (ji := 1) (er := e) (ei := e + 1) hn (by omega) (by decide) ed rfl ey (hE' _ hp)))
  · obtain ⟨_, _, how, ⟨z, hz1, hz4, ez⟩, hsz, hla, hsh, hel⟩ := hO o ho
    have ezY : b_lengths (π o) = nI z := by rw [← hsz]; exact ez
    by_cases ac : a_owner o = nI (m / 2) ∨ ((0 : Int32) = 0 ∧ ¬ a_shared o = 0)
    · have acY : b_owner (π o) = nI (m / 2) ∨ (13 ≠ 14 ∧ ¬ b_shared (π o) = 0) := by
        rw [← how, ← hsh]; exact ac.elim Or.inl (fun w => Or.inr ⟨by decide, w.2⟩)
      by_cases bd : ∃ i, i < z ∧ a_slot (6 * n + 2 + (e + 1)) = nI i
      · obtain ⟨i, hi, exi⟩ := bd
        have eyi : b_places (8 * n + 2 + (e + 1)) = nI i := q1.1.trans exi
        have inj : ∀ i', i' < z → a_slot (6 * n + 2 + (e + 1)) = nI i' → i' = i := fun i' hi' e' => ((nI_eq (by omega) (by omega)).mp (exi.symm.trans e')).symm
        by_cases zl : a_lasting o = 0
        · have zlY : b_lasting (π o) = 0 := by rw [← hla]; exact zl
          have hO' := hm_wE (v := a_slot (6 * n + 2 + (e + 2))) ho (show i < 4 by omega) q0.2 zl hOO
          refine hl_Xs (u1 := (nI L, f_pending, f_wide, f_waiting, f_height, f_entries, f_locals, f_logLength, f_open, f_awaited, nI (n + 1), nI (6 * n + 2 + e), nI (6 * n), nI (p + 1), nI m, nI (s + 1), 0, 0, -1, a_ops, a_args, a_quick, a_length, a_exported, a_known, a_alive, a_fresh, a_lasting, a_shared, a_owner, a_size, upd a_element (4 * o + i) (a_slot (6 * n + 2 + (e + 2))), a_roots, a_logCell, a_logOld, a_logged, a_slot, a_frameMethod, a_framePc)) hn (fun post hp => hx_i hm hp16 hL2 hsL eq rfl (br_t (by decide) (br_f (by decide) (hx_g13 hn (by omega) hm ho8 ex rfl q0.2 ez hz4 (fun w => absurd ac w) (fun _ w => absurd ⟨i, hi, exi⟩ w) (fun _ i' hi' e' _ => by rw [inj i' hi' e']; exact hp) (fun _ _ _ _ w => absurd zl w) (fun _ _ _ _ w => absurd zl w))))) (hl_Ys (v1 := (nI L, g_waiting, g_stack, g_locals, nI (n + 1), nI (s + 1), f_awaited, 0, g_where, g_outcome, g_made, g_good, f_open, b_ops, b_bs, b_sizes, b_exported, b_stamp, b_owner, b_lengths, upd b_elements (4 * π o + i) (b_places (8 * n + 2 + (e + 2))), b_lasting, b_shared, b_roots, b_oldStamp, b_oldElements, b_oldShared, b_oldRoots, b_rows, upd b_nexts n (nI (p + 1)), upd b_depths n (nI e), b_places, b_kinds, b_met, b_todo, b_heights)) hn (by omega) (fun post hp => hy_iO hn hm hp16 hL2 hsL er en eop rfl (by decide) (by decide) (hy_ob (jr := 2) (ji := 1) (er := e) (ei := e + 1) hn hm (by omega) hq8 (by decide) er ed rfl ey (fun _ => hy_123 hq8 ezY hz4 (Or.inr rfl) (fun w => absurd ⟨i, hi, eyi⟩ w) (fun i' hi' e' => by rw [inj i' hi' (q1.1.symm.trans e')]; exact hy_14513 hq8 (fun _ => hy_18613 hn (by omega) hq8 (by omega) hvY ed en hp) (fun w => absurd zlY w) (fun w => absurd zlY w))) (fun w => absurd acY w))) (IH (s + 1) _ _ (by omega) (hm_mk (hm_goO h (by omega) hsL (fun i hi => rfl) (fun i hi => rfl) (fun i hi => rfl) (fun f hf => ⟨pk_un (by omega), pk_un (by omega)⟩) pk_us pk_us (hf_Sle hS (by omega)) hN' ?_))))
          rw [q0.1]
          exact hO'
        · have zlY : ¬ b_lasting (π o) = 0 := by rw [← hla]; exact zl
          by_cases za : f_awaited = 0
          · exact hl_fail (st := 9) (by decide) h hsL (fun post hp => hx_i hm hp16 hL2 hsL eq rfl (br_t (by decide) (br_f (by decide) (hx_g13 hn (by omega) hm ho8 ex rfl q0.2 ez hz4 (fun w => absurd ac w) (fun _ w => absurd ⟨i, hi, exi⟩ w) (fun _ _ _ _ w => absurd w zl) (fun _ _ _ _ _ _ => hp) (fun _ _ _ _ _ w => absurd za w))))) (fun aw wh bel bsh bro hE' post hp => hy_iO hn hm hp16 hL2 hsL er en eop rfl (by decide) (by decide) (hy_ob (jr := 2) (ji := 1) (er := e) (ei := e + 1) hn hm (by omega) hq8 (by decide) er ed rfl ey (fun _ => hy_123 hq8 ezY hz4 (Or.inr rfl) (fun w => absurd ⟨i, hi, eyi⟩ w) (fun i' hi' e' => hy_14513 hq8 (fun w => absurd w zlY) (fun _ _ => hE' _ (br_t rfl hp)) (fun _ w => absurd za w))) (fun w => absurd acY w)))
          · obtain ⟨lg, lc, lo, ld, hNt, hO'⟩ := hm_noteE (f_limit := nI L) (f_pending := f_pending) (f_wide := f_wide) (f_waiting := f_waiting) (f_height := f_height) (f_entries := f_entries) (f_locals := f_locals) (f_awaited := hw_aw f_awaited) (f_frames := nI (n + 1)) (f_sp := nI (6 * n + 2 + (e + 3))) (f_base := nI (6 * n)) (f_pc := nI p) (f_method := nI m) (f_steps := nI (s + 1)) (f_status := 0) (f_lastResult := 0) (f_lastPlace := -1) (a_ops := a_ops) (a_args := a_args) (a_quick := a_quick) (a_length := a_length) (a_exported := a_exported) (a_known := a_known) (a_slot := a_slot) (a_frameMethod := a_frameMethod) (a_framePc := a_framePc) (ho := ho) (show i < 4 by omega) zl hOO
            refine hl_Xs (u1 := (nI L, f_pending, f_wide, f_waiting, f_height, f_entries, f_locals, lg, f_open, hw_aw f_awaited, nI (n + 1), nI (6 * n + 2 + e), nI (6 * n), nI (p + 1), nI m, nI (s + 1), 0, 0, -1, a_ops, a_args, a_quick, a_length, a_exported, a_known, a_alive, a_fresh, a_lasting, a_shared, a_owner, a_size, upd a_element (4 * o + i) (a_slot (6 * n + 2 + (e + 2))), a_roots, lc, lo, ld, a_slot, a_frameMethod, a_framePc)) hn (fun post hp => hx_i hm hp16 hL2 hsL eq rfl (br_t (by decide) (br_f (by decide) (hx_g13 hn (by omega) hm ho8 ex rfl q0.2 ez hz4 (fun w => absurd ac w) (fun _ w => absurd ⟨i, hi, exi⟩ w) (fun _ _ _ _ w => absurd w zl) (fun _ _ _ _ _ w => absurd w za) (fun _ i' hi' e' _ _ => by rw [inj i' hi' e']; exact ⟨lg, lc, lo, ld, hNt, hp⟩))))) (hl_Ys (v1 := (nI L, g_waiting, g_stack, g_locals, nI (n + 1), nI (s + 1), hw_aw f_awaited, 0, g_where, g_outcome, g_made, g_good, f_open, b_ops, b_bs, b_sizes, b_exported, b_stamp, b_owner, b_lengths, upd b_elements (4 * π o + i) (b_places (8 * n + 2 + (e + 2))), b_lasting, b_shared, b_roots, b_oldStamp, b_oldElements, b_oldShared, b_oldRoots, b_rows, upd b_nexts n (nI (p + 1)), upd b_depths n (nI e), b_places, b_kinds, b_met, b_todo, b_heights)) hn (by omega) (fun post hp => hy_iO hn hm hp16 hL2 hsL er en eop rfl (by decide) (by decide) (hy_ob (jr := 2) (ji := 1) (er := e) (ei := e + 1) hn hm (by omega) hq8 (by decide) er ed rfl ey (fun _ => hy_123 hq8 ezY hz4 (Or.inr rfl) (fun w => absurd ⟨i, hi, eyi⟩ w) (fun i' hi' e' => by rw [inj i' hi' (q1.1.symm.trans e')]; exact hy_14513 hq8 (fun w => absurd w zlY) (fun _ w => absurd w za) (fun _ _ => hy_18613 (f_awaited := hw_aw f_awaited) hn (by omega) hq8 (by omega) hvY ed en hp))) (fun w => absurd acY w))) (IH (s + 1) _ _ (by omega) (hm_mk (hm_goO h (by omega) hsL (fun i hi => rfl) (fun i hi => rfl) (fun i hi => rfl) (fun f hf => ⟨pk_un (by omega), pk_un (by omega)⟩) pk_us pk_us (hf_Sle hS (by omega)) hN' ?_))))
            rw [q0.1]
            exact hO' _ q0.2
      · have bdY : ¬ ∃ i, i < z ∧ b_places (8 * n + 2 + (e + 1)) = nI i := fun ⟨i, hi, e'⟩ => bd ⟨i, hi, q1.1.symm.trans e'⟩
        exact hl_fail (st := 4) (by decide) h hsL (fun post hp => hx_i hm hp16 hL2 hsL eq rfl (br_t (by decide) (br_f (by decide) (hx_g13 hn (by omega) hm ho8 ex rfl q0.2 ez hz4 (fun w => absurd ac w) (fun _ _ => hp) (fun _ i' hi' e' => absurd ⟨i', hi', e'⟩ bd) (fun _ i' hi' e' => absurd ⟨i', hi', e'⟩ bd) (fun _ i' hi' e' => absurd ⟨i', hi', e'⟩ bd))))) (fun aw wh bel bsh bro hE' post hp => hy_iO hn hm hp16 hL2 hsL er en eop rfl (by decide) (by decide) (hy_ob (jr := 2) (ji := 1) (er := e) (ei := e + 1) hn hm (by omega) hq8 (by decide) er ed rfl ey (fun _ => hy_123 hq8 ezY hz4 (Or.inr rfl) (fun _ => hE' _ hp) (fun i' hi' e' => absurd ⟨i', hi', e'⟩ bdY)) (fun w => absurd acY w)))
    · have acY : ¬ (b_owner (π o) = nI (m / 2) ∨ (13 ≠ 14 ∧ ¬ b_shared (π o) = 0)) := by
        rw [← how, ← hsh]; exact fun w => ac (w.elim Or.inl (fun w => Or.inr ⟨rfl, w.2⟩))
      exact hl_fail (st := 3) (by decide) h hsL (fun post hp => hx_i hm hp16 hL2 hsL eq rfl (br_t (by decide) (br_f (by decide) (hx_g13 hn (by omega) hm ho8 ex rfl q0.2 ez hz4 (fun _ => hp) (fun w => absurd w ac) (fun w => absurd w ac) (fun w => absurd w ac) (fun w => absurd w ac))))) (fun aw wh bel bsh bro hE' post hp => hy_iO hn hm hp16 hL2 hsL er en eop rfl (by decide) (by decide) (hy_ob (jr := 2) (ji := 1) (er := e) (ei := e + 1) hn hm (by omega) hq8 (by decide) er ed rfl ey (fun w => absurd w acY) (fun _ => hE' _ hp)))
end
end
section
/-! ===== lockstep: transactions ===== -/
def hx_z (N : Nat) (a : Nat → Int32) : Nat → Int32 := fun i => if i < N then 0 else a i
theorem hx_z0 (a : Nat → Int32) : hx_z 0 a = a := funext (fun i => if_neg (by omega))
theorem hx_zs {a : Nat → Int32} {j : Nat} : upd (hx_z j a) j 0 = hx_z (j + 1) a := by
  funext i
  by_cases z : i = j
  · subst z; rw [pk_us]; exact (if_pos (by omega)).symm
  · rw [pk_un z]; unfold hx_z
    by_cases y : i < j
    · rw [if_pos y, if_pos (by omega)]
    · rw [if_neg y, if_neg (by omega)]
def hy_cp (N : Nat) (a b : Nat → Int32) : Nat → Int32 := fun i => if i < N then a i else b i
def hy_cpL (N : Nat) (a b : Nat → Int64) : Nat → Int64 := fun i => if i < N then a i else b i
theorem hy_cp0 (a b : Nat → Int32) : hy_cp 0 a b = b := funext (fun i => if_neg (by omega))
theorem hy_cpL0 (a b : Nat → Int64) : hy_cpL 0 a b = b := funext (fun i => if_neg (by omega))
theorem hy_cps {a b : Nat → Int32} {j : Nat} {x : Int32} (hx : x = a j) : upd (hy_cp j a b) j x = hy_cp (j + 1) a b := by
  funext i
  by_cases z : i = j
  · subst z; rw [pk_us, hx]; exact (if_pos (by omega)).symm
  · rw [pk_un z]; unfold hy_cp
    by_cases y : i < j
    · rw [if_pos y, if_pos (by omega)]
    · rw [if_neg y, if_neg (by omega)]
theorem hy_cpLs {a b : Nat → Int64} {j : Nat} {x : Int64} (hx : x = a j) : vp_updL (hy_cpL j a b) j x = hy_cpL (j + 1) a b := by
  funext i
  by_cases z : i = j
  · subst z; rw [pk_uLs, hx]; exact (if_pos (by omega)).symm
  · rw [pk_uLn z]; unfold hy_cpL
    by_cases y : i < j
    · rw [if_pos y, if_pos (by omega)]
    · rw [if_neg y, if_neg (by omega)]
section
variable {f_limit f_pending f_wide f_waiting f_height f_entries f_locals f_logLength f_open f_awaited f_frames f_sp f_base f_pc f_method f_steps f_status f_lastResult f_lastPlace : Int32} {a_ops a_args a_quick a_length a_exported a_known a_alive a_fresh a_lasting a_shared a_owner a_size a_element a_roots a_logCell a_logOld a_logged a_slot a_frameMethod a_framePc : Nat → Int32}
variable {L s n m p d e : Nat} {P : SX → Prop}
theorem hx_begin (H : P (f_limit, f_pending, f_wide, f_waiting, f_height, f_entries, f_locals, 0, 1, f_awaited, f_frames, f_sp, f_base, f_pc, f_method, f_steps, f_status, f_lastResult, f_lastPlace, a_ops, a_args, a_quick, a_length, a_exported, a_known, a_alive, hx_z 8 a_fresh, a_lasting, a_shared, a_owner, a_size, a_element, a_roots, a_logCell, a_logOld, hx_z 46 a_logged, a_slot, a_frameMethod, a_framePc)) : wpX_begin P (f_limit, f_pending, f_wide, f_waiting, f_height, f_entries, f_locals, f_logLength, f_open, f_awaited, f_frames, f_sp, f_base, f_pc, f_method, f_steps, f_status, f_lastResult, f_lastPlace, a_ops, a_args, a_quick, a_length, a_exported, a_known, a_alive, a_fresh, a_lasting, a_shared, a_owner, a_size, a_element, a_roots, a_logCell, a_logOld, a_logged, a_slot, a_frameMethod, a_framePc) := by
  have k33 : ∀ (d j : Nat), j + d = 8 → wX_begin_33 P f_limit f_pending f_wide f_waiting f_height f_entries f_locals 0 1 f_awaited f_frames f_sp f_base f_pc f_method f_steps f_status f_lastResult f_lastPlace (d + 1) (nI j) a_ops a_args a_quick a_length a_exported a_known a_alive (hx_z j a_fresh) a_lasting a_shared a_owner a_size a_element a_roots a_logCell a_logOld (hx_z 46 a_logged) a_slot a_frameMethod a_framePc := by
    intro d
    induction d with
    | zero =>
      intro j hj
      have e : j = 8 := by omega
      subst e
      rw [wX_begin_33]
      exact br_t (by decide) H
    | succ d ih =>
      intro j hj
      rw [wX_begin_33]
      have cj : (nI j).toNatClampNeg = j := nI_clamp (by omega)
      refine br_f (nI_ge (b := 8) (by omega) (by decide)) ⟨vp_in_nI (by omega) (by decide), nm_r (e' := hx_z (j + 1) a_fresh) ?_ (nm_r (nI_1 _) (ih (j + 1) (by omega)))⟩
      rw [cj]; exact hx_zs
  have k12 : ∀ (d j : Nat), j + d = 46 → wX_begin_12 P f_limit f_pending f_wide f_waiting f_height f_entries f_locals 0 1 f_awaited f_frames f_sp f_base f_pc f_method f_steps f_status f_lastResult f_lastPlace (d + 1) (nI j) a_ops a_args a_quick a_length a_exported a_known a_alive a_fresh a_lasting a_shared a_owner a_size a_element a_roots a_logCell a_logOld (hx_z j a_logged) a_slot a_frameMethod a_framePc := by
    intro d
    induction d with
    | zero =>
      intro j hj
      have e : j = 46 := by omega
      subst e
      rw [wX_begin_12]
      have := k33 8 0 (by decide)
      rw [hx_z0] at this
      exact br_t (by decide) ⟨8 + 1, this⟩
    | succ d ih =>
      intro j hj
      rw [wX_begin_12]
      have cj : (nI j).toNatClampNeg = j := nI_clamp (by omega)
      refine br_f (nI_ge (b := 46) (by omega) (by decide)) ⟨vp_in_nI (by omega) (by decide), nm_r (e' := hx_z (j + 1) a_logged) ?_ (nm_r (nI_1 _) (ih (j + 1) (by omega)))⟩
      rw [cj]; exact hx_zs
  unfold wpX_begin
  have := k12 46 0 (by decide)
  rw [hx_z0] at this
  exact ⟨46 + 1, this⟩
theorem hx_c22 (H1 : f_open = 0 → P (nI L, f_pending, f_wide, f_waiting, f_height, f_entries, f_locals, 0, 1, f_awaited, nI (n + 1), nI (6 * n + 2 + d), nI (6 * n), nI (p + 1), nI m, nI s, 0, 0, -1, a_ops, a_args, a_quick, a_length, a_exported, a_known, a_alive, hx_z 8 a_fresh, a_lasting, a_shared, a_owner, a_size, a_element, a_roots, a_logCell, a_logOld, hx_z 46 a_logged, a_slot, a_frameMethod, a_framePc)) (H0 : ¬ f_open = 0 → P (nI L, f_pending, f_wide, f_waiting, f_height, f_entries, f_locals, f_logLength, f_open, f_awaited, nI (n + 1), nI (6 * n + 2 + d), nI (6 * n), nI p, nI m, nI s, 8, 0, -1, a_ops, a_args, a_quick, a_length, a_exported, a_known, a_alive, a_fresh, a_lasting, a_shared, a_owner, a_size, a_element, a_roots, a_logCell, a_logOld, a_logged, a_slot, a_frameMethod, a_framePc)) : wpX_control P (nI L, f_pending, f_wide, f_waiting, f_height, f_entries, f_locals, f_logLength, f_open, f_awaited, nI (n + 1), nI (6 * n + 2 + d), nI (6 * n), nI p, nI m, nI s, 0, 0, -1, a_ops, a_args, a_quick, a_length, a_exported, a_known, a_alive, a_fresh, a_lasting, a_shared, a_owner, a_size, a_element, a_roots, a_logCell, a_logOld, a_logged, a_slot, a_frameMethod, a_framePc) (nI 22) := by
  unfold wpX_control
  refine br_f (by decide) (br_f (by decide) (br_f (by decide) (br_f (by decide) (br_f (by decide) (br_t (by decide) ?_)))))
  unfold wX_control_147
  exact br_c (fun z => hx_begin (br_t rfl (nm_r (nI_1 _) (H1 z)))) (fun z => br_f (by decide) (H0 z))
theorem hx_c23 (H0 : f_open = 0 → P (nI L, f_pending, f_wide, f_waiting, f_height, f_entries, f_locals, f_logLength, f_open, f_awaited, nI (n + 1), nI (6 * n + 2 + d), nI (6 * n), nI p, nI m, nI s, 8, 0, -1, a_ops, a_args, a_quick, a_length, a_exported, a_known, a_alive, a_fresh, a_lasting, a_shared, a_owner, a_size, a_element, a_roots, a_logCell, a_logOld, a_logged, a_slot, a_frameMethod, a_framePc)) (HT : ¬ f_open = 0 → f_awaited = 0 → P (nI L, f_pending, f_wide, f_waiting, f_height, f_entries, f_locals, f_logLength, f_open, f_awaited, nI (n + 1), nI (6 * n + 2 + d), nI (6 * n), nI p, nI m, nI s, 9, 0, -1, a_ops, a_args, a_quick, a_length, a_exported, a_known, a_alive, a_fresh, a_lasting, a_shared, a_owner, a_size, a_element, a_roots, a_logCell, a_logOld, a_logged, a_slot, a_frameMethod, a_framePc)) (H1 : ¬ f_open = 0 → ¬ f_awaited = 0 → P (nI L, f_pending, f_wide, f_waiting, f_height, f_entries, f_locals, f_logLength, 0, hw_aw f_awaited, nI (n + 1), nI (6 * n + 2 + d), nI (6 * n), nI (p + 1), nI m, nI s, 0, 0, -1, a_ops, a_args, a_quick, a_length, a_exported, a_known, a_alive, a_fresh, a_lasting, a_shared, a_owner, a_size, a_element, a_roots, a_logCell, a_logOld, a_logged, a_slot, a_frameMethod, a_framePc)) : wpX_control P (nI L, f_pending, f_wide, f_waiting, f_height, f_entries, f_locals, f_logLength, f_open, f_awaited, nI (n + 1), nI (6 * n + 2 + d), nI (6 * n), nI p, nI m, nI s, 0, 0, -1, a_ops, a_args, a_quick, a_length, a_exported, a_known, a_alive, a_fresh, a_lasting, a_shared, a_owner, a_size, a_element, a_roots, a_logCell, a_logOld, a_logged, a_slot, a_frameMethod, a_framePc) (nI 23) := by
  unfold wpX_control
  refine br_f (by decide) (br_t (by decide) ?_)
  unfold wX_control_147
  exact br_c (fun z => br_f (by decide) (H0 z)) (fun z => br_f (by decide) (hx_due (fun w => br_t rfl (br_f (by decide) (HT z w))) (fun w => br_f (by decide) (br_t rfl (nm_r (nI_1 _) (H1 z w))))))
theorem hx_c24 {lg : Int32} {sh el ro : Nat → Int32} (hU : ¬ f_open = 0 → ∀ Q : SX → Prop, Q (nI L, f_pending, f_wide, f_waiting, f_height, f_entries, f_locals, lg, 0, f_awaited, nI (n + 1), nI (6 * n + 2 + d), nI (6 * n), nI p, nI m, nI s, 0, 0, -1, a_ops, a_args, a_quick, a_length, a_exported, a_known, a_alive, a_fresh, a_lasting, sh, a_owner, a_size, el, ro, a_logCell, a_logOld, a_logged, a_slot, a_frameMethod, a_framePc) → wpX_undo Q (nI L, f_pending, f_wide, f_waiting, f_height, f_entries, f_locals, f_logLength, f_open, f_awaited, nI (n + 1), nI (6 * n + 2 + d), nI (6 * n), nI p, nI m, nI s, 0, 0, -1, a_ops, a_args, a_quick, a_length, a_exported, a_known, a_alive, a_fresh, a_lasting, a_shared, a_owner, a_size, a_element, a_roots, a_logCell, a_logOld, a_logged, a_slot, a_frameMethod, a_framePc)) (H0 : f_open = 0 → P (nI L, f_pending, f_wide, f_waiting, f_height, f_entries, f_locals, f_logLength, f_open, f_awaited, nI (n + 1), nI (6 * n + 2 + d), nI (6 * n), nI p, nI m, nI s, 8, 0, -1, a_ops, a_args, a_quick, a_length, a_exported, a_known, a_alive, a_fresh, a_lasting, a_shared, a_owner, a_size, a_element, a_roots, a_logCell, a_logOld, a_logged, a_slot, a_frameMethod, a_framePc)) (H1 : ¬ f_open = 0 → P (nI L, f_pending, f_wide, f_waiting, f_height, f_entries, f_locals, lg, 0, f_awaited, nI (n + 1), nI (6 * n + 2 + d), nI (6 * n), nI (p + 1), nI m, nI s, 0, 0, -1, a_ops, a_args, a_quick, a_length, a_exported, a_known, a_alive, a_fresh, a_lasting, sh, a_owner, a_size, el, ro, a_logCell, a_logOld, a_logged, a_slot, a_frameMethod, a_framePc)) : wpX_control P (nI L, f_pending, f_wide, f_waiting, f_height, f_entries, f_locals, f_logLength, f_open, f_awaited, nI (n + 1), nI (6 * n + 2 + d), nI (6 * n), nI p, nI m, nI s, 0, 0, -1, a_ops, a_args, a_quick, a_length, a_exported, a_known, a_alive, a_fresh, a_lasting, a_shared, a_owner, a_size, a_element, a_roots, a_logCell, a_logOld, a_logged, a_slot, a_frameMethod, a_framePc) (nI 24) := by
  unfold wpX_control
  refine br_f (by decide) (br_t (by decide) ?_)
  unfold wX_control_147
  exact br_c (fun z => br_f (by decide) (H0 z)) (fun z => br_t (by decide) (hU z _ (br_t rfl (nm_r (nI_1 _) (H1 z)))))
end
section
variable {g_limit g_waiting g_stack g_locals g_running g_steps g_awaited g_answer g_where g_outcome : Int32} {g_made : Int64} {g_good g_open : Int32} {b_ops b_bs b_sizes b_exported : Nat → Int32} {b_stamp : Nat → Int64} {b_owner b_lengths b_elements b_lasting b_shared b_roots : Nat → Int32} {b_oldStamp : Nat → Int64} {b_oldElements b_oldShared b_oldRoots b_rows b_nexts b_depths b_places b_kinds b_met b_todo b_heights : Nat → Int32}
variable {f_open f_awaited : Int32}
variable {L s n m p d e : Nat} {P : SY → Prop}
theorem hy_begin (hE : ca_Sh b_elements) (hB : ca_B b_shared) (H : P (g_limit, g_waiting, g_stack, g_locals, g_running, g_steps, g_awaited, g_answer, g_where, g_outcome, g_made, g_good, 1, b_ops, b_bs, b_sizes, b_exported, b_stamp, b_owner, b_lengths, b_elements, b_lasting, b_shared, b_roots, hy_cpL 8 b_stamp b_oldStamp, hy_cp 32 b_elements b_oldElements, hy_cp 8 b_shared b_oldShared, hy_cp 6 b_roots b_oldRoots, b_rows, b_nexts, b_depths, b_places, b_kinds, b_met, b_todo, b_heights)) : wpY_begin P (g_limit, g_waiting, g_stack, g_locals, g_running, g_steps, g_awaited, g_answer, g_where, g_outcome, g_made, g_good, g_open, b_ops, b_bs, b_sizes, b_exported, b_stamp, b_owner, b_lengths, b_elements, b_lasting, b_shared, b_roots, b_oldStamp, b_oldElements, b_oldShared, b_oldRoots, b_rows, b_nexts, b_depths, b_places, b_kinds, b_met, b_todo, b_heights) := by
  have k71 : ∀ (d j : Nat), j + d = 6 → wY_begin_71 P g_limit g_waiting g_stack g_locals g_running g_steps g_awaited g_answer g_where g_outcome g_made g_good 1 (d + 1) (nI j) b_ops b_bs b_sizes b_exported b_stamp b_owner b_lengths b_elements b_lasting b_shared b_roots (hy_cpL 8 b_stamp b_oldStamp) (hy_cp 32 b_elements b_oldElements) (hy_cp 8 b_shared b_oldShared) (hy_cp j b_roots b_oldRoots) b_rows b_nexts b_depths b_places b_kinds b_met b_todo b_heights := by
    intro d
    induction d with
    | zero =>
      intro j hj
      have e : j = 6 := by omega
      subst e
      rw [wY_begin_71]
      exact br_t (by decide) H
    | succ d ih =>
      intro j hj
      rw [wY_begin_71]
      have cj : (nI j).toNatClampNeg = j := nI_clamp (by omega)
      have vj : vp_in (nI j) 6 := vp_in_nI (by omega) (by decide)
      refine br_f (nI_ge (b := 6) (by omega) (by decide)) ⟨vj, vj, nm_r (e' := hy_cp (j + 1) b_roots b_oldRoots) ?_ (nm_r (nI_1 _) (ih (j + 1) (by omega)))⟩
      rw [cj]; exact hy_cps rfl
  have k45 : ∀ (d j : Nat), j + d = 32 → wY_begin_45 P g_limit g_waiting g_stack g_locals g_running g_steps g_awaited g_answer g_where g_outcome g_made g_good 1 (d + 1) (nI j) b_ops b_bs b_sizes b_exported b_stamp b_owner b_lengths b_elements b_lasting b_shared b_roots (hy_cpL 8 b_stamp b_oldStamp) (hy_cp j b_elements b_oldElements) (hy_cp 8 b_shared b_oldShared) b_oldRoots b_rows b_nexts b_depths b_places b_kinds b_met b_todo b_heights := by
    intro d
    induction d with
    | zero =>
      intro j hj
      have e : j = 32 := by omega
      subst e
      rw [wY_begin_45]
      have := k71 6 0 (by decide)
      rw [hy_cp0] at this
      exact br_t (by decide) ⟨6 + 1, this⟩
    | succ d ih =>
      intro j hj
      rw [wY_begin_45]
      have cj : (nI j).toNatClampNeg = j := nI_clamp (by omega)
      have vj : vp_in (nI j) 32 := vp_in_nI (by omega) (by decide)
      refine br_f (nI_ge (b := 32) (by omega) (by decide)) ⟨vj, vj, nm_r (e' := hy_cp (j + 1) b_elements b_oldElements) ?_ (nm_r (nI_1 _) (ih (j + 1) (by omega)))⟩
      rw [cj]; exact hy_cps (ca_ns (hE j))
  have k7 : ∀ (d j : Nat), j + d = 8 → wY_begin_7 P g_limit g_waiting g_stack g_locals g_running g_steps g_awaited g_answer g_where g_outcome g_made g_good 1 (d + 1) (nI j) b_ops b_bs b_sizes b_exported b_stamp b_owner b_lengths b_elements b_lasting b_shared b_roots (hy_cpL j b_stamp b_oldStamp) b_oldElements (hy_cp j b_shared b_oldShared) b_oldRoots b_rows b_nexts b_depths b_places b_kinds b_met b_todo b_heights := by
    intro d
    induction d with
    | zero =>
      intro j hj
      have e : j = 8 := by omega
      subst e
      rw [wY_begin_7]
      have := k45 32 0 (by decide)
      rw [hy_cp0] at this
      exact br_t (by decide) ⟨32 + 1, this⟩
    | succ d ih =>
      intro j hj
      rw [wY_begin_7]
      have cj : (nI j).toNatClampNeg = j := nI_clamp (by omega)
      have vj : vp_in (nI j) 8 := vp_in_nI (by omega) (by decide)
      refine br_f (nI_ge (b := 8) (by omega) (by decide)) ⟨vj, vj, nm_r (e' := hy_cpL (j + 1) b_stamp b_oldStamp) ?_ ⟨vj, vj, nm_r (e' := hy_cp (j + 1) b_shared b_oldShared) ?_ (nm_r (nI_1 _) (ih (j + 1) (by omega)))⟩⟩
      · rw [cj]; exact hy_cpLs rfl
      · rw [cj]; exact hy_cps (ca_nb (hB j))
  unfold wpY_begin
  have := k7 8 0 (by decide)
  rw [hy_cp0, hy_cpL0] at this
  exact ⟨8 + 1, this⟩
theorem hy_oE {op : Nat} {b : Int32} (ho : op = 22 ∨ op = 23 ∨ op = 24) (hop : f_open = 0 ∨ f_open = 1) (hbad : (op = 22 ∧ f_open = 1) ∨ (op ≠ 22 ∧ f_open = 0)) (H : wpY_end (fun u => match u with | (g_limit, g_waiting, g_stack, g_locals, g_running, g_steps, g_awaited, g_answer, g_where, g_outcome, g_made, g_good, g_open, b_ops, b_bs, b_sizes, b_exported, b_stamp, b_owner, b_lengths, b_elements, b_lasting, b_shared, b_roots, b_oldStamp, b_oldElements, b_oldShared, b_oldRoots, b_rows, b_nexts, b_depths, b_places, b_kinds, b_met, b_todo, b_heights) => (((0 : Int32) = 0 → P (g_limit, g_waiting, g_stack, g_locals, g_running, g_steps, g_awaited, g_answer, g_where, g_outcome, g_made, g_good, g_open, b_ops, b_bs, b_sizes, b_exported, b_stamp, b_owner, b_lengths, b_elements, b_lasting, b_shared, b_roots, b_oldStamp, b_oldElements, b_oldShared, b_oldRoots, b_rows, b_nexts, b_depths, b_places, b_kinds, b_met, b_todo, b_heights)) ∧ (¬ (0 : Int32) = 0 → wY_other_222 P g_limit g_waiting g_stack g_locals g_running g_steps g_awaited g_answer g_where g_outcome g_made g_good g_open b_ops b_bs b_sizes b_exported b_stamp b_owner b_lengths b_elements b_lasting b_shared b_roots b_oldStamp b_oldElements b_oldShared b_oldRoots b_rows b_nexts b_depths b_places b_kinds b_met b_todo b_heights))) (nI L, g_waiting, g_stack, g_locals, nI (n + 1), nI s, f_awaited, 0, g_where, g_outcome, g_made, g_good, f_open, b_ops, b_bs, b_sizes, b_exported, b_stamp, b_owner, b_lengths, b_elements, b_lasting, b_shared, b_roots, b_oldStamp, b_oldElements, b_oldShared, b_oldRoots, b_rows, b_nexts, b_depths, b_places, b_kinds, b_met, b_todo, b_heights) 8) : wpY_other P (nI L, g_waiting, g_stack, g_locals, nI (n + 1), nI s, f_awaited, 0, g_where, g_outcome, g_made, g_good, f_open, b_ops, b_bs, b_sizes, b_exported, b_stamp, b_owner, b_lengths, b_elements, b_lasting, b_shared, b_roots, b_oldStamp, b_oldElements, b_oldShared, b_oldRoots, b_rows, b_nexts, b_depths, b_places, b_kinds, b_met, b_todo, b_heights) (nI op) b := by
  have k : ∀ z0, z0 = f_open → wY_transaction_15 (fun r_3 u => match u with | (g_limit, g_waiting, g_stack, g_locals, g_running, g_steps, g_awaited, g_answer, g_where, g_outcome, g_made, g_good, g_open, b_ops, b_bs, b_sizes, b_exported, b_stamp, b_owner, b_lengths, b_elements, b_lasting, b_shared, b_roots, b_oldStamp, b_oldElements, b_oldShared, b_oldRoots, b_rows, b_nexts, b_depths, b_places, b_kinds, b_met, b_todo, b_heights) => (((r_3 = 0 → (P (g_limit, g_waiting, g_stack, g_locals, g_running, g_steps, g_awaited, g_answer, g_where, g_outcome, g_made, g_good, g_open, b_ops, b_bs, b_sizes, b_exported, b_stamp, b_owner, b_lengths, b_elements, b_lasting, b_shared, b_roots, b_oldStamp, b_oldElements, b_oldShared, b_oldRoots, b_rows, b_nexts, b_depths, b_places, b_kinds, b_met, b_todo, b_heights))) ∧ (¬ r_3 = 0 → (wY_other_222 P g_limit g_waiting g_stack g_locals g_running g_steps g_awaited g_answer g_where g_outcome g_made g_good g_open b_ops b_bs b_sizes b_exported b_stamp b_owner b_lengths b_elements b_lasting b_shared b_roots b_oldStamp b_oldElements b_oldShared b_oldRoots b_rows b_nexts b_depths b_places b_kinds b_met b_todo b_heights))))) (nI op) z0 f_open (nI L) g_waiting g_stack g_locals (nI (n + 1)) (nI s) f_awaited 0 g_where g_outcome g_made g_good f_open b_ops b_bs b_sizes b_exported b_stamp b_owner b_lengths b_elements b_lasting b_shared b_roots b_oldStamp b_oldElements b_oldShared b_oldRoots b_rows b_nexts b_depths b_places b_kinds b_met b_todo b_heights := fun z0 e => by
    unfold wY_transaction_15
    exact br_t e.symm H
  have kt : wpY_transaction (fun r_3 u => match u with | (g_limit, g_waiting, g_stack, g_locals, g_running, g_steps, g_awaited, g_answer, g_where, g_outcome, g_made, g_good, g_open, b_ops, b_bs, b_sizes, b_exported, b_stamp, b_owner, b_lengths, b_elements, b_lasting, b_shared, b_roots, b_oldStamp, b_oldElements, b_oldShared, b_oldRoots, b_rows, b_nexts, b_depths, b_places, b_kinds, b_met, b_todo, b_heights) => (((r_3 = 0 → (P (g_limit, g_waiting, g_stack, g_locals, g_running, g_steps, g_awaited, g_answer, g_where, g_outcome, g_made, g_good, g_open, b_ops, b_bs, b_sizes, b_exported, b_stamp, b_owner, b_lengths, b_elements, b_lasting, b_shared, b_roots, b_oldStamp, b_oldElements, b_oldShared, b_oldRoots, b_rows, b_nexts, b_depths, b_places, b_kinds, b_met, b_todo, b_heights))) ∧ (¬ r_3 = 0 → (wY_other_222 P g_limit g_waiting g_stack g_locals g_running g_steps g_awaited g_answer g_where g_outcome g_made g_good g_open b_ops b_bs b_sizes b_exported b_stamp b_owner b_lengths b_elements b_lasting b_shared b_roots b_oldStamp b_oldElements b_oldShared b_oldRoots b_rows b_nexts b_depths b_places b_kinds b_met b_todo b_heights))))) (nI L, g_waiting, g_stack, g_locals, nI (n + 1), nI s, f_awaited, 0, g_where, g_outcome, g_made, g_good, f_open, b_ops, b_bs, b_sizes, b_exported, b_stamp, b_owner, b_lengths, b_elements, b_lasting, b_shared, b_roots, b_oldStamp, b_oldElements, b_oldShared, b_oldRoots, b_rows, b_nexts, b_depths, b_places, b_kinds, b_met, b_todo, b_heights) (nI op) := by
    unfold wpY_transaction
    rcases hbad with ⟨rfl, e⟩ | ⟨hne, e⟩
    · exact br_t rfl (k 1 e.symm)
    · exact br_f (fun q => hne ((nI_eq (b := 22) (by omega) (by decide)).mp q)) (k 0 e.symm)
  unfold wpY_other
  rcases ho with rfl | rfl | rfl
  · refine br_f (by decide) (br_t (by decide) ?_)
    unfold wY_other_213
    exact kt
  · refine br_f (by decide) (br_t (by decide) ?_)
    unfold wY_other_213
    exact kt
  · refine br_f (by decide) (br_t (by decide) ?_)
    unfold wY_other_213
    exact kt
theorem hy_o22 {b : Int32} (hn : n < 4) (en : b_nexts n = nI p) (hop : f_open = 0) (hE : ca_Sh b_elements) (hB : ca_B b_shared) (H : P (nI L, g_waiting, g_stack, g_locals, nI (n + 1), nI s, f_awaited, 0, g_where, g_outcome, g_made, g_good, 1, b_ops, b_bs, b_sizes, b_exported, b_stamp, b_owner, b_lengths, b_elements, b_lasting, b_shared, b_roots, hy_cpL 8 b_stamp b_oldStamp, hy_cp 32 b_elements b_oldElements, hy_cp 8 b_shared b_oldShared, hy_cp 6 b_roots b_oldRoots, b_rows, upd b_nexts n (nI (p + 1)), b_depths, b_places, b_kinds, b_met, b_todo, b_heights)) : wpY_other P (nI L, g_waiting, g_stack, g_locals, nI (n + 1), nI s, f_awaited, 0, g_where, g_outcome, g_made, g_good, f_open, b_ops, b_bs, b_sizes, b_exported, b_stamp, b_owner, b_lengths, b_elements, b_lasting, b_shared, b_roots, b_oldStamp, b_oldElements, b_oldShared, b_oldRoots, b_rows, b_nexts, b_depths, b_places, b_kinds, b_met, b_todo, b_heights) (nI 22) b := by
  unfold wpY_other
  refine br_f (by decide) (br_t (by decide) ?_)
  unfold wY_other_213 wpY_transaction
  refine br_t rfl ?_
  unfold wY_transaction_15
  refine br_f (by rw [hop]; decide) (br_t rfl (hy_begin hE hB (br_f (by decide) ?_)))
  unfold wY_other_222
  exact hy_on hn en H
theorem hy_o23 {b : Int32} (hn : n < 4) (en : b_nexts n = nI p) (hop : f_open = 1) (H0 : f_awaited = 0 → wpY_end (fun u => match u with | (g_limit, g_waiting, g_stack, g_locals, g_running, g_steps, g_awaited, g_answer, g_where, g_outcome, g_made, g_good, g_open, b_ops, b_bs, b_sizes, b_exported, b_stamp, b_owner, b_lengths, b_elements, b_lasting, b_shared, b_roots, b_oldStamp, b_oldElements, b_oldShared, b_oldRoots, b_rows, b_nexts, b_depths, b_places, b_kinds, b_met, b_todo, b_heights) => (((0 : Int32) = 0 → (((0 : Int32) = 0 → P (g_limit, g_waiting, g_stack, g_locals, g_running, g_steps, g_awaited, g_answer, g_where, g_outcome, g_made, g_good, g_open, b_ops, b_bs, b_sizes, b_exported, b_stamp, b_owner, b_lengths, b_elements, b_lasting, b_shared, b_roots, b_oldStamp, b_oldElements, b_oldShared, b_oldRoots, b_rows, b_nexts, b_depths, b_places, b_kinds, b_met, b_todo, b_heights)) ∧ (¬ (0 : Int32) = 0 → wY_other_222 P g_limit g_waiting g_stack g_locals g_running g_steps g_awaited g_answer g_where g_outcome g_made g_good g_open b_ops b_bs b_sizes b_exported b_stamp b_owner b_lengths b_elements b_lasting b_shared b_roots b_oldStamp b_oldElements b_oldShared b_oldRoots b_rows b_nexts b_depths b_places b_kinds b_met b_todo b_heights))) ∧ (¬ (0 : Int32) = 0 → (((1 : Int32) = 0 → P (g_limit, g_waiting, g_stack, g_locals, g_running, g_steps, g_awaited, g_answer, g_where, g_outcome, g_made, g_good, 0, b_ops, b_bs, b_sizes, b_exported, b_stamp, b_owner, b_lengths, b_elements, b_lasting, b_shared, b_roots, b_oldStamp, b_oldElements, b_oldShared, b_oldRoots, b_rows, b_nexts, b_depths, b_places, b_kinds, b_met, b_todo, b_heights)) ∧ (¬ (1 : Int32) = 0 → wY_other_222 P g_limit g_waiting g_stack g_locals g_running g_steps g_awaited g_answer g_where g_outcome g_made g_good 0 b_ops b_bs b_sizes b_exported b_stamp b_owner b_lengths b_elements b_lasting b_shared b_roots b_oldStamp b_oldElements b_oldShared b_oldRoots b_rows b_nexts b_depths b_places b_kinds b_met b_todo b_heights))))) (nI L, g_waiting, g_stack, g_locals, nI (n + 1), nI s, f_awaited, 0, g_where, g_outcome, g_made, g_good, f_open, b_ops, b_bs, b_sizes, b_exported, b_stamp, b_owner, b_lengths, b_elements, b_lasting, b_shared, b_roots, b_oldStamp, b_oldElements, b_oldShared, b_oldRoots, b_rows, b_nexts, b_depths, b_places, b_kinds, b_met, b_todo, b_heights) 9) (H1 : ¬ f_awaited = 0 → P (nI L, g_waiting, g_stack, g_locals, nI (n + 1), nI s, hw_aw f_awaited, 0, g_where, g_outcome, g_made, g_good, 0, b_ops, b_bs, b_sizes, b_exported, b_stamp, b_owner, b_lengths, b_elements, b_lasting, b_shared, b_roots, b_oldStamp, b_oldElements, b_oldShared, b_oldRoots, b_rows, upd b_nexts n (nI (p + 1)), b_depths, b_places, b_kinds, b_met, b_todo, b_heights)) : wpY_other P (nI L, g_waiting, g_stack, g_locals, nI (n + 1), nI s, f_awaited, 0, g_where, g_outcome, g_made, g_good, f_open, b_ops, b_bs, b_sizes, b_exported, b_stamp, b_owner, b_lengths, b_elements, b_lasting, b_shared, b_roots, b_oldStamp, b_oldElements, b_oldShared, b_oldRoots, b_rows, b_nexts, b_depths, b_places, b_kinds, b_met, b_todo, b_heights) (nI 23) b := by
  unfold wpY_other
  refine br_f (by decide) (br_t (by decide) ?_)
  unfold wY_other_213 wpY_transaction
  refine br_f (by decide) ?_
  unfold wY_transaction_15
  refine br_f (by rw [hop]; decide) (br_f (by decide) (br_f (by decide) (hy_write H0 (fun z => br_f (by decide) (br_f (by decide) ?_)))))
  unfold wY_other_222
  exact hy_on hn en (H1 z)
theorem hy_o24 {b : Int32} {bel bsh bro : Nat → Int32} (hn : n < 4) (en : b_nexts n = nI p) (hop : f_open = 1) (hU : ∀ Q : SY → Prop, Q (nI L, g_waiting, g_stack, g_locals, nI (n + 1), nI s, f_awaited, 0, g_where, g_outcome, g_made, g_good, 0, b_ops, b_bs, b_sizes, b_exported, b_stamp, b_owner, b_lengths, bel, b_lasting, bsh, bro, b_oldStamp, b_oldElements, b_oldShared, b_oldRoots, b_rows, b_nexts, b_depths, b_places, b_kinds, b_met, b_todo, b_heights) → wpY_undo Q (nI L, g_waiting, g_stack, g_locals, nI (n + 1), nI s, f_awaited, 0, g_where, g_outcome, g_made, g_good, f_open, b_ops, b_bs, b_sizes, b_exported, b_stamp, b_owner, b_lengths, b_elements, b_lasting, b_shared, b_roots, b_oldStamp, b_oldElements, b_oldShared, b_oldRoots, b_rows, b_nexts, b_depths, b_places, b_kinds, b_met, b_todo, b_heights)) (H : P (nI L, g_waiting, g_stack, g_locals, nI (n + 1), nI s, f_awaited, 0, g_where, g_outcome, g_made, g_good, 0, b_ops, b_bs, b_sizes, b_exported, b_stamp, b_owner, b_lengths, bel, b_lasting, bsh, bro, b_oldStamp, b_oldElements, b_oldShared, b_oldRoots, b_rows, upd b_nexts n (nI (p + 1)), b_depths, b_places, b_kinds, b_met, b_todo, b_heights)) : wpY_other P (nI L, g_waiting, g_stack, g_locals, nI (n + 1), nI s, f_awaited, 0, g_where, g_outcome, g_made, g_good, f_open, b_ops, b_bs, b_sizes, b_exported, b_stamp, b_owner, b_lengths, b_elements, b_lasting, b_shared, b_roots, b_oldStamp, b_oldElements, b_oldShared, b_oldRoots, b_rows, b_nexts, b_depths, b_places, b_kinds, b_met, b_todo, b_heights) (nI 24) b := by
  unfold wpY_other
  refine br_f (by decide) (br_t (by decide) ?_)
  unfold wY_other_213 wpY_transaction
  refine br_f (by decide) ?_
  unfold wY_transaction_15
  refine br_f (by rw [hop]; decide) (br_f (by decide) (br_t rfl (hU _ (br_f (by decide) ?_))))
  unfold wY_other_222
  exact hy_on hn en H
end
section
variable {f_limit f_pending f_wide f_waiting f_height f_entries f_locals f_logLength f_open f_awaited f_frames f_sp f_base f_pc f_method f_steps f_status f_lastResult f_lastPlace : Int32} {a_ops a_args a_quick a_length a_exported a_known a_alive a_fresh a_lasting a_shared a_owner a_size a_element a_roots a_logCell a_logOld a_logged a_slot a_frameMethod a_framePc : Nat → Int32} {g_limit g_waiting g_stack g_locals g_running g_steps g_awaited g_answer g_where g_outcome : Int32} {g_made : Int64} {g_good g_open : Int32} {b_ops b_bs b_sizes b_exported : Nat → Int32} {b_stamp : Nat → Int64} {b_owner b_lengths b_elements b_lasting b_shared b_roots : Nat → Int32} {b_oldStamp : Nat → Int64} {b_oldElements b_oldShared b_oldRoots b_rows b_nexts b_depths b_places b_kinds b_met b_todo b_heights : Nat → Int32}
variable {k L s n m p d l : Nat} {kl E π ρ opf bf : Nat → Nat} {H : Nat → Prop}
theorem hm_goT {op1 lg1 : Int32} {fr1 sh1 el1 ro1 ld1 bel1 bsh1 bro1 oel1 osh1 oro1 : Nat → Int32} {ost1 : Nat → Int64} (h : (hm_Q k L s n m p d kl E π ρ H f_pending f_wide f_logLength f_open a_ops a_args a_quick a_length a_exported a_alive a_fresh a_lasting a_shared a_owner a_size a_element a_roots a_logCell a_logOld a_logged a_slot a_frameMethod a_framePc g_made b_ops b_bs b_sizes b_exported b_stamp b_owner b_lengths b_elements b_lasting b_shared b_roots b_oldStamp b_oldElements b_oldShared b_oldRoots b_rows b_nexts b_depths b_places b_kinds)) (hsL : s < L) (hC : hf_C a_ops a_args a_quick b_bs m (p + 1) (hf_A kl E d))
    (hO' : hm_O π ρ H (250 * k + s) op1 lg1 a_alive fr1 a_lasting sh1 a_owner a_size el1 ro1 a_logCell a_logOld ld1 g_made b_stamp b_owner b_lengths bel1 b_lasting bsh1 bro1 ost1 oel1 osh1 oro1) :
    (hm_Q k L (s + 1) n m (p + 1) d kl E π ρ H f_pending f_wide lg1 op1 a_ops a_args a_quick a_length a_exported a_alive fr1 a_lasting sh1 a_owner a_size el1 ro1 a_logCell a_logOld ld1 a_slot a_frameMethod a_framePc g_made b_ops b_bs b_sizes b_exported b_stamp b_owner b_lengths bel1 b_lasting bsh1 bro1 ost1 oel1 osh1 oro1 b_rows (upd b_nexts n (nI (p + 1))) b_depths b_places b_kinds) := by
  obtain ⟨⟨hn, _, hL⟩, hCD, hPD, hU, hT, hO⟩ := h
  exact ⟨⟨hn, hsL, hL⟩, hCD, hPD, hf_Uc hU (fun _ _ => rfl) (fun _ _ => rfl) (fun _ _ => rfl) (fun f hf => ⟨rfl, rfl, rfl, pk_un (by omega), rfl⟩), ⟨hT.1, hT.2.1, hT.2.2.1, pk_us, hT.2.2.2.2.1, hT.2.2.2.2.2.1, hC⟩, hm_Om (by omega) hO'⟩
theorem hm_beg {B : Nat} (hop : f_open = 0) (h : hm_O π ρ H B f_open f_logLength a_alive a_fresh a_lasting a_shared a_owner a_size a_element a_roots a_logCell a_logOld a_logged g_made b_stamp b_owner b_lengths b_elements b_lasting b_shared b_roots b_oldStamp b_oldElements b_oldShared b_oldRoots) :
    hm_O π ρ H B 1 0 a_alive (hx_z 8 a_fresh) a_lasting a_shared a_owner a_size a_element a_roots a_logCell a_logOld (hx_z 46 a_logged) g_made b_stamp b_owner b_lengths b_elements b_lasting b_shared b_roots (hy_cpL 8 b_stamp b_oldStamp) (hy_cp 32 b_elements b_oldElements) (hy_cp 8 b_shared b_oldShared) (hy_cp 6 b_roots b_oldRoots) := by
  obtain ⟨hP, hO, hV, hW, ⟨mm, em, hm, hs1, hs2⟩, hT⟩ := h
  have lz : ∀ x, x < 46 → hx_z 46 a_logged x = 0 := fun x hx => if_pos hx
  have fz : ∀ o, o < 8 → hx_z 8 a_fresh o = 0 := fun o ho => if_pos ho
  refine ⟨hP, hO, hV, hW, ⟨mm, em, hm, hs1, fun _ p hp => by rw [show hy_cpL 8 b_stamp b_oldStamp p = b_stamp p from if_pos hp]; exact hs1 p hp⟩, Or.inr ⟨rfl, 0, fun _ => 0, fun x => if x < 32 then a_element x else if x < 38 then a_roots (x - 32) else a_shared (x - 38), ⟨rfl, by decide⟩, fun j hj => absurd hj (by omega), fun i j hi => absurd hi (by omega), fun x hx => ⟨fun q => absurd (lz x hx) q, fun ⟨j, hj, _⟩ => absurd hj (by omega)⟩, fun j hj => absurd hj (by omega), fun x hx _ _ _ => ?_, fun r hr _ => ?_, fun o ho _ _ => ?_, fun r hr => ?_, fun o ho => ⟨fun _ => ⟨?_, ?_, fun _ i hi => ?_⟩, fun q => absurd (fz o (hO o ho).1) q⟩, fun i hi => ?_, fun i hi => ?_⟩⟩
  · show a_element x = if x < 32 then a_element x else _
    rw [if_pos hx]
  · show a_roots r = if 32 + r < 32 then _ else if 32 + r < 38 then a_roots (32 + r - 32) else _
    rw [if_neg (by omega), if_pos (by omega)]
    exact congrArg a_roots (by omega)
  · show a_shared o = if 38 + o < 32 then _ else if 38 + o < 38 then _ else a_shared (38 + o - 38)
    rw [if_neg (by omega), if_neg (by omega)]
    exact congrArg a_shared (by omega)
  · show ho_V π H (if 32 + r < 32 then _ else if 32 + r < 38 then a_roots (32 + r - 32) else _) _
    rw [if_neg (by omega), if_pos (by omega), show hy_cp 6 b_roots b_oldRoots r = b_roots r from if_pos hr, show 32 + r - 32 = r by omega]
    exact hV r hr
  · exact (if_pos (hP o (hO o ho).1).1).symm
  · show (if 38 + o < 32 then _ else if 38 + o < 38 then _ else a_shared (38 + o - 38)) = _
    rw [if_neg (by omega), if_neg (by omega), show hy_cp 8 b_shared b_oldShared (π o) = b_shared (π o) from if_pos (hP o (hO o ho).1).1, show 38 + o - 38 = o by omega]
    exact (hO o ho).2.2.2.2.2.2.1
  · have h8 := (hO o ho).1
    have hp8 := (hP o h8).1
    show (if 4 * o + i < 32 then a_element (4 * o + i) else _) = _
    rw [if_pos (by omega), show hy_cp 32 b_elements b_oldElements (4 * π o + i) = b_elements (4 * π o + i) from if_pos (by omega)]
    exact (hO o ho).2.2.2.2.2.2.2 i hi
  · rw [show hy_cp 32 b_elements b_oldElements i = b_elements i from if_pos hi]
    exact hW.2.2.2.2.1 i
  · rw [show hy_cp 8 b_shared b_oldShared i = b_shared i from if_pos hi]
    exact hW.2.2.2.2.2.2 i
theorem hl_22 (h : (hm_Q k L s n m p d kl E π ρ H f_pending f_wide f_logLength f_open a_ops a_args a_quick a_length a_exported a_alive a_fresh a_lasting a_shared a_owner a_size a_element a_roots a_logCell a_logOld a_logged a_slot a_frameMethod a_framePc g_made b_ops b_bs b_sizes b_exported b_stamp b_owner b_lengths b_elements b_lasting b_shared b_roots b_oldStamp b_oldElements b_oldShared b_oldRoots b_rows b_nexts b_depths b_places b_kinds)) (hl : l ≤ 16) (hM : hc_M a_ops a_args a_quick b_bs m l opf bf) (hR : hs_R opf bf p (hf_A kl E d)) (eo : opf p = 22) (eq : a_quick (16 * m + p) = nI 22) (hsL : s < L) (IH : hm_IH k L s) : hl_LS k (nI L, f_pending, f_wide, f_waiting, f_height, f_entries, f_locals, f_logLength, f_open, f_awaited, nI (n + 1), nI (6 * n + 2 + d), nI (6 * n), nI p, nI m, nI s, 0, 0, -1, a_ops, a_args, a_quick, a_length, a_exported, a_known, a_alive, a_fresh, a_lasting, a_shared, a_owner, a_size, a_element, a_roots, a_logCell, a_logOld, a_logged, a_slot, a_frameMethod, a_framePc) s (nI L, g_waiting, g_stack, g_locals, nI (n + 1), nI s, f_awaited, 0, g_where, g_outcome, g_made, g_good, f_open, b_ops, b_bs, b_sizes, b_exported, b_stamp, b_owner, b_lengths, b_elements, b_lasting, b_shared, b_roots, b_oldStamp, b_oldElements, b_oldShared, b_oldRoots, b_rows, b_nexts, b_depths, b_places, b_kinds, b_met, b_todo, b_heights) := by
  obtain ⟨⟨hn, hL2, hm, hp16, hd4⟩, ⟨er, en, ed, hS, hE⟩, ⟨eop, hpl, hfit, hus, ebf⟩, A', eA, _, hN⟩ := hm_at h hl hM hR eo
  have hN' := hN (by decide) (by decide)
  rw [hf_sq0 eA] at hN'
  have hOO := h.2.2.2.2.2
  have hW := hOO.2.2.2.1
  have hop : f_open = 0 ∨ f_open = 1 := hOO.2.2.2.2.2.elim Or.inl (fun w => Or.inr w.1)
  by_cases z : f_open = 0
  · exact hl_Xs hn (fun post hp => hx_i hm hp16 hL2 hsL eq rfl (br_t (by decide) (br_t (by decide) (br_f (by decide) (hx_c22 (fun _ => hp) (fun w => absurd z w)))))) (hl_Ys hn (by omega) (fun post hp => hy_iT hn hm hp16 hL2 hsL er en eop rfl (by decide) (by decide) (hy_o22 hn en z hW.2.2.2.2.1 hW.2.2.2.2.2.2 hp)) (IH (s + 1) _ _ (by omega) (hm_mk (hm_goT h hsL hN' (hm_beg z hOO)))))
  · have z1 : f_open = 1 := hop.elim (fun w => absurd w z) id
    exact hl_fail (st := 8) (by decide) h hsL (fun post hp => hx_i hm hp16 hL2 hsL eq rfl (br_t (by decide) (br_t (by decide) (br_f (by decide) (hx_c22 (fun w => absurd w z) (fun _ => hp)))))) (fun aw wh bel bsh bro hE' post hp => hy_iT hn hm hp16 hL2 hsL er en eop rfl (by decide) (by decide) (hy_oE (by decide) hop (Or.inl ⟨rfl, z1⟩) (hE' _ (br_t rfl hp))))
theorem hl_23 (h : (hm_Q k L s n m p d kl E π ρ H f_pending f_wide f_logLength f_open a_ops a_args a_quick a_length a_exported a_alive a_fresh a_lasting a_shared a_owner a_size a_element a_roots a_logCell a_logOld a_logged a_slot a_frameMethod a_framePc g_made b_ops b_bs b_sizes b_exported b_stamp b_owner b_lengths b_elements b_lasting b_shared b_roots b_oldStamp b_oldElements b_oldShared b_oldRoots b_rows b_nexts b_depths b_places b_kinds)) (hl : l ≤ 16) (hM : hc_M a_ops a_args a_quick b_bs m l opf bf) (hR : hs_R opf bf p (hf_A kl E d)) (eo : opf p = 23) (eq : a_quick (16 * m + p) = nI 23) (hsL : s < L) (IH : hm_IH k L s) : hl_LS k (nI L, f_pending, f_wide, f_waiting, f_height, f_entries, f_locals, f_logLength, f_open, f_awaited, nI (n + 1), nI (6 * n + 2 + d), nI (6 * n), nI p, nI m, nI s, 0, 0, -1, a_ops, a_args, a_quick, a_length, a_exported, a_known, a_alive, a_fresh, a_lasting, a_shared, a_owner, a_size, a_element, a_roots, a_logCell, a_logOld, a_logged, a_slot, a_frameMethod, a_framePc) s (nI L, g_waiting, g_stack, g_locals, nI (n + 1), nI s, f_awaited, 0, g_where, g_outcome, g_made, g_good, f_open, b_ops, b_bs, b_sizes, b_exported, b_stamp, b_owner, b_lengths, b_elements, b_lasting, b_shared, b_roots, b_oldStamp, b_oldElements, b_oldShared, b_oldRoots, b_rows, b_nexts, b_depths, b_places, b_kinds, b_met, b_todo, b_heights) := by
  obtain ⟨⟨hn, hL2, hm, hp16, hd4⟩, ⟨er, en, ed, hS, hE⟩, ⟨eop, hpl, hfit, hus, ebf⟩, A', eA, _, hN⟩ := hm_at h hl hM hR eo
  have hN' := hN (by decide) (by decide)
  rw [hf_sq0 eA] at hN'
  have hOO := h.2.2.2.2.2
  have hop : f_open = 0 ∨ f_open = 1 := hOO.2.2.2.2.2.elim Or.inl (fun w => Or.inr w.1)
  by_cases z : f_open = 0
  · exact hl_fail (st := 8) (by decide) h hsL (fun post hp => hx_i hm hp16 hL2 hsL eq rfl (br_t (by decide) (br_t (by decide) (br_f (by decide) (hx_c23 (fun _ => hp) (fun w => absurd z w) (fun w => absurd z w)))))) (fun aw wh bel bsh bro hE' post hp => hy_iT hn hm hp16 hL2 hsL er en eop rfl (by decide) (by decide) (hy_oE (by decide) hop (Or.inr ⟨by decide, z⟩) (hE' _ (br_t rfl hp))))
  · have z1 : f_open = 1 := hop.elim (fun w => absurd w z) id
    by_cases za : f_awaited = 0
    · exact hl_fail (st := 9) (by decide) h hsL (fun post hp => hx_i hm hp16 hL2 hsL eq rfl (br_t (by decide) (br_t (by decide) (br_f (by decide) (hx_c23 (fun w => absurd w z) (fun _ _ => hp) (fun _ w => absurd za w)))))) (fun aw wh bel bsh bro hE' post hp => hy_iT hn hm hp16 hL2 hsL er en eop rfl (by decide) (by decide) (hy_o23 hn en z1 (fun _ => hE' _ (br_t rfl (br_t rfl hp))) (fun w => absurd za w)))
    · obtain ⟨hP, hO, hV, hW, ⟨mm, em, hmm, hs1, hs2⟩, hT⟩ := hOO
      have hO0 : hm_O π ρ H (250 * k + s) 0 f_logLength a_alive a_fresh a_lasting a_shared a_owner a_size a_element a_roots a_logCell a_logOld a_logged g_made b_stamp b_owner b_lengths b_elements b_lasting b_shared b_roots b_oldStamp b_oldElements b_oldShared b_oldRoots := ⟨hP, hO, hV, hW, ⟨mm, em, hmm, hs1, fun q => absurd rfl q⟩, Or.inl rfl⟩
      exact hl_Xs hn (fun post hp => hx_i hm hp16 hL2 hsL eq rfl (br_t (by decide) (br_t (by decide) (br_f (by decide) (hx_c23 (fun w => absurd w z) (fun _ w => absurd w za) (fun _ _ => hp)))))) (hl_Ys hn (by omega) (fun post hp => hy_iT hn hm hp16 hL2 hsL er en eop rfl (by decide) (by decide) (hy_o23 hn en z1 (fun w => absurd w za) (fun _ => hp))) (IH (s + 1) _ _ (by omega) (hm_mk (hm_goT h hsL hN' hO0))))
theorem hl_24 (h : (hm_Q k L s n m p d kl E π ρ H f_pending f_wide f_logLength f_open a_ops a_args a_quick a_length a_exported a_alive a_fresh a_lasting a_shared a_owner a_size a_element a_roots a_logCell a_logOld a_logged a_slot a_frameMethod a_framePc g_made b_ops b_bs b_sizes b_exported b_stamp b_owner b_lengths b_elements b_lasting b_shared b_roots b_oldStamp b_oldElements b_oldShared b_oldRoots b_rows b_nexts b_depths b_places b_kinds)) (hl : l ≤ 16) (hM : hc_M a_ops a_args a_quick b_bs m l opf bf) (hR : hs_R opf bf p (hf_A kl E d)) (eo : opf p = 24) (eq : a_quick (16 * m + p) = nI 24) (hsL : s < L) (IH : hm_IH k L s) : hl_LS k (nI L, f_pending, f_wide, f_waiting, f_height, f_entries, f_locals, f_logLength, f_open, f_awaited, nI (n + 1), nI (6 * n + 2 + d), nI (6 * n), nI p, nI m, nI s, 0, 0, -1, a_ops, a_args, a_quick, a_length, a_exported, a_known, a_alive, a_fresh, a_lasting, a_shared, a_owner, a_size, a_element, a_roots, a_logCell, a_logOld, a_logged, a_slot, a_frameMethod, a_framePc) s (nI L, g_waiting, g_stack, g_locals, nI (n + 1), nI s, f_awaited, 0, g_where, g_outcome, g_made, g_good, f_open, b_ops, b_bs, b_sizes, b_exported, b_stamp, b_owner, b_lengths, b_elements, b_lasting, b_shared, b_roots, b_oldStamp, b_oldElements, b_oldShared, b_oldRoots, b_rows, b_nexts, b_depths, b_places, b_kinds, b_met, b_todo, b_heights) := by
  obtain ⟨⟨hn, hL2, hm, hp16, hd4⟩, ⟨er, en, ed, hS, hE⟩, ⟨eop, hpl, hfit, hus, ebf⟩, A', eA, _, hN⟩ := hm_at h hl hM hR eo
  have hN' := hN (by decide) (by decide)
  rw [hf_sq0 eA] at hN'
  have hOO := h.2.2.2.2.2
  have hop : f_open = 0 ∨ f_open = 1 := hOO.2.2.2.2.2.elim Or.inl (fun w => Or.inr w.1)
  obtain ⟨lg, sh, el, ro, bel, bsh, bro, hX, hY, hO'⟩ := hm_undo (f_limit := nI L) (f_pending := f_pending) (f_wide := f_wide) (f_waiting := f_waiting) (f_height := f_height) (f_entries := f_entries) (f_locals := f_locals) (f_awaited := f_awaited) (f_frames := nI (n + 1)) (f_sp := nI (6 * n + 2 + d)) (f_base := nI (6 * n)) (f_pc := nI p) (f_method := nI m) (f_steps := nI (s + 1)) (f_status := 0) (f_lastResult := 0) (f_lastPlace := -1) (a_ops := a_ops) (a_args := a_args) (a_quick := a_quick) (a_length := a_length) (a_exported := a_exported) (a_known := a_known) (a_slot := a_slot) (a_frameMethod := a_frameMethod) (a_framePc := a_framePc)
    (g_limit := nI L) (g_waiting := g_waiting) (g_stack := g_stack) (g_locals := g_locals) (g_running := nI (n + 1)) (g_steps := nI (s + 1)) (g_awaited := f_awaited) (g_answer := 0) (g_where := g_where) (g_outcome := g_outcome) (g_good := g_good) (b_ops := b_ops) (b_bs := b_bs) (b_sizes := b_sizes) (b_exported := b_exported) (b_rows := b_rows) (b_nexts := b_nexts) (b_depths := b_depths) (b_places := b_places) (b_kinds := b_kinds) (b_met := b_met) (b_todo := b_todo) (b_heights := b_heights) hOO
  by_cases z : f_open = 0
  · exact hl_fail (st := 8) (by decide) h hsL (fun post hp => hx_i hm hp16 hL2 hsL eq rfl (br_t (by decide) (br_t (by decide) (br_f (by decide) (hx_c24 (fun _ => hX) (fun _ => hp) (fun w => absurd z w)))))) (fun aw wh bel bsh bro hE' post hp => hy_iT hn hm hp16 hL2 hsL er en eop rfl (by decide) (by decide) (hy_oE (by decide) hop (Or.inr ⟨by decide, z⟩) (hE' _ (br_t rfl hp))))
  · have z1 : f_open = 1 := hop.elim (fun w => absurd w z) id
    exact hl_Xs hn (fun post hp => hx_i hm hp16 hL2 hsL eq rfl (br_t (by decide) (br_t (by decide) (br_f (by decide) (hx_c24 (fun _ => hX) (fun w => absurd w z) (fun _ => hp)))))) (hl_Ys hn (by omega) (fun post hp => hy_iT hn hm hp16 hL2 hsL er en eop rfl (by decide) (by decide) (hy_o24 hn en z1 hY hp)) (IH (s + 1) _ _ (by omega) (hm_mk (hm_goT h hsL hN' hO'))))
end
end
section
/-! ===== lockstep: call and return ===== -/
section
variable {f_limit f_pending f_wide f_waiting f_height f_entries f_locals f_logLength f_open f_awaited f_frames f_sp f_base f_pc f_method f_steps f_status f_lastResult f_lastPlace : Int32} {a_ops a_args a_quick a_length a_exported a_known a_alive a_fresh a_lasting a_shared a_owner a_size a_element a_roots a_logCell a_logOld a_logged a_slot a_frameMethod a_framePc : Nat → Int32}
variable {L s n m p d e : Nat} {P : SX → Prop}
theorem hx_60F {x1 st : Int32} (hst : ¬ st = 0) (H : P (f_limit, f_pending, f_wide, f_waiting, f_height, f_entries, f_locals, f_logLength, f_open, f_awaited, f_frames, f_sp, f_base, f_pc, f_method, f_steps, st, f_lastResult, f_lastPlace, a_ops, a_args, a_quick, a_length, a_exported, a_known, a_alive, a_fresh, a_lasting, a_shared, a_owner, a_size, a_element, a_roots, a_logCell, a_logOld, a_logged, a_slot, a_frameMethod, a_framePc)) : wX_callMethod_60 P x1 f_limit f_pending f_wide f_waiting f_height f_entries f_locals f_logLength f_open f_awaited f_frames f_sp f_base f_pc f_method f_steps st f_lastResult f_lastPlace a_ops a_args a_quick a_length a_exported a_known a_alive a_fresh a_lasting a_shared a_owner a_size a_element a_roots a_logCell a_logOld a_logged a_slot a_frameMethod a_framePc := by
  unfold wX_callMethod_60
  exact br_f hst H
theorem hx_60 {b : Nat} (hn : n + 1 < 4) (he : e < 4) (hp : p < 16) (hb : b < 6) (H : P (nI L, f_pending, f_wide, f_waiting, f_height, f_entries, f_locals, f_logLength, f_open, f_awaited, nI ((n + 1) + 1), nI (6 * (n + 1) + 2 + 0), nI (6 * (n + 1)), nI 0, nI b, nI s, 0, 0, -1, a_ops, a_args, a_quick, a_length, a_exported, a_known, a_alive, a_fresh, a_lasting, a_shared, a_owner, a_size, a_element, a_roots, a_logCell, a_logOld, a_logged, upd (upd a_slot (6 * (n + 1)) (a_slot (6 * n + 2 + e))) (6 * (n + 1) + 1) 0, upd a_frameMethod (n + 1) (nI b), upd a_framePc n (nI (16 * e + p)))) : wX_callMethod_60 P (nI b) (nI L) f_pending f_wide f_waiting f_height f_entries f_locals f_logLength f_open f_awaited (nI (n + 1)) (nI (6 * n + 2 + (e + 1))) (nI (6 * n)) (nI p) (nI m) (nI s) 0 0 (-1) a_ops a_args a_quick a_length a_exported a_known a_alive a_fresh a_lasting a_shared a_owner a_size a_element a_roots a_logCell a_logOld a_logged a_slot a_frameMethod a_framePc := by
  have es : nI (6 * n + 2 + (e + 1)) - 1 = nI (6 * n + 2 + e) := nI_pred _
  have cs : (nI (6 * n + 2 + e)).toNatClampNeg = 6 * n + 2 + e := nI_clamp (by omega)
  have ef : nI (n + 1) - 1 = nI n := nI_pred n
  have cn : (nI n).toNatClampNeg = n := nI_clamp (by omega)
  have cn1 : (nI (n + 1)).toNatClampNeg = n + 1 := nI_clamp (by omega)
  have c6 : (nI (6 * (n + 1))).toNatClampNeg = 6 * (n + 1) := nI_clamp (by omega)
  have c61 : (nI (6 * (n + 1) + 1)).toNatClampNeg = 6 * (n + 1) + 1 := nI_clamp (by omega)
  have efp : ((((nI (6 * n + 2 + e) - nI (6 * n)) - 2) <<< ((4 : Int32) &&& 31)) ||| nI p) = nI (16 * e + p) := by
    rw [pk_sub (by omega), show nI (6 * n + 2 + e - 6 * n) - 2 = nI (6 * n + 2 + e - 6 * n - 2) from pk_sub (b := 2) (by omega), show 6 * n + 2 + e - 6 * n - 2 = e by omega, show nI e <<< ((4 : Int32) &&& 31) = nI (e * 2 ^ 4) from hx_shl (k := 4) (by omega) (by omega), hx_or]
    apply congrArg nI
    have := hx_addor (a := e) (b := p) (i := 4) (by omega)
    rw [Nat.or_comm, ← this]; omega
  unfold wX_callMethod_60
  refine br_t rfl (nm_r es ⟨by rw [es]; exact vp_in_nI (by omega) (by decide), nm_r (e' := a_slot (6 * n + 2 + e)) (by rw [es, cs]) ⟨by rw [ef]; exact vp_in_nI (by omega) (by decide), nm_r (e' := upd a_framePc n (nI (16 * e + p))) (by rw [ef, cn, efp, ca_vb' (by omega)]) ?_⟩⟩)
  unfold wpX_enter
  refine nm_r (e' := nI (6 * (n + 1))) (pk_mul 6 (n + 1)) (nm_r (nI_1 _) ⟨vp_in_nI hn (by decide), nm_r (e' := upd a_frameMethod (n + 1) (nI b)) (by rw [cn1, ca_vb' (by omega)]) ⟨vp_in_nI (by omega) (by decide), nm_r (e' := upd a_slot (6 * (n + 1)) (a_slot (6 * n + 2 + e))) (by rw [c6]) ⟨by rw [nI_1]; exact vp_in_nI (by omega) (by decide), nm_r (e' := upd (upd a_slot (6 * (n + 1)) (a_slot (6 * n + 2 + e))) (6 * (n + 1) + 1) 0) (by rw [nI_1, c61]) (nm_r (nI_add _ 2) H)⟩⟩⟩)
/-- the ways of a call: a by absence, w by the wall, f by the depth -/
theorem hx_m18 {b l' : Nat} (hn : n < 4) (hm : m < 6) (hb : b < 6) (hl' : l' ≤ 16) (el : a_length b = nI l') (HA : l' = 0 → P (nI L, f_pending, f_wide, f_waiting, f_height, f_entries, f_locals, f_logLength, f_open, f_awaited, nI (n + 1), nI (6 * n + 2 + (e + 1)), nI (6 * n), nI p, nI m, nI s, 5, 0, -1, a_ops, a_args, a_quick, a_length, a_exported, a_known, a_alive, a_fresh, a_lasting, a_shared, a_owner, a_size, a_element, a_roots, a_logCell, a_logOld, a_logged, a_slot, a_frameMethod, a_framePc)) (HW : l' ≠ 0 → b / 2 ≠ m / 2 → a_exported b = 0 → P (nI L, f_pending, f_wide, f_waiting, f_height, f_entries, f_locals, f_logLength, f_open, f_awaited, nI (n + 1), nI (6 * n + 2 + (e + 1)), nI (6 * n), nI p, nI m, nI s, 3, 0, -1, a_ops, a_args, a_quick, a_length, a_exported, a_known, a_alive, a_fresh, a_lasting, a_shared, a_owner, a_size, a_element, a_roots, a_logCell, a_logOld, a_logged, a_slot, a_frameMethod, a_framePc)) (HD : l' ≠ 0 → ¬ (b / 2 ≠ m / 2 ∧ a_exported b = 0) → n + 1 = 4 → P (nI L, f_pending, f_wide, f_waiting, f_height, f_entries, f_locals, f_logLength, f_open, f_awaited, nI (n + 1), nI (6 * n + 2 + (e + 1)), nI (6 * n), nI p, nI m, nI s, 6, 0, -1, a_ops, a_args, a_quick, a_length, a_exported, a_known, a_alive, a_fresh, a_lasting, a_shared, a_owner, a_size, a_element, a_roots, a_logCell, a_logOld, a_logged, a_slot, a_frameMethod, a_framePc))
    (HG : l' ≠ 0 → ¬ (b / 2 ≠ m / 2 ∧ a_exported b = 0) → n + 1 < 4 → wX_callMethod_60 (fun u => match u with | (f_limit, f_pending, f_wide, f_waiting, f_height, f_entries, f_locals, f_logLength, f_open, f_awaited, f_frames, f_sp, f_base, f_pc, f_method, f_steps, f_status, f_lastResult, f_lastPlace, a_ops, a_args, a_quick, a_length, a_exported, a_known, a_alive, a_fresh, a_lasting, a_shared, a_owner, a_size, a_element, a_roots, a_logCell, a_logOld, a_logged, a_slot, a_frameMethod, a_framePc) => (P (f_limit, f_pending, f_wide, f_waiting, f_height, f_entries, f_locals, f_logLength, f_open, f_awaited, f_frames, f_sp, f_base, f_pc, f_method, f_steps, f_status, f_lastResult, f_lastPlace, a_ops, a_args, a_quick, a_length, a_exported, a_known, a_alive, a_fresh, a_lasting, a_shared, a_owner, a_size, a_element, a_roots, a_logCell, a_logOld, a_logged, a_slot, a_frameMethod, a_framePc))) (nI b) (nI L) f_pending f_wide f_waiting f_height f_entries f_locals f_logLength f_open f_awaited (nI (n + 1)) (nI (6 * n + 2 + (e + 1))) (nI (6 * n)) (nI p) (nI m) (nI s) 0 0 (-1) a_ops a_args a_quick a_length a_exported a_known a_alive a_fresh a_lasting a_shared a_owner a_size a_element a_roots a_logCell a_logOld a_logged a_slot a_frameMethod a_framePc) : wpX_memory P (nI L, f_pending, f_wide, f_waiting, f_height, f_entries, f_locals, f_logLength, f_open, f_awaited, nI (n + 1), nI (6 * n + 2 + (e + 1)), nI (6 * n), nI p, nI m, nI s, 0, 0, -1, a_ops, a_args, a_quick, a_length, a_exported, a_known, a_alive, a_fresh, a_lasting, a_shared, a_owner, a_size, a_element, a_roots, a_logCell, a_logOld, a_logged, a_slot, a_frameMethod, a_framePc) (nI 18) (nI b) := by
  have cb : (nI b).toNatClampNeg = b := nI_clamp (by omega)
  have vb : vp_in (nI b) 6 := vp_in_nI hb (by decide)
  have e1 : nI m >>> ((1 : Int32) &&& 31) = nI (m / 2) := hx_shr (k := 1) (by omega) (by decide)
  have e2 : nI b >>> ((1 : Int32) &&& 31) = nI (b / 2) := hx_shr (k := 1) (by omega) (by decide)
  unfold wpX_memory
  refine br_f (by decide) (br_t (by decide) ?_)
  unfold wpX_callMethod
  refine ⟨vb, ?_⟩
  rw [cb, el, e1, e2]
  have k46 : l' ≠ 0 → ¬ (b / 2 ≠ m / 2 ∧ a_exported b = 0) → wX_callMethod_46 (fun u => match u with | (f_limit, f_pending, f_wide, f_waiting, f_height, f_entries, f_locals, f_logLength, f_open, f_awaited, f_frames, f_sp, f_base, f_pc, f_method, f_steps, f_status, f_lastResult, f_lastPlace, a_ops, a_args, a_quick, a_length, a_exported, a_known, a_alive, a_fresh, a_lasting, a_shared, a_owner, a_size, a_element, a_roots, a_logCell, a_logOld, a_logged, a_slot, a_frameMethod, a_framePc) => (P (f_limit, f_pending, f_wide, f_waiting, f_height, f_entries, f_locals, f_logLength, f_open, f_awaited, f_frames, f_sp, f_base, f_pc, f_method, f_steps, f_status, f_lastResult, f_lastPlace, a_ops, a_args, a_quick, a_length, a_exported, a_known, a_alive, a_fresh, a_lasting, a_shared, a_owner, a_size, a_element, a_roots, a_logCell, a_logOld, a_logged, a_slot, a_frameMethod, a_framePc))) (nI b) (nI L) f_pending f_wide f_waiting f_height f_entries f_locals f_logLength f_open f_awaited (nI (n + 1)) (nI (6 * n + 2 + (e + 1))) (nI (6 * n)) (nI p) (nI m) (nI s) 0 0 (-1) a_ops a_args a_quick a_length a_exported a_known a_alive a_fresh a_lasting a_shared a_owner a_size a_element a_roots a_logCell a_logOld a_logged a_slot a_frameMethod a_framePc := fun h1 h2 => by
    unfold wX_callMethod_46
    exact pk_eq (n + 1) 4 (fun z => hx_60F (by decide) (HD h1 h2 z)) (fun z => HG h1 h2 (by omega))
  exact pk_eq l' 0 (fun z => hx_60F (by decide) (HA z)) (fun z => pk_eq (b / 2) (m / 2) (fun y => k46 z (fun w => w.1 y)) (fun y => ⟨vb, br_c (fun w => hx_60F (by decide) (HW z y w)) (fun w => k46 z (fun q => w q.2))⟩))
/-! ### return -/
theorem hx_c19z (he : e < 4) (H : P (nI L, f_pending, f_wide, f_waiting, f_height, f_entries, f_locals, f_logLength, f_open, f_awaited, 0, nI (6 * 0 + 2 + e), nI (6 * 0), nI p, nI m, nI s, 0, a_slot (6 * 0 + 2 + e), -1, a_ops, a_args, a_quick, a_length, a_exported, a_known, a_alive, a_fresh, a_lasting, a_shared, a_owner, a_size, a_element, a_roots, a_logCell, a_logOld, a_logged, a_slot, a_frameMethod, a_framePc)) : wpX_control P (nI L, f_pending, f_wide, f_waiting, f_height, f_entries, f_locals, f_logLength, f_open, f_awaited, nI (0 + 1), nI (6 * 0 + 2 + (e + 1)), nI (6 * 0), nI p, nI m, nI s, 0, 0, -1, a_ops, a_args, a_quick, a_length, a_exported, a_known, a_alive, a_fresh, a_lasting, a_shared, a_owner, a_size, a_element, a_roots, a_logCell, a_logOld, a_logged, a_slot, a_frameMethod, a_framePc) (nI 19) := by
  have es : nI (6 * 0 + 2 + (e + 1)) - 1 = nI (6 * 0 + 2 + e) := nI_pred _
  have cs : (nI (6 * 0 + 2 + e)).toNatClampNeg = 6 * 0 + 2 + e := nI_clamp (by omega)
  unfold wpX_control
  refine br_f (by decide) (br_f (by decide) (br_t (by decide) ?_))
  unfold wpX_leave
  exact nm_r es ⟨by rw [es]; exact vp_in_nI (by omega) (by decide), nm_r (e' := a_slot (6 * 0 + 2 + e)) (by rw [es, cs]) (nm_r (e' := 0) (by decide) (br_t rfl H))⟩
theorem hx_c19 {n' m' p' d' : Nat} (hn : n' + 1 < 4) (he : e < 4) (hm : m' < 6) (hp : p' < 16) (hd : d' < 4) (em : a_frameMethod n' = nI m') (ep : a_framePc n' = nI (16 * d' + p')) (H : P (nI L, f_pending, f_wide, f_waiting, f_height, f_entries, f_locals, f_logLength, f_open, f_awaited, nI (n' + 1), nI (6 * n' + 2 + (d' + 1)), nI (6 * n'), nI (p' + 1), nI m', nI s, 0, 0, -1, a_ops, a_args, a_quick, a_length, a_exported, a_known, a_alive, a_fresh, a_lasting, a_shared, a_owner, a_size, a_element, a_roots, a_logCell, a_logOld, a_logged, upd a_slot (6 * n' + 2 + d') (a_slot (6 * (n' + 1) + 2 + e)), a_frameMethod, a_framePc)) : wpX_control P (nI L, f_pending, f_wide, f_waiting, f_height, f_entries, f_locals, f_logLength, f_open, f_awaited, nI ((n' + 1) + 1), nI (6 * (n' + 1) + 2 + (e + 1)), nI (6 * (n' + 1)), nI p, nI m, nI s, 0, 0, -1, a_ops, a_args, a_quick, a_length, a_exported, a_known, a_alive, a_fresh, a_lasting, a_shared, a_owner, a_size, a_element, a_roots, a_logCell, a_logOld, a_logged, a_slot, a_frameMethod, a_framePc) (nI 19) := by
  have es : nI (6 * (n' + 1) + 2 + (e + 1)) - 1 = nI (6 * (n' + 1) + 2 + e) := nI_pred _
  have cs : (nI (6 * (n' + 1) + 2 + e)).toNatClampNeg = 6 * (n' + 1) + 2 + e := nI_clamp (by omega)
  have ef : nI (n' + 1 + 1) - 1 = nI (n' + 1) := nI_pred _
  have ef' : nI (n' + 1) - 1 = nI n' := nI_pred _
  have cn : (nI n').toNatClampNeg = n' := nI_clamp (by omega)
  have vn : vp_in (nI n') 4 := vp_in_nI (by omega) (by decide)
  have eb : 6 * nI (n' + 1) - 6 = nI (6 * n') := by
    rw [show 6 * nI (n' + 1) = nI (6 * (n' + 1)) from pk_mul 6 _, show nI (6 * (n' + 1)) - 6 = nI (6 * (n' + 1) - 6) from pk_sub (b := 6) (by omega)]
    exact congrArg nI (by omega)
  have e4 : nI (16 * d' + p') >>> ((4 : Int32) &&& 31) = nI d' := by
    rw [show nI (16 * d' + p') >>> ((4 : Int32) &&& 31) = nI ((16 * d' + p') / 2 ^ 4) from hx_shr (k := 4) (by omega) (by decide)]
    exact congrArg nI (by omega)
  have e15 : nI (16 * d' + p') &&& 15 = nI p' := by
    rw [pk_andN (by omega) 4 (by decide)]
    exact congrArg nI (by omega)
  have ct : (nI (6 * n' + 2 + d')).toNatClampNeg = 6 * n' + 2 + d' := nI_clamp (by omega)
  unfold wpX_control
  refine br_f (by decide) (br_f (by decide) (br_t (by decide) ?_))
  unfold wpX_leave
  refine nm_r es ⟨by rw [es]; exact vp_in_nI (by omega) (by decide), nm_r (e' := a_slot (6 * (n' + 1) + 2 + e)) (by rw [es, cs]) (nm_r ef (br_f (nI_ne0 (by omega) (by omega)) ⟨by rw [ef']; exact vn, nm_r (e' := nI m') (by rw [ef', cn]; exact em) (nm_r eb ⟨by rw [ef']; exact vn, nm_r (e' := nI (6 * n' + 2 + d')) ?_ (nm_r (nI_1 _) ⟨vp_in_nI (by omega) (by decide), nm_r (e' := upd a_slot (6 * n' + 2 + d') (a_slot (6 * (n' + 1) + 2 + e))) (by rw [ct]) ⟨by rw [ef']; exact vn, nm_r (e' := nI (p' + 1)) ?_ H⟩⟩)⟩)⟩))⟩
  · rw [ef', cn, ep, e4, show nI (6 * n') + 2 = nI (6 * n' + 2) from nI_add _ 2, nI_add]
  · rw [ef', cn, ep, e15, nI_1]
end
section
variable {g_limit g_waiting g_stack g_locals g_running g_steps g_awaited g_answer g_where g_outcome : Int32} {g_made : Int64} {g_good g_open : Int32} {b_ops b_bs b_sizes b_exported : Nat → Int32} {b_stamp : Nat → Int64} {b_owner b_lengths b_elements b_lasting b_shared b_roots : Nat → Int32} {b_oldStamp : Nat → Int64} {b_oldElements b_oldShared b_oldRoots b_rows b_nexts b_depths b_places b_kinds b_met b_todo b_heights : Nat → Int32}
variable {f_open f_awaited : Int32}
variable {L s n m p d e : Nat} {P : SY → Prop}
theorem hy_o18 {b l' : Nat} (hn : n < 4) (he : e < 4) (hm : m < 6) (hb : b < 6) (hl' : l' ≤ 16) (er : b_rows n = nI m) (ed : b_depths n = nI (e + 1)) (hv : ca_sh (b_places (8 * n + 2 + e))) (el : b_sizes b = nI l') (HA : l' = 0 → wpY_end (fun u => match u with | (g_limit, g_waiting, g_stack, g_locals, g_running, g_steps, g_awaited, g_answer, g_where, g_outcome, g_made, g_good, g_open, b_ops, b_bs, b_sizes, b_exported, b_stamp, b_owner, b_lengths, b_elements, b_lasting, b_shared, b_roots, b_oldStamp, b_oldElements, b_oldShared, b_oldRoots, b_rows, b_nexts, b_depths, b_places, b_kinds, b_met, b_todo, b_heights) => (P (g_limit, g_waiting, g_stack, g_locals, g_running, g_steps, g_awaited, g_answer, g_where, g_outcome, g_made, g_good, g_open, b_ops, b_bs, b_sizes, b_exported, b_stamp, b_owner, b_lengths, b_elements, b_lasting, b_shared, b_roots, b_oldStamp, b_oldElements, b_oldShared, b_oldRoots, b_rows, b_nexts, b_depths, b_places, b_kinds, b_met, b_todo, b_heights))) (nI L, g_waiting, g_stack, g_locals, nI (n + 1), nI s, f_awaited, 0, g_where, g_outcome, g_made, g_good, f_open, b_ops, b_bs, b_sizes, b_exported, b_stamp, b_owner, b_lengths, b_elements, b_lasting, b_shared, b_roots, b_oldStamp, b_oldElements, b_oldShared, b_oldRoots, b_rows, b_nexts, b_depths, b_places, b_kinds, b_met, b_todo, b_heights) 5) (HW : l' ≠ 0 → b / 2 ≠ m / 2 → b_exported b = 0 → wpY_end (fun u => match u with | (g_limit, g_waiting, g_stack, g_locals, g_running, g_steps, g_awaited, g_answer, g_where, g_outcome, g_made, g_good, g_open, b_ops, b_bs, b_sizes, b_exported, b_stamp, b_owner, b_lengths, b_elements, b_lasting, b_shared, b_roots, b_oldStamp, b_oldElements, b_oldShared, b_oldRoots, b_rows, b_nexts, b_depths, b_places, b_kinds, b_met, b_todo, b_heights) => (P (g_limit, g_waiting, g_stack, g_locals, g_running, g_steps, g_awaited, g_answer, g_where, g_outcome, g_made, g_good, g_open, b_ops, b_bs, b_sizes, b_exported, b_stamp, b_owner, b_lengths, b_elements, b_lasting, b_shared, b_roots, b_oldStamp, b_oldElements, b_oldShared, b_oldRoots, b_rows, b_nexts, b_depths, b_places, b_kinds, b_met, b_todo, b_heights))) (nI L, g_waiting, g_stack, g_locals, nI (n + 1), nI s, f_awaited, 0, g_where, g_outcome, g_made, g_good, f_open, b_ops, b_bs, b_sizes, b_exported, b_stamp, b_owner, b_lengths, b_elements, b_lasting, b_shared, b_roots, b_oldStamp, b_oldElements, b_oldShared, b_oldRoots, b_rows, b_nexts, b_depths, b_places, b_kinds, b_met, b_todo, b_heights) 3) (HD : l' ≠ 0 → ¬ (b / 2 ≠ m / 2 ∧ b_exported b = 0) → n + 1 = 4 → wpY_end (fun u => match u with | (g_limit, g_waiting, g_stack, g_locals, g_running, g_steps, g_awaited, g_answer, g_where, g_outcome, g_made, g_good, g_open, b_ops, b_bs, b_sizes, b_exported, b_stamp, b_owner, b_lengths, b_elements, b_lasting, b_shared, b_roots, b_oldStamp, b_oldElements, b_oldShared, b_oldRoots, b_rows, b_nexts, b_depths, b_places, b_kinds, b_met, b_todo, b_heights) => (P (g_limit, g_waiting, g_stack, g_locals, g_running, g_steps, g_awaited, g_answer, g_where, g_outcome, g_made, g_good, g_open, b_ops, b_bs, b_sizes, b_exported, b_stamp, b_owner, b_lengths, b_elements, b_lasting, b_shared, b_roots, b_oldStamp, b_oldElements, b_oldShared, b_oldRoots, b_rows, b_nexts, b_depths, b_places, b_kinds, b_met, b_todo, b_heights))) (nI L, g_waiting, g_stack, g_locals, nI (n + 1), nI s, f_awaited, 0, g_where, g_outcome, g_made, g_good, f_open, b_ops, b_bs, b_sizes, b_exported, b_stamp, b_owner, b_lengths, b_elements, b_lasting, b_shared, b_roots, b_oldStamp, b_oldElements, b_oldShared, b_oldRoots, b_rows, b_nexts, b_depths, b_places, b_kinds, b_met, b_todo, b_heights) 6)
    (HG : l' ≠ 0 → ¬ (b / 2 ≠ m / 2 ∧ b_exported b = 0) → n + 1 < 4 → P (nI L, g_waiting, g_stack, g_locals, nI ((n + 1) + 1), nI s, f_awaited, 0, g_where, g_outcome, g_made, g_good, f_open, b_ops, b_bs, b_sizes, b_exported, b_stamp, b_owner, b_lengths, b_elements, b_lasting, b_shared, b_roots, b_oldStamp, b_oldElements, b_oldShared, b_oldRoots, upd b_rows (n + 1) (nI b), upd b_nexts (n + 1) 0, upd (upd b_depths n (nI e)) (n + 1) 0, upd b_places (8 * (n + 1)) (b_places (8 * n + 2 + e)), upd (upd b_kinds (8 * (n + 1)) (nI 1)) (8 * (n + 1) + 1) (nI 0), b_met, b_todo, b_heights)) : wpY_other P (nI L, g_waiting, g_stack, g_locals, nI (n + 1), nI s, f_awaited, 0, g_where, g_outcome, g_made, g_good, f_open, b_ops, b_bs, b_sizes, b_exported, b_stamp, b_owner, b_lengths, b_elements, b_lasting, b_shared, b_roots, b_oldStamp, b_oldElements, b_oldShared, b_oldRoots, b_rows, b_nexts, b_depths, b_places, b_kinds, b_met, b_todo, b_heights) (nI 18) (nI b) := by
  have cb : (nI b).toNatClampNeg = b := nI_clamp (by omega)
  have cn1 : (nI (n + 1)).toNatClampNeg = n + 1 := nI_clamp (by omega)
  have c8 : (nI (8 * (n + 1))).toNatClampNeg = 8 * (n + 1) := nI_clamp (by omega)
  have c81 : (nI (8 * (n + 1) + 1)).toNatClampNeg = 8 * (n + 1) + 1 := nI_clamp (by omega)
  have k44 : l' ≠ 0 → ¬ (b / 2 ≠ m / 2 ∧ b_exported b = 0) → wY_call_44 (fun u => match u with | (g_limit, g_waiting, g_stack, g_locals, g_running, g_steps, g_awaited, g_answer, g_where, g_outcome, g_made, g_good, g_open, b_ops, b_bs, b_sizes, b_exported, b_stamp, b_owner, b_lengths, b_elements, b_lasting, b_shared, b_roots, b_oldStamp, b_oldElements, b_oldShared, b_oldRoots, b_rows, b_nexts, b_depths, b_places, b_kinds, b_met, b_todo, b_heights) => (P (g_limit, g_waiting, g_stack, g_locals, g_running, g_steps, g_awaited, g_answer, g_where, g_outcome, g_made, g_good, g_open, b_ops, b_bs, b_sizes, b_exported, b_stamp, b_owner, b_lengths, b_elements, b_lasting, b_shared, b_roots, b_oldStamp, b_oldElements, b_oldShared, b_oldRoots, b_rows, b_nexts, b_depths, b_places, b_kinds, b_met, b_todo, b_heights))) (nI b) (nI L) g_waiting g_stack g_locals (nI (n + 1)) (nI s) f_awaited 0 g_where g_outcome g_made g_good f_open b_ops b_bs b_sizes b_exported b_stamp b_owner b_lengths b_elements b_lasting b_shared b_roots b_oldStamp b_oldElements b_oldShared b_oldRoots b_rows b_nexts b_depths b_places b_kinds b_met b_todo b_heights := fun h1 h2 => by
    unfold wY_call_44
    refine pk_eq (n + 1) 4 (fun z => HD h1 h2 z) (fun z => hy_entry (j := 0) (e := e) hn (by omega) ed (hy_drop (j := 1) hn (by omega) ed ?_))
    have hlt : n + 1 < 4 := by omega
    have vn : vp_in (nI (n + 1)) 4 := vp_in_nI hlt (by decide)
    unfold wpY_start
    refine ⟨vn, nm_r (by rw [cn1]) ⟨vn, nm_r (by rw [cn1]) ⟨vn, nm_r (by rw [cn1]) (nm_r (e' := nI (8 * (n + 1))) (pk_mul 8 (n + 1)) ⟨vp_in_nI (by omega) (by decide), nm_r (e' := upd b_kinds (8 * (n + 1)) (nI 1)) (by rw [c8]; exact congrArg (upd b_kinds (8 * (n + 1))) (ca_vb (n := 1) (by decide))) ⟨vp_in_nI (by omega) (by decide), nm_r (e' := upd b_places (8 * (n + 1)) (b_places (8 * n + 2 + e))) (by rw [c8, show (b_places (8 * n + 2 + e)).toInt16.toInt32 = b_places (8 * n + 2 + e) from hv]) ⟨by rw [nI_1]; exact vp_in_nI (by omega) (by decide), nm_r (e' := upd (upd b_kinds (8 * (n + 1)) (nI 1)) (8 * (n + 1) + 1) (nI 0)) (by rw [nI_1, c81]; exact congrArg (upd (upd b_kinds (8 * (n + 1)) (nI 1)) (8 * (n + 1) + 1)) (ca_vb (n := 0) (by decide))) (nm_r (nI_1 _) (HG h1 h2 hlt))⟩⟩⟩)⟩⟩⟩
  unfold wpY_other
  refine br_f (by decide) (br_f (by decide) (br_f (by decide) (br_f (by decide) (br_f (by decide) (br_f (by decide) (br_f (by decide) (br_f (by decide) (br_f (by decide) (br_f (by decide) (br_f (by decide) (br_t (by decide) ?_)))))))))))
  unfold wpY_call
  refine ⟨vp_in_nI (by omega) (by decide), ?_⟩
  rw [cb, el, show nI b / 2 = nI (b / 2) from pk_div (d := 2) (by omega) (by decide) (by decide)]
  exact pk_eq l' 0 HA (fun z => ⟨by decide, hy_applet hn hm er (pk_eq (b / 2) (m / 2) (fun y => k44 z (fun w => w.1 y)) (fun y => ⟨vp_in_nI hb (by decide), br_c (fun w => HW z y w) (fun w => k44 z (fun q => w q.2))⟩))⟩)
theorem hy_o19z {b : Int32} (he : e < 4) (ed : b_depths 0 = nI (e + 1)) (H : wpY_giveBack (fun u => match u with | (g_limit, g_waiting, g_stack, g_locals, g_running, g_steps, g_awaited, g_answer, g_where, g_outcome, g_made, g_good, g_open, b_ops, b_bs, b_sizes, b_exported, b_stamp, b_owner, b_lengths, b_elements, b_lasting, b_shared, b_roots, b_oldStamp, b_oldElements, b_oldShared, b_oldRoots, b_rows, b_nexts, b_depths, b_places, b_kinds, b_met, b_todo, b_heights) => (P (g_limit, g_waiting, g_stack, g_locals, g_running, g_steps, g_awaited, g_answer, g_where, g_outcome, g_made, g_good, g_open, b_ops, b_bs, b_sizes, b_exported, b_stamp, b_owner, b_lengths, b_elements, b_lasting, b_shared, b_roots, b_oldStamp, b_oldElements, b_oldShared, b_oldRoots, b_rows, b_nexts, b_depths, b_places, b_kinds, b_met, b_todo, b_heights))) (nI L, g_waiting, g_stack, g_locals, nI (0 + 1), nI s, f_awaited, 0, g_where, g_outcome, g_made, g_good, f_open, b_ops, b_bs, b_sizes, b_exported, b_stamp, b_owner, b_lengths, b_elements, b_lasting, b_shared, b_roots, b_oldStamp, b_oldElements, b_oldShared, b_oldRoots, b_rows, b_nexts, b_depths, b_places, b_kinds, b_met, b_todo, b_heights) (b_places (8 * 0 + 2 + e))) : wpY_other P (nI L, g_waiting, g_stack, g_locals, nI (0 + 1), nI s, f_awaited, 0, g_where, g_outcome, g_made, g_good, f_open, b_ops, b_bs, b_sizes, b_exported, b_stamp, b_owner, b_lengths, b_elements, b_lasting, b_shared, b_roots, b_oldStamp, b_oldElements, b_oldShared, b_oldRoots, b_rows, b_nexts, b_depths, b_places, b_kinds, b_met, b_todo, b_heights) (nI 19) b := by
  unfold wpY_other
  refine br_f (by decide) (br_f (by decide) (br_f (by decide) (br_f (by decide) (br_f (by decide) (br_f (by decide) (br_f (by decide) (br_f (by decide) (br_f (by decide) (br_f (by decide) (br_f (by decide) (br_f (by decide) (br_t (by decide) ?_))))))))))))
  exact hy_entry (j := 0) (e := e) (n := 0) (by decide) (by omega) ed H
theorem hy_o19 {b : Int32} {n' p' d' : Nat} (hn : n' + 1 < 4) (he : e < 4) (hd : d' < 4) (ed : b_depths (n' + 1) = nI (e + 1)) (ed' : b_depths n' = nI d') (en' : b_nexts n' = nI p') (H : P (nI L, g_waiting, g_stack, g_locals, nI (n' + 1), nI s, f_awaited, 0, g_where, g_outcome, g_made, g_good, f_open, b_ops, b_bs, b_sizes, b_exported, b_stamp, b_owner, b_lengths, b_elements, b_lasting, b_shared, b_roots, b_oldStamp, b_oldElements, b_oldShared, b_oldRoots, b_rows, upd b_nexts n' (nI (p' + 1)), upd b_depths n' (nI (d' + 1)), upd b_places (8 * n' + 2 + d') (b_places (8 * (n' + 1) + 2 + e)), upd b_kinds (8 * n' + 2 + d') (nI 1), b_met, b_todo, b_heights)) : wpY_other P (nI L, g_waiting, g_stack, g_locals, nI ((n' + 1) + 1), nI s, f_awaited, 0, g_where, g_outcome, g_made, g_good, f_open, b_ops, b_bs, b_sizes, b_exported, b_stamp, b_owner, b_lengths, b_elements, b_lasting, b_shared, b_roots, b_oldStamp, b_oldElements, b_oldShared, b_oldRoots, b_rows, b_nexts, b_depths, b_places, b_kinds, b_met, b_todo, b_heights) (nI 19) b := by
  unfold wpY_other
  refine br_f (by decide) (br_f (by decide) (br_f (by decide) (br_f (by decide) (br_f (by decide) (br_f (by decide) (br_f (by decide) (br_f (by decide) (br_f (by decide) (br_f (by decide) (br_f (by decide) (br_f (by decide) (br_t (by decide) ?_))))))))))))
  refine hy_entry (j := 0) (e := e) hn (by omega) ed ?_
  unfold wpY_giveBack
  exact br_f (fun q => by have := (nI_eq (a := n' + 1 + 1) (b := 1) (by omega) (by decide)).mp q; omega) (nm_r (nI_pred _) (hy_push (k := 1) (by omega) (by omega) (by decide) ed' (hy_on (by omega) en' H)))
end
section
variable {f_limit f_pending f_wide f_waiting f_height f_entries f_locals f_logLength f_open f_awaited f_frames f_sp f_base f_pc f_method f_steps f_status f_lastResult f_lastPlace : Int32} {a_ops a_args a_quick a_length a_exported a_known a_alive a_fresh a_lasting a_shared a_owner a_size a_element a_roots a_logCell a_logOld a_logged a_slot a_frameMethod a_framePc : Nat → Int32} {g_limit g_waiting g_stack g_locals g_running g_steps g_awaited g_answer g_where g_outcome : Int32} {g_made : Int64} {g_good g_open : Int32} {b_ops b_bs b_sizes b_exported : Nat → Int32} {b_stamp : Nat → Int64} {b_owner b_lengths b_elements b_lasting b_shared b_roots : Nat → Int32} {b_oldStamp : Nat → Int64} {b_oldElements b_oldShared b_oldRoots b_rows b_nexts b_depths b_places b_kinds b_met b_todo b_heights : Nat → Int32}
variable {k L s n m p d l : Nat} {kl E π ρ opf bf : Nat → Nat} {H : Nat → Prop}
theorem hl_18 (h : (hm_Q k L s n m p d kl E π ρ H f_pending f_wide f_logLength f_open a_ops a_args a_quick a_length a_exported a_alive a_fresh a_lasting a_shared a_owner a_size a_element a_roots a_logCell a_logOld a_logged a_slot a_frameMethod a_framePc g_made b_ops b_bs b_sizes b_exported b_stamp b_owner b_lengths b_elements b_lasting b_shared b_roots b_oldStamp b_oldElements b_oldShared b_oldRoots b_rows b_nexts b_depths b_places b_kinds)) (hl : l ≤ 16) (hM : hc_M a_ops a_args a_quick b_bs m l opf bf) (hR : hs_R opf bf p (hf_A kl E d)) (eo : opf p = 18) (eq : a_quick (16 * m + p) = nI 18) (hsL : s < L) (IH : hm_IH k L s) : hl_LS k (nI L, f_pending, f_wide, f_waiting, f_height, f_entries, f_locals, f_logLength, f_open, f_awaited, nI (n + 1), nI (6 * n + 2 + d), nI (6 * n), nI p, nI m, nI s, 0, 0, -1, a_ops, a_args, a_quick, a_length, a_exported, a_known, a_alive, a_fresh, a_lasting, a_shared, a_owner, a_size, a_element, a_roots, a_logCell, a_logOld, a_logged, a_slot, a_frameMethod, a_framePc) s (nI L, g_waiting, g_stack, g_locals, nI (n + 1), nI s, f_awaited, 0, g_where, g_outcome, g_made, g_good, f_open, b_ops, b_bs, b_sizes, b_exported, b_stamp, b_owner, b_lengths, b_elements, b_lasting, b_shared, b_roots, b_oldStamp, b_oldElements, b_oldShared, b_oldRoots, b_rows, b_nexts, b_depths, b_places, b_kinds, b_met, b_todo, b_heights) := by
  obtain ⟨⟨hn, hL2, hm, hp16, hd4⟩, ⟨er, en, ed, hS, hE⟩, ⟨eop, hpl, hfit, hus, ebf⟩, A', eA, _, hN⟩ := hm_at h hl hM hR eo
  have hN' := hN (by decide) (by decide)
  obtain ⟨b, hb, ej⟩ := hfit.2.2.2 (by decide)
  have ea := hus (by unfold hc_us; decide)
  rw [ej] at ea
  obtain ⟨C1, e1, eA1⟩ := hf_sqi eA
  obtain ⟨C2, e2, eA2⟩ := hf_sqi eA1
  obtain ⟨e, rfl, hw1, rfl⟩ := hf_tk e1
  obtain ⟨_, eC⟩ := hf_ps e2
  rw [hf_sq0 eA2, eC] at hN'
  unfold hf_A at hN'
  rw [hf_st_u] at hN'
  have k1 := (hS.2 e (by omega)).2
  rw [show E e = 1 by omega] at k1
  have q1 := ho_K1 k1
  have hvY : ca_sh (b_places (8 * n + 2 + e)) := by rw [q1.1]; exact q1.2
  obtain ⟨⟨_, _, hL1, _⟩, hCD, hPD, hU, hT, hO⟩ := id h
  obtain ⟨l', hl', el', es', hcode⟩ := hCD.2.2 b hb
  have eex : b_exported b = a_exported b := by rw [hCD.2.1]
  by_cases za : l' = 0
  · exact hl_fail (st := 5) (by decide) h hsL (fun post hp => hx_i hm hp16 hL2 hsL eq ea (br_t (by decide) (br_f (by decide) (hx_m18 hn hm hb hl' el' (fun _ => hp) (fun w => absurd za w) (fun w => absurd za w) (fun w => absurd za w))))) (fun aw wh bel bsh bro hE' post hp => hy_iT hn hm hp16 hL2 hsL er en eop ej (by decide) (by decide) (hy_o18 hn (by omega) hm hb hl' er ed hvY es' (fun _ => hE' _ hp) (fun w => absurd za w) (fun w => absurd za w) (fun w => absurd za w)))
  by_cases zw : b / 2 ≠ m / 2 ∧ a_exported b = 0
  · have zwY : b_exported b = 0 := by rw [eex]; exact zw.2
    exact hl_fail (st := 3) (by decide) h hsL (fun post hp => hx_i hm hp16 hL2 hsL eq ea (br_t (by decide) (br_f (by decide) (hx_m18 hn hm hb hl' el' (fun w => absurd w za) (fun _ _ _ => hp) (fun _ w => absurd zw w) (fun _ w => absurd zw w))))) (fun aw wh bel bsh bro hE' post hp => hy_iT hn hm hp16 hL2 hsL er en eop ej (by decide) (by decide) (hy_o18 hn (by omega) hm hb hl' er ed hvY es' (fun w => absurd w za) (fun _ _ _ => hE' _ hp) (fun _ w => absurd ⟨zw.1, zwY⟩ w) (fun _ w => absurd ⟨zw.1, zwY⟩ w)))
  have zwY : ¬ (b / 2 ≠ m / 2 ∧ b_exported b = 0) := by rw [eex]; exact zw
  by_cases zd : n + 1 = 4
  · exact hl_fail (st := 6) (by decide) h hsL (fun post hp => hx_i hm hp16 hL2 hsL eq ea (br_t (by decide) (br_f (by decide) (hx_m18 hn hm hb hl' el' (fun w => absurd w za) (fun _ w w' => absurd ⟨w, w'⟩ zw) (fun _ _ _ => hp) (fun _ _ w => by omega))))) (fun aw wh bel bsh bro hE' post hp => hy_iT hn hm hp16 hL2 hsL er en eop ej (by decide) (by decide) (hy_o18 hn (by omega) hm hb hl' er ed hvY es' (fun w => absurd w za) (fun _ w w' => absurd ⟨w, w'⟩ zwY) (fun _ _ _ => hE' _ hp) (fun _ _ w => by omega)))
  have hn1 : n + 1 < 4 := by omega
  obtain ⟨opf', bf', hM'⟩ := hcode (by omega)
  have hQ : (hm_Q k L (s + 1) (n + 1) b 0 0 (fun i => if i = 0 then 1 else 0) E π ρ H f_pending f_wide f_logLength f_open a_ops a_args a_quick a_length a_exported a_alive a_fresh a_lasting a_shared a_owner a_size a_element a_roots a_logCell a_logOld a_logged (upd (upd a_slot (6 * (n + 1)) (a_slot (6 * n + 2 + e))) (6 * (n + 1) + 1) 0) (upd a_frameMethod (n + 1) (nI b)) (upd a_framePc n (nI (16 * e + p))) g_made b_ops b_bs b_sizes b_exported b_stamp b_owner b_lengths b_elements b_lasting b_shared b_roots b_oldStamp b_oldElements b_oldShared b_oldRoots (upd b_rows (n + 1) (nI b)) (upd b_nexts (n + 1) 0) (upd (upd b_depths n (nI e)) (n + 1) 0) (upd b_places (8 * (n + 1)) (b_places (8 * n + 2 + e))) (upd (upd b_kinds (8 * (n + 1)) (nI 1)) (8 * (n + 1) + 1) (nI 0))) := by
    refine ⟨⟨hn1, hsL, hL1, hL2⟩, hCD, hPD, fun f hf => ?_, ⟨hb, pk_us, pk_us, pk_us, pk_us, ⟨fun i hi => ?_, fun j hj => by omega⟩, l', opf', bf', hl', hM', (hs_Rcl opf' bf').1⟩, hm_Om (by omega) hO⟩
    · by_cases zf : f = n
      · subst zf
        refine ⟨m, p, e, kl, E, hm, hp16, by omega, ?_, pk_us, ?_, ?_, ?_, hf_Sc (by omega) (hf_Sle hS (by omega)) (fun i h1 h2 => ?_) (fun i h1 h2 => pk_un (by omega)) (fun i h1 h2 => by rw [pk_un (by omega), pk_un (by omega)]), hN'⟩
        · rw [pk_un (by omega)]; exact hT.2.1
        · rw [pk_un (by omega)]; exact er
        · rw [pk_un (by omega)]; exact en
        · rw [pk_un (by omega), pk_us]
        · rw [pk_un (by omega), pk_un (by omega)]
      · obtain ⟨m0, p0, d0, kl0, E0, a1, a2, a3, a4, a5, a6, a7, a8, a9, a10⟩ := hU f (by omega)
        refine ⟨m0, p0, d0, kl0, E0, a1, a2, a3, ?_, ?_, ?_, ?_, ?_, hf_Sc (by omega) a9 (fun i h1 h2 => ?_) (fun i h1 h2 => pk_un (by omega)) (fun i h1 h2 => by rw [pk_un (by omega), pk_un (by omega)]), a10⟩
        · rw [pk_un (by omega)]; exact a4
        · rw [pk_un zf]; exact a5
        · rw [pk_un (by omega)]; exact a6
        · rw [pk_un (by omega)]; exact a7
        · rw [pk_un (by omega), pk_un zf]; exact a8
        · rw [pk_un (by omega), pk_un (by omega)]
    · have : i = 0 ∨ i = 1 := by omega
      rcases this with rfl | rfl
      · show upd (upd b_kinds (8 * (n + 1)) (nI 1)) (8 * (n + 1) + 1) (nI 0) (8 * (n + 1)) = nI 1 ∧ ho_K π H 1 (upd (upd a_slot (6 * (n + 1)) (a_slot (6 * n + 2 + e))) (6 * (n + 1) + 1) 0 (6 * (n + 1))) (upd b_places (8 * (n + 1)) (b_places (8 * n + 2 + e)) (8 * (n + 1)))
        rw [pk_un (by omega), pk_us, pk_un (by omega), pk_us, pk_us, q1.1]
        exact ⟨rfl, ho_Kn q1.2⟩
      · rw [pk_us, pk_us]
        exact ⟨rfl, Or.inl ⟨rfl, rfl⟩⟩
  exact hl_Xs hn (fun post hp => hx_i hm hp16 hL2 hsL eq ea (br_t (by decide) (br_f (by decide) (hx_m18 hn hm hb hl' el' (fun w => absurd w za) (fun _ w w' => absurd ⟨w, w'⟩ zw) (fun _ _ w => absurd w zd) (fun _ _ _ => hx_60 hn1 (by omega) hp16 hb hp))))) (hl_Ys hn (by omega) (fun post hp => hy_iT hn hm hp16 hL2 hsL er en eop ej (by decide) (by decide) (hy_o18 hn (by omega) hm hb hl' er ed hvY es' (fun w => absurd w za) (fun _ w w' => absurd ⟨w, w'⟩ zwY) (fun _ _ w => absurd w zd) (fun _ _ _ => hp))) (IH (s + 1) _ _ (by omega) (hm_mk hQ)))
theorem hl_19 (h : (hm_Q k L s n m p d kl E π ρ H f_pending f_wide f_logLength f_open a_ops a_args a_quick a_length a_exported a_alive a_fresh a_lasting a_shared a_owner a_size a_element a_roots a_logCell a_logOld a_logged a_slot a_frameMethod a_framePc g_made b_ops b_bs b_sizes b_exported b_stamp b_owner b_lengths b_elements b_lasting b_shared b_roots b_oldStamp b_oldElements b_oldShared b_oldRoots b_rows b_nexts b_depths b_places b_kinds)) (hl : l ≤ 16) (hM : hc_M a_ops a_args a_quick b_bs m l opf bf) (hR : hs_R opf bf p (hf_A kl E d)) (eo : opf p = 19) (eq : a_quick (16 * m + p) = nI 19) (hsL : s < L) (IH : hm_IH k L s) : hl_LS k (nI L, f_pending, f_wide, f_waiting, f_height, f_entries, f_locals, f_logLength, f_open, f_awaited, nI (n + 1), nI (6 * n + 2 + d), nI (6 * n), nI p, nI m, nI s, 0, 0, -1, a_ops, a_args, a_quick, a_length, a_exported, a_known, a_alive, a_fresh, a_lasting, a_shared, a_owner, a_size, a_element, a_roots, a_logCell, a_logOld, a_logged, a_slot, a_frameMethod, a_framePc) s (nI L, g_waiting, g_stack, g_locals, nI (n + 1), nI s, f_awaited, 0, g_where, g_outcome, g_made, g_good, f_open, b_ops, b_bs, b_sizes, b_exported, b_stamp, b_owner, b_lengths, b_elements, b_lasting, b_shared, b_roots, b_oldStamp, b_oldElements, b_oldShared, b_oldRoots, b_rows, b_nexts, b_depths, b_places, b_kinds, b_met, b_todo, b_heights) := by
  obtain ⟨⟨hn, hL2, hm, hp16, hd4⟩, ⟨er, en, ed, hS, hE⟩, ⟨eop, hpl, hfit, hus, ebf⟩, A', eA, _, _⟩ := hm_at h hl hM hR eo
  obtain ⟨C1, e1, eA1⟩ := hf_sqi eA
  obtain ⟨e, rfl, hw1, rfl⟩ := hf_tk e1
  have k1 := (hS.2 e (by omega)).2
  rw [show E e = 1 by omega] at k1
  have q1 := ho_K1 k1
  obtain ⟨⟨_, _, hL1, _⟩, hCD, hPD, hU, hT, hO⟩ := id h
  cases n with
  | zero =>
    obtain ⟨u', bel, bsh, bro, hRl, hX, hE0⟩ := hm_end0 (f_waiting := f_waiting) (f_height := f_height) (f_entries := f_entries) (f_locals := f_locals) (f_awaited := f_awaited) (f_frames := 0) (f_sp := nI (6 * 0 + 2 + e)) (f_base := nI (6 * 0)) (f_pc := nI p) (f_method := nI m) (f_steps := nI (s + 1)) (a_known := a_known) (a_slot := a_slot) (a_frameMethod := a_frameMethod) (a_framePc := a_framePc) (g_waiting := g_waiting) (g_stack := g_stack) (g_locals := g_locals) (g_steps := nI (s + 1)) (g_where := g_where) (g_outcome := g_outcome) (g_good := g_good) (b_rows := b_rows) (b_nexts := b_nexts) (b_depths := b_depths) (b_places := b_places) (b_kinds := b_kinds) (b_met := b_met) (b_todo := b_todo) (b_heights := b_heights) (v := a_slot (6 * 0 + 2 + e)) (k := k) hO (by omega) hCD hPD hL1 hL2
    refine hl_Xs hn (fun post hp => hx_i hm hp16 hL2 hsL eq rfl (br_t (by decide) (br_t (by decide) (br_f (by decide) (hx_c19z (by omega) hp))))) (hl_Ys hn (by omega) (fun post hp => hy_iT hn hm hp16 hL2 hsL er en eop rfl (by decide) (by decide) (hy_o19z (by omega) ed ?_)) (hl_base (Or.inr (by decide)) hX hRl))
    rw [q1.1]
    exact hE0 _ hp
  | succ n' =>
    obtain ⟨m', p', d', kl', E', a1, a2, a3, a4, a5, a6, a7, a8, a9, a10⟩ := hU n' (by omega)
    have hQ : (hm_Q k L (s + 1) n' m' (p' + 1) (d' + 1) kl' (hf_u E' d' 1) π ρ H f_pending f_wide f_logLength f_open a_ops a_args a_quick a_length a_exported a_alive a_fresh a_lasting a_shared a_owner a_size a_element a_roots a_logCell a_logOld a_logged (upd a_slot (6 * n' + 2 + d') (a_slot (6 * (n' + 1) + 2 + e))) a_frameMethod a_framePc g_made b_ops b_bs b_sizes b_exported b_stamp b_owner b_lengths b_elements b_lasting b_shared b_roots b_oldStamp b_oldElements b_oldShared b_oldRoots b_rows (upd b_nexts n' (nI (p' + 1))) (upd b_depths n' (nI (d' + 1))) (upd b_places (8 * n' + 2 + d') (b_places (8 * (n' + 1) + 2 + e))) (upd b_kinds (8 * n' + 2 + d') (nI 1))) := by
      refine ⟨⟨by omega, hsL, hL1, hL2⟩, hCD, hPD, hf_Uc (fun f hf => hU f (by omega)) (fun i hi => pk_un (by omega)) (fun i hi => pk_un (by omega)) (fun i hi => pk_un (by omega)) (fun f hf => ⟨rfl, rfl, rfl, pk_un (by omega), pk_un (by omega)⟩), ⟨a1, a4, a6, pk_us, pk_us, hf_Sput a9 (fun i hi hne => by omega) (by rw [q1.1]; exact ho_Kn q1.2), ?_⟩, hm_Om (by omega) hO⟩
      unfold hf_A
      rw [hf_st_u]
      exact a10
    exact hl_Xs hn (fun post hp => hx_i hm hp16 hL2 hsL eq rfl (br_t (by decide) (br_t (by decide) (br_f (by decide) (hx_c19 hn (by omega) a1 a2 a3 a4 a5 hp))))) (hl_Ys hn (by omega) (fun post hp => hy_iT hn hm hp16 hL2 hsL er en eop rfl (by decide) (by decide) (hy_o19 hn (by omega) a3 ed a8 a7 hp)) (IH (s + 1) _ _ (by omega) (hm_mk hQ)))
end
end
section
/-! ===== X: a new object ===== -/
noncomputable def ho_al (S : Nat → Prop) (alive : Nat → Int32) (j : Nat) : Nat → Int32 := fun i => @ite _ (i < j ∧ ¬ S i) (Classical.propDecidable _) 0 (alive i)
theorem ho_al_t {S : Nat → Prop} {alive : Nat → Int32} {i j : Nat} (h : i < j ∧ ¬ S i) : ho_al S alive j i = 0 := by unfold ho_al; rw [if_pos h]
theorem ho_al_f {S : Nat → Prop} {alive : Nat → Int32} {i j : Nat} (h : ¬ (i < j ∧ ¬ S i)) : ho_al S alive j i = alive i := by unfold ho_al; rw [if_neg h]
theorem ho_al_0 (S : Nat → Prop) (alive : Nat → Int32) : ho_al S alive 0 = alive := funext (fun i => ho_al_f (by omega))
theorem ho_al_st {S : Nat → Prop} {alive : Nat → Int32} {j : Nat} (h : S j) : ho_al S alive j = ho_al S alive (j + 1) := by
  funext i
  by_cases z : i < j ∧ ¬ S i
  · rw [ho_al_t z, ho_al_t ⟨by omega, z.2⟩]
  · rw [ho_al_f z, ho_al_f (fun q => z ⟨by
      by_cases y : i = j
      · rw [y] at q; exact absurd h q.2
      · omega, q.2⟩)]
theorem ho_al_sf {S : Nat → Prop} {alive : Nat → Int32} {j : Nat} (h : ¬ S j) : upd (ho_al S alive j) j 0 = ho_al S alive (j + 1) := by
  funext i
  by_cases z : i = j
  · subst z; rw [pk_us, ho_al_t ⟨by omega, h⟩]
  · rw [pk_un z]
    by_cases y : i < j ∧ ¬ S i
    · rw [ho_al_t y, ho_al_t ⟨by omega, y.2⟩]
    · rw [ho_al_f y, ho_al_f (fun q => y ⟨by omega, q.2⟩)]
def ho_ze (o : Nat) (a : Nat → Int32) (j : Nat) : Nat → Int32 := fun i => if 4 * o ≤ i ∧ i < 4 * o + j then 0 else a i
theorem ho_ze0 (o : Nat) (a : Nat → Int32) : ho_ze o a 0 = a := funext (fun i => if_neg (by omega))
theorem ho_zes {o j : Nat} {a : Nat → Int32} : upd (ho_ze o a j) (4 * o + j) (vp_nar .short 0) = ho_ze o a (j + 1) := by
  funext i
  rw [ca_s0v]
  by_cases z : i = 4 * o + j
  · subst z; rw [pk_us]; exact (if_pos (by omega)).symm
  · rw [pk_un z]; unfold ho_ze
    by_cases y : 4 * o ≤ i ∧ i < 4 * o + j
    · rw [if_pos y, if_pos (by omega)]
    · rw [if_neg y, if_neg (by omega)]
theorem ho_and0 : ∀ x : Int32, (x = 0 ∨ x = 1) → vp_nar .boolean (x &&& 0) = 0 := by rintro x (rfl | rfl) <;> rfl
theorem ho_and1 : ∀ x : Int32, (x = 0 ∨ x = 1) → vp_nar .boolean (x &&& 1) = x := by rintro x (rfl | rfl) <;> rfl
section
variable {f_limit f_pending f_wide f_waiting f_height f_entries f_locals f_logLength f_open f_awaited f_frames f_sp f_base f_pc f_method f_steps f_status f_lastResult f_lastPlace : Int32} {a_ops a_args a_quick a_length a_exported a_known a_alive a_fresh a_lasting a_shared a_owner a_size a_element a_roots a_logCell a_logOld a_logged a_slot a_frameMethod a_framePc : Nat → Int32}
variable {L s n m p d e : Nat} {Q : SX → Prop}
theorem hx_freeO {P : Int32 → Prop} {o : Nat} (ho : o < 8) (h0 : a_alive o = 0) (hl : ∀ i, i < o → ¬ a_alive i = 0) (H : P (nI o)) : wpX_freeObject P (f_limit, f_pending, f_wide, f_waiting, f_height, f_entries, f_locals, f_logLength, f_open, f_awaited, f_frames, f_sp, f_base, f_pc, f_method, f_steps, f_status, f_lastResult, f_lastPlace, a_ops, a_args, a_quick, a_length, a_exported, a_known, a_alive, a_fresh, a_lasting, a_shared, a_owner, a_size, a_element, a_roots, a_logCell, a_logOld, a_logged, a_slot, a_frameMethod, a_framePc) := by
  unfold wpX_freeObject
  have key : ∀ (d j : Nat), j + d = o → wX_freeObject_2 P f_limit f_pending f_wide f_waiting f_height f_entries f_locals f_logLength f_open f_awaited f_frames f_sp f_base f_pc f_method f_steps f_status f_lastResult f_lastPlace a_ops a_args a_quick a_length a_exported a_known a_alive a_fresh a_lasting a_shared a_owner a_size a_element a_roots a_logCell a_logOld a_logged a_slot a_frameMethod a_framePc (d + 1) (nI j) := by
    intro d
    induction d with
    | zero =>
      intro j hj
      have e : j = o := by omega
      subst e
      have cj : (nI j).toNatClampNeg = j := nI_clamp (by omega)
      rw [wX_freeObject_2]
      exact br_f (nI_ge (b := 8) ho (by decide)) ⟨vp_in_nI ho (by decide), br_t (by rw [cj]; exact h0) H⟩
    | succ d ih =>
      intro j hj
      have cj : (nI j).toNatClampNeg = j := nI_clamp (by omega)
      rw [wX_freeObject_2]
      exact br_f (nI_ge (b := 8) (by omega) (by decide)) ⟨vp_in_nI (by omega) (by decide), br_f (by rw [cj]; exact hl j (by omega)) (nm_r (nI_1 _) (ih (j + 1) (by omega)))⟩
  exact ⟨o + 1, key o 0 (by omega)⟩
theorem hx_free8 {P : Int32 → Prop} (hl : ∀ i, i < 8 → ¬ a_alive i = 0) (H : P (nI 8)) : wpX_freeObject P (f_limit, f_pending, f_wide, f_waiting, f_height, f_entries, f_locals, f_logLength, f_open, f_awaited, f_frames, f_sp, f_base, f_pc, f_method, f_steps, f_status, f_lastResult, f_lastPlace, a_ops, a_args, a_quick, a_length, a_exported, a_known, a_alive, a_fresh, a_lasting, a_shared, a_owner, a_size, a_element, a_roots, a_logCell, a_logOld, a_logged, a_slot, a_frameMethod, a_framePc) := by
  unfold wpX_freeObject
  have key : ∀ (d j : Nat), j + d = 8 → wX_freeObject_2 P f_limit f_pending f_wide f_waiting f_height f_entries f_locals f_logLength f_open f_awaited f_frames f_sp f_base f_pc f_method f_steps f_status f_lastResult f_lastPlace a_ops a_args a_quick a_length a_exported a_known a_alive a_fresh a_lasting a_shared a_owner a_size a_element a_roots a_logCell a_logOld a_logged a_slot a_frameMethod a_framePc (d + 1) (nI j) := by
    intro d
    induction d with
    | zero =>
      intro j hj
      have e : j = 8 := by omega
      subst e
      rw [wX_freeObject_2]
      exact br_t (by decide) H
    | succ d ih =>
      intro j hj
      have cj : (nI j).toNatClampNeg = j := nI_clamp (by omega)
      rw [wX_freeObject_2]
      exact br_f (nI_ge (b := 8) (by omega) (by decide)) ⟨vp_in_nI (by omega) (by decide), br_f (by rw [cj]; exact hl j (by omega)) (nm_r (nI_1 _) (ih (j + 1) (by omega)))⟩
  exact ⟨8 + 1, key 8 0 (by decide)⟩
/-- what X holds: T is what the log adds -/
def hx_H (n : Nat) (te : Nat → Nat) (roots slot : Nat → Int32) (T : Nat → Prop) (i : Nat) : Prop := ((∃ r, r < 6 ∧ roots r = nI (65536 + i)) ∨ T i) ∨ ∃ f q, f < n + 1 ∧ 6 * f ≤ q ∧ q < te f ∧ slot q = nI (65536 + i)
theorem hx_held1 {post : Int32 → Prop} {te : Nat → Nat} {T : Nat → Prop} (hn : n < 4) (eF : f_frames = nI (n + 1)) (esp : f_sp = nI (te n)) (hte : ∀ f, f < n + 1 → 6 * f ≤ te f ∧ te f ≤ 24) (hfp : ∀ f, f < n → ∃ x, x < 128 ∧ a_framePc f = nI x ∧ te f = 6 * f + 2 + x / 16)
    (hT : (f_open = 0 ∧ ∀ i, ¬ T i) ∨ (¬ f_open = 0 ∧ ∃ (q : Nat) (c : Nat → Nat), f_logLength = nI q ∧ q ≤ 46 ∧ (∀ j, j < q → a_logCell j = nI (c j) ∧ c j < 46) ∧ ∀ i, T i ↔ ∃ e, e < q ∧ 32 ≤ c e ∧ c e < 38 ∧ a_logOld e = nI (65536 + i)))
    (H : ∀ msk, ho_M msk (hx_H n te a_roots a_slot T) → post msk) : wpX_heldNow post (f_limit, f_pending, f_wide, f_waiting, f_height, f_entries, f_locals, f_logLength, f_open, f_awaited, f_frames, f_sp, f_base, f_pc, f_method, f_steps, f_status, f_lastResult, f_lastPlace, a_ops, a_args, a_quick, a_length, a_exported, a_known, a_alive, a_fresh, a_lasting, a_shared, a_owner, a_size, a_element, a_roots, a_logCell, a_logOld, a_logged, a_slot, a_frameMethod, a_framePc) 1 := by
  have k93 : ∀ msk S, ho_M msk S → (∀ m', ho_M m' (fun i => S i ∨ ∃ f q, f < n + 1 ∧ 6 * f ≤ q ∧ q < te f ∧ a_slot q = nI (65536 + i)) → post m') → ∃ n93, wX_heldNow_93 post f_limit f_pending f_wide f_waiting f_height f_entries f_locals f_logLength f_open f_awaited f_frames f_sp f_base f_pc f_method f_steps f_status f_lastResult f_lastPlace a_ops a_args a_quick a_length a_exported a_known a_alive a_fresh a_lasting a_shared a_owner a_size a_element a_roots a_logCell a_logOld a_logged a_slot a_frameMethod a_framePc n93 msk 0 := fun msk S hM HH =>
    ⟨n + 1 + 1, hx_93 (F := n + 1) (te := te) (by omega) (by omega) eF (by rw [Nat.add_sub_cancel]; exact esp) hte (fun f hf => hfp f (by omega)) (n + 1) 0 msk S (by omega) hM (fun m' hM' => HH m' (ho_Mc hM' (fun i _ => ⟨fun w => w.elim Or.inl (fun ⟨f, q, _, h2, h3⟩ => Or.inr ⟨f, q, h2, h3⟩), fun w => w.elim Or.inl (fun ⟨f, q, h2, h3⟩ => Or.inr ⟨f, q, Nat.zero_le _, h2, h3⟩)⟩)))⟩
  unfold wpX_heldNow
  refine ⟨6 + 1, hx_4 (T := fun i => T i ∨ ∃ f q, f < n + 1 ∧ 6 * f ≤ q ∧ q < te f ∧ a_slot q = nI (65536 + i)) (fun msk S hM HH => br_f (by decide) ?_) 6 0 0 _ (by decide) ho_M0 (fun m' hM' => H m' (ho_Mc hM' (fun i _ => ⟨fun w => ?_, fun w => ?_⟩)))⟩
  · rcases hT with ⟨ho, hT0⟩ | ⟨ho, q, c, eq, hq, hc, hTi⟩
    · refine ⟨0 + 1, ?_⟩
      rw [wX_heldNow_36]
      have k := k93 msk S hM (fun m' hM' => HH m' (ho_Mc hM' (fun i _ => ⟨fun w => w.elim Or.inl (fun w => Or.inr (Or.inr w)), fun w => w.elim Or.inl (fun w => w.elim (fun w => absurd w (hT0 i)) Or.inr)⟩)))
      exact br_c (fun _ => k) (fun _ => br_t ho k)
    · exact ⟨q + 1, hx_36 eq hq ho hc k93 q 0 msk S (by omega) hM (fun m' hM' => HH m' (ho_Mc hM' (fun i _ => ⟨fun w => w.elim (fun w => w.elim Or.inl (fun ⟨e, _, h⟩ => Or.inr (Or.inl ((hTi i).mpr ⟨e, h⟩)))) (fun w => Or.inr (Or.inr w)), fun w => w.elim (fun w => Or.inl (Or.inl w)) (fun w => w.elim (fun w => by
        obtain ⟨e, h⟩ := (hTi i).mp w
        exact Or.inl (Or.inr ⟨e, Nat.zero_le _, h⟩)) Or.inr)⟩)))⟩
  · rcases w with (w | ⟨r, _, h⟩) | (w | w)
    · exact w.elim
    · exact Or.inl (Or.inl ⟨r, h⟩)
    · exact Or.inl (Or.inr w)
    · exact Or.inr w
  · rcases w with (⟨r, h⟩ | w) | w
    · exact Or.inl (Or.inr ⟨r, Nat.zero_le _, h⟩)
    · exact Or.inr (Or.inl w)
    · exact Or.inr (Or.inr w)
theorem hx_crA {x1 x2 : Int32} {o : Nat} (ho : o < 8) (h0 : a_alive o = 0) (hl : ∀ i, i < o → ¬ a_alive i = 0) (H : wX_create_64 Q x1 x2 (nI o) f_limit f_pending f_wide f_waiting f_height f_entries f_locals f_logLength f_open f_awaited f_frames f_sp f_base f_pc f_method f_steps f_status f_lastResult f_lastPlace a_ops a_args a_quick a_length a_exported a_known a_alive a_fresh a_lasting a_shared a_owner a_size a_element a_roots a_logCell a_logOld a_logged a_slot a_frameMethod a_framePc) : wpX_create Q (f_limit, f_pending, f_wide, f_waiting, f_height, f_entries, f_locals, f_logLength, f_open, f_awaited, f_frames, f_sp, f_base, f_pc, f_method, f_steps, f_status, f_lastResult, f_lastPlace, a_ops, a_args, a_quick, a_length, a_exported, a_known, a_alive, a_fresh, a_lasting, a_shared, a_owner, a_size, a_element, a_roots, a_logCell, a_logOld, a_logged, a_slot, a_frameMethod, a_framePc) x1 x2 := by
  unfold wpX_create
  refine hx_freeO ho h0 hl (br_f (fun q => ?_) H)
  have := (nI_eq (b := 8) (by omega) (by decide)).mp q
  omega
theorem hx_crB {x1 x2 : Int32} {S : Nat → Prop} (hall : ∀ i, i < 8 → ¬ a_alive i = 0) (hB : ca_B a_alive) (hh : ∀ post : Int32 → Prop, (∀ msk, ho_M msk S → post msk) → wpX_heldNow post (f_limit, f_pending, f_wide, f_waiting, f_height, f_entries, f_locals, f_logLength, f_open, f_awaited, f_frames, f_sp, f_base, f_pc, f_method, f_steps, f_status, f_lastResult, f_lastPlace, a_ops, a_args, a_quick, a_length, a_exported, a_known, a_alive, a_fresh, a_lasting, a_shared, a_owner, a_size, a_element, a_roots, a_logCell, a_logOld, a_logged, a_slot, a_frameMethod, a_framePc) 1) (H : ∀ post : Int32 → Prop, post = (fun r => wX_create_64 Q x1 x2 r f_limit f_pending f_wide f_waiting f_height f_entries f_locals f_logLength f_open f_awaited f_frames f_sp f_base f_pc f_method f_steps f_status f_lastResult f_lastPlace a_ops a_args a_quick a_length a_exported a_known (ho_al S a_alive 8) a_fresh a_lasting a_shared a_owner a_size a_element a_roots a_logCell a_logOld a_logged a_slot a_frameMethod a_framePc) → wpX_freeObject post (f_limit, f_pending, f_wide, f_waiting, f_height, f_entries, f_locals, f_logLength, f_open, f_awaited, f_frames, f_sp, f_base, f_pc, f_method, f_steps, f_status, f_lastResult, f_lastPlace, a_ops, a_args, a_quick, a_length, a_exported, a_known, ho_al S a_alive 8, a_fresh, a_lasting, a_shared, a_owner, a_size, a_element, a_roots, a_logCell, a_logOld, a_logged, a_slot, a_frameMethod, a_framePc)) : wpX_create Q (f_limit, f_pending, f_wide, f_waiting, f_height, f_entries, f_locals, f_logLength, f_open, f_awaited, f_frames, f_sp, f_base, f_pc, f_method, f_steps, f_status, f_lastResult, f_lastPlace, a_ops, a_args, a_quick, a_length, a_exported, a_known, a_alive, a_fresh, a_lasting, a_shared, a_owner, a_size, a_element, a_roots, a_logCell, a_logOld, a_logged, a_slot, a_frameMethod, a_framePc) x1 x2 := by
  unfold wpX_create
  refine hx_free8 hall (br_t rfl (hh _ (fun msk hM => ?_)))
  have key : ∀ (d j : Nat), j + d = 8 → wX_create_21 Q x1 x2 msk f_limit f_pending f_wide f_waiting f_height f_entries f_locals f_logLength f_open f_awaited f_frames f_sp f_base f_pc f_method f_steps f_status f_lastResult f_lastPlace (d + 1) (nI j) a_ops a_args a_quick a_length a_exported a_known (ho_al S a_alive j) a_fresh a_lasting a_shared a_owner a_size a_element a_roots a_logCell a_logOld a_logged a_slot a_frameMethod a_framePc := by
    intro d
    induction d with
    | zero =>
      intro j hj
      have e : j = 8 := by omega
      subst e
      rw [wX_create_21]
      exact br_t (by decide) (H _ rfl)
    | succ d ih =>
      intro j hj
      have cj : (nI j).toNatClampNeg = j := nI_clamp (by omega)
      have vj : vp_in (nI j) 8 := vp_in_nI (by omega) (by decide)
      rw [wX_create_21]
      dsimp only
      rw [cj, ho_al_f (show ¬ (j < j ∧ ¬ S j) by omega), ho_and0 _ (hB j), ho_and1 _ (hB j)]
      refine br_f (nI_ge (b := 8) (by omega) (by decide)) ⟨vj, br_c (fun z => ⟨vj, nm_r (e' := ho_al S a_alive (j + 1)) ?_ (nm_r (nI_1 _) (ih (j + 1) (by omega)))⟩) (fun z => ⟨vj, nm_r (e' := ho_al S a_alive (j + 1)) ?_ (nm_r (nI_1 _) (ih (j + 1) (by omega)))⟩)⟩
      · rw [hx_bit msk (by omega)] at z
        refine ho_al_sf (fun w => ?_)
        rw [(hM j).mpr ⟨by omega, w⟩] at z; cases z
      · rw [hx_bit msk (by omega)] at z
        have w : bt msk j = true := by
          cases q : bt msk j with
          | true => rfl
          | false => exact absurd q z
        rw [hx_updI _ _ (ho_al_f (show ¬ (j < j ∧ ¬ S j) by omega)).symm]
        exact ho_al_st ((hM j).mp w).2
  have := key 8 0 (by decide)
  rw [ho_al_0] at this
  exact ⟨8 + 1, this⟩
theorem hx_64M {x1 x2 : Int32} (H : Q (f_limit, f_pending, f_wide, f_waiting, f_height, f_entries, f_locals, f_logLength, f_open, f_awaited, f_frames, f_sp, f_base, f_pc, f_method, f_steps, 7, f_lastResult, f_lastPlace, a_ops, a_args, a_quick, a_length, a_exported, a_known, a_alive, a_fresh, a_lasting, a_shared, a_owner, a_size, a_element, a_roots, a_logCell, a_logOld, a_logged, a_slot, a_frameMethod, a_framePc)) : wX_create_64 Q x1 x2 (nI 8) f_limit f_pending f_wide f_waiting f_height f_entries f_locals f_logLength f_open f_awaited f_frames f_sp f_base f_pc f_method f_steps f_status f_lastResult f_lastPlace a_ops a_args a_quick a_length a_exported a_known a_alive a_fresh a_lasting a_shared a_owner a_size a_element a_roots a_logCell a_logOld a_logged a_slot a_frameMethod a_framePc := by
  unfold wX_create_64
  exact br_t rfl H
theorem hx_89 {z o a : Nat} {x2 : Int32} (hz : z ≤ 4) (ho : o < 8) (hm : m < 6) (h2 : x2 = 0 ∨ x2 = 1) (ha : a < 24) (H : Q (f_limit, f_pending, f_wide, f_waiting, f_height, f_entries, f_locals, f_logLength, f_open, f_awaited, f_frames, nI (a + 1), f_base, f_pc, nI m, f_steps, f_status, f_lastResult, f_lastPlace, a_ops, a_args, a_quick, a_length, a_exported, a_known, upd a_alive o 1, upd a_fresh o 1, upd a_lasting o x2, upd a_shared o 0, upd a_owner o (nI (m / 2)), upd a_size o (nI z), ho_ze o a_element 4, a_roots, a_logCell, a_logOld, a_logged, upd a_slot a (nI (65536 + o)), a_frameMethod, a_framePc)) : wX_create_89 Q (nI z) x2 (nI o) f_limit f_pending f_wide f_waiting f_height f_entries f_locals f_logLength f_open f_awaited f_frames (nI (a + 1)) f_base f_pc (nI m) f_steps f_status f_lastResult f_lastPlace a_ops a_args a_quick a_length a_exported a_known a_alive a_fresh a_lasting a_shared a_owner a_size a_element a_roots a_logCell a_logOld a_logged a_slot a_frameMethod a_framePc := by
  have co : (nI o).toNatClampNeg = o := nI_clamp (by omega)
  have vo : vp_in (nI o) 8 := vp_in_nI ho (by decide)
  have e1 : nI m >>> ((1 : Int32) &&& 31) = nI (m / 2) := hx_shr (k := 1) (by omega) (by decide)
  have e4 : 4 * nI o = nI (4 * o) := pk_mul 4 o
  have e44 : nI (4 * o) + 4 = nI (4 * o + 4) := nI_add _ 4
  have key : ∀ (d j : Nat), j + d = 4 → wX_create_143 Q (nI o) f_limit f_pending f_wide f_waiting f_height f_entries f_locals f_logLength f_open f_awaited f_frames (nI (a + 1)) f_base f_pc (nI m) f_steps f_status f_lastResult f_lastPlace (d + 1) (nI (4 * o + j)) a_ops a_args a_quick a_length a_exported a_known (upd a_alive o 1) (upd a_fresh o 1) (upd a_lasting o x2) (upd a_shared o 0) (upd a_owner o (nI (m / 2))) (upd a_size o (nI z)) (ho_ze o a_element j) a_roots a_logCell a_logOld a_logged a_slot a_frameMethod a_framePc := by
    intro d
    induction d with
    | zero =>
      intro j hj
      have e : j = 4 := by omega
      subst e
      have ca : (nI a).toNatClampNeg = a := nI_clamp (by omega)
      rw [wX_create_143]
      dsimp only
      rw [e4, e44, nI_pred, ca, show (65536 : Int32) + nI o = nI (65536 + o) from nI_add 65536 o]
      exact br_t (nI_le (by omega) (by omega)) ⟨vp_in_nI ha (by decide), nm_e H⟩
    | succ d ih =>
      intro j hj
      have cj : (nI (4 * o + j)).toNatClampNeg = 4 * o + j := nI_clamp (by omega)
      rw [wX_create_143]
      dsimp only
      rw [e4, e44, cj]
      exact br_f (nI_ge (by omega) (by omega)) ⟨vp_in_nI (by omega) (by decide), nm_r ho_zes (nm_r (nI_1 _) (ih (j + 1) (by omega)))⟩
  unfold wX_create_89
  rw [co, e1, e4, ca_vb' (by omega), ca_vb' (by omega), ca_nb h2]
  have := key 4 0 (by decide)
  rw [ho_ze0] at this
  exact ⟨vo, nm_e ⟨vo, nm_e ⟨vo, nm_e ⟨vo, nm_e ⟨vo, nm_e ⟨vo, nm_e (nm_e ⟨4 + 1, this⟩)⟩⟩⟩⟩⟩⟩
theorem hx_64G {z o a : Nat} {x2 : Int32} (hz : z ≤ 4) (ho : o < 8) (hm : m < 6) (h2 : x2 = 0 ∨ x2 = 1) (ha : a < 24) (HT : x2 = 1 → f_awaited = 0 → Q (f_limit, f_pending, f_wide, f_waiting, f_height, f_entries, f_locals, f_logLength, f_open, f_awaited, f_frames, nI (a + 1), f_base, f_pc, nI m, f_steps, 9, f_lastResult, f_lastPlace, a_ops, a_args, a_quick, a_length, a_exported, a_known, a_alive, a_fresh, a_lasting, a_shared, a_owner, a_size, a_element, a_roots, a_logCell, a_logOld, a_logged, a_slot, a_frameMethod, a_framePc))
    (H0 : x2 = 0 → Q (f_limit, f_pending, f_wide, f_waiting, f_height, f_entries, f_locals, f_logLength, f_open, f_awaited, f_frames, nI (a + 1), f_base, f_pc, nI m, f_steps, f_status, f_lastResult, f_lastPlace, a_ops, a_args, a_quick, a_length, a_exported, a_known, upd a_alive o 1, upd a_fresh o 1, upd a_lasting o x2, upd a_shared o 0, upd a_owner o (nI (m / 2)), upd a_size o (nI z), ho_ze o a_element 4, a_roots, a_logCell, a_logOld, a_logged, upd a_slot a (nI (65536 + o)), a_frameMethod, a_framePc))
    (H1 : x2 = 1 → ¬ f_awaited = 0 → Q (f_limit, f_pending, f_wide, f_waiting, f_height, f_entries, f_locals, f_logLength, f_open, hw_aw f_awaited, f_frames, nI (a + 1), f_base, f_pc, nI m, f_steps, f_status, f_lastResult, f_lastPlace, a_ops, a_args, a_quick, a_length, a_exported, a_known, upd a_alive o 1, upd a_fresh o 1, upd a_lasting o x2, upd a_shared o 0, upd a_owner o (nI (m / 2)), upd a_size o (nI z), ho_ze o a_element 4, a_roots, a_logCell, a_logOld, a_logged, upd a_slot a (nI (65536 + o)), a_frameMethod, a_framePc)) : wX_create_64 Q (nI z) x2 (nI o) f_limit f_pending f_wide f_waiting f_height f_entries f_locals f_logLength f_open f_awaited f_frames (nI (a + 1)) f_base f_pc (nI m) f_steps f_status f_lastResult f_lastPlace a_ops a_args a_quick a_length a_exported a_known a_alive a_fresh a_lasting a_shared a_owner a_size a_element a_roots a_logCell a_logOld a_logged a_slot a_frameMethod a_framePc := by
  unfold wX_create_64
  refine br_f (fun q => ?_) (br_c (fun y => hx_89 hz ho hm h2 ha (H0 y)) (fun y => ?_))
  · have := (nI_eq (b := 8) (by omega) (by decide)).mp q
    omega
  · have y1 : x2 = 1 := h2.elim (fun w => absurd w y) id
    exact hx_due (fun w => br_t rfl (HT y1 w)) (fun w => br_f (by decide) (hx_89 hz ho hm h2 ha (H1 y1 w)))
/-- the way to the creation -/
theorem hx_s11B {b : Int32} {P : SX → Prop} (hn : n < 4) (he : e < 4) (hx : ¬ ∃ z, 1 ≤ z ∧ z ≤ 4 ∧ a_slot (6 * n + 2 + e) = nI z) (H : P (nI L, f_pending, f_wide, f_waiting, f_height, f_entries, f_locals, f_logLength, f_open, f_awaited, nI (n + 1), nI (6 * n + 2 + (e + 1)), nI (6 * n), nI p, nI m, nI s, 4, 0, -1, a_ops, a_args, a_quick, a_length, a_exported, a_known, a_alive, a_fresh, a_lasting, a_shared, a_owner, a_size, a_element, a_roots, a_logCell, a_logOld, a_logged, a_slot, a_frameMethod, a_framePc)) : wpX_simple P (nI L, f_pending, f_wide, f_waiting, f_height, f_entries, f_locals, f_logLength, f_open, f_awaited, nI (n + 1), nI (6 * n + 2 + (e + 1)), nI (6 * n), nI p, nI m, nI s, 0, 0, -1, a_ops, a_args, a_quick, a_length, a_exported, a_known, a_alive, a_fresh, a_lasting, a_shared, a_owner, a_size, a_element, a_roots, a_logCell, a_logOld, a_logged, a_slot, a_frameMethod, a_framePc) (nI 11) b := by
  have es : nI (6 * n + 2 + (e + 1)) - 1 = nI (6 * n + 2 + e) := nI_pred _
  have cs : (nI (6 * n + 2 + e)).toNatClampNeg = 6 * n + 2 + e := nI_clamp (by omega)
  have k264 : wX_simple_264 P (nI L) f_pending f_wide f_waiting f_height f_entries f_locals f_logLength f_open f_awaited (nI (n + 1)) (nI (6 * n + 2 + (e + 1))) (nI (6 * n)) (nI (p + 1)) (nI m) (nI s) 0 0 (-1) a_ops a_args a_quick a_length a_exported a_known a_alive a_fresh a_lasting a_shared a_owner a_size a_element a_roots a_logCell a_logOld a_logged a_slot a_frameMethod a_framePc := by
    unfold wX_simple_264 wX_simple_286
    exact br_f (by decide) (nm_r (nI_pred p) H)
  unfold wpX_simple
  refine nm_r (nI_1 _) (br_f (by decide) (br_t (by decide) ?_))
  refine ⟨by rw [es]; exact vp_in_nI (by omega) (by decide), nm_r (e' := a_slot (6 * n + 2 + e)) (by rw [es, cs]) ?_⟩
  generalize a_slot (6 * n + 2 + e) = x at hx ⊢
  refine br_c (fun _ => k264) (fun y1 => br_f (fun y2 => hx ?_) k264)
  have h0 : ¬ x < 0 := fun q => y1 (Int32.lt_trans q (by decide))
  obtain ⟨z, hz, rfl⟩ := nI_of h0
  refine ⟨z, Nat.le_of_not_lt (fun q => y1 (nI_lt (b := 1) q (by decide))), (nI_leI (b := 4) hz (by decide)).mp y2, rfl⟩
theorem hx_s11 {b z : Nat} {P : SX → Prop} (hn : n < 4) (he : e < 4) (hb : b < 2) (hz1 : 1 ≤ z) (hz4 : z ≤ 4) (ez : a_slot (6 * n + 2 + e) = nI z) (K : wpX_create (fun u => match u with | (f_limit, f_pending, f_wide, f_waiting, f_height, f_entries, f_locals, f_logLength, f_open, f_awaited, f_frames, f_sp, f_base, f_pc, f_method, f_steps, f_status, f_lastResult, f_lastPlace, a_ops, a_args, a_quick, a_length, a_exported, a_known, a_alive, a_fresh, a_lasting, a_shared, a_owner, a_size, a_element, a_roots, a_logCell, a_logOld, a_logged, a_slot, a_frameMethod, a_framePc) => (wX_simple_286 P f_limit f_pending f_wide f_waiting f_height f_entries f_locals f_logLength f_open f_awaited f_frames f_sp f_base f_pc f_method f_steps f_status f_lastResult f_lastPlace a_ops a_args a_quick a_length a_exported a_known a_alive a_fresh a_lasting a_shared a_owner a_size a_element a_roots a_logCell a_logOld a_logged a_slot a_frameMethod a_framePc)) (nI L, f_pending, f_wide, f_waiting, f_height, f_entries, f_locals, f_logLength, f_open, f_awaited, nI (n + 1), nI (6 * n + 2 + (e + 1)), nI (6 * n), nI (p + 1), nI m, nI s, 0, 0, -1, a_ops, a_args, a_quick, a_length, a_exported, a_known, a_alive, a_fresh, a_lasting, a_shared, a_owner, a_size, a_element, a_roots, a_logCell, a_logOld, a_logged, a_slot, a_frameMethod, a_framePc) (nI z) (if b = 0 then 1 else 0)) : wpX_simple P (nI L, f_pending, f_wide, f_waiting, f_height, f_entries, f_locals, f_logLength, f_open, f_awaited, nI (n + 1), nI (6 * n + 2 + (e + 1)), nI (6 * n), nI p, nI m, nI s, 0, 0, -1, a_ops, a_args, a_quick, a_length, a_exported, a_known, a_alive, a_fresh, a_lasting, a_shared, a_owner, a_size, a_element, a_roots, a_logCell, a_logOld, a_logged, a_slot, a_frameMethod, a_framePc) (nI 11) (nI b) := by
  have es : nI (6 * n + 2 + (e + 1)) - 1 = nI (6 * n + 2 + e) := nI_pred _
  have cs : (nI (6 * n + 2 + e)).toNatClampNeg = 6 * n + 2 + e := nI_clamp (by omega)
  unfold wpX_simple
  refine nm_r (nI_1 _) (br_f (by decide) (br_t (by decide) ?_))
  refine ⟨by rw [es]; exact vp_in_nI (by omega) (by decide), nm_r (e' := nI z) (by rw [es, cs]; exact ez) (br_f (nI_nlt (a := z) (b := 1) hz1 (by omega)) (br_t (nI_le (b := 4) hz4 (by decide)) ?_))⟩
  unfold wX_simple_283
  refine pk_eq b 0 (fun w => ?_) (fun w => ?_)
  · rw [if_pos w] at K; exact K
  · rw [if_neg w] at K; exact K
end
end
section
/-! ===== Y: a new object ===== -/
section
variable {g_limit g_waiting g_stack g_locals g_running g_steps g_awaited g_answer g_where g_outcome : Int32} {g_made : Int64} {g_good g_open : Int32} {b_ops b_bs b_sizes b_exported : Nat → Int32} {b_stamp : Nat → Int64} {b_owner b_lengths b_elements b_lasting b_shared b_roots : Nat → Int32} {b_oldStamp : Nat → Int64} {b_oldElements b_oldShared b_oldRoots b_rows b_nexts b_depths b_places b_kinds b_met b_todo b_heights : Nat → Int32}
variable {f_open f_awaited : Int32}
variable {L s n m p d e : Nat} {P : SY → Prop}
theorem hy_freeL {post : Int32 → Prop} {F : Nat} {D : Nat → Nat} (hF : F ≤ 4) (eF : g_running = nI F) (hD : ∀ f, f < F → b_depths f = nI (D f) ∧ D f ≤ 6) (H1 : ∀ p, p < 8 → ¬ hy_H F g_open b_roots b_oldRoots b_places b_kinds D p → (∀ i, i < p → hy_H F g_open b_roots b_oldRoots b_places b_kinds D i) → post (nI p)) (H0 : (∀ p, p < 8 → hy_H F g_open b_roots b_oldRoots b_places b_kinds D p) → post (-1)) : wpY_free post (g_limit, g_waiting, g_stack, g_locals, g_running, g_steps, g_awaited, g_answer, g_where, g_outcome, g_made, g_good, g_open, b_ops, b_bs, b_sizes, b_exported, b_stamp, b_owner, b_lengths, b_elements, b_lasting, b_shared, b_roots, b_oldStamp, b_oldElements, b_oldShared, b_oldRoots, b_rows, b_nexts, b_depths, b_places, b_kinds, b_met, b_todo, b_heights) := by
  unfold wpY_free
  have key : ∀ (d j : Nat), j + d = 8 → (∀ p, p < j → hy_H F g_open b_roots b_oldRoots b_places b_kinds D p) → wY_free_2 post g_limit g_waiting g_stack g_locals g_running g_steps g_awaited g_answer g_where g_outcome g_made g_good g_open b_ops b_bs b_sizes b_exported b_stamp b_owner b_lengths b_elements b_lasting b_shared b_roots b_oldStamp b_oldElements b_oldShared b_oldRoots b_rows b_nexts b_depths b_places b_kinds b_met b_todo b_heights (d + 1) (nI j) := by
    intro d
    induction d with
    | zero =>
      intro j hj h
      rw [wY_free_2]
      exact br_t (nI_le (a := 8) (by omega) (by omega)) (H0 (fun p hp => h p (by omega)))
    | succ d ih =>
      intro j hj h
      rw [wY_free_2]
      refine br_f (nI_ge (b := 8) (by omega) (by decide)) (hy_isHeld hF eF hD (fun z => br_f (by decide) (nm_r (nI_1 _) (ih (j + 1) (by omega) (fun p hp => ?_)))) (fun z => br_t rfl (H1 j (by omega) z h)))
      by_cases q : p = j
      · subst q; exact z
      · exact h p (by omega)
  exact ⟨8 + 1, key 8 0 (by decide) (fun p hp => by cases hp)⟩
theorem hy_mkB {b : Int32} {D : Nat → Nat} (hn : n < 4) (he : e < 4) (hD : ∀ f, f < n + 1 → b_depths f = nI (D f) ∧ D f ≤ 6) (ed : b_depths n = nI (e + 1)) (hx : ¬ ∃ z, 1 ≤ z ∧ z ≤ 4 ∧ b_places (8 * n + 2 + e) = nI z) (H : wpY_end (fun u => match u with | (g_limit, g_waiting, g_stack, g_locals, g_running, g_steps, g_awaited, g_answer, g_where, g_outcome, g_made, g_good, g_open, b_ops, b_bs, b_sizes, b_exported, b_stamp, b_owner, b_lengths, b_elements, b_lasting, b_shared, b_roots, b_oldStamp, b_oldElements, b_oldShared, b_oldRoots, b_rows, b_nexts, b_depths, b_places, b_kinds, b_met, b_todo, b_heights) => (P (g_limit, g_waiting, g_stack, g_locals, g_running, g_steps, g_awaited, g_answer, g_where, g_outcome, g_made, g_good, g_open, b_ops, b_bs, b_sizes, b_exported, b_stamp, b_owner, b_lengths, b_elements, b_lasting, b_shared, b_roots, b_oldStamp, b_oldElements, b_oldShared, b_oldRoots, b_rows, b_nexts, b_depths, b_places, b_kinds, b_met, b_todo, b_heights))) (nI L, g_waiting, g_stack, g_locals, nI (n + 1), nI s, f_awaited, 0, g_where, g_outcome, g_made, g_good, f_open, b_ops, b_bs, b_sizes, b_exported, b_stamp, b_owner, b_lengths, b_elements, b_lasting, b_shared, b_roots, b_oldStamp, b_oldElements, b_oldShared, b_oldRoots, b_rows, b_nexts, b_depths, b_places, b_kinds, b_met, b_todo, b_heights) 4) : wpY_onObject P (nI L, g_waiting, g_stack, g_locals, nI (n + 1), nI s, f_awaited, 0, g_where, g_outcome, g_made, g_good, f_open, b_ops, b_bs, b_sizes, b_exported, b_stamp, b_owner, b_lengths, b_elements, b_lasting, b_shared, b_roots, b_oldStamp, b_oldElements, b_oldShared, b_oldRoots, b_rows, b_nexts, b_depths, b_places, b_kinds, b_met, b_todo, b_heights) (nI 11) b := by
  have k21 : wY_make_21 (fun u => match u with | (g_limit, g_waiting, g_stack, g_locals, g_running, g_steps, g_awaited, g_answer, g_where, g_outcome, g_made, g_good, g_open, b_ops, b_bs, b_sizes, b_exported, b_stamp, b_owner, b_lengths, b_elements, b_lasting, b_shared, b_roots, b_oldStamp, b_oldElements, b_oldShared, b_oldRoots, b_rows, b_nexts, b_depths, b_places, b_kinds, b_met, b_todo, b_heights) => (P (g_limit, g_waiting, g_stack, g_locals, g_running, g_steps, g_awaited, g_answer, g_where, g_outcome, g_made, g_good, g_open, b_ops, b_bs, b_sizes, b_exported, b_stamp, b_owner, b_lengths, b_elements, b_lasting, b_shared, b_roots, b_oldStamp, b_oldElements, b_oldShared, b_oldRoots, b_rows, b_nexts, b_depths, b_places, b_kinds, b_met, b_todo, b_heights))) (nI L) g_waiting g_stack g_locals (nI (n + 1)) (nI s) f_awaited 0 g_where g_outcome g_made g_good f_open b_ops b_bs b_sizes b_exported b_stamp b_owner b_lengths b_elements b_lasting b_shared b_roots b_oldStamp b_oldElements b_oldShared b_oldRoots b_rows b_nexts b_depths b_places b_kinds b_met b_todo b_heights := by
    unfold wY_make_21
    exact H
  have kk : ∀ A : Prop, ((b_places (8 * n + 2 + e) < 1 → wY_make_21 (fun u => match u with | (g_limit, g_waiting, g_stack, g_locals, g_running, g_steps, g_awaited, g_answer, g_where, g_outcome, g_made, g_good, g_open, b_ops, b_bs, b_sizes, b_exported, b_stamp, b_owner, b_lengths, b_elements, b_lasting, b_shared, b_roots, b_oldStamp, b_oldElements, b_oldShared, b_oldRoots, b_rows, b_nexts, b_depths, b_places, b_kinds, b_met, b_todo, b_heights) => (P (g_limit, g_waiting, g_stack, g_locals, g_running, g_steps, g_awaited, g_answer, g_where, g_outcome, g_made, g_good, g_open, b_ops, b_bs, b_sizes, b_exported, b_stamp, b_owner, b_lengths, b_elements, b_lasting, b_shared, b_roots, b_oldStamp, b_oldElements, b_oldShared, b_oldRoots, b_rows, b_nexts, b_depths, b_places, b_kinds, b_met, b_todo, b_heights))) (nI L) g_waiting g_stack g_locals (nI (n + 1)) (nI s) f_awaited 0 g_where g_outcome g_made g_good f_open b_ops b_bs b_sizes b_exported b_stamp b_owner b_lengths b_elements b_lasting b_shared b_roots b_oldStamp b_oldElements b_oldShared b_oldRoots b_rows b_nexts b_depths b_places b_kinds b_met b_todo b_heights) ∧ (¬ b_places (8 * n + 2 + e) < 1 → ((b_places (8 * n + 2 + e) ≤ 4 → A) ∧ (¬ b_places (8 * n + 2 + e) ≤ 4 → wY_make_21 (fun u => match u with | (g_limit, g_waiting, g_stack, g_locals, g_running, g_steps, g_awaited, g_answer, g_where, g_outcome, g_made, g_good, g_open, b_ops, b_bs, b_sizes, b_exported, b_stamp, b_owner, b_lengths, b_elements, b_lasting, b_shared, b_roots, b_oldStamp, b_oldElements, b_oldShared, b_oldRoots, b_rows, b_nexts, b_depths, b_places, b_kinds, b_met, b_todo, b_heights) => (P (g_limit, g_waiting, g_stack, g_locals, g_running, g_steps, g_awaited, g_answer, g_where, g_outcome, g_made, g_good, g_open, b_ops, b_bs, b_sizes, b_exported, b_stamp, b_owner, b_lengths, b_elements, b_lasting, b_shared, b_roots, b_oldStamp, b_oldElements, b_oldShared, b_oldRoots, b_rows, b_nexts, b_depths, b_places, b_kinds, b_met, b_todo, b_heights))) (nI L) g_waiting g_stack g_locals (nI (n + 1)) (nI s) f_awaited 0 g_where g_outcome g_made g_good f_open b_ops b_bs b_sizes b_exported b_stamp b_owner b_lengths b_elements b_lasting b_shared b_roots b_oldStamp b_oldElements b_oldShared b_oldRoots b_rows b_nexts b_depths b_places b_kinds b_met b_todo b_heights)))) := fun A => by
    refine br_c (fun _ => k21) (fun y1 => br_f (fun y2 => hx ?_) k21)
    generalize b_places (8 * n + 2 + e) = x at y1 y2
    have h0 : ¬ x < 0 := fun q => y1 (Int32.lt_trans q (by decide))
    obtain ⟨z, hz, rfl⟩ := nI_of h0
    exact ⟨z, Nat.le_of_not_lt (fun q => y1 (nI_lt (b := 1) q (by decide))), (nI_leI (b := 4) hz (by decide)).mp y2, rfl⟩
  unfold wpY_onObject
  refine br_t (by decide) ?_
  unfold wpY_make
  exact hy_entry (j := 0) (e := e) hn (by omega) ed (hy_free (F := n + 1) (D := D) (by omega) rfl hD (fun p hp _ => kk _) (fun _ => kk _))
theorem hy_mkM {b : Int32} {z : Nat} {D : Nat → Nat} (hn : n < 4) (he : e < 4) (hz1 : 1 ≤ z) (hz4 : z ≤ 4) (hD : ∀ f, f < n + 1 → b_depths f = nI (D f) ∧ D f ≤ 6) (ed : b_depths n = nI (e + 1)) (ez : b_places (8 * n + 2 + e) = nI z) (hall : ∀ p, p < 8 → hy_H (n + 1) f_open b_roots b_oldRoots b_places b_kinds D p) (H : wpY_end (fun u => match u with | (g_limit, g_waiting, g_stack, g_locals, g_running, g_steps, g_awaited, g_answer, g_where, g_outcome, g_made, g_good, g_open, b_ops, b_bs, b_sizes, b_exported, b_stamp, b_owner, b_lengths, b_elements, b_lasting, b_shared, b_roots, b_oldStamp, b_oldElements, b_oldShared, b_oldRoots, b_rows, b_nexts, b_depths, b_places, b_kinds, b_met, b_todo, b_heights) => (P (g_limit, g_waiting, g_stack, g_locals, g_running, g_steps, g_awaited, g_answer, g_where, g_outcome, g_made, g_good, g_open, b_ops, b_bs, b_sizes, b_exported, b_stamp, b_owner, b_lengths, b_elements, b_lasting, b_shared, b_roots, b_oldStamp, b_oldElements, b_oldShared, b_oldRoots, b_rows, b_nexts, b_depths, b_places, b_kinds, b_met, b_todo, b_heights))) (nI L, g_waiting, g_stack, g_locals, nI (n + 1), nI s, f_awaited, 0, g_where, g_outcome, g_made, g_good, f_open, b_ops, b_bs, b_sizes, b_exported, b_stamp, b_owner, b_lengths, b_elements, b_lasting, b_shared, b_roots, b_oldStamp, b_oldElements, b_oldShared, b_oldRoots, b_rows, b_nexts, b_depths, b_places, b_kinds, b_met, b_todo, b_heights) 7) : wpY_onObject P (nI L, g_waiting, g_stack, g_locals, nI (n + 1), nI s, f_awaited, 0, g_where, g_outcome, g_made, g_good, f_open, b_ops, b_bs, b_sizes, b_exported, b_stamp, b_owner, b_lengths, b_elements, b_lasting, b_shared, b_roots, b_oldStamp, b_oldElements, b_oldShared, b_oldRoots, b_rows, b_nexts, b_depths, b_places, b_kinds, b_met, b_todo, b_heights) (nI 11) b := by
  unfold wpY_onObject
  refine br_t (by decide) ?_
  unfold wpY_make
  refine hy_entry (j := 0) (e := e) hn (by omega) ed (hy_free (F := n + 1) (D := D) (by omega) rfl hD (fun p hp hn => absurd (hall p hp) hn) (fun _ => ?_))
  rw [ez]
  exact br_f (nI_nlt (a := z) (b := 1) hz1 (by omega)) (br_t (nI_le (b := 4) hz4 (by decide)) (br_f (by decide) H))
theorem hy_54m {z q b : Nat} (hn : n < 4) (he : e < 4) (hm : m < 6) (hq : q < 8) (er : b_rows n = nI m) (ed : b_depths n = nI (e + 1)) (en : b_nexts n = nI p) (H : P (nI L, g_waiting, g_stack, g_locals, nI (n + 1), nI s, f_awaited, 0, g_where, g_outcome, g_made + 1, g_good, f_open, b_ops, b_bs, b_sizes, b_exported, vp_updL b_stamp q (g_made + 1), upd b_owner q (nI (m / 2)), upd b_lengths q (nI z), ho_ze q b_elements 4, upd b_lasting q (if b = 0 then 1 else 0), upd b_shared q 0, b_roots, b_oldStamp, b_oldElements, b_oldShared, b_oldRoots, b_rows, upd b_nexts n (nI (p + 1)), upd (upd b_depths n (nI e)) n (nI (e + 1)), upd b_places (8 * n + 2 + e) (nI q), upd b_kinds (8 * n + 2 + e) (nI 2), b_met, b_todo, b_heights)) (hb : b < 2) : wY_make_54 P (nI b) (nI z) (nI q) (nI L) g_waiting g_stack g_locals (nI (n + 1)) (nI s) f_awaited 0 g_where g_outcome g_made g_good f_open b_ops b_bs b_sizes b_exported b_stamp b_owner b_lengths b_elements b_lasting b_shared b_roots b_oldStamp b_oldElements b_oldShared b_oldRoots b_rows b_nexts b_depths b_places b_kinds b_met b_todo b_heights := by
  have cq : (nI q).toNatClampNeg = q := nI_clamp (by omega)
  have vq : vp_in (nI q) 8 := vp_in_nI hq (by decide)
  have e4 : 4 * nI q = nI (4 * q) := pk_mul 4 q
  have e44 : nI (4 * q) + 4 = nI (4 * q + 4) := nI_add _ 4
  have k105 : ∀ z0 : Int32, (z0 = 0 ∨ z0 = 1) → z0 = (if b = 0 then 1 else 0) → wY_make_105 P (nI q) z0 (nI q) (nI L) g_waiting g_stack g_locals (nI (n + 1)) (nI s) f_awaited 0 g_where g_outcome (g_made + 1) g_good f_open b_ops b_bs b_sizes b_exported (vp_updL b_stamp q (g_made + 1)) (upd b_owner q (nI (m / 2))) (upd b_lengths q (nI z)) b_elements b_lasting b_shared b_roots b_oldStamp b_oldElements b_oldShared b_oldRoots b_rows b_nexts b_depths b_places b_kinds b_met b_todo b_heights := fun z0 h01 hz0 => by
    have key : ∀ (d j : Nat), j + d = 4 → wY_make_118 P (nI q) (nI L) g_waiting g_stack g_locals (nI (n + 1)) (nI s) f_awaited 0 g_where g_outcome (g_made + 1) g_good f_open (d + 1) (nI (4 * q + j)) b_ops b_bs b_sizes b_exported (vp_updL b_stamp q (g_made + 1)) (upd b_owner q (nI (m / 2))) (upd b_lengths q (nI z)) (ho_ze q b_elements j) (upd b_lasting q z0) (upd b_shared q 0) b_roots b_oldStamp b_oldElements b_oldShared b_oldRoots b_rows b_nexts b_depths b_places b_kinds b_met b_todo b_heights := by
      intro d
      induction d with
      | zero =>
        intro j hj
        have e' : j = 4 := by omega
        subst e'
        rw [wY_make_118]
        dsimp only
        rw [e4, e44]
        rw [← hz0] at H
        exact br_t (nI_le (by omega) (by omega)) (hy_drop (j := 1) hn (by omega) ed (hy_push (k := 2) hn (by omega) (by decide) pk_us (hy_on hn en H)))
      | succ d ih =>
        intro j hj
        have cj : (nI (4 * q + j)).toNatClampNeg = 4 * q + j := nI_clamp (by omega)
        rw [wY_make_118]
        dsimp only
        rw [e4, e44, cj]
        exact br_f (nI_ge (by omega) (by omega)) ⟨vp_in_nI (by omega) (by decide), nm_r ho_zes (nm_r (nI_1 _) (ih (j + 1) (by omega)))⟩
    unfold wY_make_105
    rw [cq, ca_nb h01, e4]
    have := key 4 0 (by decide)
    rw [ho_ze0] at this
    exact ⟨vq, nm_e ⟨vq, nm_e (nm_e ⟨4 + 1, this⟩)⟩⟩
  unfold wY_make_54
  rw [cq]
  refine nm_e ⟨vq, nm_e (hy_applet hn hm er ⟨vq, nm_e ⟨vq, nm_e (pk_eq b 0 (fun w => k105 1 (Or.inr rfl) ?_) (fun w => k105 0 (Or.inl rfl) ?_))⟩⟩)⟩
  · rw [if_pos w]
  · rw [if_neg w]
theorem hy_mkG {z q b : Nat} {D : Nat → Nat} (hn : n < 4) (he : e < 4) (hm : m < 6) (hb : b < 2) (hz1 : 1 ≤ z) (hz4 : z ≤ 4) (hD : ∀ f, f < n + 1 → b_depths f = nI (D f) ∧ D f ≤ 6) (ed : b_depths n = nI (e + 1)) (ez : b_places (8 * n + 2 + e) = nI z) (hq : q < 8) (hnq : ¬ hy_H (n + 1) f_open b_roots b_oldRoots b_places b_kinds D q) (hlq : ∀ i, i < q → hy_H (n + 1) f_open b_roots b_oldRoots b_places b_kinds D i)
    (HT : b = 0 → f_awaited = 0 → wpY_end (fun u => match u with | (g_limit, g_waiting, g_stack, g_locals, g_running, g_steps, g_awaited, g_answer, g_where, g_outcome, g_made, g_good, g_open, b_ops, b_bs, b_sizes, b_exported, b_stamp, b_owner, b_lengths, b_elements, b_lasting, b_shared, b_roots, b_oldStamp, b_oldElements, b_oldShared, b_oldRoots, b_rows, b_nexts, b_depths, b_places, b_kinds, b_met, b_todo, b_heights) => (((0 : Int32) = 0 → (fun u => match u with | (g_limit, g_waiting, g_stack, g_locals, g_running, g_steps, g_awaited, g_answer, g_where, g_outcome, g_made, g_good, g_open, b_ops, b_bs, b_sizes, b_exported, b_stamp, b_owner, b_lengths, b_elements, b_lasting, b_shared, b_roots, b_oldStamp, b_oldElements, b_oldShared, b_oldRoots, b_rows, b_nexts, b_depths, b_places, b_kinds, b_met, b_todo, b_heights) => (P (g_limit, g_waiting, g_stack, g_locals, g_running, g_steps, g_awaited, g_answer, g_where, g_outcome, g_made, g_good, g_open, b_ops, b_bs, b_sizes, b_exported, b_stamp, b_owner, b_lengths, b_elements, b_lasting, b_shared, b_roots, b_oldStamp, b_oldElements, b_oldShared, b_oldRoots, b_rows, b_nexts, b_depths, b_places, b_kinds, b_met, b_todo, b_heights))) (g_limit, g_waiting, g_stack, g_locals, g_running, g_steps, g_awaited, g_answer, g_where, g_outcome, g_made, g_good, g_open, b_ops, b_bs, b_sizes, b_exported, b_stamp, b_owner, b_lengths, b_elements, b_lasting, b_shared, b_roots, b_oldStamp, b_oldElements, b_oldShared, b_oldRoots, b_rows, b_nexts, b_depths, b_places, b_kinds, b_met, b_todo, b_heights)) ∧ (¬ (0 : Int32) = 0 → wY_make_54 (fun u => match u with | (g_limit, g_waiting, g_stack, g_locals, g_running, g_steps, g_awaited, g_answer, g_where, g_outcome, g_made, g_good, g_open, b_ops, b_bs, b_sizes, b_exported, b_stamp, b_owner, b_lengths, b_elements, b_lasting, b_shared, b_roots, b_oldStamp, b_oldElements, b_oldShared, b_oldRoots, b_rows, b_nexts, b_depths, b_places, b_kinds, b_met, b_todo, b_heights) => (P (g_limit, g_waiting, g_stack, g_locals, g_running, g_steps, g_awaited, g_answer, g_where, g_outcome, g_made, g_good, g_open, b_ops, b_bs, b_sizes, b_exported, b_stamp, b_owner, b_lengths, b_elements, b_lasting, b_shared, b_roots, b_oldStamp, b_oldElements, b_oldShared, b_oldRoots, b_rows, b_nexts, b_depths, b_places, b_kinds, b_met, b_todo, b_heights))) (nI b) (nI z) (nI q) g_limit g_waiting g_stack g_locals g_running g_steps g_awaited g_answer g_where g_outcome g_made g_good g_open b_ops b_bs b_sizes b_exported b_stamp b_owner b_lengths b_elements b_lasting b_shared b_roots b_oldStamp b_oldElements b_oldShared b_oldRoots b_rows b_nexts b_depths b_places b_kinds b_met b_todo b_heights))) (nI L, g_waiting, g_stack, g_locals, nI (n + 1), nI s, f_awaited, 0, g_where, g_outcome, g_made, g_good, f_open, b_ops, b_bs, b_sizes, b_exported, b_stamp, b_owner, b_lengths, b_elements, b_lasting, b_shared, b_roots, b_oldStamp, b_oldElements, b_oldShared, b_oldRoots, b_rows, b_nexts, b_depths, b_places, b_kinds, b_met, b_todo, b_heights) 9)
    (H0 : b = 1 → wY_make_54 (fun u => match u with | (g_limit, g_waiting, g_stack, g_locals, g_running, g_steps, g_awaited, g_answer, g_where, g_outcome, g_made, g_good, g_open, b_ops, b_bs, b_sizes, b_exported, b_stamp, b_owner, b_lengths, b_elements, b_lasting, b_shared, b_roots, b_oldStamp, b_oldElements, b_oldShared, b_oldRoots, b_rows, b_nexts, b_depths, b_places, b_kinds, b_met, b_todo, b_heights) => (P (g_limit, g_waiting, g_stack, g_locals, g_running, g_steps, g_awaited, g_answer, g_where, g_outcome, g_made, g_good, g_open, b_ops, b_bs, b_sizes, b_exported, b_stamp, b_owner, b_lengths, b_elements, b_lasting, b_shared, b_roots, b_oldStamp, b_oldElements, b_oldShared, b_oldRoots, b_rows, b_nexts, b_depths, b_places, b_kinds, b_met, b_todo, b_heights))) (nI b) (nI z) (nI q) (nI L) g_waiting g_stack g_locals (nI (n + 1)) (nI s) f_awaited 0 g_where g_outcome g_made g_good f_open b_ops b_bs b_sizes b_exported b_stamp b_owner b_lengths b_elements b_lasting b_shared b_roots b_oldStamp b_oldElements b_oldShared b_oldRoots b_rows b_nexts b_depths b_places b_kinds b_met b_todo b_heights) (H1 : b = 0 → ¬ f_awaited = 0 → wY_make_54 (fun u => match u with | (g_limit, g_waiting, g_stack, g_locals, g_running, g_steps, g_awaited, g_answer, g_where, g_outcome, g_made, g_good, g_open, b_ops, b_bs, b_sizes, b_exported, b_stamp, b_owner, b_lengths, b_elements, b_lasting, b_shared, b_roots, b_oldStamp, b_oldElements, b_oldShared, b_oldRoots, b_rows, b_nexts, b_depths, b_places, b_kinds, b_met, b_todo, b_heights) => (P (g_limit, g_waiting, g_stack, g_locals, g_running, g_steps, g_awaited, g_answer, g_where, g_outcome, g_made, g_good, g_open, b_ops, b_bs, b_sizes, b_exported, b_stamp, b_owner, b_lengths, b_elements, b_lasting, b_shared, b_roots, b_oldStamp, b_oldElements, b_oldShared, b_oldRoots, b_rows, b_nexts, b_depths, b_places, b_kinds, b_met, b_todo, b_heights))) (nI b) (nI z) (nI q) (nI L) g_waiting g_stack g_locals (nI (n + 1)) (nI s) (hw_aw f_awaited) 0 g_where g_outcome g_made g_good f_open b_ops b_bs b_sizes b_exported b_stamp b_owner b_lengths b_elements b_lasting b_shared b_roots b_oldStamp b_oldElements b_oldShared b_oldRoots b_rows b_nexts b_depths b_places b_kinds b_met b_todo b_heights) : wpY_onObject P (nI L, g_waiting, g_stack, g_locals, nI (n + 1), nI s, f_awaited, 0, g_where, g_outcome, g_made, g_good, f_open, b_ops, b_bs, b_sizes, b_exported, b_stamp, b_owner, b_lengths, b_elements, b_lasting, b_shared, b_roots, b_oldStamp, b_oldElements, b_oldShared, b_oldRoots, b_rows, b_nexts, b_depths, b_places, b_kinds, b_met, b_todo, b_heights) (nI 11) (nI b) := by
  unfold wpY_onObject
  refine br_t (by decide) ?_
  unfold wpY_make
  refine hy_entry (j := 0) (e := e) hn (by omega) ed (hy_freeL (F := n + 1) (D := D) (by omega) rfl hD (fun q' hq' hn' hl' => ?_) (fun hall => absurd (hall q hq) hnq))
  have eqq : q' = q := by
    rcases Nat.lt_trichotomy q' q with w | w | w
    · exact absurd (hlq q' w) hn'
    · exact w
    · exact absurd (hl' q w) hnq
  subst eqq
  rw [ez]
  refine br_f (nI_nlt (a := z) (b := 1) hz1 (by omega)) (br_t (nI_le (b := 4) hz4 (by decide)) (br_t (nI_pos' (by omega)) (pk_eq b 1 (fun w => H0 w) (fun w => ?_))))
  have b0 : b = 0 := by omega
  exact hy_write (HT b0) (fun w => br_f (by decide) (H1 b0 w))
end
end
section
/-! ===== a new object: what both hold, the change of names, the relation behind it ===== -/
def ho_sp (π ρ : Nat → Nat) (o q : Nat) : Nat → Nat := fun x => if x = o then q else if x = ρ q then π o else π x
theorem ho_sp_o (π ρ : Nat → Nat) (o q : Nat) : ho_sp π ρ o q o = q := if_pos rfl
theorem ho_sp_n {π ρ : Nat → Nat} {o q x : Nat} (h1 : x ≠ o) (h2 : x ≠ ρ q) : ho_sp π ρ o q x = π x := by unfold ho_sp; rw [if_neg h1, if_neg h2]
theorem ho_sw {π ρ : Nat → Nat} (hP : ho_P π ρ) {o q : Nat} (ho : o < 8) (hq : q < 8) : ∀ x, x < 8 → ho_sp π ρ o q x < 8 ∧ ho_sp ρ π q o (ho_sp π ρ o q x) = x := fun x hx => by
  have a := hP x hx
  have b := hP o ho
  have c := hP q hq
  by_cases z1 : x = o
  · subst z1; rw [ho_sp_o, ho_sp_o]; exact ⟨hq, rfl⟩
  · by_cases z2 : x = ρ q
    · have e : ho_sp π ρ o q x = π o := by unfold ho_sp; rw [if_neg z1, if_pos z2]
      rw [e]
      have hne : π o ≠ q := fun w => z1 (by rw [z2, ← w, b.2.2.1])
      refine ⟨b.1, ?_⟩
      unfold ho_sp
      rw [if_neg hne, if_pos rfl]; exact z2.symm
    · rw [ho_sp_n z1 z2]
      have h1 : π x ≠ q := fun w => z2 (by rw [← w, a.2.2.1])
      have h2 : π x ≠ π o := fun w => z1 (by
        have := congrArg ρ w
        rw [a.2.2.1, b.2.2.1] at this; exact this)
      rw [ho_sp_n h1 h2]
      exact ⟨a.1, a.2.2.1⟩
theorem ho_swP {π ρ : Nat → Nat} (hP : ho_P π ρ) {o q : Nat} (ho : o < 8) (hq : q < 8) : ho_P (ho_sp π ρ o q) (ho_sp ρ π q o) := fun x hx => by
  have hP' : ho_P ρ π := fun y hy => ⟨(hP y hy).2.1, (hP y hy).1, (hP y hy).2.2.2, (hP y hy).2.2.1⟩
  have a := ho_sw hP ho hq x hx
  have b := ho_sw hP' hq ho x hx
  exact ⟨a.1, b.1, a.2, b.2⟩
theorem hf_Sat {π : Nat → Nat} {H : Nat → Prop} {f d : Nat} {kl E : Nat → Nat} {slot places kinds : Nat → Int32} (h : hf_S π H f d kl E slot places kinds) {t : Nat} (ht : t < 2 + d) : ∃ k, kinds (8 * f + t) = nI k ∧ k ≤ 2 ∧ ho_K π H k (slot (6 * f + t)) (places (8 * f + t)) := by
  rcases Nat.lt_or_ge t 2 with z | z
  · obtain ⟨a, b⟩ := h.1 t z
    exact ⟨kl t, a, ho_Kb b, b⟩
  · obtain ⟨j, rfl⟩ : ∃ j, t = 2 + j := ⟨t - 2, by omega⟩
    obtain ⟨a, b⟩ := h.2 j (by omega)
    exact ⟨E j, by rw [← Nat.add_assoc]; exact a, ho_Kb b, by rw [← Nat.add_assoc, ← Nat.add_assoc]; exact b⟩
theorem hf_Sm {π π' : Nat → Nat} {H H' : Nat → Prop} {f d : Nat} {kl E : Nat → Nat} {slot places kinds : Nat → Int32} (h : hf_S π H f d kl E slot places kinds) (hm : ∀ t, t < 2 + d → ∀ o, H o → slot (6 * f + t) = nI (65536 + o) → H' o ∧ π' o = π o) : hf_S π' H' f d kl E slot places kinds := by
  refine ⟨fun i hi => ⟨(h.1 i hi).1, ho_Km (h.1 i hi).2 (fun o ho e => hm i (by omega) o ho e)⟩, fun j hj => ⟨(h.2 j hj).1, ho_Km (h.2 j hj).2 (fun o ho e => hm (2 + j) (by omega) o ho (by rw [← Nat.add_assoc]; exact e))⟩⟩
/-- a related reference: X's number and Y's name each other -/
theorem ho_Vx {π : Nat → Nat} {H : Nat → Prop} {x y : Int32} {o : Nat} (h : ho_V π H x y) (hH : ∀ o, H o → o < 8 ∧ π o < 8) (ho : o < 8) (e : x = nI (65536 + o)) : H o ∧ y = nI (π o) := by
  rcases ho_V0 h hH with ⟨ex, _⟩ | ⟨o', ho', ho8, _, ex, ey, _⟩
  · rw [e] at ex
    have := ca_ref_i (a := o) (b := 8) (by omega) (by decide) ex
    omega
  · rw [e] at ex
    have := ca_ref_i (by omega) (by omega) ex
    subst this
    exact ⟨ho', ey⟩
theorem ho_Vy {π ρ : Nat → Nat} {H : Nat → Prop} {x y : Int32} {o : Nat} (hP : ho_P π ρ) (h : ho_V π H x y) (hH : ∀ o, H o → o < 8 ∧ π o < 8) (ho : o < 8) (e : y = nI (π o)) : x = nI (65536 + o) := by
  have hp := (hP o ho).1
  rcases ho_V0 h hH with ⟨_, ey⟩ | ⟨o', ho', ho8, hq8, ex, ey, _⟩
  · rw [e] at ey
    have := congrArg (fun z => decide (z < 0)) ey
    simp only [decide_eq_false (nI_pos (n := π o) (by omega))] at this
    exact absurd this (by decide)
  · rw [e, nI_eq (by omega) (by omega)] at ey
    have := congrArg ρ ey
    rw [(hP o ho).2.2.1, (hP o' ho8).2.2.1] at this
    rw [ex, this]
theorem ho_Kx {π : Nat → Nat} {H : Nat → Prop} {k : Nat} {x y : Int32} {o : Nat} (h : ho_K π H k x y) (ho : o < 8) (e : x = nI (65536 + o)) : k = 2 ∧ ho_V π H x y := by
  rcases h with ⟨_, h⟩ | ⟨_, _, h⟩ | h
  · rw [e, ← nI_0, nI_eq (by omega) (by omega)] at h; omega
  · exact absurd e (ca_sh_ref h (by omega))
  · exact h
section
variable {f_limit f_pending f_wide f_waiting f_height f_entries f_locals f_logLength f_open f_awaited f_frames f_sp f_base f_pc f_method f_steps f_status f_lastResult f_lastPlace : Int32} {a_ops a_args a_quick a_length a_exported a_known a_alive a_fresh a_lasting a_shared a_owner a_size a_element a_roots a_logCell a_logOld a_logged a_slot a_frameMethod a_framePc : Nat → Int32} {g_limit g_waiting g_stack g_locals g_running g_steps g_awaited g_answer g_where g_outcome : Int32} {g_made : Int64} {g_good g_open : Int32} {b_ops b_bs b_sizes b_exported : Nat → Int32} {b_stamp : Nat → Int64} {b_owner b_lengths b_elements b_lasting b_shared b_roots : Nat → Int32} {b_oldStamp : Nat → Int64} {b_oldElements b_oldShared b_oldRoots b_rows b_nexts b_depths b_places b_kinds b_met b_todo b_heights : Nat → Int32}
variable {k L s n m p d l e : Nat} {kl E π ρ opf bf : Nat → Nat} {H : Nat → Prop}
theorem hm_fr (h : (hm_Q k L s n m p d kl E π ρ H f_pending f_wide f_logLength f_open a_ops a_args a_quick a_length a_exported a_alive a_fresh a_lasting a_shared a_owner a_size a_element a_roots a_logCell a_logOld a_logged a_slot a_frameMethod a_framePc g_made b_ops b_bs b_sizes b_exported b_stamp b_owner b_lengths b_elements b_lasting b_shared b_roots b_oldStamp b_oldElements b_oldShared b_oldRoots b_rows b_nexts b_depths b_places b_kinds)) : ∀ f, f < n + 1 → b_depths f = nI (b_depths f).toNatClampNeg ∧ (b_depths f).toNatClampNeg ≤ 4 ∧ (∃ kl' E', hf_S π H f (b_depths f).toNatClampNeg kl' E' a_slot b_places b_kinds) ∧ (f < n → ∃ x, x < 128 ∧ a_framePc f = nI x ∧ (b_depths f).toNatClampNeg = x / 16) := fun f hf => by
  obtain ⟨⟨hn, _⟩, _, _, hU, ⟨_, _, _, _, ed, hS, hCt⟩, _⟩ := h
  obtain ⟨_, hd4, _⟩ := hf_w hCt
  by_cases z : f = n
  · subst z
    rw [ed, nI_clamp (by omega)]
    exact ⟨rfl, hd4, ⟨kl, E, hS⟩, fun w => by omega⟩
  · obtain ⟨m', p', d', kl', E', a1, a2, a3, a4, a5, a6, a7, a8, a9, a10⟩ := hU f (by omega)
    rw [a8, nI_clamp (by omega)]
    exact ⟨rfl, by omega, ⟨kl', E', a9⟩, fun _ => ⟨16 * d' + p', by omega, a5, by omega⟩⟩
/-- what X and what Y hold -/
theorem hm_co (h : (hm_Q k L s n m p d kl E π ρ H f_pending f_wide f_logLength f_open a_ops a_args a_quick a_length a_exported a_alive a_fresh a_lasting a_shared a_owner a_size a_element a_roots a_logCell a_logOld a_logged a_slot a_frameMethod a_framePc g_made b_ops b_bs b_sizes b_exported b_stamp b_owner b_lengths b_elements b_lasting b_shared b_roots b_oldStamp b_oldElements b_oldShared b_oldRoots b_rows b_nexts b_depths b_places b_kinds)) : ∃ T : Nat → Prop, ((f_open = 0 ∧ ∀ i, ¬ T i) ∨ (f_open = 1 ∧ ∃ q c S, hm_TR π H q c S f_logLength a_fresh a_lasting a_shared a_element a_roots a_logCell a_logOld a_logged b_stamp b_oldStamp b_oldElements b_oldShared b_oldRoots ∧ (∀ i, T i ↔ ∃ e, e < q ∧ 32 ≤ c e ∧ c e < 38 ∧ a_logOld e = nI (65536 + i)) ∧ ∀ r o, r < 6 → o < 8 → S (32 + r) = nI (65536 + o) → hx_H n (fun f => 6 * f + 2 + (b_depths f).toNatClampNeg) a_roots a_slot T o)) ∧
    ∀ o, o < 8 → (hx_H n (fun f => 6 * f + 2 + (b_depths f).toNatClampNeg) a_roots a_slot T o ↔ hy_H (n + 1) f_open b_roots b_oldRoots b_places b_kinds (fun f => (b_depths f).toNatClampNeg) (π o)) ∧ (hx_H n (fun f => 6 * f + 2 + (b_depths f).toNatClampNeg) a_roots a_slot T o → H o) := by
  have hfr := hm_fr h
  obtain ⟨hP, hO, hV, hW, hST, hT⟩ := h.2.2.2.2.2
  have hH : ∀ o, H o → o < 8 ∧ π o < 8 := fun o ho => ⟨(hO o ho).1, (hP o (hO o ho).1).1⟩
  -- the frames
  have fx : ∀ o, o < 8 → ∀ f q, f < n + 1 → 6 * f ≤ q → q < 6 * f + 2 + (b_depths f).toNatClampNeg → a_slot q = nI (65536 + o) → H o ∧ ∃ q', 8 * f ≤ q' ∧ q' < 8 * f + 2 + (b_depths f).toNatClampNeg ∧ b_kinds q' = 2 ∧ b_places q' = nI (π o) := fun o ho f q hf h1 h2 eq => by
    obtain ⟨_, _, ⟨kl', E', hS⟩, _⟩ := hfr f hf
    obtain ⟨t, rfl⟩ : ∃ t, q = 6 * f + t := ⟨q - 6 * f, by omega⟩
    obtain ⟨kd, ek, _, hK⟩ := hf_Sat hS (t := t) (by omega)
    obtain ⟨k2, hVt⟩ := ho_Kx hK ho eq
    obtain ⟨hHo, ey⟩ := ho_Vx hVt hH ho eq
    exact ⟨hHo, 8 * f + t, by omega, by omega, by rw [ek, k2]; rfl, ey⟩
  have fy : ∀ o, o < 8 → ∀ f q', f < n + 1 → 8 * f ≤ q' → q' < 8 * f + 2 + (b_depths f).toNatClampNeg → b_kinds q' = 2 → b_places q' = nI (π o) → ∃ q, 6 * f ≤ q ∧ q < 6 * f + 2 + (b_depths f).toNatClampNeg ∧ a_slot q = nI (65536 + o) := fun o ho f q' hf h1 h2 ek2 ey => by
    obtain ⟨_, _, ⟨kl', E', hS⟩, _⟩ := hfr f hf
    obtain ⟨t, rfl⟩ : ∃ t, q' = 8 * f + t := ⟨q' - 8 * f, by omega⟩
    obtain ⟨kd, ek, hk2, hK⟩ := hf_Sat hS (t := t) (by omega)
    have : kd = 2 := by
      rw [ek] at ek2
      exact (nI_eq (b := 2) (by omega) (by decide)).mp ek2
    subst this
    exact ⟨6 * f + t, by omega, by omega, ho_Vy hP (ho_K2 hK) hH ho ey⟩
  rcases hT with e0 | ⟨e1, q, c, S, T⟩
  · refine ⟨fun _ => False, Or.inl ⟨e0, fun _ w => w⟩, fun o ho => ⟨⟨fun w => ?_, fun w => ?_⟩, fun w => ?_⟩⟩
    · rcases w with (⟨r, hr, er⟩ | w) | ⟨f, q, hf, h1, h2, eq⟩
      · exact Or.inl ⟨r, hr, Or.inl (ho_Vx (hV r hr) hH ho er).2⟩
      · exact w.elim
      · obtain ⟨_, q', h3, h4, h5, h6⟩ := fx o ho f q hf h1 h2 eq
        exact Or.inr ⟨f, q', hf, h3, h4, h5, h6⟩
    · rcases w with ⟨r, hr, w | ⟨w, _⟩⟩ | ⟨f, q', hf, h1, h2, h3, h4⟩
      · exact Or.inl (Or.inl ⟨r, hr, ho_Vy hP (hV r hr) hH ho w⟩)
      · exact absurd e0 w
      · obtain ⟨q, h5, h6, h7⟩ := fy o ho f q' hf h1 h2 h3 h4
        exact Or.inr ⟨f, q, hf, h5, h6, h7⟩
    · rcases w with (⟨r, hr, er⟩ | w) | ⟨f, q, hf, h1, h2, eq⟩
      · exact (ho_Vx (hV r hr) hH ho er).1
      · exact w.elim
      · exact (fx o ho f q hf h1 h2 eq).1
  · have tS : ∀ r o, r < 6 → o < 8 → S (32 + r) = nI (65536 + o) → (∃ r, r < 6 ∧ a_roots r = nI (65536 + o)) ∨ ∃ e, e < q ∧ 32 ≤ c e ∧ c e < 38 ∧ a_logOld e = nI (65536 + o) := fun r o hr ho es => by
      by_cases z : a_logged (32 + r) = 0
      · exact Or.inl ⟨r, hr, by rw [T.2.2.2.2.2.2.1 r hr z]; exact es⟩
      · obtain ⟨j, hj, ej⟩ := (T.2.2.2.1 (32 + r) (by omega)).mp z
        exact Or.inr ⟨j, hj, by omega, by omega, by rw [(T.2.2.2.2.1 j hj).2.1 (by omega) (by omega), ej]; exact es⟩
    have tT : ∀ o, o < 8 → (∃ e, e < q ∧ 32 ≤ c e ∧ c e < 38 ∧ a_logOld e = nI (65536 + o)) → ∃ r, r < 6 ∧ S (32 + r) = nI (65536 + o) := fun o ho ⟨j, hj, h1, h2, ej⟩ => by
      refine ⟨c j - 32, by omega, ?_⟩
      rw [show 32 + (c j - 32) = c j by omega, ← (T.2.2.2.2.1 j hj).2.1 h1 h2]
      exact ej
    refine ⟨fun i => ∃ e, e < q ∧ 32 ≤ c e ∧ c e < 38 ∧ a_logOld e = nI (65536 + i), Or.inr ⟨e1, q, c, S, T, fun _ => Iff.rfl, fun r o hr ho es => Or.inl (tS r o hr ho es)⟩, fun o ho => ⟨⟨fun w => ?_, fun w => ?_⟩, fun w => ?_⟩⟩
    · rcases w with (⟨r, hr, er⟩ | w) | ⟨f, q, hf, h1, h2, eq⟩
      · exact Or.inl ⟨r, hr, Or.inl (ho_Vx (hV r hr) hH ho er).2⟩
      · obtain ⟨r, hr, es⟩ := tT o ho w
        exact Or.inl ⟨r, hr, Or.inr ⟨by rw [e1]; decide, (ho_Vx (T.2.2.2.2.2.2.2.2.1 r hr) hH ho es).2⟩⟩
      · obtain ⟨_, q', h3, h4, h5, h6⟩ := fx o ho f q hf h1 h2 eq
        exact Or.inr ⟨f, q', hf, h3, h4, h5, h6⟩
    · rcases w with ⟨r, hr, w | ⟨_, w⟩⟩ | ⟨f, q', hf, h1, h2, h3, h4⟩
      · exact Or.inl (Or.inl ⟨r, hr, ho_Vy hP (hV r hr) hH ho w⟩)
      · exact Or.inl (tS r o hr ho (ho_Vy hP (T.2.2.2.2.2.2.2.2.1 r hr) hH ho w))
      · obtain ⟨q, h5, h6, h7⟩ := fy o ho f q' hf h1 h2 h3 h4
        exact Or.inr ⟨f, q, hf, h5, h6, h7⟩
    · rcases w with (⟨r, hr, er⟩ | w) | ⟨f, q, hf, h1, h2, eq⟩
      · exact (ho_Vx (hV r hr) hH ho er).1
      · obtain ⟨r, hr, es⟩ := tT o ho w
        exact (ho_Vx (T.2.2.2.2.2.2.2.2.1 r hr) hH ho es).1
      · exact (fx o ho f q hf h1 h2 eq).1
/-- objects and the transaction, when the collector has run -/
theorem hm_gc {B : Nat} {X : Nat → Prop} {al1 : Nat → Int32} (h : hm_O π ρ H B f_open f_logLength a_alive a_fresh a_lasting a_shared a_owner a_size a_element a_roots a_logCell a_logOld a_logged g_made b_stamp b_owner b_lengths b_elements b_lasting b_shared b_roots b_oldStamp b_oldElements b_oldShared b_oldRoots) (hX : ∀ o, X o → o < 8 ∧ H o ∧ ¬ al1 o = 0) (hB : ca_B al1) (hr : ∀ r o, r < 6 → H o → a_roots r = nI (65536 + o) → X o)
    (hS : f_open = 1 → ∃ q c S, hm_TR π H q c S f_logLength a_fresh a_lasting a_shared a_element a_roots a_logCell a_logOld a_logged b_stamp b_oldStamp b_oldElements b_oldShared b_oldRoots ∧ ∀ r o, r < 6 → H o → S (32 + r) = nI (65536 + o) → X o) :
    hm_O π ρ X B f_open f_logLength al1 a_fresh a_lasting a_shared a_owner a_size a_element a_roots a_logCell a_logOld a_logged g_made b_stamp b_owner b_lengths b_elements b_lasting b_shared b_roots b_oldStamp b_oldElements b_oldShared b_oldRoots := by
  obtain ⟨hP, hO, hV, ⟨w1, w2⟩, hST, hT⟩ := h
  refine ⟨hP, fun o ho => ?_, fun r hr' => ho_Vm (hV r hr') (fun o ho e => ⟨hr r o hr' ho e, rfl⟩), ⟨hB, w2⟩, hST, ?_⟩
  · obtain ⟨a, b, c⟩ := hO o (hX o ho).2.1
    exact ⟨a, (hX o ho).2.2, c⟩
  · rcases hT with e0 | ⟨e1, _⟩
    · exact Or.inl e0
    · obtain ⟨q, c, S, ⟨t1, t2, t3, t4, t5, t6, t7, t8, t9, t10, t11⟩, hSS⟩ := hS e1
      exact Or.inr ⟨e1, q, c, S, t1, t2, t3, t4, t5, t6, t7, t8, fun r hr' => ho_Vm (t9 r hr') (fun o ho e => ⟨hSS r o hr' ho e, rfl⟩), fun o ho => t10 o (hX o ho).2.1, t11⟩
/-- the new object -/
theorem hm_nw {B o q z : Nat} {x2 : Int32} {X : Nat → Prop} (h : hm_O π ρ X B f_open f_logLength a_alive a_fresh a_lasting a_shared a_owner a_size a_element a_roots a_logCell a_logOld a_logged g_made b_stamp b_owner b_lengths b_elements b_lasting b_shared b_roots b_oldStamp b_oldElements b_oldShared b_oldRoots) (ho : o < 8) (hq : q < 8) (hz1 : 1 ≤ z) (hz4 : z ≤ 4) (h2 : x2 = 0 ∨ x2 = 1) (hB : B < 2 ^ 30) (hXo : ¬ X o) (hXq : ∀ x, X x → π x ≠ q) :
    hm_O (ho_sp π ρ o q) (ho_sp ρ π q o) (fun x => X x ∨ x = o) (B + 1) f_open f_logLength (upd a_alive o 1) (upd a_fresh o 1) (upd a_lasting o x2) (upd a_shared o 0) (upd a_owner o (nI (m / 2))) (upd a_size o (nI z)) (ho_ze o a_element 4) a_roots a_logCell a_logOld a_logged (g_made + 1) (vp_updL b_stamp q (g_made + 1)) (upd b_owner q (nI (m / 2))) (upd b_lengths q (nI z)) (ho_ze q b_elements 4) (upd b_lasting q x2) (upd b_shared q 0) b_roots b_oldStamp b_oldElements b_oldShared b_oldRoots := by
  obtain ⟨hP, hO, hV, ⟨w1, w2, w3, w4, w5, w6, w7⟩, ⟨mm, em, hmm, hs1, hs2⟩, hT⟩ := h
  have em1 : g_made + 1 = lN (mm + 1) := by rw [em, lN_1]
  have hne : ∀ x, X x → x ≠ o ∧ x ≠ ρ q ∧ π x ≠ q ∧ ho_sp π ρ o q x = π x := fun x hx => by
    have h1 : x ≠ o := fun w => hXo (by rw [← w]; exact hx)
    have h3 := hXq x hx
    have h2 : x ≠ ρ q := fun w => h3 (by rw [w, (hP q hq).2.2.2])
    exact ⟨h1, h2, h3, ho_sp_n h1 h2⟩
  have hmv : ∀ x, X x → (X x ∨ x = o) ∧ ho_sp π ρ o q x = π x := fun x hx => ⟨Or.inl hx, (hne x hx).2.2.2⟩
  have zsh : ∀ (o : Nat) (a : Nat → Int32), ca_Sh a → ca_Sh (ho_ze o a 4) := fun o a ha i => by
    unfold ho_ze; split
    · exact ca_shN (n := 0) (by decide)
    · exact ha i
  refine ⟨ho_swP hP ho hq, fun x hx => ?_, fun r hr => ho_Vm (hV r hr) (fun x hx _ => hmv x hx), ⟨ca_BU w1 (Or.inr rfl), ca_BU w2 h2, ca_BU w3 (Or.inl rfl), zsh _ _ w4, zsh _ _ w5, ca_BU w6 h2, ca_BU w7 (Or.inl rfl)⟩, ⟨mm + 1, em1, by omega, fun y hy => ?_, fun hop y hy => ?_⟩, ?_⟩
  · rcases hx with hx | rfl
    · obtain ⟨n1, n2, n3, n4⟩ := hne x hx
      obtain ⟨a, b, c, d, e, f, g, hel⟩ := hO x hx
      unfold ho_o
      rw [n4, pk_un n1, pk_un n1, pk_un n1, pk_un n1, pk_un n1, pk_un n3, pk_un n3, pk_un n3, pk_un n3]
      refine ⟨a, b, c, d, e, f, g, fun i hi => ?_⟩
      have hp8 := (hP x a).1
      unfold ho_ze
      rw [if_neg (by omega), if_neg (by omega)]
      exact hel i hi
    · unfold ho_o
      rw [ho_sp_o, pk_us, pk_us, pk_us, pk_us, pk_us, pk_us, pk_us, pk_us, pk_us]
      refine ⟨ho, by decide, rfl, ⟨z, hz1, hz4, rfl⟩, rfl, rfl, rfl, fun i hi => ?_⟩
      unfold ho_ze
      rw [if_pos (by omega), if_pos (by omega)]
  · by_cases w : y = q
    · subst w; rw [pk_uLs]; exact ⟨mm + 1, Nat.le_refl _, em1⟩
    · rw [pk_uLn w]
      obtain ⟨t, ht, et⟩ := hs1 y hy
      exact ⟨t, by omega, et⟩
  · obtain ⟨t, ht, et⟩ := hs2 hop y hy
    exact ⟨t, by omega, et⟩
  · rcases hT with e0 | ⟨e1, q', c, S, t1, t2, t3, t4, t5, t6, t7, t8, t9, t10, t11⟩
    · exact Or.inl e0
    · have fr : ∀ x, upd a_fresh o 1 x = 0 → x ≠ o ∧ a_fresh x = 0 := fun x hx => by
        by_cases w : x = o
        · subst w; rw [pk_us] at hx; exact absurd hx (by decide)
        · rw [pk_un w] at hx; exact ⟨w, hx⟩
      refine Or.inr ⟨e1, q', c, S, t1, t2, t3, t4, fun j hj => ⟨fun h1 h2 => ?_, (t5 j hj).2.1, fun h1 h2 => ?_⟩, fun x hx hl hf hla => ?_, t7, fun x hx hl hf => ?_, fun r hr => ho_Vm (t9 r hr) (fun x hx _ => hmv x hx), fun x hx => ?_, t11⟩
      · obtain ⟨a, b⟩ := fr _ h2
        rw [pk_un a]; exact (t5 j hj).1 h1 b
      · exact (t5 j hj).2.2 h1 (fr _ h2).2
      · obtain ⟨a, b⟩ := fr _ hf
        rw [pk_un a] at hla
        unfold ho_ze
        rw [if_neg (by omega)]
        exact t6 x hx hl b hla
      · obtain ⟨a, b⟩ := fr _ hf
        rw [pk_un a]; exact t8 x hx hl b
      · rcases hx with hx | rfl
        · obtain ⟨n1, n2, n3, n4⟩ := hne x hx
          rw [n4, pk_un n1, pk_un n1, pk_uLn n3]
          exact t10 x hx
        · rw [ho_sp_o, pk_us, pk_uLs]
          refine ⟨fun w => absurd w (by decide), fun _ w => ?_⟩
          obtain ⟨t, ht, et⟩ := hs2 (by rw [e1]; decide) q hq
          rw [em1, et, lN_eq (by omega) (by omega)] at w
          omega
end
end
section
/-! ===== lockstep: new ===== -/
section
variable {f_limit f_pending f_wide f_waiting f_height f_entries f_locals f_logLength f_open f_awaited f_frames f_sp f_base f_pc f_method f_steps f_status f_lastResult f_lastPlace : Int32} {a_ops a_args a_quick a_length a_exported a_known a_alive a_fresh a_lasting a_shared a_owner a_size a_element a_roots a_logCell a_logOld a_logged a_slot a_frameMethod a_framePc : Nat → Int32} {g_limit g_waiting g_stack g_locals g_running g_steps g_awaited g_answer g_where g_outcome : Int32} {g_made : Int64} {g_good g_open : Int32} {b_ops b_bs b_sizes b_exported : Nat → Int32} {b_stamp : Nat → Int64} {b_owner b_lengths b_elements b_lasting b_shared b_roots : Nat → Int32} {b_oldStamp : Nat → Int64} {b_oldElements b_oldShared b_oldRoots b_rows b_nexts b_depths b_places b_kinds b_met b_todo b_heights : Nat → Int32}
variable {k L s n m p d l e : Nat} {kl E π ρ opf bf : Nat → Nat} {H : Nat → Prop}
/-- the creation itself, X's free place o and its marks al1 given -/
theorem hl_11c {T : Nat → Prop} {al1 : Nat → Int32} {o q z j : Nat} (hk : k ≤ 2045) (h : (hm_Q k L s n m p (e + 1) kl E π ρ H f_pending f_wide f_logLength f_open a_ops a_args a_quick a_length a_exported a_alive a_fresh a_lasting a_shared a_owner a_size a_element a_roots a_logCell a_logOld a_logged a_slot a_frameMethod a_framePc g_made b_ops b_bs b_sizes b_exported b_stamp b_owner b_lengths b_elements b_lasting b_shared b_roots b_oldStamp b_oldElements b_oldShared b_oldRoots b_rows b_nexts b_depths b_places b_kinds)) (he : e < 4) (hN : hf_C a_ops a_args a_quick b_bs m (p + 1) (hf_A kl (hf_u E e 2) (e + 1))) (eop : b_ops (16 * m + p) = nI 11) (ej : b_bs (16 * m + p) = nI j) (hj : j < 2) (hsL : s < L) (IH : hm_IH k L s) (hz1 : 1 ≤ z) (hz4 : z ≤ 4) (ez : b_places (8 * n + 2 + e) = nI z)
    (hTT : (f_open = 0 ∧ ∀ i, ¬ T i) ∨ (f_open = 1 ∧ ∃ q c S, hm_TR π H q c S f_logLength a_fresh a_lasting a_shared a_element a_roots a_logCell a_logOld a_logged b_stamp b_oldStamp b_oldElements b_oldShared b_oldRoots ∧ (∀ i, T i ↔ ∃ e, e < q ∧ 32 ≤ c e ∧ c e < 38 ∧ a_logOld e = nI (65536 + i)) ∧ ∀ r o, r < 6 → o < 8 → S (32 + r) = nI (65536 + o) → hx_H n (fun f => 6 * f + 2 + (b_depths f).toNatClampNeg) a_roots a_slot T o))
    (hco : ∀ o, o < 8 → (hx_H n (fun f => 6 * f + 2 + (b_depths f).toNatClampNeg) a_roots a_slot T o ↔ hy_H (n + 1) f_open b_roots b_oldRoots b_places b_kinds (fun f => (b_depths f).toNatClampNeg) (π o)) ∧ (hx_H n (fun f => 6 * f + 2 + (b_depths f).toNatClampNeg) a_roots a_slot T o → H o))
    (ho : o < 8) (hXo : ¬ hx_H n (fun f => 6 * f + 2 + (b_depths f).toNatClampNeg) a_roots a_slot T o) (hq : q < 8) (hYq : ¬ hy_H (n + 1) f_open b_roots b_oldRoots b_places b_kinds (fun f => (b_depths f).toNatClampNeg) q) (hYl : ∀ i, i < q → hy_H (n + 1) f_open b_roots b_oldRoots b_places b_kinds (fun f => (b_depths f).toNatClampNeg) i)
    (hal : ∀ o, o < 8 → hx_H n (fun f => 6 * f + 2 + (b_depths f).toNatClampNeg) a_roots a_slot T o → ¬ al1 o = 0) (hBal : ca_B al1)
    (hXw : ∀ P : SX → Prop, wX_create_64 (fun u => match u with | (f_limit, f_pending, f_wide, f_waiting, f_height, f_entries, f_locals, f_logLength, f_open, f_awaited, f_frames, f_sp, f_base, f_pc, f_method, f_steps, f_status, f_lastResult, f_lastPlace, a_ops, a_args, a_quick, a_length, a_exported, a_known, a_alive, a_fresh, a_lasting, a_shared, a_owner, a_size, a_element, a_roots, a_logCell, a_logOld, a_logged, a_slot, a_frameMethod, a_framePc) => (wX_simple_286 P f_limit f_pending f_wide f_waiting f_height f_entries f_locals f_logLength f_open f_awaited f_frames f_sp f_base f_pc f_method f_steps f_status f_lastResult f_lastPlace a_ops a_args a_quick a_length a_exported a_known a_alive a_fresh a_lasting a_shared a_owner a_size a_element a_roots a_logCell a_logOld a_logged a_slot a_frameMethod a_framePc)) (nI z) (if j = 0 then 1 else 0) (nI o) (nI L) f_pending f_wide f_waiting f_height f_entries f_locals f_logLength f_open f_awaited (nI (n + 1)) (nI (6 * n + 2 + e + 1)) (nI (6 * n)) (nI (p + 1)) (nI m) (nI (s + 1)) 0 0 (-1) a_ops a_args a_quick a_length a_exported a_known al1 a_fresh a_lasting a_shared a_owner a_size a_element a_roots a_logCell a_logOld a_logged a_slot a_frameMethod a_framePc → wpX_simple P (nI L, f_pending, f_wide, f_waiting, f_height, f_entries, f_locals, f_logLength, f_open, f_awaited, nI (n + 1), nI (6 * n + 2 + (e + 1)), nI (6 * n), nI p, nI m, nI (s + 1), 0, 0, -1, a_ops, a_args, a_quick, a_length, a_exported, a_known, a_alive, a_fresh, a_lasting, a_shared, a_owner, a_size, a_element, a_roots, a_logCell, a_logOld, a_logged, a_slot, a_frameMethod, a_framePc) (nI 11) (nI j))
    (eq : a_quick (16 * m + p) = nI 11) (ea : a_args (16 * m + p) = nI j) : hl_LS k (nI L, f_pending, f_wide, f_waiting, f_height, f_entries, f_locals, f_logLength, f_open, f_awaited, nI (n + 1), nI (6 * n + 2 + (e + 1)), nI (6 * n), nI p, nI m, nI s, 0, 0, -1, a_ops, a_args, a_quick, a_length, a_exported, a_known, a_alive, a_fresh, a_lasting, a_shared, a_owner, a_size, a_element, a_roots, a_logCell, a_logOld, a_logged, a_slot, a_frameMethod, a_framePc) s (nI L, g_waiting, g_stack, g_locals, nI (n + 1), nI s, f_awaited, 0, g_where, g_outcome, g_made, g_good, f_open, b_ops, b_bs, b_sizes, b_exported, b_stamp, b_owner, b_lengths, b_elements, b_lasting, b_shared, b_roots, b_oldStamp, b_oldElements, b_oldShared, b_oldRoots, b_rows, b_nexts, b_depths, b_places, b_kinds, b_met, b_todo, b_heights) := by
  obtain ⟨⟨hn, _, hL1, hL2⟩, hCD, hPD, hU, ⟨hm, em, er, en, ed, hS, hCt⟩, hOO⟩ := id h
  have hfr := hm_fr h
  obtain ⟨hp16, hd4, hE⟩ := hf_w hCt
  have hP := hOO.1
  have hO := hOO.2.1
  have hD : ∀ f, f < n + 1 → b_depths f = nI ((fun f => (b_depths f).toNatClampNeg) f) ∧ (fun f => (b_depths f).toNatClampNeg) f ≤ 6 := fun f hf => ⟨(hfr f hf).1, by have := (hfr f hf).2.1; show (b_depths f).toNatClampNeg ≤ 6; omega⟩
  -- what is held, as the set of the relation
  have hO1 := hm_gc (X := fun x => x < 8 ∧ hx_H n (fun f => 6 * f + 2 + (b_depths f).toNatClampNeg) a_roots a_slot T x) (al1 := al1) hOO (fun x hx => ⟨hx.1, (hco x hx.1).2 hx.2, hal x hx.1 hx.2⟩) hBal (fun r x hr hx ex => ⟨(hO x hx).1, Or.inl (Or.inl ⟨r, hr, ex⟩)⟩) (fun e1 => by
    rcases hTT with ⟨e0, _⟩ | ⟨_, q', c, S, TR, _, hS'⟩
    · rw [e0] at e1; exact absurd e1 (by decide)
    · exact ⟨q', c, S, TR, fun r x hr hx es => ⟨(hO x hx).1, hS' r x hr (hO x hx).1 es⟩⟩)
  have h2 : (if j = 0 then (1 : Int32) else 0) = 0 ∨ (if j = 0 then (1 : Int32) else 0) = 1 := by split <;> simp
  have hXq : ∀ x, (x < 8 ∧ hx_H n (fun f => 6 * f + 2 + (b_depths f).toNatClampNeg) a_roots a_slot T x) → π x ≠ q := fun x hx w => hYq (by rw [← w]; exact (hco x hx.1).1.mp hx.2)
  have hO2 := hm_nw (m := m) (z := z) (x2 := if j = 0 then 1 else 0) hO1 ho hq hz1 hz4 h2 (by omega) (fun w => hXo w.2) hXq
  have hmv : ∀ x, x < 8 → hx_H n (fun f => 6 * f + 2 + (b_depths f).toNatClampNeg) a_roots a_slot T x → ((x < 8 ∧ hx_H n (fun f => 6 * f + 2 + (b_depths f).toNatClampNeg) a_roots a_slot T x) ∨ x = o) ∧ ho_sp π ρ o q x = π x := fun x hx hh => by
    refine ⟨Or.inl ⟨hx, hh⟩, ho_sp_n (fun w => hXo (by rw [← w]; exact hh)) (fun w => hXq x ⟨hx, hh⟩ (by rw [w, (hP q hq).2.2.2]))⟩
  have hQ : (hm_Q k L (s + 1) n m (p + 1) (e + 1) kl (hf_u E e 2) (ho_sp π ρ o q) (ho_sp ρ π q o) (fun x => (x < 8 ∧ hx_H n (fun f => 6 * f + 2 + (b_depths f).toNatClampNeg) a_roots a_slot T x) ∨ x = o) f_pending f_wide f_logLength f_open a_ops a_args a_quick a_length a_exported (upd al1 o 1) (upd a_fresh o 1) (upd a_lasting o (if j = 0 then 1 else 0)) (upd a_shared o 0) (upd a_owner o (nI (m / 2))) (upd a_size o (nI z)) (ho_ze o a_element 4) a_roots a_logCell a_logOld a_logged (upd a_slot (6 * n + 2 + e) (nI (65536 + o))) a_frameMethod a_framePc (g_made + 1) b_ops b_bs b_sizes b_exported (vp_updL b_stamp q (g_made + 1)) (upd b_owner q (nI (m / 2))) (upd b_lengths q (nI z)) (ho_ze q b_elements 4) (upd b_lasting q (if j = 0 then 1 else 0)) (upd b_shared q 0) b_roots b_oldStamp b_oldElements b_oldShared b_oldRoots b_rows (upd b_nexts n (nI (p + 1))) (upd (upd b_depths n (nI e)) n (nI (e + 1))) (upd b_places (8 * n + 2 + e) (nI q)) (upd b_kinds (8 * n + 2 + e) (nI 2))) := by
    refine ⟨⟨hn, hsL, hL1, hL2⟩, hCD, hPD, fun f hf => ?_, ⟨hm, em, er, pk_us, pk_us, hf_Sput (d := e + 1) (hf_Sm hS (fun t ht x hx ex => hmv x (hO x hx).1 (Or.inr ⟨n, 6 * n + t, by omega, by omega, ?_, ex⟩))) (fun i hi hne => by omega) (ho_Kr (Or.inr ⟨o, Or.inr rfl, rfl, by rw [ho_sp_o]⟩)), hN⟩, hm_Om (by omega) hO2⟩
    · obtain ⟨m', p', d', kl', E', a1, a2, a3, a4, a5, a6, a7, a8, a9, a10⟩ := hU f hf
      refine ⟨m', p', d', kl', E', a1, a2, a3, a4, a5, a6, by rw [pk_un (by omega)]; exact a7, by rw [pk_un (by omega), pk_un (by omega)]; exact a8, hf_Sc (by omega) (hf_Sm a9 (fun t ht x hx ex => hmv x (hO x hx).1 (Or.inr ⟨f, 6 * f + t, by omega, by omega, ?_, ex⟩))) (fun i h1 h2 => pk_un (by omega)) (fun i h1 h2 => pk_un (by omega)) (fun i h1 h2 => pk_un (by omega)), a10⟩
      show 6 * f + t < 6 * f + 2 + (b_depths f).toNatClampNeg
      rw [a8, nI_clamp (by omega)]; omega
    · show 6 * n + t < 6 * n + 2 + (b_depths n).toNatClampNeg
      rw [ed, nI_clamp (by omega)]; omega
  have hj01 : j = 0 ∨ j = 1 := by omega
  rcases hj01 with rfl | rfl
  · by_cases za : f_awaited = 0
    · refine hl_Xs (u1 := (nI L, f_pending, f_wide, f_waiting, f_height, f_entries, f_locals, f_logLength, f_open, f_awaited, nI (n + 1), nI (6 * n + 2 + (e + 1)), nI (6 * n), nI p, nI m, nI (s + 1), 9, 0, -1, a_ops, a_args, a_quick, a_length, a_exported, a_known, al1, a_fresh, a_lasting, a_shared, a_owner, a_size, a_element, a_roots, a_logCell, a_logOld, a_logged, a_slot, a_frameMethod, a_framePc)) hn (fun post hp => hx_i hm hp16 hL2 hsL eq ea (br_f (by decide) (hXw _ (hx_64G (a := 6 * n + 2 + e) hz4 ho hm h2 (by omega) (fun _ _ => ?_) (fun w => absurd w (by decide)) (fun _ w => absurd za w))))) (hl_G (st := 9) (s' := s + 1) (by decide) hO1 (by omega) hCD hPD hL1 hL2 hm hp16 hn er en (by omega) (fun aw wh bel bsh bro hE' post hp => hy_iO hn hm hp16 hL2 hsL er en eop ej (by decide) (by decide) (hy_mkG (D := fun f => (b_depths f).toNatClampNeg) hn he hm (by decide) hz1 hz4 hD ed ez hq hYq hYl (fun _ _ => hE' _ (br_t rfl hp)) (fun w => absurd w (by decide)) (fun _ w => absurd za w))))
      show wX_simple_286 _ _ _ _ _ _ _ _ _ _ _ _ _ _ _ _ _ _ _ _ _ _ _ _ _ _ _ _ _ _ _ _ _ _ _ _ _ _ _ _
      unfold wX_simple_286
      exact br_f (by decide) (nm_r (nI_pred p) hp)
    · refine hl_Xs (u1 := (nI L, f_pending, f_wide, f_waiting, f_height, f_entries, f_locals, f_logLength, f_open, hw_aw f_awaited, nI (n + 1), nI (6 * n + 2 + (e + 1)), nI (6 * n), nI (p + 1), nI m, nI (s + 1), 0, 0, -1, a_ops, a_args, a_quick, a_length, a_exported, a_known, upd al1 o 1, upd a_fresh o 1, upd a_lasting o (if (0 : Nat) = 0 then 1 else 0), upd a_shared o 0, upd a_owner o (nI (m / 2)), upd a_size o (nI z), ho_ze o a_element 4, a_roots, a_logCell, a_logOld, a_logged, upd a_slot (6 * n + 2 + e) (nI (65536 + o)), a_frameMethod, a_framePc)) hn (fun post hp => hx_i hm hp16 hL2 hsL eq ea (br_f (by decide) (hXw _ (hx_64G (a := 6 * n + 2 + e) hz4 ho hm h2 (by omega) (fun _ w => absurd w za) (fun w => absurd w (by decide)) (fun _ _ => ?_))))) (hl_Ys hn (by omega) (fun post hp => hy_iO hn hm hp16 hL2 hsL er en eop ej (by decide) (by decide) (hy_mkG (D := fun f => (b_depths f).toNatClampNeg) hn he hm (by decide) hz1 hz4 hD ed ez hq hYq hYl (fun _ w => absurd w za) (fun w => absurd w (by decide)) (fun _ _ => hy_54m (b := 0) (f_awaited := hw_aw f_awaited) hn he hm hq er ed en hp (by decide)))) (IH (s + 1) _ _ (by omega) (hm_mk hQ)))
      show wX_simple_286 _ _ _ _ _ _ _ _ _ _ _ _ _ _ _ _ _ _ _ _ _ _ _ _ _ _ _ _ _ _ _ _ _ _ _ _ _ _ _ _
      unfold wX_simple_286
      exact br_t rfl hp
  · refine hl_Xs (u1 := (nI L, f_pending, f_wide, f_waiting, f_height, f_entries, f_locals, f_logLength, f_open, f_awaited, nI (n + 1), nI (6 * n + 2 + (e + 1)), nI (6 * n), nI (p + 1), nI m, nI (s + 1), 0, 0, -1, a_ops, a_args, a_quick, a_length, a_exported, a_known, upd al1 o 1, upd a_fresh o 1, upd a_lasting o (if (1 : Nat) = 0 then 1 else 0), upd a_shared o 0, upd a_owner o (nI (m / 2)), upd a_size o (nI z), ho_ze o a_element 4, a_roots, a_logCell, a_logOld, a_logged, upd a_slot (6 * n + 2 + e) (nI (65536 + o)), a_frameMethod, a_framePc)) hn (fun post hp => hx_i hm hp16 hL2 hsL eq ea (br_f (by decide) (hXw _ (hx_64G (a := 6 * n + 2 + e) hz4 ho hm h2 (by omega) (fun w => absurd w (by decide)) (fun _ => ?_) (fun w => absurd w (by decide)))))) (hl_Ys hn (by omega) (fun post hp => hy_iO hn hm hp16 hL2 hsL er en eop ej (by decide) (by decide) (hy_mkG (D := fun f => (b_depths f).toNatClampNeg) hn he hm (by decide) hz1 hz4 hD ed ez hq hYq hYl (fun w => absurd w (by decide)) (fun _ => hy_54m (b := 1) hn he hm hq er ed en hp (by decide)) (fun w => absurd w (by decide)))) (IH (s + 1) _ _ (by omega) (hm_mk hQ)))
    show wX_simple_286 _ _ _ _ _ _ _ _ _ _ _ _ _ _ _ _ _ _ _ _ _ _ _ _ _ _ _ _ _ _ _ _ _ _ _ _ _ _ _ _
    unfold wX_simple_286
    exact br_t rfl hp
theorem hl_11 (hk : k ≤ 2045) (h : (hm_Q k L s n m p d kl E π ρ H f_pending f_wide f_logLength f_open a_ops a_args a_quick a_length a_exported a_alive a_fresh a_lasting a_shared a_owner a_size a_element a_roots a_logCell a_logOld a_logged a_slot a_frameMethod a_framePc g_made b_ops b_bs b_sizes b_exported b_stamp b_owner b_lengths b_elements b_lasting b_shared b_roots b_oldStamp b_oldElements b_oldShared b_oldRoots b_rows b_nexts b_depths b_places b_kinds)) (hl : l ≤ 16) (hM : hc_M a_ops a_args a_quick b_bs m l opf bf) (hR : hs_R opf bf p (hf_A kl E d)) (eo : opf p = 11) (eq : a_quick (16 * m + p) = nI 11) (hsL : s < L) (IH : hm_IH k L s) : hl_LS k (nI L, f_pending, f_wide, f_waiting, f_height, f_entries, f_locals, f_logLength, f_open, f_awaited, nI (n + 1), nI (6 * n + 2 + d), nI (6 * n), nI p, nI m, nI s, 0, 0, -1, a_ops, a_args, a_quick, a_length, a_exported, a_known, a_alive, a_fresh, a_lasting, a_shared, a_owner, a_size, a_element, a_roots, a_logCell, a_logOld, a_logged, a_slot, a_frameMethod, a_framePc) s (nI L, g_waiting, g_stack, g_locals, nI (n + 1), nI s, f_awaited, 0, g_where, g_outcome, g_made, g_good, f_open, b_ops, b_bs, b_sizes, b_exported, b_stamp, b_owner, b_lengths, b_elements, b_lasting, b_shared, b_roots, b_oldStamp, b_oldElements, b_oldShared, b_oldRoots, b_rows, b_nexts, b_depths, b_places, b_kinds, b_met, b_todo, b_heights) := by
  obtain ⟨⟨hn, hL2, hm, hp16, hd4⟩, ⟨er, en, ed, hS, hE⟩, ⟨eop, hpl, hfit, hus, ebf⟩, A', eA, _, hN⟩ := hm_at h hl hM hR eo
  have hN' := hN (by decide) (by decide)
  obtain ⟨j, hj, ej⟩ := hfit.2.1 (by decide)
  have ea := hus (by unfold hc_us; decide)
  rw [ej] at ea
  obtain ⟨C1, e1, eA1⟩ := hf_sqi eA
  obtain ⟨C2, e2, eA2⟩ := hf_sqi eA1
  obtain ⟨e, rfl, hw1, rfl⟩ := hf_tk e1
  obtain ⟨_, eC⟩ := hf_ps e2
  rw [hf_sq0 eA2, eC] at hN'
  have k1 := (hS.2 e (by omega)).2
  rw [show E e = 1 by omega] at k1
  have q1 := ho_K1 k1
  have hfr := hm_fr h
  have hD : ∀ f, f < n + 1 → b_depths f = nI ((fun f => (b_depths f).toNatClampNeg) f) ∧ (fun f => (b_depths f).toNatClampNeg) f ≤ 6 := fun f hf => ⟨(hfr f hf).1, by have := (hfr f hf).2.1; show (b_depths f).toNatClampNeg ≤ 6; omega⟩
  by_cases hz : ∃ z, 1 ≤ z ∧ z ≤ 4 ∧ a_slot (6 * n + 2 + e) = nI z
  · obtain ⟨z, hz1, hz4, ez⟩ := hz
    have ezY : b_places (8 * n + 2 + e) = nI z := q1.1.trans ez
    obtain ⟨T, hTT, hco⟩ := hm_co h
    have hOO := h.2.2.2.2.2
    have hP := hOO.1
    have hO := hOO.2.1
    have hBa := hOO.2.2.2.1.1
    have dn : (b_depths n).toNatClampNeg = e + 1 := by rw [ed, nI_clamp (by omega)]
    have hh : ∀ post : Int32 → Prop, (∀ msk, ho_M msk (hx_H n (fun f => 6 * f + 2 + (b_depths f).toNatClampNeg) a_roots a_slot T) → post msk) → wpX_heldNow post (nI L, f_pending, f_wide, f_waiting, f_height, f_entries, f_locals, f_logLength, f_open, f_awaited, nI (n + 1), nI (6 * n + 2 + (e + 1)), nI (6 * n), nI (p + 1), nI m, nI (s + 1), 0, 0, -1, a_ops, a_args, a_quick, a_length, a_exported, a_known, a_alive, a_fresh, a_lasting, a_shared, a_owner, a_size, a_element, a_roots, a_logCell, a_logOld, a_logged, a_slot, a_frameMethod, a_framePc) 1 := fun post HH => by
      refine hx_held1 (n := n) (te := fun f => 6 * f + 2 + (b_depths f).toNatClampNeg) (T := T) hn rfl (by show nI (6 * n + 2 + (e + 1)) = nI (6 * n + 2 + (b_depths n).toNatClampNeg); rw [dn]) (fun f hf => ?_) (fun f hf => ?_) ?_ HH
      · have := (hfr f hf).2.1
        show 6 * f ≤ 6 * f + 2 + (b_depths f).toNatClampNeg ∧ 6 * f + 2 + (b_depths f).toNatClampNeg ≤ 24
        omega
      · obtain ⟨x, hx, ex, et⟩ := (hfr f (by omega)).2.2.2 hf
        exact ⟨x, hx, ex, by show 6 * f + 2 + (b_depths f).toNatClampNeg = 6 * f + 2 + x / 16; rw [et]⟩
      · rcases hTT with w | ⟨w, q, c, S, TR, hTi, _⟩
        · exact Or.inl w
        · exact Or.inr ⟨by rw [w]; decide, q, c, TR.1.1, TR.1.2, TR.2.1, hTi⟩
    -- Y's place, where X has one
    have hYex : ∀ o, o < 8 → ¬ hx_H n (fun f => 6 * f + 2 + (b_depths f).toNatClampNeg) a_roots a_slot T o → ∃ q, q < 8 ∧ ¬ hy_H (n + 1) f_open b_roots b_oldRoots b_places b_kinds (fun f => (b_depths f).toNatClampNeg) q ∧ ∀ i, i < q → hy_H (n + 1) f_open b_roots b_oldRoots b_places b_kinds (fun f => (b_depths f).toNatClampNeg) i := fun o ho hno => by
      have hy : ¬ hy_H (n + 1) f_open b_roots b_oldRoots b_places b_kinds (fun f => (b_depths f).toNatClampNeg) (π o) := fun w => hno ((hco o ho).1.mpr w)
      obtain ⟨q, hq, hql⟩ := pk_least (fun x => ¬ hy_H (n + 1) f_open b_roots b_oldRoots b_places b_kinds (fun f => (b_depths f).toNatClampNeg) x) ⟨π o, hy⟩
      have hq8 : q < 8 := Nat.lt_of_not_le (fun w => hql (π o) (by have := (hP o ho).1; omega) hy)
      exact ⟨q, hq8, hq, fun i hi => Classical.byContradiction (hql i hi)⟩
    by_cases hA : ∃ o, o < 8 ∧ a_alive o = 0
    · obtain ⟨o, ⟨ho, h0⟩, hol⟩ := pk_least (fun x => x < 8 ∧ a_alive x = 0) hA
      have hXo : ¬ hx_H n (fun f => 6 * f + 2 + (b_depths f).toNatClampNeg) a_roots a_slot T o := fun w => (hO o ((hco o ho).2 w)).2.1 h0
      obtain ⟨q, hq, hYq, hYl⟩ := hYex o ho hXo
      exact hl_11c (al1 := a_alive) hk h (by omega) hN' eop ej hj hsL IH hz1 hz4 ezY hTT hco ho hXo hq hYq hYl (fun x hx w => (hO x ((hco x hx).2 w)).2.1) hBa (fun P K => hx_s11 hn (by omega) hj hz1 hz4 ez (hx_crA ho h0 (fun i hi w => hol i hi ⟨by omega, w⟩) K)) eq ea
    · have hall : ∀ i, i < 8 → ¬ a_alive i = 0 := fun i hi w => hA ⟨i, hi, w⟩
      have hBl : ca_B (ho_al (hx_H n (fun f => 6 * f + 2 + (b_depths f).toNatClampNeg) a_roots a_slot T) a_alive 8) := fun i => by
        by_cases w : i < 8 ∧ ¬ hx_H n (fun f => 6 * f + 2 + (b_depths f).toNatClampNeg) a_roots a_slot T i
        · rw [ho_al_t w]; exact Or.inl rfl
        · rw [ho_al_f w]; exact hBa i
      have hal : ∀ x, x < 8 → hx_H n (fun f => 6 * f + 2 + (b_depths f).toNatClampNeg) a_roots a_slot T x → ¬ ho_al (hx_H n (fun f => 6 * f + 2 + (b_depths f).toNatClampNeg) a_roots a_slot T) a_alive 8 x = 0 := fun x hx w => by
        rw [ho_al_f (fun y => y.2 w)]; exact hall x hx
      by_cases hB : ∃ o, o < 8 ∧ ho_al (hx_H n (fun f => 6 * f + 2 + (b_depths f).toNatClampNeg) a_roots a_slot T) a_alive 8 o = 0
      · obtain ⟨o, ⟨ho, h0⟩, hol⟩ := pk_least (fun x => x < 8 ∧ ho_al (hx_H n (fun f => 6 * f + 2 + (b_depths f).toNatClampNeg) a_roots a_slot T) a_alive 8 x = 0) hB
        have hXo : ¬ hx_H n (fun f => 6 * f + 2 + (b_depths f).toNatClampNeg) a_roots a_slot T o := fun w => hal o ho w h0
        obtain ⟨q, hq, hYq, hYl⟩ := hYex o ho hXo
        exact hl_11c (al1 := ho_al (hx_H n (fun f => 6 * f + 2 + (b_depths f).toNatClampNeg) a_roots a_slot T) a_alive 8) hk h (by omega) hN' eop ej hj hsL IH hz1 hz4 ezY hTT hco ho hXo hq hYq hYl hal hBl (fun P K => hx_s11 hn (by omega) hj hz1 hz4 ez (hx_crB hall hBa hh (fun post ep => by rw [ep]; exact hx_freeO ho h0 (fun i hi w => hol i hi ⟨by omega, w⟩) K))) eq ea
      · have hX8 : ∀ o, o < 8 → hx_H n (fun f => 6 * f + 2 + (b_depths f).toNatClampNeg) a_roots a_slot T o := fun o ho => Classical.byContradiction (fun w => hB ⟨o, ho, ho_al_t ⟨ho, w⟩⟩)
        have hY8 : ∀ q, q < 8 → hy_H (n + 1) f_open b_roots b_oldRoots b_places b_kinds (fun f => (b_depths f).toNatClampNeg) q := fun q hq => by
          have := (hco (ρ q) (hP q hq).2.1).1.mp (hX8 _ (hP q hq).2.1)
          rw [(hP q hq).2.2.2] at this
          exact this
        have hO1 := hm_gc (X := fun x => x < 8 ∧ hx_H n (fun f => 6 * f + 2 + (b_depths f).toNatClampNeg) a_roots a_slot T x) (al1 := ho_al (hx_H n (fun f => 6 * f + 2 + (b_depths f).toNatClampNeg) a_roots a_slot T) a_alive 8) hOO (fun x hx => ⟨hx.1, (hco x hx.1).2 hx.2, hal x hx.1 hx.2⟩) hBl (fun r x hr hx ex => ⟨(hO x hx).1, Or.inl (Or.inl ⟨r, hr, ex⟩)⟩) (fun e1 => by
          rcases hTT with ⟨e0, _⟩ | ⟨_, q', c, S, TR, _, hS'⟩
          · rw [e0] at e1; exact absurd e1 (by decide)
          · exact ⟨q', c, S, TR, fun r x hr hx es => ⟨(hO x hx).1, hS' r x hr (hO x hx).1 es⟩⟩)
        obtain ⟨⟨_, _, hL1, _⟩, hCD, hPD, _⟩ := id h
        refine hl_Xs (u1 := (nI L, f_pending, f_wide, f_waiting, f_height, f_entries, f_locals, f_logLength, f_open, f_awaited, nI (n + 1), nI (6 * n + 2 + (e + 1)), nI (6 * n), nI p, nI m, nI (s + 1), 7, 0, -1, a_ops, a_args, a_quick, a_length, a_exported, a_known, ho_al (hx_H n (fun f => 6 * f + 2 + (b_depths f).toNatClampNeg) a_roots a_slot T) a_alive 8, a_fresh, a_lasting, a_shared, a_owner, a_size, a_element, a_roots, a_logCell, a_logOld, a_logged, a_slot, a_frameMethod, a_framePc)) hn (fun post hp => hx_i hm hp16 hL2 hsL eq ea (br_f (by decide) (hx_s11 hn (by omega) hj hz1 hz4 ez (hx_crB hall hBa hh (fun post' ep => by
          rw [ep]
          refine hx_free8 (fun i hi => hal i hi (hX8 i hi)) (hx_64M ?_)
          show wX_simple_286 _ _ _ _ _ _ _ _ _ _ _ _ _ _ _ _ _ _ _ _ _ _ _ _ _ _ _ _ _ _ _ _ _ _ _ _ _ _ _ _
          unfold wX_simple_286
          exact br_f (by decide) (nm_r (nI_pred p) hp)))))) (hl_G (st := 7) (s' := s + 1) (by decide) hO1 (by omega) hCD hPD hL1 hL2 hm hp16 hn er en (by omega) (fun aw wh bel bsh bro hE' post hp => hy_iO hn hm hp16 hL2 hsL er en eop ej (by decide) (by decide) (hy_mkM (D := fun f => (b_depths f).toNatClampNeg) hn (by omega) hz1 hz4 hD ed ezY hY8 (hE' _ hp))))
  · have hzY : ¬ ∃ z, 1 ≤ z ∧ z ≤ 4 ∧ b_places (8 * n + 2 + e) = nI z := fun ⟨z, h1, h2, h3⟩ => hz ⟨z, h1, h2, q1.1.symm.trans h3⟩
    exact hl_fail (st := 4) (by decide) h hsL (fun post hp => hx_i hm hp16 hL2 hsL eq ea (br_f (by decide) (hx_s11B hn (by omega) hz hp))) (fun aw wh bel bsh bro hE' post hp => hy_iO hn hm hp16 hL2 hsL er en eop ej (by decide) (by decide) (hy_mkB (D := fun f => (b_depths f).toNatClampNeg) hn (by omega) hD ed hzY (hE' _ hp)))
end
end
section
/-! ===== run ===== -/
theorem hm_main {k L : Nat} (hk : k ≤ 2045) : ∀ (fu s : Nat) (u : SX) (v : SY), L - s < fu → hm_RR k L s u v → hl_LS k u s v := by
  intro fu
  induction fu with
  | zero => intro s u v h; omega
  | succ fu ih =>
    intro s u v hf hRR
    refine hRR (fun u v => hl_LS k u s v) ?_
    intro f_pending f_wide f_waiting f_height f_entries f_locals f_logLength f_open f_awaited a_ops a_args a_quick a_length a_exported a_known a_alive a_fresh a_lasting a_shared a_owner a_size a_element a_roots a_logCell a_logOld a_logged a_slot a_frameMethod a_framePc g_waiting g_stack g_locals g_where g_outcome g_made g_good b_ops b_bs b_sizes b_exported b_stamp b_owner b_lengths b_elements b_lasting b_shared b_roots b_oldStamp b_oldElements b_oldShared b_oldRoots b_rows b_nexts b_depths b_places b_kinds b_met b_todo b_heights n m p d kl E π ρ H h
    obtain ⟨⟨hn, hs, hL1, hL2⟩, hCD, hPD, hU, ⟨hm, em, er, en, ed, hS, hCt⟩, hO⟩ := id h
    rcases Nat.lt_or_ge s L with hsL | hsL
    · have IH : hm_IH k L s := fun s' u v hlt hrr => ih s' u v (by omega) hrr
      obtain ⟨l, opf, bf, hl, hM, hR⟩ := hCt
      have hpl := (hM.2 p _ hR).1
      obtain ⟨_, h24, _, _, _, hqk⟩ := hM.1 p hpl
      rcases hqk with eq | ⟨hp1, ⟨o1, o2, eq⟩ | ⟨o1, o2, eq⟩ | ⟨o1, o2, eq⟩⟩
      · rcases hx_25 h24 with eo | eo | eo | eo | eo | eo | eo | eo | eo | eo | eo | eo | eo | eo | eo | eo | eo | eo | eo | eo | eo | eo | eo | eo | eo
        · exact hl_0 h hl hM hR eo (by rw [eq, eo]) hsL IH
        · exact hl_1 h hl hM hR eo (by rw [eq, eo]) hsL IH
        · exact hl_2 h hl hM hR eo (by rw [eq, eo]) hsL IH
        · exact hl_B (op := 3) (by decide) (by decide) h hl hM hR eo (by rw [eq, eo]) hsL IH
        · exact hl_B (op := 4) (by decide) (by decide) h hl hM hR eo (by rw [eq, eo]) hsL IH
        · exact hl_B (op := 5) (by decide) (by decide) h hl hM hR eo (by rw [eq, eo]) hsL IH
        · exact hl_B (op := 6) (by decide) (by decide) h hl hM hR eo (by rw [eq, eo]) hsL IH
        · exact hl_7 h hl hM hR eo (by rw [eq, eo]) hsL IH
        · exact hl_8 h hl hM hR eo (by rw [eq, eo]) hsL IH
        · exact hl_9 h hl hM hR eo (by rw [eq, eo]) hsL IH
        · exact hl_10 h hl hM hR eo (by rw [eq, eo]) hsL IH
        · exact hl_11 hk h hl hM hR eo (by rw [eq, eo]) hsL IH
        · exact hl_12 h hl hM hR eo (by rw [eq, eo]) hsL IH
        · exact hl_13 h hl hM hR eo (by rw [eq, eo]) hsL IH
        · exact hl_14 h hl hM hR eo (by rw [eq, eo]) hsL IH
        · exact hl_15 h hl hM hR eo (by rw [eq, eo]) hsL IH
        · exact hl_16 h hl hM hR eo (by rw [eq, eo]) hsL IH
        · exact hl_17 h hl hM hR eo (by rw [eq, eo]) hsL IH
        · exact hl_18 h hl hM hR eo (by rw [eq, eo]) hsL IH
        · exact hl_19 h hl hM hR eo (by rw [eq, eo]) hsL IH
        · exact hl_20 h hl hM hR eo (by rw [eq, eo]) hsL IH
        · exact hl_21 h hl hM hR eo (by rw [eq, eo]) hsL IH
        · exact hl_22 h hl hM hR eo (by rw [eq, eo]) hsL IH
        · exact hl_23 h hl hM hR eo (by rw [eq, eo]) hsL IH
        · exact hl_24 h hl hM hR eo (by rw [eq, eo]) hsL IH
      · exact hl_25 h hl hM hR o1 o2 hp1 eq hsL IH
      · exact hl_26 h hl hM hR o1 o2 hp1 eq hsL IH
      · exact hl_27 h hl hM hR o1 o2 hp1 eq hsL IH
    · have e : s = L := by omega
      subst e
      exact hl_S h
section
variable {f_limit f_pending f_wide f_waiting f_height f_entries f_locals f_logLength f_open f_awaited f_frames f_sp f_base f_pc f_method f_steps f_status f_lastResult f_lastPlace : Int32} {a_ops a_args a_quick a_length a_exported a_known a_alive a_fresh a_lasting a_shared a_owner a_size a_element a_roots a_logCell a_logOld a_logged a_slot a_frameMethod a_framePc : Nat → Int32}
theorem hx_run0 {P : SX → Prop} {m : Nat} {x : Int32} (hm : m < 6) (H : P (f_limit, f_pending, f_wide, f_waiting, f_height, f_entries, f_locals, f_logLength, f_open, f_awaited, nI 1, nI 2, nI 0, 0, nI m, f_steps, f_status, f_lastResult, f_lastPlace, a_ops, a_args, a_quick, a_length, a_exported, a_known, a_alive, a_fresh, a_lasting, a_shared, a_owner, a_size, a_element, a_roots, a_logCell, a_logOld, a_logged, upd (upd a_slot 0 x) 1 0, upd a_frameMethod 0 (nI m), a_framePc)) : wpX_enter P (f_limit, f_pending, f_wide, f_waiting, f_height, f_entries, f_locals, f_logLength, f_open, f_awaited, 0, f_sp, f_base, f_pc, f_method, f_steps, f_status, f_lastResult, f_lastPlace, a_ops, a_args, a_quick, a_length, a_exported, a_known, a_alive, a_fresh, a_lasting, a_shared, a_owner, a_size, a_element, a_roots, a_logCell, a_logOld, a_logged, a_slot, a_frameMethod, a_framePc) (nI m) x := by
  unfold wpX_enter
  refine nm_r (e' := nI 0) (by decide) (nm_r (e' := nI 1) (by decide) ⟨by rw [vp_in_iff]; decide, nm_r (e' := upd a_frameMethod 0 (nI m)) ?_ ⟨by rw [vp_in_iff]; decide, nm_r (e' := upd a_slot 0 x) rfl ⟨by rw [vp_in_iff]; decide, nm_r (e' := upd (upd a_slot 0 x) 1 0) ?_ (nm_r (e' := nI 2) (by decide) H)⟩⟩⟩)
  · rw [ca_vb' (by omega)]; rfl
  · rw [show (nI 0 + 1).toNatClampNeg = 1 by decide]
end
section
variable {g_limit g_waiting g_stack g_locals g_running g_steps g_awaited g_answer g_where g_outcome : Int32} {g_made : Int64} {g_good g_open : Int32} {b_ops b_bs b_sizes b_exported : Nat → Int32} {b_stamp : Nat → Int64} {b_owner b_lengths b_elements b_lasting b_shared b_roots : Nat → Int32} {b_oldStamp : Nat → Int64} {b_oldElements b_oldShared b_oldRoots b_rows b_nexts b_depths b_places b_kinds b_met b_todo b_heights : Nat → Int32}
theorem hy_run0 {P : SY → Prop} {m : Nat} {x : Int32} (hm : m < 6) (H : P (g_limit, g_waiting, g_stack, g_locals, nI 1, g_steps, g_awaited, g_answer, g_where, g_outcome, g_made, g_good, g_open, b_ops, b_bs, b_sizes, b_exported, b_stamp, b_owner, b_lengths, b_elements, b_lasting, b_shared, b_roots, b_oldStamp, b_oldElements, b_oldShared, b_oldRoots, upd b_rows 0 (nI m), upd b_nexts 0 0, upd b_depths 0 0, upd b_places 0 x.toInt16.toInt32, upd (upd b_kinds 0 (nI 1)) 1 (nI 0), b_met, b_todo, b_heights)) : wpY_start P (g_limit, g_waiting, g_stack, g_locals, 0, g_steps, g_awaited, g_answer, g_where, g_outcome, g_made, g_good, g_open, b_ops, b_bs, b_sizes, b_exported, b_stamp, b_owner, b_lengths, b_elements, b_lasting, b_shared, b_roots, b_oldStamp, b_oldElements, b_oldShared, b_oldRoots, b_rows, b_nexts, b_depths, b_places, b_kinds, b_met, b_todo, b_heights) (nI m) x := by
  unfold wpY_start
  have v0 : vp_in (0 : Int32) 4 := by rw [vp_in_iff]; decide
  refine ⟨v0, nm_r (e' := upd b_rows 0 (nI m)) rfl ⟨v0, nm_r (e' := upd b_nexts 0 0) rfl ⟨v0, nm_r (e' := upd b_depths 0 0) rfl (nm_r (e' := nI 0) (by decide) ⟨by rw [vp_in_iff]; decide, nm_r (e' := upd b_kinds 0 (nI 1)) ?_ ⟨by rw [vp_in_iff]; decide, nm_r (e' := upd b_places 0 x.toInt16.toInt32) rfl ⟨by rw [vp_in_iff]; decide, nm_r (e' := upd (upd b_kinds 0 (nI 1)) 1 (nI 0)) ?_ (nm_r (e' := nI 1) (by decide) H)⟩⟩⟩)⟩⟩⟩
  · exact congrArg (upd b_kinds 0) (ca_vb (n := 1) (by decide))
  · rw [show (nI 0 + 1).toNatClampNeg = 1 by decide]
    exact congrArg (upd (upd b_kinds 0 (nI 1)) 1) (ca_vb (n := 0) (by decide))
end
theorem i_vc_run {k : Nat} {u : SX} {v : SY} (I : i_Rel k u v) (hk : k + 4 ≤ 2049) (v1 : Int32) (v2 : Int32) (v3 : Int32) : wpX_run (fun r u' => wpY_run (fun r' v' => r' = r ∧ i_Rel (k + 4) u' v') v v1 v2 v3) u v1 v2 v3 := by
  have I4 := i_up I
  revert I4
  refine zz_el (P := fun u v => i_Rel (k + 4) u v → wpX_run (fun r u' => wpY_run (fun r' v' => r' = r ∧ i_Rel (k + 4) u' v') v v1 v2 v3) u v1 v2 v3) ?_ I
  intro f_limit f_pending f_wide f_waiting f_height f_entries f_locals f_logLength f_open f_awaited f_frames f_sp f_base f_pc f_method f_steps f_status f_lastResult f_lastPlace a_ops a_args a_quick a_length a_exported a_known a_alive a_fresh a_lasting a_shared a_owner a_size a_element a_roots a_logCell a_logOld a_logged a_slot a_frameMethod a_framePc g_limit g_waiting g_stack g_locals g_running g_steps g_awaited g_answer g_where g_outcome g_made g_good g_open b_ops b_bs b_sizes b_exported b_stamp b_owner b_lengths b_elements b_lasting b_shared b_roots b_oldStamp b_oldElements b_oldShared b_oldRoots b_rows b_nexts b_depths b_places b_kinds b_met b_todo b_heights F I4
  obtain ⟨⟨h1, L, hL, hL1, hL2⟩, h2, h3, h4, h5, h6, h7, h8, ⟨π, ρ, H, hP, hO, hV, hW⟩, ⟨mm, em, hmm, hst⟩⟩ := F
  unfold wpX_run
  by_cases z1 : v1 < 0
  · refine br_t z1 ?_
    unfold wpY_run
    exact br_t z1 ⟨rfl, I4⟩
  by_cases z2 : (2 : Int32) < v1
  · refine br_f z1 (br_t z2 ?_)
    unfold wpY_run
    exact br_f z1 (br_t z2 ⟨rfl, I4⟩)
  by_cases z3 : v2 < 0
  · refine br_f z1 (br_f z2 (br_t z3 ?_))
    unfold wpY_run
    exact br_f z1 (br_f z2 (br_t z3 ⟨rfl, I4⟩))
  by_cases z4 : v2 ≤ 1
  · obtain ⟨a, ha, rfl⟩ := nI_of z1
    obtain ⟨b, hb, rfl⟩ := nI_of z3
    have ha2 : a ≤ 2 := Nat.le_of_not_lt (fun q => z2 (nI_lt (a := 2) q ha))
    have hb1 : b ≤ 1 := (nI_leI (b := 1) hb (by decide)).mp z4
    have ei : 2 * nI a + nI b = nI (2 * a + b) := by rw [show 2 * nI a = nI (2 * a) from pk_mul 2 a, nI_add]
    have ci : (nI (2 * a + b)).toNatClampNeg = 2 * a + b := nI_clamp (by omega)
    have hm : 2 * a + b < 6 := by omega
    obtain ⟨l, hl, el, es, hcode⟩ := h7.2.2 (2 * a + b) hm
    refine br_f z1 (br_f z2 (br_f z3 (br_t z4 (nm_r ei ⟨vp_in_nI hm (by decide), ?_⟩))))
    rw [ci, el]
    refine pk_eq l 0 (fun zl => ?_) (fun zl => ?_)
    · unfold wpY_run
      refine br_f z1 (br_f z2 (br_f z3 (br_t z4 ⟨by rw [ei]; exact vp_in_nI (by omega) (by decide), br_t ?_ ⟨rfl, I4⟩⟩)))
      rw [ei, ci, es, zl]; rfl
    · obtain ⟨opf, bf, hM⟩ := hcode (by omega)
      have hLS : hl_LS k (nI L, f_pending, f_wide, f_waiting, f_height, f_entries, f_locals, f_logLength, 0, f_awaited, nI 1, nI 2, nI 0, 0, nI (2 * a + b), 0, 0, 0, -1, a_ops, a_args, a_quick, a_length, a_exported, a_known, a_alive, a_fresh, a_lasting, a_shared, a_owner, a_size, a_element, a_roots, a_logCell, a_logOld, a_logged, upd (upd a_slot 0 v3.toInt16.toInt32) 1 0, upd a_frameMethod 0 (nI (2 * a + b)), a_framePc) 0 (nI L, g_waiting, g_stack, g_locals, nI 1, 0, f_awaited, 0, g_where, g_outcome, g_made, g_good, 0, b_ops, b_bs, b_sizes, b_exported, b_stamp, b_owner, b_lengths, b_elements, b_lasting, b_shared, b_roots, b_oldStamp, b_oldElements, b_oldShared, b_oldRoots, upd b_rows 0 (nI (2 * a + b)), upd b_nexts 0 0, upd b_depths 0 0, upd b_places 0 v3.toInt16.toInt32, upd (upd b_kinds 0 (nI 1)) 1 (nI 0), b_met, b_todo, b_heights) := by
        refine hm_main (k := k) (L := L) (by omega) (L + 1) 0 _ _ (by omega) (hm_mk (n := 0) (m := 2 * a + b) (p := 0) (d := 0) (kl := fun i => if i = 0 then 1 else 0) (E := fun _ => 0) (π := π) (ρ := ρ) (H := H) ⟨⟨by decide, Nat.zero_le _, hL1, hL2⟩, h7, h8, fun f hf => absurd hf (by omega), ⟨hm, pk_us, pk_us, pk_us, pk_us, ⟨fun i hi => ?_, fun j hj => absurd hj (by omega)⟩, l, opf, bf, hl, hM, (hs_Rcl opf bf).1⟩, ⟨hP, hO, hV, hW, ⟨mm, em, by omega, hst, fun q => absurd rfl q⟩, Or.inl rfl⟩⟩)
        have : i = 0 ∨ i = 1 := by omega
        rcases this with rfl | rfl
        · show upd (upd b_kinds 0 (nI 1)) 1 (nI 0) 0 = nI 1 ∧ ho_K π H 1 (upd (upd a_slot 0 v3.toInt16.toInt32) 1 0 0) (upd b_places 0 v3.toInt16.toInt32 0)
          rw [pk_un (by decide), pk_us, pk_un (by decide), pk_us, pk_us]
          exact ⟨rfl, ho_Kn (ca_sh16 _)⟩
        · show upd (upd b_kinds 0 (nI 1)) 1 (nI 0) 1 = nI 0 ∧ ho_K π H 0 (upd (upd a_slot 0 v3.toInt16.toInt32) 1 0 1) (upd b_places 0 v3.toInt16.toInt32 1)
          rw [pk_us, pk_us]
          exact ⟨rfl, Or.inl ⟨rfl, rfl⟩⟩
      obtain ⟨N, r, u', v', hR, hX, hY⟩ := hLS
      rw [hL, h5]
      refine hx_run0 hm ⟨N, ?_⟩
      refine hX _ N (Nat.le_refl _) ?_
      unfold wpY_run
      refine br_f z1 (br_f z2 (br_f z3 (br_t z4 ⟨by rw [ei]; exact vp_in_nI (by omega) (by decide), br_f ?_ ?_⟩)))
      · rw [ei, ci, es]; exact nI_ne0 (by omega) (by omega)
      · rw [ei, h1, h2, hL]
        exact hy_run0 hm ⟨N, hY _ N (Nat.le_refl _) ⟨rfl, hR⟩⟩
  · refine br_f z1 (br_f z2 (br_f z3 (br_f z4 ?_)))
    unfold wpY_run
    exact br_f z1 (br_f z2 (br_f z3 (br_f z4 ⟨rfl, I4⟩)))
end
