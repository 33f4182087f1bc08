section
/-! pure rows to paste: stores, nI and lN arithmetic, masks, shifts, narrowing, branches by naturals (pk_le, pk_lt, pk_eq), loops (lp1 .. lp16: the measure of the state; rp1 ..: recursion), negatives. Take what you need -/
theorem pk_us {f : Nat → Int32} {k : Nat} {x : Int32} : upd f k x k = x := if_pos rfl
theorem pk_un {f : Nat → Int32} {k j : Nat} {x : Int32} (h : j ≠ k) : upd f k x j = f j := if_neg h
theorem pk_uLs {f : Nat → Int64} {k : Nat} {x : Int64} : vp_updL f k x k = x := if_pos rfl
theorem pk_uLn {f : Nat → Int64} {k j : Nat} {x : Int64} (h : j ≠ k) : vp_updL f k x j = f j := if_neg h
theorem pk_sub {a b : Nat} (h : b ≤ a) : nI a - nI b = nI (a - b) := by
  obtain ⟨c, rfl⟩ : ∃ c, a = c + b := ⟨a - b, by omega⟩
  rw [← nI_add, Int32.add_sub_cancel, Nat.add_sub_cancel]
theorem pk_m1 (n : Nat) : nI (n + 1) + (-1) = nI n := by
  rw [← nI_1, Int32.add_assoc, show (1 : Int32) + (-1) = 0 from rfl, Int32.add_zero]
theorem pk_mul (a b : Nat) : nI a * nI b = nI (a * b) := (Int32.ofNat_mul a b).symm
theorem pk_div {a d : Nat} (ha : a < 2 ^ 31) (h0 : 0 < d) (hd : d < 2 ^ 31) : nI a / nI d = nI (a / d) := by
  apply Int32.toInt_inj.mp
  rw [lg_idiv_nonneg (by rw [nI_toInt ha]; omega) (by rw [nI_toInt hd]; omega), nI_toInt ha, nI_toInt hd, nI_toInt (Nat.lt_of_le_of_lt (Nat.div_le_self a d) ha)]
  first | rfl | exact (Int.natCast_ediv _ _).symm
theorem pk_rem {a d : Nat} (ha : a < 2 ^ 31) (h0 : 0 < d) (hd : d < 2 ^ 31) : nI a - nI a / nI d * nI d = nI (a % d) := by
  rw [pk_div ha h0 hd, pk_mul, pk_sub (Nat.div_mul_le_self a d)]
  exact congrArg nI (by have := Nat.div_add_mod' a d; omega)
theorem pk_sub_toInt {a b : Nat} (ha : a < 2 ^ 30) (hb : b < 2 ^ 30) : (nI a - nI b).toInt = (a : Int) - b := by
  rw [Int32.toInt_sub, nI_toInt (by omega), nI_toInt (by omega)]
  exact Int.bmod_eq_of_le (by omega) (by omega)
theorem pk_sneg {a b : Nat} (hb : b < 2 ^ 30) (h : a < b) : nI a - nI b < 0 := by
  rw [Int32.lt_iff_toInt_lt, pk_sub_toInt (by omega) hb, show (0 : Int32).toInt = 0 from by decide]
  omega
theorem pk_ix (x : Int32) {n : Nat} (hn : n < 2 ^ 31) : x < 0 ∨ nI n ≤ x ∨ ∃ j : Nat, j < n ∧ x = nI j := by
  by_cases h : x < 0
  · exact Or.inl h
  · obtain ⟨j, hj, rfl⟩ := nI_of h
    by_cases h2 : j < n
    · exact Or.inr (Or.inr ⟨j, h2, rfl⟩)
    · exact Or.inr (Or.inl (nI_le (by omega) hj))
theorem pk_le {x y : Int32} {A B : Prop} (a b : Nat) (f : a ≤ b → A) (g : b < a → B) (hx : x = nI a := by rfl) (hy : y = nI b := by rfl) (ha : a < 2 ^ 31 := by omega) (hb : b < 2 ^ 31 := by omega) : (x ≤ y → A) ∧ (¬ x ≤ y → B) := by
  subst hx hy
  rw [nI_leI ha hb]
  exact ⟨f, fun z => g (by omega)⟩
theorem pk_lt {x y : Int32} {A B : Prop} (a b : Nat) (f : a < b → A) (g : b ≤ a → B) (hx : x = nI a := by rfl) (hy : y = nI b := by rfl) (ha : a < 2 ^ 31 := by omega) (hb : b < 2 ^ 31 := by omega) : (x < y → A) ∧ (¬ x < y → B) := by
  subst hx hy
  rw [nI_ltI ha hb]
  exact ⟨f, fun z => g (by omega)⟩
theorem pk_eq {x y : Int32} {A B : Prop} (a b : Nat) (f : a = b → A) (g : a ≠ b → B) (hx : x = nI a := by rfl) (hy : y = nI b := by rfl) (ha : a < 2 ^ 31 := by omega) (hb : b < 2 ^ 31 := by omega) : (x = y → A) ∧ (¬ x = y → B) := by
  subst hx hy
  rw [nI_eq ha hb]
  exact ⟨f, g⟩
theorem pk_in {x : Int32} (n N : Nat) (h : n < N) (hx : x = nI n := by rfl) (hN : N < 2 ^ 31 := by omega) : vp_in x N := by
  subst hx
  exact vp_in_nI h hN
theorem pk_cl {x : Int32} (n : Nat) (hx : x = nI n := by rfl) (h : n < 2 ^ 31 := by omega) : x.toNatClampNeg = n := by
  subst hx
  exact nI_clamp h
theorem pk_tn {n : Nat} (h : n < 2 ^ 32) : (nI n).toBitVec.toNat = n := Nat.mod_eq_of_lt h
theorem pk_and (x : Int32) {m : Int32} (k : Nat) (hm : m.toBitVec.toNat = 2 ^ k - 1) : x &&& m = nI (x.toBitVec.toNat % 2 ^ k) := by
  apply Int32.toBitVec_inj.mp
  apply BitVec.eq_of_toNat_eq
  rw [Int32.toBitVec_and, BitVec.toNat_and, hm, Nat.and_two_pow_sub_one_eq_mod]
  show _ = (BitVec.ofNat 32 _).toNat
  rw [BitVec.toNat_ofNat]
  exact (Nat.mod_eq_of_lt (Nat.lt_of_le_of_lt (Nat.mod_le _ _) x.toBitVec.isLt)).symm
theorem pk_andN {n : Nat} (h : n < 2 ^ 32) {m : Int32} (k : Nat) (hm : m.toBitVec.toNat = 2 ^ k - 1) : nI n &&& m = nI (n % 2 ^ k) := by
  rw [pk_and _ k hm, pk_tn h]
theorem pk_andE (x : Int32) {m : Int32} (k : Nat) (hm : m.toBitVec.toNat = 2 ^ k - 1) : ∃ j : Nat, j < 2 ^ k ∧ x &&& m = nI j := ⟨_, Nat.mod_lt _ (Nat.two_pow_pos k), pk_and x k hm⟩
theorem pk_andIn (x : Int32) {m : Int32} (k : Nat) (hm : m.toBitVec.toNat = 2 ^ k - 1) (hk : k ≤ 30) : vp_in (x &&& m) (2 ^ k) := by
  obtain ⟨j, hj, e⟩ := pk_andE x k hm
  rw [e]
  exact vp_in_nI hj (Nat.lt_of_le_of_lt (Nat.pow_le_pow_right (by decide) hk) (by decide))
theorem pk_shl (a s : Int32) (k : Nat) (hs : (s.toBitVec.smod 32).toNat = k) : (a <<< s).toBitVec.toNat = a.toBitVec.toNat * 2 ^ k % 2 ^ 32 := by
  show (a.toBitVec <<< (s.toBitVec.smod 32).toNat).toNat = _
  rw [hs, BitVec.toNat_shiftLeft, Nat.shiftLeft_eq]
theorem pk_shlN {n : Nat} (s : Int32) (k : Nat) (hs : (s.toBitVec.smod 32).toNat = k) (h : n * 2 ^ k < 2 ^ 32) : nI n <<< s = nI (n * 2 ^ k) := by
  apply Int32.toBitVec_inj.mp
  apply BitVec.eq_of_toNat_eq
  have hn : n < 2 ^ 32 := Nat.lt_of_le_of_lt (Nat.le_mul_of_pos_right n (Nat.two_pow_pos k)) h
  rw [pk_shl _ _ k hs, pk_tn hn, pk_tn h, Nat.mod_eq_of_lt h]
theorem pk_shr (a s : Int32) (k : Nat) (hs : (s.toBitVec.smod 32).toNat = k) : (a >>> s).toInt = a.toInt >>> k := by
  show (a.toBitVec.sshiftRight (s.toBitVec.smod 32).toNat).toInt = _
  rw [hs, BitVec.toInt_sshiftRight]
  rfl
theorem pk_shrN {n : Nat} (h : n < 2 ^ 31) (s : Int32) (k : Nat) (hs : (s.toBitVec.smod 32).toNat = k) : nI n >>> s = nI (n / 2 ^ k) := by
  apply Int32.toInt_inj.mp
  have h2 : n / 2 ^ k ≤ n := Nat.div_le_self _ _
  rw [pk_shr _ _ k hs, nI_toInt h, nI_toInt (by omega), Int.shiftRight_eq_div_pow]
  rfl
theorem pk_ushr (x s : Int32) (k : Nat) (hs : ((s.toUInt32 &&& Int32.toUInt32 31).toBitVec % 32).toNat = k) : (x.toUInt32 >>> (s.toUInt32 &&& Int32.toUInt32 31)).toInt32.toBitVec.toNat = x.toBitVec.toNat / 2 ^ k := by
  have e : (x.toUInt32 >>> (s.toUInt32 &&& Int32.toUInt32 31)).toInt32.toBitVec = x.toBitVec >>> k := by
    rw [← hs]
    exact UInt32.toBitVec_shiftRight _ _
  rw [e, BitVec.toNat_ushiftRight, Nat.shiftRight_eq_div_pow]
theorem pk_ushrN {n : Nat} (hn : n < 2 ^ 32) (s : Int32) (k : Nat) (hs : ((s.toUInt32 &&& Int32.toUInt32 31).toBitVec % 32).toNat = k) : ((nI n).toUInt32 >>> (s.toUInt32 &&& Int32.toUInt32 31)).toInt32 = nI (n / 2 ^ k) := by
  apply Int32.toBitVec_inj.mp
  apply BitVec.eq_of_toNat_eq
  rw [pk_ushr _ s k hs, pk_tn hn, pk_tn (Nat.lt_of_le_of_lt (Nat.div_le_self _ _) hn)]
theorem pk_nb (z : Int32) : narrow .byte (.int z.toInt8.toInt32) = .int z.toInt8.toInt32 := congrArg Value.int (by simp)
theorem pk_ns (z : Int32) : narrow .short (.int z.toInt16.toInt32) = .int z.toInt16.toInt32 := congrArg Value.int (by simp)
theorem pk_fb (r : Int32) : fits .byte (.int r.toInt8.toInt32) = true := by
  have ⟨a, b⟩ := lg_i2b_range r
  have h1 : (-128 : Int32).toInt = -128 := by decide
  have h2 : (127 : Int32).toInt = 127 := by decide
  simp only [fits, Bool.and_eq_true, decide_eq_true_eq, Int32.le_iff_toInt_le, h1, h2]
  omega
theorem pk_fs (r : Int32) : fits .short (.int r.toInt16.toInt32) = true := by
  have ⟨a, b⟩ := lg_i2s_range r
  have h1 : (-32768 : Int32).toInt = -32768 := by decide
  have h2 : (32767 : Int32).toInt = 32767 := by decide
  simp only [fits, Bool.and_eq_true, decide_eq_true_eq, Int32.le_iff_toInt_le, h1, h2]
  omega
theorem pk_charN {q : Nat} (hq : q < 65536) : narrow .char (.int (nI q)) = .int (nI q) ∧ fits .char (.int (nI q)) = true := by
  constructor
  · have e : (nI q).toUInt32.toUInt16.toUInt32.toInt32 = nI q := by
      apply Int32.toBitVec_inj.mp
      apply BitVec.eq_of_toNat_eq
      show (nI q).toUInt32.toUInt16.toUInt32.toNat = q % 2 ^ 32
      rw [UInt16.toNat_toUInt32, UInt32.toNat_toUInt16, show (nI q).toUInt32.toNat = q % 2 ^ 32 from rfl]
      omega
    exact congrArg Value.int e
  · have a : (0 : Int32) ≤ nI q := nI_pos' (by omega)
    have b : nI q ≤ 65535 := nI_le (b := 65535) (by omega) (by decide)
    show (decide ((0 : Int32) ≤ nI q) && decide (nI q ≤ 65535)) = true
    rw [decide_eq_true a, decide_eq_true b]
    rfl
theorem pk_char (x : Int32) : (x.toUInt32 % 65536).toInt32 = nI (x.toBitVec.toNat % 65536) := by
  apply Int32.toBitVec_inj.mp
  apply BitVec.eq_of_toNat_eq
  rw [pk_tn (by omega)]
  show (x.toUInt32 % 65536).toNat = _
  rw [UInt32.toNat_mod]
  rfl
theorem pk_nc (x : Int32) : narrow .char (.int (x.toUInt32 % 65536).toInt32) = .int (x.toUInt32 % 65536).toInt32 := by
  rw [pk_char]
  exact (pk_charN (Nat.mod_lt _ (by decide))).1
theorem pk_fc (x : Int32) : fits .char (.int (x.toUInt32 % 65536).toInt32) = true := by
  rw [pk_char]
  exact (pk_charN (Nat.mod_lt _ (by decide))).2
theorem pk_vb (z : Int32) : vp_nar .byte z.toInt8.toInt32 = z.toInt8.toInt32 := by rw [vp_nar_byte]; simp
theorem pk_vs (z : Int32) : vp_nar .short z.toInt16.toInt32 = z.toInt16.toInt32 := by rw [vp_nar_short]; simp
theorem pk_vc (z : Int32) : vp_nar .char (z.toUInt32 % 65536).toInt32 = (z.toUInt32 % 65536).toInt32 := Value.int.inj (pk_nc z)
theorem pk_lT {n : Nat} (h : n < 2 ^ 63) : (lN n).toInt = (n : Int) := lg_ofNat_toInt h
theorem pk_lLT {a b : Nat} (ha : a < 2 ^ 63) (hb : b < 2 ^ 63) : lN a < lN b ↔ a < b := by
  rw [Int64.lt_iff_toInt_lt, pk_lT ha, pk_lT hb]; omega
theorem pk_lLE {a b : Nat} (ha : a < 2 ^ 63) (hb : b < 2 ^ 63) : lN a ≤ lN b ↔ a ≤ b := by
  rw [Int64.le_iff_toInt_le, pk_lT ha, pk_lT hb]; omega
theorem pk_lEQ {a b : Nat} (ha : a < 2 ^ 63) (hb : b < 2 ^ 63) : lN a = lN b ↔ a = b := by
  rw [← Int64.toInt_inj, pk_lT ha, pk_lT hb]; omega
theorem pk_lOf {x : Int64} (h : ¬ x < 0) : ∃ k : Nat, k < 2 ^ 63 ∧ x = lN k := by
  rw [Int64.lt_iff_toInt_lt] at h
  have h0 : (0 : Int64).toInt = 0 := by decide
  have hx := Int64.toInt_lt x
  refine ⟨x.toInt.toNat, by omega, Int64.toInt_inj.mp ?_⟩
  rw [pk_lT (by omega)]
  omega
theorem pk_lDiv {a b : Nat} (ha : a < 2 ^ 63) (h0 : 0 < b) (hb : b < 2 ^ 63) : lN a / lN b = lN (a / b) := by
  apply Int64.toInt_inj.mp
  rw [lg_ldiv_nonneg (by rw [pk_lT ha]; omega) (by rw [pk_lT hb]; omega), pk_lT ha, pk_lT hb, pk_lT (Nat.lt_of_le_of_lt (Nat.div_le_self a b) ha)]
  rfl
theorem pk_lRem {a b : Nat} (ha : a < 2 ^ 63) (h0 : 0 < b) (hb : b < 2 ^ 63) : lN a - lN a / lN b * lN b = lN (a % b) := by
  rw [pk_lDiv ha h0 hb, lN_mul, lN_sub (Nat.div_mul_le_self a b)]
  exact congrArg lN (by have := Nat.div_add_mod' a b; omega)
theorem pk_loop {σ : Type} (W : Nat → Nat → σ → Prop) (I : Nat → σ → Prop) (e i0 : Nat) (s : σ) (hi : i0 ≤ e) (h0 : I i0 s) (hx : ∀ n s, I e s → W (n + 1) e s)
    (hs : ∀ n i s, i < e → I i s → (∀ s', I (i + 1) s' → W n (i + 1) s') → W (n + 1) i s) : ∃ n, W n i0 s :=
  ⟨e + 1, loop_i W I e hx hs (e + 1) i0 s hi (by omega) h0⟩
theorem pk_loopD {σ : Type} (W : Nat → Nat → σ → Prop) (I : Nat → σ → Prop) (hx : ∀ n s, I 0 s → W (n + 1) 0 s)
    (hs : ∀ n i s, I (i + 1) s → (∀ s', I i s' → W n i s') → W (n + 1) (i + 1) s) : ∀ (e : Nat) (s : σ), I e s → W (e + 1) e s := by
  intro e
  induction e with
  | zero => exact fun s h => hx 0 s h
  | succ e ih => exact fun s h => hs (e + 1) e s h (fun s' h' => ih s' h')
theorem lp1 {A1 : Type} (W : Nat → A1 → Prop) (I : A1 → Prop) (μ : A1 → Nat) (hs : ∀ (n : Nat) (a1 : A1), I a1 → (∀ (b1 : A1), I b1 → μ b1 < μ a1 → W n b1) → W (n + 1) a1) (a1 : A1) (h : I a1) : ∃ n, W n a1 :=
  loop_m (σ := A1) (fun n s => W n s) (fun s => I s) (fun s => μ s) (fun n s hI hk => hs n s hI (fun b1 h9 hm => hk b1 h9 hm)) a1 h
theorem lp2 {A1 A2 : Type} (W : Nat → A1 → A2 → Prop) (I : A1 → A2 → Prop) (μ : A1 → A2 → Nat) (hs : ∀ (n : Nat) (a1 : A1) (a2 : A2), I a1 a2 → (∀ (b1 : A1) (b2 : A2), I b1 b2 → μ b1 b2 < μ a1 a2 → W n b1 b2) → W (n + 1) a1 a2) (a1 : A1) (a2 : A2) (h : I a1 a2) : ∃ n, W n a1 a2 :=
  loop_m (σ := A1 × A2) (fun n s => W n s.1 s.2) (fun s => I s.1 s.2) (fun s => μ s.1 s.2) (fun n s hI hk => hs n s.1 s.2 hI (fun b1 b2 h9 hm => hk (b1, b2) h9 hm)) (a1, a2) h
theorem lp3 {A1 A2 A3 : Type} (W : Nat → A1 → A2 → A3 → Prop) (I : A1 → A2 → A3 → Prop) (μ : A1 → A2 → A3 → Nat) (hs : ∀ (n : Nat) (a1 : A1) (a2 : A2) (a3 : A3), I a1 a2 a3 → (∀ (b1 : A1) (b2 : A2) (b3 : A3), I b1 b2 b3 → μ b1 b2 b3 < μ a1 a2 a3 → W n b1 b2 b3) → W (n + 1) a1 a2 a3) (a1 : A1) (a2 : A2) (a3 : A3) (h : I a1 a2 a3) : ∃ n, W n a1 a2 a3 :=
  loop_m (σ := A1 × A2 × A3) (fun n s => W n s.1 s.2.1 s.2.2) (fun s => I s.1 s.2.1 s.2.2) (fun s => μ s.1 s.2.1 s.2.2) (fun n s hI hk => hs n s.1 s.2.1 s.2.2 hI (fun b1 b2 b3 h9 hm => hk (b1, b2, b3) h9 hm)) (a1, a2, a3) h
theorem lp4 {A1 A2 A3 A4 : Type} (W : Nat → A1 → A2 → A3 → A4 → Prop) (I : A1 → A2 → A3 → A4 → Prop) (μ : A1 → A2 → A3 → A4 → Nat) (hs : ∀ (n : Nat) (a1 : A1) (a2 : A2) (a3 : A3) (a4 : A4), I a1 a2 a3 a4 → (∀ (b1 : A1) (b2 : A2) (b3 : A3) (b4 : A4), I b1 b2 b3 b4 → μ b1 b2 b3 b4 < μ a1 a2 a3 a4 → W n b1 b2 b3 b4) → W (n + 1) a1 a2 a3 a4) (a1 : A1) (a2 : A2) (a3 : A3) (a4 : A4) (h : I a1 a2 a3 a4) : ∃ n, W n a1 a2 a3 a4 :=
  loop_m (σ := A1 × A2 × A3 × A4) (fun n s => W n s.1 s.2.1 s.2.2.1 s.2.2.2) (fun s => I s.1 s.2.1 s.2.2.1 s.2.2.2) (fun s => μ s.1 s.2.1 s.2.2.1 s.2.2.2) (fun n s hI hk => hs n s.1 s.2.1 s.2.2.1 s.2.2.2 hI (fun b1 b2 b3 b4 h9 hm => hk (b1, b2, b3, b4) h9 hm)) (a1, a2, a3, a4) h
theorem lp5 {A1 A2 A3 A4 A5 : Type} (W : Nat → A1 → A2 → A3 → A4 → A5 → Prop) (I : A1 → A2 → A3 → A4 → A5 → Prop) (μ : A1 → A2 → A3 → A4 → A5 → Nat) (hs : ∀ (n : Nat) (a1 : A1) (a2 : A2) (a3 : A3) (a4 : A4) (a5 : A5), I a1 a2 a3 a4 a5 → (∀ (b1 : A1) (b2 : A2) (b3 : A3) (b4 : A4) (b5 : A5), I b1 b2 b3 b4 b5 → μ b1 b2 b3 b4 b5 < μ a1 a2 a3 a4 a5 → W n b1 b2 b3 b4 b5) → W (n + 1) a1 a2 a3 a4 a5) (a1 : A1) (a2 : A2) (a3 : A3) (a4 : A4) (a5 : A5) (h : I a1 a2 a3 a4 a5) : ∃ n, W n a1 a2 a3 a4 a5 :=
  loop_m (σ := A1 × A2 × A3 × A4 × A5) (fun n s => W n s.1 s.2.1 s.2.2.1 s.2.2.2.1 s.2.2.2.2) (fun s => I s.1 s.2.1 s.2.2.1 s.2.2.2.1 s.2.2.2.2) (fun s => μ s.1 s.2.1 s.2.2.1 s.2.2.2.1 s.2.2.2.2) (fun n s hI hk => hs n s.1 s.2.1 s.2.2.1 s.2.2.2.1 s.2.2.2.2 hI (fun b1 b2 b3 b4 b5 h9 hm => hk (b1, b2, b3, b4, b5) h9 hm)) (a1, a2, a3, a4, a5) h
theorem lp6 {A1 A2 A3 A4 A5 A6 : Type} (W : Nat → A1 → A2 → A3 → A4 → A5 → A6 → Prop) (I : A1 → A2 → A3 → A4 → A5 → A6 → Prop) (μ : A1 → A2 → A3 → A4 → A5 → A6 → Nat) (hs : ∀ (n : Nat) (a1 : A1) (a2 : A2) (a3 : A3) (a4 : A4) (a5 : A5) (a6 : A6), I a1 a2 a3 a4 a5 a6 → (∀ (b1 : A1) (b2 : A2) (b3 : A3) (b4 : A4) (b5 : A5) (b6 : A6), I b1 b2 b3 b4 b5 b6 → μ b1 b2 b3 b4 b5 b6 < μ a1 a2 a3 a4 a5 a6 → W n b1 b2 b3 b4 b5 b6) → W (n + 1) a1 a2 a3 a4 a5 a6) (a1 : A1) (a2 : A2) (a3 : A3) (a4 : A4) (a5 : A5) (a6 : A6) (h : I a1 a2 a3 a4 a5 a6) : ∃ n, W n a1 a2 a3 a4 a5 a6 :=
  loop_m (σ := A1 × A2 × A3 × A4 × A5 × A6) (fun n s => W n s.1 s.2.1 s.2.2.1 s.2.2.2.1 s.2.2.2.2.1 s.2.2.2.2.2) (fun s => I s.1 s.2.1 s.2.2.1 s.2.2.2.1 s.2.2.2.2.1 s.2.2.2.2.2) (fun s => μ s.1 s.2.1 s.2.2.1 s.2.2.2.1 s.2.2.2.2.1 s.2.2.2.2.2) (fun n s hI hk => hs n s.1 s.2.1 s.2.2.1 s.2.2.2.1 s.2.2.2.2.1 s.2.2.2.2.2 hI (fun b1 b2 b3 b4 b5 b6 h9 hm => hk (b1, b2, b3, b4, b5, b6) h9 hm)) (a1, a2, a3, a4, a5, a6) h
theorem lp7 {A1 A2 A3 A4 A5 A6 A7 : Type} (W : Nat → A1 → A2 → A3 → A4 → A5 → A6 → A7 → Prop) (I : A1 → A2 → A3 → A4 → A5 → A6 → A7 → Prop) (μ : A1 → A2 → A3 → A4 → A5 → A6 → A7 → Nat) (hs : ∀ (n : Nat) (a1 : A1) (a2 : A2) (a3 : A3) (a4 : A4) (a5 : A5) (a6 : A6) (a7 : A7), I a1 a2 a3 a4 a5 a6 a7 → (∀ (b1 : A1) (b2 : A2) (b3 : A3) (b4 : A4) (b5 : A5) (b6 : A6) (b7 : A7), I b1 b2 b3 b4 b5 b6 b7 → μ b1 b2 b3 b4 b5 b6 b7 < μ a1 a2 a3 a4 a5 a6 a7 → W n b1 b2 b3 b4 b5 b6 b7) → W (n + 1) a1 a2 a3 a4 a5 a6 a7) (a1 : A1) (a2 : A2) (a3 : A3) (a4 : A4) (a5 : A5) (a6 : A6) (a7 : A7) (h : I a1 a2 a3 a4 a5 a6 a7) : ∃ n, W n a1 a2 a3 a4 a5 a6 a7 :=
  loop_m (σ := A1 × A2 × A3 × A4 × A5 × A6 × A7) (fun n s => W n s.1 s.2.1 s.2.2.1 s.2.2.2.1 s.2.2.2.2.1 s.2.2.2.2.2.1 s.2.2.2.2.2.2) (fun s => I s.1 s.2.1 s.2.2.1 s.2.2.2.1 s.2.2.2.2.1 s.2.2.2.2.2.1 s.2.2.2.2.2.2) (fun s => μ s.1 s.2.1 s.2.2.1 s.2.2.2.1 s.2.2.2.2.1 s.2.2.2.2.2.1 s.2.2.2.2.2.2) (fun n s hI hk => hs n s.1 s.2.1 s.2.2.1 s.2.2.2.1 s.2.2.2.2.1 s.2.2.2.2.2.1 s.2.2.2.2.2.2 hI (fun b1 b2 b3 b4 b5 b6 b7 h9 hm => hk (b1, b2, b3, b4, b5, b6, b7) h9 hm)) (a1, a2, a3, a4, a5, a6, a7) h
theorem lp8 {A1 A2 A3 A4 A5 A6 A7 A8 : Type} (W : Nat → A1 → A2 → A3 → A4 → A5 → A6 → A7 → A8 → Prop) (I : A1 → A2 → A3 → A4 → A5 → A6 → A7 → A8 → Prop) (μ : A1 → A2 → A3 → A4 → A5 → A6 → A7 → A8 → Nat) (hs : ∀ (n : Nat) (a1 : A1) (a2 : A2) (a3 : A3) (a4 : A4) (a5 : A5) (a6 : A6) (a7 : A7) (a8 : A8), I a1 a2 a3 a4 a5 a6 a7 a8 → (∀ (b1 : A1) (b2 : A2) (b3 : A3) (b4 : A4) (b5 : A5) (b6 : A6) (b7 : A7) (b8 : A8), I b1 b2 b3 b4 b5 b6 b7 b8 → μ b1 b2 b3 b4 b5 b6 b7 b8 < μ a1 a2 a3 a4 a5 a6 a7 a8 → W n b1 b2 b3 b4 b5 b6 b7 b8) → W (n + 1) a1 a2 a3 a4 a5 a6 a7 a8) (a1 : A1) (a2 : A2) (a3 : A3) (a4 : A4) (a5 : A5) (a6 : A6) (a7 : A7) (a8 : A8) (h : I a1 a2 a3 a4 a5 a6 a7 a8) : ∃ n, W n a1 a2 a3 a4 a5 a6 a7 a8 :=
  loop_m (σ := A1 × A2 × A3 × A4 × A5 × A6 × A7 × A8) (fun n s => W n s.1 s.2.1 s.2.2.1 s.2.2.2.1 s.2.2.2.2.1 s.2.2.2.2.2.1 s.2.2.2.2.2.2.1 s.2.2.2.2.2.2.2) (fun s => I s.1 s.2.1 s.2.2.1 s.2.2.2.1 s.2.2.2.2.1 s.2.2.2.2.2.1 s.2.2.2.2.2.2.1 s.2.2.2.2.2.2.2) (fun s => μ s.1 s.2.1 s.2.2.1 s.2.2.2.1 s.2.2.2.2.1 s.2.2.2.2.2.1 s.2.2.2.2.2.2.1 s.2.2.2.2.2.2.2) (fun n s hI hk => hs n s.1 s.2.1 s.2.2.1 s.2.2.2.1 s.2.2.2.2.1 s.2.2.2.2.2.1 s.2.2.2.2.2.2.1 s.2.2.2.2.2.2.2 hI (fun b1 b2 b3 b4 b5 b6 b7 b8 h9 hm => hk (b1, b2, b3, b4, b5, b6, b7, b8) h9 hm)) (a1, a2, a3, a4, a5, a6, a7, a8) h
theorem lp9 {A1 A2 A3 A4 A5 A6 A7 A8 A9 : Type} (W : Nat → A1 → A2 → A3 → A4 → A5 → A6 → A7 → A8 → A9 → Prop) (I : A1 → A2 → A3 → A4 → A5 → A6 → A7 → A8 → A9 → Prop) (μ : A1 → A2 → A3 → A4 → A5 → A6 → A7 → A8 → A9 → Nat) (hs : ∀ (n : Nat) (a1 : A1) (a2 : A2) (a3 : A3) (a4 : A4) (a5 : A5) (a6 : A6) (a7 : A7) (a8 : A8) (a9 : A9), I a1 a2 a3 a4 a5 a6 a7 a8 a9 → (∀ (b1 : A1) (b2 : A2) (b3 : A3) (b4 : A4) (b5 : A5) (b6 : A6) (b7 : A7) (b8 : A8) (b9 : A9), I b1 b2 b3 b4 b5 b6 b7 b8 b9 → μ b1 b2 b3 b4 b5 b6 b7 b8 b9 < μ a1 a2 a3 a4 a5 a6 a7 a8 a9 → W n b1 b2 b3 b4 b5 b6 b7 b8 b9) → W (n + 1) a1 a2 a3 a4 a5 a6 a7 a8 a9) (a1 : A1) (a2 : A2) (a3 : A3) (a4 : A4) (a5 : A5) (a6 : A6) (a7 : A7) (a8 : A8) (a9 : A9) (h : I a1 a2 a3 a4 a5 a6 a7 a8 a9) : ∃ n, W n a1 a2 a3 a4 a5 a6 a7 a8 a9 :=
  loop_m (σ := A1 × A2 × A3 × A4 × A5 × A6 × A7 × A8 × A9) (fun n s => W n s.1 s.2.1 s.2.2.1 s.2.2.2.1 s.2.2.2.2.1 s.2.2.2.2.2.1 s.2.2.2.2.2.2.1 s.2.2.2.2.2.2.2.1 s.2.2.2.2.2.2.2.2) (fun s => I s.1 s.2.1 s.2.2.1 s.2.2.2.1 s.2.2.2.2.1 s.2.2.2.2.2.1 s.2.2.2.2.2.2.1 s.2.2.2.2.2.2.2.1 s.2.2.2.2.2.2.2.2) (fun s => μ s.1 s.2.1 s.2.2.1 s.2.2.2.1 s.2.2.2.2.1 s.2.2.2.2.2.1 s.2.2.2.2.2.2.1 s.2.2.2.2.2.2.2.1 s.2.2.2.2.2.2.2.2) (fun n s hI hk => hs n s.1 s.2.1 s.2.2.1 s.2.2.2.1 s.2.2.2.2.1 s.2.2.2.2.2.1 s.2.2.2.2.2.2.1 s.2.2.2.2.2.2.2.1 s.2.2.2.2.2.2.2.2 hI (fun b1 b2 b3 b4 b5 b6 b7 b8 b9 h9 hm => hk (b1, b2, b3, b4, b5, b6, b7, b8, b9) h9 hm)) (a1, a2, a3, a4, a5, a6, a7, a8, a9) h
theorem lp10 {A1 A2 A3 A4 A5 A6 A7 A8 A9 A10 : Type} (W : Nat → A1 → A2 → A3 → A4 → A5 → A6 → A7 → A8 → A9 → A10 → Prop) (I : A1 → A2 → A3 → A4 → A5 → A6 → A7 → A8 → A9 → A10 → Prop) (μ : A1 → A2 → A3 → A4 → A5 → A6 → A7 → A8 → A9 → A10 → Nat) (hs : ∀ (n : Nat) (a1 : A1) (a2 : A2) (a3 : A3) (a4 : A4) (a5 : A5) (a6 : A6) (a7 : A7) (a8 : A8) (a9 : A9) (a10 : A10), I a1 a2 a3 a4 a5 a6 a7 a8 a9 a10 → (∀ (b1 : A1) (b2 : A2) (b3 : A3) (b4 : A4) (b5 : A5) (b6 : A6) (b7 : A7) (b8 : A8) (b9 : A9) (b10 : A10), I b1 b2 b3 b4 b5 b6 b7 b8 b9 b10 → μ b1 b2 b3 b4 b5 b6 b7 b8 b9 b10 < μ a1 a2 a3 a4 a5 a6 a7 a8 a9 a10 → W n b1 b2 b3 b4 b5 b6 b7 b8 b9 b10) → W (n + 1) a1 a2 a3 a4 a5 a6 a7 a8 a9 a10) (a1 : A1) (a2 : A2) (a3 : A3) (a4 : A4) (a5 : A5) (a6 : A6) (a7 : A7) (a8 : A8) (a9 : A9) (a10 : A10) (h : I a1 a2 a3 a4 a5 a6 a7 a8 a9 a10) : ∃ n, W n a1 a2 a3 a4 a5 a6 a7 a8 a9 a10 :=
  loop_m (σ := A1 × A2 × A3 × A4 × A5 × A6 × A7 × A8 × A9 × A10) (fun n s => W n s.1 s.2.1 s.2.2.1 s.2.2.2.1 s.2.2.2.2.1 s.2.2.2.2.2.1 s.2.2.2.2.2.2.1 s.2.2.2.2.2.2.2.1 s.2.2.2.2.2.2.2.2.1 s.2.2.2.2.2.2.2.2.2) (fun s => I s.1 s.2.1 s.2.2.1 s.2.2.2.1 s.2.2.2.2.1 s.2.2.2.2.2.1 s.2.2.2.2.2.2.1 s.2.2.2.2.2.2.2.1 s.2.2.2.2.2.2.2.2.1 s.2.2.2.2.2.2.2.2.2) (fun s => μ s.1 s.2.1 s.2.2.1 s.2.2.2.1 s.2.2.2.2.1 s.2.2.2.2.2.1 s.2.2.2.2.2.2.1 s.2.2.2.2.2.2.2.1 s.2.2.2.2.2.2.2.2.1 s.2.2.2.2.2.2.2.2.2) (fun n s hI hk => hs n s.1 s.2.1 s.2.2.1 s.2.2.2.1 s.2.2.2.2.1 s.2.2.2.2.2.1 s.2.2.2.2.2.2.1 s.2.2.2.2.2.2.2.1 s.2.2.2.2.2.2.2.2.1 s.2.2.2.2.2.2.2.2.2 hI (fun b1 b2 b3 b4 b5 b6 b7 b8 b9 b10 h9 hm => hk (b1, b2, b3, b4, b5, b6, b7, b8, b9, b10) h9 hm)) (a1, a2, a3, a4, a5, a6, a7, a8, a9, a10) h
theorem lp11 {A1 A2 A3 A4 A5 A6 A7 A8 A9 A10 A11 : Type} (W : Nat → A1 → A2 → A3 → A4 → A5 → A6 → A7 → A8 → A9 → A10 → A11 → Prop) (I : A1 → A2 → A3 → A4 → A5 → A6 → A7 → A8 → A9 → A10 → A11 → Prop) (μ : A1 → A2 → A3 → A4 → A5 → A6 → A7 → A8 → A9 → A10 → A11 → Nat) (hs : ∀ (n : Nat) (a1 : A1) (a2 : A2) (a3 : A3) (a4 : A4) (a5 : A5) (a6 : A6) (a7 : A7) (a8 : A8) (a9 : A9) (a10 : A10) (a11 : A11), I a1 a2 a3 a4 a5 a6 a7 a8 a9 a10 a11 → (∀ (b1 : A1) (b2 : A2) (b3 : A3) (b4 : A4) (b5 : A5) (b6 : A6) (b7 : A7) (b8 : A8) (b9 : A9) (b10 : A10) (b11 : A11), I b1 b2 b3 b4 b5 b6 b7 b8 b9 b10 b11 → μ b1 b2 b3 b4 b5 b6 b7 b8 b9 b10 b11 < μ a1 a2 a3 a4 a5 a6 a7 a8 a9 a10 a11 → W n b1 b2 b3 b4 b5 b6 b7 b8 b9 b10 b11) → W (n + 1) a1 a2 a3 a4 a5 a6 a7 a8 a9 a10 a11) (a1 : A1) (a2 : A2) (a3 : A3) (a4 : A4) (a5 : A5) (a6 : A6) (a7 : A7) (a8 : A8) (a9 : A9) (a10 : A10) (a11 : A11) (h : I a1 a2 a3 a4 a5 a6 a7 a8 a9 a10 a11) : ∃ n, W n a1 a2 a3 a4 a5 a6 a7 a8 a9 a10 a11 :=
  loop_m (σ := A1 × A2 × A3 × A4 × A5 × A6 × A7 × A8 × A9 × A10 × A11) (fun n s => W n s.1 s.2.1 s.2.2.1 s.2.2.2.1 s.2.2.2.2.1 s.2.2.2.2.2.1 s.2.2.2.2.2.2.1 s.2.2.2.2.2.2.2.1 s.2.2.2.2.2.2.2.2.1 s.2.2.2.2.2.2.2.2.2.1 s.2.2.2.2.2.2.2.2.2.2) (fun s => I s.1 s.2.1 s.2.2.1 s.2.2.2.1 s.2.2.2.2.1 s.2.2.2.2.2.1 s.2.2.2.2.2.2.1 s.2.2.2.2.2.2.2.1 s.2.2.2.2.2.2.2.2.1 s.2.2.2.2.2.2.2.2.2.1 s.2.2.2.2.2.2.2.2.2.2) (fun s => μ s.1 s.2.1 s.2.2.1 s.2.2.2.1 s.2.2.2.2.1 s.2.2.2.2.2.1 s.2.2.2.2.2.2.1 s.2.2.2.2.2.2.2.1 s.2.2.2.2.2.2.2.2.1 s.2.2.2.2.2.2.2.2.2.1 s.2.2.2.2.2.2.2.2.2.2) (fun n s hI hk => hs n s.1 s.2.1 s.2.2.1 s.2.2.2.1 s.2.2.2.2.1 s.2.2.2.2.2.1 s.2.2.2.2.2.2.1 s.2.2.2.2.2.2.2.1 s.2.2.2.2.2.2.2.2.1 s.2.2.2.2.2.2.2.2.2.1 s.2.2.2.2.2.2.2.2.2.2 hI (fun b1 b2 b3 b4 b5 b6 b7 b8 b9 b10 b11 h9 hm => hk (b1, b2, b3, b4, b5, b6, b7, b8, b9, b10, b11) h9 hm)) (a1, a2, a3, a4, a5, a6, a7, a8, a9, a10, a11) h
theorem lp12 {A1 A2 A3 A4 A5 A6 A7 A8 A9 A10 A11 A12 : Type} (W : Nat → A1 → A2 → A3 → A4 → A5 → A6 → A7 → A8 → A9 → A10 → A11 → A12 → Prop) (I : A1 → A2 → A3 → A4 → A5 → A6 → A7 → A8 → A9 → A10 → A11 → A12 → Prop) (μ : A1 → A2 → A3 → A4 → A5 → A6 → A7 → A8 → A9 → A10 → A11 → A12 → Nat) (hs : ∀ (n : Nat) (a1 : A1) (a2 : A2) (a3 : A3) (a4 : A4) (a5 : A5) (a6 : A6) (a7 : A7) (a8 : A8) (a9 : A9) (a10 : A10) (a11 : A11) (a12 : A12), I a1 a2 a3 a4 a5 a6 a7 a8 a9 a10 a11 a12 → (∀ (b1 : A1) (b2 : A2) (b3 : A3) (b4 : A4) (b5 : A5) (b6 : A6) (b7 : A7) (b8 : A8) (b9 : A9) (b10 : A10) (b11 : A11) (b12 : A12), I b1 b2 b3 b4 b5 b6 b7 b8 b9 b10 b11 b12 → μ b1 b2 b3 b4 b5 b6 b7 b8 b9 b10 b11 b12 < μ a1 a2 a3 a4 a5 a6 a7 a8 a9 a10 a11 a12 → W n b1 b2 b3 b4 b5 b6 b7 b8 b9 b10 b11 b12) → W (n + 1) a1 a2 a3 a4 a5 a6 a7 a8 a9 a10 a11 a12) (a1 : A1) (a2 : A2) (a3 : A3) (a4 : A4) (a5 : A5) (a6 : A6) (a7 : A7) (a8 : A8) (a9 : A9) (a10 : A10) (a11 : A11) (a12 : A12) (h : I a1 a2 a3 a4 a5 a6 a7 a8 a9 a10 a11 a12) : ∃ n, W n a1 a2 a3 a4 a5 a6 a7 a8 a9 a10 a11 a12 :=
  loop_m (σ := A1 × A2 × A3 × A4 × A5 × A6 × A7 × A8 × A9 × A10 × A11 × A12) (fun n s => W n s.1 s.2.1 s.2.2.1 s.2.2.2.1 s.2.2.2.2.1 s.2.2.2.2.2.1 s.2.2.2.2.2.2.1 s.2.2.2.2.2.2.2.1 s.2.2.2.2.2.2.2.2.1 s.2.2.2.2.2.2.2.2.2.1 s.2.2.2.2.2.2.2.2.2.2.1 s.2.2.2.2.2.2.2.2.2.2.2) (fun s => I s.1 s.2.1 s.2.2.1 s.2.2.2.1 s.2.2.2.2.1 s.2.2.2.2.2.1 s.2.2.2.2.2.2.1 s.2.2.2.2.2.2.2.1 s.2.2.2.2.2.2.2.2.1 s.2.2.2.2.2.2.2.2.2.1 s.2.2.2.2.2.2.2.2.2.2.1 s.2.2.2.2.2.2.2.2.2.2.2) (fun s => μ s.1 s.2.1 s.2.2.1 s.2.2.2.1 s.2.2.2.2.1 s.2.2.2.2.2.1 s.2.2.2.2.2.2.1 s.2.2.2.2.2.2.2.1 s.2.2.2.2.2.2.2.2.1 s.2.2.2.2.2.2.2.2.2.1 s.2.2.2.2.2.2.2.2.2.2.1 s.2.2.2.2.2.2.2.2.2.2.2) (fun n s hI hk => hs n s.1 s.2.1 s.2.2.1 s.2.2.2.1 s.2.2.2.2.1 s.2.2.2.2.2.1 s.2.2.2.2.2.2.1 s.2.2.2.2.2.2.2.1 s.2.2.2.2.2.2.2.2.1 s.2.2.2.2.2.2.2.2.2.1 s.2.2.2.2.2.2.2.2.2.2.1 s.2.2.2.2.2.2.2.2.2.2.2 hI (fun b1 b2 b3 b4 b5 b6 b7 b8 b9 b10 b11 b12 h9 hm => hk (b1, b2, b3, b4, b5, b6, b7, b8, b9, b10, b11, b12) h9 hm)) (a1, a2, a3, a4, a5, a6, a7, a8, a9, a10, a11, a12) h
theorem lp13 {A1 A2 A3 A4 A5 A6 A7 A8 A9 A10 A11 A12 A13 : Type} (W : Nat → A1 → A2 → A3 → A4 → A5 → A6 → A7 → A8 → A9 → A10 → A11 → A12 → A13 → Prop) (I : A1 → A2 → A3 → A4 → A5 → A6 → A7 → A8 → A9 → A10 → A11 → A12 → A13 → Prop) (μ : A1 → A2 → A3 → A4 → A5 → A6 → A7 → A8 → A9 → A10 → A11 → A12 → A13 → Nat) (hs : ∀ (n : Nat) (a1 : A1) (a2 : A2) (a3 : A3) (a4 : A4) (a5 : A5) (a6 : A6) (a7 : A7) (a8 : A8) (a9 : A9) (a10 : A10) (a11 : A11) (a12 : A12) (a13 : A13), I a1 a2 a3 a4 a5 a6 a7 a8 a9 a10 a11 a12 a13 → (∀ (b1 : A1) (b2 : A2) (b3 : A3) (b4 : A4) (b5 : A5) (b6 : A6) (b7 : A7) (b8 : A8) (b9 : A9) (b10 : A10) (b11 : A11) (b12 : A12) (b13 : A13), I b1 b2 b3 b4 b5 b6 b7 b8 b9 b10 b11 b12 b13 → μ b1 b2 b3 b4 b5 b6 b7 b8 b9 b10 b11 b12 b13 < μ a1 a2 a3 a4 a5 a6 a7 a8 a9 a10 a11 a12 a13 → W n b1 b2 b3 b4 b5 b6 b7 b8 b9 b10 b11 b12 b13) → W (n + 1) a1 a2 a3 a4 a5 a6 a7 a8 a9 a10 a11 a12 a13) (a1 : A1) (a2 : A2) (a3 : A3) (a4 : A4) (a5 : A5) (a6 : A6) (a7 : A7) (a8 : A8) (a9 : A9) (a10 : A10) (a11 : A11) (a12 : A12) (a13 : A13) (h : I a1 a2 a3 a4 a5 a6 a7 a8 a9 a10 a11 a12 a13) : ∃ n, W n a1 a2 a3 a4 a5 a6 a7 a8 a9 a10 a11 a12 a13 :=
  loop_m (σ := A1 × A2 × A3 × A4 × A5 × A6 × A7 × A8 × A9 × A10 × A11 × A12 × A13) (fun n s => W n s.1 s.2.1 s.2.2.1 s.2.2.2.1 s.2.2.2.2.1 s.2.2.2.2.2.1 s.2.2.2.2.2.2.1 s.2.2.2.2.2.2.2.1 s.2.2.2.2.2.2.2.2.1 s.2.2.2.2.2.2.2.2.2.1 s.2.2.2.2.2.2.2.2.2.2.1 s.2.2.2.2.2.2.2.2.2.2.2.1 s.2.2.2.2.2.2.2.2.2.2.2.2) (fun s => I s.1 s.2.1 s.2.2.1 s.2.2.2.1 s.2.2.2.2.1 s.2.2.2.2.2.1 s.2.2.2.2.2.2.1 s.2.2.2.2.2.2.2.1 s.2.2.2.2.2.2.2.2.1 s.2.2.2.2.2.2.2.2.2.1 s.2.2.2.2.2.2.2.2.2.2.1 s.2.2.2.2.2.2.2.2.2.2.2.1 s.2.2.2.2.2.2.2.2.2.2.2.2) (fun s => μ s.1 s.2.1 s.2.2.1 s.2.2.2.1 s.2.2.2.2.1 s.2.2.2.2.2.1 s.2.2.2.2.2.2.1 s.2.2.2.2.2.2.2.1 s.2.2.2.2.2.2.2.2.1 s.2.2.2.2.2.2.2.2.2.1 s.2.2.2.2.2.2.2.2.2.2.1 s.2.2.2.2.2.2.2.2.2.2.2.1 s.2.2.2.2.2.2.2.2.2.2.2.2) (fun n s hI hk => hs n s.1 s.2.1 s.2.2.1 s.2.2.2.1 s.2.2.2.2.1 s.2.2.2.2.2.1 s.2.2.2.2.2.2.1 s.2.2.2.2.2.2.2.1 s.2.2.2.2.2.2.2.2.1 s.2.2.2.2.2.2.2.2.2.1 s.2.2.2.2.2.2.2.2.2.2.1 s.2.2.2.2.2.2.2.2.2.2.2.1 s.2.2.2.2.2.2.2.2.2.2.2.2 hI (fun b1 b2 b3 b4 b5 b6 b7 b8 b9 b10 b11 b12 b13 h9 hm => hk (b1, b2, b3, b4, b5, b6, b7, b8, b9, b10, b11, b12, b13) h9 hm)) (a1, a2, a3, a4, a5, a6, a7, a8, a9, a10, a11, a12, a13) h
theorem lp14 {A1 A2 A3 A4 A5 A6 A7 A8 A9 A10 A11 A12 A13 A14 : Type} (W : Nat → A1 → A2 → A3 → A4 → A5 → A6 → A7 → A8 → A9 → A10 → A11 → A12 → A13 → A14 → Prop) (I : A1 → A2 → A3 → A4 → A5 → A6 → A7 → A8 → A9 → A10 → A11 → A12 → A13 → A14 → Prop) (μ : A1 → A2 → A3 → A4 → A5 → A6 → A7 → A8 → A9 → A10 → A11 → A12 → A13 → A14 → Nat) (hs : ∀ (n : Nat) (a1 : A1) (a2 : A2) (a3 : A3) (a4 : A4) (a5 : A5) (a6 : A6) (a7 : A7) (a8 : A8) (a9 : A9) (a10 : A10) (a11 : A11) (a12 : A12) (a13 : A13) (a14 : A14), I a1 a2 a3 a4 a5 a6 a7 a8 a9 a10 a11 a12 a13 a14 → (∀ (b1 : A1) (b2 : A2) (b3 : A3) (b4 : A4) (b5 : A5) (b6 : A6) (b7 : A7) (b8 : A8) (b9 : A9) (b10 : A10) (b11 : A11) (b12 : A12) (b13 : A13) (b14 : A14), I b1 b2 b3 b4 b5 b6 b7 b8 b9 b10 b11 b12 b13 b14 → μ b1 b2 b3 b4 b5 b6 b7 b8 b9 b10 b11 b12 b13 b14 < μ a1 a2 a3 a4 a5 a6 a7 a8 a9 a10 a11 a12 a13 a14 → W n b1 b2 b3 b4 b5 b6 b7 b8 b9 b10 b11 b12 b13 b14) → W (n + 1) a1 a2 a3 a4 a5 a6 a7 a8 a9 a10 a11 a12 a13 a14) (a1 : A1) (a2 : A2) (a3 : A3) (a4 : A4) (a5 : A5) (a6 : A6) (a7 : A7) (a8 : A8) (a9 : A9) (a10 : A10) (a11 : A11) (a12 : A12) (a13 : A13) (a14 : A14) (h : I a1 a2 a3 a4 a5 a6 a7 a8 a9 a10 a11 a12 a13 a14) : ∃ n, W n a1 a2 a3 a4 a5 a6 a7 a8 a9 a10 a11 a12 a13 a14 :=
  loop_m (σ := A1 × A2 × A3 × A4 × A5 × A6 × A7 × A8 × A9 × A10 × A11 × A12 × A13 × A14) (fun n s => W n s.1 s.2.1 s.2.2.1 s.2.2.2.1 s.2.2.2.2.1 s.2.2.2.2.2.1 s.2.2.2.2.2.2.1 s.2.2.2.2.2.2.2.1 s.2.2.2.2.2.2.2.2.1 s.2.2.2.2.2.2.2.2.2.1 s.2.2.2.2.2.2.2.2.2.2.1 s.2.2.2.2.2.2.2.2.2.2.2.1 s.2.2.2.2.2.2.2.2.2.2.2.2.1 s.2.2.2.2.2.2.2.2.2.2.2.2.2) (fun s => I s.1 s.2.1 s.2.2.1 s.2.2.2.1 s.2.2.2.2.1 s.2.2.2.2.2.1 s.2.2.2.2.2.2.1 s.2.2.2.2.2.2.2.1 s.2.2.2.2.2.2.2.2.1 s.2.2.2.2.2.2.2.2.2.1 s.2.2.2.2.2.2.2.2.2.2.1 s.2.2.2.2.2.2.2.2.2.2.2.1 s.2.2.2.2.2.2.2.2.2.2.2.2.1 s.2.2.2.2.2.2.2.2.2.2.2.2.2) (fun s => μ s.1 s.2.1 s.2.2.1 s.2.2.2.1 s.2.2.2.2.1 s.2.2.2.2.2.1 s.2.2.2.2.2.2.1 s.2.2.2.2.2.2.2.1 s.2.2.2.2.2.2.2.2.1 s.2.2.2.2.2.2.2.2.2.1 s.2.2.2.2.2.2.2.2.2.2.1 s.2.2.2.2.2.2.2.2.2.2.2.1 s.2.2.2.2.2.2.2.2.2.2.2.2.1 s.2.2.2.2.2.2.2.2.2.2.2.2.2) (fun n s hI hk => hs n s.1 s.2.1 s.2.2.1 s.2.2.2.1 s.2.2.2.2.1 s.2.2.2.2.2.1 s.2.2.2.2.2.2.1 s.2.2.2.2.2.2.2.1 s.2.2.2.2.2.2.2.2.1 s.2.2.2.2.2.2.2.2.2.1 s.2.2.2.2.2.2.2.2.2.2.1 s.2.2.2.2.2.2.2.2.2.2.2.1 s.2.2.2.2.2.2.2.2.2.2.2.2.1 s.2.2.2.2.2.2.2.2.2.2.2.2.2 hI (fun b1 b2 b3 b4 b5 b6 b7 b8 b9 b10 b11 b12 b13 b14 h9 hm => hk (b1, b2, b3, b4, b5, b6, b7, b8, b9, b10, b11, b12, b13, b14) h9 hm)) (a1, a2, a3, a4, a5, a6, a7, a8, a9, a10, a11, a12, a13, a14) h
theorem lp15 {A1 A2 A3 A4 A5 A6 A7 A8 A9 A10 A11 A12 A13 A14 A15 : Type} (W : Nat → A1 → A2 → A3 → A4 → A5 → A6 → A7 → A8 → A9 → A10 → A11 → A12 → A13 → A14 → A15 → Prop) (I : A1 → A2 → A3 → A4 → A5 → A6 → A7 → A8 → A9 → A10 → A11 → A12 → A13 → A14 → A15 → Prop) (μ : A1 → A2 → A3 → A4 → A5 → A6 → A7 → A8 → A9 → A10 → A11 → A12 → A13 → A14 → A15 → Nat) (hs : ∀ (n : Nat) (a1 : A1) (a2 : A2) (a3 : A3) (a4 : A4) (a5 : A5) (a6 : A6) (a7 : A7) (a8 : A8) (a9 : A9) (a10 : A10) (a11 : A11) (a12 : A12) (a13 : A13) (a14 : A14) (a15 : A15), I a1 a2 a3 a4 a5 a6 a7 a8 a9 a10 a11 a12 a13 a14 a15 → (∀ (b1 : A1) (b2 : A2) (b3 : A3) (b4 : A4) (b5 : A5) (b6 : A6) (b7 : A7) (b8 : A8) (b9 : A9) (b10 : A10) (b11 : A11) (b12 : A12) (b13 : A13) (b14 : A14) (b15 : A15), I b1 b2 b3 b4 b5 b6 b7 b8 b9 b10 b11 b12 b13 b14 b15 → μ b1 b2 b3 b4 b5 b6 b7 b8 b9 b10 b11 b12 b13 b14 b15 < μ a1 a2 a3 a4 a5 a6 a7 a8 a9 a10 a11 a12 a13 a14 a15 → W n b1 b2 b3 b4 b5 b6 b7 b8 b9 b10 b11 b12 b13 b14 b15) → W (n + 1) a1 a2 a3 a4 a5 a6 a7 a8 a9 a10 a11 a12 a13 a14 a15) (a1 : A1) (a2 : A2) (a3 : A3) (a4 : A4) (a5 : A5) (a6 : A6) (a7 : A7) (a8 : A8) (a9 : A9) (a10 : A10) (a11 : A11) (a12 : A12) (a13 : A13) (a14 : A14) (a15 : A15) (h : I a1 a2 a3 a4 a5 a6 a7 a8 a9 a10 a11 a12 a13 a14 a15) : ∃ n, W n a1 a2 a3 a4 a5 a6 a7 a8 a9 a10 a11 a12 a13 a14 a15 :=
  loop_m (σ := A1 × A2 × A3 × A4 × A5 × A6 × A7 × A8 × A9 × A10 × A11 × A12 × A13 × A14 × A15) (fun n s => W n s.1 s.2.1 s.2.2.1 s.2.2.2.1 s.2.2.2.2.1 s.2.2.2.2.2.1 s.2.2.2.2.2.2.1 s.2.2.2.2.2.2.2.1 s.2.2.2.2.2.2.2.2.1 s.2.2.2.2.2.2.2.2.2.1 s.2.2.2.2.2.2.2.2.2.2.1 s.2.2.2.2.2.2.2.2.2.2.2.1 s.2.2.2.2.2.2.2.2.2.2.2.2.1 s.2.2.2.2.2.2.2.2.2.2.2.2.2.1 s.2.2.2.2.2.2.2.2.2.2.2.2.2.2) (fun s => I s.1 s.2.1 s.2.2.1 s.2.2.2.1 s.2.2.2.2.1 s.2.2.2.2.2.1 s.2.2.2.2.2.2.1 s.2.2.2.2.2.2.2.1 s.2.2.2.2.2.2.2.2.1 s.2.2.2.2.2.2.2.2.2.1 s.2.2.2.2.2.2.2.2.2.2.1 s.2.2.2.2.2.2.2.2.2.2.2.1 s.2.2.2.2.2.2.2.2.2.2.2.2.1 s.2.2.2.2.2.2.2.2.2.2.2.2.2.1 s.2.2.2.2.2.2.2.2.2.2.2.2.2.2) (fun s => μ s.1 s.2.1 s.2.2.1 s.2.2.2.1 s.2.2.2.2.1 s.2.2.2.2.2.1 s.2.2.2.2.2.2.1 s.2.2.2.2.2.2.2.1 s.2.2.2.2.2.2.2.2.1 s.2.2.2.2.2.2.2.2.2.1 s.2.2.2.2.2.2.2.2.2.2.1 s.2.2.2.2.2.2.2.2.2.2.2.1 s.2.2.2.2.2.2.2.2.2.2.2.2.1 s.2.2.2.2.2.2.2.2.2.2.2.2.2.1 s.2.2.2.2.2.2.2.2.2.2.2.2.2.2) (fun n s hI hk => hs n s.1 s.2.1 s.2.2.1 s.2.2.2.1 s.2.2.2.2.1 s.2.2.2.2.2.1 s.2.2.2.2.2.2.1 s.2.2.2.2.2.2.2.1 s.2.2.2.2.2.2.2.2.1 s.2.2.2.2.2.2.2.2.2.1 s.2.2.2.2.2.2.2.2.2.2.1 s.2.2.2.2.2.2.2.2.2.2.2.1 s.2.2.2.2.2.2.2.2.2.2.2.2.1 s.2.2.2.2.2.2.2.2.2.2.2.2.2.1 s.2.2.2.2.2.2.2.2.2.2.2.2.2.2 hI (fun b1 b2 b3 b4 b5 b6 b7 b8 b9 b10 b11 b12 b13 b14 b15 h9 hm => hk (b1, b2, b3, b4, b5, b6, b7, b8, b9, b10, b11, b12, b13, b14, b15) h9 hm)) (a1, a2, a3, a4, a5, a6, a7, a8, a9, a10, a11, a12, a13, a14, a15) h
theorem lp16 {A1 A2 A3 A4 A5 A6 A7 A8 A9 A10 A11 A12 A13 A14 A15 A16 : Type} (W : Nat → A1 → A2 → A3 → A4 → A5 → A6 → A7 → A8 → A9 → A10 → A11 → A12 → A13 → A14 → A15 → A16 → Prop) (I : A1 → A2 → A3 → A4 → A5 → A6 → A7 → A8 → A9 → A10 → A11 → A12 → A13 → A14 → A15 → A16 → Prop) (μ : A1 → A2 → A3 → A4 → A5 → A6 → A7 → A8 → A9 → A10 → A11 → A12 → A13 → A14 → A15 → A16 → Nat) (hs : ∀ (n : Nat) (a1 : A1) (a2 : A2) (a3 : A3) (a4 : A4) (a5 : A5) (a6 : A6) (a7 : A7) (a8 : A8) (a9 : A9) (a10 : A10) (a11 : A11) (a12 : A12) (a13 : A13) (a14 : A14) (a15 : A15) (a16 : A16), I a1 a2 a3 a4 a5 a6 a7 a8 a9 a10 a11 a12 a13 a14 a15 a16 → (∀ (b1 : A1) (b2 : A2) (b3 : A3) (b4 : A4) (b5 : A5) (b6 : A6) (b7 : A7) (b8 : A8) (b9 : A9) (b10 : A10) (b11 : A11) (b12 : A12) (b13 : A13) (b14 : A14) (b15 : A15) (b16 : A16), I b1 b2 b3 b4 b5 b6 b7 b8 b9 b10 b11 b12 b13 b14 b15 b16 → μ b1 b2 b3 b4 b5 b6 b7 b8 b9 b10 b11 b12 b13 b14 b15 b16 < μ a1 a2 a3 a4 a5 a6 a7 a8 a9 a10 a11 a12 a13 a14 a15 a16 → W n b1 b2 b3 b4 b5 b6 b7 b8 b9 b10 b11 b12 b13 b14 b15 b16) → W (n + 1) a1 a2 a3 a4 a5 a6 a7 a8 a9 a10 a11 a12 a13 a14 a15 a16) (a1 : A1) (a2 : A2) (a3 : A3) (a4 : A4) (a5 : A5) (a6 : A6) (a7 : A7) (a8 : A8) (a9 : A9) (a10 : A10) (a11 : A11) (a12 : A12) (a13 : A13) (a14 : A14) (a15 : A15) (a16 : A16) (h : I a1 a2 a3 a4 a5 a6 a7 a8 a9 a10 a11 a12 a13 a14 a15 a16) : ∃ n, W n a1 a2 a3 a4 a5 a6 a7 a8 a9 a10 a11 a12 a13 a14 a15 a16 :=
  loop_m (σ := A1 × A2 × A3 × A4 × A5 × A6 × A7 × A8 × A9 × A10 × A11 × A12 × A13 × A14 × A15 × A16) (fun n s => W n s.1 s.2.1 s.2.2.1 s.2.2.2.1 s.2.2.2.2.1 s.2.2.2.2.2.1 s.2.2.2.2.2.2.1 s.2.2.2.2.2.2.2.1 s.2.2.2.2.2.2.2.2.1 s.2.2.2.2.2.2.2.2.2.1 s.2.2.2.2.2.2.2.2.2.2.1 s.2.2.2.2.2.2.2.2.2.2.2.1 s.2.2.2.2.2.2.2.2.2.2.2.2.1 s.2.2.2.2.2.2.2.2.2.2.2.2.2.1 s.2.2.2.2.2.2.2.2.2.2.2.2.2.2.1 s.2.2.2.2.2.2.2.2.2.2.2.2.2.2.2) (fun s => I s.1 s.2.1 s.2.2.1 s.2.2.2.1 s.2.2.2.2.1 s.2.2.2.2.2.1 s.2.2.2.2.2.2.1 s.2.2.2.2.2.2.2.1 s.2.2.2.2.2.2.2.2.1 s.2.2.2.2.2.2.2.2.2.1 s.2.2.2.2.2.2.2.2.2.2.1 s.2.2.2.2.2.2.2.2.2.2.2.1 s.2.2.2.2.2.2.2.2.2.2.2.2.1 s.2.2.2.2.2.2.2.2.2.2.2.2.2.1 s.2.2.2.2.2.2.2.2.2.2.2.2.2.2.1 s.2.2.2.2.2.2.2.2.2.2.2.2.2.2.2) (fun s => μ s.1 s.2.1 s.2.2.1 s.2.2.2.1 s.2.2.2.2.1 s.2.2.2.2.2.1 s.2.2.2.2.2.2.1 s.2.2.2.2.2.2.2.1 s.2.2.2.2.2.2.2.2.1 s.2.2.2.2.2.2.2.2.2.1 s.2.2.2.2.2.2.2.2.2.2.1 s.2.2.2.2.2.2.2.2.2.2.2.1 s.2.2.2.2.2.2.2.2.2.2.2.2.1 s.2.2.2.2.2.2.2.2.2.2.2.2.2.1 s.2.2.2.2.2.2.2.2.2.2.2.2.2.2.1 s.2.2.2.2.2.2.2.2.2.2.2.2.2.2.2) (fun n s hI hk => hs n s.1 s.2.1 s.2.2.1 s.2.2.2.1 s.2.2.2.2.1 s.2.2.2.2.2.1 s.2.2.2.2.2.2.1 s.2.2.2.2.2.2.2.1 s.2.2.2.2.2.2.2.2.1 s.2.2.2.2.2.2.2.2.2.1 s.2.2.2.2.2.2.2.2.2.2.1 s.2.2.2.2.2.2.2.2.2.2.2.1 s.2.2.2.2.2.2.2.2.2.2.2.2.1 s.2.2.2.2.2.2.2.2.2.2.2.2.2.1 s.2.2.2.2.2.2.2.2.2.2.2.2.2.2.1 s.2.2.2.2.2.2.2.2.2.2.2.2.2.2.2 hI (fun b1 b2 b3 b4 b5 b6 b7 b8 b9 b10 b11 b12 b13 b14 b15 b16 h9 hm => hk (b1, b2, b3, b4, b5, b6, b7, b8, b9, b10, b11, b12, b13, b14, b15, b16) h9 hm)) (a1, a2, a3, a4, a5, a6, a7, a8, a9, a10, a11, a12, a13, a14, a15, a16) h
theorem pk_least (P : Nat → Prop) (h : ∃ k, P k) : ∃ k, P k ∧ ∀ j, j < k → ¬ P j := by
  obtain ⟨k, hk⟩ := h
  induction k using Nat.strongRecOn with
  | ind k ih =>
    by_cases e : ∃ j, j < k ∧ P j
    · obtain ⟨j, hj, pj⟩ := e
      exact ih j hj pj
    · exact ⟨k, hk, fun j hj pj => e ⟨j, hj, pj⟩⟩
theorem rp1 {ρ A1 : Type} (W : Nat → (ρ → Prop) → A1 → Prop) (ok : A1 → Prop) (μ : A1 → Nat) (val : A1 → ρ)
    (hs : ∀ (d : Nat) (post : ρ → Prop) (a1 : A1), ok a1 → post (val a1) → (∀ (post' : ρ → Prop) (b1 : A1), ok b1 → μ b1 < μ a1 → post' (val b1) → W d post' b1) → W (d + 1) post a1) :
    ∀ (d : Nat) (post : ρ → Prop) (a1 : A1), ok a1 → μ a1 < d → post (val a1) → W d post a1 := by
  intro d
  induction d with
  | zero => intro post a1 _ h; omega
  | succ d ih =>
    intro post a1 ho hm hp
    exact hs d post a1 ho hp (fun post' b1 ho' hm' hp' => ih post' b1 ho' (by omega) hp')
theorem rp2 {ρ A1 A2 : Type} (W : Nat → (ρ → Prop) → A1 → A2 → Prop) (ok : A1 → A2 → Prop) (μ : A1 → A2 → Nat) (val : A1 → A2 → ρ)
    (hs : ∀ (d : Nat) (post : ρ → Prop) (a1 : A1) (a2 : A2), ok a1 a2 → post (val a1 a2) → (∀ (post' : ρ → Prop) (b1 : A1) (b2 : A2), ok b1 b2 → μ b1 b2 < μ a1 a2 → post' (val b1 b2) → W d post' b1 b2) → W (d + 1) post a1 a2) :
    ∀ (d : Nat) (post : ρ → Prop) (a1 : A1) (a2 : A2), ok a1 a2 → μ a1 a2 < d → post (val a1 a2) → W d post a1 a2 := by
  intro d
  induction d with
  | zero => intro post a1 a2 _ h; omega
  | succ d ih =>
    intro post a1 a2 ho hm hp
    exact hs d post a1 a2 ho hp (fun post' b1 b2 ho' hm' hp' => ih post' b1 b2 ho' (by omega) hp')
theorem rp3 {ρ A1 A2 A3 : Type} (W : Nat → (ρ → Prop) → A1 → A2 → A3 → Prop) (ok : A1 → A2 → A3 → Prop) (μ : A1 → A2 → A3 → Nat) (val : A1 → A2 → A3 → ρ)
    (hs : ∀ (d : Nat) (post : ρ → Prop) (a1 : A1) (a2 : A2) (a3 : A3), ok a1 a2 a3 → post (val a1 a2 a3) → (∀ (post' : ρ → Prop) (b1 : A1) (b2 : A2) (b3 : A3), ok b1 b2 b3 → μ b1 b2 b3 < μ a1 a2 a3 → post' (val b1 b2 b3) → W d post' b1 b2 b3) → W (d + 1) post a1 a2 a3) :
    ∀ (d : Nat) (post : ρ → Prop) (a1 : A1) (a2 : A2) (a3 : A3), ok a1 a2 a3 → μ a1 a2 a3 < d → post (val a1 a2 a3) → W d post a1 a2 a3 := by
  intro d
  induction d with
  | zero => intro post a1 a2 a3 _ h; omega
  | succ d ih =>
    intro post a1 a2 a3 ho hm hp
    exact hs d post a1 a2 a3 ho hp (fun post' b1 b2 b3 ho' hm' hp' => ih post' b1 b2 b3 ho' (by omega) hp')
theorem rp4 {ρ A1 A2 A3 A4 : Type} (W : Nat → (ρ → Prop) → A1 → A2 → A3 → A4 → Prop) (ok : A1 → A2 → A3 → A4 → Prop) (μ : A1 → A2 → A3 → A4 → Nat) (val : A1 → A2 → A3 → A4 → ρ)
    (hs : ∀ (d : Nat) (post : ρ → Prop) (a1 : A1) (a2 : A2) (a3 : A3) (a4 : A4), ok a1 a2 a3 a4 → post (val a1 a2 a3 a4) → (∀ (post' : ρ → Prop) (b1 : A1) (b2 : A2) (b3 : A3) (b4 : A4), ok b1 b2 b3 b4 → μ b1 b2 b3 b4 < μ a1 a2 a3 a4 → post' (val b1 b2 b3 b4) → W d post' b1 b2 b3 b4) → W (d + 1) post a1 a2 a3 a4) :
    ∀ (d : Nat) (post : ρ → Prop) (a1 : A1) (a2 : A2) (a3 : A3) (a4 : A4), ok a1 a2 a3 a4 → μ a1 a2 a3 a4 < d → post (val a1 a2 a3 a4) → W d post a1 a2 a3 a4 := by
  intro d
  induction d with
  | zero => intro post a1 a2 a3 a4 _ h; omega
  | succ d ih =>
    intro post a1 a2 a3 a4 ho hm hp
    exact hs d post a1 a2 a3 a4 ho hp (fun post' b1 b2 b3 b4 ho' hm' hp' => ih post' b1 b2 b3 b4 ho' (by omega) hp')
theorem rp5 {ρ A1 A2 A3 A4 A5 : Type} (W : Nat → (ρ → Prop) → A1 → A2 → A3 → A4 → A5 → Prop) (ok : A1 → A2 → A3 → A4 → A5 → Prop) (μ : A1 → A2 → A3 → A4 → A5 → Nat) (val : A1 → A2 → A3 → A4 → A5 → ρ)
    (hs : ∀ (d : Nat) (post : ρ → Prop) (a1 : A1) (a2 : A2) (a3 : A3) (a4 : A4) (a5 : A5), ok a1 a2 a3 a4 a5 → post (val a1 a2 a3 a4 a5) → (∀ (post' : ρ → Prop) (b1 : A1) (b2 : A2) (b3 : A3) (b4 : A4) (b5 : A5), ok b1 b2 b3 b4 b5 → μ b1 b2 b3 b4 b5 < μ a1 a2 a3 a4 a5 → post' (val b1 b2 b3 b4 b5) → W d post' b1 b2 b3 b4 b5) → W (d + 1) post a1 a2 a3 a4 a5) :
    ∀ (d : Nat) (post : ρ → Prop) (a1 : A1) (a2 : A2) (a3 : A3) (a4 : A4) (a5 : A5), ok a1 a2 a3 a4 a5 → μ a1 a2 a3 a4 a5 < d → post (val a1 a2 a3 a4 a5) → W d post a1 a2 a3 a4 a5 := by
  intro d
  induction d with
  | zero => intro post a1 a2 a3 a4 a5 _ h; omega
  | succ d ih =>
    intro post a1 a2 a3 a4 a5 ho hm hp
    exact hs d post a1 a2 a3 a4 a5 ho hp (fun post' b1 b2 b3 b4 b5 ho' hm' hp' => ih post' b1 b2 b3 b4 b5 ho' (by omega) hp')
theorem rp6 {ρ A1 A2 A3 A4 A5 A6 : Type} (W : Nat → (ρ → Prop) → A1 → A2 → A3 → A4 → A5 → A6 → Prop) (ok : A1 → A2 → A3 → A4 → A5 → A6 → Prop) (μ : A1 → A2 → A3 → A4 → A5 → A6 → Nat) (val : A1 → A2 → A3 → A4 → A5 → A6 → ρ)
    (hs : ∀ (d : Nat) (post : ρ → Prop) (a1 : A1) (a2 : A2) (a3 : A3) (a4 : A4) (a5 : A5) (a6 : A6), ok a1 a2 a3 a4 a5 a6 → post (val a1 a2 a3 a4 a5 a6) → (∀ (post' : ρ → Prop) (b1 : A1) (b2 : A2) (b3 : A3) (b4 : A4) (b5 : A5) (b6 : A6), ok b1 b2 b3 b4 b5 b6 → μ b1 b2 b3 b4 b5 b6 < μ a1 a2 a3 a4 a5 a6 → post' (val b1 b2 b3 b4 b5 b6) → W d post' b1 b2 b3 b4 b5 b6) → W (d + 1) post a1 a2 a3 a4 a5 a6) :
    ∀ (d : Nat) (post : ρ → Prop) (a1 : A1) (a2 : A2) (a3 : A3) (a4 : A4) (a5 : A5) (a6 : A6), ok a1 a2 a3 a4 a5 a6 → μ a1 a2 a3 a4 a5 a6 < d → post (val a1 a2 a3 a4 a5 a6) → W d post a1 a2 a3 a4 a5 a6 := by
  intro d
  induction d with
  | zero => intro post a1 a2 a3 a4 a5 a6 _ h; omega
  | succ d ih =>
    intro post a1 a2 a3 a4 a5 a6 ho hm hp
    exact hs d post a1 a2 a3 a4 a5 a6 ho hp (fun post' b1 b2 b3 b4 b5 b6 ho' hm' hp' => ih post' b1 b2 b3 b4 b5 b6 ho' (by omega) hp')
theorem rec_p {σ ρ : Type} (W : Nat → (ρ → Prop) → σ → Prop) (ok : σ → Prop) (μ : σ → Nat) (val : σ → ρ)
    (hs : ∀ d s post, ok s → post (val s) → (∀ s' post', ok s' → μ s' < μ s → post' (val s') → W d post' s') → W (d + 1) post s) :
    ∀ d s post, ok s → μ s < d → post (val s) → W d post s := by
  intro d
  induction d with
  | zero => intro s post _ h; omega
  | succ d ih =>
    intro s post ho hm hp
    exact hs d s post ho hp (fun s' post' ho' hm' hp' => ih s' post' ho' (by omega) hp')
theorem rec_q {σ ρ : Type} (W : Nat → (ρ → Prop) → σ → Prop) (ok : σ → Prop) (μ : σ → Nat) (Q : σ → ρ → Prop)
    (hs : ∀ d s post, ok s → (∀ r, Q s r → post r) → (∀ s' post', ok s' → μ s' < μ s → (∀ r, Q s' r → post' r) → W d post' s') → W (d + 1) post s) :
    ∀ d s post, ok s → μ s < d → (∀ r, Q s r → post r) → W d post s := by
  intro d
  induction d with
  | zero => intro s post _ h; omega
  | succ d ih =>
    intro s post ho hm hp
    exact hs d s post ho hp (fun s' post' ho' hm' hp' => ih s' post' ho' (by omega) hp')
def bx_sum (f : Nat → Int32) : Nat → Int32
  | 0 => 0
  | n + 1 => bx_sum f n + f n
theorem ek_u {A : Prop} {B : Nat → Prop} {k N : Nat} (hk : k < N) (h : B k) : (some k = none → A) ∧ (∀ y : Nat, some k = some y → (y < N ∧ B y)) :=
  ⟨fun z => absurd z (Option.some_ne_none k), fun _ e => (by cases e; exact ⟨hk, h⟩)⟩
theorem ek_nu {A : Prop} {B : Nat → Prop} (h : A) : ((none : Option Nat) = none → A) ∧ (∀ y : Nat, (none : Option Nat) = some y → B y) :=
  ⟨fun _ => h, fun _ e => (by cases e)⟩
theorem ek_if {c d A B : Prop} (e : c ↔ d) (f : d → A) (g : ¬ d → B) : (c → A) ∧ (¬ c → B) :=
  ⟨fun z => f (e.mp z), fun z => g (fun y => z (e.mpr y))⟩
theorem ek_v {α : Sort _} {P : α → Prop} {a b : α} (e : a = b) (h : P b) : P a := e ▸ h
theorem co_some {x : Option Nat} {A : Prop} {B : Nat → Prop} (i : Nat) (h : B i) (hx : x = some i := by rfl) : (x = none → A) ∧ (∀ y : Nat, x = some y → B y) := by
  subst hx
  exact ⟨fun e => (nomatch e), fun y e => Option.some.inj e ▸ h⟩
theorem co_none {x : Option Nat} {A : Prop} {B : Nat → Prop} (h : A) (hx : x = none := by rfl) : (x = none → A) ∧ (∀ y : Nat, x = some y → B y) := by
  subst hx
  exact ⟨fun _ => h, fun y e => (nomatch e)⟩
theorem co_any {x : Option Nat} {A : Prop} {B : Nat → Prop} (hn : x = none → A) (hs : ∀ i : Nat, x = some i → B i) : (x = none → A) ∧ (∀ y : Nat, x = some y → B y) := ⟨hn, hs⟩
theorem co_2 {P : Nat → Prop} (h0 : P 0) (h1 : P 1) {i : Nat} (hi : i < 2) : P i :=
  match i, hi with
  | 0, _ => h0
  | 1, _ => h1
theorem co_3 {P : Nat → Prop} (h0 : P 0) (h1 : P 1) (h2 : P 2) {i : Nat} (hi : i < 3) : P i :=
  match i, hi with
  | 0, _ => h0
  | 1, _ => h1
  | 2, _ => h2
theorem co_4 {P : Nat → Prop} (h0 : P 0) (h1 : P 1) (h2 : P 2) (h3 : P 3) {i : Nat} (hi : i < 4) : P i :=
  match i, hi with
  | 0, _ => h0
  | 1, _ => h1
  | 2, _ => h2
  | 3, _ => h3
theorem co_dec {N : Nat} {P : Nat → Prop} [DecidablePred P] (h : (List.range N).all (fun i => decide (P i)) = true) {i : Nat} (hi : i < N) : P i := by
  have := List.all_eq_true.mp h i (List.mem_range.mpr hi)
  exact of_decide_eq_true this
theorem co_tab {α : Type} {l : List α} {d : α} {P : α → Prop} (h : ∀ a, a ∈ l → P a) {i : Nat} (hi : i < l.length) : P (l.getD i d) := by
  rw [List.getD_eq_getElem?_getD, List.getElem?_eq_getElem hi]
  exact h _ (List.getElem_mem hi)
theorem pk_mu {x : Int32} {L : Nat} (h0 : ¬ x < 0) (h : ¬ nI L ≤ x) (hL : L < 2 ^ 31) : ∃ j : Nat, j < L ∧ x = nI j ∧ x + 1 = nI (j + 1) ∧ x.toNatClampNeg = j ∧ L - (x + 1).toNatClampNeg < L - x.toNatClampNeg := by
  obtain ⟨j, hj, rfl⟩ := nI_of h0
  have hl : j < L := Nat.not_le.mp fun q => h (nI_le q hj)
  refine ⟨j, hl, rfl, nI_1 j, nI_clamp hj, ?_⟩
  rw [nI_1, nI_clamp (by omega), nI_clamp hj]
  omega
theorem op_s {α : Type} {r : Option α} {A : Prop} {B : α → Prop} {y : α} (h : r = some y) (b : B y) : (r = none → A) ∧ ∀ z, r = some z → B z :=
  ⟨fun e => (by rw [h] at e; cases e), fun z e => (by rw [h] at e; cases e; exact b)⟩
def l_holds {α : Type} (a : Nat → Option Nat) (LP : List Nat) (p : Nat → α) (c : Nat) (b : Nat → α) : Prop :=
  ∀ j, j < c → ∃ y, a j = some y ∧ y ∈ LP ∧ p y = b j
theorem l_holds_0 {α : Type} {a : Nat → Option Nat} {LP : List Nat} {p b : Nat → α} : l_holds a LP p 0 b := fun j h => absurd h (Nat.not_lt_zero j)
theorem l_in_new (LP : List Nat) (q : Nat) : q ∈ LP ++ [q] := List.mem_append.mpr (Or.inr (List.mem_singleton.mpr rfl))
def l_sum (b : Nat → Int32) : Nat → Int32
  | 0 => 0
  | k + 1 => l_sum b k + b k
theorem sb_shr0 (x : Int32) : x >>> ((0 : Int32) &&& 31) = x := by
  rw [show ((0 : Int32) &&& 31) = 0 by decide]
  simp
theorem sb_shl0 (x : Int32) : x <<< ((0 : Int32) &&& 31) = x := by
  rw [show ((0 : Int32) &&& 31) = 0 by decide]
  simp
theorem sb_cl0 : (0 : Int32).toNatClampNeg = 0 := by decide
theorem sb_m1 {p : Nat} (h : 0 < p) : nI p + (-1) = nI (p - 1) := by
  obtain ⟨q, rfl⟩ : ∃ q, p = q + 1 := ⟨p - 1, by omega⟩
  exact pk_m1 q
def sb_b (c : Nat) : Int32 := (nI c).toInt8.toInt32
theorem sb_byte : ∀ c, c < 256 → sb_b c &&& 255 = nI c ∧ ((nI c).toUInt32 % 65536).toInt32 = nI c ∧ nI c ≤ 255 := by decide +kernel
def sb_Fit (a : Nat → Int32) : Prop := ∀ j, fits .byte (.int (a j)) = true
def sb_Lat (t : Nat → Nat) (n : Nat) (a : Nat → Int32) : Prop := ∀ j, j < n → t j < 256 ∧ a j = sb_b (t j)
theorem sb_fitB (c : Nat) : fits .byte (.int (sb_b c)) = true := pk_fb _
theorem sb_fit0 : sb_Fit (fun _ => 0) := fun _ => by
  show fits .byte (.int 0) = true
  decide
theorem sb_fitU {a : Nat → Int32} {k : Nat} {x : Int32} (h : sb_Fit a) (hx : fits .byte (.int x) = true) : sb_Fit (upd a k x) := by
  intro j
  by_cases e : j = k
  · subst e
    rw [pk_us]
    exact hx
  · rw [pk_un e]
    exact h j
def sb_cat (t : Nat → Nat) (n : Nat) (s : Nat → Nat) : Nat → Nat := fun j => if j < n then t j else s (j - n)
theorem sb_cat_lo {t s : Nat → Nat} {n j : Nat} (h : j < n) : sb_cat t n s j = t j := if_pos h
theorem sb_cat_hi {t s : Nat → Nat} {n j : Nat} : sb_cat t n s (n + j) = s j := by
  show (if n + j < n then t (n + j) else s (n + j - n)) = s j
  rw [if_neg (by omega), Nat.add_sub_cancel_left]
theorem sb_latPut {t s : Nat → Nat} {n w : Nat} {a a' : Nat → Int32} (h : sb_Lat t n a) (hk : ∀ j, j < n → a' j = a j) (hs : ∀ i, i < w → s i < 256 ∧ a' (n + i) = sb_b (s i)) : sb_Lat (sb_cat t n s) (n + w) a' := by
  intro j hj
  by_cases e : j < n
  · rw [sb_cat_lo e, hk j e]
    exact h j e
  · obtain ⟨i, rfl⟩ : ∃ i, j = n + i := ⟨j - n, by omega⟩
    rw [sb_cat_hi]
    exact hs i (by omega)
theorem sb_latKeep {t : Nat → Nat} {n : Nat} {a a' : Nat → Int32} (h : sb_Lat t n a) (hk : ∀ j, j < n → a' j = a j) : sb_Lat t n a' := fun j hj => by
  rw [hk j hj]
  exact h j hj
def sb_cap (q m : Nat) : Nat := if q ≤ m then m else if 2 * m + 2 < q then q else 2 * m + 2
def sb_Room (q m mc ms : Nat) : Prop := q ≤ m ∨ (1 ≤ mc ∧ sb_cap q m ≤ ms ∧ sb_cap q m ≤ 65536)
theorem sb_cap_ge (q m : Nat) : q ≤ sb_cap q m := by
  unfold sb_cap
  split
  · omega
  · split <;> omega
theorem sb_cap_gem (q m : Nat) : m ≤ sb_cap q m := by
  unfold sb_cap
  split
  · omega
  · split <;> omega
theorem sb_cap_le {q m mc ms : Nat} (hm : m ≤ 65536) (hr : sb_Room q m mc ms) : sb_cap q m ≤ 65536 := by
  rcases hr with h | h
  · rw [sb_cap, if_pos h]
    exact hm
  · exact h.2.2
theorem sb_at {P : Int32 → Prop} {x y : Int32} (e : x = y) (h : P y) : P x := e ▸ h
def sb_dg (w : Nat) : Nat := if w < 10 then 1 else if w < 100 then 2 else if w < 1000 then 3 else if w < 10000 then 4 else if w < 100000 then 5 else if w < 1000000 then 6 else if w < 10000000 then 7 else if w < 100000000 then 8 else if w < 1000000000 then 9 else 10
def sb_dec (v : Nat) : Nat → Nat := fun i => 48 + v / 10 ^ (sb_dg v - 1 - i) % 10
theorem sb_dg_in (w : Nat) : 1 ≤ sb_dg w ∧ sb_dg w ≤ 10 := by
  unfold sb_dg
  constructor <;> (repeat' split) <;> omega
theorem sb_dg100 {w : Nat} (h : 100 ≤ w) (hw : w < 2 ^ 31) : sb_dg w = sb_dg (w / 100) + 2 := by
  rw [sb_dg, sb_dg, if_neg (show ¬ w < 10 by omega), if_neg (show ¬ w < 100 by omega)]
  by_cases h3 : w < 1000
  · rw [if_pos h3, if_pos (show w / 100 < 10 by omega)]
  rw [if_neg h3, if_neg (show ¬ w / 100 < 10 by omega)]
  by_cases h4 : w < 10000
  · rw [if_pos h4, if_pos (show w / 100 < 100 by omega)]
  rw [if_neg h4, if_neg (show ¬ w / 100 < 100 by omega)]
  by_cases h5 : w < 100000
  · rw [if_pos h5, if_pos (show w / 100 < 1000 by omega)]
  rw [if_neg h5, if_neg (show ¬ w / 100 < 1000 by omega)]
  by_cases h6 : w < 1000000
  · rw [if_pos h6, if_pos (show w / 100 < 10000 by omega)]
  rw [if_neg h6, if_neg (show ¬ w / 100 < 10000 by omega)]
  by_cases h7 : w < 10000000
  · rw [if_pos h7, if_pos (show w / 100 < 100000 by omega)]
  rw [if_neg h7, if_neg (show ¬ w / 100 < 100000 by omega)]
  by_cases h8 : w < 100000000
  · rw [if_pos h8, if_pos (show w / 100 < 1000000 by omega)]
  rw [if_neg h8, if_neg (show ¬ w / 100 < 1000000 by omega)]
  by_cases h9 : w < 1000000000
  · rw [if_pos h9, if_pos (show w / 100 < 10000000 by omega)]
  rw [if_neg h9, if_neg (show ¬ w / 100 < 10000000 by omega)]
  rw [if_pos (show w / 100 < 100000000 by omega)]
theorem sb_negT {w : Nat} (h : w < 2 ^ 31) : (-nI w).toInt = -(w : Int) := by
  rw [Int32.toInt_neg, nI_toInt h]
  exact Int.bmod_eq_of_le (by omega) (by omega)
theorem sb_nle {a b : Nat} (ha : a < 2 ^ 31) (hb : b < 2 ^ 31) : -nI a ≤ -nI b ↔ b ≤ a := by
  rw [Int32.le_iff_toInt_le, sb_negT ha, sb_negT hb]
  omega
theorem sb_nlt {a b : Nat} (ha : a < 2 ^ 31) (hb : b < 2 ^ 31) : -nI a < -nI b ↔ b < a := by
  rw [Int32.lt_iff_toInt_lt, sb_negT ha, sb_negT hb]
  omega
theorem sb_cmp {A B : Prop} {x : Int32} (v c : Nat) (f : c ≤ v → A) (g : v < c → B) (hv : v < 2 ^ 31) (hx : x = -nI c := by rfl) (hc : c < 2 ^ 31 := by omega) : (-nI v ≤ x → A) ∧ (¬ -nI v ≤ x → B) := by
  subst hx
  rw [sb_nle hv hc]
  exact ⟨f, fun z => g (by omega)⟩
theorem sb_ndiv {w : Nat} (hw : w < 2 ^ 31) : (-nI w) / 100 = -nI (w / 100) := by
  apply Int32.toInt_inj.mp
  have h100 : (100 : Int32).toInt = 100 := by decide
  rw [Int32.toInt_div, sb_negT hw, h100, sb_negT (by omega), Int.neg_tdiv, Int.tdiv_eq_ediv_of_nonneg (by omega), Int.bmod_eq_of_le (by omega) (by omega)]
  omega
theorem sb_nrem {w : Nat} (hw : w < 2 ^ 31) : (-nI (w / 100)) * 100 - (-nI w) = nI (w % 100) := by
  have h := pk_rem (a := w) (d := 100) hw (by decide) (by decide)
  rw [pk_div hw (by decide) (by decide)] at h
  rw [← h]
  show (-nI (w / 100)) * nI 100 - (-nI w) = nI w - nI (w / 100) * nI 100
  rw [Int32.neg_mul, Int32.sub_neg, Int32.add_comm, ← Int32.sub_eq_add_neg]
end
section
/-! sums, ghost updates, parses -/
def kh_sm (f : Nat → Nat) : Nat → Nat
  | 0 => 0
  | n + 1 => kh_sm f n + f n
theorem kh_sm_le {f g : Nat → Nat} : ∀ {n : Nat}, (∀ i, i < n → f i ≤ g i) → kh_sm f n ≤ kh_sm g n
  | 0, _ => Nat.le_refl _
  | n + 1, h => by
    have a := kh_sm_le (f := f) (g := g) (n := n) (fun i hi => h i (by omega))
    have b := h n (by omega)
    simp only [kh_sm]; omega
theorem kh_sm_eq {f g : Nat → Nat} {n : Nat} (h : ∀ i, i < n → f i = g i) : kh_sm f n = kh_sm g n :=
  Nat.le_antisymm (kh_sm_le fun i hi => Nat.le_of_eq (h i hi)) (kh_sm_le fun i hi => Nat.le_of_eq (h i hi).symm)
theorem kh_sm_pt {f g : Nat → Nat} {a : Nat} : ∀ {n : Nat}, a < n → (∀ i, i < n → i ≠ a → f i = g i) → kh_sm f n + g a = kh_sm g n + f a
  | 0, h, _ => by omega
  | n + 1, h, e => by
    simp only [kh_sm]
    by_cases z : a < n
    · have x := kh_sm_pt (f := f) (g := g) z (fun i hi hn => e i (by omega) hn)
      have y := e n (by omega) (by omega)
      omega
    · have y : a = n := by omega
      subst y
      have x := kh_sm_eq (f := f) (g := g) (n := a) (fun i hi => e i (by omega) (by omega))
      omega
theorem kh_sm_1 {f : Nat → Nat} : ∀ {n : Nat}, (∀ i, i < n → f i ≤ 1) → kh_sm f n ≤ n
  | 0, _ => Nat.le_refl _
  | n + 1, h => by
    have a := kh_sm_1 (f := f) (n := n) (fun i hi => h i (by omega))
    have b := h n (by omega)
    simp only [kh_sm]; omega
theorem kh_sm_0 {f : Nat → Nat} : ∀ {n : Nat}, (∀ i, i < n → f i = 0) → kh_sm f n = 0
  | 0, _ => rfl
  | n + 1, h => by
    have a := kh_sm_0 (f := f) (n := n) (fun i hi => h i (by omega))
    have b := h n (by omega)
    simp only [kh_sm]; omega
theorem kh_sm_at {f : Nat → Nat} {a n : Nat} (h : a < n) : f a ≤ kh_sm f n := by
  have x := kh_sm_pt (f := f) (g := fun i => if i = a then 0 else f i) h (fun i _ hn => (if_neg hn).symm)
  simp only [if_pos] at x
  omega
theorem kh_sm_add {f g : Nat → Nat} : ∀ {n : Nat}, kh_sm (fun i => f i + g i) n = kh_sm f n + kh_sm g n
  | 0 => rfl
  | n + 1 => by
    have a := kh_sm_add (f := f) (g := g) (n := n)
    simp only [kh_sm]; omega
def kh_up (f : Nat → Nat) (k x : Nat) : Nat → Nat := fun j => if j = k then x else f j
theorem kh_up_s {f : Nat → Nat} {k x : Nat} : kh_up f k x k = x := if_pos rfl
theorem kh_up_n {f : Nat → Nat} {k x j : Nat} (h : j ≠ k) : kh_up f k x j = f j := if_neg h
theorem kh_upI (f : Nat → Nat) (k x : Nat) : upd (fun z_ => nI (f z_)) k (nI x) = fun z_ => nI (kh_up f k x z_) := by
  funext j
  by_cases h : j = k
  · subst h; rw [pk_us, kh_up_s]
  · rw [pk_un h, kh_up_n h]
theorem kh_upd_self (f : Nat → Int32) (k : Nat) : upd f k (f k) = f := by
  funext j
  by_cases h : j = k
  · subst h; rw [pk_us]
  · rw [pk_un h]
def kh_SgN (B : Nat → Nat → Prop) : Nat → Nat → Nat → Prop
  | 0, lo, hi => lo = hi
  | n + 1, lo, hi => ∃ s, 0 < s ∧ B lo s ∧ kh_SgN B n (lo + s) hi
def kh_Sg (B : Nat → Nat → Prop) (lo hi : Nat) : Prop := ∃ n, kh_SgN B n lo hi
theorem kh_Sg_nil {B : Nat → Nat → Prop} {lo : Nat} : kh_Sg B lo lo := ⟨0, rfl⟩
theorem kh_Sg_cons {B : Nat → Nat → Prop} {lo hi s : Nat} (hs : 0 < s) (hb : B lo s) (h : kh_Sg B (lo + s) hi) : kh_Sg B lo hi := by
  obtain ⟨n, hn⟩ := h
  exact ⟨n + 1, s, hs, hb, hn⟩
theorem kh_Sg_cases {B : Nat → Nat → Prop} {lo hi : Nat} (h : kh_Sg B lo hi) : lo = hi ∨ ∃ s, 0 < s ∧ B lo s ∧ kh_Sg B (lo + s) hi := by
  obtain ⟨n, hn⟩ := h
  cases n with
  | zero => exact Or.inl hn
  | succ n =>
    obtain ⟨s, h1, h2, h3⟩ := hn
    exact Or.inr ⟨s, h1, h2, n, h3⟩
theorem kh_SgN_le {B : Nat → Nat → Prop} {hi : Nat} : ∀ {n lo : Nat}, kh_SgN B n lo hi → lo ≤ hi
  | 0, lo, h => Nat.le_of_eq h
  | n + 1, lo, h => by
    obtain ⟨s, h1, h2, h3⟩ := h
    have := kh_SgN_le h3
    omega
theorem kh_Sg_le {B : Nat → Nat → Prop} {lo hi : Nat} (h : kh_Sg B lo hi) : lo ≤ hi := by
  obtain ⟨n, hn⟩ := h
  exact kh_SgN_le hn
theorem kh_SgN_app {B : Nat → Nat → Prop} {m hi : Nat} : ∀ {n lo : Nat}, kh_SgN B n lo m → kh_Sg B m hi → kh_Sg B lo hi
  | 0, lo, h, g => by cases h; exact g
  | n + 1, lo, h, g => by
    obtain ⟨s, h1, h2, h3⟩ := h
    exact kh_Sg_cons h1 h2 (kh_SgN_app h3 g)
theorem kh_Sg_app {B : Nat → Nat → Prop} {lo m hi : Nat} (h : kh_Sg B lo m) (g : kh_Sg B m hi) : kh_Sg B lo hi := by
  obtain ⟨n, hn⟩ := h
  exact kh_SgN_app hn g
theorem kh_Sg_one {B : Nat → Nat → Prop} {lo s : Nat} (hs : 0 < s) (hb : B lo s) : kh_Sg B lo (lo + s) := kh_Sg_cons hs hb kh_Sg_nil
theorem kh_Sg_snoc {B : Nat → Nat → Prop} {lo m s : Nat} (h : kh_Sg B lo m) (hs : 0 < s) (hb : B m s) : kh_Sg B lo (m + s) := kh_Sg_app h (kh_Sg_one hs hb)
theorem kh_SgN_mono {B B' : Nat → Nat → Prop} {lo0 hi : Nat} (f : ∀ o s, lo0 ≤ o → 0 < s → o + s ≤ hi → B o s → B' o s) : ∀ {n lo : Nat}, lo0 ≤ lo → kh_SgN B n lo hi → kh_SgN B' n lo hi
  | 0, lo, _, h => h
  | n + 1, lo, hl, h => by
    obtain ⟨s, h1, h2, h3⟩ := h
    exact ⟨s, h1, f lo s hl h1 (kh_SgN_le h3) h2, kh_SgN_mono f (by omega) h3⟩
theorem kh_Sg_mono {B B' : Nat → Nat → Prop} {lo hi : Nat} (f : ∀ o s, lo ≤ o → 0 < s → o + s ≤ hi → B o s → B' o s) (h : kh_Sg B lo hi) : kh_Sg B' lo hi := by
  obtain ⟨n, hn⟩ := h
  exact ⟨n, kh_SgN_mono f (Nat.le_refl _) hn⟩
theorem kh_SgN_ind {B : Nat → Nat → Prop} {hi : Nat} {P : Nat → Prop} (h0 : P hi) (hs : ∀ o s, 0 < s → B o s → kh_Sg B (o + s) hi → P (o + s) → P o) : ∀ {n lo : Nat}, kh_SgN B n lo hi → P lo
  | 0, lo, h => by cases h; exact h0
  | n + 1, lo, h => by
    obtain ⟨s, h1, h2, h3⟩ := h
    exact hs lo s h1 h2 ⟨n, h3⟩ (kh_SgN_ind h0 hs h3)
theorem kh_Sg_ind {B : Nat → Nat → Prop} {lo hi : Nat} {P : Nat → Prop} (h : kh_Sg B lo hi) (h0 : P hi) (hs : ∀ o s, 0 < s → B o s → kh_Sg B (o + s) hi → P (o + s) → P o) : P lo := by
  obtain ⟨n, hn⟩ := h
  exact kh_SgN_ind h0 hs hn
/-! numbers -/
theorem kh_and7 {k f : Nat} (hk : k ≤ 2) (hf : f ≤ 6) : nI (8 * k + f) &&& 7 = nI f := by
  rw [pk_andN (by omega) 3 (by decide)]
  exact congrArg nI (by omega)
theorem kh_sh3 {k f : Nat} (hk : k ≤ 2) (hf : f ≤ 6) : nI (8 * k + f) >>> ((3 : Int32) &&& 31) = nI k := by
  rw [pk_shrN (by omega) _ 3 (by decide)]
  exact congrArg nI (by omega)
theorem kh_cl {n : Nat} (h : n < 208) : (nI n).toNatClampNeg = n := nI_clamp (by omega)
theorem kh_s16 : ∀ n, n < 208 → (nI n).toInt16.toInt32 = nI n := by decide +kernel
theorem kh_ns {n : Nat} (h : n < 208) : vp_nar .short (nI n) = nI n := by rw [vp_nar_short, kh_s16 n h]
theorem kh_ns2 {n : Nat} (h : n < 208) : vp_nar .short (nI n).toInt16.toInt32 = nI n := by rw [kh_s16 n h, kh_ns h]
theorem kh_b8 : ∀ n, n < 24 → (nI n).toInt8.toInt32 = nI n := by decide +kernel
theorem kh_nb {n : Nat} (h : n < 24) : vp_nar .byte (nI n) = nI n := by rw [vp_nar_byte, kh_b8 n h]
theorem kh_nb2 {n : Nat} (h : n < 24) : vp_nar .byte (nI n).toInt8.toInt32 = nI n := by rw [kh_b8 n h, kh_nb h]
theorem kh_sm1 : vp_nar .short (-1) = -1 := by rw [vp_nar_short]; decide
theorem kh_bm1 : vp_nar .byte (-1) = -1 := by rw [vp_nar_byte]; decide
theorem kh_bo0 : vp_nar .boolean 0 = 0 := rfl
theorem kh_bo1 : vp_nar .boolean 1 = 1 := rfl
theorem kh_by0 : vp_nar .byte 0 = 0 := by rw [vp_nar_byte]; decide
theorem kh_inj {a b : Nat} (ha : a < 2 ^ 31) (hb : b < 2 ^ 31) (h : nI a = nI b) : a = b := (nI_eq ha hb).mp h
theorem kh_10 : ¬ (1 : Int32) = 0 := by decide
theorem kh_m10 : (-1 : Int32) < 0 := by decide
theorem kh_0m1 : ¬ (0 : Int32) ≤ -1 := by decide
theorem kh_n0 {a : Nat} (h : a < 208) : (0 : Int32) ≤ nI a := nI_pos' (by omega)
theorem kh_nn0 {a : Nat} (h : a < 208) : ¬ nI a < (0 : Int32) := nI_pos (by omega)
end
section
/-! the heap as a layout of records -/
def kh_Rf (fi ir : Nat → Int32) (j q : Nat) : Prop := ir j ≠ 0 ∧ 0 < q ∧ q < 97 ∧ fi j = nI q
def kh_Fw (fi ir : Nat → Int32) (E : Nat → Nat) (w t : Nat → Int32) (a j : Nat) : Prop :=
  (ir j = 0 ∧ t a = 0 ∧ w a = fi j) ∨ (ir j ≠ 0 ∧ fi j = 0 ∧ t a = 2) ∨ (∃ q, kh_Rf fi ir j q ∧ t a = 1 ∧ w a = nI (E q) ∧ E q < 208)
def kh_Ob (kd fl sv : Nat → Nat) (fi ir : Nat → Int32) (E : Nat → Nat) (w t : Nat → Int32) (p k : Nat) : Prop :=
  w p = nI (sv k) ∧ t p = nI (8 * kd k + fl k) ∧ ∀ i, i < fl k → kh_Fw fi ir E w t (p + 1 + i) (6 * k + i)
def kh_Dj (fl A : Nat → Nat) : Prop := ∀ k j, A k < 208 → A j < 208 → k ≠ j → A k + fl k < A j ∨ A j + fl j < A k
def kh_BO (fl A : Nat → Nat) (o s : Nat) : Prop := ∃ k, A k < 208 ∧ A k = o ∧ s = fl k + 1
def kh_BF (fl A : Nat → Nat) (w t : Nat → Int32) (o s : Nat) : Prop := t o = -1 ∧ w o = nI s ∧ (∀ k, A k < 208 → A k + fl k < o ∨ o + s ≤ A k)
def kh_Bk (fl A : Nat → Nat) (w t : Nat → Int32) (o s : Nat) : Prop := kh_BO fl A o s ∨ kh_BF fl A w t o s
/-- records are valid -/
def kh_RV (kd fl : Nat → Nat) (ir : Nat → Int32) : Prop := ∀ k, kd k ≤ 2 ∧ fl k ≤ 6 ∧ (kd k = 2 → fl k = 1 ∧ ir (6 * k) ≠ 0)
/-- old and young spaces -/
def kh_Ge (cp ob ot yo : Nat) : Prop := cp ≤ 96 ∧ (ob = 0 ∨ ob = 112) ∧ ob ≤ ot ∧ ot ≤ ob + cp ∧ yo ≤ 15
def kh_PV (A : Nat → Nat) : Prop := ∀ k, A k < 208 → 0 < k ∧ k < 97
def kh_Rg (fl A : Nat → Nat) (ob ot yo : Nat) : Prop := ∀ k, A k < 208 → (ob ≤ A k ∧ A k + fl k < ot) ∨ (96 ≤ A k ∧ A k + fl k < 96 + yo)
def kh_HP (kd fl sv : Nat → Nat) (fi ir : Nat → Int32) (A : Nat → Nat) (w t : Nat → Int32) (ob ot yo : Nat) : Prop :=
  kh_PV A ∧ (∀ k, A k < 208 → kh_Ob kd fl sv fi ir A w t (A k) k) ∧ kh_Rg fl A ob ot yo ∧ kh_Dj fl A ∧ kh_Sg (kh_Bk fl A w t) ob ot ∧ kh_Sg (kh_BO fl A) 96 (96 + yo)
/-- registers -/
def kh_R1 (A : Nat → Nat) (g : Nat) (x : Int32) : Prop := (g = 0 ∧ x = -1) ∨ (0 < g ∧ A g < 208 ∧ x = nI (A g))
def kh_RG (rg A : Nat → Nat) (rx : Nat → Int32) : Prop := ∀ r, r < 8 → kh_R1 A (rg r) (rx r)
/-- the remembered words: the list and the flags -/
def kh_RS (rm im : Nat → Int32) (rc : Nat) : Prop :=
  (∀ i, i < rc → ∃ a, a < 208 ∧ rm i = nI a ∧ im a ≠ 0) ∧ (∀ i j, i < rc → j < rc → rm i = rm j → i = j) ∧ (∀ a, a < 208 → im a ≠ 0 → ∃ i, i < rc ∧ rm i = nI a) ∧
  rc = kh_sm (fun a => if im a = 0 then 0 else 1) 208
/-- the remembered words: what they are -/
def kh_RM (fl : Nat → Nat) (fi ir : Nat → Int32) (A : Nat → Nat) (im : Nat → Int32) : Prop :=
  (∀ a, a < 208 → im a ≠ 0 → ∃ k i, A k < 208 ∧ ¬ (96 ≤ A k ∧ A k < 112) ∧ i < fl k ∧ a = A k + 1 + i) ∧
  (∀ k i q, A k < 208 → ¬ (96 ≤ A k ∧ A k < 112) → i < fl k → kh_Rf fi ir (6 * k + i) q → 96 ≤ A q → A q < 112 → im (A k + 1 + i) ≠ 0)
theorem kh_Fw_mono {fi ir : Nat → Int32} {E E' : Nat → Nat} {w t w' t' : Nat → Int32} {a j b : Nat} (hw : w' b = w a) (ht : t' b = t a) (hE : ∀ q, E q < 208 → E' q = E q) (h : kh_Fw fi ir E w t a j) : kh_Fw fi ir E' w' t' b j := by
  rcases h with ⟨h1, h2, h3⟩ | ⟨h1, h2, h3⟩ | ⟨q, h1, h2, h3, h4⟩
  · exact Or.inl ⟨h1, by rw [ht, h2], by rw [hw, h3]⟩
  · exact Or.inr (Or.inl ⟨h1, h2, by rw [ht, h3]⟩)
  · exact Or.inr (Or.inr ⟨q, h1, by rw [ht, h2], by rw [hw, h3, hE q h4], by rw [hE q h4]; exact h4⟩)
theorem kh_Fw_same {fi ir : Nat → Int32} {E : Nat → Nat} {w t w' t' : Nat → Int32} {a j b : Nat} (hw : w' b = w a) (ht : t' b = t a) (h : kh_Fw fi ir E w t a j) : kh_Fw fi ir E w' t' b j := kh_Fw_mono hw ht (fun _ _ => rfl) h
/-- the tag of a field word -/
theorem kh_Fw_tag {fi ir : Nat → Int32} {E : Nat → Nat} {w t : Nat → Int32} {a j : Nat} (h : kh_Fw fi ir E w t a j) : ∃ n, n < 3 ∧ t a = nI n := by
  rcases h with ⟨h1, h2, h3⟩ | ⟨h1, h2, h3⟩ | ⟨q, h1, h2, h3, h4⟩
  · exact ⟨0, by omega, h2⟩
  · exact ⟨2, by omega, h3⟩
  · exact ⟨1, by omega, h2⟩
theorem kh_Fw_ref {fi ir : Nat → Int32} {E : Nat → Nat} {w t : Nat → Int32} {a j q : Nat} (h : kh_Fw fi ir E w t a j) (hr : kh_Rf fi ir j q) : t a = 1 ∧ w a = nI (E q) ∧ E q < 208 := by
  rcases h with ⟨h1, h2, h3⟩ | ⟨h1, h2, h3⟩ | ⟨q', h1, h2, h3, h4⟩
  · exact absurd h1 hr.1
  · exfalso
    have := hr.2.2.2
    rw [h2] at this
    exact nI_ne0 hr.2.1 (by have := hr.2.2.1; omega) this.symm
  · have e : q' = q := kh_inj (by have := h1.2.2.1; omega) (by have := hr.2.2.1; omega) (h1.2.2.2.symm.trans hr.2.2.2)
    subst e
    exact ⟨h2, h3, h4⟩
theorem kh_Fw_1 {fi ir : Nat → Int32} {E : Nat → Nat} {w t : Nat → Int32} {a j : Nat} (h : kh_Fw fi ir E w t a j) (ht : t a = 1) : ∃ q, kh_Rf fi ir j q ∧ w a = nI (E q) ∧ E q < 208 := by
  rcases h with ⟨h1, h2, h3⟩ | ⟨h1, h2, h3⟩ | ⟨q', h1, h2, h3, h4⟩
  · rw [ht] at h2; exact absurd h2 (by decide)
  · rw [ht] at h3; exact absurd h3 (by decide)
  · exact ⟨q', h1, h3, h4⟩
theorem kh_Fw_n1 {fi ir : Nat → Int32} {E E' : Nat → Nat} {w t : Nat → Int32} {a j : Nat} (h : kh_Fw fi ir E w t a j) (ht : ¬ t a = 1) : kh_Fw fi ir E' w t a j := by
  rcases h with h | h | ⟨q', h1, h2, h3, h4⟩
  · exact Or.inl h
  · exact Or.inr (Or.inl h)
  · exact absurd h2 ht
theorem kh_Ob_nar {kd fl sv : Nat → Nat} {fi ir : Nat → Int32} {E : Nat → Nat} {w t : Nat → Int32} {p k : Nat} (h : kh_Ob kd fl sv fi ir E w t p k) (hk : kd k ≤ 2) (hf : fl k ≤ 6) {j : Nat} (hj : j ≤ fl k) : vp_nar .byte (t (p + j)) = t (p + j) := by
  obtain ⟨h1, h2, h3⟩ := h
  cases j with
  | zero => rw [Nat.add_zero, h2]; exact kh_nb (by omega)
  | succ i =>
    obtain ⟨n, hn, e⟩ := kh_Fw_tag (h3 i (by omega))
    have z : p + (i + 1) = p + 1 + i := by omega
    rw [z, e]; exact kh_nb (by omega)
/-- an object copied word by word, its references as they are -/
theorem kh_Ob_copy {kd fl sv : Nat → Nat} {fi ir : Nat → Int32} {E E' : Nat → Nat} {w t w' t' : Nat → Int32} {p p' k : Nat} (h : kh_Ob kd fl sv fi ir E w t p k) (hE : ∀ q, E q < 208 → E' q = E q) (hc : ∀ j, j ≤ fl k → w' (p' + j) = w (p + j) ∧ t' (p' + j) = t (p + j)) : kh_Ob kd fl sv fi ir E' w' t' p' k := by
  obtain ⟨h1, h2, h3⟩ := h
  refine ⟨?_, ?_, fun i hi => ?_⟩
  · have := (hc 0 (by omega)).1; rw [Nat.add_zero, Nat.add_zero] at this; rw [this, h1]
  · have := (hc 0 (by omega)).2; rw [Nat.add_zero, Nat.add_zero] at this; rw [this, h2]
  · have z := hc (i + 1) (by omega)
    have e1 : p' + 1 + i = p' + (i + 1) := by omega
    have e2 : p + 1 + i = p + (i + 1) := by omega
    refine kh_Fw_mono ?_ ?_ hE (h3 i hi)
    · rw [e1, e2]; exact z.1
    · rw [e1, e2]; exact z.2
theorem kh_Ob_same {kd fl sv : Nat → Nat} {fi ir : Nat → Int32} {E : Nat → Nat} {w t w' t' : Nat → Int32} {p k : Nat} (h : kh_Ob kd fl sv fi ir E w t p k) (hc : ∀ a, p ≤ a → a ≤ p + fl k → w' a = w a ∧ t' a = t a) : kh_Ob kd fl sv fi ir E w' t' p k :=
  kh_Ob_copy h (fun _ _ => rfl) (fun j hj => hc (p + j) (by omega) (by omega))
/-! the small methods of X -/
section
variable {cp nu po ob ot yo ex se rc : Nat} {co fc dp : Int32} {w t mk fw sk rm im rx fn : Nat → Int32}
theorem kh_isReg {post : Int32 → Prop} {r : Int32} (h1 : ∀ n, n < 8 → r = nI n → post 1) (h2 : (∀ n, n < 8 → r ≠ nI n) → post 0) : wpX_isRegister post r := by
  have key : (r &&& (-8)) = 0 ↔ ∃ n, n < 8 ∧ r = nI n := by
    constructor
    · intro h
      refine ⟨r.toBitVec.toNat, ?_, ?_⟩
      · have e : r.toBitVec &&& (-8 : Int32).toBitVec = 0#32 := by
          have := congrArg Int32.toBitVec h
          rw [Int32.toBitVec_and] at this
          exact this
        have e2 : (-8 : Int32).toBitVec = ~~~ 7#32 := by decide
        rw [e2] at e
        have e3 : r.toBitVec = r.toBitVec &&& 7#32 := by
          have : r.toBitVec = (r.toBitVec &&& ~~~ 7#32) ||| (r.toBitVec &&& 7#32) := by
            rw [← BitVec.and_or_distrib_left]
            have : ~~~ 7#32 ||| 7#32 = BitVec.allOnes 32 := by decide
            rw [this, BitVec.and_allOnes]
          rw [e, BitVec.zero_or] at this
          exact this
        rw [e3, BitVec.toNat_and]
        exact Nat.lt_of_le_of_lt Nat.and_le_right (by decide)
      · apply Int32.toBitVec_inj.mp
        apply BitVec.eq_of_toNat_eq
        rw [pk_tn r.toBitVec.isLt]
    · rintro ⟨n, hn, rfl⟩
      have : ∀ n, n < 8 → nI n &&& (-8) = 0 := by decide +kernel
      exact this n hn
  exact br_c (fun h => by obtain ⟨n, hn, e⟩ := key.mp h; exact h1 n hn e) (fun h => h2 (fun n hn e => h (key.mpr ⟨n, hn, e⟩)))
theorem kh_fields {post : Int32 → Prop} {o k f : Nat} (ho : o < 208) (ht : t o = nI (8 * k + f)) (hk : k ≤ 2) (hf : f ≤ 6) (h : post (nI f)) : wpX_fields post (nI cp, nI nu, nI po, nI ob, nI ot, nI yo, nI ex, nI se, co, fc, nI rc, dp, w, t, mk, fw, sk, rm, im, rx, fn) (nI o) := by
  refine And.intro (vp_in_nI ho (by decide)) ?_
  rw [kh_cl ho, ht, kh_and7 hk hf]; exact h
theorem kh_kind {post : Int32 → Prop} {o k f : Nat} (ho : o < 208) (ht : t o = nI (8 * k + f)) (hk : k ≤ 2) (hf : f ≤ 6) (h : post (nI k)) : wpX_kind post (nI cp, nI nu, nI po, nI ob, nI ot, nI yo, nI ex, nI se, co, fc, nI rc, dp, w, t, mk, fw, sk, rm, im, rx, fn) (nI o) := by
  refine And.intro (vp_in_nI ho (by decide)) ?_
  rw [kh_cl ho, ht, kh_sh3 hk hf]; exact h
theorem kh_isRef {post : Int32 → Prop} {o : Nat} (ho : o < 208) (h1 : t o = 1 → post 1) (h0 : ¬ t o = 1 → post 0) : wpX_isReference post (nI cp, nI nu, nI po, nI ob, nI ot, nI yo, nI ex, nI se, co, fc, nI rc, dp, w, t, mk, fw, sk, rm, im, rx, fn) (nI o) := by
  refine And.intro (vp_in_nI ho (by decide)) ?_
  rw [kh_cl ho]; exact br_c h1 h0
theorem kh_isY {post : Int32 → Prop} {o : Nat} (ho : o < 208) (h1 : 96 ≤ o → o < 112 → post 1) (h0 : ¬ (96 ≤ o ∧ o < 112) → post 0) : wpX_isYoung post (nI o) :=
  pk_lt o 96 (fun h => h0 (by omega)) (fun h => pk_le 112 o (fun h' => h0 (by omega)) (fun h' => h1 h h'))
theorem kh_isY1 {post : Int32 → Prop} (h0 : post 0) : wpX_isYoung post (-1) := br_t (by decide) h0
theorem kh_isF1 {post : Int32 → Prop} {o : Nat} (ho : o < 208) (ht : t o = -1) (h : post 1) : wpX_isFree post (nI cp, nI nu, nI po, nI ob, nI ot, nI yo, nI ex, nI se, co, fc, nI rc, dp, w, t, mk, fw, sk, rm, im, rx, fn) (nI o) := by
  refine And.intro (vp_in_nI ho (by decide)) ?_
  rw [kh_cl ho, ht]; exact br_f (by decide) h
theorem kh_isF0 {post : Int32 → Prop} {o n : Nat} (ho : o < 208) (ht : t o = nI n) (hn : n < 208) (h : post 0) : wpX_isFree post (nI cp, nI nu, nI po, nI ob, nI ot, nI yo, nI ex, nI se, co, fc, nI rc, dp, w, t, mk, fw, sk, rm, im, rx, fn) (nI o) := by
  refine And.intro (vp_in_nI ho (by decide)) ?_
  rw [kh_cl ho, ht]; exact br_t (kh_n0 hn) h
theorem kh_sizeF {post : Int32 → Prop} {o s : Nat} (ho : o < 208) (ht : t o = -1) (hw : w o = nI s) (h : post (nI s)) : wpX_sizeAt post (nI cp, nI nu, nI po, nI ob, nI ot, nI yo, nI ex, nI se, co, fc, nI rc, dp, w, t, mk, fw, sk, rm, im, rx, fn) (nI o) := by
  unfold wpX_sizeAt
  refine kh_isF1 ho ht ?_
  refine br_f (by decide) ⟨vp_in_nI ho (by decide), ?_⟩
  rw [kh_cl ho, hw]; exact h
theorem kh_sizeO {post : Int32 → Prop} {o k f : Nat} (ho : o < 208) (ht : t o = nI (8 * k + f)) (hk : k ≤ 2) (hf : f ≤ 6) (h : post (nI (f + 1))) : wpX_sizeAt post (nI cp, nI nu, nI po, nI ob, nI ot, nI yo, nI ex, nI se, co, fc, nI rc, dp, w, t, mk, fw, sk, rm, im, rx, fn) (nI o) := by
  unfold wpX_sizeAt
  refine kh_isF0 ho ht (by omega) ?_
  refine br_t rfl ?_
  refine kh_fields ho ht hk hf ?_
  rw [nI_1]; exact h
end
end
section
/-! moveDown -/
def kh_mv (w t fw : Nat → Int32) (fr j : Nat) : Int32 := if 0 < j ∧ t (fr + j) = 1 then fw (w (fr + j)).toNatClampNeg else w (fr + j)
section
variable {cp nu po ob ot yo ex se rc : Nat} {co fc dp : Int32} {w t mk fw sk rm im rx fn : Nat → Int32}
theorem kh_mvLoop {post : SX → Prop} {fr to s : Nat} {w0 t0 : Nat → Int32} (hto : to ≤ fr) (hs : fr + s ≤ 208)
    (hn : ∀ j, j < s → vp_nar .byte (t0 (fr + j)) = t0 (fr + j)) (hv : ∀ j, j < s → 0 < j → t0 (fr + j) = 1 → vp_in (w0 (fr + j)) 208)
    (h : ∀ w t, (∀ a, a < to ∨ to + s ≤ a → w a = w0 a ∧ t a = t0 a) → (∀ j, j < s → w (to + j) = kh_mv w0 t0 fw fr j ∧ t (to + j) = t0 (fr + j)) → post (nI cp, nI nu, nI po, nI ob, nI ot, nI yo, nI ex, nI se, co, fc, nI rc, dp, w, t, mk, fw, sk, rm, im, rx, fn)) :
    ∀ (n x : Nat) (w t : Nat → Int32), s < n + x → x ≤ s → (∀ a, a < to ∨ to + x ≤ a → w a = w0 a ∧ t a = t0 a) → (∀ j, j < x → w (to + j) = kh_mv w0 t0 fw fr j ∧ t (to + j) = t0 (fr + j)) → wX_moveDown_9 post (nI fr) (nI to) (nI s) (nI cp) (nI nu) (nI po) (nI ob) (nI ot) (nI yo) (nI ex) (nI se) co fc (nI rc) dp n (nI x) w t mk fw sk rm im rx fn := by
  intro n
  induction n with
  | zero => intro x w t h1 h2; omega
  | succ n ih =>
    intro x w t h1 h2 h3 h4
    by_cases e : x = s
    · subst e
      exact br_t (nI_le (Nat.le_refl _) (by omega)) (h w t h3 h4)
    · have c1 : fr + x < 208 := by omega
      have c2 : to + x < 208 := by omega
      have ew : w (fr + x) = w0 (fr + x) := (h3 _ (by omega)).1
      have et : t (fr + x) = t0 (fr + x) := (h3 _ (by omega)).2
      have key : ∀ v, v = kh_mv w0 t0 fw fr x → wX_moveDown_74 post (wX_moveDown_9 post (nI fr) (nI to) (nI s) (nI cp) (nI nu) (nI po) (nI ob) (nI ot) (nI yo) (nI ex) (nI se) co fc (nI rc) dp n) (nI fr) (nI to) (nI s) (nI x) v (nI to + nI x) (nI cp) (nI nu) (nI po) (nI ob) (nI ot) (nI yo) (nI ex) (nI se) co fc (nI rc) dp w t mk fw sk rm im rx fn := by
        intro v hv'
        unfold wX_moveDown_74
        rw [nI_add fr x, nI_add to x]
        refine ⟨vp_in_nI c2 (by decide), nm_r (e' := upd w (to + x) v) (by rw [kh_cl c2]) ⟨vp_in_nI c1 (by decide), vp_in_nI c2 (by decide), nm_r (e' := upd t (to + x) (t0 (fr + x))) (by rw [kh_cl c1, kh_cl c2, et, hn x (by omega)]) (nm_r (nI_1 x) (ih (x + 1) _ _ (by omega) (by omega) ?_ ?_))⟩⟩
        · intro a ha
          rw [pk_un (by omega), pk_un (by omega)]
          exact h3 a (by omega)
        · intro j hj
          by_cases z : j = x
          · subst z
            rw [pk_us, pk_us]
            exact ⟨hv', rfl⟩
          · rw [pk_un (by omega), pk_un (by omega)]
            exact h4 j (by omega)
      have k46 : kh_mv w0 t0 fw fr x = w0 (fr + x) → wX_moveDown_46 post (wX_moveDown_9 post (nI fr) (nI to) (nI s) (nI cp) (nI nu) (nI po) (nI ob) (nI ot) (nI yo) (nI ex) (nI se) co fc (nI rc) dp n) (nI fr) (nI to) (nI s) (nI x) (w0 (fr + x)) (nI cp) (nI nu) (nI po) (nI ob) (nI ot) (nI yo) (nI ex) (nI se) co fc (nI rc) dp w t mk fw sk rm im rx fn := fun z => br_t rfl (key _ z.symm)
      rw [wX_moveDown_9]
      dsimp only
      rw [nI_add fr x]
      refine br_f (nI_ge (by omega) (by omega)) ⟨vp_in_nI c1 (by decide), nm_r (e' := w0 (fr + x)) (by rw [kh_cl c1, ew]) (pk_le x 0 (fun z => ?_) (fun z => ?_))⟩
      · exact k46 (if_neg (by omega))
      · refine kh_isRef c1 (fun z1 => br_f kh_10 (br_f kh_10 ⟨hv x (by omega) z (et.symm.trans z1), key _ ?_⟩)) (fun z1 => br_t rfl (k46 (if_neg (fun y => z1 (et.trans y.2)))))
        exact (if_pos ⟨z, et.symm.trans z1⟩).symm
theorem kh_moveDown {post : SX → Prop} {fr to kk f : Nat} (hto : to ≤ fr) (ht : t fr = nI (8 * kk + f)) (hk : kk ≤ 2) (hf : f ≤ 6) (hs : fr + (f + 1) ≤ 208)
    (hn : ∀ j, j < f + 1 → vp_nar .byte (t (fr + j)) = t (fr + j)) (hv : ∀ j, j < f + 1 → 0 < j → t (fr + j) = 1 → vp_in (w (fr + j)) 208)
    (h : ∀ w' t', (∀ a, a < to ∨ to + (f + 1) ≤ a → w' a = w a ∧ t' a = t a) → (∀ j, j < f + 1 → w' (to + j) = kh_mv w t fw fr j ∧ t' (to + j) = t (fr + j)) → post (nI cp, nI nu, nI po, nI ob, nI ot, nI yo, nI ex, nI se, co, fc, nI rc, dp, w', t', mk, fw, sk, rm, im, rx, fn)) : wpX_moveDown post (nI cp, nI nu, nI po, nI ob, nI ot, nI yo, nI ex, nI se, co, fc, nI rc, dp, w, t, mk, fw, sk, rm, im, rx, fn) (nI fr) (nI to) := by
  unfold wpX_moveDown
  refine kh_sizeO (by omega) ht hk hf ⟨f + 2, ?_⟩
  exact kh_mvLoop (w0 := w) (t0 := t) hto hs hn hv h (f + 2) 0 w t (by omega) (by omega) (fun a _ => ⟨rfl, rfl⟩) (fun j hj => by omega)
end
/-- an object moved, its references sent on -/
theorem kh_Ob_move {kd fl sv : Nat → Nat} {fi ir : Nat → Int32} {A A' : Nat → Nat} {w t fw w' t' : Nat → Int32} {fr to k : Nat} (h : kh_Ob kd fl sv fi ir A w t fr k)
    (hq : ∀ i q, i < fl k → kh_Rf fi ir (6 * k + i) q → A' q < 208 ∧ fw (A q) = nI (A' q)) (hc : ∀ j, j < fl k + 1 → w' (to + j) = kh_mv w t fw fr j ∧ t' (to + j) = t (fr + j)) : kh_Ob kd fl sv fi ir A' w' t' to k := by
  obtain ⟨h1, h2, h3⟩ := h
  refine ⟨?_, ?_, fun i hi => ?_⟩
  · have z := (hc 0 (by omega)).1
    rw [Nat.add_zero] at z
    rw [z, kh_mv, if_neg (by omega)]
    exact h1
  · have z := (hc 0 (by omega)).2
    rw [Nat.add_zero, Nat.add_zero] at z
    rw [z, h2]
  · have z := hc (i + 1) (by omega)
    have e1 : to + 1 + i = to + (i + 1) := by omega
    have e2 : fr + 1 + i = fr + (i + 1) := by omega
    have g := h3 i hi
    rw [e2] at g
    rw [e1]
    rcases g with ⟨g1, g2, g3⟩ | ⟨g1, g2, g3⟩ | ⟨q, g1, g2, g3, g4⟩
    · refine Or.inl ⟨g1, z.2.trans g2, ?_⟩
      rw [z.1, kh_mv, if_neg (fun y => absurd (g2.symm.trans y.2) (by decide))]
      exact g3
    · exact Or.inr (Or.inl ⟨g1, g2, z.2.trans g3⟩)
    · refine Or.inr (Or.inr ⟨q, g1, z.2.trans g2, ?_, (hq i q hi g1).1⟩)
      rw [z.1, kh_mv, if_pos ⟨by omega, g2⟩, g3, kh_cl g4]
      exact (hq i q hi g1).2
theorem kh_Ob_in {kd fl sv : Nat → Nat} {fi ir : Nat → Int32} {A : Nat → Nat} {w t : Nat → Int32} {fr k : Nat} (h : kh_Ob kd fl sv fi ir A w t fr k) : ∀ j, j < fl k + 1 → 0 < j → t (fr + j) = 1 → vp_in (w (fr + j)) 208 := by
  intro j hj h0 ht
  have e2 : fr + j = fr + 1 + (j - 1) := by omega
  rw [e2] at ht ⊢
  obtain ⟨q, _, hw, hq⟩ := kh_Fw_1 (h.2.2 (j - 1) (by omega)) ht
  rw [hw]
  exact vp_in_nI hq (by decide)
/-! the pure side of slide -/
def kh_KS (fl A : Nat → Nat) (mk : Nat → Int32) (ob o : Nat) : Nat := kh_sm (fun k => if ob ≤ A k ∧ A k < o ∧ ¬ mk (A k) = 0 then fl k + 1 else 0) 97
def kh_SA (fl A : Nat → Nat) (mk : Nat → Int32) (ob ot : Nat) : Nat → Nat := fun k => if ob ≤ A k ∧ A k < ot then (if mk (A k) = 0 then 208 else ob + kh_KS fl A mk ob (A k)) else A k
def kh_Bm (fl A : Nat → Nat) (w t mk : Nat → Int32) (o s : Nat) : Prop := kh_BO fl A o s ∨ (kh_BF fl A w t o s ∧ mk o = 0)
section
variable {fl A : Nat → Nat} {mk w t : Nat → Int32} {ob ot : Nat}
theorem kh_KS_mono {o o' : Nat} (h : o ≤ o') : kh_KS fl A mk ob o ≤ kh_KS fl A mk ob o' := by
  refine kh_sm_le fun i _ => ?_
  by_cases c : ob ≤ A i ∧ A i < o ∧ ¬ mk (A i) = 0
  · rw [if_pos c, if_pos ⟨c.1, by omega, c.2.2⟩]; exact Nat.le_refl _
  · rw [if_neg c]; exact Nat.zero_le _
theorem kh_KS_0 : kh_KS fl A mk ob ob = 0 := kh_sm_0 fun i _ => if_neg (by omega)
theorem kh_KS_obj (hP : kh_PV A) (hD : kh_Dj fl A) {k : Nat} (hk : A k < 208) (hb : ob ≤ A k) (hs : A k + (fl k + 1) ≤ 208) : kh_KS fl A mk ob (A k + (fl k + 1)) = kh_KS fl A mk ob (A k) + (if mk (A k) = 0 then 0 else fl k + 1) := by
  have x := kh_sm_pt (f := fun i => if ob ≤ A i ∧ A i < A k + (fl k + 1) ∧ ¬ mk (A i) = 0 then fl i + 1 else 0) (g := fun i => if ob ≤ A i ∧ A i < A k ∧ ¬ mk (A i) = 0 then fl i + 1 else 0) (n := 97) (hP k hk).2 (fun i _ hn => by
    have z : (ob ≤ A i ∧ A i < A k + (fl k + 1) ∧ ¬ mk (A i) = 0) ↔ (ob ≤ A i ∧ A i < A k ∧ ¬ mk (A i) = 0) := by
      constructor
      · intro c
        have := hD k i hk (by omega) (Ne.symm hn)
        exact ⟨c.1, by omega, c.2.2⟩
      · intro c
        exact ⟨c.1, by omega, c.2.2⟩
    simp only [z])
  have e : ∀ (m : Int32), (if ob ≤ A k ∧ A k < A k + (fl k + 1) ∧ ¬ m = 0 then fl k + 1 else 0) = (if m = 0 then 0 else fl k + 1) := by
    intro m
    by_cases c : m = 0
    · rw [if_pos c, if_neg (fun y => y.2.2 c)]
    · rw [if_neg c, if_pos ⟨hb, by omega, c⟩]
  have e2 : (if ob ≤ A k ∧ A k < A k ∧ ¬ mk (A k) = 0 then fl k + 1 else 0) = 0 := if_neg (by omega)
  simp only [e, e2] at x
  exact x
theorem kh_KS_free {o s : Nat} (hs : o + s ≤ 208) (hF : ∀ k, A k < 208 → A k + fl k < o ∨ o + s ≤ A k) : kh_KS fl A mk ob (o + s) = kh_KS fl A mk ob o := by
  refine kh_sm_eq fun i _ => ?_
  have z : (ob ≤ A i ∧ A i < o + s ∧ ¬ mk (A i) = 0) ↔ (ob ≤ A i ∧ A i < o ∧ ¬ mk (A i) = 0) := by
    constructor
    · intro c
      have := hF i (by omega)
      exact ⟨c.1, by omega, c.2.2⟩
    · intro c
      exact ⟨c.1, by omega, c.2.2⟩
  simp only [z]
theorem kh_SA_k {k : Nat} (h1 : ob ≤ A k) (h2 : A k < ot) (hm : ¬ mk (A k) = 0) : kh_SA fl A mk ob ot k = ob + kh_KS fl A mk ob (A k) := by
  unfold kh_SA; rw [if_pos ⟨h1, h2⟩, if_neg hm]
theorem kh_SA_d {k : Nat} (h1 : ob ≤ A k) (h2 : A k < ot) (hm : mk (A k) = 0) : kh_SA fl A mk ob ot k = 208 := by
  unfold kh_SA; rw [if_pos ⟨h1, h2⟩, if_pos hm]
theorem kh_SA_y {k : Nat} (h : ¬ (ob ≤ A k ∧ A k < ot)) : kh_SA fl A mk ob ot k = A k := by
  unfold kh_SA; rw [if_neg h]
/-- what is placed after the slide: kept, or young -/
theorem kh_SA_pl {k : Nat} (ho : ot ≤ 208) (h : kh_SA fl A mk ob ot k < 208) : A k < 208 ∧ ((ob ≤ A k ∧ A k < ot ∧ ¬ mk (A k) = 0 ∧ kh_SA fl A mk ob ot k = ob + kh_KS fl A mk ob (A k)) ∨ (¬ (ob ≤ A k ∧ A k < ot) ∧ kh_SA fl A mk ob ot k = A k)) := by
  by_cases c : ob ≤ A k ∧ A k < ot
  · by_cases m : mk (A k) = 0
    · rw [kh_SA_d c.1 c.2 m] at h; omega
    · exact ⟨by omega, Or.inl ⟨c.1, c.2, m, kh_SA_k c.1 c.2 m⟩⟩
  · have e := kh_SA_y (fl := fl) (mk := mk) c
    exact ⟨by omega, Or.inr ⟨c, e⟩⟩
theorem kh_KS_step (hP : kh_PV A) (hD : kh_Dj fl A) (ho : ot ≤ 208) {o s : Nat} (hb : ob ≤ o) (hs : o + s ≤ ot) (h : kh_Bk fl A w t o s) : kh_KS fl A mk ob (o + s) ≤ kh_KS fl A mk ob o + s := by
  rcases h with ⟨k, h1, h2, h3⟩ | ⟨_, _, h3⟩
  · subst h2 h3
    rw [kh_KS_obj hP hD h1 hb (by omega)]
    by_cases m : mk (A k) = 0
    · rw [if_pos m]; omega
    · rw [if_neg m]; omega
  · rw [kh_KS_free (by omega) h3]; omega
theorem kh_KS_low (hP : kh_PV A) (hD : kh_Dj fl A) (ho : ot ≤ 208) (hS : kh_Sg (kh_Bk fl A w t) ob ot) : (ob + kh_KS fl A mk ob ot ≤ ot) ∧ ∀ k, ob ≤ A k → A k < ot → ob + kh_KS fl A mk ob (A k) ≤ A k := by
  have key := kh_Sg_ind (P := fun lo => ob ≤ lo → lo ≤ ot → ob + kh_KS fl A mk ob lo ≤ lo → (ob + kh_KS fl A mk ob ot ≤ ot) ∧ ∀ k, lo ≤ A k → A k < ot → ob + kh_KS fl A mk ob (A k) ≤ A k) hS
    (fun _ _ h => ⟨h, fun k h1 h2 => by omega⟩)
    (fun o s h0 hb hS ih h1 h2 h3 => by
      have l := kh_Sg_le hS
      have st := kh_KS_step (mk := mk) hP hD ho h1 l hb
      obtain ⟨i1, i2⟩ := ih (by omega) l (by omega)
      refine ⟨i1, fun k k1 k2 => ?_⟩
      by_cases z : o + s ≤ A k
      · exact i2 k z k2
      · rcases hb with ⟨j, j1, j2, j3⟩ | ⟨_, _, j3⟩
        · by_cases e : k = j
          · subst e; rw [j2]; exact h3
          · have := hD k j (by omega) j1 e; omega
        · have := j3 k (by omega); omega)
  exact key (Nat.le_refl _) (kh_Sg_le hS) (by rw [kh_KS_0]; exact Nat.le_refl _)
theorem kh_KS_sep (hP : kh_PV A) (hD : kh_Dj fl A) {k j : Nat} (hk : ob ≤ A k) (hm : ¬ mk (A k) = 0) (hkj : A k < A j) (hj : A j < 208) : kh_KS fl A mk ob (A k) + fl k + 1 ≤ kh_KS fl A mk ob (A j) := by
  have d : A k + fl k < A j := by
    rcases hD k j (by omega) hj (fun e => by subst e; omega) with d | d <;> omega
  have := kh_KS_mono (fl := fl) (A := A) (mk := mk) (ob := ob) (show A k + (fl k + 1) ≤ A j by omega)
  rw [kh_KS_obj hP hD (by omega) hk (by omega), if_neg hm] at this
  omega
theorem kh_KS_end (hP : kh_PV A) (hD : kh_Dj fl A) (ho : ot ≤ 208) {k : Nat} (hk : ob ≤ A k) (hm : ¬ mk (A k) = 0) (hkj : A k + fl k < ot) : kh_KS fl A mk ob (A k) + fl k + 1 ≤ kh_KS fl A mk ob ot := by
  have := kh_KS_mono (fl := fl) (A := A) (mk := mk) (ob := ob) (show A k + (fl k + 1) ≤ ot by omega)
  rw [kh_KS_obj hP hD (by omega) hk (by omega), if_neg hm] at this
  omega
theorem kh_SA_Dj (hP : kh_PV A) (hD : kh_Dj fl A) {yo cp : Nat} (hG : kh_Ge cp ob ot yo) (hR : kh_Rg fl A ob ot yo) (hS : kh_Sg (kh_Bk fl A w t) ob ot) : kh_Dj fl (kh_SA fl A mk ob ot) := by
  obtain ⟨g1, g2, g3, g4, g5⟩ := hG
  have ho : ot ≤ 208 := by omega
  obtain ⟨l1, l2⟩ := kh_KS_low (mk := mk) hP hD ho hS
  intro k j hk hj hn
  obtain ⟨a1, a2⟩ := kh_SA_pl ho hk
  obtain ⟨b1, b2⟩ := kh_SA_pl ho hj
  rcases a2 with ⟨a3, a4, a5, a6⟩ | ⟨a3, a6⟩ <;> rcases b2 with ⟨b3, b4, b5, b6⟩ | ⟨b3, b6⟩ <;> rw [a6, b6]
  · rcases hD k j a1 b1 hn with d | d
    · have := kh_KS_sep (mk := mk) hP hD a3 a5 (by omega) b1; omega
    · have := kh_KS_sep (mk := mk) hP hD b3 b5 (by omega) a1; omega
  · have e := hR k a1
    have e2 := hR j b1
    have := kh_KS_end (mk := mk) hP hD ho a3 a5 (by omega)
    omega
  · have e := hR j b1
    have e2 := hR k a1
    have := kh_KS_end (mk := mk) hP hD ho b3 b5 (by omega)
    omega
  · exact hD k j a1 b1 hn
theorem kh_SA_Sg (hP : kh_PV A) (hD : kh_Dj fl A) (ho : ot ≤ 208) (hS : kh_Sg (kh_Bk fl A w t) ob ot) : kh_Sg (kh_BO fl (kh_SA fl A mk ob ot)) ob (ob + kh_KS fl A mk ob ot) := by
  obtain ⟨l1, l2⟩ := kh_KS_low (mk := mk) hP hD ho hS
  have key := kh_Sg_ind (P := fun lo => ob ≤ lo → lo ≤ ot → kh_Sg (kh_BO fl (kh_SA fl A mk ob ot)) ob (ob + kh_KS fl A mk ob lo) → kh_Sg (kh_BO fl (kh_SA fl A mk ob ot)) ob (ob + kh_KS fl A mk ob ot)) hS
    (fun _ _ h => h)
    (fun o s h0 hb hS ih h1 h2 h3 => by
      have l := kh_Sg_le hS
      refine ih (by omega) l ?_
      rcases hb with ⟨j, j1, j2, j3⟩ | ⟨_, _, j3⟩
      · subst j2 j3
        rw [kh_KS_obj hP hD j1 h1 (by omega)]
        by_cases m : mk (A j) = 0
        · rw [if_pos m]; exact h3
        · rw [if_neg m, ← Nat.add_assoc]
          have e := kh_SA_k (fl := fl) (mk := mk) h1 (show A j < ot by omega) m
          have := l2 j h1 (by omega)
          exact kh_Sg_snoc h3 (by omega) ⟨j, by omega, e, rfl⟩
      · rw [kh_KS_free (by omega) j3]; exact h3)
  exact key (Nat.le_refl _) (kh_Sg_le hS) (by rw [kh_KS_0]; exact kh_Sg_nil)
end
end
section
/-! slide: the walk -/
section
variable {cp nu po ob ot yo ex se rc : Nat} {co fc dp : Int32} {w t mk fw sk rm im rx fn : Nat → Int32}
theorem kh_sl3 {post : SX → Prop} (h : ∀ fw', (∀ a, 96 ≤ a → a < 112 → fw' a = nI a) → ∃ m, wX_slide_33 post (nI cp) (nI nu) (nI po) (nI ob) (nI ot) (nI yo) (nI ex) (nI se) co fc (nI rc) dp m (nI ob) (nI ob) w t mk fw' sk rm im rx fn) :
    ∀ (n x : Nat) (fw : Nat → Int32), 112 < n + x → 96 ≤ x → x ≤ 112 → (∀ a, 96 ≤ a → a < x → fw a = nI a) → wX_slide_3 post (nI cp) (nI nu) (nI po) (nI ob) (nI ot) (nI yo) (nI ex) (nI se) co fc (nI rc) dp n (nI x) w t mk fw sk rm im rx fn := by
  intro n
  induction n with
  | zero => intro x fw h1 h2 h3; omega
  | succ n ih =>
    intro x fw h1 h2 h3 h4
    rw [wX_slide_3]
    refine pk_le 112 x (fun z => ?_) (fun z => ⟨vp_in_nI (by omega) (by decide), nm_r (e' := upd fw x (nI x)) (by rw [kh_cl (by omega), kh_ns2 (by omega)]) (nm_r (nI_1 x) (ih (x + 1) _ (by omega) (by omega) (by omega) ?_))⟩)
    · exact h fw (fun a h5 h6 => h4 a h5 (by omega))
    · intro a h5 h6
      by_cases y : a = x
      · subst y; exact pk_us
      · rw [pk_un y]; exact h4 a h5 (by omega)
theorem kh_sl33 {post : SX → Prop} {A fl kd : Nat → Nat} (hG : kh_Ge cp ob ot yo) (hP : kh_PV A) (hD : kh_Dj fl A) (hV : ∀ k, kd k ≤ 2 ∧ fl k ≤ 6) (hT : ∀ k, A k < 208 → t (A k) = nI (8 * kd k + fl k))
    (h : ∀ fw', (∀ k, ob ≤ A k → A k < ot → fw' (A k) = nI (ob + kh_KS fl A mk ob (A k))) → (∀ a, 96 ≤ a → a < 112 → fw' a = nI a) → ∃ m, wX_slide_77 post (nI (ob + kh_KS fl A mk ob ot)) (nI cp) (nI nu) (nI po) (nI ob) (nI ot) (nI yo) (nI ex) (nI se) co fc (nI rc) dp m 0 w t mk fw' sk rm im rx fn) :
    ∀ (n o : Nat) (fw : Nat → Int32), ot < n + o → ob ≤ o → kh_Sg (kh_Bm fl A w t mk) o ot → ob + kh_KS fl A mk ob o ≤ o → (∀ k, ob ≤ A k → A k < o → fw (A k) = nI (ob + kh_KS fl A mk ob (A k))) → (∀ a, 96 ≤ a → a < 112 → fw a = nI a) → wX_slide_33 post (nI cp) (nI nu) (nI po) (nI ob) (nI ot) (nI yo) (nI ex) (nI se) co fc (nI rc) dp n (nI (ob + kh_KS fl A mk ob o)) (nI o) w t mk fw sk rm im rx fn := by
  obtain ⟨g1, g2, g3, g4, g5⟩ := hG
  intro n
  induction n with
  | zero => intro o fw h1 h2 h3; have := kh_Sg_le h3; omega
  | succ n ih =>
    intro o fw h1 h2 h3 h4 h5 h6
    rw [wX_slide_33]
    rcases kh_Sg_cases h3 with e | ⟨s, s0, hb, hS⟩
    · subst e
      exact br_t (nI_le (Nat.le_refl _) (by omega)) (h fw h5 h6)
    · have l := kh_Sg_le hS
      have c : o < 208 := by omega
      refine br_f (nI_ge (by omega) (by omega)) ?_
      rw [kh_cl c, kh_ns2 (n := ob + kh_KS fl A mk ob o) (by omega)]
      have y6 : ∀ v, ∀ a, 96 ≤ a → a < 112 → upd fw o v a = nI a := fun v a a1 a2 => by rw [pk_un (by omega)]; exact h6 a a1 a2
      rcases hb with ⟨k, k1, k2, k3⟩ | ⟨⟨f1, f2, f3⟩, f4⟩
      · subst k2 k3
        have st := kh_KS_obj (mk := mk) hP hD k1 h2 (by omega)
        have y5 : ∀ j, ob ≤ A j → A j < A k + (fl k + 1) → upd fw (A k) (nI (ob + kh_KS fl A mk ob (A k))) (A j) = nI (ob + kh_KS fl A mk ob (A j)) := by
          intro j j1 j2
          by_cases e : A j = A k
          · rw [e, pk_us]
          · rw [pk_un e]
            have : A j < A k := by
              have := hD k j k1 (by omega) (fun z => e (by rw [z])); omega
            exact h5 j j1 this
        refine kh_sizeO c (hT k k1) (hV k).1 (hV k).2 ⟨vp_in_nI c (by decide), nm_e ⟨vp_in_nI c (by decide), ?_⟩⟩
        by_cases m : mk (A k) = 0
        · rw [if_pos m] at st
          refine br_t m (nm_r (nI_add _ _) ?_)
          have z := ih (A k + (fl k + 1)) (upd fw (A k) (nI (ob + kh_KS fl A mk ob (A k)))) (by omega) (by omega) hS (by omega) y5 (y6 _)
          rw [st, Nat.add_zero] at z
          exact z
        · rw [if_neg m] at st
          refine br_f m (nm_r (nI_add _ _) (nm_r (nI_add _ _) ?_))
          have z := ih (A k + (fl k + 1)) (upd fw (A k) (nI (ob + kh_KS fl A mk ob (A k)))) (by omega) (by omega) hS (by omega) y5 (y6 _)
          rw [st, ← Nat.add_assoc] at z
          exact z
      · have st := kh_KS_free (ob := ob) (mk := mk) (show o + s ≤ 208 by omega) f3
        have y5 : ∀ j, ob ≤ A j → A j < o + s → upd fw o (nI (ob + kh_KS fl A mk ob o)) (A j) = nI (ob + kh_KS fl A mk ob (A j)) := by
          intro j j1 j2
          have := f3 j (by omega)
          rw [pk_un (by omega)]
          exact h5 j j1 (by omega)
        refine kh_sizeF c f1 f2 ⟨vp_in_nI c (by decide), nm_e ⟨vp_in_nI c (by decide), br_t f4 (nm_r (nI_add _ _) ?_)⟩⟩
        have z := ih (o + s) (upd fw o (nI (ob + kh_KS fl A mk ob o))) (by omega) (by omega) hS (by omega) y5 (y6 _)
        rw [st] at z
        exact z
theorem kh_sl77 {post : SX → Prop} {x1 : Int32} {rg A A' : Nat → Nat} (hq : ∀ r, r < 8 → 0 < rg r → A' (rg r) < 208 ∧ fw (A (rg r)) = nI (A' (rg r))) (h : ∀ rx', kh_RG rg A' rx' → ∃ m, wX_slide_118 post x1 m 96 (nI cp) (nI nu) (nI po) (nI ob) (nI ot) (nI yo) (nI ex) (nI se) co fc (nI rc) dp w t mk fw sk rm im rx' fn) :
    ∀ (n x : Nat) (rx : Nat → Int32), 8 < n + x → x ≤ 8 → (∀ r, x ≤ r → r < 8 → kh_R1 A (rg r) (rx r)) → (∀ r, r < x → kh_R1 A' (rg r) (rx r)) → wX_slide_77 post x1 (nI cp) (nI nu) (nI po) (nI ob) (nI ot) (nI yo) (nI ex) (nI se) co fc (nI rc) dp n (nI x) w t mk fw sk rm im rx fn := by
  intro n
  induction n with
  | zero => intro x rx h1 h2; omega
  | succ n ih =>
    intro x rx h1 h2 h3 h4
    rw [wX_slide_77]
    refine pk_le 8 x (fun z => ?_) (fun z => ⟨vp_in_nI (by omega) (by decide), ?_⟩)
    · exact h rx (fun r hr => h4 r (by omega))
    · rw [kh_cl (show x < 208 by omega)]
      rcases h3 x (Nat.le_refl _) z with ⟨e1, e2⟩ | ⟨e1, e2, e3⟩
      · refine br_t (by rw [e2]; decide) (nm_r (nI_1 x) (ih (x + 1) rx (by omega) (by omega) (fun r h5 h6 => h3 r (by omega) h6) (fun r h5 => ?_)))
        by_cases y : r = x
        · subst y; exact Or.inl ⟨e1, e2⟩
        · exact h4 r (by omega)
      · obtain ⟨q1, q2⟩ := hq x z e1
        rw [e3, kh_cl e2, q2, kh_ns q1]
        refine br_f (kh_nn0 e2) ⟨vp_in_nI (by omega) (by decide), vp_in_nI e2 (by decide), vp_in_nI (by omega) (by decide), nm_e (nm_r (nI_1 x) (ih (x + 1) _ (by omega) (by omega) (fun r h5 h6 => ?_) (fun r h5 => ?_)))⟩
        · rw [pk_un (by omega)]; exact h3 r (by omega) h6
        · by_cases y : r = x
          · subst y; rw [pk_us]; exact Or.inr ⟨e1, q1, rfl⟩
          · rw [pk_un y]; exact h4 r (by omega)
theorem kh_sl118 {post : SX → Prop} {x1 : Int32} {A A' fl kd sv : Nat → Nat} {fi ir w0 t0 : Nat → Int32} (hy : yo ≤ 15) (hD : kh_Dj fl A) (hV : ∀ k, kd k ≤ 2 ∧ fl k ≤ 6)
    (hO : ∀ k, 96 ≤ A k → A k < 112 → kh_Ob kd fl sv fi ir A w0 t0 (A k) k) (hq : ∀ k i q, 96 ≤ A k → A k < 112 → i < fl k → kh_Rf fi ir (6 * k + i) q → A' q < 208 ∧ fw (A q) = nI (A' q))
    (h : ∀ w t, (∀ a, a < 96 ∨ 96 + yo ≤ a → w a = w0 a ∧ t a = t0 a) → (∀ k, 96 ≤ A k → A k < 96 + yo → kh_Ob kd fl sv fi ir A' w t (A k) k) → ∃ m, wX_slide_151 post x1 m (nI ob) (nI cp) (nI nu) (nI po) (nI ob) (nI ot) (nI yo) (nI ex) (nI se) co fc (nI rc) dp w t mk fw sk rm im rx fn) :
    ∀ (n o : Nat) (w t : Nat → Int32), 96 + yo < n + o → 96 ≤ o → kh_Sg (kh_BO fl A) o (96 + yo) → (∀ a, a < 96 ∨ o ≤ a → w a = w0 a ∧ t a = t0 a) → (∀ k, 96 ≤ A k → A k < o → kh_Ob kd fl sv fi ir A' w t (A k) k) → wX_slide_118 post x1 n (nI o) (nI cp) (nI nu) (nI po) (nI ob) (nI ot) (nI yo) (nI ex) (nI se) co fc (nI rc) dp w t mk fw sk rm im rx fn := by
  intro n
  induction n with
  | zero => intro o w t h1 h2 h3; have := kh_Sg_le h3; omega
  | succ n ih =>
    intro o w t h1 h2 h3 h4 h5
    rw [wX_slide_118]
    rcases kh_Sg_cases h3 with e | ⟨s, s0, ⟨k, k1, k2, k3⟩, hS⟩
    · subst e
      exact pk_le (96 + yo) (96 + yo) (fun _ => h w t h4 h5) (fun z => by omega) (nI_add 96 yo)
    · have l := kh_Sg_le hS
      subst k2 k3
      have kO : kh_Ob kd fl sv fi ir A w t (A k) k := kh_Ob_same (hO k h2 (by omega)) (fun a a1 a2 => h4 a (by omega))
      refine pk_le (96 + yo) (A k) (fun z => by omega) (fun _ => ?_) (nI_add 96 yo)
      refine kh_moveDown (Nat.le_refl _) kO.2.1 (hV k).1 (hV k).2 (by omega) (fun j hj => kh_Ob_nar kO (hV k).1 (hV k).2 (by omega)) (kh_Ob_in kO) (fun w' t' m1 m2 => ?_)
      have kO' : kh_Ob kd fl sv fi ir A' w' t' (A k) k := kh_Ob_move kO (fun i q hi hr => hq k i q h2 (by omega) hi hr) m2
      dsimp only
      refine kh_sizeO k1 kO'.2.1 (hV k).1 (hV k).2 (nm_r (nI_add _ _) (ih (A k + (fl k + 1)) w' t' (by omega) (by omega) hS (fun a ha => ?_) (fun j j1 j2 => ?_)))
      · have z1 := m1 a (by omega)
        have z2 := h4 a (by omega)
        exact ⟨z1.1.trans z2.1, z1.2.trans z2.2⟩
      · by_cases e : j = k
        · subst e; exact kO'
        · have := hD j k (by omega) k1 e
          exact kh_Ob_same (h5 j j1 (by omega)) (fun a a1 a2 => m1 a (by omega))
theorem kh_sl151 {post : SX → Prop} {A A' fl kd sv : Nat → Nat} {fi ir w1 t1 : Nat → Int32} {x1 : Int32} (hG : kh_Ge cp ob ot yo) (hP : kh_PV A) (hD : kh_Dj fl A) (hV : ∀ k, kd k ≤ 2 ∧ fl k ≤ 6)
    (hO : ∀ k, ob ≤ A k → A k < ot → kh_Ob kd fl sv fi ir A w1 t1 (A k) k) (hL : ∀ k, ob ≤ A k → A k < ot → ob + kh_KS fl A mk ob (A k) ≤ A k)
    (hF : ∀ k, ob ≤ A k → A k < ot → fw (A k) = nI (ob + kh_KS fl A mk ob (A k)))
    (hq : ∀ k i q, ob ≤ A k → A k < ot → ¬ mk (A k) = 0 → i < fl k → kh_Rf fi ir (6 * k + i) q → A' q < 208 ∧ fw (A q) = nI (A' q))
    (h : ∀ w t, (∀ a, a < ob ∨ ot ≤ a → w a = w1 a ∧ t a = t1 a) → (∀ k, ob ≤ A k → A k < ot → ¬ mk (A k) = 0 → kh_Ob kd fl sv fi ir A' w t (ob + kh_KS fl A mk ob (A k)) k) → post (nI cp, nI nu, nI po, nI ob, x1, nI yo, nI ex, nI se, co, fc, nI rc, dp, w, t, mk, fw, sk, rm, im, rx, fn)) :
    ∀ (n o : Nat) (w t : Nat → Int32), ot < n + o → ob ≤ o → kh_Sg (kh_Bm fl A w1 t1 mk) o ot → (∀ a, a < ob ∨ o ≤ a → w a = w1 a ∧ t a = t1 a) → (∀ k, ob ≤ A k → A k < o → ¬ mk (A k) = 0 → kh_Ob kd fl sv fi ir A' w t (ob + kh_KS fl A mk ob (A k)) k) → wX_slide_151 post x1 n (nI o) (nI cp) (nI nu) (nI po) (nI ob) (nI ot) (nI yo) (nI ex) (nI se) co fc (nI rc) dp w t mk fw sk rm im rx fn := by
  obtain ⟨g1, g2, g3, g4, g5⟩ := hG
  intro n
  induction n with
  | zero => intro o w t h1 h2 h3; have := kh_Sg_le h3; omega
  | succ n ih =>
    intro o w t h1 h2 h3 h4 h5
    rw [wX_slide_151]
    rcases kh_Sg_cases h3 with e | ⟨s, s0, hb, hS⟩
    · subst e
      exact br_t (nI_le (Nat.le_refl _) (by omega)) (h w t h4 h5)
    · have l := kh_Sg_le hS
      have c : o < 208 := by omega
      refine br_f (nI_ge (by omega) (by omega)) ?_
      rw [kh_cl c]
      rcases hb with ⟨k, k1, k2, k3⟩ | ⟨⟨f1, f2, f3⟩, f4⟩
      · subst k2 k3
        have kO : kh_Ob kd fl sv fi ir A w t (A k) k := kh_Ob_same (hO k h2 (by omega)) (fun a a1 a2 => h4 a (by omega))
        refine kh_sizeO c kO.2.1 (hV k).1 (hV k).2 ⟨vp_in_nI c (by decide), ?_⟩
        by_cases m : mk (A k) = 0
        · refine br_t m (nm_r (nI_add _ _) (ih (A k + (fl k + 1)) w t (by omega) (by omega) hS (fun a ha => h4 a (by omega)) (fun j j1 j2 j3 => ?_)))
          have : A j < A k := by
            by_cases e : j = k
            · subst e; exact absurd m j3
            · have := hD j k (by omega) k1 e; omega
          exact h5 j j1 this j3
        · have lo := hL k h2 (by omega)
          rw [hF k h2 (by omega)]
          refine br_f m ⟨vp_in_nI c (by decide), ?_⟩
          refine kh_moveDown lo kO.2.1 (hV k).1 (hV k).2 (by omega) (fun j hj => kh_Ob_nar kO (hV k).1 (hV k).2 (by omega)) (kh_Ob_in kO) (fun w' t' m1 m2 => ?_)
          have kO' : kh_Ob kd fl sv fi ir A' w' t' (ob + kh_KS fl A mk ob (A k)) k := kh_Ob_move kO (fun i q hi hr => hq k i q h2 (by omega) m hi hr) m2
          refine nm_r (nI_add _ _) (ih (A k + (fl k + 1)) w' t' (by omega) (by omega) hS (fun a ha => ?_) (fun j j1 j2 j3 => ?_))
          · have z1 := m1 a (by omega)
            have z2 := h4 a (by omega)
            exact ⟨z1.1.trans z2.1, z1.2.trans z2.2⟩
          · by_cases e : j = k
            · subst e; exact kO'
            · have := hD j k (by omega) k1 e
              have sp := kh_KS_sep (mk := mk) hP hD j1 j3 (show A j < A k by omega) k1
              exact kh_Ob_same (h5 j j1 (by omega) j3) (fun a a1 a2 => m1 a (by omega))
      · have z := h4 o (by omega)
        refine kh_sizeF c (z.2.trans f1) (z.1.trans f2) ⟨vp_in_nI c (by decide), br_t f4 (nm_r (nI_add _ _) (ih (o + s) w t (by omega) (by omega) hS (fun a ha => h4 a (by omega)) (fun j j1 j2 j3 => ?_)))⟩
        have := f3 j (by omega)
        exact h5 j j1 (by omega) j3
theorem kh_slide {post : SX → Prop} {A fl kd sv rg : Nat → Nat} {fi ir : Nat → Int32} (hG : kh_Ge cp ob ot yo) (hV : ∀ k, kd k ≤ 2 ∧ fl k ≤ 6) (H : kh_HP kd fl sv fi ir A w t ob ot yo)
    (hm : kh_Sg (kh_Bm fl A w t mk) ob ot) (hC : ∀ k i q, kh_SA fl A mk ob ot k < 208 → i < fl k → kh_Rf fi ir (6 * k + i) q → kh_SA fl A mk ob ot q < 208)
    (hR : kh_RG rg A rx) (hr : ∀ r, r < 8 → 0 < rg r → kh_SA fl A mk ob ot (rg r) < 208)
    (K : ∀ w' t' fw' rx', kh_HP kd fl sv fi ir (kh_SA fl A mk ob ot) w' t' ob (ob + kh_KS fl A mk ob ot) yo → kh_RG rg (kh_SA fl A mk ob ot) rx' → post (nI cp, nI nu, nI po, nI ob, nI (ob + kh_KS fl A mk ob ot), nI yo, nI ex, nI se, co, fc, nI rc, dp, w', t', mk, fw', sk, rm, im, rx', fn)) : wpX_slide post (nI cp, nI nu, nI po, nI ob, nI ot, nI yo, nI ex, nI se, co, fc, nI rc, dp, w, t, mk, fw, sk, rm, im, rx, fn) := by
  obtain ⟨p1, p2, p3, p4, p5, p6⟩ := H
  have hG' := hG
  obtain ⟨g1, g2, g3, g4, g5⟩ := hG'
  have ho : ot ≤ 208 := by omega
  obtain ⟨l1, l2⟩ := kh_KS_low (mk := mk) p1 p4 ho p5
  refine ⟨113, kh_sl3 (fun fw1 y1 => ?_) 113 96 fw (by omega) (by omega) (by omega) (fun a a1 a2 => by omega)⟩
  have K33 := kh_sl33 (post := post) (cp := cp) (yo := yo) (ot := ot) (nu := nu) (po := po) (ex := ex) (se := se) (rc := rc) (co := co) (fc := fc) (dp := dp) (sk := sk) (rm := rm) (im := im) (rx := rx) (fn := fn) (mk := mk) (w := w) (t := t) hG p1 p4 hV (fun k hk => (p2 k hk).2.1) ?_ (ot + 1) ob fw1 (by omega) (Nat.le_refl _) hm (by rw [kh_KS_0]; omega) (fun k k1 k2 => by omega) y1
  · rw [kh_KS_0, Nat.add_zero] at K33
    exact ⟨_, K33⟩
  intro fw2 z1 z2
  have fq : ∀ q, kh_SA fl A mk ob ot q < 208 → fw2 (A q) = nI (kh_SA fl A mk ob ot q) := by
    intro q hq
    obtain ⟨a1, a2⟩ := kh_SA_pl ho hq
    rcases a2 with ⟨a3, a4, a5, a6⟩ | ⟨a3, a6⟩
    · rw [a6]; exact z1 q a3 a4
    · rw [a6]
      have := p3 q a1
      exact z2 _ (by omega) (by omega)
  refine ⟨9, kh_sl77 (A := A) (A' := kh_SA fl A mk ob ot) (fun r r1 r2 => ⟨hr r r1 r2, fq _ (hr r r1 r2)⟩) (fun rx' hrx => ?_) 9 0 rx (by omega) (by omega) (fun r _ r2 => hR r r2) (fun r r1 => by omega)⟩
  have yg : ∀ k, 96 ≤ A k → A k < 112 → kh_SA fl A mk ob ot k = A k := fun k k1 k2 => kh_SA_y (by omega)
  refine ⟨113, kh_sl118 (A := A) (A' := kh_SA fl A mk ob ot) (w0 := w) (t0 := t) g5 p4 hV (fun k k1 k2 => p2 k (by omega)) (fun k i q k1 k2 hi hf => ?_) (fun w3 t3 v1 v2 => ?_) 113 96 w t (by omega) (by omega) p6 (fun a _ => ⟨rfl, rfl⟩) (fun k k1 k2 => by omega)⟩
  · have c := hC k i q (by rw [yg k k1 k2]; omega) hi hf
    exact ⟨c, fq q c⟩
  have old3 : ∀ a, ob ≤ a → a < ot → w3 a = w a ∧ t3 a = t a := fun a a1 a2 => v1 a (by omega)
  refine ⟨ot + 1, kh_sl151 (A := A) (A' := kh_SA fl A mk ob ot) (sv := sv) (fi := fi) (ir := ir) (w1 := w3) (t1 := t3) hG p1 p4 hV (fun k k1 k2 => ?_) l2 (fun k k1 k2 => z1 k k1 k2) (fun k i q k1 k2 k3 hi hf => ?_) (fun w4 t4 v3 v4 => ?_) (ot + 1) ob w3 t3 (by omega) (Nat.le_refl _) ?_ (fun a _ => ⟨rfl, rfl⟩) (fun k k1 k2 => by omega)⟩
  · have e := p3 k (by omega)
    exact kh_Ob_same (p2 k (by omega)) (fun a a1 a2 => old3 a (by omega) (by omega))
  · have c := hC k i q (by rw [kh_SA_k k1 k2 k3]; have := l2 k k1 k2; omega) hi hf
    exact ⟨c, fq q c⟩
  · refine K w4 t4 fw2 rx' ⟨?_, ?_, ?_, kh_SA_Dj p1 p4 hG p3 p5, ?_, ?_⟩ hrx
    · intro k hk
      exact p1 k (kh_SA_pl ho hk).1
    · intro k hk
      obtain ⟨a1, a2⟩ := kh_SA_pl ho hk
      rcases a2 with ⟨a3, a4, a5, a6⟩ | ⟨a3, a6⟩
      · rw [a6]; exact v4 k a3 a4 a5
      · rw [a6]
        have e := p3 k a1
        refine kh_Ob_same (v2 k (by omega) (by omega)) (fun a b1 b2 => v3 a (by omega))
    · intro k hk
      obtain ⟨a1, a2⟩ := kh_SA_pl ho hk
      have e := p3 k a1
      rcases a2 with ⟨a3, a4, a5, a6⟩ | ⟨a3, a6⟩
      · rw [a6]
        have := kh_KS_end (mk := mk) p1 p4 ho a3 a5 (by omega)
        omega
      · rw [a6]; omega
    · exact kh_Sg_mono (fun o s _ _ _ hb => Or.inl hb) (kh_SA_Sg p1 p4 ho p5)
    · refine kh_Sg_mono (fun o s o1 o2 o3 hb => ?_) p6
      obtain ⟨k, k1, k2, k3⟩ := hb
      have e := yg k (by omega) (by omega)
      exact ⟨k, by omega, by omega, k3⟩
  · refine kh_Sg_mono (fun o s o1 o2 o3 hb => ?_) hm
    rcases hb with hb | ⟨⟨f1, f2, f3⟩, f4⟩
    · exact Or.inl hb
    · have e := old3 o o1 (by omega)
      exact Or.inr ⟨⟨e.2.trans f1, e.1.trans f2, f3⟩, f4⟩
end
end
section
/-! the remembered set -/
theorem kh_RS_push {rm im : Nat → Int32} {rc a : Nat} (h : kh_RS rm im rc) (ha : a < 208) (h0 : im a = 0) : rc < 208 ∧ kh_RS (upd rm rc (nI a)) (upd im a 1) (rc + 1) := by
  obtain ⟨h1, h2, h3, h4⟩ := h
  have s := kh_sm_pt (f := fun b => if upd im a 1 b = 0 then 0 else 1) (g := fun b => if im b = 0 then 0 else 1) (n := 208) ha (fun i _ hn => by simp only [pk_un hn])
  have l : kh_sm (fun b => if upd im a 1 b = 0 then 0 else 1) 208 ≤ 208 := kh_sm_1 (fun i _ => by by_cases c : upd im a 1 i = 0 <;> simp [c])
  simp only [pk_us, h0, if_pos, if_neg kh_10] at s
  refine ⟨by omega, ?_, ?_, ?_, by omega⟩
  · intro i hi
    by_cases e : i = rc
    · subst e
      exact ⟨a, ha, pk_us, by rw [pk_us]; exact kh_10⟩
    · obtain ⟨b, b1, b2, b3⟩ := h1 i (by omega)
      refine ⟨b, b1, by rw [pk_un e]; exact b2, ?_⟩
      rw [pk_un (fun z => b3 (by rw [z]; exact h0))]
      exact b3
  · have nn : ∀ i, i < rc → rm i ≠ nI a := by
      intro i hi z
      obtain ⟨b, b1, b2, b3⟩ := h1 i hi
      have : b = a := kh_inj (by omega) (by omega) (b2.symm.trans z)
      subst this
      exact b3 h0
    intro i j hi hj z
    by_cases e : i = rc <;> by_cases e' : j = rc
    · omega
    · subst e
      rw [pk_us, pk_un e'] at z
      exact absurd z.symm (nn j (by omega))
    · subst e'
      rw [pk_us, pk_un e] at z
      exact absurd z (nn i (by omega))
    · rw [pk_un e, pk_un e'] at z
      exact h2 i j (by omega) (by omega) z
  · intro b hb hi
    by_cases e : b = a
    · subst e
      exact ⟨rc, by omega, pk_us⟩
    · rw [pk_un e] at hi
      obtain ⟨i, i1, i2⟩ := h3 b hb hi
      exact ⟨i, by omega, by rw [pk_un (by omega)]; exact i2⟩
theorem kh_RS_pop {rm im : Nat → Int32} {rc : Nat} (h : kh_RS rm im (rc + 1)) : rc < 208 ∧ ∃ a, a < 208 ∧ rm rc = nI a ∧ im a ≠ 0 ∧ kh_RS rm (upd im a 0) rc := by
  obtain ⟨h1, h2, h3, h4⟩ := h
  obtain ⟨a, a1, a2, a3⟩ := h1 rc (by omega)
  have s := kh_sm_pt (f := fun b => if upd im a 0 b = 0 then 0 else 1) (g := fun b => if im b = 0 then 0 else 1) (n := 208) a1 (fun i _ hn => by simp only [pk_un hn])
  have l : kh_sm (fun b => if im b = 0 then 0 else 1) 208 ≤ 208 := kh_sm_1 (fun i _ => by by_cases c : im i = 0 <;> simp [c])
  simp only [pk_us, if_pos, if_neg a3] at s
  refine ⟨by omega, a, a1, a2, a3, ?_, ?_, ?_, by omega⟩
  · intro i hi
    obtain ⟨b, b1, b2, b3⟩ := h1 i (by omega)
    refine ⟨b, b1, b2, ?_⟩
    rw [pk_un]
    · exact b3
    · intro z
      subst z
      have := h2 i rc (by omega) (by omega) (b2.trans a2.symm)
      omega
  · intro i j hi hj z
    exact h2 i j (by omega) (by omega) z
  · intro b hb hi
    by_cases e : b = a
    · subst e; rw [pk_us] at hi; exact absurd rfl hi
    · rw [pk_un e] at hi
      obtain ⟨i, i1, i2⟩ := h3 b hb hi
      refine ⟨i, ?_, i2⟩
      by_cases z : i = rc
      · subst z
        exact absurd (kh_inj (by omega) (by omega) (i2.symm.trans a2)) e
      · omega
theorem kh_RS_0 {rm im : Nat → Int32} (h : kh_RS rm im 0) : ∀ a, a < 208 → im a = 0 := by
  intro a ha
  by_cases c : im a = 0
  · exact c
  · obtain ⟨i, i1, _⟩ := h.2.2.1 a ha c
    omega
theorem kh_RS_nil {rm im : Nat → Int32} (h : ∀ a, a < 208 → im a = 0) : kh_RS rm im 0 :=
  ⟨fun i hi => by omega, fun i j hi => by omega, fun a ha hn => absurd (h a ha) hn, (kh_sm_0 fun i hi => if_pos (h i hi)).symm⟩
/-! setReference -/
section
variable {cp nu po ob ot yo ex se rc : Nat} {co fc dp : Int32} {w t mk fw sk rm im rx fn : Nat → Int32}
theorem kh_srNull {post : SX → Prop} {a : Nat} (ha : a < 208) (h : post (nI cp, nI nu, nI po, nI ob, nI ot, nI yo, nI ex, nI se, co, fc, nI rc, dp, upd w a 0, upd t a 2, mk, fw, sk, rm, im, rx, fn)) : wpX_setReference post (nI cp, nI nu, nI po, nI ob, nI ot, nI yo, nI ex, nI se, co, fc, nI rc, dp, w, t, mk, fw, sk, rm, im, rx, fn) (nI a) (-1) := by
  refine br_f kh_0m1 (And.intro (vp_in_nI ha (by decide)) (nm_r (e' := upd w a 0) (by rw [kh_cl ha]) (br_f kh_0m1 (And.intro (vp_in_nI ha (by decide)) (nm_r (e' := upd t a 2) (by rw [kh_cl ha]; exact congrArg _ (kh_nb2 (n := 2) (by omega))) ?_)))))
  refine kh_isY1 ?_
  refine kh_isY ha (fun y1 y2 => ?_) (fun y => ?_)
  · exact br_f kh_10 (br_t (by decide) h)
  · exact br_t rfl (br_t (by decide) h)
theorem kh_srRef {post : SX → Prop} {a o : Nat} (ha : a < 208) (ho : o < 208) (h1 : 96 ≤ o → o < 112 → ¬ (96 ≤ a ∧ a < 112) → im a = 0 → rc < 208 ∧ post (nI cp, nI nu, nI po, nI ob, nI ot, nI yo, nI ex, nI se, co, fc, nI (rc + 1), dp, upd w a (nI o), upd t a 1, mk, fw, sk, upd rm rc (nI a), upd im a 1, rx, fn))
    (h2 : ¬ ((96 ≤ o ∧ o < 112) ∧ ¬ (96 ≤ a ∧ a < 112)) ∨ im a ≠ 0 → post (nI cp, nI nu, nI po, nI ob, nI ot, nI yo, nI ex, nI se, co, fc, nI rc, dp, upd w a (nI o), upd t a 1, mk, fw, sk, rm, im, rx, fn)) : wpX_setReference post (nI cp, nI nu, nI po, nI ob, nI ot, nI yo, nI ex, nI se, co, fc, nI rc, dp, w, t, mk, fw, sk, rm, im, rx, fn) (nI a) (nI o) := by
  refine br_t (kh_n0 ho) (And.intro (vp_in_nI ha (by decide)) (nm_r (e' := upd w a (nI o)) (by rw [kh_cl ha]) (br_t (kh_n0 ho) (And.intro (vp_in_nI ha (by decide)) (nm_r (e' := upd t a 1) (by rw [kh_cl ha]; exact congrArg _ (kh_nb2 (n := 1) (by omega))) ?_)))))
  refine kh_isY ho (fun x1 x2 => ?_) (fun x => ?_)
  · refine kh_isY ha (fun y1 y2 => ?_) (fun y => ?_)
    · exact br_f kh_10 (br_t (by decide) (h2 (Or.inl (fun z => z.2 ⟨y1, y2⟩))))
    · refine br_t rfl (br_f (by decide) ⟨vp_in_nI ha (by decide), ?_⟩)
      rw [kh_cl ha]
      refine br_c (fun z => ?_) (fun z => h2 (Or.inr z))
      obtain ⟨r1, r2⟩ := h1 x1 x2 y z
      refine ⟨vp_in_nI ha (by decide), nm_e (nm_r (nI_1 rc) ⟨vp_in_nI r1 (by decide), nm_r (e' := upd rm rc (nI a)) (by rw [kh_cl r1, kh_ns2 ha]) ?_⟩)⟩
      exact r2
  · refine kh_isY ha (fun y1 y2 => ?_) (fun y => ?_)
    · exact br_f kh_10 (br_t (by decide) (h2 (Or.inl (fun z => x z.1))))
    · exact br_t rfl (br_t (by decide) (h2 (Or.inl (fun z => x z.1))))
theorem kh_sr {post : SX → Prop} {a o : Nat} (ha : a < 208) (ho : o < 208) (hS : kh_RS rm im rc)
    (K : ∀ rm' im' rc', kh_RS rm' im' rc' → (∀ b, im b ≠ 0 → im' b ≠ 0) → (∀ b, im' b ≠ 0 → im b ≠ 0 ∨ (b = a ∧ 96 ≤ o ∧ o < 112 ∧ ¬ (96 ≤ a ∧ a < 112))) → (96 ≤ o → o < 112 → ¬ (96 ≤ a ∧ a < 112) → im' a ≠ 0) → post (nI cp, nI nu, nI po, nI ob, nI ot, nI yo, nI ex, nI se, co, fc, nI rc', dp, upd w a (nI o), upd t a 1, mk, fw, sk, rm', im', rx, fn)) : wpX_setReference post (nI cp, nI nu, nI po, nI ob, nI ot, nI yo, nI ex, nI se, co, fc, nI rc, dp, w, t, mk, fw, sk, rm, im, rx, fn) (nI a) (nI o) := by
  refine kh_srRef ha ho (fun x1 x2 y z => ?_) (fun z => ?_)
  · obtain ⟨r1, r2⟩ := kh_RS_push hS ha z
    refine ⟨r1, K _ _ _ r2 (fun b hb => ?_) (fun b hb => ?_) (fun _ _ _ => by rw [pk_us]; exact kh_10)⟩
    · by_cases e : b = a
      · subst e; exact absurd z hb
      · rw [pk_un e]; exact hb
    · by_cases e : b = a
      · exact Or.inr ⟨e, x1, x2, y⟩
      · rw [pk_un e] at hb; exact Or.inl hb
  · refine K rm im rc hS (fun b hb => hb) (fun b hb => Or.inl hb) (fun x1 x2 y => ?_)
    rcases z with z | z
    · exact absurd ⟨⟨x1, x2⟩, y⟩ z
    · exact z
end
/-! room -/
def kh_pw (fl A : Nat → Nat) : Nat := kh_sm (fun k => if A k < 208 then fl k + 1 else 0) 97
theorem kh_KS_BO {fl A : Nat → Nat} {mk : Nat → Int32} {ob lo hi : Nat} (hP : kh_PV A) (hD : kh_Dj fl A) (hi' : hi ≤ 208) (hm : ∀ k, ob ≤ A k → A k < hi → ¬ mk (A k) = 0) (h : kh_Sg (kh_BO fl A) lo hi) : ob ≤ lo → kh_KS fl A mk ob hi = kh_KS fl A mk ob lo + (hi - lo) := by
  refine kh_Sg_ind (P := fun lo => ob ≤ lo → kh_KS fl A mk ob hi = kh_KS fl A mk ob lo + (hi - lo)) h (fun _ => by omega) (fun o s h0 hb hS ih h1 => ?_)
  obtain ⟨k, k1, k2, k3⟩ := hb
  have l := kh_Sg_le hS
  have z := ih (by omega)
  subst k2 k3
  rw [kh_KS_obj hP hD k1 h1 (by omega), if_neg (hm k h1 (by omega))] at z
  omega
theorem kh_room {kd fl sv : Nat → Nat} {fi ir : Nat → Int32} {A : Nat → Nat} {w t mk : Nat → Int32} {cp ob ot yo : Nat} (hG : kh_Ge cp ob ot yo) (H : kh_HP kd fl sv fi ir A w t ob ot yo) : kh_KS fl A mk ob ot + yo ≤ kh_pw fl A := by
  obtain ⟨g1, g2, g3, g4, g5⟩ := hG
  obtain ⟨p1, p2, p3, p4, p5, p6⟩ := H
  have y := kh_KS_BO (ob := 96) (mk := fun _ => 1) p1 p4 (by omega) (fun k _ _ => kh_10) p6 (Nat.le_refl _)
  rw [kh_KS_0] at y
  have e : kh_KS fl A mk ob ot + kh_KS fl A (fun _ => 1) 96 (96 + yo) ≤ kh_pw fl A := by
    unfold kh_KS kh_pw
    rw [← kh_sm_add]
    refine kh_sm_le fun k _ => ?_
    by_cases c1 : ob ≤ A k ∧ A k < ot ∧ ¬ mk (A k) = 0
    · rw [if_pos c1, if_neg (by omega), if_pos (by omega)]; omega
    · rw [if_neg c1]
      by_cases c2 : 96 ≤ A k ∧ A k < 96 + yo ∧ ¬ (1 : Int32) = 0
      · rw [if_pos c2, if_pos (by omega)]; omega
      · rw [if_neg c2]; omega
  omega
/-! compact -/
section
variable {cp nu po ob ot yo ex se rc : Nat} {co fc dp : Int32} {w t mk fw sk rm im rx fn : Nat → Int32}
theorem kh_cm47 {post : SX → Prop} (K : ∀ im', (∀ a, a < 208 → im' a = 0) → ∃ m, wX_compact_84 post m (nI ob) (nI cp) (nI nu) (nI po) (nI ob) (nI ot) (nI yo) (nI ex) (nI se) co fc 0 dp w t mk fw sk rm im' rx fn) :
    ∀ (n rc : Nat) (im : Nat → Int32), rc < n → kh_RS rm im rc → wX_compact_47 post (nI cp) (nI nu) (nI po) (nI ob) (nI ot) (nI yo) (nI ex) (nI se) co fc dp n (nI rc) w t mk fw sk rm im rx fn := by
  intro n
  induction n with
  | zero => intro rc im h; omega
  | succ n ih =>
    intro rc im h hS
    rw [wX_compact_47]
    cases rc with
    | zero => exact br_t (by decide) (K im (kh_RS_0 hS))
    | succ rc =>
      obtain ⟨r1, a, a1, a2, a3, a4⟩ := kh_RS_pop hS
      have e : nI (rc + 1) - 1 = nI rc := nI_pred rc
      rw [e, kh_cl r1, a2, kh_cl a1]
      exact br_f (nI_nle (by omega) (by omega)) (nm_e ⟨vp_in_nI r1 (by decide), vp_in_nI a1 (by decide), nm_e (ih rc _ (by omega) a4)⟩)
theorem kh_cm102 {post : SX → Prop} {J : Int32 → Int32 → Int32 → Int32 → Int32 → Int32 → Int32 → Int32 → Int32 → Int32 → Int32 → Int32 → Int32 → (Nat → Int32) → (Nat → Int32) → (Nat → Int32) → (Nat → Int32) → (Nat → Int32) → (Nat → Int32) → (Nat → Int32) → (Nat → Int32) → (Nat → Int32) → Prop}
    {A fl kd sv : Nat → Nat} {fi ir : Nat → Int32} {k : Nat} (hk : A k < 208) (hy : A k + fl k < 96 ∨ 112 ≤ A k) (hs : A k + fl k < 208) (hO : kh_Ob kd fl sv fi ir A w t (A k) k)
    (K : ∀ rm' im' rc', kh_RS rm' im' rc' → (∀ b, im b ≠ 0 → im' b ≠ 0) → (∀ b, im' b ≠ 0 → im b ≠ 0 ∨ ∃ i, i < fl k ∧ b = A k + 1 + i) → (∀ i q, i < fl k → kh_Rf fi ir (6 * k + i) q → 96 ≤ A q → A q < 112 → im' (A k + 1 + i) ≠ 0) → J (nI (A k + (fl k + 1))) (nI cp) (nI nu) (nI po) (nI ob) (nI ot) (nI yo) (nI ex) (nI se) co fc (nI rc') dp w t mk fw sk rm' im' rx fn) :
    ∀ (n x : Nat) (rm1 im1 : Nat → Int32) (rc1 : Nat), fl k < n + x → x ≤ fl k → kh_RS rm1 im1 rc1 → (∀ b, im b ≠ 0 → im1 b ≠ 0) → (∀ b, im1 b ≠ 0 → im b ≠ 0 ∨ ∃ i, i < fl k ∧ b = A k + 1 + i) → (∀ i q, i < x → kh_Rf fi ir (6 * k + i) q → 96 ≤ A q → A q < 112 → im1 (A k + 1 + i) ≠ 0) → wX_compact_102 post J (nI (A k)) (nI (fl k)) n (nI (A k + 1 + x)) (nI cp) (nI nu) (nI po) (nI ob) (nI ot) (nI yo) (nI ex) (nI se) co fc (nI rc1) dp w t mk fw sk rm1 im1 rx fn := by
  intro n
  induction n with
  | zero => intro x rm1 im1 rc1 h1 h2; omega
  | succ n ih =>
    intro x rm1 im1 rc1 h1 h2 hS m1 m2 m3
    rw [wX_compact_102]
    dsimp only
    rw [nI_add, nI_1 (fl k), nI_add]
    by_cases e : x = fl k
    · subst e
      exact br_t (nI_lt (by omega) (by omega)) (nm_e (K rm1 im1 rc1 hS m1 m2 m3))
    · have c : A k + 1 + x < 208 := by omega
      have F := hO.2.2 x (by omega)
      refine br_f (nI_nlt (by omega) (by omega)) ?_
      rw [kh_cl c]
      refine kh_isRef c (fun z => ?_) (fun z => ?_)
      · obtain ⟨q, q1, q2, q3⟩ := kh_Fw_1 F z
        refine br_f kh_10 ⟨vp_in_nI c (by decide), ?_⟩
        rw [q2]
        refine kh_sr c q3 hS (fun rm2 im2 rc2 hS2 n1 n2 n3 => ?_)
        have ew : upd w (A k + 1 + x) (nI (A q)) = w := by rw [← q2, kh_upd_self]
        have et : upd t (A k + 1 + x) 1 = t := by rw [← z, kh_upd_self]
        rw [ew, et]
        refine nm_r (nI_1 _) (ih (x + 1) rm2 im2 rc2 (by omega) (by omega) hS2 (fun b hb => n1 b (m1 b hb)) (fun b hb => ?_) (fun i q' hi hr y1 y2 => ?_))
        · rcases n2 b hb with z2 | ⟨z2, _⟩
          · exact m2 b z2
          · exact Or.inr ⟨x, by omega, z2⟩
        · by_cases ei : i = x
          · subst ei
            have := kh_Fw_ref F hr
            have eq' : nI (A q') = nI (A q) := this.2.1.symm.trans q2
            have := kh_inj (by omega) (by omega) eq'
            exact n3 (by omega) (by omega) (by omega)
          · exact n1 _ (m3 i q' (by omega) hr y1 y2)
      · refine br_t rfl (nm_r (nI_1 _) (ih (x + 1) rm1 im1 rc1 (by omega) (by omega) hS m1 m2 (fun i q' hi hr y1 y2 => ?_)))
        by_cases ei : i = x
        · subst ei
          exact absurd (kh_Fw_ref F hr).1 z
        · exact m3 i q' (by omega) hr y1 y2
theorem kh_cm84 {post : SX → Prop} {A fl kd sv : Nat → Nat} {fi ir : Nat → Int32} (hG : kh_Ge cp ob ot yo) (hD : kh_Dj fl A) (hV : ∀ k, kd k ≤ 2 ∧ fl k ≤ 6) (hO : ∀ k, A k < 208 → kh_Ob kd fl sv fi ir A w t (A k) k)
    (K : ∀ rm' im' rc', kh_RS rm' im' rc' → (∀ a, a < 208 → im' a ≠ 0 → ∃ k i, A k < 208 ∧ ¬ (96 ≤ A k ∧ A k < 112) ∧ i < fl k ∧ a = A k + 1 + i) → (∀ k i q, ob ≤ A k → A k < ot → i < fl k → kh_Rf fi ir (6 * k + i) q → 96 ≤ A q → A q < 112 → im' (A k + 1 + i) ≠ 0) → post (nI cp, nI nu, nI po, nI ob, nI ot, nI yo, nI ex, nI se, co, fc, nI rc', dp, w, t, mk, fw, sk, rm', im', rx, fn)) :
    ∀ (n o : Nat) (rm im : Nat → Int32) (rc : Nat), ot < n + o → ob ≤ o → kh_Sg (kh_BO fl A) o ot → kh_RS rm im rc → (∀ a, a < 208 → im a ≠ 0 → ∃ k i, A k < 208 ∧ ¬ (96 ≤ A k ∧ A k < 112) ∧ i < fl k ∧ a = A k + 1 + i) → (∀ k i q, ob ≤ A k → A k < o → i < fl k → kh_Rf fi ir (6 * k + i) q → 96 ≤ A q → A q < 112 → im (A k + 1 + i) ≠ 0) → wX_compact_84 post n (nI o) (nI cp) (nI nu) (nI po) (nI ob) (nI ot) (nI yo) (nI ex) (nI se) co fc (nI rc) dp w t mk fw sk rm im rx fn := by
  obtain ⟨g1, g2, g3, g4, g5⟩ := hG
  intro n
  induction n with
  | zero => intro o rm im rc h1 h2 h3; have := kh_Sg_le h3; omega
  | succ n ih =>
    intro o rm im rc h1 h2 h3 hS m1 m2
    rw [wX_compact_84]
    rcases kh_Sg_cases h3 with e | ⟨s, s0, ⟨k, k1, k2, k3⟩, hS'⟩
    · subst e
      exact br_t (nI_le (Nat.le_refl _) (by omega)) (K rm im rc hS m1 m2)
    · have l := kh_Sg_le hS'
      subst k2 k3
      refine br_f (nI_ge (by omega) (by omega)) ?_
      refine kh_fields k1 (hO k k1).2.1 (hV k).1 (hV k).2 (nm_r (nI_1 _) ⟨fl k + 1, ?_⟩)
      refine kh_cm102 (im := im) k1 (by omega) (by omega) (hO k k1) (fun rm' im' rc' hS2 n1 n2 n3 => ?_) (fl k + 1) 0 rm im rc (by omega) (by omega) hS (fun b hb => hb) (fun b hb => Or.inl hb) (fun i q hi => by omega)
      refine ih (A k + (fl k + 1)) rm' im' rc' (by omega) (by omega) hS' hS2 (fun a a1 a2 => ?_) (fun j i q j1 j2 hi hr y1 y2 => ?_)
      · rcases n2 a a2 with z | ⟨i, i1, i2⟩
        · exact m1 a a1 z
        · exact ⟨k, i, k1, by omega, i1, i2⟩
      · by_cases e : j = k
        · subst e; exact n3 i q hi hr y1 y2
        · have := hD j k (by omega) k1 e
          exact n1 _ (m2 j i q j1 (by omega) hi hr y1 y2)
end
end
section
/-! compact: the whole -/
def kh_XI (kd fl sv : Nat → Nat) (fi ir : Nat → Int32) (rg A : Nat → Nat) (w t rm im rx : Nat → Int32) (ob ot yo rc : Nat) : Prop :=
  kh_HP kd fl sv fi ir A w t ob ot yo ∧ kh_RG rg A rx ∧ kh_RS rm im rc ∧ kh_RM fl fi ir A im
theorem kh_SA_all {fl A : Nat → Nat} {mk w t : Nat → Int32} {ob ot : Nat} (hP : kh_PV A) (hD : kh_Dj fl A) (ho : ot ≤ 208) (hS : kh_Sg (kh_Bk fl A w t) ob ot) (hm : ∀ k, ob ≤ A k → A k < ot → ¬ mk (A k) = 0) {k : Nat} (hk : A k < 208) : kh_SA fl A mk ob ot k < 208 := by
  by_cases c : ob ≤ A k ∧ A k < ot
  · rw [kh_SA_k c.1 c.2 (hm k c.1 c.2)]
    have := (kh_KS_low (mk := mk) hP hD ho hS).2 k c.1 c.2
    omega
  · rw [kh_SA_y c]; exact hk
section
variable {cp nu po ob ot yo ex se rc : Nat} {co fc dp : Int32} {w t mk fw sk rm im rx fn : Nat → Int32}
theorem kh_cm5 {post : SX → Prop} {A fl kd sv rg : Nat → Nat} {fi ir : Nat → Int32} (hG : kh_Ge cp ob ot yo) (hV : ∀ k, kd k ≤ 2 ∧ fl k ≤ 6) (H : kh_HP kd fl sv fi ir A w t ob ot yo) (hR : kh_RG rg A rx)
    (K : ∀ mk' w' t' fw' rx', (∀ k, ob ≤ A k → A k < ot → ¬ mk' (A k) = 0) → kh_HP kd fl sv fi ir (kh_SA fl A mk' ob ot) w' t' ob (ob + kh_KS fl A mk' ob ot) yo → kh_RG rg (kh_SA fl A mk' ob ot) rx' → ∃ m, wX_compact_47 post (nI cp) (nI nu) (nI po) (nI ob) (nI (ob + kh_KS fl A mk' ob ot)) (nI yo) (nI ex) (nI se) co fc dp m (nI rc) w' t' mk' fw' sk rm im rx' fn) :
    ∀ (n o : Nat) (mk : Nat → Int32), ot < n + o → ob ≤ o → kh_Sg (kh_Bk fl A w t) o ot → kh_Sg (kh_Bm fl A w t mk) ob o → (∀ k, ob ≤ A k → A k < o → ¬ mk (A k) = 0) → wX_compact_5 post (nI cp) (nI nu) (nI po) (nI ob) (nI ot) (nI yo) (nI ex) (nI se) co fc (nI rc) dp n (nI o) w t mk fw sk rm im rx fn := by
  have hG' := hG
  have H' := H
  obtain ⟨g1, g2, g3, g4, g5⟩ := hG'
  obtain ⟨p1, p2, p3, p4, p5, p6⟩ := H'
  intro n
  induction n with
  | zero => intro o mk h1 h2 h3; have := kh_Sg_le h3; omega
  | succ n ih =>
    intro o mk h1 h2 h3 h4 h5
    rw [wX_compact_5]
    rcases kh_Sg_cases h3 with e | ⟨s, s0, hb, hS⟩
    · subst e
      refine br_t (nI_le (Nat.le_refl _) (by omega)) ?_
      have all : ∀ k, A k < 208 → kh_SA fl A mk ob o k < 208 := fun k hk => kh_SA_all p1 p4 (by omega) p5 h5 hk
      refine kh_slide (A := A) (rg := rg) hG hV H h4 (fun k i q hk hi hr => ?_) hR (fun r r1 r2 => ?_) (fun w' t' fw' rx' H2 R2 => ?_)
      · have a1 := (kh_SA_pl (by omega) hk).1
        exact all q (kh_Fw_ref ((p2 k a1).2.2 i hi) hr).2.2
      · rcases hR r r1 with ⟨z, _⟩ | ⟨_, z, _⟩
        · omega
        · exact all _ z
      · exact K mk w' t' fw' rx' h5 H2 R2
    · have l := kh_Sg_le hS
      have c : o < 208 := by omega
      refine br_f (nI_ge (by omega) (by omega)) ?_
      have sgm : ∀ v, kh_Sg (kh_Bm fl A w t (upd mk o v)) ob o := fun v => kh_Sg_mono (fun o' s' o1 o2 o3 hb' => by
        rcases hb' with hb' | ⟨hb', hm⟩
        · exact Or.inl hb'
        · exact Or.inr ⟨hb', by rw [pk_un (by omega)]; exact hm⟩) h4
      rcases hb with ⟨k, k1, k2, k3⟩ | ⟨f1, f2, f3⟩
      · subst k2 k3
        refine kh_isF0 c (p2 k k1).2.1 (by have := hV k; omega) (br_t rfl ?_)
        refine And.intro (vp_in_nI c (by decide)) (nm_r (e' := upd mk (A k) 1) (by rw [kh_cl c, kh_bo1]) ?_)
        refine kh_sizeO c (p2 k k1).2.1 (hV k).1 (hV k).2 (nm_r (nI_add _ _) (ih (A k + (fl k + 1)) _ (by omega) (by omega) hS ?_ (fun j j1 j2 => ?_)))
        · exact kh_Sg_snoc (sgm 1) (by omega) (Or.inl ⟨k, k1, rfl, rfl⟩)
        · by_cases e : j = k
          · subst e; rw [pk_us]; exact kh_10
          · have := p4 j k (by omega) k1 e
            rw [pk_un (by omega)]
            exact h5 j j1 (by omega)
      · refine kh_isF1 c f1 (br_f kh_10 ?_)
        refine And.intro (vp_in_nI c (by decide)) (nm_r (e' := upd mk o 0) (by rw [kh_cl c, kh_bo0]) ?_)
        refine kh_sizeF c f1 f2 (nm_r (nI_add _ _) (ih (o + s) _ (by omega) (by omega) hS ?_ (fun j j1 j2 => ?_)))
        · exact kh_Sg_snoc (sgm 0) s0 (Or.inr ⟨⟨f1, f2, f3⟩, pk_us⟩)
        · have := f3 j (by omega)
          rw [pk_un (by omega)]
          exact h5 j j1 (by omega)
theorem kh_compact {post : SX → Prop} {A fl kd sv rg : Nat → Nat} {fi ir : Nat → Int32} (hG : kh_Ge cp ob ot yo) (hV : ∀ k, kd k ≤ 2 ∧ fl k ≤ 6) (X : kh_XI kd fl sv fi ir rg A w t rm im rx ob ot yo rc)
    (K : ∀ A' w' t' mk' fw' rm' im' rc' rx' ot', kh_XI kd fl sv fi ir rg A' w' t' rm' im' rx' ob ot' yo rc' → (∀ k, A' k < 208 ↔ A k < 208) → ob ≤ ot' → ot' ≤ ot → ot' + yo ≤ ob + kh_pw fl A → post (nI cp, nI nu, nI po, nI ob, nI ot', nI yo, nI ex, nI se, co, fc, nI rc', dp, w', t', mk', fw', sk, rm', im', rx', fn)) : wpX_compact post (nI cp, nI nu, nI po, nI ob, nI ot, nI yo, nI ex, nI se, co, fc, nI rc, dp, w, t, mk, fw, sk, rm, im, rx, fn) := by
  obtain ⟨H, hR, hS, _⟩ := X
  have H' := H
  obtain ⟨p1, p2, p3, p4, p5, p6⟩ := H'
  have hG' := hG
  obtain ⟨g1, g2, g3, g4, g5⟩ := hG'
  refine ⟨ot + 1, kh_cm5 (A := A) (rg := rg) hG hV H hR (fun mk1 w1 t1 fw1 rx1 m1 H1 R1 => ?_) (ot + 1) ob mk (by omega) (Nat.le_refl _) p5 kh_Sg_nil (fun k k1 k2 => by omega)⟩
  have lo := (kh_KS_low (mk := mk1) p1 p4 (by omega) p5).1
  have hG1 : kh_Ge cp ob (ob + kh_KS fl A mk1 ob ot) yo := ⟨g1, g2, by omega, by omega, g5⟩
  have q2 := H1.2.1
  have q4 := H1.2.2.2.1
  have sg := kh_SA_Sg (mk := mk1) p1 p4 (show ot ≤ 208 by omega) p5
  refine ⟨rc + 1, kh_cm47 (ot := ob + kh_KS fl A mk1 ob ot) (fun im2 hi => ?_) (rc + 1) rc im (by omega) hS⟩
  refine ⟨ob + kh_KS fl A mk1 ob ot + 1, kh_cm84 (A := kh_SA fl A mk1 ob ot) (ot := ob + kh_KS fl A mk1 ob ot) hG1 q4 hV q2 (fun rm3 im3 rc3 s1 s2 s3 => ?_) (ob + kh_KS fl A mk1 ob ot + 1) ob rm im2 0 (by omega) (Nat.le_refl _) sg (kh_RS_nil hi) (fun a a1 a2 => absurd (hi a a1) a2) (fun k i q k1 k2 => by omega)⟩
  have al : ∀ k, kh_SA fl A mk1 ob ot k < 208 ↔ A k < 208 := fun k => ⟨fun hk => (kh_SA_pl (by omega) hk).1, fun hk => kh_SA_all p1 p4 (by omega) p5 m1 hk⟩
  have rm := kh_room (mk := mk1) hG H
  refine K (kh_SA fl A mk1 ob ot) w1 t1 mk1 fw1 rm3 im3 rc3 rx1 (ob + kh_KS fl A mk1 ob ot) ⟨H1, R1, s1, s2, fun k i q k1 k2 hi hr y1 y2 => ?_⟩ al (by omega) lo (by omega)
  have := H1.2.2.1 k k1
  exact s3 k i q (by omega) (by omega) hi hr y1 y2
end
end
section
/-! copying: the pure side. E: where the objects are now (208: not yet copied); dn: the words that are sent on -/
def kh_CS (kd fl sv : Nat → Nat) (fi ir : Nat → Int32) (A E : Nat → Nat) (w t : Nat → Int32) (base sc ot c0 : Nat) (dn : Nat → Prop) : Prop :=
  (∀ k, E k < 208 → A k < 208 ∧ base ≤ E k ∧ E k + fl k < ot ∧ w (E k) = nI (sv k) ∧ t (E k) = nI (8 * kd k + fl k) ∧
    ∀ i, i < fl k → (dn (E k + 1 + i) → kh_Fw fi ir E w t (E k + 1 + i) (6 * k + i)) ∧ (¬ dn (E k + 1 + i) → kh_Fw fi ir A w t (E k + 1 + i) (6 * k + i))) ∧
  kh_Dj fl E ∧ kh_Sg (kh_Bk fl E w t) base sc ∧ kh_Sg (kh_BO fl E) sc ot ∧ ot + c0 = sc + kh_pw fl E ∧ (∀ a, dn a → a < ot)
/-- E grows to E' -/
def kh_XT (fl E E' : Nat → Nat) (ot ot' : Nat) : Prop := (∀ q, E q < 208 → E' q = E q) ∧ ot ≤ ot' ∧ (∀ p, kh_Sg (kh_BO fl E) p ot → kh_Sg (kh_BO fl E') p ot') ∧ (∀ q, E' q < 208 → E q < 208 ∨ ot ≤ E' q)
theorem kh_XT_refl {fl E : Nat → Nat} {ot : Nat} : kh_XT fl E E ot ot := ⟨fun _ _ => rfl, Nat.le_refl _, fun _ h => h, fun _ h => Or.inl h⟩
theorem kh_XT_trans {fl E E' E'' : Nat → Nat} {ot ot' ot'' : Nat} (h : kh_XT fl E E' ot ot') (g : kh_XT fl E' E'' ot' ot'') : kh_XT fl E E'' ot ot'' :=
  ⟨fun q hq => by have := h.1 q hq; rw [g.1 q (by omega), this], Nat.le_trans h.2.1 g.2.1, fun p hp => g.2.2.1 p (h.2.2.1 p hp), fun q hq => by
    have h2 := h.2.1
    rcases g.2.2.2 q hq with z | z
    · have e := g.1 q z
      rcases h.2.2.2 q z with y | y
      · exact Or.inl y
      · exact Or.inr (by omega)
    · exact Or.inr (by omega)⟩
theorem kh_pw_le {fl E A : Nat → Nat} (h : ∀ k, E k < 208 → A k < 208) : kh_pw fl E ≤ kh_pw fl A := by
  refine kh_sm_le fun k _ => ?_
  by_cases c : E k < 208
  · rw [if_pos c, if_pos (h k c)]; exact Nat.le_refl _
  · rw [if_neg c]; exact Nat.zero_le _
theorem kh_pw_eq {fl E A : Nat → Nat} (h : ∀ k, E k < 208 ↔ A k < 208) : kh_pw fl E = kh_pw fl A :=
  Nat.le_antisymm (kh_pw_le fun k => (h k).mp) (kh_pw_le fun k => (h k).mpr)
theorem kh_pw_add {fl E : Nat → Nat} {k o : Nat} (hk : k < 97) (h : ¬ E k < 208) (ho : o < 208) : kh_pw fl (kh_up E k o) = kh_pw fl E + (fl k + 1) := by
  have x := kh_sm_pt (f := fun i => if kh_up E k o i < 208 then fl i + 1 else 0) (g := fun i => if E i < 208 then fl i + 1 else 0) (n := 97) hk (fun i _ hn => by simp only [kh_up_n hn])
  simp only [kh_up_s, if_pos ho, if_neg h] at x
  exact x
section
variable {kd fl sv A E E' : Nat → Nat} {fi ir w t w' t' : Nat → Int32} {base sc ot c0 : Nat} {dn : Nat → Prop}
/-- room for one more -/
theorem kh_CS_room {top k : Nat} (hP : kh_PV A) (C : kh_CS kd fl sv fi ir A E w t base sc ot c0 dn) (hr : sc + kh_pw fl A ≤ top + c0) (hk : A k < 208) (hn : ¬ E k < 208) : ot + (fl k + 1) ≤ top := by
  have e := kh_pw_add (fl := fl) (o := 0) (hP k hk).2 hn (by omega)
  have l : kh_pw fl (kh_up E k 0) ≤ kh_pw fl A := kh_pw_le (fun j hj => by
    by_cases z : j = k
    · subst z; exact hk
    · rw [kh_up_n z] at hj; exact (C.1 j hj).1)
  have := C.2.2.2.2.1
  omega
theorem kh_CS_copy {k : Nat} (hP : kh_PV A) (C : kh_CS kd fl sv fi ir A E w t base sc ot c0 dn) (hk : A k < 208) (hn : ¬ E k < 208) (ho : ot < 208) (hO : kh_Ob kd fl sv fi ir A w t (A k) k)
    (hl : ∀ a, a < ot → w' a = w a ∧ t' a = t a) (hc : ∀ j, j ≤ fl k → w' (ot + j) = w (A k + j) ∧ t' (ot + j) = t (A k + j)) : kh_CS kd fl sv fi ir A (kh_up E k ot) w' t' base sc (ot + (fl k + 1)) c0 dn ∧ kh_XT fl E (kh_up E k ot) ot (ot + (fl k + 1)) := by
  obtain ⟨c1, c2, c3, c4, c5, c6⟩ := C
  have ex : ∀ q, E q < 208 → kh_up E k ot q = E q := fun q hq => kh_up_n (fun z => by subst z; exact hn hq)
  have l1 := kh_Sg_le c3
  have l2 := kh_Sg_le c4
  have bo : ∀ o s, kh_BO fl E o s → kh_BO fl (kh_up E k ot) o s := by
    rintro o s ⟨j, j1, j2, j3⟩
    exact ⟨j, by rw [ex j j1]; exact j1, by rw [ex j j1]; exact j2, j3⟩
  have sg : ∀ p, kh_Sg (kh_BO fl E) p ot → kh_Sg (kh_BO fl (kh_up E k ot)) p (ot + (fl k + 1)) := fun p hp => kh_Sg_snoc (kh_Sg_mono (fun o s _ _ _ h => bo o s h) hp) (by omega) ⟨k, by rw [kh_up_s]; exact ho, kh_up_s, rfl⟩
  refine ⟨⟨fun j hj => ?_, fun i j hi hj hne => ?_, ?_, sg sc c4, ?_, fun a ha => by have := c6 a ha; omega⟩, ex, by omega, sg, fun q hq => ?_⟩
  · by_cases e : j = k
    · subst e
      rw [kh_up_s]
      have z := kh_Ob_copy (p' := ot) hO (fun _ _ => rfl) hc
      refine ⟨hk, by omega, by omega, z.1, z.2.1, fun i hi => ⟨fun hd => ?_, fun _ => z.2.2 i hi⟩⟩
      have := c6 _ hd
      omega
    · rw [kh_up_n e] at hj ⊢
      obtain ⟨a1, a2, a3, a4, a5, a6⟩ := c1 j hj
      refine ⟨a1, a2, by omega, by rw [(hl _ (by omega)).1, a4], by rw [(hl _ (by omega)).2, a5], fun i hi => ⟨fun hd => ?_, fun hd => ?_⟩⟩
      · exact kh_Fw_mono (hl _ (by omega)).1 (hl _ (by omega)).2 ex ((a6 i hi).1 hd)
      · exact kh_Fw_same (hl _ (by omega)).1 (hl _ (by omega)).2 ((a6 i hi).2 hd)
  · by_cases e : i = k <;> by_cases e' : j = k
    · omega
    · subst e
      rw [kh_up_n e'] at hj ⊢
      rw [kh_up_s]
      have := (c1 j hj).2.2.1
      omega
    · subst e'
      rw [kh_up_n e] at hi ⊢
      rw [kh_up_s]
      have := (c1 i hi).2.2.1
      omega
    · rw [kh_up_n e] at hi ⊢
      rw [kh_up_n e'] at hj ⊢
      exact c2 i j hi hj hne
  · refine kh_Sg_mono (fun o s o1 o2 o3 hb => ?_) c3
    rcases hb with hb | ⟨f1, f2, f3⟩
    · exact Or.inl (bo o s hb)
    · refine Or.inr ⟨by rw [(hl _ (by omega)).2]; exact f1, by rw [(hl _ (by omega)).1]; exact f2, fun j hj => ?_⟩
      by_cases e : j = k
      · subst e
        rw [kh_up_s]
        omega
      · rw [kh_up_n e] at hj ⊢
        exact f3 j hj
  · rw [kh_pw_add (hP k hk).2 hn ho]
    omega
  · by_cases e : q = k
    · subst e; rw [kh_up_s]; exact Or.inr (Nat.le_refl _)
    · rw [kh_up_n e] at hq; exact Or.inl hq
/-- a word is sent on -/
theorem kh_CS_word {k i : Nat} (C : kh_CS kd fl sv fi ir A E w t base sc ot c0 dn) (hk : E k < 208) (hi : i < fl k) (hw : ∀ b, b ≠ E k + 1 + i → w' b = w b) (hF : kh_Fw fi ir E w' t (E k + 1 + i) (6 * k + i)) : kh_CS kd fl sv fi ir A E w' t base sc ot c0 (fun b => dn b ∨ b = E k + 1 + i) := by
  obtain ⟨c1, c2, c3, c4, c5, c6⟩ := C
  have sep : ∀ j, E j < 208 → E j ≠ E k + 1 + i ∧ ∀ x, x < fl j → (E j + 1 + x = E k + 1 + i → j = k ∧ x = i) := by
    intro j hj
    by_cases e : j = k
    · subst e
      exact ⟨by omega, fun x _ hx => ⟨rfl, by omega⟩⟩
    · have := c2 j k hj hk e
      exact ⟨by omega, fun x hx hx' => by omega⟩
  refine ⟨fun j hj => ?_, c2, ?_, c4, c5, fun a ha => ?_⟩
  · obtain ⟨a1, a2, a3, a4, a5, a6⟩ := c1 j hj
    obtain ⟨s1, s2⟩ := sep j hj
    refine ⟨a1, a2, a3, by rw [hw _ s1]; exact a4, a5, fun x hx => ?_⟩
    by_cases e : E j + 1 + x = E k + 1 + i
    · obtain ⟨e1, e2⟩ := s2 x hx e
      subst e1 e2
      exact ⟨fun _ => hF, fun hd => absurd (Or.inr rfl) hd⟩
    · refine ⟨fun hd => ?_, fun hd => ?_⟩
      · exact kh_Fw_same (hw _ e) rfl ((a6 x hx).1 (hd.resolve_right e))
      · exact kh_Fw_same (hw _ e) rfl ((a6 x hx).2 (fun z => hd (Or.inl z)))
  · refine kh_Sg_mono (fun o s o1 o2 o3 hb => ?_) c3
    rcases hb with hb | ⟨f1, f2, f3⟩
    · exact Or.inl hb
    · have := f3 k hk
      exact Or.inr ⟨f1, by rw [hw _ (by omega)]; exact f2, f3⟩
  · rcases ha with ha | ha
    · exact c6 a ha
    · have := (c1 k hk).2.2.1
      omega
theorem kh_CS_congr {dn' : Nat → Prop} (C : kh_CS kd fl sv fi ir A E w t base sc ot c0 dn) (h : ∀ k i, E k < 208 → i < fl k → (dn' (E k + 1 + i) ↔ dn (E k + 1 + i))) (hl : ∀ a, dn' a → a < ot) : kh_CS kd fl sv fi ir A E w t base sc ot c0 dn' := by
  obtain ⟨c1, c2, c3, c4, c5, c6⟩ := C
  refine ⟨fun j hj => ?_, c2, c3, c4, c5, hl⟩
  obtain ⟨a1, a2, a3, a4, a5, a6⟩ := c1 j hj
  refine ⟨a1, a2, a3, a4, a5, fun x hx => ⟨fun hd => (a6 x hx).1 ((h j x hj hx).mp hd), fun hd => (a6 x hx).2 (fun z => hd ((h j x hj hx).mpr z))⟩⟩
end
end
section
/-! promote, promoteWord, copyOut's loop -/
section
variable {cp nu po ob ot yo ex se rc : Nat} {co fc dp : Int32} {w t mk fw sk rm im rx fn : Nat → Int32}
theorem kh_pr37 {post : Int32 → SX → Prop} {p f : Nat} {w0 t0 : Nat → Int32} (hp : p + f < 208) (ho : ot + f < 208) (hd : ∀ j, j ≤ f → p + j < ot ∨ ot + f < p + j) (hn : ∀ j, j ≤ f → vp_nar .byte (t0 (p + j)) = t0 (p + j))
    (h : ∀ w t, (∀ a, a < ot ∨ ot + (f + 1) ≤ a → w a = w0 a ∧ t a = t0 a) → (∀ j, j ≤ f → w (ot + j) = w0 (p + j) ∧ t (ot + j) = t0 (p + j)) → post (fw p) (nI cp, nI nu, nI po, nI ob, nI (ot + (f + 1)), nI yo, nI ex, nI se, co, fc, nI rc, dp, w, t, mk, fw, sk, rm, im, rx, fn)) :
    ∀ (n x : Nat) (w t : Nat → Int32), f + 1 < n + x → x ≤ f + 1 → (∀ a, a < ot ∨ ot + x ≤ a → w a = w0 a ∧ t a = t0 a) → (∀ j, j < x → w (ot + j) = w0 (p + j) ∧ t (ot + j) = t0 (p + j)) → wX_promote_37 post (nI p) (nI f) (nI cp) (nI nu) (nI po) (nI ob) (nI ot) (nI yo) (nI ex) (nI se) co fc (nI rc) dp n (nI x) w t mk fw sk rm im rx fn := by
  intro n
  induction n with
  | zero => intro x w t h1 h2; omega
  | succ n ih =>
    intro x w t h1 h2 h3 h4
    rw [wX_promote_37]
    by_cases e : x = f + 1
    · subst e
      refine br_t (nI_lt (by omega) (by omega)) (nm_r (e' := nI (ot + (f + 1))) (by rw [nI_1, nI_add]) ⟨vp_in_nI (by omega) (by decide), ?_⟩)
      rw [kh_cl (by omega)]
      exact h w t h3 (fun j hj => h4 j (by omega))
    · have c1 : p + x < 208 := by omega
      have c2 : ot + x < 208 := by omega
      have dd := hd x (by omega)
      have ew := (h3 (p + x) (by omega)).1
      have et := (h3 (p + x) (by omega)).2
      refine br_f (nI_nlt (by omega) (by omega)) ?_
      rw [nI_add p x, nI_add ot x, kh_cl c1, kh_cl c2, ew, et, hn x (by omega)]
      refine ⟨vp_in_nI c1 (by decide), vp_in_nI c2 (by decide), nm_e ⟨vp_in_nI c1 (by decide), vp_in_nI c2 (by decide), nm_e (nm_r (nI_1 x) (ih (x + 1) _ _ (by omega) (by omega) (fun a ha => ?_) (fun j hj => ?_)))⟩⟩
      · rw [pk_un (by omega), pk_un (by omega)]
        exact h3 a (by omega)
      · by_cases z : j = x
        · subst z
          rw [pk_us, pk_us]
          exact ⟨rfl, rfl⟩
        · rw [pk_un (by omega), pk_un (by omega)]
          exact h4 j (by omega)
theorem kh_co37 {post : Int32 → SX → Prop} {p f : Nat} {w0 t0 : Nat → Int32} (hp : p + f < 208) (ho : ot + f < 208) (hd : ∀ j, j ≤ f → p + j < ot ∨ ot + f < p + j) (hn : ∀ j, j ≤ f → vp_nar .byte (t0 (p + j)) = t0 (p + j))
    (h : ∀ w t, (∀ a, a < ot ∨ ot + (f + 1) ≤ a → w a = w0 a ∧ t a = t0 a) → (∀ j, j ≤ f → w (ot + j) = w0 (p + j) ∧ t (ot + j) = t0 (p + j)) → post (fw p) (nI cp, nI nu, nI po, nI ob, nI (ot + (f + 1)), nI yo, nI ex, nI se, co, fc, nI rc, dp, w, t, mk, fw, sk, rm, im, rx, fn)) :
    ∀ (n x : Nat) (w t : Nat → Int32), f + 1 < n + x → x ≤ f + 1 → (∀ a, a < ot ∨ ot + x ≤ a → w a = w0 a ∧ t a = t0 a) → (∀ j, j < x → w (ot + j) = w0 (p + j) ∧ t (ot + j) = t0 (p + j)) → wX_copyOut_37 post (nI p) (nI (f + 1)) (nI cp) (nI nu) (nI po) (nI ob) (nI ot) (nI yo) (nI ex) (nI se) co fc (nI rc) dp n (nI x) w t mk fw sk rm im rx fn := by
  intro n
  induction n with
  | zero => intro x w t h1 h2; omega
  | succ n ih =>
    intro x w t h1 h2 h3 h4
    rw [wX_copyOut_37]
    by_cases e : x = f + 1
    · subst e
      refine br_t (nI_le (Nat.le_refl _) (by omega)) (nm_r (nI_add _ _) ⟨vp_in_nI (by omega) (by decide), ?_⟩)
      rw [kh_cl (by omega)]
      exact h w t h3 (fun j hj => h4 j (by omega))
    · have c1 : p + x < 208 := by omega
      have c2 : ot + x < 208 := by omega
      have dd := hd x (by omega)
      have ew := (h3 (p + x) (by omega)).1
      have et := (h3 (p + x) (by omega)).2
      refine br_f (nI_ge (by omega) (by omega)) ?_
      rw [nI_add p x, nI_add ot x, kh_cl c1, kh_cl c2, ew, et, hn x (by omega)]
      refine ⟨vp_in_nI c1 (by decide), vp_in_nI c2 (by decide), nm_e ⟨vp_in_nI c1 (by decide), vp_in_nI c2 (by decide), nm_e (nm_r (nI_1 x) (ih (x + 1) _ _ (by omega) (by omega) (fun a ha => ?_) (fun j hj => ?_)))⟩⟩
      · rw [pk_un (by omega), pk_un (by omega)]
        exact h3 a (by omega)
      · by_cases z : j = x
        · subst z
          rw [pk_us, pk_us]
          exact ⟨rfl, rfl⟩
        · rw [pk_un (by omega), pk_un (by omega)]
          exact h4 j (by omega)
end
/-- the state of a minor collection -/
def kh_MS (kd fl sv : Nat → Nat) (fi ir : Nat → Int32) (A E : Nat → Nat) (w t fw : Nat → Int32) (ob sc ot c0 : Nat) (dn : Nat → Prop) : Prop :=
  kh_CS kd fl sv fi ir A E w t ob sc ot c0 dn ∧ (∀ k, 96 ≤ A k → A k < 112 → kh_Ob kd fl sv fi ir A w t (A k) k) ∧
  (∀ k, 96 ≤ A k → A k < 112 → (E k = 208 ∧ fw (A k) = -1) ∨ (E k < 208 ∧ fw (A k) = nI (E k))) ∧ (∀ k, ¬ (96 ≤ A k ∧ A k < 112) → E k = A k)
def kh_MH (kd fl A : Nat → Nat) (cp ob sc c0 : Nat) : Prop :=
  kh_PV A ∧ (∀ k, 96 ≤ A k → A k < 112 → A k + fl k < 112) ∧ cp ≤ 96 ∧ (ob = 0 ∨ ob = 112) ∧ sc + kh_pw fl A ≤ ob + cp + c0 ∧ kh_Dj fl A ∧ (∀ k, kd k ≤ 2 ∧ fl k ≤ 6)
theorem kh_CS_top {kd fl sv A E : Nat → Nat} {fi ir w t : Nat → Int32} {base sc ot c0 top : Nat} {dn : Nat → Prop} (C : kh_CS kd fl sv fi ir A E w t base sc ot c0 dn) (hr : sc + kh_pw fl A ≤ top + c0) : ot ≤ top := by
  have l : kh_pw fl E ≤ kh_pw fl A := kh_pw_le (fun j hj => (C.1 j hj).1)
  have := C.2.2.2.2.1
  omega
section
variable {cp nu po ob ot yo ex se rc : Nat} {co fc dp : Int32} {w t mk fw sk rm im rx fn : Nat → Int32} {kd fl sv A E : Nat → Nat} {fi ir : Nat → Int32} {sc c0 : Nat} {dn : Nat → Prop}
theorem kh_promote {post : Int32 → SX → Prop} {k : Nat} (hH : kh_MH kd fl A cp ob sc c0) (M : kh_MS kd fl sv fi ir A E w t fw ob sc ot c0 dn) (hk : A k < 208)
    (K : ∀ E' w' t' fw' ot', kh_MS kd fl sv fi ir A E' w' t' fw' ob sc ot' c0 dn → kh_XT fl E E' ot ot' → E' k < 208 → post (nI (E' k)) (nI cp, nI nu, nI po, nI ob, nI ot', nI yo, nI ex, nI se, co, fc, nI rc, dp, w', t', mk, fw', sk, rm, im, rx, fn)) : wpX_promote post (nI cp, nI nu, nI po, nI ob, nI ot, nI yo, nI ex, nI se, co, fc, nI rc, dp, w, t, mk, fw, sk, rm, im, rx, fn) (nI (A k)) := by
  obtain ⟨hP, hy, h96, hb, hr, hD, hV⟩ := hH
  have M' := M
  obtain ⟨C, Y, F, N⟩ := M'
  unfold wpX_promote
  refine kh_isY hk (fun y1 y2 => ?_) (fun y => ?_)
  · refine br_f kh_10 ⟨vp_in_nI hk (by decide), ?_⟩
    rw [kh_cl hk]
    rcases F k y1 y2 with ⟨e1, e2⟩ | ⟨e1, e2⟩
    · rw [e2]
      have rm := kh_CS_room hP C hr hk (by omega)
      have l1 := kh_Sg_le C.2.2.1
      have l2 := kh_Sg_le C.2.2.2.1
      have hyk := hy k y1 y2
      have O := Y k y1 y2
      refine br_f kh_0m1 (kh_fields hk O.2.1 (hV k).1 (hV k).2 ⟨vp_in_nI hk (by decide), nm_r (e' := upd fw (A k) (nI ot)) (by rw [kh_ns2 (by omega)]) ⟨fl k + 2, ?_⟩⟩)
      refine kh_pr37 (fw := upd fw (A k) (nI ot)) (w0 := w) (t0 := t) (by omega) (by omega) (fun j hj => by omega) (fun j hj => kh_Ob_nar O (hV k).1 (hV k).2 hj) (fun w' t' m1 m2 => ?_) (fl k + 2) 0 w t (by omega) (by omega) (fun a _ => ⟨rfl, rfl⟩) (fun j hj => by omega)
      obtain ⟨C', X'⟩ := kh_CS_copy hP C hk (by omega) (by omega) O (fun a ha => m1 a (by omega)) m2
      have z := K (kh_up E k ot) w' t' (upd fw (A k) (nI ot)) (ot + (fl k + 1)) ⟨C', fun j j1 j2 => ?_, fun j j1 j2 => ?_, fun j hj => ?_⟩ X' (by rw [kh_up_s]; omega)
      · rw [kh_up_s] at z
        rw [pk_us]
        exact z
      · have hyj := hy j j1 j2
        exact kh_Ob_same (Y j j1 j2) (fun a a1 a2 => m1 a (by omega))
      · by_cases e : j = k
        · subst e
          rw [kh_up_s, pk_us]
          exact Or.inr ⟨by omega, rfl⟩
        · have := hD j k (by omega) hk e
          rw [kh_up_n e, pk_un (by omega)]
          exact F j j1 j2
      · rw [kh_up_n (fun e => by subst e; exact hj ⟨y1, y2⟩)]
        exact N j hj
    · rw [e2]
      exact br_t (kh_n0 e1) ⟨vp_in_nI hk (by decide), K E w t fw ot M kh_XT_refl e1⟩
  · have e := N k y
    have z := K E w t fw ot M kh_XT_refl (by omega)
    rw [e] at z
    exact br_t rfl z
theorem kh_promoteWord {post : SX → Prop} {k i : Nat} (hH : kh_MH kd fl A cp ob sc c0) (M : kh_MS kd fl sv fi ir A E w t fw ob sc ot c0 dn) (hk : E k < 208) (hi : i < fl k) (hd : ¬ dn (E k + 1 + i))
    (K : ∀ E' w' t' fw' ot', kh_MS kd fl sv fi ir A E' w' t' fw' ob sc ot' c0 (fun b => dn b ∨ b = E k + 1 + i) → kh_XT fl E E' ot ot' → post (nI cp, nI nu, nI po, nI ob, nI ot', nI yo, nI ex, nI se, co, fc, nI rc, dp, w', t', mk, fw', sk, rm, im, rx, fn)) : wpX_promoteWord post (nI cp, nI nu, nI po, nI ob, nI ot, nI yo, nI ex, nI se, co, fc, nI rc, dp, w, t, mk, fw, sk, rm, im, rx, fn) (nI (E k + 1 + i)) := by
  have hH' := hH
  obtain ⟨hP, hy, h96, hb, hr, hD, hV⟩ := hH'
  have M' := M
  obtain ⟨C, Y, F, N⟩ := M'
  have tp := kh_CS_top C hr
  obtain ⟨a1, a2, a3, a4, a5, a6⟩ := C.1 k hk
  have Fa := (a6 i hi).2 hd
  have c : E k + 1 + i < 208 := by omega
  unfold wpX_promoteWord
  refine kh_isRef c (fun z => ?_) (fun z => ?_)
  · obtain ⟨q, q1, q2, q3⟩ := kh_Fw_1 Fa z
    refine br_f kh_10 ⟨vp_in_nI c (by decide), ?_⟩
    rw [kh_cl c, q2]
    refine kh_promote hH M q3 (fun E' w' t' fw' ot' M2 X2 hq => ?_)
    obtain ⟨C2, Y2, F2, N2⟩ := M2
    have ek := X2.1 k hk
    have tp2 := kh_CS_top C2 hr
    have b := C2.1 k (by omega)
    rw [ek] at b
    obtain ⟨b1, b2, b3, b4, b5, b6⟩ := b
    have Fb := kh_Fw_ref ((b6 i hi).2 hd) q1
    refine ⟨vp_in_nI c (by decide), nm_e ?_⟩
    have C3 := kh_CS_word (w' := upd w' (E k + 1 + i) (nI (E' q))) (i := i) (k := k) C2 (by omega) hi (fun b hb' => pk_un (by rw [ek] at hb'; exact hb')) (by
      rw [ek]
      exact Or.inr (Or.inr ⟨q, q1, Fb.1, pk_us, hq⟩))
    rw [ek] at C3
    refine K E' (upd w' (E k + 1 + i) (nI (E' q))) t' fw' ot' ⟨C3, fun j j1 j2 => ?_, F2, N2⟩ X2
    have hyj := hy j j1 j2
    exact kh_Ob_same (Y2 j j1 j2) (fun a a1 a2 => ⟨pk_un (by omega), rfl⟩)
  · refine br_t rfl (K E w t fw ot ⟨?_, Y, F, N⟩ kh_XT_refl)
    exact kh_CS_word C hk hi (fun _ _ => rfl) (kh_Fw_n1 Fa z)
theorem kh_MS_congr {dn' : Nat → Prop} (M : kh_MS kd fl sv fi ir A E w t fw ob sc ot c0 dn) (h : ∀ k i, E k < 208 → i < fl k → (dn' (E k + 1 + i) ↔ dn (E k + 1 + i))) (hl : ∀ a, dn' a → a < ot) : kh_MS kd fl sv fi ir A E w t fw ob sc ot c0 dn' :=
  ⟨kh_CS_congr M.1 h hl, M.2⟩
end
end
section
/-! minor -/
theorem kh_R1_up {E E' : Nat → Nat} {g : Nat} {x : Int32} (h : ∀ q, E q < 208 → E' q = E q) (r : kh_R1 E g x) : kh_R1 E' g x := by
  rcases r with r | ⟨r1, r2, r3⟩
  · exact Or.inl r
  · exact Or.inr ⟨r1, by rw [h g r2]; exact r2, by rw [h g r2]; exact r3⟩
section
variable {cp nu po ob ot yo ex se rc : Nat} {co fc dp : Int32} {w t mk fw sk rm im rx fn : Nat → Int32} {kd fl sv A rg : Nat → Nat} {fi ir : Nat → Int32} {sc c0 : Nat}
theorem kh_mi28 {post : SX → Prop} (h : ∀ fw', (∀ a, 96 ≤ a → a < 112 → fw' a = -1) → ∃ m, wX_minor_54 post (nI ot) m 0 (nI cp) (nI nu) (nI po) (nI ob) (nI ot) (nI yo) (nI ex) (nI se) co fc (nI rc) dp w t mk fw' sk rm im rx fn) :
    ∀ (n x : Nat) (fw : Nat → Int32), 112 < n + x → 96 ≤ x → x ≤ 112 → (∀ a, 96 ≤ a → a < x → fw a = -1) → wX_minor_28 post (nI cp) (nI nu) (nI po) (nI ob) (nI ot) (nI yo) (nI ex) (nI se) co fc (nI rc) dp n (nI x) w t mk fw sk rm im rx fn := by
  intro n
  induction n with
  | zero => intro x fw h1 h2 h3; omega
  | succ n ih =>
    intro x fw h1 h2 h3 h4
    rw [wX_minor_28]
    refine pk_le 112 x (fun z => ?_) (fun z => ⟨vp_in_nI (by omega) (by decide), nm_r (e' := upd fw x (-1)) (by rw [kh_cl (by omega), kh_sm1]) (nm_r (nI_1 x) (ih (x + 1) _ (by omega) (by omega) (by omega) ?_))⟩)
    · exact h fw (fun a h5 h6 => h4 a h5 (by omega))
    · intro a h5 h6
      by_cases y : a = x
      · subst y; exact pk_us
      · rw [pk_un y]; exact h4 a h5 (by omega)
theorem kh_mi54 {post : SX → Prop} {dn : Nat → Prop} (hH : kh_MH kd fl A cp ob sc c0)
    (K : ∀ E w t fw ot rx, kh_MS kd fl sv fi ir A E w t fw ob sc ot c0 dn → kh_RG rg E rx → ∃ m, wX_minor_92 post (nI sc) m (nI cp) (nI nu) (nI po) (nI ob) (nI ot) (nI yo) (nI ex) (nI se) co fc (nI rc) dp w t mk fw sk rm im rx fn) :
    ∀ (n x : Nat) (E : Nat → Nat) (w t fw : Nat → Int32) (ot : Nat) (rx : Nat → Int32), 8 < n + x → x ≤ 8 → kh_MS kd fl sv fi ir A E w t fw ob sc ot c0 dn → (∀ r, r < x → kh_R1 E (rg r) (rx r)) → (∀ r, x ≤ r → r < 8 → kh_R1 A (rg r) (rx r)) → wX_minor_54 post (nI sc) n (nI x) (nI cp) (nI nu) (nI po) (nI ob) (nI ot) (nI yo) (nI ex) (nI se) co fc (nI rc) dp w t mk fw sk rm im rx fn := by
  intro n
  induction n with
  | zero => intro x E w t fw ot rx h1 h2; omega
  | succ n ih =>
    intro x E w t fw ot rx h1 h2 M h3 h4
    rw [wX_minor_54]
    refine pk_le 8 x (fun z => ?_) (fun z => ⟨vp_in_nI (by omega) (by decide), ?_⟩)
    · exact K E w t fw ot rx M (fun r hr => h3 r (by omega))
    · rw [kh_cl (show x < 208 by omega)]
      rcases h4 x (Nat.le_refl _) z with ⟨e1, e2⟩ | ⟨e1, e2, e3⟩
      · refine br_t (by rw [e2]; decide) (nm_r (nI_1 x) (ih (x + 1) E w t fw ot rx (by omega) (by omega) M (fun r h5 => ?_) (fun r h5 h6 => h4 r (by omega) h6)))
        by_cases y : r = x
        · subst y; exact Or.inl ⟨e1, e2⟩
        · exact h3 r (by omega)
      · rw [e3]
        refine br_f (kh_nn0 e2) ⟨vp_in_nI (by omega) (by decide), ?_⟩
        refine kh_promote hH M e2 (fun E' w' t' fw' ot' M2 X2 hq => ?_)
        refine ⟨vp_in_nI (by omega) (by decide), nm_r (e' := upd rx x (nI (E' (rg x)))) (by rw [kh_ns2 hq]) (nm_r (nI_1 x) (ih (x + 1) E' w' t' fw' ot' (upd rx x (nI (E' (rg x)))) (by omega) (by omega) M2 (fun r h5 => ?_) (fun r h5 h6 => ?_)))⟩
        · by_cases y : r = x
          · subst y; rw [pk_us]; exact Or.inr ⟨e1, hq, rfl⟩
          · rw [pk_un y]; exact kh_R1_up X2.1 (h3 r (by omega))
        · rw [pk_un (by omega)]; exact h4 r (by omega) h6
theorem kh_mi92 {post : SX → Prop} (hH : kh_MH kd fl A cp ob sc c0)
    (K : ∀ E w t fw ot im, (∀ a, a < 208 → im a = 0) → kh_MS kd fl sv fi ir A E w t fw ob sc ot c0 (fun b => b < sc) → kh_RG rg E rx → ∃ m, wX_minor_134 post (nI sc) m 96 (nI cp) (nI nu) (nI po) (nI ob) (nI ot) (nI yo) (nI ex) (nI se) co fc (nI 0) dp w t mk fw sk rm im rx fn) :
    ∀ (n rc : Nat) (E : Nat → Nat) (w t fw : Nat → Int32) (ot : Nat) (im : Nat → Int32), rc < n → kh_RS rm im rc → (∀ a, a < 208 → im a ≠ 0 → a < sc ∧ ∃ k i, A k < 208 ∧ ¬ (96 ≤ A k ∧ A k < 112) ∧ i < fl k ∧ a = A k + 1 + i) → kh_MS kd fl sv fi ir A E w t fw ob sc ot c0 (fun b => b < sc ∧ im b = 0) → kh_RG rg E rx → wX_minor_92 post (nI sc) n (nI cp) (nI nu) (nI po) (nI ob) (nI ot) (nI yo) (nI ex) (nI se) co fc (nI rc) dp w t mk fw sk rm im rx fn := by
  intro n
  induction n with
  | zero => intro rc E w t fw ot im h; omega
  | succ n ih =>
    intro rc E w t fw ot im h hS hA M R
    have tp := kh_CS_top M.1 hH.2.2.2.2.1
    have l2 := kh_Sg_le M.1.2.2.2.1
    have h96 := hH.2.2.1
    have hb := hH.2.2.2.1
    rw [wX_minor_92]
    cases rc with
    | zero =>
      have z := kh_RS_0 hS
      refine br_t (by decide) (K E w t fw ot im z (kh_MS_congr M (fun k i k1 k2 => ⟨fun a => ⟨a, z _ (by omega)⟩, fun a => a.1⟩) (fun a ha => by omega)) R)
    | succ rc =>
      obtain ⟨r1, a, a1, a2, a3, a4⟩ := kh_RS_pop hS
      obtain ⟨b1, k, i, b2, b3, b4, b5⟩ := hA a a1 a3
      have e : nI (rc + 1) - 1 = nI rc := nI_pred rc
      have ek := M.2.2.2 k b3
      have ea : a = E k + 1 + i := by rw [ek]; exact b5
      subst ea
      try dsimp only
      rw [e, kh_cl r1]
      refine br_f (nI_nle (by omega) (by omega)) (nm_e ⟨vp_in_nI r1 (by decide), nm_r a2 ⟨vp_in_nI a1 (by decide), nm_r (e' := upd im (E k + 1 + i) 0) (by rw [kh_cl a1, kh_bo0]) ?_⟩⟩)
      refine kh_promoteWord hH M (by omega) b4 (fun z => a3 z.2) (fun E' w' t' fw' ot' M2 X2 => ?_)
      refine ih rc E' w' t' fw' ot' (upd im (E k + 1 + i) 0) (by omega) a4 (fun c c1 c2 => ?_) (kh_MS_congr M2 (fun j x j1 j2 => ?_) (fun c hc => by have := X2.2.1; omega)) (fun r hr => kh_R1_up X2.1 (R r hr))
      · by_cases z : c = E k + 1 + i
        · rw [z, pk_us] at c2; exact absurd rfl c2
        · rw [pk_un z] at c2; exact hA c c1 c2
      · by_cases z : E' j + 1 + x = E k + 1 + i
        · rw [z, pk_us]
          exact ⟨fun _ => Or.inr rfl, fun _ => ⟨b1, rfl⟩⟩
        · rw [pk_un z]
          exact ⟨fun y => Or.inl y, fun y => y.resolve_right z⟩
theorem kh_mi134 {post : SX → Prop} {dn : Nat → Prop} (hH : kh_MH kd fl A cp ob sc c0) (hy : yo ≤ 15)
    (K : ∀ E w t fw ot, kh_MS kd fl sv fi ir A E w t fw ob sc ot c0 dn → kh_RG rg E rx → (∀ k, 96 ≤ A k → A k < 96 + yo → kd k = 1 → E k < 208) → ∃ m, wX_minor_173 post m (nI sc) (nI cp) (nI nu) (nI po) (nI ob) (nI ot) (nI yo) (nI ex) (nI se) co fc (nI rc) dp w t mk fw sk rm im rx fn) :
    ∀ (n o : Nat) (E : Nat → Nat) (w t fw : Nat → Int32) (ot : Nat), 96 + yo < n + o → 96 ≤ o → kh_Sg (kh_BO fl A) o (96 + yo) → kh_MS kd fl sv fi ir A E w t fw ob sc ot c0 dn → kh_RG rg E rx → (∀ k, 96 ≤ A k → A k < o → kd k = 1 → E k < 208) → wX_minor_134 post (nI sc) n (nI o) (nI cp) (nI nu) (nI po) (nI ob) (nI ot) (nI yo) (nI ex) (nI se) co fc (nI rc) dp w t mk fw sk rm im rx fn := by
  intro n
  induction n with
  | zero => intro o E w t fw ot h1 h2 h3; have := kh_Sg_le h3; omega
  | succ n ih =>
    intro o E w t fw ot h1 h2 h3 M R h5
    rw [wX_minor_134]
    rcases kh_Sg_cases h3 with e | ⟨s, s0, ⟨k, k1, k2, k3⟩, hS⟩
    · subst e
      exact pk_le (96 + yo) (96 + yo) (fun _ => K E w t fw ot M R h5) (fun z => by omega) (nI_add 96 yo)
    · have l := kh_Sg_le hS
      subst k2 k3
      have hV := hH.2.2.2.2.2.2 k
      have hD := hH.2.2.2.2.2.1
      have kO := M.2.1 k h2 (by omega)
      refine pk_le (96 + yo) (A k) (fun z => by omega) (fun _ => ?_) (nI_add 96 yo)
      refine kh_kind k1 kO.2.1 hV.1 hV.2 ?_
      refine pk_eq (kd k) 1 (fun z => ?_) (fun z => ?_)
      · refine kh_promote hH M k1 (fun E' w' t' fw' ot' M2 X2 hq => ?_)
        have kO' := M2.2.1 k h2 (by omega)
        refine kh_fields k1 kO'.2.1 hV.1 hV.2 (nm_r (e' := nI (A k + (fl k + 1))) (by rw [nI_1, nI_add]) (ih (A k + (fl k + 1)) E' w' t' fw' ot' (by omega) (by omega) hS M2 (fun r hr => kh_R1_up X2.1 (R r hr)) (fun j j1 j2 j3 => ?_)))
        by_cases e : j = k
        · subst e; exact hq
        · have := hD j k (by omega) k1 e
          have y := h5 j j1 (by omega) j3
          rw [X2.1 j y]; exact y
      · refine kh_fields k1 kO.2.1 hV.1 hV.2 (nm_r (e' := nI (A k + (fl k + 1))) (by rw [nI_1, nI_add]) (ih (A k + (fl k + 1)) E w t fw ot (by omega) (by omega) hS M R (fun j j1 j2 j3 => ?_)))
        by_cases e : j = k
        · subst e; exact absurd j3 z
        · have := hD j k (by omega) k1 e
          exact h5 j j1 (by omega) j3
theorem kh_mi190 {post : SX → Prop} {J : Int32 → Int32 → Int32 → Int32 → Int32 → Int32 → Int32 → Int32 → Int32 → Int32 → Int32 → Int32 → Int32 → (Nat → Int32) → (Nat → Int32) → (Nat → Int32) → (Nat → Int32) → (Nat → Int32) → (Nat → Int32) → (Nat → Int32) → (Nat → Int32) → (Nat → Int32) → Prop}
    {E0 : Nat → Nat} {ot0 k p : Nat} (hH : kh_MH kd fl A cp ob sc c0)
    (K : ∀ E w t fw ot, kh_MS kd fl sv fi ir A E w t fw ob sc ot c0 (fun b => b < p + (fl k + 1)) → kh_XT fl E0 E ot0 ot → J (nI (p + (fl k + 1))) (nI cp) (nI nu) (nI po) (nI ob) (nI ot) (nI yo) (nI ex) (nI se) co fc (nI rc) dp w t mk fw sk rm im rx fn) :
    ∀ (n x : Nat) (E : Nat → Nat) (w t fw : Nat → Int32) (ot : Nat), fl k + 1 < n + x → 1 ≤ x → x ≤ fl k + 1 → E k = p → p < 208 → kh_MS kd fl sv fi ir A E w t fw ob sc ot c0 (fun b => b < p + x) → kh_XT fl E0 E ot0 ot → wX_minor_190 post J (nI p) (nI (fl k)) n (nI x) (nI cp) (nI nu) (nI po) (nI ob) (nI ot) (nI yo) (nI ex) (nI se) co fc (nI rc) dp w t mk fw sk rm im rx fn := by
  intro n
  induction n with
  | zero => intro x E w t fw ot h1 h2; omega
  | succ n ih =>
    intro x E w t fw ot h1 h2 h3 hk hp M X
    rw [wX_minor_190]
    have hV := hH.2.2.2.2.2.2 k
    by_cases e : x = fl k + 1
    · subst e
      exact br_t (nI_lt (by omega) (by omega)) (nm_r (e' := nI (p + (fl k + 1))) (by rw [nI_1, nI_add]) (K E w t fw ot M X))
    · refine br_f (nI_nlt (by omega) (by omega)) ?_
      have ea : nI p + nI x = nI (E k + 1 + (x - 1)) := by rw [nI_add, hk]; exact congrArg nI (by omega)
      rw [ea]
      refine kh_promoteWord hH M (by omega) (by omega) (by omega) (fun E' w' t' fw' ot' M2 X2 => ?_)
      have ek := X2.1 k (by omega)
      have w1 := (M.1.1 k (by omega)).2.2.1
      refine nm_r (nI_1 x) (ih (x + 1) E' w' t' fw' ot' (by omega) (by omega) (by omega) (by omega) hp (kh_MS_congr M2 (fun j i j1 j2 => ?_) (fun c hc => ?_)) (kh_XT_trans X X2))
      · omega
      · have := X2.2.1
        omega
theorem kh_mi173 {post : SX → Prop} {E1 : Nat → Nat} {ot1 : Nat} (hH : kh_MH kd fl A cp ob sc c0)
    (K : ∀ E w t fw ot, kh_MS kd fl sv fi ir A E w t fw ob sc ot c0 (fun b => b < ot) → kh_XT fl E1 E ot1 ot → post (nI cp, nI nu, nI po, nI ob, nI ot, nI 0, nI ex, nI se, co, fc, nI rc, dp, w, t, mk, fw, sk, rm, im, rx, fn)) :
    ∀ (n p : Nat) (E : Nat → Nat) (w t fw : Nat → Int32) (ot : Nat), ob + cp < n + p → kh_Sg (kh_BO fl E) p ot → kh_MS kd fl sv fi ir A E w t fw ob sc ot c0 (fun b => b < p) → kh_XT fl E1 E ot1 ot → wX_minor_173 post n (nI p) (nI cp) (nI nu) (nI po) (nI ob) (nI ot) (nI yo) (nI ex) (nI se) co fc (nI rc) dp w t mk fw sk rm im rx fn := by
  intro n
  induction n with
  | zero =>
    intro p E w t fw ot h1 h2 M X
    have tp := kh_CS_top M.1 hH.2.2.2.2.1
    have := kh_Sg_le h2
    omega
  | succ n ih =>
    intro p E w t fw ot h1 h2 M X
    have tp := kh_CS_top M.1 hH.2.2.2.2.1
    have h96 := hH.2.2.1
    have hb := hH.2.2.2.1
    rw [wX_minor_173]
    rcases kh_Sg_cases h2 with e | ⟨s, s0, ⟨k, k1, k2, k3⟩, hS⟩
    · subst e
      exact br_t (nI_le (Nat.le_refl _) (by omega)) (K E w t fw p M X)
    · have l := kh_Sg_le hS
      subst k3
      have hV := hH.2.2.2.2.2.2 k
      have ck := M.1.1 k k1
      refine br_f (nI_ge (by omega) (by omega)) ?_
      refine kh_fields (by omega) (by rw [← k2]; exact ck.2.2.2.2.1) hV.1 hV.2 ⟨fl k + 1, ?_⟩
      refine kh_mi190 (E0 := E) (ot0 := ot) (sc := sc) (k := k) hH (fun E' w' t' fw' ot' M2 X2 => ?_) (fl k + 1) 1 E w t fw ot (by omega) (by omega) (by omega) k2 (by omega) (kh_MS_congr M (fun j i j1 j2 => ?_) (fun c hc => by omega)) kh_XT_refl
      · exact ih (p + (fl k + 1)) E' w' t' fw' ot' (by omega) (X2.2.2.1 _ hS) M2 (kh_XT_trans X X2)
      · by_cases e : j = k
        · subst e; omega
        · have := M.1.2.1 j k j1 k1 e
          omega
end
end
section
/-! minor: the whole -/
def kh_E0 (A : Nat → Nat) : Nat → Nat := fun k => if 96 ≤ A k ∧ A k < 112 then 208 else A k
theorem kh_E0_pl {A : Nat → Nat} {k : Nat} (h : kh_E0 A k < 208) : ¬ (96 ≤ A k ∧ A k < 112) ∧ kh_E0 A k = A k := by
  unfold kh_E0 at h ⊢
  by_cases c : 96 ≤ A k ∧ A k < 112
  · rw [if_pos c] at h; omega
  · exact ⟨c, if_neg c⟩
section
variable {cp nu po ob ot yo ex se rc : Nat} {co fc dp : Int32} {w t mk fw sk rm im rx fn : Nat → Int32} {kd fl sv A rg : Nat → Nat} {fi ir : Nat → Int32}
theorem kh_miCore {post : SX → Prop} (hG : kh_Ge cp ob ot yo) (hV : ∀ k, kd k ≤ 2 ∧ fl k ≤ 6) (X : kh_XI kd fl sv fi ir rg A w t rm im rx ob ot yo rc) (hr : ot + yo ≤ ob + cp)
    (K : ∀ A' w' t' fw' im' rx' ot', kh_HP kd fl sv fi ir A' w' t' ob ot' 0 → kh_RG rg A' rx' → (∀ a, a < 208 → im' a = 0) → (∀ k, A' k < 208 → A k < 208) → (∀ k, A k < 208 → kd k = 1 → A' k < 208) → kh_Ge cp ob ot' 0 → post (nI cp, nI nu, nI po, nI ob, nI ot', nI 0, nI ex, nI se, co, fc, nI 0, dp, w', t', mk, fw', sk, rm, im', rx', fn)) :
    ∃ m, wX_minor_28 post (nI cp) (nI nu) (nI po) (nI ob) (nI ot) (nI yo) (nI ex) (nI se) co fc (nI rc) dp m 96 w t mk fw sk rm im rx fn := by
  obtain ⟨H, hR, hS, hM⟩ := X
  have H' := H
  obtain ⟨p1, p2, p3, p4, p5, p6⟩ := H'
  have hG' := hG
  obtain ⟨g1, g2, g3, g4, g5⟩ := hG'
  have yk := kh_KS_BO (ob := 96) (mk := fun _ => 1) p1 p4 (by omega) (fun k _ _ => kh_10) p6 (Nat.le_refl _)
  rw [kh_KS_0] at yk
  have le : kh_pw fl A ≤ kh_pw fl (kh_E0 A) + kh_KS fl A (fun _ => 1) 96 (96 + yo) := by
    unfold kh_KS kh_pw
    rw [← kh_sm_add]
    refine kh_sm_le fun k _ => ?_
    by_cases c : A k < 208
    · rw [if_pos c]
      by_cases c2 : 96 ≤ A k ∧ A k < 112
      · have := p3 k c
        rw [if_pos (show 96 ≤ A k ∧ A k < 96 + yo ∧ ¬ (1 : Int32) = 0 from ⟨c2.1, by omega, kh_10⟩)]; omega
      · have e : kh_E0 A k = A k := if_neg c2
        rw [e, if_pos c]; omega
    · rw [if_neg c]; exact Nat.zero_le _
  have hH : kh_MH kd fl A cp ob ot (kh_pw fl (kh_E0 A)) := ⟨p1, fun k k1 k2 => by have := p3 k (by omega); omega, g1, g2, by omega, p4, hV⟩
  have CS0 : kh_CS kd fl sv fi ir A (kh_E0 A) w t ob ot ot (kh_pw fl (kh_E0 A)) (fun b => b < ot ∧ im b = 0) := by
    refine ⟨fun k hk => ?_, fun k j hk hj hn => ?_, ?_, kh_Sg_nil, rfl, fun a ha => ha.1⟩
    · obtain ⟨e1, e2⟩ := kh_E0_pl hk
      rw [e2] at hk ⊢
      have e3 := p3 k hk
      have O := p2 k hk
      refine ⟨hk, by omega, by omega, O.1, O.2.1, fun i hi => ⟨fun hd => ?_, fun _ => O.2.2 i hi⟩⟩
      rcases O.2.2 i hi with z | z | ⟨q, z1, z2, z3, z4⟩
      · exact Or.inl z
      · exact Or.inr (Or.inl z)
      · have nq : ¬ (96 ≤ A q ∧ A q < 112) := fun y => hM.2 k i q hk e1 hi z1 y.1 y.2 hd.2
        have e : kh_E0 A q = A q := if_neg nq
        exact Or.inr (Or.inr ⟨q, z1, z2, by rw [e]; exact z3, by rw [e]; exact z4⟩)
    · obtain ⟨e1, e2⟩ := kh_E0_pl hk
      obtain ⟨e3, e4⟩ := kh_E0_pl hj
      rw [e2] at hk ⊢
      rw [e4] at hj ⊢
      exact p4 k j hk hj hn
    · refine kh_Sg_mono (fun o s o1 o2 o3 hb => ?_) p5
      rcases hb with ⟨k, k1, k2, k3⟩ | ⟨f1, f2, f3⟩
      · have e : kh_E0 A k = A k := if_neg (by omega)
        exact Or.inl ⟨k, by omega, by omega, k3⟩
      · refine Or.inr ⟨f1, f2, fun k hk => ?_⟩
        obtain ⟨e1, e2⟩ := kh_E0_pl hk
        rw [e2] at hk ⊢
        exact f3 k hk
  refine ⟨113, kh_mi28 (fun fw1 hf => ?_) 113 96 fw (by omega) (by omega) (by omega) (fun a a1 a2 => by omega)⟩
  have M0 : kh_MS kd fl sv fi ir A (kh_E0 A) w t fw1 ob ot ot (kh_pw fl (kh_E0 A)) (fun b => b < ot ∧ im b = 0) :=
    ⟨CS0, fun k k1 k2 => p2 k (by omega), fun k k1 k2 => Or.inl ⟨if_pos ⟨k1, k2⟩, hf _ k1 k2⟩, fun k hk => if_neg hk⟩
  refine ⟨9, kh_mi54 (rg := rg) hH (fun E2 w2 t2 fw2 ot2 rx2 M2 R2 => ?_) 9 0 (kh_E0 A) w t fw1 ot rx (by omega) (by omega) M0 (fun r r1 => by omega) (fun r _ r2 => hR r r2)⟩
  refine ⟨rc + 1, kh_mi92 (rg := rg) hH (fun E3 w3 t3 fw3 ot3 im3 i3 M3 R3 => ?_) (rc + 1) rc E2 w2 t2 fw2 ot2 im (by omega) hS (fun a a1 a2 => ?_) M2 R2⟩
  rotate_left
  · obtain ⟨k, i, b1, b2, b3, b4⟩ := hM.1 a a1 a2
    have := p3 k b1
    exact ⟨by omega, k, i, b1, b2, b3, b4⟩
  refine ⟨113, kh_mi134 (rg := rg) (rc := 0) hH g5 (fun E4 w4 t4 fw4 ot4 M4 R4 k4 => ?_) 113 96 E3 w3 t3 fw3 ot3 (by omega) (by omega) p6 M3 R3 (fun k k1 k2 => by omega)⟩
  refine ⟨ob + cp + 1, kh_mi173 (rc := 0) (E1 := E4) (ot1 := ot4) hH (fun E5 w5 t5 fw5 ot5 M5 X5 => ?_) (ob + cp + 1) ot E4 w4 t4 fw4 ot4 (by omega) M4.1.2.2.2.1 M4 kh_XT_refl⟩
  obtain ⟨⟨c1, c2, c3, c4, c5, c6⟩, Y5, F5, N5⟩ := M5
  have tp := kh_CS_top (A := A) (E := E5) (kd := kd) (sv := sv) (fi := fi) (ir := ir) ⟨c1, c2, c3, c4, c5, c6⟩ hH.2.2.2.2.1
  have l2 := kh_Sg_le c4
  refine K E5 w5 t5 fw5 im3 rx2 ot5 ⟨fun k hk => p1 k (c1 k hk).1, fun k hk => ?_, fun k hk => Or.inl ⟨(c1 k hk).2.1, (c1 k hk).2.2.1⟩, c2, ?_, kh_Sg_nil⟩ (fun r hr => kh_R1_up X5.1 (R4 r hr)) i3 (fun k hk => (c1 k hk).1) (fun k k1 k2 => ?_) ⟨g1, g2, by omega, tp, by omega⟩
  · obtain ⟨a1, a2, a3, a4, a5, a6⟩ := c1 k hk
    exact ⟨a4, a5, fun i hi => (a6 i hi).1 (by omega)⟩
  · exact kh_Sg_app c3 (kh_Sg_mono (fun o s _ _ _ hb => Or.inl hb) c4)
  · by_cases y : 96 ≤ A k ∧ A k < 112
    · have := p3 k k1
      have z := k4 k y.1 (by omega) k2
      rw [X5.1 k z]; exact z
    · rw [N5 k y]; exact k1
theorem kh_minor {post : SX → Prop} (hG : kh_Ge cp ob ot yo) (hV : ∀ k, kd k ≤ 2 ∧ fl k ≤ 6) (X : kh_XI kd fl sv fi ir rg A w t rm im rx ob ot yo rc) (hc : kh_pw fl A ≤ cp)
    (K : ∀ A' w' t' mk' fw' rm' im' rx' ot', kh_HP kd fl sv fi ir A' w' t' ob ot' 0 → kh_RG rg A' rx' → (∀ a, a < 208 → im' a = 0) → (∀ k, A' k < 208 → A k < 208) → (∀ k, A k < 208 → kd k = 1 → A' k < 208) → kh_Ge cp ob ot' 0 → post (nI cp, nI nu, nI po, nI ob, nI ot', nI 0, nI ex, nI se, co, fc, nI 0, dp, w', t', mk', fw', sk, rm', im', rx', fn)) :
    wpX_minor post (nI cp, nI nu, nI po, nI ob, nI ot, nI yo, nI ex, nI se, co, fc, nI rc, dp, w, t, mk, fw, sk, rm, im, rx, fn) := by
  have hG' := hG
  obtain ⟨g1, g2, g3, g4, g5⟩ := hG'
  unfold wpX_minor
  refine pk_le (ot + yo) (ob + cp) (fun z => ?_) (fun z => ?_) (nI_add _ _) (nI_add _ _)
  · exact kh_miCore hG hV X z (fun A' w' t' fw' im' rx' ot' a b c d e f => K A' w' t' mk fw' rm im' rx' ot' a b c d e f)
  · refine kh_compact (rg := rg) hG hV X (fun A1 w1 t1 mk1 fw1 rm1 im1 rc1 rx1 ot1 X1 a1 o1 o2 o3 => ?_)
    exact kh_miCore (A := A1) (rg := rg) ⟨g1, g2, by omega, by omega, g5⟩ hV X1 (by omega) (fun A' w' t' fw' im' rx' ot' a b c d e f => K A' w' t' mk1 fw' rm1 im' rx' ot' a b c (fun k hk => (a1 k).mp (d k hk)) (fun k k1 k2 => e k ((a1 k).mpr k1) k2) f)
end
end
section
/-! what is reachable -/
def kh_Rch (rg kd fl : Nat → Nat) (fi ir : Nat → Int32) (k : Nat) : Prop :=
  ∀ S : Nat → Prop, (∀ r, r < 8 → 0 < rg r → S (rg r)) → (∀ k i q, S k → kd k ≠ 2 → i < fl k → kh_Rf fi ir (6 * k + i) q → S q) → S k
theorem kh_Rch_root {rg kd fl : Nat → Nat} {fi ir : Nat → Int32} {r : Nat} (h : r < 8) (h0 : 0 < rg r) : kh_Rch rg kd fl fi ir (rg r) := fun _ a _ => a r h h0
theorem kh_Rch_step {rg kd fl : Nat → Nat} {fi ir : Nat → Int32} {k i q : Nat} (h : kh_Rch rg kd fl fi ir k) (h2 : kd k ≠ 2) (hi : i < fl k) (hr : kh_Rf fi ir (6 * k + i) q) : kh_Rch rg kd fl fi ir q := fun S a b => b k i q (h S a b) h2 hi hr
noncomputable def kh_ci (P : Prop) (a : Nat) : Nat := @ite Nat P (Classical.propDecidable P) a 0
theorem kh_ci_t {P : Prop} {a : Nat} (h : P) : kh_ci P a = a := by unfold kh_ci; rw [if_pos h]
theorem kh_ci_f {P : Prop} {a : Nat} (h : ¬ P) : kh_ci P a = 0 := by unfold kh_ci; rw [if_neg h]
noncomputable def kh_cw (P : Nat → Prop) (fl : Nat → Nat) : Nat := kh_sm (fun k => kh_ci (P k) (fl k + 1)) 97
theorem kh_cw_eq {P : Nat → Prop} {fl g : Nat → Nat} (h : ∀ k, k < 97 → P k → g k = fl k + 1) (h' : ∀ k, k < 97 → ¬ P k → g k = 0) : kh_sm g 97 = kh_cw P fl := by
  refine kh_sm_eq fun k hk => ?_
  rcases Classical.em (P k) with c | c
  · rw [kh_ci_t c, h k hk c]
  · rw [kh_ci_f c, h' k hk c]
/-- the state of marking: bk the objects that are done, c the one at work, x its next field -/
def kh_MK (R : Nat → Prop) (kd fl : Nat → Nat) (fi ir : Nat → Int32) (A : Nat → Nat) (mk sk : Nat → Int32) (dd : Nat) (bk : Nat → Nat) (c x : Nat) : Prop :=
  (∀ a, a < 208 → mk a ≠ 0 → ∃ k, A k < 208 ∧ A k = a ∧ R k) ∧
  (∀ k, bk k ≤ 1) ∧ (∀ k, bk k = 1 → A k < 208 ∧ mk (A k) ≠ 0) ∧
  (∀ i, i < dd → ∃ k, A k < 208 ∧ sk i = nI (A k) ∧ mk (A k) ≠ 0 ∧ bk k = 0) ∧
  (∀ i j, i < dd → j < dd → sk i = sk j → i = j) ∧
  (∀ k, A k < 208 → mk (A k) ≠ 0 → bk k = 0 → ∃ i, i < dd ∧ sk i = nI (A k)) ∧
  dd + kh_sm bk 97 = kh_sm (fun k => if A k < 208 ∧ mk (A k) ≠ 0 then 1 else 0) 97 ∧
  (∀ k i q, bk k = 1 → kd k ≠ 2 → i < fl k → kh_Rf fi ir (6 * k + i) q → (k = c → i < x) → mk (A q) ≠ 0)
section
variable {R : Nat → Prop} {kd fl A bk : Nat → Nat} {fi ir mk sk : Nat → Int32} {dd c x : Nat}
theorem kh_MK_dd (M : kh_MK R kd fl fi ir A mk sk dd bk c x) : dd ≤ 97 := by
  have l : kh_sm (fun k => if A k < 208 ∧ mk (A k) ≠ 0 then 1 else 0) 97 ≤ 97 := kh_sm_1 (fun i _ => by by_cases z : A i < 208 ∧ mk (A i) ≠ 0 <;> simp [z])
  have := M.2.2.2.2.2.2.1
  omega
theorem kh_MK_push {q : Nat} (hP : kh_PV A) (hD : kh_Dj fl A) (M : kh_MK R kd fl fi ir A mk sk dd bk c x) (hq : A q < 208) (hR : R q) (h0 : mk (A q) = 0) : kh_MK R kd fl fi ir A (upd mk (A q) 1) (upd sk dd (nI (A q))) (dd + 1) bk c x := by
  obtain ⟨m1, m2, m3, m4, m5, m6, m7, m8⟩ := M
  have mono : ∀ a, mk a ≠ 0 → upd mk (A q) 1 a ≠ 0 := by
    intro a ha
    by_cases e : a = A q
    · rw [e, pk_us]; exact kh_10
    · rw [pk_un e]; exact ha
  have hb : bk q = 0 := by
    have := m2 q
    by_cases e : bk q = 1
    · exact absurd h0 (m3 q e).2
    · omega
  have ns : ∀ i, i < dd → sk i ≠ nI (A q) := by
    intro i hi e
    obtain ⟨k, k1, k2, k3, k4⟩ := m4 i hi
    have : A k = A q := kh_inj (by omega) (by omega) (k2.symm.trans e)
    rw [this] at k3
    exact k3 h0
  refine ⟨fun a a1 a2 => ?_, m2, fun k hk => ⟨(m3 k hk).1, mono _ (m3 k hk).2⟩, fun i hi => ?_, fun i j hi hj e => ?_, fun k k1 k2 k3 => ?_, ?_, fun k i q' k1 k2 k3 k4 k5 => mono _ (m8 k i q' k1 k2 k3 k4 k5)⟩
  · by_cases e : a = A q
    · exact ⟨q, hq, e.symm, hR⟩
    · rw [pk_un e] at a2; exact m1 a a1 a2
  · by_cases e : i = dd
    · subst e
      exact ⟨q, hq, pk_us, by rw [pk_us]; exact kh_10, hb⟩
    · obtain ⟨k, k1, k2, k3, k4⟩ := m4 i (by omega)
      exact ⟨k, k1, by rw [pk_un e]; exact k2, mono _ k3, k4⟩
  · by_cases e1 : i = dd <;> by_cases e2 : j = dd
    · omega
    · subst e1
      rw [pk_us, pk_un e2] at e
      exact absurd e.symm (ns j (by omega))
    · subst e2
      rw [pk_us, pk_un e1] at e
      exact absurd e (ns i (by omega))
    · rw [pk_un e1, pk_un e2] at e
      exact m5 i j (by omega) (by omega) e
  · by_cases e : A k = A q
    · exact ⟨dd, by omega, by rw [pk_us, e]⟩
    · rw [pk_un e] at k2
      obtain ⟨i, i1, i2⟩ := m6 k k1 k2 k3
      exact ⟨i, by omega, by rw [pk_un (by omega)]; exact i2⟩
  · have s := kh_sm_pt (f := fun k => if A k < 208 ∧ upd mk (A q) 1 (A k) ≠ 0 then 1 else 0) (g := fun k => if A k < 208 ∧ mk (A k) ≠ 0 then 1 else 0) (n := 97) (hP q hq).2 (fun i _ hn => by
      by_cases z : A i < 208
      · have : A i ≠ A q := by have := hD i q z hq hn; omega
        simp only [pk_un this]
      · simp only [z, false_and])
    have f1 : (if A q < 208 ∧ upd mk (A q) 1 (A q) ≠ 0 then 1 else 0) = 1 := if_pos ⟨hq, by rw [pk_us]; exact kh_10⟩
    have f2 : (if A q < 208 ∧ mk (A q) ≠ 0 then 1 else 0) = 0 := if_neg (fun y => y.2 h0)
    simp only [f1, f2] at s
    omega
theorem kh_MK_pop (hP : kh_PV A) (hD : kh_Dj fl A) (M : kh_MK R kd fl fi ir A mk sk (dd + 1) bk 0 0) : ∃ k, A k < 208 ∧ sk dd = nI (A k) ∧ R k ∧ bk k = 0 ∧ kh_MK R kd fl fi ir A mk sk dd (kh_up bk k 1) k 0 := by
  obtain ⟨m1, m2, m3, m4, m5, m6, m7, m8⟩ := M
  obtain ⟨k, k1, k2, k3, k4⟩ := m4 dd (by omega)
  obtain ⟨k', k5, k6, k7⟩ := m1 (A k) k1 k3
  have ek : k' = k := by
    by_cases e : k' = k
    · exact e
    · have := hD k' k k5 k1 e; omega
  subst ek
  refine ⟨k', k1, k2, k7, k4, m1, fun j => ?_, fun j hj => ?_, fun i hi => ?_, fun i j hi hj e => m5 i j (by omega) (by omega) e, fun j j1 j2 j3 => ?_, ?_, fun j i q j1 j2 j3 j4 j5 => ?_⟩
  · by_cases e : j = k'
    · rw [e, kh_up_s]; omega
    · rw [kh_up_n e]; exact m2 j
  · by_cases e : j = k'
    · subst e; exact ⟨k1, k3⟩
    · rw [kh_up_n e] at hj; exact m3 j hj
  · obtain ⟨j, j1, j2, j3, j4⟩ := m4 i (by omega)
    refine ⟨j, j1, j2, j3, ?_⟩
    rw [kh_up_n (fun e => ?_)]
    · exact j4
    · subst e
      have := m5 i dd (by omega) (by omega) (j2.trans k2.symm)
      omega
  · by_cases e : j = k'
    · rw [e, kh_up_s] at j3; omega
    · rw [kh_up_n e] at j3
      obtain ⟨i, i1, i2⟩ := m6 j j1 j2 j3
      refine ⟨i, ?_, i2⟩
      by_cases z : i = dd
      · subst z
        have : A j = A k' := kh_inj (by omega) (by omega) (i2.symm.trans k2)
        have := hD j k' j1 k1 e
        omega
      · omega
  · have s := kh_sm_pt (f := kh_up bk k' 1) (g := bk) (n := 97) (hP k' k1).2 (fun i _ hn => kh_up_n hn)
    rw [kh_up_s] at s
    omega
  · by_cases e : j = k'
    · have := j5 e; omega
    · rw [kh_up_n e] at j1
      exact m8 j i q j1 j2 j3 j4 (fun z => by
        have := m3 j j1
        have := hP j this.1
        omega)
/-- at the end -/
theorem kh_MK_end {rg : Nat → Nat} {w t rx : Nat → Int32} {sv : Nat → Nat} (hO : ∀ k, A k < 208 → kh_Ob kd fl sv fi ir A w t (A k) k) (hP : kh_PV A) (hD : kh_Dj fl A) (hR : kh_RG rg A rx) (M : kh_MK (kh_Rch rg kd fl fi ir) kd fl fi ir A mk sk 0 bk 0 0) (hr : ∀ r, r < 8 → 0 < rg r → mk (A (rg r)) ≠ 0) :
    (∀ k, kh_Rch rg kd fl fi ir k ↔ A k < 208 ∧ mk (A k) ≠ 0) ∧ (∀ k, bk k = 1 ↔ kh_Rch rg kd fl fi ir k) := by
  obtain ⟨m1, m2, m3, m4, m5, m6, m7, m8⟩ := M
  have blk : ∀ k, A k < 208 → mk (A k) ≠ 0 → bk k = 1 := by
    intro k k1 k2
    have := m2 k
    by_cases e : bk k = 0
    · obtain ⟨i, i1, _⟩ := m6 k k1 k2 e; omega
    · omega
  have fw : ∀ k, kh_Rch rg kd fl fi ir k → A k < 208 ∧ mk (A k) ≠ 0 := by
    intro k hk
    refine hk (fun k => A k < 208 ∧ mk (A k) ≠ 0) (fun r r1 r2 => ⟨?_, hr r r1 r2⟩) (fun k i q hk h2 hi hf => ⟨(kh_Fw_ref ((hO k hk.1).2.2 i hi) hf).2.2, m8 k i q (blk k hk.1 hk.2) h2 hi hf (fun z => ?_)⟩)
    · rcases hR r r1 with ⟨z, _⟩ | ⟨_, z, _⟩
      · omega
      · exact z
    · have := hP k hk.1; omega
  have bw : ∀ k, A k < 208 → mk (A k) ≠ 0 → kh_Rch rg kd fl fi ir k := by
    intro k k1 k2
    obtain ⟨j, j1, j2, j3⟩ := m1 (A k) k1 k2
    by_cases e : j = k
    · subst e; exact j3
    · have := hD j k j1 k1 e; omega
  exact ⟨fun k => ⟨fw k, fun h => bw k h.1 h.2⟩, fun k => ⟨fun h => bw k (m3 k h).1 (m3 k h).2, fun h => blk k (fw k h).1 (fw k h).2⟩⟩
end
end
section
/-! mark: the walk -/
section
variable {cp nu po ob ot yo ex se rc : Nat} {co fc dp : Int32} {w t mk fw sk rm im rx fn : Nat → Int32} {kd fl sv A rg : Nat → Nat} {fi ir : Nat → Int32} {R : Nat → Prop}
theorem kh_visit {post : SX → Prop} {q dd c x : Nat} {bk : Nat → Nat} (hP : kh_PV A) (hD : kh_Dj fl A) (M : kh_MK R kd fl fi ir A mk sk dd bk c x) (hq : A q < 208) (hR : R q)
    (K : ∀ mk' sk' dd', kh_MK R kd fl fi ir A mk' sk' dd' bk c x → mk' (A q) ≠ 0 → (∀ a, mk a ≠ 0 → mk' a ≠ 0) → post (nI cp, nI nu, nI po, nI ob, nI ot, nI yo, nI ex, nI se, co, fc, nI rc, nI dd', w, t, mk', fw, sk', rm, im, rx, fn)) : wpX_visit post (nI cp, nI nu, nI po, nI ob, nI ot, nI yo, nI ex, nI se, co, fc, nI rc, nI dd, w, t, mk, fw, sk, rm, im, rx, fn) (nI (A q)) := by
  unfold wpX_visit
  have l := kh_MK_dd M
  refine br_f (kh_nn0 hq) ⟨vp_in_nI hq (by decide), ?_⟩
  rw [kh_cl hq]
  refine br_c (fun z => ⟨vp_in_nI hq (by decide), nm_e (nm_r (nI_1 dd) ⟨vp_in_nI (by omega) (by decide), nm_r (e' := upd sk dd (nI (A q))) (by rw [nI_clamp (by omega), kh_ns2 hq]) ?_⟩)⟩) (fun z => K mk sk dd M z (fun _ h => h))
  refine K (upd mk (A q) 1) _ _ (kh_MK_push hP hD M hq hR z) (by rw [pk_us]; exact kh_10) (fun a ha => ?_)
  by_cases e : a = A q
  · rw [e, pk_us]; exact kh_10
  · rw [pk_un e]; exact ha
theorem kh_mk2 {post : Int32 → SX → Prop} (h : ∀ mk', (∀ a, a < 208 → mk' a = 0) → ∃ m, wX_mark_31 post 0 m 0 (nI cp) (nI nu) (nI po) (nI ob) (nI ot) (nI yo) (nI ex) (nI se) co fc (nI rc) (nI 0) w t mk' fw sk rm im rx fn) :
    ∀ (n x : Nat) (mk : Nat → Int32), 208 < n + x → x ≤ 208 → (∀ a, a < x → mk a = 0) → wX_mark_2 post (nI cp) (nI nu) (nI po) (nI ob) (nI ot) (nI yo) (nI ex) (nI se) co fc (nI rc) dp n (nI x) w t mk fw sk rm im rx fn := by
  intro n
  induction n with
  | zero => intro x mk h1 h2; omega
  | succ n ih =>
    intro x mk h1 h2 h3
    rw [wX_mark_2]
    refine pk_le 208 x (fun z => ?_) (fun z => ⟨vp_in_nI z (by decide), nm_r (e' := upd mk x 0) (by rw [kh_cl z, kh_bo0]) (nm_r (nI_1 x) (ih (x + 1) _ (by omega) (by omega) ?_))⟩)
    · exact h mk (fun a h5 => h3 a (by omega))
    · intro a h5
      by_cases y : a = x
      · subst y; exact pk_us
      · rw [pk_un y]; exact h3 a (by omega)
theorem kh_mk31 {post : Int32 → SX → Prop} {bk : Nat → Nat} {x1 : Int32} (hP : kh_PV A) (hD : kh_Dj fl A) (hG : kh_RG rg A rx) (hR : ∀ r, r < 8 → 0 < rg r → R (rg r))
    (h : ∀ mk sk dd, kh_MK R kd fl fi ir A mk sk dd bk 0 0 → (∀ r, r < 8 → 0 < rg r → mk (A (rg r)) ≠ 0) → ∃ m, wX_mark_53 post m x1 (nI cp) (nI nu) (nI po) (nI ob) (nI ot) (nI yo) (nI ex) (nI se) co fc (nI rc) (nI dd) w t mk fw sk rm im rx fn) :
    ∀ (n x : Nat) (mk sk : Nat → Int32) (dd : Nat), 8 < n + x → x ≤ 8 → kh_MK R kd fl fi ir A mk sk dd bk 0 0 → (∀ r, r < x → 0 < rg r → mk (A (rg r)) ≠ 0) → wX_mark_31 post x1 n (nI x) (nI cp) (nI nu) (nI po) (nI ob) (nI ot) (nI yo) (nI ex) (nI se) co fc (nI rc) (nI dd) w t mk fw sk rm im rx fn := by
  intro n
  induction n with
  | zero => intro x mk sk dd h1 h2; omega
  | succ n ih =>
    intro x mk sk dd h1 h2 M h3
    rw [wX_mark_31]
    refine pk_le 8 x (fun z => ?_) (fun z => ⟨vp_in_nI (by omega) (by decide), ?_⟩)
    · exact h mk sk dd M (fun r r1 r2 => h3 r (by omega) r2)
    · rw [kh_cl (show x < 208 by omega)]
      rcases hG x z with ⟨e1, e2⟩ | ⟨e1, e2, e3⟩
      · rw [e2]
        refine br_t (by decide) (nm_r (nI_1 x) (ih (x + 1) mk sk dd (by omega) (by omega) M (fun r r1 r2 => ?_)))
        by_cases y : r = x
        · subst y; omega
        · exact h3 r (by omega) r2
      · rw [e3]
        refine kh_visit hP hD M e2 (hR x z e1) (fun mk' sk' dd' M2 q2 mo => ?_)
        refine nm_r (nI_1 x) (ih (x + 1) mk' sk' dd' (by omega) (by omega) M2 (fun r r1 r2 => ?_))
        by_cases y : r = x
        · subst y; exact q2
        · exact mo _ (h3 r (by omega) r2)
theorem kh_mk103 {post : Int32 → SX → Prop} {J : Int32 → Int32 → Int32 → Int32 → Int32 → Int32 → Int32 → Int32 → Int32 → Int32 → Int32 → Int32 → Int32 → (Nat → Int32) → (Nat → Int32) → (Nat → Int32) → (Nat → Int32) → (Nat → Int32) → (Nat → Int32) → (Nat → Int32) → (Nat → Int32) → (Nat → Int32) → Prop}
    {bk : Nat → Nat} {k : Nat} {x1 : Int32} {mk0 : Nat → Int32} (hP : kh_PV A) (hD : kh_Dj fl A) (hk : A k < 208) (hs : A k + fl k < 208) (hO : kh_Ob kd fl sv fi ir A w t (A k) k) (hR : ∀ i q, i < fl k → kh_Rf fi ir (6 * k + i) q → R q)
    (K : ∀ mk sk dd, kh_MK R kd fl fi ir A mk sk dd bk k (fl k) → (∀ a, mk0 a ≠ 0 → mk a ≠ 0) → J x1 (nI cp) (nI nu) (nI po) (nI ob) (nI ot) (nI yo) (nI ex) (nI se) co fc (nI rc) (nI dd) w t mk fw sk rm im rx fn) :
    ∀ (n x : Nat) (mk sk : Nat → Int32) (dd : Nat), fl k < n + x → x ≤ fl k → kh_MK R kd fl fi ir A mk sk dd bk k x → (∀ a, mk0 a ≠ 0 → mk a ≠ 0) → wX_mark_103 post J x1 (nI (A k)) (nI (fl k)) n (nI (A k + 1 + x)) (nI cp) (nI nu) (nI po) (nI ob) (nI ot) (nI yo) (nI ex) (nI se) co fc (nI rc) (nI dd) w t mk fw sk rm im rx fn := by
  intro n
  induction n with
  | zero => intro x mk sk dd h1 h2; omega
  | succ n ih =>
    intro x mk sk dd h1 h2 M mo
    rw [wX_mark_103]
    try dsimp only
    rw [nI_add (A k) (fl k)]
    by_cases e : x = fl k
    · subst e
      exact br_t (nI_lt (by omega) (by omega)) (K mk sk dd M mo)
    · have c : A k + 1 + x < 208 := by omega
      have F := hO.2.2 x (by omega)
      refine br_f (nI_nlt (by omega) (by omega)) ?_
      rw [kh_cl c]
      obtain ⟨m1, m2, m3, m4, m5, m6, m7, m8⟩ := M
      have nxt : ∀ (mk sk : Nat → Int32) (dd : Nat), kh_MK R kd fl fi ir A mk sk dd bk k x → (∀ q, kh_Rf fi ir (6 * k + x) q → mk (A q) ≠ 0) → kh_MK R kd fl fi ir A mk sk dd bk k (x + 1) := by
        rintro mk sk dd ⟨m1, m2, m3, m4, m5, m6, m7, m8⟩ hq
        refine ⟨m1, m2, m3, m4, m5, m6, m7, fun j i q j1 j2 j3 j4 j5 => ?_⟩
        by_cases z : j = k
        · subst z
          by_cases zi : i = x
          · subst zi; exact hq q j4
          · have := j5 rfl
            exact m8 j i q j1 j2 j3 j4 (fun _ => by omega)
        · exact m8 j i q j1 j2 j3 j4 (fun y => absurd y z)
      refine kh_isRef c (fun z => ?_) (fun z => ?_)
      · obtain ⟨q, q1, q2, q3⟩ := kh_Fw_1 F z
        refine br_f kh_10 ⟨vp_in_nI c (by decide), ?_⟩
        rw [q2]
        refine kh_visit hP hD ⟨m1, m2, m3, m4, m5, m6, m7, m8⟩ q3 (hR x q (by omega) q1) (fun mk' sk' dd' M2 v2 mo2 => ?_)
        refine nm_r (nI_1 _) (ih (x + 1) mk' sk' dd' (by omega) (by omega) (nxt mk' sk' dd' M2 (fun q' hq' => ?_)) (fun a ha => mo2 a (mo a ha)))
        have : nI (A q') = nI (A q) := (kh_Fw_ref F hq').2.1.symm.trans q2
        have := kh_inj (by have := (kh_Fw_ref F hq').2.2; omega) (by omega) this
        rw [this]; exact v2
      · refine br_t rfl (nm_r (nI_1 _) (ih (x + 1) mk sk dd (by omega) (by omega) (nxt mk sk dd ⟨m1, m2, m3, m4, m5, m6, m7, m8⟩ (fun q' hq' => ?_)) mo))
        exact absurd (kh_Fw_ref F hq').1 z
theorem kh_mk53 {post : Int32 → SX → Prop} {mk0 : Nat → Int32} (hP : kh_PV A) (hD : kh_Dj fl A) (hV : ∀ k, kd k ≤ 2 ∧ fl k ≤ 6) (hO : ∀ k, A k < 208 → kh_Ob kd fl sv fi ir A w t (A k) k) (hs : ∀ k, A k < 208 → A k + fl k < 208)
    (hR : ∀ k i q, R k → kd k ≠ 2 → i < fl k → kh_Rf fi ir (6 * k + i) q → R q)
    (K : ∀ mk sk bk, kh_MK R kd fl fi ir A mk sk 0 bk 0 0 → (∀ a, mk0 a ≠ 0 → mk a ≠ 0) → post (nI (kh_sm (fun k => if bk k = 0 then 0 else fl k + 1) 97)) (nI cp, nI nu, nI po, nI ob, nI ot, nI yo, nI ex, nI se, co, fc, nI rc, nI 0, w, t, mk, fw, sk, rm, im, rx, fn)) :
    ∀ (n : Nat) (mk sk : Nat → Int32) (dd : Nat) (bk : Nat → Nat), 97 < n + kh_sm bk 97 → kh_MK R kd fl fi ir A mk sk dd bk 0 0 → (∀ a, mk0 a ≠ 0 → mk a ≠ 0) → wX_mark_53 post n (nI (kh_sm (fun k => if bk k = 0 then 0 else fl k + 1) 97)) (nI cp) (nI nu) (nI po) (nI ob) (nI ot) (nI yo) (nI ex) (nI se) co fc (nI rc) (nI dd) w t mk fw sk rm im rx fn := by
  intro n
  induction n with
  | zero =>
    intro mk sk dd bk h1 M
    have := kh_sm_1 (f := bk) (n := 97) (fun i _ => M.2.1 i)
    omega
  | succ n ih =>
    intro mk sk dd bk h1 M mo
    have l := kh_MK_dd M
    rw [wX_mark_53]
    cases dd with
    | zero => exact br_t (by decide) (K mk sk bk M mo)
    | succ d =>
      obtain ⟨k, k1, k2, k3, k4, M2⟩ := kh_MK_pop hP hD M
      have e : nI (d + 1) - 1 = nI d := nI_pred d
      have s1 := kh_sm_pt (f := kh_up bk k 1) (g := bk) (n := 97) (hP k k1).2 (fun i _ hn => kh_up_n hn)
      have s2 := kh_sm_pt (f := fun j => if kh_up bk k 1 j = 0 then 0 else fl j + 1) (g := fun j => if bk j = 0 then 0 else fl j + 1) (n := 97) (hP k k1).2 (fun i _ hn => by simp only [kh_up_n hn])
      simp only [kh_up_s, k4, if_pos, if_neg (show ¬ (1 : Nat) = 0 by omega)] at s1 s2
      try dsimp only
      rw [e, nI_clamp (by omega), k2]
      have ft : ∀ (mk sk : Nat → Int32) (dd : Nat), kh_MK R kd fl fi ir A mk sk dd (kh_up bk k 1) k (fl k) → kh_MK R kd fl fi ir A mk sk dd (kh_up bk k 1) 0 0 := by
        rintro mk sk dd ⟨m1, m2, m3, m4, m5, m6, m7, m8⟩
        exact ⟨m1, m2, m3, m4, m5, m6, m7, fun j i q j1 j2 j3 j4 _ => m8 j i q j1 j2 j3 j4 (fun z => by subst z; exact j3)⟩
      refine br_f (nI_nle (by omega) (by omega)) (nm_e ⟨vp_in_nI (by omega) (by decide), nm_e ?_⟩)
      refine kh_fields k1 (hO k k1).2.1 (hV k).1 (hV k).2 ?_
      refine nm_r (e' := nI (kh_sm (fun j => if kh_up bk k 1 j = 0 then 0 else fl j + 1) 97)) (by rw [nI_1, nI_add]; exact congrArg nI (by omega)) ?_
      refine kh_kind k1 (hO k k1).2.1 (hV k).1 (hV k).2 ?_
      refine pk_eq (kd k) 2 (fun z => ?_) (fun z => ?_) rfl rfl (by have := hV k; omega)
      · refine ih mk sk d (kh_up bk k 1) (by omega) (ft mk sk d ?_) mo
        obtain ⟨m1, m2, m3, m4, m5, m6, m7, m8⟩ := M2
        refine ⟨m1, m2, m3, m4, m5, m6, m7, fun j i q j1 j2 j3 j4 j5 => m8 j i q j1 j2 j3 j4 (fun y => ?_)⟩
        subst y; exact absurd z j2
      · refine nm_r (nI_1 _) ⟨fl k + 1, ?_⟩
        refine kh_mk103 (mk0 := mk0) hP hD k1 (hs k k1) (hO k k1) (fun i q i1 i2 => hR k i q k3 z i1 i2) (fun mk' sk' dd' M3 mo3 => ?_) (fl k + 1) 0 mk sk d (by omega) (by omega) M2 mo
        exact ih mk' sk' dd' (kh_up bk k 1) (by omega) (ft mk' sk' dd' M3) mo3
theorem kh_mark {post : Int32 → SX → Prop} (hP : kh_PV A) (hD : kh_Dj fl A) (hV : ∀ k, kd k ≤ 2 ∧ fl k ≤ 6) (hO : ∀ k, A k < 208 → kh_Ob kd fl sv fi ir A w t (A k) k) (hs : ∀ k, A k < 208 → A k + fl k < 208) (hG : kh_RG rg A rx)
    (K : ∀ mk' sk', (∀ k, kh_Rch rg kd fl fi ir k ↔ A k < 208 ∧ mk' (A k) ≠ 0) → (∀ a, a < 208 → mk' a ≠ 0 → ∃ k, A k < 208 ∧ A k = a) → post (nI (kh_cw (kh_Rch rg kd fl fi ir) fl)) (nI cp, nI nu, nI po, nI ob, nI ot, nI yo, nI ex, nI se, co, fc, nI rc, nI 0, w, t, mk', fw, sk', rm, im, rx, fn)) : wpX_mark post (nI cp, nI nu, nI po, nI ob, nI ot, nI yo, nI ex, nI se, co, fc, nI rc, dp, w, t, mk, fw, sk, rm, im, rx, fn) := by
  refine ⟨209, kh_mk2 (fun mk1 h1 => ?_) 209 0 mk (by omega) (by omega) (fun a ha => by omega)⟩
  have z0 : kh_sm (fun k => if A k < 208 ∧ mk1 (A k) ≠ 0 then 1 else 0) 97 = 0 := kh_sm_0 (fun i _ => if_neg (fun y => y.2 (h1 _ y.1)))
  have z1 : kh_sm (fun _ => 0) 97 = 0 := kh_sm_0 (fun i _ => rfl)
  have M0 : kh_MK (kh_Rch rg kd fl fi ir) kd fl fi ir A mk1 sk 0 (fun _ => 0) 0 0 :=
    ⟨fun a a1 a2 => absurd (h1 a a1) a2, fun _ => Nat.zero_le _, fun k hk => absurd (show (0 : Nat) = 1 from hk) (by omega), fun i hi => by omega, fun i j hi => by omega, fun k k1 k2 _ => absurd (h1 _ k1) k2, by omega, fun k i q hk => absurd (show (0 : Nat) = 1 from hk) (by omega)⟩
  refine ⟨9, kh_mk31 (rg := rg) (R := kh_Rch rg kd fl fi ir) (bk := fun _ => 0) hP hD hG (fun r r1 r2 => kh_Rch_root r1 r2) (fun mk2 sk2 dd2 M2 r2 => ?_) 9 0 mk1 sk 0 (by omega) (by omega) M0 (fun r r1 => by omega)⟩
  have z2 : kh_sm (fun k => if (fun _ => 0 : Nat → Nat) k = 0 then 0 else fl k + 1) 97 = 0 := kh_sm_0 (fun i _ => if_pos rfl)
  have W := kh_mk53 (post := post) (cp := cp) (nu := nu) (po := po) (ob := ob) (ot := ot) (yo := yo) (ex := ex) (se := se) (rc := rc) (co := co) (fc := fc) (w := w) (t := t) (fw := fw) (rm := rm) (im := im) (rx := rx) (fn := fn) (mk0 := mk2) (R := kh_Rch rg kd fl fi ir) hP hD hV hO hs (fun k i q a b c d => kh_Rch_step a b c d) (fun mk3 sk3 bk3 M3 mo3 => ?_) 98 mk2 sk2 dd2 (fun _ => 0) (by omega) M2 (fun _ h => h)
  · rw [z2] at W
    exact ⟨98, W⟩
  · obtain ⟨e1, e2⟩ := kh_MK_end (rg := rg) hO hP hD hG M3 (fun r r1 r2' => mo3 _ (r2 r r1 r2'))
    have e3 : kh_sm (fun k => if bk3 k = 0 then 0 else fl k + 1) 97 = kh_cw (kh_Rch rg kd fl fi ir) fl := by
      refine kh_cw_eq (fun k _ hk => ?_) (fun k _ hk => ?_)
      · rw [if_neg (by rw [(e2 k).mpr hk]; omega)]
      · rw [if_pos]
        have := M3.2.1 k
        by_cases y : bk3 k = 0
        · exact y
        · exact absurd ((e2 k).mp (by omega)) hk
    rw [e3]
    exact K mk3 sk3 e1 (fun a a1 a2 => by obtain ⟨k, k1, k2, _⟩ := M3.1 a a1 a2; exact ⟨k, k1, k2⟩)
end
end
section
/-! clearing weak fields -/
noncomputable def kh_fiw (R : Nat → Prop) (kd : Nat → Nat) (fi : Nat → Int32) (j : Nat) : Int32 := @ite Int32 (kd (j / 6) = 2 ∧ ¬ R (fi j).toNatClampNeg) (Classical.propDecidable _) 0 (fi j)
section
variable {R : Nat → Prop} {kd fl sv A E : Nat → Nat} {fi ir w t : Nat → Int32}
theorem kh_fiw_n {k i : Nat} (h : kd k ≠ 2) (hi : i < 6) : kh_fiw R kd fi (6 * k + i) = fi (6 * k + i) := by
  unfold kh_fiw
  have e : (6 * k + i) / 6 = k := by omega
  rw [e, if_neg (fun z => h z.1)]
theorem kh_fiw_r {j q : Nat} (h : R q) (hq : q < 97) (e : fi j = nI q) : kh_fiw R kd fi j = fi j := by
  unfold kh_fiw
  rw [e, nI_clamp (by omega), if_neg (fun z => z.2 h)]
theorem kh_fiw_c {k i q : Nat} (h : kd k = 2) (hi : i < 6) (hr : ¬ R q) (hq : q < 97) (e : fi (6 * k + i) = nI q) : kh_fiw R kd fi (6 * k + i) = 0 := by
  unfold kh_fiw
  have e2 : (6 * k + i) / 6 = k := by omega
  rw [e2, e, nI_clamp (by omega), if_pos ⟨h, hr⟩]
theorem kh_fiw_0 {j : Nat} (e : fi j = 0) : kh_fiw R kd fi j = 0 := by
  unfold kh_fiw
  by_cases c : kd (j / 6) = 2 ∧ ¬ R (fi j).toNatClampNeg
  · rw [if_pos c]
  · rw [if_neg c]; exact e
theorem kh_Fw_fi {fi' ir' : Nat → Int32} {a j : Nat} (h : kh_Fw fi ir E w t a j) (e : fi' j = fi j) (e' : ir' j = ir j) : kh_Fw fi' ir' E w t a j := by
  rcases h with ⟨h1, h2, h3⟩ | ⟨h1, h2, h3⟩ | ⟨q, ⟨h0, h1, h5, h6⟩, h2, h3, h4⟩
  · exact Or.inl ⟨by rw [e']; exact h1, h2, by rw [e]; exact h3⟩
  · exact Or.inr (Or.inl ⟨by rw [e']; exact h1, by rw [e]; exact h2, h3⟩)
  · exact Or.inr (Or.inr ⟨q, ⟨by rw [e']; exact h0, h1, h5, by rw [e]; exact h6⟩, h2, h3, h4⟩)
theorem kh_Ob_fi {kd' fl' sv' : Nat → Nat} {fi' ir' : Nat → Int32} {p k : Nat} (h : kh_Ob kd fl sv fi ir E w t p k) (e : ∀ i, i < fl k → fi' (6 * k + i) = fi (6 * k + i) ∧ ir' (6 * k + i) = ir (6 * k + i)) (e1 : kd' k = kd k) (e2 : fl' k = fl k) (e3 : sv' k = sv k) : kh_Ob kd' fl' sv' fi' ir' E w t p k :=
  ⟨by rw [e3]; exact h.1, by rw [e1, e2]; exact h.2.1, fun i hi => by rw [e2] at hi; exact kh_Fw_fi (h.2.2 i hi) (e i hi).1 (e i hi).2⟩
/-- a weak object's field, before and after -/
theorem kh_weak1 {p k : Nat} (hV : kh_RV kd fl ir) (h2 : kd k = 2) (h : kh_Ob kd fl sv fi ir A w t p k) : (fi (6 * k) = 0 ∧ t (p + 1) = 2) ∨ ∃ q, kh_Rf fi ir (6 * k) q ∧ t (p + 1) = 1 ∧ w (p + 1) = nI (A q) ∧ A q < 208 := by
  obtain ⟨_, v2, v3⟩ := hV k
  obtain ⟨v4, v5⟩ := v3 h2
  have z := h.2.2 0 (by omega)
  rcases z with ⟨z1, _⟩ | ⟨_, z2, z3⟩ | ⟨q, z1, z2, z3, z4⟩
  · exact absurd z1 v5
  · exact Or.inl ⟨z2, z3⟩
  · exact Or.inr ⟨q, z1, z2, z3, z4⟩
theorem kh_weakNull {p k : Nat} {w' t' : Nat → Int32} (hV : kh_RV kd fl ir) (h2 : kd k = 2) (hw : w' p = nI (sv k)) (ht : t' p = nI (8 * kd k + fl k)) (h0 : kh_fiw R kd fi (6 * k) = 0) (ht1 : t' (p + 1) = 2) : kh_Ob kd fl sv (kh_fiw R kd fi) ir E w' t' p k := by
  obtain ⟨_, v2, v3⟩ := hV k
  obtain ⟨v4, v5⟩ := v3 h2
  refine ⟨hw, ht, fun i hi => ?_⟩
  have : i = 0 := by omega
  subst this
  exact Or.inr (Or.inl ⟨v5, h0, ht1⟩)
theorem kh_weakRef {p k q : Nat} {w' t' : Nat → Int32} (hV : kh_RV kd fl ir) (h2 : kd k = 2) (hw : w' p = nI (sv k)) (ht : t' p = nI (8 * kd k + fl k)) (hq : kh_Rf fi ir (6 * k) q) (hR : R q) (ht1 : t' (p + 1) = 1) (hw1 : w' (p + 1) = nI (E q)) (hE : E q < 208) : kh_Ob kd fl sv (kh_fiw R kd fi) ir E w' t' p k := by
  obtain ⟨_, v2, v3⟩ := hV k
  obtain ⟨v4, v5⟩ := v3 h2
  refine ⟨hw, ht, fun i hi => ?_⟩
  have : i = 0 := by omega
  subst this
  exact Or.inr (Or.inr ⟨q, ⟨hq.1, hq.2.1, hq.2.2.1, by
    have := kh_fiw_r (R := R) (kd := kd) hR hq.2.2.1 hq.2.2.2
    exact this.trans hq.2.2.2⟩, ht1, hw1, hE⟩)
theorem kh_strong {p k : Nat} (hV : kh_RV kd fl ir) (h2 : kd k ≠ 2) (h : kh_Ob kd fl sv fi ir E w t p k) : kh_Ob kd fl sv (kh_fiw R kd fi) ir E w t p k :=
  kh_Ob_fi h (fun i hi => ⟨kh_fiw_n h2 (by have := (hV k).2.1; omega), rfl⟩) rfl rfl rfl
end
section
variable {cp nu po ob ot yo ex se rc : Nat} {co fc dp : Int32} {w t mk fw sk rm im rx fn : Nat → Int32} {R : Nat → Prop} {kd fl sv A : Nat → Nat} {fi ir : Nat → Int32}
theorem kh_cwLoop {post : SX → Prop} {w0 t0 : Nat → Int32} (ho : ot ≤ 208) (hV : kh_RV kd fl ir) (hD : kh_Dj fl A) (hO : ∀ k, A k < 208 → kh_Ob kd fl sv fi ir A w0 t0 (A k) k) (hA : ∀ k, A k < 208 → ob ≤ A k ∧ A k + fl k < ot)
    (hm : ∀ k, R k ↔ A k < 208 ∧ mk (A k) ≠ 0)
    (K : ∀ w t, kh_Sg (kh_Bk fl A w t) ob ot → (∀ k, A k < 208 → kh_Ob kd fl sv (kh_fiw R kd fi) ir A w t (A k) k) → post (nI cp, nI nu, nI po, nI ob, nI ot, nI yo, nI ex, nI se, co, fc, nI rc, dp, w, t, mk, fw, sk, rm, im, rx, fn)) :
    ∀ (n o : Nat) (w t : Nat → Int32), ot < n + o → ob ≤ o → kh_Sg (kh_Bk fl A w0 t0) o ot → (∀ a, o ≤ a → w a = w0 a ∧ t a = t0 a) → kh_Sg (kh_Bk fl A w t) ob o → (∀ k, A k < o → kh_Ob kd fl sv (kh_fiw R kd fi) ir A w t (A k) k) → wX_clearWeak_5 post n (nI o) (nI cp) (nI nu) (nI po) (nI ob) (nI ot) (nI yo) (nI ex) (nI se) co fc (nI rc) dp w t mk fw sk rm im rx fn := by
  intro n
  induction n with
  | zero => intro o w t h1 h2 h3; have := kh_Sg_le h3; omega
  | succ n ih =>
    intro o w t h1 h2 h3 h4 h5 h6
    rw [wX_clearWeak_5]
    rcases kh_Sg_cases h3 with e | ⟨s, s0, hb, hS⟩
    · subst e
      exact br_t (nI_le (Nat.le_refl _) (by omega)) (K w t h5 (fun k hk => h6 k (by have := hA k hk; omega)))
    · have l := kh_Sg_le hS
      have c : o < 208 := by omega
      refine br_f (nI_ge (by omega) (by omega)) ?_
      rcases hb with ⟨k, k1, k2, k3⟩ | ⟨f1, f2, f3⟩
      · subst k2 k3
        have v := hV k
        have O : kh_Ob kd fl sv fi ir A w t (A k) k := kh_Ob_same (hO k k1) (fun a a1 _ => h4 a a1)
        have go : ∀ (w' t' : Nat → Int32), (∀ a, a < A k ∨ A k + (fl k + 1) ≤ a → w' a = w a ∧ t' a = t a) → kh_Ob kd fl sv (kh_fiw R kd fi) ir A w' t' (A k) k → wX_clearWeak_64 post (wX_clearWeak_5 post n) (nI (A k)) (nI cp) (nI nu) (nI po) (nI ob) (nI ot) (nI yo) (nI ex) (nI se) co fc (nI rc) dp w' t' mk fw sk rm im rx fn := by
          intro w' t' m1 O'
          refine kh_sizeO c O'.2.1 v.1 v.2.1 (nm_r (nI_add _ _) (ih (A k + (fl k + 1)) w' t' (by omega) (by omega) hS (fun a ha => ?_) ?_ (fun j hj => ?_)))
          · have z1 := m1 a (by omega)
            have z2 := h4 a (by omega)
            exact ⟨z1.1.trans z2.1, z1.2.trans z2.2⟩
          · refine kh_Sg_snoc (kh_Sg_mono (fun o s o1 o2 o3 hb => ?_) h5) (by omega) (Or.inl ⟨k, k1, rfl, rfl⟩)
            rcases hb with hb | ⟨f1, f2, f3⟩
            · exact Or.inl hb
            · have z1 := m1 o (by omega)
              exact Or.inr ⟨z1.2.trans f1, z1.1.trans f2, f3⟩
          · by_cases e : j = k
            · subst e; exact O'
            · have := hD j k (by omega) k1 e
              exact kh_Ob_same (h6 j (by omega)) (fun a a1 a2 => m1 a (by omega))
        refine kh_isF0 c O.2.1 (by omega) (br_t rfl ?_)
        refine kh_kind c O.2.1 v.1 v.2.1 ?_
        refine pk_eq (kd k) 2 (fun z => ?_) (fun z => ?_) rfl rfl (by omega)
        · have v4 := (v.2.2 z).1
          have c1 : A k + 1 < 208 := by omega
          rw [nI_1]
          rcases kh_weak1 hV z O with ⟨y1, y2⟩ | ⟨q, y1, y2, y3, y4⟩
          · refine kh_isRef c1 (fun y => ?_) (fun y => ?_)
            · rw [y2] at y; exact absurd y (by decide)
            · exact br_t rfl (go w t (fun _ _ => ⟨rfl, rfl⟩) (kh_weakNull hV z O.1 O.2.1 (kh_fiw_0 y1) y2))
          · refine kh_isRef c1 (fun y => ?_) (fun y => absurd y2 y)
            refine br_f kh_10 ⟨vp_in_nI c1 (by decide), ?_⟩
            rw [kh_cl c1, y3, kh_cl y4]
            refine ⟨vp_in_nI y4 (by decide), br_c (fun m => ?_) (fun m => ?_)⟩
            · refine kh_srNull c1 ?_
              refine go (upd w (A k + 1) 0) (upd t (A k + 1) 2) (fun a ha => ⟨pk_un (by omega), pk_un (by omega)⟩) (kh_weakNull hV z (by rw [pk_un (by omega)]; exact O.1) (by rw [pk_un (by omega)]; exact O.2.1) ?_ pk_us)
              exact kh_fiw_c (i := 0) z (by omega) (fun r => ((hm q).mp r).2 m) y1.2.2.1 y1.2.2.2
            · exact go w t (fun _ _ => ⟨rfl, rfl⟩) (kh_weakRef hV z O.1 O.2.1 y1 ((hm q).mpr ⟨y4, m⟩) y2 y3 y4)
        · exact go w t (fun _ _ => ⟨rfl, rfl⟩) (kh_strong hV z O)
      · have z := h4 o (by omega)
        refine kh_isF1 c (z.2.trans f1) (br_f kh_10 ?_)
        refine kh_sizeF c (z.2.trans f1) (z.1.trans f2) (nm_r (nI_add _ _) (ih (o + s) w t (by omega) (by omega) hS (fun a ha => h4 a (by omega)) ?_ (fun j hj => ?_)))
        · exact kh_Sg_snoc h5 s0 (Or.inr ⟨z.2.trans f1, z.1.trans f2, f3⟩)
        · have := f3 j (by omega)
          exact h6 j (by omega)
theorem kh_clearWeak {post : SX → Prop} (hG : kh_Ge cp ob ot 0) (hV : kh_RV kd fl ir) (H : kh_HP kd fl sv fi ir A w t ob ot 0) (hm : ∀ k, R k ↔ A k < 208 ∧ mk (A k) ≠ 0)
    (K : ∀ w' t', kh_HP kd fl sv (kh_fiw R kd fi) ir A w' t' ob ot 0 → post (nI cp, nI nu, nI po, nI ob, nI ot, nI 0, nI ex, nI se, co, fc, nI rc, dp, w', t', mk, fw, sk, rm, im, rx, fn)) : wpX_clearWeak post (nI cp, nI nu, nI po, nI ob, nI ot, nI 0, nI ex, nI se, co, fc, nI rc, dp, w, t, mk, fw, sk, rm, im, rx, fn) := by
  obtain ⟨p1, p2, p3, p4, p5, p6⟩ := H
  obtain ⟨g1, g2, g3, g4, g5⟩ := hG
  have hA : ∀ k, A k < 208 → ob ≤ A k ∧ A k + fl k < ot := fun k hk => by have := p3 k hk; omega
  refine ⟨ot + 1, kh_cwLoop (yo := 0) (R := R) (by omega) hV p4 p2 hA hm (fun w' t' a b => K w' t' ⟨p1, b, p3, p4, a, p6⟩) (ot + 1) ob w t (by omega) (Nat.le_refl _) p5 (fun _ _ => ⟨rfl, rfl⟩) kh_Sg_nil (fun k hk => by have := hA k (by omega); omega)⟩
end
end
section
/-! reportFinals -/
noncomputable def kh_ps (D : Nat → Prop) (s : Nat) (st : (Nat → Int32) × Int32) : (Nat → Int32) × Int32 := @ite _ (D s) (Classical.propDecidable _) (upd st.1 (st.2 &&& 15).toNatClampNeg (nI s), st.2 + 1) st
noncomputable def kh_pu (D : Nat → Prop) : Nat → Nat → (Nat → Int32) × Int32 → (Nat → Int32) × Int32
  | 0, _, st => st
  | n + 1, s, st => kh_pu D n (s + 1) (kh_ps D s st)
theorem kh_ps_t {D : Nat → Prop} {s : Nat} {st : (Nat → Int32) × Int32} (h : D s) : kh_ps D s st = (upd st.1 (st.2 &&& 15).toNatClampNeg (nI s), st.2 + 1) := by unfold kh_ps; rw [if_pos h]
theorem kh_ps_f {D : Nat → Prop} {s : Nat} {st : (Nat → Int32) × Int32} (h : ¬ D s) : kh_ps D s st = st := by unfold kh_ps; rw [if_neg h]
theorem kh_pu_skip {D : Nat → Prop} {n : Nat} {st : (Nat → Int32) × Int32} : ∀ {d s : Nat}, (∀ x, s ≤ x → x < s + d → ¬ D x) → kh_pu D (d + n) s st = kh_pu D n (s + d) st
  | 0, s, _ => by rw [Nat.zero_add, Nat.add_zero]
  | d + 1, s, h => by
    have e : d + 1 + n = (d + n) + 1 := by omega
    rw [e]
    show kh_pu D (d + n) (s + 1) (kh_ps D s st) = _
    rw [kh_ps_f (h s (by omega) (by omega)), kh_pu_skip (fun x x1 x2 => h x (by omega) (by omega))]
    exact congrArg (fun z => kh_pu D n z st) (by omega)
theorem kh_pu_none {D : Nat → Prop} {st : (Nat → Int32) × Int32} {n s : Nat} (h : ∀ x, s ≤ x → x < s + n → ¬ D x) : kh_pu D n s st = st := by
  have := kh_pu_skip (n := 0) (st := st) h
  exact this
/-- from last on, the next one is l -/
theorem kh_pu_next {D : Nat → Prop} {st : (Nat → Int32) × Int32} {se last l : Nat} (h1 : last < l) (h2 : l ≤ se) (hD : D l) (h : ∀ x, last < x → x < l → ¬ D x) : kh_pu D (se - last) (last + 1) st = kh_pu D (se - l) (l + 1) (upd st.1 (st.2 &&& 15).toNatClampNeg (nI l), st.2 + 1) := by
  have e : se - last = (l - last - 1) + ((se - l) + 1) := by omega
  rw [e, kh_pu_skip (fun x x1 x2 => h x (by omega) (by omega))]
  have e2 : last + 1 + (l - last - 1) = l := by omega
  rw [e2]
  show kh_pu D (se - l) (l + 1) (kh_ps D l st) = _
  rw [kh_ps_t hD]
theorem kh_pu_congr {D D' : Nat → Prop} (h : ∀ s, D s ↔ D' s) : ∀ {n s : Nat} {st : (Nat → Int32) × Int32}, kh_pu D n s st = kh_pu D' n s st := by
  have e : D = D' := funext fun s => propext (h s)
  subst e
  intros; rfl
def kh_De (kd A : Nat → Nat) (mk : Nat → Int32) (k : Nat) : Prop := A k < 208 ∧ kd k = 1 ∧ mk (A k) = 0
def kh_DS (kd sv A : Nat → Nat) (mk : Nat → Int32) (s : Nat) : Prop := ∃ k, kh_De kd A mk k ∧ sv k = s
def kh_LI (kd sv A : Nat → Nat) (mk : Nat → Int32) (last l o : Nat) : Prop :=
  (∀ k, kh_De kd A mk k → A k < o → last < sv k → l ≠ 0 ∧ l ≤ sv k) ∧ (l ≠ 0 → last < l ∧ ∃ k, kh_De kd A mk k ∧ sv k = l)
section
variable {cp nu po ob ot yo ex se rc : Nat} {co fc dp : Int32} {w t mk fw sk rm im rx fn : Nat → Int32} {kd fl sv A : Nat → Nat}
theorem kh_rp16 {post : SX → Prop} {J5 : Int32 → Int32 → Int32 → (Nat → Int32) → (Nat → Int32) → (Nat → Int32) → (Nat → Int32) → (Nat → Int32) → (Nat → Int32) → (Nat → Int32) → (Nat → Int32) → (Nat → Int32) → Prop}
    {from_ top last : Nat} (ho : top ≤ 208) (hV : ∀ k, kd k ≤ 2 ∧ fl k ≤ 6) (hD : kh_Dj fl A) (hO : ∀ k, A k < 208 → w (A k) = nI (sv k) ∧ t (A k) = nI (8 * kd k + fl k)) (hA : ∀ k, A k < 208 → A k < top) (hs : ∀ k, A k < 208 → 0 < sv k ∧ sv k < 2 ^ 31) (hl : last < 2 ^ 31)
    (K0 : kh_LI kd sv A mk last 0 top → J5 (nI 0) 0 fc w t mk fw sk rm im rx fn)
    (K1 : ∀ l, l ≠ 0 → kh_LI kd sv A mk last l top → J5 (nI l) 1 (fc + 1) w t mk fw sk rm im rx (upd fn (fc &&& 15).toNatClampNeg (nI l))) :
    ∀ (n o l : Nat), top < n + o → kh_Sg (kh_Bk fl A w t) o top → kh_LI kd sv A mk last l o → l < 2 ^ 31 → wX_reportFinals_16 post J5 (nI from_) (nI top) (nI last) (nI cp) (nI nu) (nI po) (nI ob) (nI ot) (nI yo) (nI ex) (nI se) co fc (nI rc) dp w t mk fw sk rm im rx fn n (nI l) (nI o) := by
  intro n
  induction n with
  | zero => intro o l h1 h2; have := kh_Sg_le h2; omega
  | succ n ih =>
    intro o l h1 h2 h3 h4
    rw [wX_reportFinals_16]
    rcases kh_Sg_cases h2 with e | ⟨s, s0, hb, hS⟩
    · subst e
      refine br_t (nI_le (Nat.le_refl _) (by omega)) (pk_eq l 0 (fun z => ?_) (fun z => ?_))
      · subst z; exact br_t rfl (K0 h3)
      · refine br_f kh_10 (nm_e ⟨pk_andIn fc 4 (by decide) (by decide), nm_e (K1 l z h3)⟩)
    · have lt := kh_Sg_le hS
      have c : o < 208 := by omega
      refine br_f (nI_ge (by omega) (by omega)) ?_
      rcases hb with ⟨k, k1, k2, k3⟩ | ⟨f1, f2, f3⟩
      · subst k2 k3
        obtain ⟨o1, o2⟩ := hO k k1
        obtain ⟨s1, s2⟩ := hs k k1
        have go : ∀ l', kh_LI kd sv A mk last l' (A k + (fl k + 1)) → l' < 2 ^ 31 → wX_reportFinals_114 post J5 (wX_reportFinals_16 post J5 (nI from_) (nI top) (nI last) (nI cp) (nI nu) (nI po) (nI ob) (nI ot) (nI yo) (nI ex) (nI se) co fc (nI rc) dp w t mk fw sk rm im rx fn n) (nI from_) (nI top) (nI last) (nI l') (nI (A k)) (nI cp) (nI nu) (nI po) (nI ob) (nI ot) (nI yo) (nI ex) (nI se) co fc (nI rc) dp w t mk fw sk rm im rx fn :=
          fun l' L l2 => kh_sizeO c o2 (hV k).1 (hV k).2 (nm_r (nI_add _ _) (ih (A k + (fl k + 1)) l' (by omega) hS L l2))
        have nx : ∀ j, kh_De kd A mk j → A j < A k + (fl k + 1) → j ≠ k → A j < A k := by
          intro j j1 j2 j3
          have := hD j k j1.1 k1 j3
          omega
        have keep : ¬ (kh_De kd A mk k ∧ last < sv k ∧ ¬ (l ≠ 0 ∧ l ≤ sv k)) → kh_LI kd sv A mk last l (A k + (fl k + 1)) := by
          intro z
          refine ⟨fun j j1 j2 j3 => ?_, h3.2⟩
          by_cases e : j = k
          · subst e
            exact Classical.byContradiction (fun y => z ⟨j1, j3, y⟩)
          · exact h3.1 j j1 (nx j j1 j2 e) j3
        have g69 : kh_LI kd sv A mk last l (A k + (fl k + 1)) → wX_reportFinals_69 post J5 (wX_reportFinals_16 post J5 (nI from_) (nI top) (nI last) (nI cp) (nI nu) (nI po) (nI ob) (nI ot) (nI yo) (nI ex) (nI se) co fc (nI rc) dp w t mk fw sk rm im rx fn n) (nI from_) (nI top) (nI last) (nI l) (nI (A k)) (nI cp) (nI nu) (nI po) (nI ob) (nI ot) (nI yo) (nI ex) (nI se) co fc (nI rc) dp w t mk fw sk rm im rx fn := fun L => br_t rfl (go l L h4)
        refine kh_isF0 c o2 (by have := hV k; omega) (br_t rfl ?_)
        refine kh_kind c o2 (hV k).1 (hV k).2 ?_
        refine pk_eq (kd k) 1 (fun z => ?_) (fun z => ?_) rfl rfl (by have := hV k; omega)
        · refine And.intro (vp_in_nI c (by decide)) ?_
          rw [kh_cl c]
          refine br_c (fun m => ?_) (fun m => ?_)
          · have dk : kh_De kd A mk k := ⟨k1, z, m⟩
            refine br_f (by decide) (br_f kh_10 ⟨vp_in_nI c (by decide), ?_⟩)
            rw [kh_cl c, o1]
            have take : last < sv k → (l = 0 ∨ sv k < l) → wX_reportFinals_105 post J5 (wX_reportFinals_16 post J5 (nI from_) (nI top) (nI last) (nI cp) (nI nu) (nI po) (nI ob) (nI ot) (nI yo) (nI ex) (nI se) co fc (nI rc) dp w t mk fw sk rm im rx fn n) (nI from_) (nI top) (nI last) (nI (A k)) (nI cp) (nI nu) (nI po) (nI ob) (nI ot) (nI yo) (nI ex) (nI se) co fc (nI rc) dp w t mk fw sk rm im rx fn := by
              intro y1 y2
              refine And.intro (vp_in_nI c (by decide)) (nm_r (e' := nI (sv k)) (by rw [kh_cl c, o1]) (go (sv k) ⟨fun j j1 j2 j3 => ?_, fun _ => ⟨y1, k, dk, rfl⟩⟩ s2))
              by_cases e : j = k
              · subst e; omega
              · have := h3.1 j j1 (nx j j1 j2 e) j3
                omega
            refine pk_le (sv k) last (fun y => ?_) (fun y => ?_)
            · exact go l (keep (fun q => by omega)) h4
            · refine pk_eq l 0 (fun y2 => take y (Or.inl y2)) (fun y2 => ⟨vp_in_nI c (by decide), pk_le l (sv k) (fun y3 => ?_) (fun y3 => take y (Or.inr y3))⟩)
              exact go l (keep (fun q => q.2.2 ⟨y2, y3⟩)) h4
          · exact br_t (by decide) (g69 (keep (fun q => m q.1.2.2)))
        · refine And.intro (vp_in_nI c (by decide)) ?_
          rw [kh_cl c]
          refine br_c (fun m => ?_) (fun m => ?_)
          · exact br_t (by decide) (g69 (keep (fun q => z q.1.2.1)))
          · exact br_t (by decide) (g69 (keep (fun q => z q.1.2.1)))
      · refine kh_isF1 c f1 (br_f kh_10 (br_t rfl ?_))
        refine kh_sizeF c f1 f2 (nm_r (nI_add _ _) (ih (o + s) l (by omega) hS ⟨fun j j1 j2 j3 => ?_, h3.2⟩ h4))
        have := f3 j j1.1
        exact h3.1 j j1 (by omega) j3
theorem kh_rp5 {post : SX → Prop} {from_ top se' : Nat} {Fin : (Nat → Int32) × Int32} (ho : top ≤ 208) (hV : ∀ k, kd k ≤ 2 ∧ fl k ≤ 6) (hD : kh_Dj fl A) (hO : ∀ k, A k < 208 → w (A k) = nI (sv k) ∧ t (A k) = nI (8 * kd k + fl k)) (hA : ∀ k, A k < 208 → from_ ≤ A k ∧ A k < top) (hs : ∀ k, A k < 208 → 0 < sv k ∧ sv k ≤ se') (hse : se' < 2 ^ 30)
    (hS : kh_Sg (kh_Bk fl A w t) from_ top) (K : post (nI cp, nI nu, nI po, nI ob, nI ot, nI yo, nI ex, nI se, co, Fin.2, nI rc, dp, w, t, mk, fw, sk, rm, im, rx, Fin.1)) :
    ∀ (n last : Nat) (fc : Int32) (fn : Nat → Int32), se' + 2 ≤ n + last → last ≤ se' → kh_pu (kh_DS kd sv A mk) (se' - last) (last + 1) (fn, fc) = Fin → wX_reportFinals_5 post (nI from_) (nI top) (nI cp) (nI nu) (nI po) (nI ob) (nI ot) (nI yo) (nI ex) (nI se) co (nI rc) dp n (nI last) 1 fc w t mk fw sk rm im rx fn := by
  intro n
  induction n with
  | zero => intro last fc fn h1 h2; omega
  | succ n ih =>
    intro last fc fn h1 h2 h3
    rw [wX_reportFinals_5]
    refine br_f kh_10 ⟨top + 1, ?_⟩
    refine kh_rp16 ho hV hD hO (fun k hk => (hA k hk).2) (fun k hk => ⟨(hs k hk).1, by have := (hs k hk).2; omega⟩) (by omega) (fun L => ?_) (fun l l0 L => ?_) (top + 1) from_ 0 (by have := kh_Sg_le hS; omega) hS ⟨fun k k1 k2 => by have := (hA k k1.1).1; omega, fun z => absurd rfl z⟩ (by omega)
    · cases n with
      | zero => omega
      | succ m =>
        rw [wX_reportFinals_5]
        refine br_t rfl ?_
        rw [kh_pu_none (fun x x1 x2 => ?_)] at h3
        · rw [← h3] at K
          exact K
        · rintro ⟨k, k1, k2⟩
          exact (L.1 k k1 (hA k k1.1).2 (by omega)).1 rfl
    · obtain ⟨y1, k, k1, k2⟩ := L.2 l0
      have b := (hs k k1.1).2
      refine ih l (fc + 1) (upd fn (fc &&& 15).toNatClampNeg (nI l)) (by omega) (by omega) ?_
      rw [← h3]
      refine (kh_pu_next (st := (fn, fc)) y1 (by omega) ⟨k, k1, k2⟩ (fun x x1 x2 => ?_)).symm
      rintro ⟨j, j1, j2⟩
      have := L.1 j j1 (hA j j1.1).2 (by omega)
      omega
theorem kh_finals {post : SX → Prop} {from_ top se' : Nat} (ho : top ≤ 208) (hV : ∀ k, kd k ≤ 2 ∧ fl k ≤ 6) (hD : kh_Dj fl A) (hO : ∀ k, A k < 208 → w (A k) = nI (sv k) ∧ t (A k) = nI (8 * kd k + fl k)) (hA : ∀ k, A k < 208 → from_ ≤ A k ∧ A k < top) (hs : ∀ k, A k < 208 → 0 < sv k ∧ sv k ≤ se') (hse : se' < 2 ^ 30)
    (hS : kh_Sg (kh_Bk fl A w t) from_ top) (K : post (nI cp, nI nu, nI po, nI ob, nI ot, nI yo, nI ex, nI se, co, (kh_pu (kh_DS kd sv A mk) se' 1 (fn, fc)).2, nI rc, dp, w, t, mk, fw, sk, rm, im, rx, (kh_pu (kh_DS kd sv A mk) se' 1 (fn, fc)).1)) : wpX_reportFinals post (nI cp, nI nu, nI po, nI ob, nI ot, nI yo, nI ex, nI se, co, fc, nI rc, dp, w, t, mk, fw, sk, rm, im, rx, fn) (nI from_) (nI top) :=
  ⟨se' + 2, kh_rp5 (Fin := kh_pu (kh_DS kd sv A mk) se' 1 (fn, fc)) ho hV hD hO hA hs hse hS K (se' + 2) 0 fc fn (by omega) (by omega) rfl⟩
end
end
section
/-! sweep -/
def kh_WA (A : Nat → Nat) (mk : Nat → Int32) : Nat → Nat := fun k => if mk (A k) = 0 then 208 else A k
theorem kh_WA_pl {A : Nat → Nat} {mk : Nat → Int32} {k : Nat} (h : kh_WA A mk k < 208) : A k < 208 ∧ mk (A k) ≠ 0 ∧ kh_WA A mk k = A k := by
  unfold kh_WA at h ⊢
  by_cases c : mk (A k) = 0
  · rw [if_pos c] at h; omega
  · rw [if_neg c] at h ⊢; exact ⟨h, c, rfl⟩
theorem kh_WA_k {A : Nat → Nat} {mk : Nat → Int32} {k : Nat} (h : mk (A k) ≠ 0) : kh_WA A mk k = A k := if_neg h
theorem kh_Ob_E {kd fl sv : Nat → Nat} {fi ir : Nat → Int32} {E E' : Nat → Nat} {w t : Nat → Int32} {p k : Nat} (h : kh_Ob kd fl sv fi ir E w t p k) (hq : ∀ i q, i < fl k → kh_Rf fi ir (6 * k + i) q → E' q = E q) : kh_Ob kd fl sv fi ir E' w t p k := by
  refine ⟨h.1, h.2.1, fun i hi => ?_⟩
  rcases h.2.2 i hi with z | z | ⟨q, z1, z2, z3, z4⟩
  · exact Or.inl z
  · exact Or.inr (Or.inl z)
  · have e := hq i q hi z1
    exact Or.inr (Or.inr ⟨q, z1, z2, by rw [e]; exact z3, by rw [e]; exact z4⟩)
section
variable {cp nu po ob ot yo ex se rc : Nat} {co fc dp : Int32} {w t mk fw sk rm im rx fn : Nat → Int32} {kd fl sv A : Nat → Nat} {fi ir : Nat → Int32}
theorem kh_makeFree {post : SX → Prop} {o : Nat} {v : Int32} (ho : o < 208) (h : post (nI cp, nI nu, nI po, nI ob, nI ot, nI yo, nI ex, nI se, co, fc, nI rc, dp, upd w o v, upd t o (-1), mk, fw, sk, rm, im, rx, fn)) : wpX_makeFree post (nI cp, nI nu, nI po, nI ob, nI ot, nI yo, nI ex, nI se, co, fc, nI rc, dp, w, t, mk, fw, sk, rm, im, rx, fn) (nI o) v := by
  refine And.intro (vp_in_nI ho (by decide)) (nm_r (e' := upd w o v) (by rw [kh_cl ho]) (And.intro (vp_in_nI ho (by decide)) (nm_r (e' := upd t o (-1)) (by rw [kh_cl ho, kh_bm1]) h)))
theorem kh_swLoop {post : SX → Prop} {w0 t0 : Nat → Int32} (ho : ot ≤ 208) (hV : ∀ k, kd k ≤ 2 ∧ fl k ≤ 6) (hD : kh_Dj fl A) (hO : ∀ k, A k < 208 → t0 (A k) = nI (8 * kd k + fl k)) (hA : ∀ k, A k < 208 → ob ≤ A k ∧ A k + fl k < ot)
    (K : ∀ w t ot', ob ≤ ot' → ot' ≤ ot → kh_Sg (kh_Bk fl (kh_WA A mk) w t) ob ot' → (∀ k, kh_WA A mk k < 208 → A k + fl k < ot' ∧ ∀ a, A k ≤ a → a ≤ A k + fl k → w a = w0 a ∧ t a = t0 a) → post (nI cp, nI nu, nI po, nI ob, nI ot', nI yo, nI ex, nI se, co, fc, nI rc, dp, w, t, mk, fw, sk, rm, im, rx, fn)) :
    ∀ (n o : Nat) (w t : Nat → Int32) (x1 : Int32), ot < n + o → ob ≤ o → kh_Sg (kh_Bk fl A w0 t0) o ot → (∀ a, o ≤ a → w a = w0 a ∧ t a = t0 a) → (∀ k, kh_WA A mk k < 208 → ∀ a, A k ≤ a → a ≤ A k + fl k → w a = w0 a ∧ t a = t0 a) →
      ((x1 = -1 ∧ kh_Sg (kh_Bk fl (kh_WA A mk) w t) ob o) ∨ (∃ op, x1 = nI op ∧ ob ≤ op ∧ op < o ∧ kh_Sg (kh_Bk fl (kh_WA A mk) w t) ob op ∧ t op = -1 ∧ w op = nI (o - op) ∧ ∀ k, kh_WA A mk k < 208 → A k + fl k < op ∨ o ≤ A k)) → wX_sweep_7 post n x1 (nI o) (nI cp) (nI nu) (nI po) (nI ob) (nI ot) (nI yo) (nI ex) (nI se) co fc (nI rc) dp w t mk fw sk rm im rx fn := by
  intro n
  induction n with
  | zero => intro o w t x1 h1 h2 h3; have := kh_Sg_le h3; omega
  | succ n ih =>
    intro o w t x1 h1 h2 h3 h4 h5 h6
    rw [wX_sweep_7]
    rcases kh_Sg_cases h3 with e | ⟨s, s0, hb, hS⟩
    · subst e
      refine br_t (nI_le (Nat.le_refl _) (by omega)) ?_
      rcases h6 with ⟨rfl, h7⟩ | ⟨op, rfl, q1, q2, q3, q4, q5, q6⟩
      · exact br_t (by decide) (K w t o h2 (Nat.le_refl _) h7 (fun k hk => ⟨(hA k (kh_WA_pl hk).1).2, h5 k hk⟩))
      · refine br_f (kh_nn0 (by omega)) (K w t op q1 (by omega) q3 (fun k hk => ⟨?_, h5 k hk⟩))
        have := q6 k hk
        have := hA k (kh_WA_pl hk).1
        omega
    · have l := kh_Sg_le hS
      have c : o < 208 := by omega
      refine br_f (nI_ge (by omega) (by omega)) ?_
      /- what goes -/
      have drop : (∀ k, kh_WA A mk k < 208 → A k + fl k < o ∨ o + s ≤ A k) → wX_sweep_43 post (wX_sweep_7 post n) x1 (nI o) (nI s) (nI cp) (nI nu) (nI po) (nI ob) (nI ot) (nI yo) (nI ex) (nI se) co fc (nI rc) dp w t mk fw sk rm im rx fn := by
        intro hd
        rcases h6 with ⟨rfl, h7⟩ | ⟨op, rfl, q1, q2, q3, q4, q5, q6⟩
        · refine br_f kh_0m1 (kh_makeFree c ?_)
          refine nm_r (nI_add _ _) (ih (o + s) (upd w o (nI s)) (upd t o (-1)) (nI o) (by omega) (by omega) hS (fun a ha => ?_) (fun k hk a a1 a2 => ?_) (Or.inr ⟨o, rfl, h2, by omega, ?_, pk_us, ?_, hd⟩))
          · rw [pk_un (by omega), pk_un (by omega)]; exact h4 a (by omega)
          · have := hd k hk
            rw [pk_un (by omega), pk_un (by omega)]; exact h5 k hk a a1 a2
          · refine kh_Sg_mono (fun o' s' o1 o2 o3 hb' => ?_) h7
            rcases hb' with hb' | ⟨f1, f2, f3⟩
            · exact Or.inl hb'
            · exact Or.inr ⟨by rw [pk_un (by omega)]; exact f1, by rw [pk_un (by omega)]; exact f2, f3⟩
          · rw [pk_us]; exact congrArg nI (by omega)
        · have cp' : op < 208 := by omega
          refine br_t (kh_n0 cp') ⟨vp_in_nI cp' (by decide), ?_⟩
          rw [kh_cl cp', q5, nI_add (o - op) s]
          refine kh_makeFree cp' ?_
          refine nm_r (nI_add _ _) (ih (o + s) (upd w op (nI (o - op + s))) (upd t op (-1)) (nI op) (by omega) (by omega) hS (fun a ha => ?_) (fun k hk a a1 a2 => ?_) (Or.inr ⟨op, rfl, q1, by omega, ?_, pk_us, ?_, fun k hk => ?_⟩))
          · rw [pk_un (by omega), pk_un (by omega)]; exact h4 a (by omega)
          · have := q6 k hk
            rw [pk_un (by omega), pk_un (by omega)]; exact h5 k hk a a1 a2
          · refine kh_Sg_mono (fun o' s' o1 o2 o3 hb' => ?_) q3
            rcases hb' with hb' | ⟨f1, f2, f3⟩
            · exact Or.inl hb'
            · exact Or.inr ⟨by rw [pk_un (by omega)]; exact f1, by rw [pk_un (by omega)]; exact f2, f3⟩
          · rw [pk_us]; exact congrArg nI (by omega)
          · have := q6 k hk
            have := hd k hk
            omega
      rcases hb with ⟨k, k1, k2, k3⟩ | ⟨f1, f2, f3⟩
      · subst k2 k3
        have tk : t (A k) = nI (8 * kd k + fl k) := (h4 _ (Nat.le_refl _)).2.trans (hO k k1)
        refine kh_sizeO c tk (hV k).1 (hV k).2 ?_
        refine kh_isF0 c tk (by have := hV k; omega) (br_t rfl ⟨vp_in_nI c (by decide), ?_⟩)
        rw [kh_cl c]
        refine br_c (fun m => ?_) (fun m => ?_)
        · refine drop (fun j hj => ?_)
          obtain ⟨j1, j2, _⟩ := kh_WA_pl hj
          have := hD j k j1 k1 (fun e => by subst e; exact j2 m)
          omega
        · have ek := kh_WA_k m
          have sg : kh_Sg (kh_Bk fl (kh_WA A mk) w t) ob (A k) := by
            rcases h6 with ⟨_, h7⟩ | ⟨op, _, q1, q2, q3, q4, q5, q6⟩
            · exact h7
            · have z := kh_Sg_snoc (s := A k - op) q3 (by omega) (Or.inr ⟨q4, q5, fun j hj => by
                have := q6 j hj
                have := (kh_WA_pl hj).2.2
                omega⟩)
              have e : op + (A k - op) = A k := by omega
              rw [e] at z
              exact z
          refine nm_r (nI_add _ _) (ih (A k + (fl k + 1)) w t (-1) (by omega) (by omega) hS (fun a ha => h4 a (by omega)) h5 (Or.inl ⟨rfl, ?_⟩))
          exact kh_Sg_snoc sg (by omega) (Or.inl ⟨k, by omega, ek, rfl⟩)
      · have z := h4 o (by omega)
        refine kh_sizeF c (z.2.trans f1) (z.1.trans f2) ?_
        refine kh_isF1 c (z.2.trans f1) (br_f kh_10 (drop (fun j hj => ?_)))
        exact f3 j (kh_WA_pl hj).1
theorem kh_sweep {post : SX → Prop} (hG : kh_Ge cp ob ot 0) (hV : ∀ k, kd k ≤ 2 ∧ fl k ≤ 6) (H : kh_HP kd fl sv fi ir A w t ob ot 0) (hC : ∀ k i q, A k < 208 → mk (A k) ≠ 0 → i < fl k → kh_Rf fi ir (6 * k + i) q → A q < 208 ∧ mk (A q) ≠ 0)
    (K : ∀ w' t' ot', kh_HP kd fl sv fi ir (kh_WA A mk) w' t' ob ot' 0 → ob ≤ ot' → ot' ≤ ot → post (nI cp, nI nu, nI po, nI ob, nI ot', nI 0, nI ex, nI se, co, fc, nI rc, dp, w', t', mk, fw, sk, rm, im, rx, fn)) : wpX_sweep post (nI cp, nI nu, nI po, nI ob, nI ot, nI 0, nI ex, nI se, co, fc, nI rc, dp, w, t, mk, fw, sk, rm, im, rx, fn) := by
  obtain ⟨p1, p2, p3, p4, p5, p6⟩ := H
  obtain ⟨g1, g2, g3, g4, g5⟩ := hG
  have hA : ∀ k, A k < 208 → ob ≤ A k ∧ A k + fl k < ot := fun k hk => by have := p3 k hk; omega
  refine ⟨ot + 1, kh_swLoop (yo := 0) (A := A) (by omega) hV p4 (fun k hk => (p2 k hk).2.1) hA (fun w' t' ot' a b c d => ?_) (ot + 1) ob w t (-1) (by omega) (Nat.le_refl _) p5 (fun _ _ => ⟨rfl, rfl⟩) (fun _ _ _ _ _ => ⟨rfl, rfl⟩) (Or.inl ⟨rfl, kh_Sg_nil⟩)⟩
  refine K w' t' ot' ⟨fun k hk => p1 k (kh_WA_pl hk).1, fun k hk => ?_, fun k hk => ?_, fun k j hk hj hn => ?_, c, kh_Sg_nil⟩ a b
  · obtain ⟨k1, k2, k3⟩ := kh_WA_pl hk
    have dk := (d k hk).2
    rw [k3]
    refine kh_Ob_E (kh_Ob_same (p2 k k1) dk) (fun i q hi hr => kh_WA_k (hC k i q k1 k2 hi hr).2)
  · obtain ⟨k1, k2, k3⟩ := kh_WA_pl hk
    have := hA k k1
    have := (d k hk).1
    rw [k3]; omega
  · obtain ⟨k1, k2, k3⟩ := kh_WA_pl hk
    obtain ⟨j1, j2, j3⟩ := kh_WA_pl hj
    rw [k3, j3]
    exact p4 k j k1 j1 hn
end
end
section
/-! evacuate -/
def kh_EV (R : Nat → Prop) (kd fl sv : Nat → Nat) (fi ir : Nat → Int32) (A : Nat → Nat) (w0 t0 : Nat → Int32) (fm tp : Nat) (E : Nat → Nat) (w t mk fw : Nat → Int32) (nb ot : Nat) (dn : Nat → Prop) : Prop :=
  kh_CS kd fl sv fi ir A E w t nb nb ot 0 dn ∧ (∀ a, fm ≤ a → a < tp → w a = w0 a ∧ t a = t0 a) ∧
  (∀ k, A k < 208 → (E k = 208 ∧ mk (A k) = 0) ∨ (E k < 208 ∧ mk (A k) ≠ 0 ∧ fw (A k) = nI (E k))) ∧ (∀ k, E k < 208 → R k)
def kh_EH (R : Nat → Prop) (kd fl sv : Nat → Nat) (fi ir : Nat → Int32) (A : Nat → Nat) (w0 t0 : Nat → Int32) (cp fm tp nb : Nat) : Prop :=
  kh_PV A ∧ (∀ k, A k < 208 → fm ≤ A k ∧ A k + fl k < tp) ∧ cp ≤ 96 ∧ ((fm = 0 ∧ nb = 112) ∨ (fm = 112 ∧ nb = 0)) ∧ tp ≤ fm + cp ∧ nb + kh_pw fl A ≤ nb + cp + 0 ∧ kh_Dj fl A ∧ kh_RV kd fl ir ∧
  (∀ k, A k < 208 → kh_Ob kd fl sv fi ir A w0 t0 (A k) k) ∧ (∀ k i q, R k → kd k ≠ 2 → i < fl k → kh_Rf fi ir (6 * k + i) q → R q)
/-- which words are sent on -/
def kh_DN (kd fl E : Nat → Nat) (dn : Nat → Prop) (pos : Nat) : Prop := ∀ j i, E j < 208 → i < fl j → (dn (E j + 1 + i) ↔ kd j ≠ 2 ∧ E j + 1 + i < pos)
theorem kh_DN_up {kd fl E E' : Nat → Nat} {dn : Nat → Prop} {pos ot ot' : Nat} (h : kh_DN kd fl E dn pos) (X : kh_XT fl E E' ot ot') (hp : pos ≤ ot) (hd : ∀ a, dn a → a < ot) : kh_DN kd fl E' dn pos := by
  intro j i hj hi
  rcases X.2.2.2 j hj with z | z
  · rw [X.1 j z]; exact h j i z hi
  · refine ⟨fun y => ?_, fun y => by omega⟩
    have := hd _ y
    omega
section
variable {cp nu po ob ot yo ex se rc : Nat} {co fc dp : Int32} {w t mk fw sk rm im rx fn : Nat → Int32} {R : Nat → Prop} {kd fl sv A E rg : Nat → Nat} {fi ir w0 t0 : Nat → Int32} {fm tp : Nat} {dn : Nat → Prop}
theorem kh_copyOut {post : Int32 → SX → Prop} {k : Nat} (hH : kh_EH R kd fl sv fi ir A w0 t0 cp fm tp ob) (M : kh_EV R kd fl sv fi ir A w0 t0 fm tp E w t mk fw ob ot dn) (hk : A k < 208) (hR : R k)
    (K : ∀ E' w' t' mk' fw' ot', kh_EV R kd fl sv fi ir A w0 t0 fm tp E' w' t' mk' fw' ob ot' dn → kh_XT fl E E' ot ot' → E' k < 208 → post (nI (E' k)) (nI cp, nI nu, nI po, nI ob, nI ot', nI yo, nI ex, nI se, co, fc, nI rc, dp, w', t', mk', fw', sk, rm, im, rx, fn)) : wpX_copyOut post (nI cp, nI nu, nI po, nI ob, nI ot, nI yo, nI ex, nI se, co, fc, nI rc, dp, w, t, mk, fw, sk, rm, im, rx, fn) (nI (A k)) := by
  obtain ⟨hP, hA, h96, hb, ht, hr, hD, hV, hO, hC⟩ := hH
  have M' := M
  obtain ⟨C, Y, F, N⟩ := M'
  have hAk := hA k hk
  have v := hV k
  have O : kh_Ob kd fl sv fi ir A w t (A k) k := kh_Ob_same (hO k hk) (fun a a1 a2 => Y a (by omega) (by omega))
  refine And.intro (vp_in_nI hk (by decide)) ?_
  rw [kh_cl hk]
  rcases F k hk with ⟨e1, e2⟩ | ⟨e1, e2, e3⟩
  · have rm := kh_CS_room hP C hr hk (by omega)
    have l2 := kh_Sg_le C.2.2.2.1
    refine br_t e2 (kh_fields hk O.2.1 v.1 v.2.1 (nm_r (nI_1 _) ⟨vp_in_nI hk (by decide), nm_e ⟨vp_in_nI hk (by decide), nm_r (e' := upd fw (A k) (nI ot)) (by rw [kh_ns2 (by omega)]) ⟨fl k + 2, ?_⟩⟩⟩))
    refine kh_co37 (fw := upd fw (A k) (nI ot)) (w0 := w) (t0 := t) (by omega) (by omega) (fun j hj => by omega) (fun j hj => kh_Ob_nar O v.1 v.2.1 hj) (fun w' t' m1 m2 => ?_) (fl k + 2) 0 w t (by omega) (by omega) (fun a _ => ⟨rfl, rfl⟩) (fun j hj => by omega)
    obtain ⟨C', X'⟩ := kh_CS_copy hP C hk (by omega) (by omega) O (fun a ha => m1 a (by omega)) m2
    have z := K (kh_up E k ot) w' t' (upd mk (A k) 1) (upd fw (A k) (nI ot)) (ot + (fl k + 1)) ⟨C', fun a a1 a2 => ?_, fun j hj => ?_, fun j hj => ?_⟩ X' (by rw [kh_up_s]; omega)
    · rw [kh_up_s] at z
      rw [pk_us]
      exact z
    · have z1 := m1 a (by omega)
      have z2 := Y a a1 a2
      exact ⟨z1.1.trans z2.1, z1.2.trans z2.2⟩
    · by_cases e : j = k
      · subst e
        rw [kh_up_s, pk_us, pk_us]
        exact Or.inr ⟨by omega, kh_10, rfl⟩
      · have := hD j k hj hk e
        rw [kh_up_n e, pk_un (by omega), pk_un (by omega)]
        exact F j hj
    · by_cases e : j = k
      · subst e; exact hR
      · rw [kh_up_n e] at hj; exact N j hj
  · refine br_f e2 ⟨vp_in_nI hk (by decide), ?_⟩
    rw [e3]
    exact K E w t mk fw ot M kh_XT_refl e1
theorem kh_ev12 {post : SX → Prop} {fb : Nat} (ho : tp ≤ 208) (hb : fm ≤ 112) (h : ∀ mk', (∀ a, fm ≤ a → a < tp → mk' a = 0) → ∃ m, wX_evacuate_48 post (nI fm) (nI tp) m 0 (nI cp) (nI nu) (nI po) (nI (112 - fm)) (nI (112 - fm)) (nI yo) (nI ex) (nI se) co fc (nI rc) dp w t mk' fw sk rm im rx fn) :
    ∀ (n x : Nat) (mk : Nat → Int32), tp < n + x → fm ≤ x → x ≤ tp → (∀ a, fm ≤ a → a < x → mk a = 0) → wX_evacuate_12 post (nI fm) (nI tp) (nI cp) (nI nu) (nI po) (nI fb) (nI ot) (nI yo) (nI ex) (nI se) co fc (nI rc) dp n (nI x) w t mk fw sk rm im rx fn := by
  intro n
  induction n with
  | zero => intro x mk h1 h2; omega
  | succ n ih =>
    intro x mk h1 h2 h3 h4
    rw [wX_evacuate_12]
    refine pk_le tp x (fun z => nm_r (e' := nI (112 - fm)) (pk_sub (a := 112) hb) ?_) (fun z => ⟨vp_in_nI (by omega) (by decide), nm_r (e' := upd mk x 0) (by rw [kh_cl (by omega), kh_bo0]) (nm_r (nI_1 x) (ih (x + 1) _ (by omega) (by omega) (by omega) ?_))⟩)
    · exact h mk (fun a h5 h6 => h4 a h5 (by omega))
    · intro a h5 h6
      by_cases y : a = x
      · subst y; exact pk_us
      · rw [pk_un y]; exact h4 a h5 (by omega)
theorem kh_ev48 {post : SX → Prop} (hH : kh_EH R kd fl sv fi ir A w0 t0 cp fm tp ob) (hR : ∀ r, r < 8 → 0 < rg r → R (rg r))
    (K : ∀ E w t mk fw ot rx, kh_EV R kd fl sv fi ir A w0 t0 fm tp E w t mk fw ob ot dn → kh_RG rg E rx → ∃ m, wX_evacuate_91 post (nI fm) (nI tp) m (nI ob) (nI cp) (nI nu) (nI po) (nI ob) (nI ot) (nI yo) (nI ex) (nI se) co fc (nI rc) dp w t mk fw sk rm im rx fn) :
    ∀ (n x : Nat) (E : Nat → Nat) (w t mk fw : Nat → Int32) (ot : Nat) (rx : Nat → Int32), 8 < n + x → x ≤ 8 → kh_EV R kd fl sv fi ir A w0 t0 fm tp E w t mk fw ob ot dn → (∀ r, r < x → kh_R1 E (rg r) (rx r)) → (∀ r, x ≤ r → r < 8 → kh_R1 A (rg r) (rx r)) → wX_evacuate_48 post (nI fm) (nI tp) n (nI x) (nI cp) (nI nu) (nI po) (nI ob) (nI ot) (nI yo) (nI ex) (nI se) co fc (nI rc) dp w t mk fw sk rm im rx fn := by
  intro n
  induction n with
  | zero => intro x E w t mk fw ot rx h1 h2; omega
  | succ n ih =>
    intro x E w t mk fw ot rx h1 h2 M h3 h4
    rw [wX_evacuate_48]
    refine pk_le 8 x (fun z => ?_) (fun z => ⟨vp_in_nI (by omega) (by decide), ?_⟩)
    · exact K E w t mk fw ot rx M (fun r hr => h3 r (by omega))
    · rw [kh_cl (show x < 208 by omega)]
      rcases h4 x (Nat.le_refl _) z with ⟨e1, e2⟩ | ⟨e1, e2, e3⟩
      · refine br_t (by rw [e2]; decide) (nm_r (nI_1 x) (ih (x + 1) E w t mk fw ot rx (by omega) (by omega) M (fun r h5 => ?_) (fun r h5 h6 => h4 r (by omega) h6)))
        by_cases y : r = x
        · subst y; exact Or.inl ⟨e1, e2⟩
        · exact h3 r (by omega)
      · rw [e3]
        refine br_f (kh_nn0 e2) ⟨vp_in_nI (by omega) (by decide), ?_⟩
        refine kh_copyOut hH M e2 (hR x z e1) (fun E' w' t' mk' fw' ot' M2 X2 hq => ?_)
        refine ⟨vp_in_nI (by omega) (by decide), nm_r (e' := upd rx x (nI (E' (rg x)))) (by rw [kh_ns2 hq]) (nm_r (nI_1 x) (ih (x + 1) E' w' t' mk' fw' ot' (upd rx x (nI (E' (rg x)))) (by omega) (by omega) M2 (fun r h5 => ?_) (fun r h5 h6 => ?_)))⟩
        · by_cases y : r = x
          · subst y; rw [pk_us]; exact Or.inr ⟨e1, hq, rfl⟩
          · rw [pk_un y]; exact kh_R1_up X2.1 (h3 r (by omega))
        · rw [pk_un (by omega)]; exact h4 r (by omega) h6
theorem kh_ev120 {post : SX → Prop} {J : Int32 → Int32 → Int32 → Int32 → Int32 → Int32 → Int32 → Int32 → Int32 → Int32 → Int32 → Int32 → Int32 → (Nat → Int32) → (Nat → Int32) → (Nat → Int32) → (Nat → Int32) → (Nat → Int32) → (Nat → Int32) → (Nat → Int32) → (Nat → Int32) → (Nat → Int32) → Prop}
    {E0 : Nat → Nat} {ot0 k p : Nat} (hH : kh_EH R kd fl sv fi ir A w0 t0 cp fm tp ob) (h2k : kd k ≠ 2)
    (K : ∀ E w t mk fw ot dn, kh_EV R kd fl sv fi ir A w0 t0 fm tp E w t mk fw ob ot dn → kh_DN kd fl E dn (p + (fl k + 1)) → kh_XT fl E0 E ot0 ot → J (nI (p + (fl k + 1))) (nI cp) (nI nu) (nI po) (nI ob) (nI ot) (nI yo) (nI ex) (nI se) co fc (nI rc) dp w t mk fw sk rm im rx fn) :
    ∀ (n x : Nat) (E : Nat → Nat) (w t mk fw : Nat → Int32) (ot : Nat) (dn : Nat → Prop), fl k < n + x → x ≤ fl k → E k = p → p < 208 → kh_EV R kd fl sv fi ir A w0 t0 fm tp E w t mk fw ob ot dn → kh_DN kd fl E dn (p + 1 + x) → kh_XT fl E0 E ot0 ot → wX_evacuate_120 post J (nI fm) (nI tp) (nI p) (nI (fl k)) n (nI (p + 1 + x)) (nI cp) (nI nu) (nI po) (nI ob) (nI ot) (nI yo) (nI ex) (nI se) co fc (nI rc) dp w t mk fw sk rm im rx fn := by
  have hH' := hH
  obtain ⟨hP, hA, h96, hb, ht, hr, hD, hV, hO, hC⟩ := hH'
  intro n
  induction n with
  | zero => intro x E w t mk fw ot dn h1 h2; omega
  | succ n ih =>
    intro x E w t mk fw ot dn h1 h2 hk hp M hN X
    rw [wX_evacuate_120]
    try dsimp only
    have tq := kh_CS_top M.1 hr
    have v := hV k
    rw [nI_add p (fl k)]
    by_cases e : x = fl k
    · subst e
      refine br_t (nI_lt (by omega) (by omega)) (nm_r (e' := nI (p + (fl k + 1))) (by rw [nI_1, nI_add]) (K E w t mk fw ot dn M ?_ X))
      have e : p + (fl k + 1) = p + 1 + fl k := by omega
      rw [e]; exact hN
    · obtain ⟨a1, a2, a3, a4, a5, a6⟩ := M.1.1 k (by omega)
      have c : p + 1 + x < 208 := by omega
      have nd : ¬ dn (E k + 1 + x) := fun y => by
        have := (hN k x (by omega) (by omega)).mp y
        omega
      have Fa := (a6 x (by omega)).2 nd
      rw [hk] at Fa nd
      refine br_f (nI_nlt (by omega) (by omega)) ?_
      rw [kh_cl c]
      have nxt : ∀ (E' : Nat → Nat) (ot' : Nat), kh_XT fl E E' ot ot' → kh_Dj fl E' → kh_DN kd fl E' dn (p + 1 + x) → kh_DN kd fl E' (fun b => dn b ∨ b = E' k + 1 + x) (p + 1 + (x + 1)) := by
        intro E' ot' X' D' N' j i hj hi
        have ek := X'.1 k (by omega)
        have N2 := N' j i hj hi
        by_cases y : E' j + 1 + i = E' k + 1 + x
        · have ejk : j = k := by
            by_cases z : j = k
            · exact z
            · have := D' j k hj (by omega) z; omega
          subst ejk
          exact ⟨fun _ => ⟨h2k, by omega⟩, fun _ => Or.inr y⟩
        · refine ⟨fun z => ?_, fun z => Or.inl (N2.mpr ⟨z.1, by omega⟩)⟩
          have := N2.mp (z.resolve_right y)
          exact ⟨this.1, by omega⟩
      refine kh_isRef c (fun z => ?_) (fun z => ?_)
      · obtain ⟨q, q1, q2, q3⟩ := kh_Fw_1 Fa z
        refine br_f kh_10 ⟨vp_in_nI c (by decide), ?_⟩
        rw [q2]
        refine kh_copyOut hH M q3 (hC k x q (M.2.2.2 k (by omega)) h2k (by omega) q1) (fun E' w' t' mk' fw' ot' M2 X2 hq => ?_)
        obtain ⟨C2, Y2, F2, N2⟩ := M2
        have ek := X2.1 k (by omega)
        have tq2 := kh_CS_top C2 hr
        have b := C2.1 k (by omega)
        rw [ek, hk] at b
        obtain ⟨b1, b2, b3, b4, b5, b6⟩ := b
        have Fb := kh_Fw_ref ((b6 x (by omega)).2 nd) q1
        refine ⟨vp_in_nI c (by decide), nm_e (nm_r (nI_1 _) ?_)⟩
        have C3 := kh_CS_word (w' := upd w' (p + 1 + x) (nI (E' q))) (i := x) (k := k) C2 (by omega) (by omega) (fun b hb' => pk_un (by rw [ek, hk] at hb'; exact hb')) (by
          rw [ek, hk]
          exact Or.inr (Or.inr ⟨q, q1, Fb.1, pk_us, hq⟩))
        refine ih (x + 1) E' (upd w' (p + 1 + x) (nI (E' q))) t' mk' fw' ot' (fun b => dn b ∨ b = E' k + 1 + x) (by omega) (by omega) (by omega) hp ⟨C3, fun a a1 a2 => ?_, F2, N2⟩ (nxt E' ot' X2 C2.2.1 (kh_DN_up hN X2 (by omega) M.1.2.2.2.2.2)) (kh_XT_trans X X2)
        rw [pk_un (by omega)]
        exact Y2 a a1 a2
      · refine br_t rfl (nm_r (nI_1 _) (ih (x + 1) E w t mk fw ot (fun b => dn b ∨ b = E k + 1 + x) (by omega) (by omega) hk hp ⟨?_, M.2⟩ (nxt E ot kh_XT_refl M.1.2.1 hN) X))
        exact kh_CS_word M.1 (by omega) (by omega) (fun _ _ => rfl) (by rw [hk]; exact kh_Fw_n1 Fa z)
theorem kh_ev91 {post : SX → Prop} {E1 : Nat → Nat} {ot1 : Nat} (hH : kh_EH R kd fl sv fi ir A w0 t0 cp fm tp ob)
    (K : ∀ E w t mk fw ot dn, kh_EV R kd fl sv fi ir A w0 t0 fm tp E w t mk fw ob ot dn → kh_DN kd fl E dn ot → kh_XT fl E1 E ot1 ot → ∃ m, wX_evacuate_177 post (nI fm) (nI tp) m (nI ob) (nI cp) (nI nu) (nI po) (nI ob) (nI ot) (nI yo) (nI ex) (nI se) co fc (nI rc) dp w t mk fw sk rm im rx fn) :
    ∀ (n p : Nat) (E : Nat → Nat) (w t mk fw : Nat → Int32) (ot : Nat) (dn : Nat → Prop), ob + cp < n + p → kh_Sg (kh_BO fl E) p ot → kh_EV R kd fl sv fi ir A w0 t0 fm tp E w t mk fw ob ot dn → kh_DN kd fl E dn p → kh_XT fl E1 E ot1 ot → wX_evacuate_91 post (nI fm) (nI tp) n (nI p) (nI cp) (nI nu) (nI po) (nI ob) (nI ot) (nI yo) (nI ex) (nI se) co fc (nI rc) dp w t mk fw sk rm im rx fn := by
  have hH' := hH
  obtain ⟨hP, hA, h96, hb, ht, hr, hD, hV, hO, hC⟩ := hH'
  intro n
  induction n with
  | zero =>
    intro p E w t mk fw ot dn h1 h2 M
    have tq := kh_CS_top M.1 hr
    have := kh_Sg_le h2
    omega
  | succ n ih =>
    intro p E w t mk fw ot dn h1 h2 M hN X
    have tq := kh_CS_top M.1 hr
    rw [wX_evacuate_91]
    rcases kh_Sg_cases h2 with e | ⟨s, s0, ⟨k, k1, k2, k3⟩, hS⟩
    · subst e
      exact br_t (nI_le (Nat.le_refl _) (by omega)) (K E w t mk fw p dn M hN X)
    · have l := kh_Sg_le hS
      subst k3
      have v := hV k
      have ck := M.1.1 k k1
      have tk : t p = nI (8 * kd k + fl k) := by rw [← k2]; exact ck.2.2.2.2.1
      refine br_f (nI_ge (by omega) (by omega)) ?_
      refine kh_fields (by omega) tk v.1 v.2.1 ?_
      refine kh_kind (by omega) tk v.1 v.2.1 ?_
      refine pk_eq (kd k) 2 (fun z => ?_) (fun z => ?_) rfl rfl (by omega)
      · refine nm_r (e' := nI (p + (fl k + 1))) (by rw [nI_1, nI_add]) (ih (p + (fl k + 1)) E w t mk fw ot dn (by omega) hS M (fun j i hj hi => ?_) X)
        rw [hN j i hj hi]
        by_cases e : j = k
        · subst e; exact ⟨fun y => absurd z y.1, fun y => absurd z y.1⟩
        · have := M.1.2.1 j k hj k1 e
          exact ⟨fun y => ⟨y.1, by omega⟩, fun y => ⟨y.1, by omega⟩⟩
      · refine nm_r (nI_1 _) ⟨fl k + 1, ?_⟩
        refine kh_ev120 (E0 := E) (ot0 := ot) (k := k) hH z (fun E' w' t' mk' fw' ot' dn' M2 N2 X2 => ?_) (fl k + 1) 0 E w t mk fw ot dn (by omega) (by omega) k2 (by omega) M (fun j i hj hi => ?_) kh_XT_refl
        · exact ih (p + (fl k + 1)) E' w' t' mk' fw' ot' dn' (by omega) (X2.2.2.1 _ hS) M2 N2 (kh_XT_trans X X2)
        · rw [hN j i hj hi]
          by_cases e : j = k
          · subst e; exact ⟨fun y => ⟨y.1, by omega⟩, fun y => ⟨y.1, by omega⟩⟩
          · have := M.1.2.1 j k hj k1 e
            exact ⟨fun y => ⟨y.1, by omega⟩, fun y => ⟨y.1, by omega⟩⟩
end
end
section
/-! evacuate: the weak fields, and the whole -/
/-- serials of dead objects of kind 1 -/
def kh_DR (R : Nat → Prop) (kd sv A : Nat → Nat) (s : Nat) : Prop := ∃ k, A k < 208 ∧ kd k = 1 ∧ ¬ R k ∧ sv k = s
section
variable {cp nu po ob ot yo ex se rc : Nat} {co fc dp : Int32} {w t mk fw sk rm im rx fn : Nat → Int32} {R : Nat → Prop} {kd fl sv A E rg : Nat → Nat} {fi ir w0 t0 : Nat → Int32} {fm tp : Nat}
theorem kh_ev177 {post : SX → Prop} {se' : Nat} (hH : kh_EH R kd fl sv fi ir A w0 t0 cp fm tp ob) (hot : ot ≤ ob + cp) (hD : kh_Dj fl E) (hE : ∀ k, E k < 208 → A k < 208 ∧ ob ≤ E k ∧ E k + fl k < ot) (hRE : ∀ k, R k ↔ E k < 208)
    (hF : ∀ k, A k < 208 → (E k = 208 ∧ mk (A k) = 0) ∨ (E k < 208 ∧ mk (A k) ≠ 0 ∧ fw (A k) = nI (E k))) (hs : ∀ k, A k < 208 → 0 < sv k ∧ sv k ≤ se') (hse : se' < 2 ^ 30) (hS0 : kh_Sg (kh_Bk fl A w0 t0) fm tp)
    (K : ∀ w t, (∀ k, E k < 208 → kh_Ob kd fl sv (kh_fiw R kd fi) ir E w t (E k) k) → post (nI cp, nI nu, nI po, nI ob, nI ot, nI yo, nI (ot - ob), nI se, co, (kh_pu (kh_DR R kd sv A) se' 1 (fn, fc)).2, nI rc, dp, w, t, mk, fw, sk, rm, im, rx, (kh_pu (kh_DR R kd sv A) se' 1 (fn, fc)).1)) :
    ∀ (n p : Nat) (w t : Nat → Int32), ot < n + p → ob ≤ p → kh_Sg (kh_BO fl E) p ot → (∀ a, fm ≤ a → a < tp → w a = w0 a ∧ t a = t0 a) → (∀ k, E k < p → kh_Ob kd fl sv (kh_fiw R kd fi) ir E w t (E k) k) →
      (∀ k, p ≤ E k → E k < 208 → (kd k ≠ 2 → kh_Ob kd fl sv fi ir E w t (E k) k) ∧ (kd k = 2 → kh_Ob kd fl sv fi ir A w t (E k) k)) → wX_evacuate_177 post (nI fm) (nI tp) n (nI p) (nI cp) (nI nu) (nI po) (nI ob) (nI ot) (nI yo) (nI ex) (nI se) co fc (nI rc) dp w t mk fw sk rm im rx fn := by
  obtain ⟨hP, hA, h96, hb, ht, hr, hDA, hV, hO, hC⟩ := hH
  intro n
  induction n with
  | zero => intro p w t h1 h2 h3; have := kh_Sg_le h3; omega
  | succ n ih =>
    intro p w t h1 h2 h3 h4 h5 h6
    rw [wX_evacuate_177]
    rcases kh_Sg_cases h3 with e | ⟨s, s0, ⟨k, k1, k2, k3⟩, hS⟩
    · subst e
      refine br_t (nI_le (Nat.le_refl _) (by omega)) (nm_r (pk_sub h2) ?_)
      refine kh_finals (kd := kd) (fl := fl) (sv := sv) (A := A) (se' := se') (by omega) (fun k => ⟨(hV k).1, (hV k).2.1⟩) hDA (fun k hk => ?_) (fun k hk => by have := hA k hk; omega) hs hse ?_ ?_
      · have := hA k hk
        have z := h4 (A k) (by omega) (by omega)
        exact ⟨z.1.trans (hO k hk).1, z.2.trans (hO k hk).2.1⟩
      · refine kh_Sg_mono (fun o s o1 o2 o3 hb' => ?_) hS0
        rcases hb' with hb' | ⟨f1, f2, f3⟩
        · exact Or.inl hb'
        · have z := h4 o o1 (by omega)
          exact Or.inr ⟨z.2.trans f1, z.1.trans f2, f3⟩
      · have ed : ∀ s, kh_DS kd sv A mk s ↔ kh_DR R kd sv A s := by
          intro s
          have key : ∀ k, A k < 208 → (mk (A k) = 0 ↔ ¬ R k) := by
            intro k hk
            rw [hRE k]
            rcases hF k hk with ⟨y1, y2⟩ | ⟨y1, y2, _⟩
            · exact ⟨fun _ => by omega, fun _ => y2⟩
            · exact ⟨fun y => absurd y y2, fun y => absurd y1 y⟩
          constructor
          · rintro ⟨k, ⟨d1, d2, d3⟩, d4⟩
            exact ⟨k, d1, d2, (key k d1).mp d3, d4⟩
          · rintro ⟨k, d1, d2, d3, d4⟩
            exact ⟨k, ⟨d1, d2, (key k d1).mpr d3⟩, d4⟩
        have z := K w t (fun k hk => h5 k (by have := hE k hk; omega))
        rw [← kh_pu_congr ed] at z
        exact z
    · have l := kh_Sg_le hS
      subst k3
      have v := hV k
      have ek := hE k k1
      subst k2
      have go : ∀ (w' t' : Nat → Int32), (∀ a, a < E k ∨ E k + (fl k + 1) ≤ a → w' a = w a ∧ t' a = t a) → kh_Ob kd fl sv (kh_fiw R kd fi) ir E w' t' (E k) k → wX_evacuate_244 post (wX_evacuate_177 post (nI fm) (nI tp) n) (nI fm) (nI tp) (nI (E k)) (nI cp) (nI nu) (nI po) (nI ob) (nI ot) (nI yo) (nI ex) (nI se) co fc (nI rc) dp w' t' mk fw sk rm im rx fn := by
        intro w' t' m1 O'
        refine kh_fields k1 O'.2.1 v.1 v.2.1 (nm_r (e' := nI (E k + (fl k + 1))) (by rw [nI_1, nI_add]) (ih (E k + (fl k + 1)) w' t' (by omega) (by omega) hS (fun a a1 a2 => ?_) (fun j hj => ?_) (fun j j1 j2 => ?_)))
        · have z1 := m1 a (by omega)
          have z2 := h4 a a1 a2
          exact ⟨z1.1.trans z2.1, z1.2.trans z2.2⟩
        · by_cases e : j = k
          · subst e; exact O'
          · have := hD j k (by omega) k1 e
            exact kh_Ob_same (h5 j (by omega)) (fun a a1 a2 => m1 a (by omega))
        · have q := h6 j (by omega) j2
          exact ⟨fun y => kh_Ob_same (q.1 y) (fun a a1 a2 => m1 a (by omega)), fun y => kh_Ob_same (q.2 y) (fun a a1 a2 => m1 a (by omega))⟩
      obtain ⟨O1, O2⟩ := h6 k (Nat.le_refl _) k1
      have tk : t (E k) = nI (8 * kd k + fl k) := by
        by_cases z : kd k = 2
        · exact (O2 z).2.1
        · exact (O1 z).2.1
      refine br_f (nI_ge (by omega) (by omega)) ?_
      refine kh_kind k1 tk v.1 v.2.1 ?_
      refine pk_eq (kd k) 2 (fun z => ?_) (fun z => ?_) rfl rfl (by omega)
      · have v4 := (v.2.2 z).1
        have O := O2 z
        have c1 : E k + 1 < 208 := by omega
        rw [nI_1]
        rcases kh_weak1 hV z O with ⟨y1, y2⟩ | ⟨q, y1, y2, y3, y4⟩
        · refine kh_isRef c1 (fun y => ?_) (fun y => ?_)
          · rw [y2] at y; exact absurd y (by decide)
          · exact br_t rfl (go w t (fun _ _ => ⟨rfl, rfl⟩) (kh_weakNull hV z O.1 O.2.1 (kh_fiw_0 y1) y2))
        · refine kh_isRef c1 (fun y => ?_) (fun y => absurd y2 y)
          refine br_f kh_10 ⟨vp_in_nI c1 (by decide), ?_⟩
          rw [kh_cl c1, y3, kh_cl y4]
          refine ⟨vp_in_nI y4 (by decide), ?_⟩
          rcases hF q y4 with ⟨d1, d2⟩ | ⟨d1, d2, d3⟩
          · refine br_t d2 (kh_srNull c1 ?_)
            refine go (upd w (E k + 1) 0) (upd t (E k + 1) 2) (fun a ha => ⟨pk_un (by omega), pk_un (by omega)⟩) (kh_weakNull hV z (by rw [pk_un (by omega)]; exact O.1) (by rw [pk_un (by omega)]; exact O.2.1) ?_ pk_us)
            exact kh_fiw_c (i := 0) z (by omega) (fun r => by have := (hRE q).mp r; omega) y1.2.2.1 y1.2.2.2
          · rw [d3]
            have eq := hE q d1
            refine br_f d2 ⟨vp_in_nI c1 (by decide), vp_in_nI y4 (by decide), ?_⟩
            refine kh_srRef c1 d1 (fun y5 y6 => by omega) (fun _ => ?_)
            exact go (upd w (E k + 1) (nI (E q))) (upd t (E k + 1) 1) (fun a ha => ⟨pk_un (by omega), pk_un (by omega)⟩) (kh_weakRef hV z (by rw [pk_un (by omega)]; exact O.1) (by rw [pk_un (by omega)]; exact O.2.1) y1 ((hRE q).mpr d1) pk_us pk_us d1)
      · exact go w t (fun _ _ => ⟨rfl, rfl⟩) (kh_strong hV z (O1 z))
theorem kh_evacuate {post : SX → Prop} {se' : Nat} (hG : kh_Ge cp ob ot 0) (hV : kh_RV kd fl ir) (H : kh_HP kd fl sv fi ir A w t ob ot 0) (hR : kh_RG rg A rx) (hc : kh_pw fl A ≤ cp) (hs : ∀ k, A k < 208 → 0 < sv k ∧ sv k ≤ se') (hse : se' < 2 ^ 30)
    (K : ∀ A' w' t' mk' fw' rx' ot', kh_HP kd fl sv (kh_fiw (kh_Rch rg kd fl fi ir) kd fi) ir A' w' t' (112 - ob) ot' 0 → kh_RG rg A' rx' → (∀ k, kh_Rch rg kd fl fi ir k ↔ A' k < 208) → (∀ k, A' k < 208 → A k < 208) → kh_Ge cp (112 - ob) ot' 0 →
      post (nI cp, nI nu, nI po, nI (112 - ob), nI ot', nI 0, nI (kh_cw (kh_Rch rg kd fl fi ir) fl), nI se, co, (kh_pu (kh_DR (kh_Rch rg kd fl fi ir) kd sv A) se' 1 (fn, fc)).2, nI rc, dp, w', t', mk', fw', sk, rm, im, rx', (kh_pu (kh_DR (kh_Rch rg kd fl fi ir) kd sv A) se' 1 (fn, fc)).1)) : wpX_evacuate post (nI cp, nI nu, nI po, nI ob, nI ot, nI 0, nI ex, nI se, co, fc, nI rc, dp, w, t, mk, fw, sk, rm, im, rx, fn) := by
  obtain ⟨p1, p2, p3, p4, p5, p6⟩ := H
  obtain ⟨g1, g2, g3, g4, g5⟩ := hG
  have hH : kh_EH (kh_Rch rg kd fl fi ir) kd fl sv fi ir A w t cp ob ot (112 - ob) := ⟨p1, fun k hk => by have := p3 k hk; omega, g1, by omega, g4, by omega, p4, hV, p2, fun k i q a b c d => kh_Rch_step a b c d⟩
  refine ⟨ot + 1, kh_ev12 (fb := ob) (yo := 0) (by omega) (by omega) (fun mk1 m1 => ?_) (ot + 1) ob mk (by omega) (Nat.le_refl _) g3 (fun a a1 a2 => by omega)⟩
  have z0 : kh_pw fl (fun _ => 208) = 0 := kh_sm_0 (fun i _ => if_neg (show ¬ (208 : Nat) < 208 by omega))
  have M0 : kh_EV (kh_Rch rg kd fl fi ir) kd fl sv fi ir A w t ob ot (fun _ => 208) w t mk1 fw (112 - ob) (112 - ob) (fun _ => False) :=
    ⟨⟨fun k hk => absurd (show (208 : Nat) < 208 from hk) (by omega), fun k j hk => absurd (show (208 : Nat) < 208 from hk) (by omega), kh_Sg_nil, kh_Sg_nil, by rw [z0], fun a ha => ha.elim⟩, fun a _ _ => ⟨rfl, rfl⟩, fun k hk => Or.inl ⟨rfl, m1 _ (by have := p3 k hk; omega) (by have := p3 k hk; omega)⟩, fun k hk => absurd (show (208 : Nat) < 208 from hk) (by omega)⟩
  refine ⟨9, kh_ev48 (rg := rg) (ob := 112 - ob) (yo := 0) (dn := fun _ => False) hH (fun r r1 r2 => kh_Rch_root r1 r2) (fun E2 w2 t2 mk2 fw2 ot2 rx2 M2 R2 => ?_) 9 0 (fun _ => 208) w t mk1 fw (112 - ob) rx (by omega) (by omega) M0 (fun r r1 => by omega) (fun r _ r2 => hR r r2)⟩
  refine ⟨112 - ob + cp + 1, kh_ev91 (ob := 112 - ob) (yo := 0) (E1 := E2) (ot1 := ot2) hH (fun E3 w3 t3 mk3 fw3 ot3 dn3 M3 N3 X3 => ?_) (112 - ob + cp + 1) (112 - ob) E2 w2 t2 mk2 fw2 ot2 (fun _ => False) (by omega) M2.1.2.2.2.1 M2 (fun j i hj hi => ?_) kh_XT_refl⟩
  rotate_left
  · have := (M2.1.1 j hj).2.1
    exact ⟨fun y => y.elim, fun y => by omega⟩
  obtain ⟨C3, Y3, F3, G3⟩ := M3
  have tq := kh_CS_top C3 hH.2.2.2.2.2.1
  obtain ⟨c1, c2, c3, c4, c5, c6⟩ := C3
  have l := kh_Sg_le c4
  have R3 : kh_RG rg E3 rx2 := fun r hr => kh_R1_up X3.1 (R2 r hr)
  have OB : ∀ k, E3 k < 208 → (kd k ≠ 2 → kh_Ob kd fl sv fi ir E3 w3 t3 (E3 k) k) ∧ (kd k = 2 → kh_Ob kd fl sv fi ir A w3 t3 (E3 k) k) := by
    intro k hk
    obtain ⟨a1, a2, a3, a4, a5, a6⟩ := c1 k hk
    exact ⟨fun z => ⟨a4, a5, fun i hi => (a6 i hi).1 ((N3 k i hk hi).mpr ⟨z, by omega⟩)⟩, fun z => ⟨a4, a5, fun i hi => (a6 i hi).2 (fun y => ((N3 k i hk hi).mp y).1 z)⟩⟩
  have RE : ∀ k, kh_Rch rg kd fl fi ir k ↔ E3 k < 208 := by
    intro k
    refine ⟨fun h => h (fun k => E3 k < 208) (fun r r1 r2 => ?_) (fun k i q hk h2 hi hf => (kh_Fw_ref (((OB k hk).1 h2).2.2 i hi) hf).2.2), G3 k⟩
    rcases R3 r r1 with ⟨z, _⟩ | ⟨_, z, _⟩
    · omega
    · exact z
  have hE : ∀ k, E3 k < 208 → A k < 208 ∧ 112 - ob ≤ E3 k ∧ E3 k + fl k < ot3 := fun k hk => ⟨(c1 k hk).1, (c1 k hk).2.1, (c1 k hk).2.2.1⟩
  refine ⟨ot3 + 1, kh_ev177 (ob := 112 - ob) (yo := 0) (E := E3) (w0 := w) (t0 := t) hH tq c2 hE RE F3 hs hse p5 (fun w4 t4 o4 => ?_) (ot3 + 1) (112 - ob) w3 t3 (by omega) (Nat.le_refl _) c4 Y3 (fun k hk => ?_) (fun k _ hk => OB k hk)⟩
  · have e : ot3 - (112 - ob) = kh_cw (kh_Rch rg kd fl fi ir) fl := by
      have : kh_pw fl E3 = kh_cw (kh_Rch rg kd fl fi ir) fl := kh_cw_eq (fun k _ hk => if_pos ((RE k).mp hk)) (fun k _ hk => if_neg (fun y => hk ((RE k).mpr y)))
      omega
    rw [e]
    refine K E3 w4 t4 mk3 fw3 rx2 ot3 ⟨fun k hk => p1 k (c1 k hk).1, o4, fun k hk => Or.inl ⟨(hE k hk).2.1, (hE k hk).2.2⟩, c2, kh_Sg_mono (fun o s _ _ _ hb => Or.inl hb) c4, kh_Sg_nil⟩ R3 RE (fun k hk => (c1 k hk).1) ⟨g1, by omega, l, tq, by omega⟩
  · have := hE k (by omega)
    omega
end
end
section
/-! major -/
def kh_DY (R : Nat → Prop) (kd sv : Nat → Nat) (s : Nat) : Prop := ∃ k, 0 < k ∧ k < 97 ∧ 0 < sv k ∧ kd k = 1 ∧ ¬ R k ∧ sv k = s
theorem kh_fiw_ref {rg kd fl : Nat → Nat} {fi ir : Nat → Int32} {k i q : Nat} (hi : i < fl k) (h6 : fl k ≤ 6) (hk : kh_Rch rg kd fl fi ir k) (h : kh_Rf (kh_fiw (kh_Rch rg kd fl fi ir) kd fi) ir (6 * k + i) q) : kh_Rch rg kd fl fi ir q := by
  obtain ⟨h1, h2, h3, h4⟩ := h
  by_cases z : kd k = 2
  · rcases Classical.em (kh_Rch rg kd fl fi ir (fi (6 * k + i)).toNatClampNeg) with c | c
    · have e : kh_fiw (kh_Rch rg kd fl fi ir) kd fi (6 * k + i) = fi (6 * k + i) := by
        unfold kh_fiw
        rw [if_neg (fun y => y.2 c)]
      rw [e] at h4
      rw [h4, nI_clamp (by omega)] at c
      exact c
    · have e : kh_fiw (kh_Rch rg kd fl fi ir) kd fi (6 * k + i) = 0 := by
        unfold kh_fiw
        have e2 : (6 * k + i) / 6 = k := by omega
        rw [if_pos ⟨by rw [e2]; exact z, c⟩]
      rw [e] at h4
      exact absurd h4.symm (nI_ne0 h2 (by omega))
  · rw [kh_fiw_n z (by omega)] at h4
    exact kh_Rch_step hk z hi ⟨h1, h2, h3, h4⟩
section
variable {cp nu po ob ot yo ex se rc : Nat} {co fc dp : Int32} {w t mk fw sk rm im rx fn : Nat → Int32} {kd fl sv A rg : Nat → Nat} {fi ir : Nat → Int32}
theorem kh_major {post : SX → Prop} {se' : Nat} (hG : kh_Ge cp ob ot yo) (hpo : po < 3) (hV : kh_RV kd fl ir) (X : kh_XI kd fl sv fi ir rg A w t rm im rx ob ot yo rc) (hs : ∀ k, A k < 208 → 0 < sv k ∧ sv k ≤ se') (hse : se' < 2 ^ 30)
    (hk1 : ∀ k, 0 < k → k < 97 → 0 < sv k → kd k = 1 → A k < 208) (hc : kh_pw fl A ≤ cp)
    (K : ∀ A' w' t' mk' fw' sk' rm' im' rx' ob' ot' dp', kh_HP kd fl sv (kh_fiw (kh_Rch rg kd fl fi ir) kd fi) ir A' w' t' ob' ot' 0 → kh_RG rg A' rx' → (∀ k, kh_Rch rg kd fl fi ir k ↔ A' k < 208) → (∀ a, a < 208 → im' a = 0) → kh_Ge cp ob' ot' 0 →
      post (nI cp, nI nu, nI po, nI ob', nI ot', nI 0, nI (kh_cw (kh_Rch rg kd fl fi ir) fl), nI se, co + 1, (kh_pu (kh_DY (kh_Rch rg kd fl fi ir) kd sv) se' 1 (fn, fc)).2, nI 0, dp', w', t', mk', fw', sk', rm', im', rx', (kh_pu (kh_DY (kh_Rch rg kd fl fi ir) kd sv) se' 1 (fn, fc)).1)) : wpX_major post (nI cp, nI nu, nI po, nI ob, nI ot, nI yo, nI ex, nI se, co, fc, nI rc, dp, w, t, mk, fw, sk, rm, im, rx, fn) := by
  have hv : ∀ k, kd k ≤ 2 ∧ fl k ≤ 6 := fun k => ⟨(hV k).1, (hV k).2.1⟩
  unfold wpX_major
  refine kh_minor (rg := rg) hG hv X hc (fun A1 w1 t1 mk1 fw1 rm1 im1 rx1 ot1 H1 R1 i1 s1 k1 G1 => ?_)
  have H1' := H1
  have G1' := G1
  obtain ⟨p1, p2, p3, p4, p5, p6⟩ := H1'
  obtain ⟨g1, g2, g3, g4, g5⟩ := G1'
  have hA : ∀ k, A1 k < 208 → ob ≤ A1 k ∧ A1 k + fl k < ot1 := fun k hk => by have := p3 k hk; omega
  have c1 : kh_pw fl A1 ≤ cp := Nat.le_trans (kh_pw_le s1) hc
  have dy : ∀ s, kh_DR (kh_Rch rg kd fl fi ir) kd sv A1 s ↔ kh_DY (kh_Rch rg kd fl fi ir) kd sv s := by
    intro s
    constructor
    · rintro ⟨k, d1, d2, d3, d4⟩
      exact ⟨k, (p1 k d1).1, (p1 k d1).2, (hs k (s1 k d1)).1, d2, d3, d4⟩
    · rintro ⟨k, d1, d2, d3, d4, d5, d6⟩
      exact ⟨k, k1 k (hk1 k d1 d2 d3 d4) d4, d4, d5, d6⟩
  refine pk_eq po 2 (fun z => ?_) (fun z => ?_)
  · refine kh_evacuate (rg := rg) (se' := se') G1 hV H1 R1 c1 (fun k hk => hs k (s1 k hk)) hse (fun A2 w2 t2 mk2 fw2 rx2 ot2 H2 R2 e2 _ G2 => nm_e ?_)
    rw [kh_pu_congr dy]
    exact K A2 w2 t2 mk2 fw2 sk rm1 im1 rx2 (112 - ob) ot2 dp H2 R2 e2 i1 G2
  · refine kh_mark (rg := rg) p1 p4 hv p2 (fun k hk => by have := hA k hk; omega) R1 (fun mk2 sk2 m1 m2 => ?_)
    refine kh_clearWeak (R := kh_Rch rg kd fl fi ir) G1 hV H1 m1 (fun w3 t3 H3 => ?_)
    have H3' := H3
    obtain ⟨q1, q2, q3, q4, q5, q6⟩ := H3'
    refine kh_finals (kd := kd) (fl := fl) (sv := sv) (A := A1) (se' := se') (by omega) hv q4 (fun k hk => ⟨(q2 k hk).1, (q2 k hk).2.1⟩) (fun k hk => by have := hA k hk; omega) (fun k hk => hs k (s1 k hk)) hse q5 ?_
    have ds : ∀ s, kh_DS kd sv A1 mk2 s ↔ kh_DR (kh_Rch rg kd fl fi ir) kd sv A1 s := by
      intro s
      constructor
      · rintro ⟨k, ⟨d1, d2, d3⟩, d4⟩
        exact ⟨k, d1, d2, fun y => ((m1 k).mp y).2 d3, d4⟩
      · rintro ⟨k, d1, d2, d3, d4⟩
        refine ⟨k, ⟨d1, d2, ?_⟩, d4⟩
        by_cases y : mk2 (A1 k) = 0
        · exact y
        · exact absurd ((m1 k).mpr ⟨d1, y⟩) d3
    rw [kh_pu_congr (fun s => (ds s).trans (dy s))]
    have root : ∀ r, r < 8 → 0 < rg r → A1 (rg r) < 208 ∧ mk2 (A1 (rg r)) ≠ 0 := fun r r1 r2 => (m1 _).mp (kh_Rch_root r1 r2)
    refine pk_eq po 1 (fun z1 => ?_) (fun z1 => ?_)
    · refine kh_sweep G1 hv H3 (fun k i q a b c d => ?_) (fun w4 t4 ot4 H4 o1 o2 => nm_e ?_)
      · exact (m1 q).mp (kh_fiw_ref c (hv k).2 ((m1 k).mpr ⟨a, b⟩) d)
      · refine K (kh_WA A1 mk2) w4 t4 mk2 fw1 sk2 rm1 im1 rx1 ob ot4 (nI 0) H4 (fun r hr => ?_) (fun k => ?_) i1 ⟨g1, g2, o1, by omega, by omega⟩
        · rcases R1 r hr with y | ⟨y1, y2, y3⟩
          · exact Or.inl y
          · have e := kh_WA_k (root r hr y1).2
            exact Or.inr ⟨y1, by rw [e]; exact y2, by rw [e]; exact y3⟩
        · rw [m1 k]
          refine ⟨fun y => by rw [kh_WA_k y.2]; exact y.1, fun y => ?_⟩
          obtain ⟨y1, y2, _⟩ := kh_WA_pl y
          exact ⟨y1, y2⟩
    · obtain ⟨l1, l2⟩ := kh_KS_low (mk := mk2) q1 q4 (show ot1 ≤ 208 by omega) q5
      have kp : ∀ k, A1 k < 208 → mk2 (A1 k) ≠ 0 → kh_SA fl A1 mk2 ob ot1 k < 208 := by
        intro k y1 y2
        have := hA k y1
        rw [kh_SA_k (by omega) (by omega) y2]
        have := l2 k (by omega) (by omega)
        omega
      have pk : ∀ k, kh_SA fl A1 mk2 ob ot1 k < 208 → A1 k < 208 ∧ mk2 (A1 k) ≠ 0 := by
        intro k y
        obtain ⟨y1, y2⟩ := kh_SA_pl (by omega) y
        rcases y2 with ⟨_, _, y3, _⟩ | ⟨y3, _⟩
        · exact ⟨y1, y3⟩
        · have := hA k y1
          exact absurd ⟨by omega, by omega⟩ y3
      refine kh_slide (rg := rg) G1 hv H3 ?_ (fun k i q a b c => ?_) R1 (fun r r1 r2 => kp _ (root r r1 r2).1 (root r r1 r2).2) (fun w4 t4 fw4 rx4 H4 R4 => nm_e ?_)
      · refine kh_Sg_mono (fun o s o1 o2 o3 hb => ?_) q5
        rcases hb with hb | ⟨f1, f2, f3⟩
        · exact Or.inl hb
        · refine Or.inr ⟨⟨f1, f2, f3⟩, ?_⟩
          by_cases y : mk2 o = 0
          · exact y
          · obtain ⟨k, y1, y2⟩ := m2 o (by omega) y
            have := f3 k y1
            omega
      · obtain ⟨a1, a2⟩ := pk k a
        have y := (m1 q).mp (kh_fiw_ref b (hv k).2 ((m1 k).mpr ⟨a1, a2⟩) c)
        exact kp q y.1 y.2
      · refine K (kh_SA fl A1 mk2 ob ot1) w4 t4 mk2 fw4 sk2 rm1 im1 rx4 ob (ob + kh_KS fl A1 mk2 ob ot1) (nI 0) H4 R4 (fun k => ?_) i1 ⟨g1, g2, by omega, by omega, by omega⟩
        rw [m1 k]
        exact ⟨fun y => kp k y.1 y.2, pk k⟩
end
end
section
/-! allocation -/
def kh_RSV (fl A : Nat → Nat) (w t : Nat → Int32) (ob ot yo o s : Nat) : Prop :=
  o + s ≤ 208 ∧ 0 < s ∧ (∀ k, A k < 208 → A k + fl k < o ∨ o + s ≤ A k) ∧
  ((96 ≤ o ∧ o + s = 96 + yo ∧ kh_Sg (kh_Bk fl A w t) ob ot ∧ kh_Sg (kh_BO fl A) 96 o) ∨ (ob ≤ o ∧ o + s ≤ ot ∧ kh_Sg (kh_Bk fl A w t) ob o ∧ kh_Sg (kh_Bk fl A w t) (o + s) ot ∧ kh_Sg (kh_BO fl A) 96 (96 + yo)))
def kh_XQ (kd fl sv : Nat → Nat) (fi ir : Nat → Int32) (rg A : Nat → Nat) (w t rm im rx : Nat → Int32) (ob ot yo rc o s : Nat) : Prop :=
  (kh_PV A ∧ (∀ k, A k < 208 → kh_Ob kd fl sv fi ir A w t (A k) k) ∧ kh_Rg fl A ob ot yo ∧ kh_Dj fl A ∧ kh_RSV fl A w t ob ot yo o s) ∧ kh_RG rg A rx ∧ kh_RS rm im rc ∧ kh_RM fl fi ir A im
theorem kh_XI_of {kd fl sv rg A : Nat → Nat} {fi ir w t rm im rx : Nat → Int32} {cp ob ot : Nat} (hG : kh_Ge cp ob ot 0) (H : kh_HP kd fl sv fi ir A w t ob ot 0) (hR : kh_RG rg A rx) (hi : ∀ a, a < 208 → im a = 0) : kh_XI kd fl sv fi ir rg A w t rm im rx ob ot 0 0 := by
  refine ⟨H, hR, kh_RS_nil hi, fun a a1 a2 => absurd (hi a a1) a2, fun k i q _ _ _ _ q1 q2 => ?_⟩
  obtain ⟨g1, g2, g3, g4, g5⟩ := hG
  have := H.2.2.1 q (by omega)
  omega
section
variable {cp nu po ob ot yo ex se rc : Nat} {co fc dp : Int32} {w t mk fw sk rm im rx fn : Nat → Int32} {kd fl sv A rg : Nat → Nat} {fi ir : Nat → Int32}
theorem kh_bf7 {post : Int32 → SX → Prop} {sz : Nat} (hG : kh_Ge cp ob ot yo) (hz : 0 < sz) (hz7 : sz ≤ 7) (hV : ∀ k, kd k ≤ 2 ∧ fl k ≤ 6) (hT : ∀ k, A k < 208 → t (A k) = nI (8 * kd k + fl k)) (hD : kh_Dj fl A)
    (K0 : post (-1) (nI cp, nI nu, nI po, nI ob, nI ot, nI yo, nI ex, nI se, co, fc, nI rc, dp, w, t, mk, fw, sk, rm, im, rx, fn)) (K1 : ∀ b s, ob ≤ b → b + s ≤ ot → sz ≤ s → kh_BF fl A w t b s → kh_Sg (kh_Bk fl A w t) ob b → kh_Sg (kh_Bk fl A w t) (b + s) ot → (s = sz → post (nI b) (nI cp, nI nu, nI po, nI ob, nI ot, nI yo, nI ex, nI se, co, fc, nI rc, dp, w, t, mk, fw, sk, rm, im, rx, fn)) ∧ (sz < s → post (nI b) (nI cp, nI nu, nI po, nI ob, nI ot, nI yo, nI ex, nI se, co, fc, nI rc, dp, upd w (b + sz) (nI (s - sz)), upd t (b + sz) (-1), mk, fw, sk, rm, im, rx, fn))) :
    ∀ (n o : Nat) (x2 : Int32), ot < n + o → ob ≤ o → kh_Sg (kh_Bk fl A w t) ob o → kh_Sg (kh_Bk fl A w t) o ot →
      (x2 = -1 ∨ ∃ b s, x2 = nI b ∧ ob ≤ b ∧ b + s ≤ o ∧ sz ≤ s ∧ kh_BF fl A w t b s ∧ kh_Sg (kh_Bk fl A w t) ob b ∧ kh_Sg (kh_Bk fl A w t) (b + s) o) → wX_bestFit_7 post (nI sz) (nI cp) (nI nu) (nI po) (nI ob) (nI ot) (nI yo) (nI ex) (nI se) co fc (nI rc) dp w t mk fw sk rm im rx fn n x2 (nI o) := by
  obtain ⟨g1, g2, g3, g4, g5⟩ := hG
  intro n
  induction n with
  | zero => intro o x2 h1 h2 h3 h4; have := kh_Sg_le h4; omega
  | succ n ih =>
    intro o x2 h1 h2 h3 h4 h5
    rw [wX_bestFit_7]
    rcases kh_Sg_cases h4 with e | ⟨s, s0, hb, hS⟩
    · subst e
      refine br_t (nI_le (Nat.le_refl _) (by omega)) ?_
      rcases h5 with rfl | ⟨b, s, rfl, b1, b2, b3, b4, b5, b6⟩
      · exact br_t (by decide) K0
      · have c : b < 208 := by omega
        refine br_f (kh_nn0 c) ⟨vp_in_nI c (by decide), ?_⟩
        obtain ⟨k0, k1⟩ := K1 b s b1 b2 b3 b4 b5 b6
        rw [kh_cl c, b4.2.1]
        refine pk_le s sz (fun z => k0 (by omega)) (fun z => ⟨vp_in_nI c (by decide), ?_⟩)
        rw [nI_add b sz, pk_sub (by omega)]
        exact kh_makeFree (by omega) (k1 z)
    · have l := kh_Sg_le hS
      have c : o < 208 := by omega
      have keep : ∀ (x : Int32), (x = -1 ∨ ∃ b s', x = nI b ∧ ob ≤ b ∧ b + s' ≤ o + s ∧ sz ≤ s' ∧ kh_BF fl A w t b s' ∧ kh_Sg (kh_Bk fl A w t) ob b ∧ kh_Sg (kh_Bk fl A w t) (b + s') (o + s)) → wX_bestFit_54 post (wX_bestFit_7 post (nI sz) (nI cp) (nI nu) (nI po) (nI ob) (nI ot) (nI yo) (nI ex) (nI se) co fc (nI rc) dp w t mk fw sk rm im rx fn n) (nI sz) x (nI o) (nI cp) (nI nu) (nI po) (nI ob) (nI ot) (nI yo) (nI ex) (nI se) co fc (nI rc) dp w t mk fw sk rm im rx fn := by
        intro x hx
        have nxt := ih (o + s) x (by omega) (by omega) (kh_Sg_snoc h3 s0 hb) hS hx
        rcases hb with ⟨k, k1, k2, k3⟩ | ⟨f1, f2, f3⟩
        · subst k2 k3
          exact kh_sizeO c (hT k k1) (hV k).1 (hV k).2 (nm_r (nI_add _ _) nxt)
        · exact kh_sizeF c f1 f2 (nm_r (nI_add _ _) nxt)
      have old : x2 = -1 ∨ ∃ b s', x2 = nI b ∧ ob ≤ b ∧ b + s' ≤ o + s ∧ sz ≤ s' ∧ kh_BF fl A w t b s' ∧ kh_Sg (kh_Bk fl A w t) ob b ∧ kh_Sg (kh_Bk fl A w t) (b + s') (o + s) := by
        rcases h5 with h5 | ⟨b, s', b0, b1, b2, b3, b4, b5, b6⟩
        · exact Or.inl h5
        · exact Or.inr ⟨b, s', b0, b1, by omega, b3, b4, b5, kh_Sg_snoc b6 s0 hb⟩
      refine br_f (nI_ge (by omega) (by omega)) ?_
      have hb' := hb
      rcases hb' with ⟨k, k1, k2, k3⟩ | ⟨f1, f2, f3⟩
      · refine kh_isF0 (n := 8 * kd k + fl k) c (by rw [← k2]; exact hT k k1) (by have := hV k; omega) (br_t rfl (keep x2 old))
      · refine kh_isF1 c f1 (br_f kh_10 ⟨vp_in_nI c (by decide), ?_⟩)
        rw [kh_cl c, f2]
        have new : sz ≤ s → (nI o = -1 ∨ ∃ b s', nI o = nI b ∧ ob ≤ b ∧ b + s' ≤ o + s ∧ sz ≤ s' ∧ kh_BF fl A w t b s' ∧ kh_Sg (kh_Bk fl A w t) ob b ∧ kh_Sg (kh_Bk fl A w t) (b + s') (o + s)) :=
          fun z => Or.inr ⟨o, s, rfl, h2, Nat.le_refl _, z, ⟨f1, f2, f3⟩, h3, kh_Sg_nil⟩
        refine br_c (fun _ => keep x2 old) (fun z => ?_)
        have z' : sz ≤ s := by
          by_cases y : sz ≤ s
          · exact y
          · exact absurd (nI_lt (by omega) (by omega)) z
        rcases h5 with rfl | ⟨b, s', rfl, b1, b2, b3, b4, b5, b6⟩
        · exact br_t (by decide) (keep (nI o) (new z'))
        · have cb : b < 208 := by omega
          refine br_f (kh_nn0 cb) ⟨vp_in_nI c (by decide), vp_in_nI cb (by decide), ?_⟩
          exact br_c (fun _ => keep (nI b) old) (fun _ => keep (nI o) (new z'))
end
end
section
/-! allocateOld, allocate, start -/
section
variable {cp nu po ob ot yo ex se rc : Nat} {co fc dp : Int32} {w t mk fw sk rm im rx fn : Nat → Int32} {kd fl sv A rg : Nat → Nat} {fi ir : Nat → Int32}
theorem kh_bestFit {post : Int32 → SX → Prop} {sz : Nat} (hG : kh_Ge cp ob ot yo) (hz : 0 < sz) (hz7 : sz ≤ 7) (hV : ∀ k, kd k ≤ 2 ∧ fl k ≤ 6) (X : kh_XI kd fl sv fi ir rg A w t rm im rx ob ot yo rc)
    (K0 : post (-1) (nI cp, nI nu, nI po, nI ob, nI ot, nI yo, nI ex, nI se, co, fc, nI rc, dp, w, t, mk, fw, sk, rm, im, rx, fn)) (K1 : ∀ b w' t', b < 208 → kh_XQ kd fl sv fi ir rg A w' t' rm im rx ob ot yo rc b sz → post (nI b) (nI cp, nI nu, nI po, nI ob, nI ot, nI yo, nI ex, nI se, co, fc, nI rc, dp, w', t', mk, fw, sk, rm, im, rx, fn)) : wpX_bestFit post (nI cp, nI nu, nI po, nI ob, nI ot, nI yo, nI ex, nI se, co, fc, nI rc, dp, w, t, mk, fw, sk, rm, im, rx, fn) (nI sz) := by
  obtain ⟨⟨p1, p2, p3, p4, p5, p6⟩, hR, hS, hM⟩ := X
  have hG' := hG
  obtain ⟨g1, g2, g3, g4, g5⟩ := hG'
  refine ⟨ot + 1, kh_bf7 hG hz hz7 hV (fun k hk => (p2 k hk).2.1) p4 K0 (fun b s b1 b2 b3 b4 b5 b6 => ⟨fun z => ?_, fun z => ?_⟩) (ot + 1) ob (-1) (by omega) (Nat.le_refl _) kh_Sg_nil p5 (Or.inl rfl)⟩
  · subst z
    exact K1 b w t (by omega) ⟨⟨p1, p2, p3, p4, by omega, hz, b4.2.2, Or.inr ⟨b1, b2, b5, b6, p6⟩⟩, hR, hS, hM⟩
  · obtain ⟨f1, f2, f3⟩ := b4
    refine K1 b _ _ (by omega) ⟨⟨p1, fun k hk => ?_, p3, p4, by omega, hz, fun k hk => ?_, Or.inr ⟨b1, by omega, ?_, ?_, p6⟩⟩, hR, hS, hM⟩
    · have := f3 k hk
      exact kh_Ob_same (p2 k hk) (fun a a1 a2 => ⟨pk_un (by omega), pk_un (by omega)⟩)
    · have := f3 k hk
      omega
    · refine kh_Sg_mono (fun o s' o1 o2 o3 hb => ?_) b5
      rcases hb with hb | ⟨h1, h2, h3⟩
      · exact Or.inl hb
      · exact Or.inr ⟨by rw [pk_un (by omega)]; exact h1, by rw [pk_un (by omega)]; exact h2, h3⟩
    · refine kh_Sg_cons (s := s - sz) (by omega) (Or.inr ⟨pk_us, pk_us, fun k hk => by have := f3 k hk; omega⟩) ?_
      have e : b + sz + (s - sz) = b + s := by omega
      rw [e]
      refine kh_Sg_mono (fun o s' o1 o2 o3 hb => ?_) b6
      rcases hb with hb | ⟨h1, h2, h3⟩
      · exact Or.inl hb
      · exact Or.inr ⟨by rw [pk_un (by omega)]; exact h1, by rw [pk_un (by omega)]; exact h2, h3⟩
theorem kh_ao46 {post : Int32 → SX → Prop} {sz : Nat} (hG : kh_Ge cp ob ot yo) (hz : 0 < sz) (X : kh_XI kd fl sv fi ir rg A w t rm im rx ob ot yo rc) (hr : ot + sz ≤ ob + cp)
    (K : kh_XQ kd fl sv fi ir rg A w t rm im rx ob (ot + sz) yo rc ot sz → kh_Ge cp ob (ot + sz) yo → post (nI ot) (nI cp, nI nu, nI po, nI ob, nI (ot + sz), nI yo, nI ex, nI se, co, fc, nI rc, dp, w, t, mk, fw, sk, rm, im, rx, fn)) : wX_allocateOld_46 post (nI sz) (nI cp) (nI nu) (nI po) (nI ob) (nI ot) (nI yo) (nI ex) (nI se) co fc (nI rc) dp w t mk fw sk rm im rx fn := by
  obtain ⟨⟨p1, p2, p3, p4, p5, p6⟩, hR, hS, hM⟩ := X
  obtain ⟨g1, g2, g3, g4, g5⟩ := hG
  unfold wX_allocateOld_46
  refine nm_r (nI_add _ _) ?_
  rw [pk_sub (by omega), Nat.add_sub_cancel]
  refine K ⟨⟨p1, p2, fun k hk => ?_, p4, by omega, hz, fun k hk => ?_, Or.inr ⟨g3, Nat.le_refl _, p5, kh_Sg_nil, p6⟩⟩, hR, hS, hM⟩ ⟨g1, g2, by omega, hr, g5⟩
  · have := p3 k hk; omega
  · have := p3 k hk; omega
theorem kh_allocOld {post : Int32 → SX → Prop} {sz : Nat} (hG : kh_Ge cp ob ot yo) (hz : 0 < sz) (hz7 : sz ≤ 7) (hpo : po < 3) (hV : ∀ k, kd k ≤ 2 ∧ fl k ≤ 6) (X : kh_XI kd fl sv fi ir rg A w t rm im rx ob ot yo rc) (hc : kh_pw fl A + sz ≤ cp)
    (K : ∀ A' w' t' mk' fw' rm' im' rc' rx' ot' o, o < 208 → kh_XQ kd fl sv fi ir rg A' w' t' rm' im' rx' ob ot' yo rc' o sz → (∀ k, A' k < 208 ↔ A k < 208) → kh_Ge cp ob ot' yo → post (nI o) (nI cp, nI nu, nI po, nI ob, nI ot', nI yo, nI ex, nI se, co, fc, nI rc', dp, w', t', mk', fw', sk, rm', im', rx', fn)) : wpX_allocateOld post (nI cp, nI nu, nI po, nI ob, nI ot, nI yo, nI ex, nI se, co, fc, nI rc, dp, w, t, mk, fw, sk, rm, im, rx, fn) (nI sz) := by
  have hG' := hG
  obtain ⟨g1, g2, g3, g4, g5⟩ := hG'
  have k17 : wX_allocateOld_17 post (nI sz) (-1) (nI cp) (nI nu) (nI po) (nI ob) (nI ot) (nI yo) (nI ex) (nI se) co fc (nI rc) dp w t mk fw sk rm im rx fn := by
    refine br_t (by decide) (pk_le (ot + sz) (ob + cp) (fun z => ?_) (fun z => ?_) (nI_add _ _) (nI_add _ _))
    · exact kh_ao46 hG hz X z (fun Q G => K A w t mk fw rm im rc rx (ot + sz) ot (by omega) Q (fun _ => Iff.rfl) G)
    · refine kh_compact (rg := rg) hG hV X (fun A1 w1 t1 mk1 fw1 rm1 im1 rc1 rx1 ot1 X1 a1 o1 o2 o3 => ?_)
      exact kh_ao46 (A := A1) (rg := rg) ⟨g1, g2, o1, by omega, g5⟩ hz X1 (by omega) (fun Q G => K A1 w1 t1 mk1 fw1 rm1 im1 rc1 rx1 (ot1 + sz) ot1 (by omega) Q a1 G)
  unfold wpX_allocateOld
  refine pk_eq po 1 (fun z => ?_) (fun z => k17)
  exact kh_bestFit (rg := rg) hG hz hz7 hV X k17 (fun b w' t' b1 Q => br_f (kh_nn0 b1) (K A w' t' mk fw rm im rc rx ot b b1 Q (fun _ => Iff.rfl) hG))
theorem kh_al73 {post : Int32 → SX → Prop} {sz : Nat} (hG : kh_Ge cp ob ot yo) (hz : 0 < sz) (X : kh_XI kd fl sv fi ir rg A w t rm im rx ob ot yo rc) (hn : nu ≤ 15) (hr : yo + sz ≤ nu)
    (K : kh_XQ kd fl sv fi ir rg A w t rm im rx ob ot (yo + sz) rc (96 + yo) sz → kh_Ge cp ob ot (yo + sz) → post (nI (96 + yo)) (nI cp, nI nu, nI po, nI ob, nI ot, nI (yo + sz), nI ex, nI se, co, fc, nI rc, dp, w, t, mk, fw, sk, rm, im, rx, fn)) : wX_allocate_73 post (nI sz) (nI cp) (nI nu) (nI po) (nI ob) (nI ot) (nI yo) (nI ex) (nI se) co fc (nI rc) dp w t mk fw sk rm im rx fn := by
  obtain ⟨⟨p1, p2, p3, p4, p5, p6⟩, hR, hS, hM⟩ := X
  obtain ⟨g1, g2, g3, g4, g5⟩ := hG
  unfold wX_allocate_73
  refine nm_r (nI_add _ _) ?_
  have e : (96 : Int32) + nI (yo + sz) - nI sz = nI (96 + yo) := by
    have : (96 : Int32) + nI (yo + sz) = nI (96 + (yo + sz)) := nI_add 96 (yo + sz)
    rw [this, pk_sub (by omega)]
    exact congrArg nI (by omega)
  rw [e]
  refine K ⟨⟨p1, p2, fun k hk => ?_, p4, by omega, hz, fun k hk => ?_, Or.inl ⟨by omega, by omega, p5, p6⟩⟩, hR, hS, hM⟩ ⟨g1, g2, by omega, g4, by omega⟩
  · have := p3 k hk; omega
  · have := p3 k hk; omega
theorem kh_al17 {post : Int32 → SX → Prop} {sz : Nat} (hG : kh_Ge cp ob ot yo) (hz : 0 < sz) (hz7 : sz ≤ 7) (hpo : po < 3) (hn : nu ≤ 15) (hy : yo ≤ nu) (hV : ∀ k, kd k ≤ 2 ∧ fl k ≤ 6) (X : kh_XI kd fl sv fi ir rg A w t rm im rx ob ot yo rc) (hc : kh_pw fl A ≤ ex) (hex : ex ≤ 96)
    (K0 : cp < ex + sz → post (-1) (nI cp, nI nu, nI po, nI ob, nI ot, nI yo, nI ex, nI se, co, fc, nI rc, dp, w, t, mk, fw, sk, rm, im, rx, fn))
    (K : ex + sz ≤ cp → ∀ A' w' t' mk' fw' rm' im' rc' rx' ot' yo' o, o < 208 → kh_XQ kd fl sv fi ir rg A' w' t' rm' im' rx' ob ot' yo' rc' o sz → (∀ k, A' k < 208 → A k < 208) → (∀ k, A k < 208 → kd k = 1 → A' k < 208) → kh_Ge cp ob ot' yo' → yo' ≤ nu → post (nI o) (nI cp, nI nu, nI po, nI ob, nI ot', nI yo', nI (ex + sz), nI se, co, fc, nI rc', dp, w', t', mk', fw', sk, rm', im', rx', fn)) : wX_allocate_17 post (nI sz) (nI cp) (nI nu) (nI po) (nI ob) (nI ot) (nI yo) (nI ex) (nI se) co fc (nI rc) dp w t mk fw sk rm im rx fn := by
  have hG' := hG
  obtain ⟨g1, g2, g3, g4, g5⟩ := hG'
  unfold wX_allocate_17
  refine pk_le (ex + sz) cp (fun z => nm_r (nI_add _ _) ?_) (fun z => K0 z) (nI_add _ _)
  refine pk_le sz nu (fun z1 => ?_) (fun z1 => ?_)
  · refine pk_le (yo + sz) nu (fun z2 => ?_) (fun z2 => ?_) (nI_add _ _)
    · exact kh_al73 (rg := rg) (ex := ex + sz) hG hz X hn z2 (fun Q G => K z A w t mk fw rm im rc rx ot (yo + sz) (96 + yo) (by omega) Q (fun _ h => h) (fun _ h _ => h) G z2)
    · refine kh_minor (rg := rg) (ex := ex + sz) hG hV X (by omega) (fun A1 w1 t1 mk1 fw1 rm1 im1 rx1 ot1 H1 R1 i1 s1 k1 G1 => ?_)
      refine kh_al73 (rg := rg) (yo := 0) (rc := 0) (ex := ex + sz) G1 hz (kh_XI_of G1 H1 R1 i1) hn (by omega) (fun Q G => ?_)
      exact K z A1 w1 t1 mk1 fw1 rm1 im1 0 rx1 ot1 (0 + sz) (96 + 0) (by omega) Q s1 k1 G (by omega)
  · exact kh_allocOld (rg := rg) (ex := ex + sz) hG hz hz7 hpo hV X (by omega) (fun A1 w1 t1 mk1 fw1 rm1 im1 rc1 rx1 ot1 o o1 Q a1 G => K z A1 w1 t1 mk1 fw1 rm1 im1 rc1 rx1 ot1 yo o o1 Q (fun k h => (a1 k).mp h) (fun k h _ => (a1 k).mpr h) G hy)
/-- start -/
theorem kh_st33 {post : SX → Prop} {o f : Nat} {w0 t0 : Nat → Int32} (ho : o + f < 208)
    (K : ∀ w t, (∀ a, a ≤ o ∨ o + f < a → w a = w0 a ∧ t a = t0 a) → (∀ i, i < f → w (o + 1 + i) = 0 ∧ t (o + 1 + i) = 0) → post (nI cp, nI nu, nI po, nI ob, nI ot, nI yo, nI ex, nI se, co, fc, nI rc, dp, w, t, mk, fw, sk, rm, im, rx, fn)) :
    ∀ (n x : Nat) (w t : Nat → Int32), x < n → x ≤ f → (∀ a, a ≤ o + x ∨ o + f < a → w a = w0 a ∧ t a = t0 a) → (∀ i, x ≤ i → i < f → w (o + 1 + i) = 0 ∧ t (o + 1 + i) = 0) → wX_start_33 post (nI o) (nI cp) (nI nu) (nI po) (nI ob) (nI ot) (nI yo) (nI ex) (nI se) co fc (nI rc) dp n (nI x) w t mk fw sk rm im rx fn := by
  intro n
  induction n with
  | zero => intro x w t h1; omega
  | succ n ih =>
    intro x w t h1 h2 h3 h4
    rw [wX_start_33]
    cases x with
    | zero => exact br_t (by decide) (K w t h3 (fun i hi => h4 i (by omega) hi))
    | succ x =>
      have c : o + (x + 1) < 208 := by omega
      refine br_f (nI_nle (by omega) (by omega)) ?_
      rw [nI_add o (x + 1), kh_cl c, kh_by0]
      refine ⟨vp_in_nI c (by decide), nm_e (nm_r (pk_m1 x) ⟨vp_in_nI c (by decide), nm_e (ih x _ _ (by omega) (by omega) (fun a ha => ?_) (fun i i1 i2 => ?_))⟩)⟩
      · rw [pk_un (by omega), pk_un (by omega)]
        exact h3 a (by omega)
      · by_cases e : i = x
        · subst e
          have e2 : o + 1 + i = o + (i + 1) := by omega
          rw [e2, pk_us, pk_us]
          exact ⟨rfl, rfl⟩
        · rw [pk_un (by omega), pk_un (by omega)]
          exact h4 i (by omega) i2
theorem kh_start {post : SX → Prop} {o k f : Nat} (ho : o + f < 208) (hk : k ≤ 2) (hf : f ≤ 6)
    (K : ∀ w' t', (∀ a, a < o ∨ o + f < a → w' a = w a ∧ t' a = t a) → w' o = nI (se + 1) → t' o = nI (8 * k + f) → (∀ i, i < f → w' (o + 1 + i) = 0 ∧ t' (o + 1 + i) = 0) → post (nI cp, nI nu, nI po, nI ob, nI ot, nI yo, nI ex, nI (se + 1), co, fc, nI rc, dp, w', t', mk, fw, sk, rm, im, rx, fn)) : wpX_start post (nI cp, nI nu, nI po, nI ob, nI ot, nI yo, nI ex, nI se, co, fc, nI rc, dp, w, t, mk, fw, sk, rm, im, rx, fn) (nI o) (nI (8 * k + f)) := by
  unfold wpX_start
  have c : o < 208 := by omega
  refine nm_r (nI_1 se) ⟨vp_in_nI c (by decide), nm_r (e' := upd w o (nI (se + 1))) (by rw [kh_cl c]) ⟨vp_in_nI c (by decide), nm_r (e' := upd t o (nI (8 * k + f))) (by rw [kh_cl c, kh_nb2 (by omega)]) (nm_r (kh_and7 hk hf) ⟨f + 1, ?_⟩)⟩⟩
  refine kh_st33 (se := se + 1) (w0 := upd w o (nI (se + 1))) (t0 := upd t o (nI (8 * k + f))) ho (fun w' t' m1 m2 => ?_) (f + 1) f _ _ (by omega) (by omega) (fun a _ => ⟨rfl, rfl⟩) (fun i i1 i2 => by omega)
  have mo := m1 o (by omega)
  rw [pk_us, pk_us] at mo
  refine K w' t' (fun a ha => ?_) mo.1 mo.2 m2
  have z := m1 a (by omega)
  rw [pk_un (by omega), pk_un (by omega)] at z
  exact z
end
end
section
/-! the reference: words, reachability -/
theorem kh_sm_lt {f g : Nat → Nat} {a : Nat} : ∀ {n : Nat}, (∀ i, i < n → f i ≤ g i) → a < n → f a < g a → kh_sm f n < kh_sm g n
  | 0, _, h, _ => by omega
  | n + 1, h, ha, hf => by
    simp only [kh_sm]
    by_cases z : a < n
    · have x := kh_sm_lt (f := f) (g := g) (n := n) (fun i hi => h i (by omega)) z hf
      have y := h n (by omega)
      omega
    · have e : a = n := by omega
      subst e
      have x := kh_sm_le (f := f) (g := g) (n := a) (fun i hi => h i (by omega))
      omega
def kh_ew (sv fl : Nat → Nat) : Nat := kh_sm (fun k => if sv k = 0 then 0 else fl k + 1) 97
def kh_cnt (re : Nat → Int32) : Nat := kh_sm (fun j => if re j = 0 then 1 else 0) 97
theorem kh_cnt_le {re re' : Nat → Int32} (h : ∀ j, re j ≠ 0 → re' j ≠ 0) : kh_cnt re' ≤ kh_cnt re := by
  refine kh_sm_le fun j _ => ?_
  by_cases c : re' j = 0
  · by_cases d : re j = 0
    · rw [if_pos c, if_pos d]; omega
    · exact absurd c (h j d)
  · rw [if_neg c]; exact Nat.zero_le _
theorem kh_cnt_lt {re re' : Nat → Int32} {q : Nat} (h : ∀ j, re j ≠ 0 → re' j ≠ 0) (hq : q < 97) (h0 : re q = 0) (h1 : re' q ≠ 0) : kh_cnt re' < kh_cnt re := by
  refine kh_sm_lt (a := q) (fun j _ => ?_) hq (by rw [if_neg h1, if_pos h0]; omega)
  by_cases c : re' j = 0
  · by_cases d : re j = 0
    · rw [if_pos c, if_pos d]; omega
    · exact absurd c (h j d)
  · rw [if_neg c]; exact Nat.zero_le _
section
variable {cp se : Nat} {co fc : Int32} {fn : Nat → Int32} {sv kd fl rg : Nat → Nat} {fi ir re : Nat → Int32}
theorem kh_yew {post : Int32 → Prop} (h0 : sv 0 = 0) (hs : ∀ k, sv k < 2 ^ 31) (h : post (nI (kh_ew sv fl))) : wpY_existingWords post (nI cp, nI se, co, fc, (fun z_ => nI (sv z_)), (fun z_ => nI (kd z_)), (fun z_ => nI (fl z_)), fi, ir, re, (fun z_ => nI (rg z_)), fn) := by
  have key : ∀ (n x : Nat), 97 < n + x → x ≤ 97 → wY_existingWords_4 post (nI cp) (nI se) co fc (fun z_ => nI (sv z_)) (fun z_ => nI (kd z_)) (fun z_ => nI (fl z_)) fi ir re (fun z_ => nI (rg z_)) fn n (nI (kh_sm (fun k => if sv k = 0 then 0 else fl k + 1) x)) (nI x) := by
    intro n
    induction n with
    | zero => intro x h1 h2; omega
    | succ n ih =>
      intro x h1 h2
      rw [wY_existingWords_4]
      refine pk_le 97 x (fun z => ?_) (fun z => ⟨vp_in_nI z (by decide), ?_⟩)
      · have e : x = 97 := by omega
        subst e
        exact h
      · rw [kh_cl (by omega)]
        have z1 := ih (x + 1) (by omega) (by omega)
        refine pk_eq (sv x) 0 (fun y => ?_) (fun y => ⟨vp_in_nI z (by decide), ?_⟩) rfl rfl (hs x)
        · refine nm_r (e' := nI (kh_sm (fun k => if sv k = 0 then 0 else fl k + 1) (x + 1))) ?_ (nm_r (nI_1 x) z1)
          rw [Int32.add_zero]
          exact congrArg nI (by simp only [kh_sm, if_pos y, Nat.add_zero])
        · refine nm_r (e' := nI (kh_sm (fun k => if sv k = 0 then 0 else fl k + 1) (x + 1))) ?_ (nm_r (nI_1 x) z1)
          have e : (1 : Int32) + nI (fl x) = nI (1 + fl x) := nI_add 1 (fl x)
          rw [e, nI_add]
          exact congrArg nI (by simp only [kh_sm, if_neg y]; omega)
  have k1 := key 98 1 (by omega) (by omega)
  have e : kh_sm (fun k => if sv k = 0 then 0 else fl k + 1) 1 = 0 := by simp only [kh_sm, if_pos h0]
  rw [e] at k1
  exact ⟨98, k1⟩
/-- the fields of a record are valid -/
def kh_FV (fl : Nat → Nat) (fi ir : Nat → Int32) (k : Nat) : Prop := ∀ i, i < fl k → ir (6 * k + i) = 0 ∨ fi (6 * k + i) = 0 ∨ ∃ q, kh_Rf fi ir (6 * k + i) q
theorem kh_yspread {post : Int32 → SY → Prop} {k : Nat} (hk : k < 97) (h6 : fl k ≤ 6) (hF : kh_FV fl fi ir k)
    (K : ∀ re' m, (m = 0 ∨ m = 1) → (∀ j, re j ≠ 0 → re' j ≠ 0) → (∀ j, re' j ≠ 0 → re j ≠ 0 ∨ ∃ i, i < fl k ∧ kh_Rf fi ir (6 * k + i) j) → (∀ i q, i < fl k → kh_Rf fi ir (6 * k + i) q → re' q ≠ 0) → (m = 0 → re' = re) → (m = 1 → ∃ q, q < 97 ∧ re q = 0 ∧ re' q ≠ 0) → post (nI m) (nI cp, nI se, co, fc, (fun z_ => nI (sv z_)), (fun z_ => nI (kd z_)), (fun z_ => nI (fl z_)), fi, ir, re', (fun z_ => nI (rg z_)), fn)) : wpY_spread post (nI cp, nI se, co, fc, (fun z_ => nI (sv z_)), (fun z_ => nI (kd z_)), (fun z_ => nI (fl z_)), fi, ir, re, (fun z_ => nI (rg z_)), fn) (nI k) := by
  have key : ∀ (n x : Nat) (re1 : Nat → Int32) (m : Nat), fl k < n + x → x ≤ fl k → (m = 0 ∨ m = 1) → (∀ j, re j ≠ 0 → re1 j ≠ 0) → (∀ j, re1 j ≠ 0 → re j ≠ 0 ∨ ∃ i, i < fl k ∧ kh_Rf fi ir (6 * k + i) j) → (∀ i q, i < x → kh_Rf fi ir (6 * k + i) q → re1 q ≠ 0) → (m = 0 → re1 = re) → (m = 1 → ∃ q, q < 97 ∧ re q = 0 ∧ re1 q ≠ 0) → wY_spread_7 post (nI k) (nI cp) (nI se) co fc n (nI m) (nI (6 * k + x)) (fun z_ => nI (sv z_)) (fun z_ => nI (kd z_)) (fun z_ => nI (fl z_)) fi ir re1 (fun z_ => nI (rg z_)) fn := by
    intro n
    induction n with
    | zero => intro x re1 m h1 h2; omega
    | succ n ih =>
      intro x re1 m h1 h2 hm m1 m2 m3 m4 m5
      rw [wY_spread_7]
      refine And.intro (vp_in_nI hk (by decide)) ?_
      have e6 : (6 : Int32) * nI k = nI (6 * k) := pk_mul 6 k
      rw [e6, kh_cl (show k < 208 by omega), nI_add]
      refine pk_le (6 * k + fl k) (6 * k + x) (fun z => ?_) (fun z => ?_)
      · have e : x = fl k := by omega
        subst e
        refine ⟨?_, K re1 m hm m1 m2 m3 m4 m5⟩
        rcases hm with rfl | rfl <;> rfl
      · have c : 6 * k + x < 582 := by omega
        have cl : (nI (6 * k + x)).toNatClampNeg = 6 * k + x := nI_clamp (by omega)
        rw [cl]
        refine ⟨vp_in_nI c (by decide), nm_e ⟨vp_in_nI c (by decide), ?_⟩⟩
        have skip : (∀ q, kh_Rf fi ir (6 * k + x) q → re1 q ≠ 0) → wY_spread_7 post (nI k) (nI cp) (nI se) co fc n (nI m) (nI (6 * k + (x + 1))) (fun z_ => nI (sv z_)) (fun z_ => nI (kd z_)) (fun z_ => nI (fl z_)) fi ir re1 (fun z_ => nI (rg z_)) fn := by
          intro hq
          refine ih (x + 1) re1 m (by omega) (by omega) hm m1 m2 (fun i q hi hr => ?_) m4 m5
          by_cases e : i = x
          · subst e; exact hq q hr
          · exact m3 i q (by omega) hr
        rcases hF x (by omega) with y | y | ⟨q, y⟩
        · exact br_t y (nm_r (nI_1 _) (skip (fun q hq => absurd y hq.1)))
        · refine br_c (fun _ => nm_r (nI_1 _) (skip (fun q hq => ?_))) (fun _ => br_t y (nm_r (nI_1 _) (skip (fun q hq => ?_))))
          · exact absurd (hq.2.2.2.symm.trans y) (nI_ne0 hq.2.1 (by have := hq.2.2.1; omega))
          · exact absurd (hq.2.2.2.symm.trans y) (nI_ne0 hq.2.1 (by have := hq.2.2.1; omega))
        · obtain ⟨y1, y2, y3, y4⟩ := y
          rw [y4, kh_cl (show q < 208 by omega)]
          have uq : ∀ q', kh_Rf fi ir (6 * k + x) q' → q' = q := fun q' hq' => kh_inj (by have := hq'.2.2.1; omega) (by omega) (hq'.2.2.2.symm.trans y4)
          refine br_f y1 (br_f (nI_ne0 y2 (by omega)) ⟨vp_in_nI y3 (by decide), br_c (fun z1 => ⟨vp_in_nI y3 (by decide), nm_r (e' := upd re1 q 1) (by rw [kh_bo1]) (nm_r (nI_1 _) ?_)⟩) (fun z1 => nm_r (nI_1 _) (skip (fun q' hq' => by rw [uq q' hq']; exact z1)))⟩)
          have mo : ∀ j, re1 j ≠ 0 → upd re1 q 1 j ≠ 0 := by
            intro j hj
            by_cases e : j = q
            · rw [e, pk_us]; exact kh_10
            · rw [pk_un e]; exact hj
          refine ih (x + 1) (upd re1 q 1) 1 (by omega) (by omega) (Or.inr rfl) (fun j hj => mo j (m1 j hj)) (fun j hj => ?_) (fun i q' hi hr => ?_) (fun z => by omega) (fun _ => ⟨q, y3, ?_, by rw [pk_us]; exact kh_10⟩)
          · by_cases e : j = q
            · subst e; exact Or.inr ⟨x, by omega, y1, y2, y3, y4⟩
            · rw [pk_un e] at hj; exact m2 j hj
          · by_cases e : i = x
            · subst e; rw [uq q' hr, pk_us]; exact kh_10
            · exact mo _ (m3 i q' (by omega) hr)
          · by_cases z2 : re q = 0
            · exact z2
            · exact absurd z1 (m1 q z2)
  unfold wpY_spread
  refine nm_r (pk_mul 6 k) ⟨fl k + 1, ?_⟩
  exact key (fl k + 1) 0 re 0 (by omega) (by omega) (Or.inl rfl) (fun _ h => h) (fun _ h => Or.inl h) (fun i q hi => by omega) (fun _ => rfl) (fun z => by omega)
theorem kh_y64 {post : Int32 → SY → Prop} {J : Int32 → Int32 → Int32 → Int32 → Int32 → (Nat → Int32) → (Nat → Int32) → (Nat → Int32) → (Nat → Int32) → (Nat → Int32) → (Nat → Int32) → (Nat → Int32) → (Nat → Int32) → Prop}
    {R : Nat → Prop} {re0 : Nat → Int32} (hV : ∀ k, kd k ≤ 2 ∧ fl k ≤ 6) (hF : ∀ k, R k → kh_FV fl fi ir k) (hC : ∀ k i q, R k → kd k ≠ 2 → i < fl k → kh_Rf fi ir (6 * k + i) q → R q)
    (K : ∀ re m, (m = 0 ∨ m = 1) → (∀ j, re0 j ≠ 0 → re j ≠ 0) → (∀ j, j < 97 → re j ≠ 0 → R j) → re 0 = 0 → (m = 0 → ∀ k i q, 0 < k → k < 97 → re k ≠ 0 → kd k ≠ 2 → i < fl k → kh_Rf fi ir (6 * k + i) q → re q ≠ 0) → (m = 1 → kh_cnt re < kh_cnt re0) → J (nI m) (nI cp) (nI se) co fc (fun z_ => nI (sv z_)) (fun z_ => nI (kd z_)) (fun z_ => nI (fl z_)) fi ir re (fun z_ => nI (rg z_)) fn) :
    ∀ (n x : Nat) (re : Nat → Int32) (m : Nat), 97 < n + x → 1 ≤ x → x ≤ 97 → (m = 0 ∨ m = 1) → (∀ j, re0 j ≠ 0 → re j ≠ 0) → (∀ j, j < 97 → re j ≠ 0 → R j) → re 0 = 0 → (m = 0 → ∀ k i q, 0 < k → k < x → re k ≠ 0 → kd k ≠ 2 → i < fl k → kh_Rf fi ir (6 * k + i) q → re q ≠ 0) → (m = 1 → kh_cnt re < kh_cnt re0) → wY_reachableWords_64 post J n (nI m) (nI x) (nI cp) (nI se) co fc (fun z_ => nI (sv z_)) (fun z_ => nI (kd z_)) (fun z_ => nI (fl z_)) fi ir re (fun z_ => nI (rg z_)) fn := by
  intro n
  induction n with
  | zero => intro x re m h1 h2 h3; omega
  | succ n ih =>
    intro x re m h1 h2 h3 hm m1 m2 m3 m4 m5
    rw [wY_reachableWords_64]
    refine pk_le 97 x (fun z => ?_) (fun z => ⟨vp_in_nI z (by decide), ?_⟩)
    · exact K re m hm m1 m2 m3 (fun y k i q k1 k2 => m4 y k i q k1 (by omega)) m5
    · rw [kh_cl (by omega)]
      have skip : (re x = 0 ∨ kd x = 2) → wY_reachableWords_64 post J n (nI m) (nI (x + 1)) (nI cp) (nI se) co fc (fun z_ => nI (sv z_)) (fun z_ => nI (kd z_)) (fun z_ => nI (fl z_)) fi ir re (fun z_ => nI (rg z_)) fn := by
        intro hx
        refine ih (x + 1) re m (by omega) (by omega) (by omega) hm m1 m2 m3 (fun y k i q k1 k2 k3 k4 k5 k6 => ?_) m5
        by_cases e : k = x
        · subst e
          rcases hx with hx | hx
          · exact absurd hx k3
          · exact absurd hx k4
        · exact m4 y k i q k1 (by omega) k3 k4 k5 k6
      refine br_c (fun y => nm_r (nI_1 x) (skip (Or.inl y))) (fun y => ⟨vp_in_nI z (by decide), ?_⟩)
      have rx := m2 x z y
      refine pk_eq (kd x) 2 (fun y2 => nm_r (nI_1 x) (skip (Or.inr y2))) (fun y2 => ?_) rfl rfl (by have := hV x; omega)
      refine kh_yspread z (hV x).2 (hF x rx) (fun re' m' hm' n1 n2 n3 n4 n5 => ?_)
      have s2 : ∀ j, j < 97 → re' j ≠ 0 → R j := by
        intro j j1 j2
        rcases n2 j j2 with q | ⟨i, i1, i2⟩
        · exact m2 j j1 q
        · exact hC x i j rx y2 i1 i2
      have s3 : re' 0 = 0 := by
        by_cases q : re' 0 = 0
        · exact q
        · rcases n2 0 q with q' | ⟨i, i1, i2⟩
          · exact absurd m3 q'
          · have := i2.2.1; omega
      rcases hm' with rfl | rfl
      · have er := n4 rfl
        subst er
        refine br_t rfl (nm_r (nI_1 x) (ih (x + 1) re' m (by omega) (by omega) (by omega) hm m1 m2 m3 (fun y' k i q k1 k2 k3 k4 k5 k6 => ?_) m5))
        by_cases e : k = x
        · subst e; exact n3 i q k5 k6
        · exact m4 y' k i q k1 (by omega) k3 k4 k5 k6
      · obtain ⟨q, q1, q2, q3⟩ := n5 rfl
        refine br_f kh_10 (nm_r (nI_1 x) (ih (x + 1) re' 1 (by omega) (by omega) (by omega) (Or.inr rfl) (fun j hj => n1 j (m1 j hj)) s2 s3 (fun y' => by omega) (fun _ => ?_)))
        have a := kh_cnt_lt n1 q1 q2 q3
        have b := kh_cnt_le m1
        omega
end
end
section
/-! the reference: reachableWords, leastDead, collect -/
section
variable {cp se : Nat} {co fc : Int32} {fn : Nat → Int32} {sv kd fl rg : Nat → Nat} {fi ir re : Nat → Int32}
theorem kh_y112 {post : Int32 → SY → Prop} {R : Nat → Prop} (h0 : re 0 = 0) (hR : ∀ j, j < 97 → (re j ≠ 0 ↔ R j)) (h : post (nI (kh_cw R fl)) (nI cp, nI se, co, fc, (fun z_ => nI (sv z_)), (fun z_ => nI (kd z_)), (fun z_ => nI (fl z_)), fi, ir, re, (fun z_ => nI (rg z_)), fn)) : ∃ m, wY_reachableWords_112 post (nI cp) (nI se) co fc (fun z_ => nI (sv z_)) (fun z_ => nI (kd z_)) (fun z_ => nI (fl z_)) fi ir re (fun z_ => nI (rg z_)) fn m 0 1 := by
  have key : ∀ (n x : Nat), 97 < n + x → x ≤ 97 → wY_reachableWords_112 post (nI cp) (nI se) co fc (fun z_ => nI (sv z_)) (fun z_ => nI (kd z_)) (fun z_ => nI (fl z_)) fi ir re (fun z_ => nI (rg z_)) fn n (nI (kh_sm (fun k => if re k = 0 then 0 else fl k + 1) x)) (nI x) := by
    intro n
    induction n with
    | zero => intro x h1 h2; omega
    | succ n ih =>
      intro x h1 h2
      rw [wY_reachableWords_112]
      refine pk_le 97 x (fun z => ?_) (fun z => ⟨vp_in_nI z (by decide), ?_⟩)
      · have e : x = 97 := by omega
        subst e
        have e : kh_sm (fun k => if re k = 0 then 0 else fl k + 1) 97 = kh_cw R fl := kh_cw_eq (fun k k1 k2 => if_neg ((hR k k1).mpr k2)) (fun k k1 k2 => by
          by_cases c : re k = 0
          · exact if_pos c
          · exact absurd ((hR k k1).mp c) k2)
        rw [e]
        exact h
      · rw [kh_cl (by omega)]
        have z1 := ih (x + 1) (by omega) (by omega)
        refine br_c (fun y => ?_) (fun y => ⟨vp_in_nI z (by decide), ?_⟩)
        · refine nm_r (e' := nI (kh_sm (fun k => if re k = 0 then 0 else fl k + 1) (x + 1))) ?_ (nm_r (nI_1 x) z1)
          rw [Int32.add_zero]
          exact congrArg nI (by simp only [kh_sm, if_pos y, Nat.add_zero])
        · refine nm_r (e' := nI (kh_sm (fun k => if re k = 0 then 0 else fl k + 1) (x + 1))) ?_ (nm_r (nI_1 x) z1)
          have e : (1 : Int32) + nI (fl x) = nI (1 + fl x) := nI_add 1 (fl x)
          rw [e, nI_add]
          exact congrArg nI (by simp only [kh_sm, if_neg y]; omega)
  have k1 := key 98 1 (by omega) (by omega)
  have e : kh_sm (fun k => if re k = 0 then 0 else fl k + 1) 1 = 0 := by simp only [kh_sm, if_pos h0]
  rw [e] at k1
  exact ⟨98, k1⟩
theorem kh_yreach {post : Int32 → SY → Prop} (hV : ∀ k, kd k ≤ 2 ∧ fl k ≤ 6) (hF : ∀ k, kh_Rch rg kd fl fi ir k → kh_FV fl fi ir k) (hg : ∀ r, r < 8 → rg r < 97)
    (K : ∀ re', re' 0 = 0 → (∀ j, j < 97 → (re' j ≠ 0 ↔ kh_Rch rg kd fl fi ir j)) → post (nI (kh_cw (kh_Rch rg kd fl fi ir) fl)) (nI cp, nI se, co, fc, (fun z_ => nI (sv z_)), (fun z_ => nI (kd z_)), (fun z_ => nI (fl z_)), fi, ir, re', (fun z_ => nI (rg z_)), fn)) : wpY_reachableWords post (nI cp, nI se, co, fc, (fun z_ => nI (sv z_)), (fun z_ => nI (kd z_)), (fun z_ => nI (fl z_)), fi, ir, re, (fun z_ => nI (rg z_)), fn) := by
  have k56 : ∀ (n : Nat) (re : Nat → Int32) (m : Nat), (m = 0 ∨ m = 1) → kh_cnt re + m < n → (∀ r, r < 8 → 0 < rg r → re (rg r) ≠ 0) → (∀ j, j < 97 → re j ≠ 0 → kh_Rch rg kd fl fi ir j) → re 0 = 0 → (m = 0 → ∀ k i q, 0 < k → k < 97 → re k ≠ 0 → kd k ≠ 2 → i < fl k → kh_Rf fi ir (6 * k + i) q → re q ≠ 0) → wY_reachableWords_56 post n (nI m) (nI cp) (nI se) co fc (fun z_ => nI (sv z_)) (fun z_ => nI (kd z_)) (fun z_ => nI (fl z_)) fi ir re (fun z_ => nI (rg z_)) fn := by
    intro n
    induction n with
    | zero => intro re m hm h1; omega
    | succ n ih =>
      intro re m hm h1 m1 m2 m3 m4
      rw [wY_reachableWords_56]
      rcases hm with rfl | rfl
      · refine br_t rfl (kh_y112 (R := kh_Rch rg kd fl fi ir) m3 (fun j hj => ⟨m2 j hj, fun h => ?_⟩) (K re m3 (fun j hj => ⟨m2 j hj, fun h => ?_⟩)))
        all_goals
          exact (h (fun j => 0 < j ∧ j < 97 ∧ re j ≠ 0) (fun r r1 r2 => ⟨r2, hg r r1, m1 r r1 r2⟩) (fun k i q hk h2 hi hr => ⟨hr.2.1, hr.2.2.1, m4 rfl k i q hk.1 hk.2.1 hk.2.2 h2 hi hr⟩)).2.2
      · refine br_f kh_10 ⟨98, ?_⟩
        refine kh_y64 (re0 := re) (R := kh_Rch rg kd fl fi ir) hV hF (fun k i q a b c d => kh_Rch_step a b c d) (fun re' m' hm' n1 n2 n3 n4 n5 => ?_) 98 1 re 0 (by omega) (by omega) (by omega) (Or.inl rfl) (fun _ h => h) m2 m3 (fun _ k i q k1 k2 => by omega) (fun z => by omega)
        refine ih re' m' hm' ?_ (fun r r1 r2 => n1 _ (m1 r r1 r2)) n2 n3 n4
        rcases hm' with rfl | rfl
        · have := kh_cnt_le n1; omega
        · have := n5 rfl; omega
  have k23 : ∀ (n x : Nat) (re : Nat → Int32), 8 < n + x → x ≤ 8 → (∀ r, r < x → re (rg r) ≠ 0) → (∀ j, j < 97 → j ≠ 0 → re j ≠ 0 → kh_Rch rg kd fl fi ir j) → wY_reachableWords_23 post (nI cp) (nI se) co fc n (nI x) (fun z_ => nI (sv z_)) (fun z_ => nI (kd z_)) (fun z_ => nI (fl z_)) fi ir re (fun z_ => nI (rg z_)) fn := by
    intro n
    induction n with
    | zero => intro x re h1 h2; omega
    | succ n ih =>
      intro x re h1 h2 h3 h4
      rw [wY_reachableWords_23]
      refine pk_le 8 x (fun z => nm_r (e' := upd re 0 0) (by rw [kh_bo0]) ⟨kh_cnt (upd re 0 0) + 2, ?_⟩) (fun z => ⟨vp_in_nI (by omega) (by decide), ?_⟩)
      · refine k56 _ (upd re 0 0) 1 (Or.inr rfl) (by omega) (fun r r1 r2 => ?_) (fun j j1 j2 => ?_) pk_us (fun y => by omega)
        · rw [pk_un (by omega)]; exact h3 r (by omega)
        · by_cases e : j = 0
          · subst e; rw [pk_us] at j2; exact absurd rfl j2
          · rw [pk_un e] at j2; exact h4 j j1 e j2
      · have g := hg x z
        rw [kh_cl (show x < 208 by omega), kh_cl (show rg x < 208 by omega)]
        refine ⟨vp_in_nI g (by decide), nm_r (e' := upd re (rg x) 1) (by rw [kh_bo1]) (nm_r (nI_1 x) (ih (x + 1) _ (by omega) (by omega) (fun r hr => ?_) (fun j j1 j2 j3 => ?_)))⟩
        · by_cases e : rg r = rg x
          · rw [e, pk_us]; exact kh_10
          · rw [pk_un e]
            exact h3 r (by
              by_cases y : r = x
              · subst y; exact absurd rfl e
              · omega)
        · by_cases e : j = rg x
          · subst e; exact kh_Rch_root z (by omega)
          · rw [pk_un e] at j3; exact h4 j j1 j2 j3
  have k2 : ∀ (n x : Nat) (re : Nat → Int32), 97 < n + x → x ≤ 97 → (∀ j, j < x → re j = 0) → wY_reachableWords_2 post (nI cp) (nI se) co fc n (nI x) (fun z_ => nI (sv z_)) (fun z_ => nI (kd z_)) (fun z_ => nI (fl z_)) fi ir re (fun z_ => nI (rg z_)) fn := by
    intro n
    induction n with
    | zero => intro x re h1 h2; omega
    | succ n ih =>
      intro x re h1 h2 h3
      rw [wY_reachableWords_2]
      refine pk_le 97 x (fun z => ⟨9, k23 9 0 re (by omega) (by omega) (fun r hr => by omega) (fun j j1 j2 j3 => absurd (h3 j (by omega)) j3)⟩) (fun z => ⟨vp_in_nI z (by decide), nm_r (e' := upd re x 0) (by rw [kh_cl (by omega), kh_bo0]) (nm_r (nI_1 x) (ih (x + 1) _ (by omega) (by omega) (fun j hj => ?_)))⟩)
      by_cases e : j = x
      · subst e; exact pk_us
      · rw [pk_un e]; exact h3 j (by omega)
  exact ⟨98, k2 98 0 re (by omega) (by omega) (fun j hj => by omega)⟩
def kh_LD (sv : Nat → Nat) (re : Nat → Int32) (b x : Nat) : Prop :=
  (b = 0 ∧ ∀ k, 0 < k → k < x → sv k ≠ 0 → re k = 0 → False) ∨ (0 < b ∧ b < 97 ∧ sv b ≠ 0 ∧ re b = 0 ∧ ∀ k, 0 < k → k < x → sv k ≠ 0 → re k = 0 → sv b ≤ sv k)
theorem kh_yleast {post : Int32 → Prop} (hs : ∀ k, sv k < 2 ^ 31) (K : ∀ b, kh_LD sv re b 97 → post (nI b)) : wpY_leastDead post (nI cp, nI se, co, fc, (fun z_ => nI (sv z_)), (fun z_ => nI (kd z_)), (fun z_ => nI (fl z_)), fi, ir, re, (fun z_ => nI (rg z_)), fn) := by
  have key : ∀ (n x b : Nat), 97 < n + x → 1 ≤ x → x ≤ 97 → kh_LD sv re b x → wY_leastDead_4 post (nI cp) (nI se) co fc (fun z_ => nI (sv z_)) (fun z_ => nI (kd z_)) (fun z_ => nI (fl z_)) fi ir re (fun z_ => nI (rg z_)) fn n (nI b) (nI x) := by
    intro n
    induction n with
    | zero => intro x b h1 h2 h3; omega
    | succ n ih =>
      intro x b h1 h2 h3 L
      rw [wY_leastDead_4]
      refine pk_le 97 x (fun z => ?_) (fun z => ⟨vp_in_nI z (by decide), ?_⟩)
      · have e : x = 97 := by omega
        subst e
        exact K b L
      · rw [kh_cl (show x < 208 by omega)]
        have bl : b < 97 := by
          rcases L with L | L
          · omega
          · exact L.2.1
        have skip : (sv x ≠ 0 → re x = 0 → b ≠ 0 ∧ sv b ≤ sv x) → wY_leastDead_4 post (nI cp) (nI se) co fc (fun z_ => nI (sv z_)) (fun z_ => nI (kd z_)) (fun z_ => nI (fl z_)) fi ir re (fun z_ => nI (rg z_)) fn n (nI b) (nI (x + 1)) := by
          intro hx
          refine ih (x + 1) b (by omega) (by omega) (by omega) ?_
          rcases L with ⟨l1, l2⟩ | ⟨l1, l2, l3, l4, l5⟩
          · refine Or.inl ⟨l1, fun k k1 k2 k3 k4 => ?_⟩
            by_cases e : k = x
            · subst e; exact (hx k3 k4).1 l1
            · exact l2 k k1 (by omega) k3 k4
          · refine Or.inr ⟨l1, l2, l3, l4, fun k k1 k2 k3 k4 => ?_⟩
            by_cases e : k = x
            · subst e; exact (hx k3 k4).2
            · exact l5 k k1 (by omega) k3 k4
        have take : sv x ≠ 0 → re x = 0 → (b = 0 ∨ sv x < sv b) → wY_leastDead_4 post (nI cp) (nI se) co fc (fun z_ => nI (sv z_)) (fun z_ => nI (kd z_)) (fun z_ => nI (fl z_)) fi ir re (fun z_ => nI (rg z_)) fn n (nI x) (nI (x + 1)) := by
          intro x1 x2 x3
          refine ih (x + 1) x (by omega) (by omega) (by omega) (Or.inr ⟨by omega, z, x1, x2, fun k k1 k2 k3 k4 => ?_⟩)
          by_cases e : k = x
          · subst e; exact Nat.le_refl _
          · rcases L with ⟨l1, l2⟩ | ⟨l1, l2, l3, l4, l5⟩
            · exact (l2 k k1 (by omega) k3 k4).elim
            · have := l5 k k1 (by omega) k3 k4
              omega
        refine pk_eq (sv x) 0 (fun y => nm_r (nI_1 x) (skip (fun q => absurd y q))) (fun y => ⟨vp_in_nI z (by decide), ?_⟩) rfl rfl (hs x)
        refine br_c (fun y2 => ?_) (fun y2 => nm_r (nI_1 x) (skip (fun _ q => absurd q y2)))
        refine pk_eq b 0 (fun y3 => nm_r (nI_1 x) (take y y2 (Or.inl y3))) (fun y3 => ⟨vp_in_nI z (by decide), vp_in_nI bl (by decide), ?_⟩)
        rw [kh_cl (show b < 208 by omega)]
        exact pk_le (sv b) (sv x) (fun y4 => nm_r (nI_1 x) (skip (fun _ _ => ⟨y3, y4⟩))) (fun y4 => nm_r (nI_1 x) (take y y2 (Or.inr y4))) rfl rfl (hs b) (hs x)
  exact ⟨98, key 98 1 0 (by omega) (by omega) (by omega) (Or.inl ⟨rfl, fun k k1 k2 => by omega⟩)⟩
theorem kh_pu_nextN {D : Nat → Prop} {st : (Nat → Int32) × Int32} {se last l : Nat} (h1 : last < l) (h2 : l ≤ se) (h : ∀ x, last < x → x ≤ l → ¬ D x) : kh_pu D (se - last) (last + 1) st = kh_pu D (se - l) (l + 1) st := by
  have e : se - last = (l - last) + (se - l) := by omega
  rw [e, kh_pu_skip (fun x x1 x2 => h x (by omega) (by omega))]
  exact congrArg (fun z => kh_pu D (se - l) z st) (by omega)
/-- the dead records go, the least serial first -/
theorem kh_y80 {post : Int32 → SY → Prop} {R : Nat → Prop} {sv0 : Nat → Nat} {x1 : Int32} {se' : Nat} {Fin : (Nat → Int32) × Int32} (hse : se' < 2 ^ 30) (hV : ∀ k, kd k ≤ 2) (hs : ∀ k, sv0 k ≤ se') (hu : ∀ k j, 0 < sv0 k → sv0 k = sv0 j → k = j) (hR : ∀ j, j < 97 → (re j ≠ 0 ↔ R j))
    (K : ∀ sv' : Nat → Nat, (∀ k, 0 < k → k < 97 → R k → sv' k = sv0 k) → (∀ k, 0 < k → k < 97 → ¬ R k → sv' k = 0) → (∀ k, ¬ (0 < k ∧ k < 97) → sv' k = sv0 k) → post x1 (nI cp, nI se, co, Fin.2, (fun z_ => nI (sv' z_)), (fun z_ => nI (kd z_)), (fun z_ => nI (fl z_)), fi, ir, re, (fun z_ => nI (rg z_)), Fin.1)) :
    ∀ (n last b : Nat) (sv : Nat → Nat) (fn : Nat → Int32) (fc : Int32), se' < n + last → last ≤ se' → (∀ k, 0 < k → k < 97 → ¬ R k → sv0 k ≤ last → sv k = 0) → (∀ k, ¬ (0 < k ∧ k < 97 ∧ ¬ R k ∧ sv0 k ≤ last) → sv k = sv0 k) → kh_LD sv re b 97 → kh_pu (kh_DY R kd sv0) (se' - last) (last + 1) (fn, fc) = Fin → wY_collect_80 post x1 (nI cp) (nI se) co n (nI b) fc (fun z_ => nI (sv z_)) (fun z_ => nI (kd z_)) (fun z_ => nI (fl z_)) fi ir re (fun z_ => nI (rg z_)) fn := by
  intro n
  induction n with
  | zero => intro last b sv fn fc h1 h2; omega
  | succ n ih =>
    intro last b sv fn fc h1 h2 h3 h4 L h5
    rw [wY_collect_80]
    have dead : ∀ k, 0 < k → k < 97 → ¬ R k → re k = 0 := by
      intro k k1 k2 k3
      by_cases z : re k = 0
      · exact z
      · exact absurd ((hR k k2).mp z) k3
    rcases L with ⟨rfl, l2⟩ | ⟨l1, l2, l3, l4, l5⟩
    · refine br_t (by decide) ?_
      rw [kh_pu_none (fun x x1' x2 => ?_)] at h5
      · rw [← h5] at K
        refine K sv (fun k k1 k2 k3 => h4 k (fun y => y.2.2.1 k3)) (fun k k1 k2 k3 => ?_) (fun k hk => h4 k (fun y => hk ⟨y.1, y.2.1⟩))
        by_cases z : sv k = 0
        · exact z
        · exact (l2 k k1 k2 z (dead k k1 k2 k3)).elim
      · rintro ⟨k, d1, d2, d3, d4, d5, d6⟩
        exact l2 k d1 d2 (by rw [h4 k (fun y => by omega)]; omega) (dead k d1 d2 d5)
    · have nR : ¬ R b := fun y => (hR b l2).mpr y l4
      have bl : last < sv0 b := by
        by_cases z : sv0 b ≤ last
        · exact absurd (h3 b l1 l2 nR z) l3
        · omega
      have eb : sv b = sv0 b := h4 b (fun y => by omega)
      have bs := hs b
      have min : ∀ k, 0 < k → k < 97 → ¬ R k → last < sv0 k → sv0 b ≤ sv0 k := by
        intro k k1 k2 k3 k4
        have ek := h4 k (fun y => by omega)
        have := l5 k k1 k2 (by omega) (dead k k1 k2 k3)
        omega
      have cb : (nI b).toNatClampNeg = b := nI_clamp (by omega)
      have go : ∀ (fn' : Nat → Int32) (fc' : Int32), kh_pu (kh_DY R kd sv0) (se' - sv0 b) (sv0 b + 1) (fn', fc') = Fin → wY_collect_122 post (wY_collect_80 post x1 (nI cp) (nI se) co n) x1 (nI b) (nI cp) (nI se) co fc' (fun z_ => nI (sv z_)) (fun z_ => nI (kd z_)) (fun z_ => nI (fl z_)) fi ir re (fun z_ => nI (rg z_)) fn' := by
        intro fn' fc' e
        refine And.intro (vp_in_nI l2 (by decide)) (nm_r (e' := fun z_ => nI (kh_up sv b 0 z_)) (by rw [cb]; exact kh_upI sv b 0) ?_)
        have a1 : ∀ k, 0 < k → k < 97 → ¬ R k → sv0 k ≤ sv0 b → kh_up sv b 0 k = 0 := by
          intro k k1 k2 k3 k4
          by_cases z : k = b
          · rw [z, kh_up_s]
          · rw [kh_up_n z]
            by_cases y : sv0 k ≤ last
            · exact h3 k k1 k2 k3 y
            · have := min k k1 k2 k3 (by omega)
              exact absurd (hu k b (by omega) (by omega)) z
        have a2 : ∀ k, ¬ (0 < k ∧ k < 97 ∧ ¬ R k ∧ sv0 k ≤ sv0 b) → kh_up sv b 0 k = sv0 k := by
          intro k hk
          by_cases z : k = b
          · subst z; exact absurd ⟨l1, l2, nR, Nat.le_refl _⟩ hk
          · rw [kh_up_n z]
            exact h4 k (fun y => hk ⟨y.1, y.2.1, y.2.2.1, by omega⟩)
        refine kh_yleast (fun k => ?_) (fun b' L' => ih (sv0 b) b' (kh_up sv b 0) fn' fc' (by omega) (by omega) a1 a2 L' e)
        by_cases z : 0 < k ∧ k < 97 ∧ ¬ R k ∧ sv0 k ≤ sv0 b
        · rw [a1 k z.1 z.2.1 z.2.2.1 z.2.2.2]; omega
        · rw [a2 k z]; have := hs k; omega
      refine br_f (nI_nle l1 (by omega)) ⟨vp_in_nI l2 (by decide), ?_⟩
      rw [cb]
      have none : ∀ x, last < x → x < sv0 b → ¬ kh_DY R kd sv0 x := by
        rintro x q1 q2 ⟨k, d1, d2, d3, d4, d5, d6⟩
        have := min k d1 d2 d5 (by omega)
        omega
      refine pk_eq (kd b) 1 (fun z => ?_) (fun z => ?_) rfl rfl (by have := hV b; omega)
      · refine ⟨vp_in_nI l2 (by decide), pk_andIn fc 4 (by decide) (by decide), nm_r (e' := upd fn (fc &&& 15).toNatClampNeg (nI (sv0 b))) (by rw [← eb]) (nm_e (go _ _ ?_))⟩
        rw [← h5]
        exact (kh_pu_next (st := (fn, fc)) bl bs ⟨b, l1, l2, by omega, z, nR, rfl⟩ none).symm
      · refine go _ _ ?_
        rw [← h5]
        refine (kh_pu_nextN bl bs (fun x q1 q2 => ?_)).symm
        rintro ⟨k, d1, d2, d3, d4, d5, d6⟩
        have := min k d1 d2 d5 (by omega)
        have e := hu k b d3 (by omega)
        subst e
        exact z d4
end
end
section
/-! the reference: collect, create -/
def kh_YO (P : Nat → Prop) (fl sv : Nat → Nat) (fix : Nat → Int32) (sv' : Nat → Nat) (fi' : Nat → Int32) : Prop :=
  (∀ k, P k → sv' k = sv k) ∧ (∀ k, ¬ P k → sv' k = 0) ∧ (∀ k i, P k → i < fl k → fi' (6 * k + i) = fix (6 * k + i))
/-- the field array with the weak fields of the records below x cleared -/
noncomputable def kh_fcx (R : Nat → Prop) (kd : Nat → Nat) (fi : Nat → Int32) (x j : Nat) : Int32 := @ite Int32 (j / 6 < x ∧ j % 6 = 0 ∧ kd (j / 6) = 2 ∧ R (j / 6) ∧ ¬ R (fi j).toNatClampNeg) (Classical.propDecidable _) 0 (fi j)
theorem kh_fcx_0 {R : Nat → Prop} {kd : Nat → Nat} {fi : Nat → Int32} {x : Nat} (h : ∀ k, k < x → ¬ R k) : kh_fcx R kd fi x = fi := by
  funext j
  unfold kh_fcx
  rw [if_neg (fun y => h _ y.1 y.2.2.2.1)]
theorem kh_fcx_u {R : Nat → Prop} {kd : Nat → Nat} {fi : Nat → Int32} {x : Nat} (h2 : kd x = 2) (hR : R x) (hn : ¬ R (fi (6 * x)).toNatClampNeg) : upd (kh_fcx R kd fi x) (6 * x) 0 = kh_fcx R kd fi (x + 1) := by
  funext j
  have d : 6 * x / 6 = x := by omega
  have m : 6 * x % 6 = 0 := by omega
  by_cases e : j = 6 * x
  · subst e
    rw [pk_us]
    unfold kh_fcx
    rw [d, if_pos ⟨by omega, m, h2, hR, hn⟩]
  · rw [pk_un e]
    unfold kh_fcx
    by_cases c : j / 6 < x ∧ j % 6 = 0 ∧ kd (j / 6) = 2 ∧ R (j / 6) ∧ ¬ R (fi j).toNatClampNeg
    · rw [if_pos c, if_pos ⟨by omega, c.2⟩]
    · rw [if_neg c, if_neg (fun y => c ⟨by omega, y.2⟩)]
theorem kh_fcx_s {R : Nat → Prop} {kd : Nat → Nat} {fi : Nat → Int32} {x : Nat} (h : ¬ (kd x = 2 ∧ R x ∧ ¬ R (fi (6 * x)).toNatClampNeg)) : kh_fcx R kd fi x = kh_fcx R kd fi (x + 1) := by
  funext j
  unfold kh_fcx
  by_cases c : j / 6 < x ∧ j % 6 = 0 ∧ kd (j / 6) = 2 ∧ R (j / 6) ∧ ¬ R (fi j).toNatClampNeg
  · rw [if_pos c, if_pos ⟨by omega, c.2⟩]
  · rw [if_neg c, if_neg (fun y => ?_)]
    by_cases e : j / 6 = x
    · have ej : j = 6 * x := by omega
      rw [e] at y
      rw [ej] at y
      exact h ⟨y.2.2.1, y.2.2.2.1, y.2.2.2.2⟩
    · exact c ⟨by omega, y.2⟩
theorem kh_fcx_w {R : Nat → Prop} {kd fl : Nat → Nat} {fi ir : Nat → Int32} {k i : Nat} (hV : kh_RV kd fl ir) (hk : k < 97) (hR : R k) (hi : i < fl k) : kh_fcx R kd fi 97 (6 * k + i) = kh_fiw R kd fi (6 * k + i) := by
  have v := hV k
  have d : (6 * k + i) / 6 = k := by omega
  by_cases z : kd k = 2
  · have v4 := (v.2.2 z).1
    have m : (6 * k + i) % 6 = 0 := by omega
    unfold kh_fcx kh_fiw
    rw [d]
    by_cases c : R (fi (6 * k + i)).toNatClampNeg
    · rw [if_neg (fun y => y.2.2.2.2 c), if_neg (fun y => y.2 c)]
    · rw [if_pos ⟨hk, m, z, hR, c⟩, if_pos ⟨z, c⟩]
  · rw [kh_fiw_n z (by omega)]
    unfold kh_fcx
    rw [d, if_neg (fun y => z y.2.2.1)]
section
variable {cp se : Nat} {co fc : Int32} {fn : Nat → Int32} {sv kd fl rg : Nat → Nat} {fi ir re : Nat → Int32}
theorem kh_y17 {post : Int32 → SY → Prop} {R : Nat → Prop} {x1 : Int32} (hV : kh_RV kd fl ir) (hR : ∀ j, j < 97 → (re j ≠ 0 ↔ R j)) (h0 : re 0 = 0) (hF : ∀ k, R k → kh_FV fl fi ir k) (hs : ∀ k, sv k < 2 ^ 31)
    (K : ∀ b, kh_LD sv re b 97 → ∃ m, wY_collect_80 post x1 (nI cp) (nI se) co m (nI b) fc (fun z_ => nI (sv z_)) (fun z_ => nI (kd z_)) (fun z_ => nI (fl z_)) (kh_fcx R kd fi 97) ir re (fun z_ => nI (rg z_)) fn) :
    ∀ (n x : Nat), 97 < n + x → x ≤ 97 → wY_collect_17 post x1 (nI cp) (nI se) co fc n (nI x) (fun z_ => nI (sv z_)) (fun z_ => nI (kd z_)) (fun z_ => nI (fl z_)) (kh_fcx R kd fi x) ir re (fun z_ => nI (rg z_)) fn := by
  intro n
  induction n with
  | zero => intro x h1 h2; omega
  | succ n ih =>
    intro x h1 h2
    rw [wY_collect_17]
    refine pk_le 97 x (fun z => ?_) (fun z => ⟨vp_in_nI z (by decide), ?_⟩)
    · have e : x = 97 := by omega
      subst e
      exact kh_yleast hs (fun b L => K b L)
    · have v := hV x
      have nx := ih (x + 1) (by omega) (by omega)
      rw [kh_cl (show x < 208 by omega)]
      have skip : ¬ (kd x = 2 ∧ R x ∧ ¬ R (fi (6 * x)).toNatClampNeg) → wY_collect_17 post x1 (nI cp) (nI se) co fc n (nI (x + 1)) (fun z_ => nI (sv z_)) (fun z_ => nI (kd z_)) (fun z_ => nI (fl z_)) (kh_fcx R kd fi x) ir re (fun z_ => nI (rg z_)) fn := by
        intro hx
        rw [kh_fcx_s hx]
        exact nx
      refine br_c (fun y => nm_r (nI_1 x) (skip (fun q => absurd y ((hR x z).mpr q.2.1)))) (fun y => ⟨vp_in_nI z (by decide), ?_⟩)
      have rx := (hR x z).mp y
      refine pk_eq (kd x) 2 (fun y2 => ?_) (fun y2 => nm_r (nI_1 x) (skip (fun q => y2 q.1))) rfl rfl (by omega)
      obtain ⟨v1, v2⟩ := v.2.2 y2
      have e6 : (6 : Int32) * nI x = nI (6 * x) := pk_mul 6 x
      have cl : (nI (6 * x)).toNatClampNeg = 6 * x := nI_clamp (by omega)
      have ef : kh_fcx R kd fi x (6 * x) = fi (6 * x) := by
        unfold kh_fcx
        rw [if_neg (fun q => by omega)]
      rw [e6, cl, ef]
      have clear : ¬ R (fi (6 * x)).toNatClampNeg → wY_collect_17 post x1 (nI cp) (nI se) co fc n (nI (x + 1)) (fun z_ => nI (sv z_)) (fun z_ => nI (kd z_)) (fun z_ => nI (fl z_)) (upd (kh_fcx R kd fi x) (6 * x) 0) ir re (fun z_ => nI (rg z_)) fn := by
        intro hx
        rw [kh_fcx_u y2 rx hx]
        exact nx
      rcases hF x rx 0 (by omega) with q | q | ⟨q, q1⟩
      · exact absurd q v2
      · have q' : fi (6 * x) = 0 := q
        rw [q'] at clear ⊢
        refine ⟨vp_in_nI (show 6 * x < 582 by omega) (by decide), vp_in_nI (n := 0) (by decide) (by decide), br_t h0 ⟨vp_in_nI (show 6 * x < 582 by omega) (by decide), nm_e (nm_r (nI_1 x) (clear (fun r => (hR 0 (by omega)).mpr r h0)))⟩⟩
      · obtain ⟨q1, q2, q3, q4⟩ := q1
        have q' : fi (6 * x) = nI q := q4
        rw [q', kh_cl (show q < 208 by omega)] at clear skip
        rw [q', kh_cl (show q < 208 by omega)]
        refine ⟨vp_in_nI (show 6 * x < 582 by omega) (by decide), vp_in_nI q3 (by decide), br_c (fun y3 => ⟨vp_in_nI (show 6 * x < 582 by omega) (by decide), nm_e (nm_r (nI_1 x) (clear (fun r => (hR q q3).mpr r y3)))⟩) (fun y3 => nm_r (nI_1 x) (skip (fun r => r.2.2 ((hR q q3).mp y3))))⟩
theorem kh_ycollect {post : Int32 → SY → Prop} {se' : Nat} (hse : se' < 2 ^ 30) (hV : kh_RV kd fl ir) (hs : ∀ k, sv k ≤ se') (hz : ∀ k, ¬ (0 < k ∧ k < 97) → sv k = 0) (hu : ∀ k j, 0 < sv k → sv k = sv j → k = j)
    (hF : ∀ k, kh_Rch rg kd fl fi ir k → kh_FV fl fi ir k) (hg : ∀ r, r < 8 → rg r < 97) (hP : ∀ k, kh_Rch rg kd fl fi ir k → 0 < k ∧ k < 97)
    (K : ∀ sv' fi' re', kh_YO (kh_Rch rg kd fl fi ir) fl sv (kh_fiw (kh_Rch rg kd fl fi ir) kd fi) sv' fi' → fi' = kh_fcx (kh_Rch rg kd fl fi ir) kd fi 97 → post (nI (kh_cw (kh_Rch rg kd fl fi ir) fl)) (nI cp, nI se, co + 1, (kh_pu (kh_DY (kh_Rch rg kd fl fi ir) kd sv) se' 1 (fn, fc)).2, (fun z_ => nI (sv' z_)), (fun z_ => nI (kd z_)), (fun z_ => nI (fl z_)), fi', ir, re', (fun z_ => nI (rg z_)), (kh_pu (kh_DY (kh_Rch rg kd fl fi ir) kd sv) se' 1 (fn, fc)).1)) : wpY_collect post (nI cp, nI se, co, fc, (fun z_ => nI (sv z_)), (fun z_ => nI (kd z_)), (fun z_ => nI (fl z_)), fi, ir, re, (fun z_ => nI (rg z_)), fn) := by
  unfold wpY_collect
  refine kh_yreach (fun k => ⟨(hV k).1, (hV k).2.1⟩) hF hg (fun re1 r0 r1 => ?_)
  refine nm_e ⟨98, ?_⟩
  have W := kh_y17 (post := post) (cp := cp) (se := se) (co := co + 1) (fc := fc) (fn := fn) (re := re1) (rg := rg) (sv := sv) (R := kh_Rch rg kd fl fi ir) (x1 := nI (kh_cw (kh_Rch rg kd fl fi ir) fl)) hV r1 r0 hF (fun k => by have := hs k; omega) (fun b L => ?_) 98 1 (by omega) (by omega)
  · rw [kh_fcx_0 (fun k k1 k2 => by have := hP k k2; omega)] at W
    exact W
  · refine ⟨se' + 1, kh_y80 (R := kh_Rch rg kd fl fi ir) (sv0 := sv) (se' := se') (Fin := kh_pu (kh_DY (kh_Rch rg kd fl fi ir) kd sv) se' 1 (fn, fc)) hse (fun k => (hV k).1) hs hu r1 (fun sv1 a1 a2 a3 => ?_) (se' + 1) 0 b sv fn fc (by omega) (by omega) (fun k k1 k2 k3 k4 => by omega) (fun _ _ => rfl) L rfl⟩
    refine K sv1 _ re1 ⟨fun k hk => a1 k (hP k hk).1 (hP k hk).2 hk, fun k hk => ?_, fun k i k1 k2 => kh_fcx_w hV (hP k k1).2 k1 k2⟩ rfl
    by_cases z : 0 < k ∧ k < 97
    · exact a2 k z.1 z.2 hk
    · rw [a3 k z]; exact hz k z
/-- a free record -/
theorem kh_ew_ge {x : Nat} (h : ∀ j, 0 < j → j < x → sv j ≠ 0) : ∀ n, x ≤ n ∨ n ≤ x → (if n ≤ x then n else x) ≤ kh_sm (fun k => if sv k = 0 then 0 else fl k + 1) n + 1 := by
  intro n
  induction n with
  | zero => intro _; simp
  | succ n ih =>
    intro _
    have i := ih (by omega)
    simp only [kh_sm]
    by_cases c : n + 1 ≤ x
    · rw [if_pos c]
      rw [if_pos (by omega)] at i
      by_cases n0 : n = 0
      · omega
      · rw [if_neg (h n (by omega) (by omega))]
        omega
    · rw [if_neg c]
      by_cases c2 : n ≤ x
      · rw [if_pos c2] at i
        have : n = x := by omega
        omega
      · rw [if_neg c2] at i
        omega
theorem kh_y94 {post : Int32 → SY → Prop} {k : Nat} (hk : k < 97) (K : ∀ fi' ir' : Nat → Int32, (∀ j, j < 6 * k ∨ 6 * k + 6 ≤ j → fi' j = fi j ∧ ir' j = ir j) → (∀ i, i < 6 → fi' (6 * k + i) = 0 ∧ ir' (6 * k + i) = 0) → post (nI k) (nI cp, nI se, co, fc, (fun z_ => nI (sv z_)), (fun z_ => nI (kd z_)), (fun z_ => nI (fl z_)), fi', ir', re, (fun z_ => nI (rg z_)), fn)) :
    ∀ (n x : Nat) (fi1 ir1 : Nat → Int32), 6 < n + x → x ≤ 6 → (∀ j, j < 6 * k ∨ 6 * k + x ≤ j → fi1 j = fi j ∧ ir1 j = ir j) → (∀ i, i < x → fi1 (6 * k + i) = 0 ∧ ir1 (6 * k + i) = 0) → wY_create_94 post (nI k) (nI cp) (nI se) co fc n (nI (6 * k + x)) (fun z_ => nI (sv z_)) (fun z_ => nI (kd z_)) (fun z_ => nI (fl z_)) fi1 ir1 re (fun z_ => nI (rg z_)) fn := by
  intro n
  induction n with
  | zero => intro x fi1 ir1 h1 h2; omega
  | succ n ih =>
    intro x fi1 ir1 h1 h2 h3 h4
    rw [wY_create_94]
    have e6 : (6 : Int32) * nI k + 6 = nI (6 * k + 6) := by
      have : (6 : Int32) * nI k = nI (6 * k) := pk_mul 6 k
      rw [this]; exact nI_add (6 * k) 6
    try dsimp only
    rw [e6]
    refine pk_le (6 * k + 6) (6 * k + x) (fun z => ?_) (fun z => ?_)
    · have e : x = 6 := by omega
      subst e
      exact K fi1 ir1 h3 h4
    · have c : 6 * k + x < 582 := by omega
      have cl : (nI (6 * k + x)).toNatClampNeg = 6 * k + x := nI_clamp (by omega)
      rw [cl, kh_bo0]
      refine ⟨vp_in_nI c (by decide), nm_e ⟨vp_in_nI c (by decide), nm_e (nm_r (nI_1 _) (ih (x + 1) _ _ (by omega) (by omega) (fun j hj => ?_) (fun i hi => ?_)))⟩⟩
      · rw [pk_un (by omega), pk_un (by omega)]; exact h3 j (by omega)
      · by_cases e : i = x
        · subst e; rw [pk_us, pk_us]; exact ⟨rfl, rfl⟩
        · rw [pk_un (by omega), pk_un (by omega)]; exact h4 i (by omega)
theorem kh_y20 {post : Int32 → SY → Prop} {f kk : Nat} (hf : f ≤ 6) (hcp : cp ≤ 96) (h0 : sv 0 = 0) (hs : ∀ k, sv k < 2 ^ 31) (hew : kh_ew sv fl < 1000)
    (K0 : cp < kh_ew sv fl + (f + 1) → post (nI 0) (nI cp, nI se, co, fc, (fun z_ => nI (sv z_)), (fun z_ => nI (kd z_)), (fun z_ => nI (fl z_)), fi, ir, re, (fun z_ => nI (rg z_)), fn))
    (K1 : kh_ew sv fl + (f + 1) ≤ cp → ∀ k (fi' ir' : Nat → Int32), 0 < k → k < 97 → sv k = 0 → (∀ j, 0 < j → j < k → sv j ≠ 0) → (∀ j, j < 6 * k ∨ 6 * k + 6 ≤ j → fi' j = fi j ∧ ir' j = ir j) → (∀ i, i < 6 → fi' (6 * k + i) = 0 ∧ ir' (6 * k + i) = 0) → post (nI k) (nI cp, nI (se + 1), co, fc, (fun z_ => nI ((kh_up sv k (se + 1)) z_)), (fun z_ => nI ((kh_up kd k kk) z_)), (fun z_ => nI ((kh_up fl k f) z_)), fi', ir', re, (fun z_ => nI (rg z_)), fn)) : wY_create_20 post (nI f) (nI kk) (nI cp) (nI se) co fc (fun z_ => nI (sv z_)) (fun z_ => nI (kd z_)) (fun z_ => nI (fl z_)) fi ir re (fun z_ => nI (rg z_)) fn := by
  unfold wY_create_20
  refine kh_yew h0 hs ?_
  refine pk_le (kh_ew sv fl + 1 + f) cp (fun z => ?_) (fun z => K0 (by omega)) (by rw [nI_1, nI_add])
  have key : ∀ (n x : Nat), 97 < n + x → 1 ≤ x → x ≤ 97 → (∀ j, 0 < j → j < x → sv j ≠ 0) → wY_create_39 post (nI f) (nI kk) (nI cp) (nI se) co fc (fun z_ => nI (sv z_)) (fun z_ => nI (kd z_)) (fun z_ => nI (fl z_)) fi ir re (fun z_ => nI (rg z_)) fn n (nI x) := by
    intro n
    induction n with
    | zero => intro x h1 h2 h3; omega
    | succ n ih =>
      intro x h1 h2 h3 h4
      have lx : x < 97 := by
        have := kh_ew_ge (fl := fl) h4 97 (by omega)
        by_cases c : (97 : Nat) ≤ x
        · rw [if_pos c] at this
          have : kh_ew sv fl + 1 ≥ 97 := this
          omega
        · omega
      rw [wY_create_39]
      refine And.intro (vp_in_nI lx (by decide)) ?_
      rw [kh_cl (show x < 208 by omega)]
      refine pk_eq (sv x) 0 (fun y => ?_) (fun y => nm_r (nI_1 x) (ih (x + 1) (by omega) (by omega) (by omega) (fun j j1 j2 => ?_))) rfl rfl (hs x)
      · refine nm_r (nI_1 se) ⟨vp_in_nI lx (by decide), nm_r (kh_upI sv x (se + 1)) ⟨vp_in_nI lx (by decide), nm_r (kh_upI kd x kk) ⟨vp_in_nI lx (by decide), nm_r (kh_upI fl x f) (nm_r (pk_mul 6 x) ⟨7, ?_⟩)⟩⟩⟩
        exact kh_y94 (sv := kh_up sv x (se + 1)) (kd := kh_up kd x kk) (fl := kh_up fl x f) (se := se + 1) lx (fun fi' ir' a b => K1 (by omega) x fi' ir' (by omega) lx y h4 a b) 7 0 fi ir (by omega) (by omega) (fun _ _ => ⟨rfl, rfl⟩) (fun i hi => by omega)
      · by_cases e : j = x
        · subst e; exact y
        · exact h4 j j1 (by omega)
  exact ⟨98, key 98 1 (by omega) (by omega) (by omega) (fun j j1 j2 => by omega)⟩
end
end
section
/-! the relation, and allocation on both sides -/
def kh_RL (cp nu po ob ot yo ex se rc : Nat) (w t rm im rx : Nat → Int32) (sv kd fl rg : Nat → Nat) (fi ir : Nat → Int32) (A : Nat → Nat) : Prop :=
  kh_Ge cp ob ot yo ∧ kh_XI kd fl sv fi ir rg A w t rm im rx ob ot yo rc ∧ (∀ k, A k < 208 → 0 < sv k) ∧ (∀ k, 0 < k → k < 97 → 0 < sv k → kd k = 1 → A k < 208) ∧
  kh_RV kd fl ir ∧ (∀ k, sv k ≤ se) ∧ (∀ k, ¬ (0 < k ∧ k < 97) → sv k = 0) ∧ (∀ k j, 0 < sv k → sv k = sv j → k = j) ∧ ex = kh_ew sv fl ∧ ex ≤ cp ∧ nu ≤ 15 ∧ yo ≤ nu ∧ po < 3
theorem kh_pw_ew {sv fl A : Nat → Nat} (h : ∀ k, A k < 208 → 0 < sv k) : kh_pw fl A ≤ kh_ew sv fl := by
  refine kh_sm_le fun k _ => ?_
  by_cases c : A k < 208
  · have := h k c
    rw [if_pos c, if_neg (by omega)]; exact Nat.le_refl _
  · rw [if_neg c]; exact Nat.zero_le _
theorem kh_Rch_pl {kd fl sv rg A : Nat → Nat} {fi ir w t rx : Nat → Int32} (hO : ∀ k, A k < 208 → kh_Ob kd fl sv fi ir A w t (A k) k) (hR : kh_RG rg A rx) {k : Nat} (h : kh_Rch rg kd fl fi ir k) : A k < 208 := by
  refine h (fun k => A k < 208) (fun r r1 r2 => ?_) (fun k i q hk _ hi hr => (kh_Fw_ref ((hO k hk).2.2 i hi) hr).2.2)
  rcases hR r r1 with ⟨z, _⟩ | ⟨_, z, _⟩
  · omega
  · exact z
theorem kh_FV_pl {kd fl sv A : Nat → Nat} {fi ir w t : Nat → Int32} {k p : Nat} (h : kh_Ob kd fl sv fi ir A w t p k) : kh_FV fl fi ir k := by
  intro i hi
  rcases h.2.2 i hi with ⟨z, _⟩ | ⟨_, z, _⟩ | ⟨q, z, _⟩
  · exact Or.inl z
  · exact Or.inr (Or.inl z)
  · exact Or.inr (Or.inr ⟨q, z⟩)
theorem kh_YO_ew {P : Nat → Prop} {fl sv sv' : Nat → Nat} {fix fi' : Nat → Int32} (h : kh_YO P fl sv fix sv' fi') (hp : ∀ k, P k → 0 < sv k) : kh_ew sv' fl = kh_cw P fl :=
  kh_cw_eq (fun k _ hk => if_neg (by rw [h.1 k hk]; have := hp k hk; omega)) (fun k _ hk => if_pos (h.2.1 k hk))
section
variable {cp nu po ob ot yo ex se rc : Nat} {co fc dp : Int32} {w t mk fw sk rm im rx fn : Nat → Int32} {sv kd fl rg : Nat → Nat} {fi ir re : Nat → Int32} {A : Nat → Nat}
theorem kh_allocY {post : Int32 → SX → Prop} {f kk : Nat} (hf : f ≤ 6) (hse : se < 2 ^ 30) (L : kh_RL cp nu po ob ot yo ex se rc w t rm im rx sv kd fl rg fi ir A)
    (KF : ∀ A' w' t' mk' fw' sk' rm' im' rx' ob' ot' dp' co' fc' fn' ex', kh_XI kd fl sv (kh_fiw (kh_Rch rg kd fl fi ir) kd fi) ir rg A' w' t' rm' im' rx' ob' ot' 0 0 → kh_Ge cp ob' ot' 0 → (∀ k, (kh_Rch rg kd fl fi ir) k ↔ A' k < 208) → ex' ≤ cp →
      (∀ (re : Nat → Int32) (postY : Int32 → SY → Prop), (∀ sv' fi' re', kh_YO (kh_Rch rg kd fl fi ir) fl sv (kh_fiw (kh_Rch rg kd fl fi ir) kd fi) sv' fi' → kh_ew sv' fl = ex' → postY (nI 0) (nI cp, nI se, co', fc', (fun z_ => nI (sv' z_)), (fun z_ => nI (kd z_)), (fun z_ => nI (fl z_)), fi', ir, re', (fun z_ => nI (rg z_)), fn')) → wpY_create postY (nI cp, nI se, co, fc, (fun z_ => nI (sv z_)), (fun z_ => nI (kd z_)), (fun z_ => nI (fl z_)), fi, ir, re, (fun z_ => nI (rg z_)), fn) (nI f) (nI kk)) →
      post (-1) (nI cp, nI nu, nI po, nI ob', nI ot', nI 0, nI ex', nI se, co', fc', nI 0, dp', w', t', mk', fw', sk', rm', im', rx', fn'))
    (KS : ∀ (P : Nat → Prop) fix fiy A' w' t' mk' fw' sk' rm' im' rx' ob' ot' yo' rc' dp' co' fc' fn' ex' o, kh_XQ kd fl sv fix ir rg A' w' t' rm' im' rx' ob' ot' yo' rc' o (f + 1) → (∀ k, A' k < 208 → P k) → (∀ k, P k → kd k = 1 → A' k < 208) → (∀ k, P k → 0 < k ∧ k < 97 ∧ 0 < sv k) → kh_Ge cp ob' ot' yo' → yo' ≤ nu → ex' + (f + 1) ≤ cp → o < 208 → kh_cw P fl = ex' → (∀ k i, P k → i < fl k → fiy (6 * k + i) = fix (6 * k + i)) →
      (∀ (re : Nat → Int32) (postY : Int32 → SY → Prop), (∀ sv' fi1 re' k (fi' ir' : Nat → Int32), kh_YO P fl sv fix sv' fi1 → fi1 = fiy → kh_ew sv' fl = ex' → 0 < k → k < 97 → ¬ P k → (∀ j, 0 < j → j < k → sv' j ≠ 0) → (∀ j, j < 6 * k ∨ 6 * k + 6 ≤ j → fi' j = fi1 j ∧ ir' j = ir j) → (∀ i, i < 6 → fi' (6 * k + i) = 0 ∧ ir' (6 * k + i) = 0) → postY (nI k) (nI cp, nI (se + 1), co', fc', (fun z_ => nI ((kh_up sv' k (se + 1)) z_)), (fun z_ => nI ((kh_up kd k kk) z_)), (fun z_ => nI ((kh_up fl k f) z_)), fi', ir', re', (fun z_ => nI (rg z_)), fn')) → wpY_create postY (nI cp, nI se, co, fc, (fun z_ => nI (sv z_)), (fun z_ => nI (kd z_)), (fun z_ => nI (fl z_)), fi, ir, re, (fun z_ => nI (rg z_)), fn) (nI f) (nI kk)) →
      post (nI o) (nI cp, nI nu, nI po, nI ob', nI ot', nI yo', nI (ex' + (f + 1)), nI se, co', fc', nI rc', dp', w', t', mk', fw', sk', rm', im', rx', fn')) : wpX_allocate post (nI cp, nI nu, nI po, nI ob, nI ot, nI yo, nI ex, nI se, co, fc, nI rc, dp, w, t, mk, fw, sk, rm, im, rx, fn) (nI (f + 1)) := by
  obtain ⟨G, X, L1, L2, V, S1, S2, S3, E1, E2, N1, N2, P1⟩ := L
  have X' := X
  have G' := G
  obtain ⟨⟨p1, p2, p3, p4, p5, p6⟩, hR, hS, hM⟩ := X'
  obtain ⟨g1, g2, g3, g4, g5⟩ := G'
  have hv : ∀ k, kd k ≤ 2 ∧ fl k ≤ 6 := fun k => ⟨(V k).1, (V k).2.1⟩
  have pe := kh_pw_ew (fl := fl) L1
  have s31 : ∀ k, sv k < 2 ^ 31 := fun k => by have := S1 k; omega
  have s0 : sv 0 = 0 := S2 0 (by omega)
  unfold wpX_allocate
  refine pk_le (ex + (f + 1)) cp (fun z => ?_) (fun z => ?_) (nI_add _ _)
  · refine kh_al17 (rg := rg) G (by omega) (by omega) P1 N1 N2 hv X (by omega) (by omega) (fun y => by omega) (fun _ A1 w1 t1 mk1 fw1 rm1 im1 rc1 rx1 ot1 yo1 o o1 Q a1 a2 G1 y1 => ?_)
    have hcw : kh_cw (fun k => 0 < k ∧ k < 97 ∧ 0 < sv k) fl = kh_ew sv fl := (kh_YO_ew (P := fun k => 0 < k ∧ k < 97 ∧ 0 < sv k) (sv := sv) (sv' := sv) (fix := fi) (fi' := fi) ⟨fun _ _ => rfl, fun j hj => by
      by_cases c : 0 < j ∧ j < 97
      · have : ¬ 0 < sv j := fun y => hj ⟨c.1, c.2, y⟩
        omega
      · exact S2 j c, fun _ _ _ _ => rfl⟩ (fun k hk => hk.2.2)).symm
    refine KS (fun k => 0 < k ∧ k < 97 ∧ 0 < sv k) fi fi A1 w1 t1 mk1 fw1 sk rm1 im1 rx1 ob ot1 yo1 rc1 dp co fc fn ex o Q (fun k hk => ⟨(p1 k (a1 k hk)).1, (p1 k (a1 k hk)).2, L1 k (a1 k hk)⟩) (fun k hk h1 => a2 k (L2 k hk.1 hk.2.1 hk.2.2 h1) h1) (fun _ h => h) G1 y1 z o1 (hcw.trans E1.symm) (fun _ _ _ _ => rfl) (fun re postY KY => ?_)
    unfold wpY_create
    refine kh_yew s0 s31 ?_
    refine pk_le (kh_ew sv fl + 1 + f) cp (fun y => ?_) (fun y => by omega) (by rw [nI_1, nI_add])
    refine kh_y20 hf g1 s0 s31 (by omega) (fun y => by omega) (fun _ k fi' ir' k1 k2 k3 kl f1 f2 => ?_)
    refine KY sv fi re k fi' ir' ⟨fun _ _ => rfl, fun j hj => ?_, fun _ _ _ _ => rfl⟩ rfl E1.symm k1 k2 (fun y => by omega) kl f1 f2
    by_cases c : 0 < j ∧ j < 97
    · have : ¬ 0 < sv j := fun y => hj ⟨c.1, c.2, y⟩
      omega
    · exact S2 j c
  · refine kh_major (rg := rg) (se' := se) G P1 V X (fun k hk => ⟨L1 k hk, S1 k⟩) hse L2 (by omega) (fun A1 w1 t1 mk1 fw1 sk1 rm1 im1 rx1 ob1 ot1 dp1 H1 R1 r1 i1 G1 => ?_)
    have G1' := G1
    obtain ⟨q1, q2, q3, q4, q5⟩ := G1'
    have X1 := kh_XI_of (rm := rm1) G1 H1 R1 i1
    have rp : ∀ k, (kh_Rch rg kd fl fi ir) k → A k < 208 := fun k hk => kh_Rch_pl p2 hR hk
    have cw1 : kh_pw fl A1 = kh_cw (kh_Rch rg kd fl fi ir) fl := kh_cw_eq (fun k _ hk => if_pos ((r1 k).mp hk)) (fun k _ hk => if_neg (fun y => hk ((r1 k).mpr y)))
    have cw2 : kh_pw fl A1 ≤ kh_pw fl A := kh_pw_le (fun k hk => rp k ((r1 k).mpr hk))
    have rv : ∀ k, (kh_Rch rg kd fl fi ir) k → 0 < k ∧ k < 97 ∧ 0 < sv k := fun k hk => ⟨(p1 k (rp k hk)).1, (p1 k (rp k hk)).2, L1 k (rp k hk)⟩
    have hg : ∀ r, r < 8 → rg r < 97 := by
      intro r hr
      rcases hR r hr with ⟨y, _⟩ | ⟨_, y, _⟩
      · omega
      · exact (p1 _ y).2
    have hF : ∀ k, (kh_Rch rg kd fl fi ir) k → kh_FV fl fi ir k := fun k hk => kh_FV_pl (p2 k (rp k hk))
    have y31 : ∀ (sv' : Nat → Nat) (fi' : Nat → Int32), kh_YO (kh_Rch rg kd fl fi ir) fl sv (kh_fiw (kh_Rch rg kd fl fi ir) kd fi) sv' fi' → ∀ k, sv' k < 2 ^ 31 := by
      intro sv' fi' O k
      rcases Classical.em ((kh_Rch rg kd fl fi ir) k) with c | c
      · rw [O.1 k c]; exact s31 k
      · rw [O.2.1 k c]; omega
    refine kh_al17 (rg := rg) (yo := 0) (rc := 0) (ex := kh_cw (kh_Rch rg kd fl fi ir) fl) G1 (by omega) (by omega) P1 N1 (by omega) hv X1 (by omega) (by omega) (fun y => ?_) (fun y A2 w2 t2 mk2 fw2 rm2 im2 rc2 rx2 ot2 yo2 o o1 Q a1 a2 G2 y1 => ?_)
    · refine KF A1 w1 t1 mk1 fw1 sk1 rm1 im1 rx1 ob1 ot1 dp1 (co + 1) ((kh_pu (kh_DY (kh_Rch rg kd fl fi ir) kd sv) se 1 (fn, fc))).2 ((kh_pu (kh_DY (kh_Rch rg kd fl fi ir) kd sv) se 1 (fn, fc))).1 (kh_cw (kh_Rch rg kd fl fi ir) fl) X1 G1 r1 (by omega) (fun re postY KY => ?_)
      unfold wpY_create
      refine kh_yew s0 s31 ?_
      refine pk_le (kh_ew sv fl + 1 + f) cp (fun y => by omega) (fun _ => ?_) (by rw [nI_1, nI_add])
      refine kh_ycollect (se' := se) hse V S1 S2 S3 hF hg (fun k hk => ⟨(rv k hk).1, (rv k hk).2.1⟩) (fun sv' fi' re' O _ => ?_)
      have ew' := kh_YO_ew O (fun k hk => (rv k hk).2.2)
      refine kh_y20 hf g1 (O.2.1 0 (fun y => by have := rv 0 y; omega)) (y31 sv' fi' O) (by omega) (fun _ => KY sv' fi' re' O ew') (fun y => by omega)
    · refine KS (kh_Rch rg kd fl fi ir) (kh_fiw (kh_Rch rg kd fl fi ir) kd fi) (kh_fcx (kh_Rch rg kd fl fi ir) kd fi 97) A2 w2 t2 mk2 fw2 sk1 rm2 im2 rx2 ob1 ot2 yo2 rc2 dp1 (co + 1) ((kh_pu (kh_DY (kh_Rch rg kd fl fi ir) kd sv) se 1 (fn, fc))).2 ((kh_pu (kh_DY (kh_Rch rg kd fl fi ir) kd sv) se 1 (fn, fc))).1 (kh_cw (kh_Rch rg kd fl fi ir) fl) o Q (fun k hk => (r1 k).mpr (a1 k hk)) (fun k hk h1 => a2 k ((r1 k).mp hk) h1) rv G2 y1 y o1 rfl (fun k i k1 k2 => kh_fcx_w V (rv k k1).2.1 k1 k2) (fun re postY KY => ?_)
      unfold wpY_create
      refine kh_yew s0 s31 ?_
      refine pk_le (kh_ew sv fl + 1 + f) cp (fun y => by omega) (fun _ => ?_) (by rw [nI_1, nI_add])
      refine kh_ycollect (se' := se) hse V S1 S2 S3 hF hg (fun k hk => ⟨(rv k hk).1, (rv k hk).2.1⟩) (fun sv' fi1 re' O fe => ?_)
      have ew' := kh_YO_ew O (fun k hk => (rv k hk).2.2)
      refine kh_y20 hf g1 (O.2.1 0 (fun y => by have := rv 0 y; omega)) (y31 sv' fi1 O) (by omega) (fun y => by omega) (fun _ k fi' ir' k1 k2 k3 kl f1 f2 => ?_)
      exact KY sv' fi1 re' k fi' ir' O fe ew' k1 k2 (fun y => by have := O.1 k y; have := rv k y; omega) kl f1 f2
end
end
section
/-! a new record -/
section
variable {cp nu po ob ot yo ex ex' se rc rc2 ob' ot' yo' o f kk k : Nat} {w t w2 t2 rm im rx rm2 im2 rx' rm0 im0 w0 t0 : Nat → Int32} {sv sv' kd fl rg A A0 : Nat → Nat} {fi fi1 fi2 fix ir ir2 : Nat → Int32} {P : Nat → Prop}
theorem kh_new {kd2 fl2 sv2 : Nat → Nat} {s : Nat} (Q : kh_XQ kd fl sv fix ir rg A w t rm im rx ob ot yo rc o s) (hG : kh_Ge cp ob ot yo) (hk : ¬ A k < 208) (k1 : 0 < k) (k2 : k < 97) (ho : o < 208)
    (e : ∀ j, A j < 208 → kd2 j = kd j ∧ fl2 j = fl j ∧ sv2 j = sv j ∧ ∀ i, i < fl j → fi2 (6 * j + i) = fix (6 * j + i) ∧ ir2 (6 * j + i) = ir (6 * j + i)) (hs : s = fl2 k + 1)
    (hw : ∀ a, a < o ∨ o + s ≤ a → w2 a = w a ∧ t2 a = t a) (hO : kh_Ob kd2 fl2 sv2 fi2 ir2 (kh_up A k o) w2 t2 o k) (hS : kh_RS rm2 im2 rc2) (m1 : ∀ b, im b ≠ 0 → im2 b ≠ 0)
    (m2 : ∀ b, b < 208 → im2 b ≠ 0 → im b ≠ 0 ∨ (¬ (96 ≤ o ∧ o < 112) ∧ ∃ i, i < fl2 k ∧ b = o + 1 + i)) (m3 : ∀ i q, i < fl2 k → kh_Rf fi2 ir2 (6 * k + i) q → 96 ≤ kh_up A k o q → kh_up A k o q < 112 → ¬ (96 ≤ o ∧ o < 112) → im2 (o + 1 + i) ≠ 0) :
    kh_XI kd2 fl2 sv2 fi2 ir2 rg (kh_up A k o) w2 t2 rm2 im2 rx ob ot yo rc2 := by
  obtain ⟨⟨p1, p2, p3, p4, q1, q2, q3, q4⟩, hR, _, hM⟩ := Q
  obtain ⟨g1, g2, g3, g4, g5⟩ := hG
  have ne : ∀ j, A j < 208 → j ≠ k := fun j hj z => by subst z; exact hk hj
  have up : ∀ j, A j < 208 → kh_up A k o j = A j := fun j hj => kh_up_n (ne j hj)
  have pl : ∀ j, kh_up A k o j < 208 → j = k ∨ (A j < 208 ∧ j ≠ k) := by
    intro j hj
    by_cases z : j = k
    · exact Or.inl z
    · rw [kh_up_n z] at hj; exact Or.inr ⟨hj, z⟩
  have bo : ∀ o' s', kh_BO fl A o' s' → kh_BO fl2 (kh_up A k o) o' s' := by
    rintro o' s' ⟨j, j1, j2, j3⟩
    exact ⟨j, by rw [up j j1]; exact j1, by rw [up j j1]; exact j2, by rw [(e j j1).2.1]; exact j3⟩
  have bk : ∀ o' s', (o' < o ∨ o + s ≤ o') → (o + fl2 k < o' ∨ o' + s' ≤ o) → kh_Bk fl A w t o' s' → kh_Bk fl2 (kh_up A k o) w2 t2 o' s' := by
    rintro o' s' d1 d2 (hb | ⟨f1, f2, f3⟩)
    · exact Or.inl (bo o' s' hb)
    · have z := hw o' d1
      refine Or.inr ⟨z.2.trans f1, z.1.trans f2, fun j hj => ?_⟩
      rcases pl j hj with y | ⟨y, yn⟩
      · subst y; rw [kh_up_s]; exact d2
      · rw [up j y, (e j y).2.1]; exact f3 j y
  refine ⟨⟨fun j hj => ?_, fun j hj => ?_, fun j hj => ?_, fun i j hi hj hn => ?_, ?_, ?_⟩, fun r hr => kh_R1_up up (hR r hr), hS, fun a a1 a2 => ?_, fun j i q j1 j2 hi hr y1 y2 => ?_⟩
  · rcases pl j hj with y | ⟨y, yn⟩
    · subst y; exact ⟨k1, k2⟩
    · exact p1 j y
  · rcases pl j hj with y | ⟨y, yn⟩
    · subst y; rw [kh_up_s]; exact hO
    · rw [up j y]
      have d := q3 j y
      obtain ⟨e1, e2, e3, e4⟩ := e j y
      exact kh_Ob_fi (kh_Ob_copy (p' := A j) (w' := w2) (t' := t2) (p2 j y) up (fun x hx => hw (A j + x) (by omega))) e4 e1 e2 e3
  · rcases pl j hj with y | ⟨y, yn⟩
    · subst y
      rw [kh_up_s]
      rcases q4 with ⟨r1, r2, _⟩ | ⟨r1, r2, _⟩ <;> omega
    · rw [up j y, (e j y).2.1]; exact p3 j y
  · rcases pl i hi with y | ⟨y, yn⟩ <;> rcases pl j hj with x | ⟨x, xn⟩
    · omega
    · subst y
      have := q3 j x
      rw [kh_up_s, up j x, (e j x).2.1]; omega
    · subst x
      have := q3 i y
      rw [kh_up_s, up i y, (e i y).2.1]; omega
    · rw [up i y, up j x, (e i y).2.1, (e j x).2.1]
      exact p4 i j y x hn
  · rcases q4 with ⟨r1, r2, r3, r4⟩ | ⟨r1, r2, r3, r4, r5⟩
    · exact kh_Sg_mono (fun o' s' o1 o2 o3 hb => bk o' s' (by omega) (by omega) hb) r3
    · refine kh_Sg_app (kh_Sg_mono (fun o' s' o1 o2 o3 hb => bk o' s' (by omega) (by omega) hb) r3) (kh_Sg_cons (s := s) q2 (Or.inl ⟨k, by rw [kh_up_s]; exact ho, kh_up_s, hs⟩) (kh_Sg_mono (fun o' s' o1 o2 o3 hb => bk o' s' (by omega) (by omega) hb) r4))
  · rcases q4 with ⟨r1, r2, r3, r4⟩ | ⟨r1, r2, r3, r4, r5⟩
    · rw [← r2]
      exact kh_Sg_snoc (kh_Sg_mono (fun o' s' _ _ _ hb => bo o' s' hb) r4) q2 ⟨k, by rw [kh_up_s]; exact ho, kh_up_s, hs⟩
    · exact kh_Sg_mono (fun o' s' _ _ _ hb => bo o' s' hb) r5
  · rcases m2 a a1 a2 with z | ⟨z1, i, z2, z3⟩
    · obtain ⟨j, i, d1, d2, d3, d4⟩ := hM.1 a a1 z
      exact ⟨j, i, by rw [up j d1]; exact d1, by rw [up j d1]; exact d2, by rw [(e j d1).2.1]; exact d3, by rw [up j d1]; exact d4⟩
    · exact ⟨k, i, by rw [kh_up_s]; exact ho, by rw [kh_up_s]; exact z1, z2, by rw [kh_up_s]; exact z3⟩
  · rcases pl j j1 with y | ⟨y, yn⟩
    · subst y
      rw [kh_up_s] at j2 ⊢
      exact m3 i q hi hr y1 y2 j2
    · obtain ⟨e1, e2, e3, e4⟩ := e j y
      rw [up j y] at j2 ⊢
      rw [e2] at hi
      have hr' : kh_Rf fix ir (6 * j + i) q := ⟨by rw [← (e4 i hi).2]; exact hr.1, hr.2.1, hr.2.2.1, by rw [← (e4 i hi).1]; exact hr.2.2.2⟩
      have aq := (kh_Fw_ref ((p2 j y).2.2 i hi) hr').2.2
      rw [up q aq] at y1 y2
      exact m1 _ (hM.2 j i q y j2 hi hr' y1 y2)
theorem kh_RLnew {rc0 : Nat} (L : kh_RL cp nu po ob ot yo ex se rc0 w0 t0 rm0 im0 rx sv kd fl rg fi ir A0) (Q : kh_XQ kd fl sv fix ir rg A w t rm im rx' ob' ot' yo' rc o (f + 1)) (aP : ∀ k, A k < 208 → P k) (Pa : ∀ k, P k → kd k = 1 → A k < 208) (Pv : ∀ k, P k → 0 < k ∧ k < 97 ∧ 0 < sv k)
    (G : kh_Ge cp ob' ot' yo') (ny : yo' ≤ nu) (hx : ex' + (f + 1) ≤ cp) (ho : o < 208) (O : kh_YO P fl sv fix sv' fi1) (hew : kh_ew sv' fl = ex') (k1 : 0 < k) (k2 : k < 97) (kP : ¬ P k) (hf : f ≤ 6) (hkk : kk ≤ 2) (h2 : kk = 2 → f = 1 ∧ ir2 (6 * k) ≠ 0)
    (hfi : ∀ j, j < 6 * k ∨ 6 * k + 6 ≤ j → fi2 j = fi1 j ∧ ir2 j = ir j) (hw : ∀ a, a < o ∨ o + f < a → w2 a = w a ∧ t2 a = t a) (hw0 : w2 o = nI (se + 1)) (ht0 : t2 o = nI (8 * kk + f))
    (hF : ∀ i, i < f → kh_Fw fi2 ir2 (kh_up A k o) w2 t2 (o + 1 + i) (6 * k + i)) (hS : kh_RS rm2 im2 rc2) (m1 : ∀ b, im b ≠ 0 → im2 b ≠ 0)
    (m2 : ∀ b, b < 208 → im2 b ≠ 0 → im b ≠ 0 ∨ (¬ (96 ≤ o ∧ o < 112) ∧ ∃ i, i < f ∧ b = o + 1 + i)) (m3 : ∀ i q, i < f → kh_Rf fi2 ir2 (6 * k + i) q → 96 ≤ kh_up A k o q → kh_up A k o q < 112 → ¬ (96 ≤ o ∧ o < 112) → im2 (o + 1 + i) ≠ 0) :
    kh_RL cp nu po ob' ot' yo' (ex' + (f + 1)) (se + 1) rc2 w2 t2 rm2 im2 rx' (kh_up sv' k (se + 1)) (kh_up kd k kk) (kh_up fl k f) rg fi2 ir2 (kh_up A k o) := by
  obtain ⟨_, _, L1, L2, V, S1, S2, S3, E1, E2, N1, N2, P1⟩ := L
  have hk : ¬ A k < 208 := fun z => kP (aP k z)
  have ne : ∀ j, A j < 208 → j ≠ k := fun j hj z => by subst z; exact hk hj
  have fk : kh_up fl k f k = f := kh_up_s
  have sp : ∀ j, 0 < sv' j → P j := by
    intro j hj
    rcases Classical.em (P j) with c | c
    · exact c
    · rw [O.2.1 j c] at hj; omega
  refine ⟨G, kh_new Q G hk k1 k2 ho (fun j hj => ?_) (by rw [fk]) (fun a ha => hw a (by omega)) ⟨by rw [kh_up_s]; exact hw0, by rw [kh_up_s, kh_up_s]; exact ht0, fun i hi => hF i (by rw [fk] at hi; exact hi)⟩ hS m1 (by rw [fk]; exact m2) (by rw [fk]; exact m3), fun j hj => ?_, fun j j1 j2 j3 j4 => ?_, fun j => ?_, fun j => ?_, fun j hj => ?_, fun i j h0 hij => ?_, ?_, hx, N1, ny, P1⟩
  · have n := ne j hj
    refine ⟨kh_up_n n, kh_up_n n, by rw [kh_up_n n]; exact O.1 j (aP j hj), fun i hi => ?_⟩
    have v := (V j).2.1
    have z := hfi (6 * j + i) (by omega)
    exact ⟨z.1.trans (O.2.2 j i (aP j hj) hi), z.2⟩
  · by_cases z : j = k
    · rw [z, kh_up_s]; omega
    · rw [kh_up_n z] at hj ⊢
      rw [O.1 j (aP j hj)]; exact (Pv j (aP j hj)).2.2
  · by_cases z : j = k
    · rw [z, kh_up_s]; exact ho
    · rw [kh_up_n z] at j3 j4 ⊢
      exact Pa j (sp j j3) j4
  · by_cases z : j = k
    · subst z; rw [kh_up_s, kh_up_s]; exact ⟨hkk, hf, h2⟩
    · rw [kh_up_n z, kh_up_n z]
      have v := V j
      refine ⟨v.1, v.2.1, fun y => ⟨(v.2.2 y).1, ?_⟩⟩
      rw [(hfi (6 * j) (by omega)).2]; exact (v.2.2 y).2
  · by_cases z : j = k
    · rw [z, kh_up_s]; omega
    · rw [kh_up_n z]
      rcases Classical.em (P j) with c | c
      · rw [O.1 j c]; have := S1 j; omega
      · rw [O.2.1 j c]; omega
  · have z : j ≠ k := fun z => by subst z; exact hj ⟨k1, k2⟩
    rw [kh_up_n z]
    exact O.2.1 j (fun y => hj ⟨(Pv j y).1, (Pv j y).2.1⟩)
  · have le : ∀ j, sv' j ≤ se := by
      intro j
      rcases Classical.em (P j) with c | c
      · rw [O.1 j c]; exact S1 j
      · rw [O.2.1 j c]; omega
    by_cases zi : i = k <;> by_cases zj : j = k
    · omega
    · rw [zi, kh_up_s, kh_up_n zj] at hij
      have := le j; omega
    · rw [zj, kh_up_s, kh_up_n zi] at hij
      have := le i; omega
    · rw [kh_up_n zi] at h0 hij
      rw [kh_up_n zj] at hij
      have ci := sp i h0
      have cj := sp j (by omega)
      rw [O.1 i ci] at h0 hij
      rw [O.1 j cj] at hij
      exact S3 i j h0 hij
  · have x := kh_sm_pt (f := fun j => if kh_up sv' k (se + 1) j = 0 then 0 else kh_up fl k f j + 1) (g := fun j => if sv' j = 0 then 0 else fl j + 1) (n := 97) k2 (fun i _ hn => by simp only [kh_up_n hn])
    have zk : sv' k = 0 := O.2.1 k kP
    simp only [kh_up_s, zk, if_pos, if_neg (show ¬ se + 1 = 0 by omega)] at x
    rw [← hew]
    unfold kh_ew
    omega
theorem kh_RLreg (L : kh_RL cp nu po ob ot yo ex se rc w t rm im rx sv kd fl rg fi ir A) {r g : Nat} {x : Int32} (h : kh_R1 A g x) : kh_RL cp nu po ob ot yo ex se rc w t rm im (upd rx r x) sv kd fl (kh_up rg r g) fi ir A := by
  obtain ⟨G, ⟨H, hR, hS, hM⟩, L2⟩ := L
  refine ⟨G, ⟨H, fun r' hr' => ?_, hS, hM⟩, L2⟩
  by_cases z : r' = r
  · subst z; rw [kh_up_s, pk_us]; exact h
  · rw [kh_up_n z, pk_un z]; exact hR r' hr'
end
end
section
/-! i_Rel, and the small methods -/
def i_Rel (k : Nat) (u : SX) (v : SY) : Prop := ∃ (cp nu po ob ot yo ex se rc : Nat) (co fc dp : Int32) (w t mk fw sk rm im rx fn : Nat → Int32) (sv kd fl rg : Nat → Nat) (fi ir re : Nat → Int32) (A : Nat → Nat), u = (nI cp, nI nu, nI po, nI ob, nI ot, nI yo, nI ex, nI se, co, fc, nI rc, dp, w, t, mk, fw, sk, rm, im, rx, fn) ∧ v = (nI cp, nI se, co, fc, (fun z_ => nI (sv z_)), (fun z_ => nI (kd z_)), (fun z_ => nI (fl z_)), fi, ir, re, (fun z_ => nI (rg z_)), fn) ∧ kh_RL cp nu po ob ot yo ex se rc w t rm im rx sv kd fl rg fi ir A ∧ se ≤ 5 * k
theorem kh_el {P : SX → SY → Prop} {k : Nat} {u : SX} {v : SY} (h : ∀ (cp nu po ob ot yo ex se rc : Nat) (co fc dp : Int32) (w t mk fw sk rm im rx fn : Nat → Int32) (sv kd fl rg : Nat → Nat) (fi ir re : Nat → Int32) (A : Nat → Nat), kh_RL cp nu po ob ot yo ex se rc w t rm im rx sv kd fl rg fi ir A → se ≤ 5 * k → P (nI cp, nI nu, nI po, nI ob, nI ot, nI yo, nI ex, nI se, co, fc, nI rc, dp, w, t, mk, fw, sk, rm, im, rx, fn) (nI cp, nI se, co, fc, (fun z_ => nI (sv z_)), (fun z_ => nI (kd z_)), (fun z_ => nI (fl z_)), fi, ir, re, (fun z_ => nI (rg z_)), fn)) (I : i_Rel k u v) : P u v := by
  refine Exists.elim I fun cp I => ?_
  refine Exists.elim I fun nu I => ?_
  refine Exists.elim I fun po I => ?_
  refine Exists.elim I fun ob I => ?_
  refine Exists.elim I fun ot I => ?_
  refine Exists.elim I fun yo I => ?_
  refine Exists.elim I fun ex I => ?_
  refine Exists.elim I fun se I => ?_
  refine Exists.elim I fun rc I => ?_
  refine Exists.elim I fun co I => ?_
  refine Exists.elim I fun fc I => ?_
  refine Exists.elim I fun dp I => ?_
  refine Exists.elim I fun w I => ?_
  refine Exists.elim I fun t I => ?_
  refine Exists.elim I fun mk I => ?_
  refine Exists.elim I fun fw I => ?_
  refine Exists.elim I fun sk I => ?_
  refine Exists.elim I fun rm I => ?_
  refine Exists.elim I fun im I => ?_
  refine Exists.elim I fun rx I => ?_
  refine Exists.elim I fun fn I => ?_
  refine Exists.elim I fun sv I => ?_
  refine Exists.elim I fun kd I => ?_
  refine Exists.elim I fun fl I => ?_
  refine Exists.elim I fun rg I => ?_
  refine Exists.elim I fun fi I => ?_
  refine Exists.elim I fun ir I => ?_
  refine Exists.elim I fun re I => ?_
  refine Exists.elim I fun A I => ?_
  obtain ⟨hu, hv, L, s⟩ := I
  rw [hu, hv]
  exact h cp nu po ob ot yo ex se rc co fc dp w t mk fw sk rm im rx fn sv kd fl rg fi ir re A L s
section
variable {cp nu po ob ot yo ex se rc : Nat} {co fc dp : Int32} {w t mk fw sk rm im rx fn : Nat → Int32} {sv kd fl rg : Nat → Nat} {fi ir re : Nat → Int32} {A : Nat → Nat}
theorem kh_in {k : Nat} (L : kh_RL cp nu po ob ot yo ex se rc w t rm im rx sv kd fl rg fi ir A) (s : se ≤ 5 * k) : i_Rel k (nI cp, nI nu, nI po, nI ob, nI ot, nI yo, nI ex, nI se, co, fc, nI rc, dp, w, t, mk, fw, sk, rm, im, rx, fn) (nI cp, nI se, co, fc, (fun z_ => nI (sv z_)), (fun z_ => nI (kd z_)), (fun z_ => nI (fl z_)), fi, ir, re, (fun z_ => nI (rg z_)), fn) := ⟨cp, nu, po, ob, ot, yo, ex, se, rc, co, fc, dp, w, t, mk, fw, sk, rm, im, rx, fn, sv, kd, fl, rg, fi, ir, re, A, rfl, rfl, L, s⟩
end
theorem i_up {k : Nat} {u : SX} {v : SY} (h : i_Rel k u v) : i_Rel (k + 4) u v := by
  refine kh_el (P := fun u v => i_Rel (k + 4) u v) ?_ h
  intro cp nu po ob ot yo ex se rc co fc dp w t mk fw sk rm im rx fn sv kd fl rg fi ir re A L s
  exact kh_in L (by omega)
theorem kh_ybad {post : Int32 → Prop} {r : Int32} (h0 : ∀ n, n < 8 → r = nI n → post 0) (h1 : (∀ n, n < 8 → r ≠ nI n) → post 1) : wpY_bad post r := by
  rcases pk_ix r (n := 8) (by decide) with z | z | ⟨j, hj, rfl⟩
  · refine br_t z (h1 (fun n hn e => ?_))
    rw [e] at z
    exact nI_pos (by omega) z
  · have a : ¬ r < 0 := by
      rw [Int32.lt_iff_toInt_lt, show (0 : Int32).toInt = 0 from by decide]
      rw [Int32.le_iff_toInt_le, nI_toInt (by decide)] at z
      omega
    have b : ¬ r ≤ 7 := by
      rw [Int32.le_iff_toInt_le, show (7 : Int32).toInt = 7 from by decide]
      rw [Int32.le_iff_toInt_le, nI_toInt (by decide)] at z
      omega
    refine br_f a (br_f b (h1 (fun n hn e => ?_)))
    rw [e] at z
    exact nI_ge hn (by decide) z
  · exact br_f (nI_pos (by omega)) (pk_le j 7 (fun _ => h0 j hj rfl) (fun y => by omega))
/-! the constructors -/
theorem kh_in128 {post : SX → Prop} {cp nu po : Int32} {zf : Nat → Int32} (K : ∀ rx : Nat → Int32, (∀ r, r < 8 → rx r = -1) → post (cp, nu, po, 0, 0, 0, 0, 0, 0, 0, 0, 0, zf, zf, zf, zf, zf, zf, zf, rx, zf)) :
    ∀ (n x : Nat) (rx : Nat → Int32), 8 < n + x → x ≤ 8 → (∀ r, r < x → rx r = -1) → wX_init_128 post cp nu po 0 0 0 0 0 0 0 0 0 n (nI x) zf zf zf zf zf zf zf rx zf := by
  intro n
  induction n with
  | zero => intro x rx h1 h2; omega
  | succ n ih =>
    intro x rx h1 h2 h3
    rw [wX_init_128]
    refine pk_le 8 x (fun z => K rx (fun r hr => h3 r (by omega))) (fun z => ⟨vp_in_nI z (by decide), nm_r (e' := upd rx x (-1)) (by rw [kh_cl (by omega), kh_sm1]) (nm_r (nI_1 x) (ih (x + 1) _ (by omega) (by omega) (fun r hr => ?_)))⟩)
    by_cases e : r = x
    · subst e; exact pk_us
    · rw [pk_un e]; exact h3 r (by omega)
theorem kh_in106 {post : SX → Prop} {k1 : Int32} {c : Nat} (K : ∀ (nu po : Nat) (rx : Nat → Int32), nu ≤ 15 → po < 3 → (∀ r, r < 8 → rx r = -1) → post (nI c, nI nu, nI po, 0, 0, 0, 0, 0, 0, 0, 0, 0, (fun _ => 0), (fun _ => 0), (fun _ => 0), (fun _ => 0), (fun _ => 0), (fun _ => 0), (fun _ => 0), rx, (fun _ => 0))) :
    wX_init_106 post k1 (nI c) 0 0 0 0 0 0 0 0 0 0 0 0 (fun _ => 0) (fun _ => 0) (fun _ => 0) (fun _ => 0) (fun _ => 0) (fun _ => 0) (fun _ => 0) (fun _ => 0) (fun _ => 0) := by
  unfold wX_init_106
  obtain ⟨nu, n1, n2⟩ := pk_andE k1 (m := 15) 4 (by decide)
  have u := pk_ushr k1 4 4 (by decide)
  have lt := k1.toBitVec.isLt
  have e : (k1.toUInt32 >>> ((4 : Int32).toUInt32 &&& Int32.toUInt32 31)).toInt32 = nI (k1.toBitVec.toNat / 2 ^ 4) := by
    apply Int32.toBitVec_inj.mp
    apply BitVec.eq_of_toNat_eq
    rw [u, pk_tn (by omega)]
  refine nm_r n2 ⟨by decide, ?_⟩
  rw [e]
  have e3 : nI (k1.toBitVec.toNat / 2 ^ 4) - nI (k1.toBitVec.toNat / 2 ^ 4) / 3 * 3 = nI (k1.toBitVec.toNat / 2 ^ 4 % 3) := pk_rem (d := 3) (by omega) (by decide) (by decide)
  refine nm_r e3 ⟨9, ?_⟩
  exact kh_in128 (fun rx hr => K nu (k1.toBitVec.toNat / 2 ^ 4 % 3) rx (by omega) (Nat.mod_lt _ (by decide)) hr) 9 0 (fun _ => 0) (by omega) (by omega) (fun r hr => by omega)
theorem kh_RL0 {c nu po : Nat} {rx : Nat → Int32} (hc : c ≤ 96) (hn : nu ≤ 15) (hp : po < 3) (hr : ∀ r, r < 8 → rx r = -1) : kh_RL c nu po 0 0 0 0 0 0 (fun _ => 0) (fun _ => 0) (fun _ => 0) (fun _ => 0) rx (fun _ => 0) (fun _ => 0) (fun _ => 0) (fun _ => 0) (fun _ => 0) (fun _ => 0) (fun _ => 208) := by
  have no : ∀ {q : Prop} (k : Nat), (fun _ => 208 : Nat → Nat) k < 208 → q := fun k h => absurd (show (208 : Nat) < 208 from h) (by omega)
  have G : kh_Ge c 0 0 0 := ⟨hc, Or.inl rfl, Nat.le_refl _, Nat.zero_le _, by omega⟩
  refine ⟨G, kh_XI_of G ⟨fun k h => no k h, fun k h => no k h, fun k h => no k h, fun k j h => no k h, kh_Sg_nil, kh_Sg_nil⟩ (fun r r1 => Or.inl ⟨rfl, hr r r1⟩) (fun _ _ => rfl), fun k h => no k h, fun k _ _ h => absurd (show (0 : Nat) < 0 from h) (by omega), fun k => ⟨Nat.zero_le _, Nat.zero_le _, fun h => absurd (show (0 : Nat) = 2 from h) (by omega)⟩, fun _ => Nat.le_refl _, fun _ _ => rfl, fun k j h => absurd (show (0 : Nat) < 0 from h) (by omega), ?_, Nat.zero_le _, hn, Nat.zero_le _, hp⟩
  exact (kh_sm_0 (fun i _ => if_pos rfl)).symm
theorem i_vc0 (k0 : Int32) (k1 : Int32) : wpX_init (fun u => wpY_init (fun v => i_Rel 2 u v) k0 k1) k0 k1 := by
  have fin : ∀ (c nu po : Nat) (rx : Nat → Int32), c ≤ 96 → nu ≤ 15 → po < 3 → (∀ r, r < 8 → rx r = -1) → i_Rel 2 (nI c, nI nu, nI po, 0, 0, 0, 0, 0, 0, 0, 0, 0, (fun _ => 0), (fun _ => 0), (fun _ => 0), (fun _ => 0), (fun _ => 0), (fun _ => 0), (fun _ => 0), rx, (fun _ => 0)) (nI c, 0, 0, 0, (fun _ => 0), (fun _ => 0), (fun _ => 0), (fun _ => 0), (fun _ => 0), (fun _ => 0), (fun _ => 0), (fun _ => 0)) := by
    intro c nu po rx a b c' d
    exact kh_in (k := 2) (mk := fun _ => 0) (fw := fun _ => 0) (sk := fun _ => 0) (fn := fun _ => 0) (re := fun _ => 0) (co := 0) (fc := 0) (dp := 0) (kh_RL0 a b c' d) (Nat.zero_le _)
  by_cases h16 : (16 : Int32) ≤ k0
  · by_cases h96 : k0 ≤ 96
    · have h0 : ¬ k0 < 0 := by
        rw [Int32.lt_iff_toInt_lt, show (0 : Int32).toInt = 0 from by decide]
        rw [Int32.le_iff_toInt_le, show (16 : Int32).toInt = 16 from by decide] at h16
        omega
      obtain ⟨c, c1, rfl⟩ := nI_of2 (n := 96) (show (96 : Int32).toInt = (96 : Nat) from by decide) h0 h96
      exact br_t h16 (br_t h96 (kh_in106 (fun nu po rx a b d => br_t h16 (br_t h96 (fin c nu po rx c1 a b d)))))
    · exact br_t h16 (br_f h96 (kh_in106 (c := 96) (fun nu po rx a b d => br_t h16 (br_f h96 (fin 96 nu po rx (by omega) a b d)))))
  · exact br_f h16 (kh_in106 (c := 16) (fun nu po rx a b d => br_f h16 (fin 16 nu po rx (by omega) a b d)))
end
section
/-! the methods that read -/
theorem kh_ybad0 {post : Int32 → Prop} {n : Nat} (hn : n < 8) (h : post 0) : wpY_bad post (nI n) := kh_ybad (fun _ _ _ => h) (fun q => absurd rfl (q n hn))
theorem kh_ybad1 {post : Int32 → Prop} {r : Int32} (hn : ∀ n, n < 8 → r ≠ nI n) (h : post 1) : wpY_bad post r := kh_ybad (fun n h1 h2 => absurd h2 (hn n h1)) (fun _ => h)
theorem i_vc_serial {k : Nat} {u : SX} {v : SY} (I : i_Rel k u v) (hk : k + 4 ≤ 2050) (v1 : Int32) : wpX_serial (fun r => wpY_serial (fun r' => r' = r ∧ i_Rel (k + 4) u v) v v1) u v1 := by
  refine kh_el (P := fun u v => wpX_serial (fun r => wpY_serial (fun r' => r' = r ∧ i_Rel (k + 4) u v) v v1) u v1) ?_ I
  intro cp nu po ob ot yo ex se rc co fc dp w t mk fw sk rm im rx fn sv kd fl rg fi ir re A L s
  have J : i_Rel (k + 4) (nI cp, nI nu, nI po, nI ob, nI ot, nI yo, nI ex, nI se, co, fc, nI rc, dp, w, t, mk, fw, sk, rm, im, rx, fn) (nI cp, nI se, co, fc, (fun z_ => nI (sv z_)), (fun z_ => nI (kd z_)), (fun z_ => nI (fl z_)), fi, ir, re, (fun z_ => nI (rg z_)), fn) := kh_in L (by omega)
  obtain ⟨G, ⟨⟨p1, p2, p3, p4, p5, p6⟩, hR, hS, hM⟩, L1, L2, V, S1, S2, S3, E1, E2, N1, N2, P1⟩ := L
  unfold wpX_serial
  refine kh_isReg (fun n hn e => ?_) (fun hn => ?_)
  · subst e
    refine br_f kh_10 ⟨vp_in_nI hn (by decide), ?_⟩
    rw [kh_cl (show n < 208 by omega)]
    rcases hR n hn with ⟨g, x⟩ | ⟨g, x, y⟩
    · rw [x]
      refine br_f kh_0m1 ?_
      unfold wpY_serial
      refine kh_ybad0 hn (br_t rfl ⟨vp_in_nI hn (by decide), nm_r (e' := nI (rg n)) (by rw [kh_cl (show n < 208 by omega)]) (br_t (by rw [g]; rfl) ⟨rfl, J⟩)⟩)
    · rw [y, kh_cl x, (p2 _ x).1]
      refine br_t (kh_n0 x) ⟨vp_in_nI hn (by decide), vp_in_nI x (by decide), ?_⟩
      unfold wpY_serial
      have r97 := (p1 _ x).2
      refine kh_ybad0 hn (br_t rfl ⟨vp_in_nI hn (by decide), nm_r (e' := nI (rg n)) (by rw [kh_cl (show n < 208 by omega)]) (br_f (nI_ne0 g (by omega)) ⟨vp_in_nI r97 (by decide), ?_, J⟩)⟩)
      rw [kh_cl (show rg n < 208 by omega)]
  · refine br_t rfl ?_
    unfold wpY_serial
    exact kh_ybad1 hn (br_f kh_10 ⟨rfl, J⟩)
theorem i_vc_shape {k : Nat} {u : SX} {v : SY} (I : i_Rel k u v) (hk : k + 4 ≤ 2050) (v1 : Int32) : wpX_shape (fun r => wpY_shape (fun r' => r' = r ∧ i_Rel (k + 4) u v) v v1) u v1 := by
  refine kh_el (P := fun u v => wpX_shape (fun r => wpY_shape (fun r' => r' = r ∧ i_Rel (k + 4) u v) v v1) u v1) ?_ I
  intro cp nu po ob ot yo ex se rc co fc dp w t mk fw sk rm im rx fn sv kd fl rg fi ir re A L s
  have J : i_Rel (k + 4) (nI cp, nI nu, nI po, nI ob, nI ot, nI yo, nI ex, nI se, co, fc, nI rc, dp, w, t, mk, fw, sk, rm, im, rx, fn) (nI cp, nI se, co, fc, (fun z_ => nI (sv z_)), (fun z_ => nI (kd z_)), (fun z_ => nI (fl z_)), fi, ir, re, (fun z_ => nI (rg z_)), fn) := kh_in L (by omega)
  obtain ⟨G, ⟨⟨p1, p2, p3, p4, p5, p6⟩, hR, hS, hM⟩, L1, L2, V, S1, S2, S3, E1, E2, N1, N2, P1⟩ := L
  unfold wpX_shape
  refine kh_isReg (fun n hn e => ?_) (fun hn => ?_)
  · subst e
    refine br_f kh_10 ⟨vp_in_nI hn (by decide), ?_⟩
    rw [kh_cl (show n < 208 by omega)]
    rcases hR n hn with ⟨g, x⟩ | ⟨g, x, y⟩
    · rw [x]
      refine br_f kh_0m1 ?_
      unfold wpY_shape
      refine kh_ybad0 hn (br_t rfl ⟨vp_in_nI hn (by decide), nm_r (e' := nI (rg n)) (by rw [kh_cl (show n < 208 by omega)]) (br_t (by rw [g]; rfl) ⟨rfl, J⟩)⟩)
    · rw [y, kh_cl x, (p2 _ x).2.1]
      refine br_t (kh_n0 x) ⟨vp_in_nI hn (by decide), vp_in_nI x (by decide), ?_⟩
      unfold wpY_shape
      have r97 := (p1 _ x).2
      refine kh_ybad0 hn (br_t rfl ⟨vp_in_nI hn (by decide), nm_r (e' := nI (rg n)) (by rw [kh_cl (show n < 208 by omega)]) (br_f (nI_ne0 g (by omega)) ⟨vp_in_nI r97 (by decide), vp_in_nI r97 (by decide), ?_, J⟩)⟩)
      rw [kh_cl (show rg n < 208 by omega)]
      have e8 : (8 : Int32) * nI (kd (rg n)) = nI (8 * kd (rg n)) := pk_mul 8 _
      rw [e8, nI_add]
  · refine br_t rfl ?_
    unfold wpY_shape
    exact kh_ybad1 hn (br_f kh_10 ⟨rfl, J⟩)
theorem i_vc_clear {k : Nat} {u : SX} {v : SY} (I : i_Rel k u v) (hk : k + 4 ≤ 2050) (v1 : Int32) : wpX_clear (fun r u' => wpY_clear (fun r' v' => r' = r ∧ i_Rel (k + 4) u' v') v v1) u v1 := by
  refine kh_el (P := fun u v => wpX_clear (fun r u' => wpY_clear (fun r' v' => r' = r ∧ i_Rel (k + 4) u' v') v v1) u v1) ?_ I
  intro cp nu po ob ot yo ex se rc co fc dp w t mk fw sk rm im rx fn sv kd fl rg fi ir re A L s
  have J : i_Rel (k + 4) (nI cp, nI nu, nI po, nI ob, nI ot, nI yo, nI ex, nI se, co, fc, nI rc, dp, w, t, mk, fw, sk, rm, im, rx, fn) (nI cp, nI se, co, fc, (fun z_ => nI (sv z_)), (fun z_ => nI (kd z_)), (fun z_ => nI (fl z_)), fi, ir, re, (fun z_ => nI (rg z_)), fn) := kh_in L (by omega)
  unfold wpX_clear
  refine kh_isReg (fun n hn e => ?_) (fun hn => ?_)
  · subst e
    refine br_f kh_10 ⟨vp_in_nI hn (by decide), nm_r (e' := upd rx n (-1)) (by rw [kh_cl (show n < 208 by omega), kh_sm1]) ?_⟩
    unfold wpY_clear
    refine kh_ybad0 hn (br_t rfl ⟨vp_in_nI hn (by decide), nm_r (e' := fun z_ => nI (kh_up rg n 0 z_)) (by rw [kh_cl (show n < 208 by omega)]; exact kh_upI rg n 0) ⟨rfl, ?_⟩⟩)
    exact kh_in (kh_RLreg L (Or.inl ⟨rfl, rfl⟩)) (by omega)
  · refine br_t rfl ?_
    unfold wpY_clear
    exact kh_ybad1 hn (br_f kh_10 ⟨rfl, J⟩)
theorem i_vc_copy {k : Nat} {u : SX} {v : SY} (I : i_Rel k u v) (hk : k + 4 ≤ 2050) (v1 : Int32) (v2 : Int32) : wpX_copy (fun r u' => wpY_copy (fun r' v' => r' = r ∧ i_Rel (k + 4) u' v') v v1 v2) u v1 v2 := by
  refine kh_el (P := fun u v => wpX_copy (fun r u' => wpY_copy (fun r' v' => r' = r ∧ i_Rel (k + 4) u' v') v v1 v2) u v1 v2) ?_ I
  intro cp nu po ob ot yo ex se rc co fc dp w t mk fw sk rm im rx fn sv kd fl rg fi ir re A L s
  have J : i_Rel (k + 4) (nI cp, nI nu, nI po, nI ob, nI ot, nI yo, nI ex, nI se, co, fc, nI rc, dp, w, t, mk, fw, sk, rm, im, rx, fn) (nI cp, nI se, co, fc, (fun z_ => nI (sv z_)), (fun z_ => nI (kd z_)), (fun z_ => nI (fl z_)), fi, ir, re, (fun z_ => nI (rg z_)), fn) := kh_in L (by omega)
  have L' := L
  obtain ⟨G, ⟨⟨p1, p2, p3, p4, p5, p6⟩, hR, hS, hM⟩, L1, L2, V, S1, S2, S3, E1, E2, N1, N2, P1⟩ := L
  unfold wpX_copy
  refine kh_isReg (fun n hn e => ?_) (fun hn => ?_)
  · subst e
    refine br_f kh_10 ?_
    refine kh_isReg (fun m hm e => ?_) (fun hm => ?_)
    · subst e
      refine br_f kh_10 ⟨vp_in_nI hm (by decide), ?_⟩
      rw [kh_cl (show m < 208 by omega)]
      rcases hR m hm with ⟨g, x⟩ | ⟨g, x, y⟩
      · rw [x]
        refine br_f kh_0m1 ?_
        unfold wpY_copy
        refine kh_ybad0 hn (br_t rfl (kh_ybad0 hm (br_t rfl ⟨vp_in_nI hm (by decide), br_t ?_ ⟨rfl, J⟩⟩)))
        rw [kh_cl (show m < 208 by omega)]
        show nI (rg m) = 0
        rw [g]; rfl
      · rw [y, kh_ns x, kh_cl (show n < 208 by omega)]
        refine br_t (kh_n0 x) ⟨vp_in_nI hm (by decide), vp_in_nI hn (by decide), nm_e ⟨vp_in_nI hn (by decide), ?_⟩⟩
        rw [pk_us, kh_cl x, (p2 _ x).1]
        refine ⟨vp_in_nI x (by decide), ?_⟩
        unfold wpY_copy
        have r97 := (p1 _ x).2
        refine kh_ybad0 hn (br_t rfl (kh_ybad0 hm (br_t rfl ⟨vp_in_nI hm (by decide), br_f ?_ ⟨vp_in_nI hm (by decide), vp_in_nI hn (by decide), nm_r (e' := fun z_ => nI (kh_up rg n (rg m) z_)) (by rw [kh_cl (show n < 208 by omega), kh_cl (show m < 208 by omega)]; exact kh_upI rg n (rg m)) ⟨vp_in_nI hn (by decide), ?_⟩⟩⟩)))
        · rw [kh_cl (show m < 208 by omega)]; exact nI_ne0 g (by omega)
        · rw [kh_cl (show n < 208 by omega)]
          dsimp only
          rw [kh_up_s, kh_cl (show rg m < 208 by omega)]
          exact ⟨vp_in_nI r97 (by decide), rfl, kh_in (kh_RLreg L' (Or.inr ⟨g, x, rfl⟩)) (by omega)⟩
    · refine br_t rfl ?_
      unfold wpY_copy
      exact kh_ybad0 hn (br_t rfl (kh_ybad1 hm (br_f kh_10 ⟨rfl, J⟩)))
  · refine br_t rfl ?_
    unfold wpY_copy
    exact kh_ybad1 hn (br_f kh_10 ⟨rfl, J⟩)
theorem i_vc_finalized {k : Nat} {u : SX} {v : SY} (I : i_Rel k u v) (hk : k + 4 ≤ 2050) (v1 : Int32) : wpX_finalized (fun r => wpY_finalized (fun r' => r' = r ∧ i_Rel (k + 4) u v) v v1) u v1 := by
  refine kh_el (P := fun u v => wpX_finalized (fun r => wpY_finalized (fun r' => r' = r ∧ i_Rel (k + 4) u v) v v1) u v1) ?_ I
  intro cp nu po ob ot yo ex se rc co fc dp w t mk fw sk rm im rx fn sv kd fl rg fi ir re A L s
  have J : i_Rel (k + 4) (nI cp, nI nu, nI po, nI ob, nI ot, nI yo, nI ex, nI se, co, fc, nI rc, dp, w, t, mk, fw, sk, rm, im, rx, fn) (nI cp, nI se, co, fc, (fun z_ => nI (sv z_)), (fun z_ => nI (kd z_)), (fun z_ => nI (fl z_)), fi, ir, re, (fun z_ => nI (rg z_)), fn) := kh_in L (by omega)
  unfold wpX_finalized wpY_finalized
  by_cases a : v1 < 0
  · exact br_t a (br_t a ⟨rfl, J⟩)
  · by_cases b : 15 < v1
    · exact br_f a (br_t b (br_f a (br_t b ⟨rfl, J⟩)))
    · by_cases c : v1 < fc
      · have i : vp_in (((fc - 1) - v1) &&& 15) 16 := pk_andIn _ 4 (by decide) (by decide)
        exact br_f a (br_f b (br_t c ⟨i, br_f a (br_f b (br_t c ⟨i, rfl, J⟩))⟩))
      · exact br_f a (br_f b (br_f c (br_f a (br_f b (br_f c ⟨rfl, J⟩)))))
section
variable {cp nu po ob ot yo ex se rc : Nat} {co fc dp : Int32} {w t mk fw sk rm im rx fn : Nat → Int32} {sv kd fl rg : Nat → Nat} {fi ir re : Nat → Int32} {A : Nat → Nat}
theorem kh_RL_hF (L : kh_RL cp nu po ob ot yo ex se rc w t rm im rx sv kd fl rg fi ir A) : (∀ k, (kh_Rch rg kd fl fi ir) k → kh_FV fl fi ir k) ∧ (∀ r, r < 8 → rg r < 97) ∧ (∀ k, (kh_Rch rg kd fl fi ir) k → 0 < k ∧ k < 97 ∧ 0 < sv k ∧ A k < 208) := by
  obtain ⟨G, ⟨⟨p1, p2, p3, p4, p5, p6⟩, hR, hS, hM⟩, L1, L2, V, S1, S2, S3, E1, E2, N1, N2, P1⟩ := L
  have rp : ∀ k, (kh_Rch rg kd fl fi ir) k → A k < 208 := fun k hk => kh_Rch_pl p2 hR hk
  refine ⟨fun k hk => kh_FV_pl (p2 k (rp k hk)), fun r hr => ?_, fun k hk => ⟨(p1 k (rp k hk)).1, (p1 k (rp k hk)).2, L1 k (rp k hk), rp k hk⟩⟩
  rcases hR r hr with ⟨y, _⟩ | ⟨_, y, _⟩
  · omega
  · exact (p1 _ y).2
end
theorem i_vc_count {k : Nat} {u : SX} {v : SY} (I : i_Rel k u v) (hk : k + 4 ≤ 2050) (v1 : Int32) : wpX_count (fun r u' => wpY_count (fun r' v' => r' = r ∧ i_Rel (k + 4) u' v') v v1) u v1 := by
  refine kh_el (P := fun u v => wpX_count (fun r u' => wpY_count (fun r' v' => r' = r ∧ i_Rel (k + 4) u' v') v v1) u v1) ?_ I
  intro cp nu po ob ot yo ex se rc co fc dp w t mk fw sk rm im rx fn sv kd fl rg fi ir re A L s
  have J : i_Rel (k + 4) (nI cp, nI nu, nI po, nI ob, nI ot, nI yo, nI ex, nI se, co, fc, nI rc, dp, w, t, mk, fw, sk, rm, im, rx, fn) (nI cp, nI se, co, fc, (fun z_ => nI (sv z_)), (fun z_ => nI (kd z_)), (fun z_ => nI (fl z_)), fi, ir, re, (fun z_ => nI (rg z_)), fn) := kh_in L (by omega)
  have L' := L
  obtain ⟨hF, hg, hP⟩ := kh_RL_hF L
  obtain ⟨G, ⟨⟨p1, p2, p3, p4, p5, p6⟩, hR, hS, hM⟩, L1, L2, V, S1, S2, S3, E1, E2, N1, N2, P1⟩ := L
  unfold wpX_count
  by_cases a : v1 < 0
  · refine br_t a ?_
    unfold wpY_count
    exact br_t a ⟨rfl, J⟩
  · by_cases b : 4 < v1
    · refine br_f a (br_t b ?_)
      unfold wpY_count
      exact br_f a (br_t b ⟨rfl, J⟩)
    · refine br_f a (br_f b ?_)
      by_cases c0 : v1 = 0
      · refine br_t c0 ?_
        unfold wpY_count
        refine br_f a (br_f b (br_t c0 ?_))
        refine kh_yew (S2 0 (by omega)) (fun k => by have := S1 k; omega) ?_
        exact ⟨by rw [E1], J⟩
      · refine br_f c0 ?_
        by_cases c1 : v1 = 1
        · refine br_t c1 ?_
          refine kh_mark (rg := rg) p1 p4 (fun k => ⟨(V k).1, (V k).2.1⟩) p2 (fun k hk => by have := p3 k hk; obtain ⟨g1, g2, g3, g4, g5⟩ := G; omega) hR (fun mk' sk' m1 m2 => ?_)
          unfold wpY_count
          refine br_f a (br_f b (br_f c0 (br_t c1 ?_)))
          refine kh_yreach (fun k => ⟨(V k).1, (V k).2.1⟩) hF hg (fun re' _ _ => ?_)
          exact ⟨rfl, kh_in L' (by omega)⟩
        · refine br_f c1 ?_
          by_cases c2 : v1 = 2
          · refine br_t c2 ?_
            unfold wpY_count
            exact br_f a (br_f b (br_f c0 (br_f c1 (br_t c2 ⟨rfl, J⟩))))
          · refine br_f c2 ?_
            by_cases c3 : v1 = 3
            · refine br_t c3 ?_
              unfold wpY_count
              exact br_f a (br_f b (br_f c0 (br_f c1 (br_f c2 (br_t c3 ⟨rfl, J⟩)))))
            · refine br_f c3 ?_
              by_cases c4 : v1 = 4
              · refine br_t c4 ?_
                unfold wpY_count
                exact br_f a (br_f b (br_f c0 (br_f c1 (br_f c2 (br_f c3 (br_t c4 ⟨rfl, J⟩))))))
              · exact br_f c4 trivial
end
section
/-! the methods on fields -/
section
variable {cp nu po ob ot yo ex se rc : Nat} {co fc dp : Int32} {w t mk fw sk rm im rx fn : Nat → Int32} {sv kd fl rg : Nat → Nat} {fi ir re : Nat → Int32} {A : Nat → Nat}
theorem kh_xword {post : Int32 → Prop} {b0 b1 : Int32} (L : kh_RL cp nu po ob ot yo ex se rc w t rm im rx sv kd fl rg fi ir A)
    (k1 : (∀ n, n < 8 → b0 ≠ nI n) → post (-1)) (k2 : ∀ r, r < 8 → b0 = nI r → rg r = 0 → post (-2)) (k3 : ∀ r, r < 8 → b0 = nI r → 0 < rg r → A (rg r) < 208 → (b1 < 0 ∨ (¬ b1 < 0 ∧ ¬ b1 < nI (fl (rg r)))) → post (-1))
    (k4 : ∀ r i, r < 8 → b0 = nI r → 0 < rg r → A (rg r) < 208 → i < fl (rg r) → b1 = nI i → post (nI (A (rg r) + 1 + i))) : wpX_word post (nI cp, nI nu, nI po, nI ob, nI ot, nI yo, nI ex, nI se, co, fc, nI rc, dp, w, t, mk, fw, sk, rm, im, rx, fn) b0 b1 := by
  obtain ⟨G, ⟨⟨p1, p2, p3, p4, p5, p6⟩, hR, hS, hM⟩, L1, L2, V, S1, S2, S3, E1, E2, N1, N2, P1⟩ := L
  unfold wpX_word
  refine kh_isReg (fun n hn e => ?_) (fun hn => br_t rfl (k1 hn))
  subst e
  refine br_f kh_10 ⟨vp_in_nI hn (by decide), nm_r (e' := rx n) (by rw [kh_cl (show n < 208 by omega)]) ?_⟩
  rcases hR n hn with ⟨g, x⟩ | ⟨g, x, y⟩
  · rw [x]; exact br_f kh_0m1 (k2 n hn rfl g)
  · rw [y]
    refine br_t (kh_n0 x) ?_
    have v := V (rg n)
    rcases pk_ix b1 (n := fl (rg n)) (by omega) with z | z | ⟨i, hi, rfl⟩
    · exact br_t z (k3 n hn rfl g x (Or.inl z))
    · have a : ¬ b1 < 0 := by
        rw [Int32.lt_iff_toInt_lt, show (0 : Int32).toInt = 0 from by decide]
        rw [Int32.le_iff_toInt_le, nI_toInt (by omega)] at z
        omega
      have b : ¬ b1 < nI (fl (rg n)) := by
        rw [Int32.lt_iff_toInt_lt]
        rw [Int32.le_iff_toInt_le] at z
        omega
      exact br_f a (kh_fields x (p2 _ x).2.1 v.1 v.2.1 (br_f b (k3 n hn rfl g x (Or.inr ⟨a, b⟩))))
    · refine br_f (nI_pos (by omega)) (kh_fields x (p2 _ x).2.1 v.1 v.2.1 (br_t (nI_lt hi (by omega)) ?_))
      rw [nI_1, nI_add]
      exact k4 n i hn rfl g x hi rfl
theorem kh_yc1 {post : Int32 → Prop} {p0 p1 : Int32} (h : ∀ n, n < 8 → p0 ≠ nI n) (k : post (-1)) : wpY_check post (nI cp, nI se, co, fc, (fun z_ => nI (sv z_)), (fun z_ => nI (kd z_)), (fun z_ => nI (fl z_)), fi, ir, re, (fun z_ => nI (rg z_)), fn) p0 p1 := by
  unfold wpY_check
  exact kh_ybad1 h (br_f kh_10 k)
theorem kh_yc2 {post : Int32 → Prop} {p1 : Int32} {r : Nat} (hr : r < 8) (g : rg r = 0) (k : post (-2)) : wpY_check post (nI cp, nI se, co, fc, (fun z_ => nI (sv z_)), (fun z_ => nI (kd z_)), (fun z_ => nI (fl z_)), fi, ir, re, (fun z_ => nI (rg z_)), fn) (nI r) p1 := by
  unfold wpY_check
  exact kh_ybad0 hr (br_t rfl ⟨vp_in_nI hr (by decide), nm_r (e' := nI (rg r)) (by rw [kh_cl (show r < 208 by omega)]) (br_t (by rw [g]; rfl) k)⟩)
theorem kh_yc3 {post : Int32 → Prop} {p1 : Int32} {r : Nat} (hr : r < 8) (g : 0 < rg r) (g2 : rg r < 97) (h : p1 < 0 ∨ (¬ p1 < 0 ∧ ¬ p1 < nI (fl (rg r)))) (k : post (-1)) : wpY_check post (nI cp, nI se, co, fc, (fun z_ => nI (sv z_)), (fun z_ => nI (kd z_)), (fun z_ => nI (fl z_)), fi, ir, re, (fun z_ => nI (rg z_)), fn) (nI r) p1 := by
  unfold wpY_check
  refine kh_ybad0 hr (br_t rfl ⟨vp_in_nI hr (by decide), nm_r (e' := nI (rg r)) (by rw [kh_cl (show r < 208 by omega)]) (br_f (nI_ne0 g (by omega)) ?_)⟩)
  rcases h with h | ⟨h1, h2⟩
  · exact br_t h k
  · refine br_f h1 ⟨vp_in_nI g2 (by decide), ?_⟩
    rw [kh_cl (show rg r < 208 by omega)]
    exact br_f h2 k
theorem kh_yc4 {post : Int32 → Prop} {r i : Nat} (hr : r < 8) (g : 0 < rg r) (g2 : rg r < 97) (hf : fl (rg r) ≤ 6) (hi : i < fl (rg r)) (k : post 0) : wpY_check post (nI cp, nI se, co, fc, (fun z_ => nI (sv z_)), (fun z_ => nI (kd z_)), (fun z_ => nI (fl z_)), fi, ir, re, (fun z_ => nI (rg z_)), fn) (nI r) (nI i) := by
  unfold wpY_check
  refine kh_ybad0 hr (br_t rfl ⟨vp_in_nI hr (by decide), nm_r (e' := nI (rg r)) (by rw [kh_cl (show r < 208 by omega)]) (br_f (nI_ne0 g (by omega)) (br_f (nI_pos (by omega)) ⟨vp_in_nI g2 (by decide), ?_⟩))⟩)
  rw [kh_cl (show rg r < 208 by omega)]
  exact br_t (nI_lt hi (by omega)) k
/-- a field is stored into -/
theorem kh_RLfld {g i : Nat} {x y : Int32} {w2 t2 rm2 im2 : Nat → Int32} {rc2 : Nat} (L : kh_RL cp nu po ob ot yo ex se rc w t rm im rx sv kd fl rg fi ir A) (hg : A g < 208) (hi : i < fl g) (h2 : kd g ≠ 2)
    (hw : ∀ b, b ≠ A g + 1 + i → w2 b = w b ∧ t2 b = t b) (hF : kh_Fw (upd fi (6 * g + i) x) (upd ir (6 * g + i) y) A w2 t2 (A g + 1 + i) (6 * g + i))
    (hS2 : kh_RS rm2 im2 rc2) (m1 : ∀ b, im b ≠ 0 → im2 b ≠ 0) (m2 : ∀ b, im2 b ≠ 0 → im b ≠ 0 ∨ (b = A g + 1 + i ∧ ¬ (96 ≤ A g + 1 + i ∧ A g + 1 + i < 112)))
    (m3 : ∀ q, kh_Rf (upd fi (6 * g + i) x) (upd ir (6 * g + i) y) (6 * g + i) q → 96 ≤ A q → A q < 112 → ¬ (96 ≤ A g + 1 + i ∧ A g + 1 + i < 112) → im2 (A g + 1 + i) ≠ 0) :
    kh_RL cp nu po ob ot yo ex se rc2 w2 t2 rm2 im2 rx sv kd fl rg (upd fi (6 * g + i) x) (upd ir (6 * g + i) y) A := by
  obtain ⟨G, ⟨⟨p1, p2, p3, p4, p5, p6⟩, hR, hS, hM⟩, L1, L2, V, S1, S2, S3, E1, E2, N1, N2, P1⟩ := L
  have G' := G
  obtain ⟨g1, g2, g3, g4, g5⟩ := G'
  have vg := V g
  have rgg := p3 g hg
  have sep : ∀ j i', j ≠ g → i' < 6 → 6 * j + i' ≠ 6 * g + i := fun j i' hj hi' => by omega
  refine ⟨G, ⟨⟨p1, fun j hj => ?_, p3, p4, ?_, p6⟩, hR, hS2, fun a a1 a2 => ?_, fun j i' q j1 j2 hi' hr y1 y2 => ?_⟩, L1, L2, fun j => ?_, S1, S2, S3, E1, E2, N1, N2, P1⟩
  · have v := V j
    by_cases e : j = g
    · subst e
      have O := p2 j hj
      refine ⟨by rw [(hw _ (by omega)).1]; exact O.1, by rw [(hw _ (by omega)).2]; exact O.2.1, fun i' hi' => ?_⟩
      by_cases e : i' = i
      · subst e; exact hF
      · exact kh_Fw_fi (kh_Fw_same (hw _ (by omega)).1 (hw _ (by omega)).2 (O.2.2 i' hi')) (pk_un (by omega)) (pk_un (by omega))
    · have d := p4 j g hj hg e
      refine kh_Ob_fi (kh_Ob_same (w' := w2) (t' := t2) (p2 j hj) (fun a a1 a2 => hw a (by omega))) (fun i' hi' => ⟨pk_un (sep j i' e (by omega)), pk_un (sep j i' e (by omega))⟩) rfl rfl rfl
  · refine kh_Sg_mono (fun o s o1 o2 o3 hb => ?_) p5
    rcases hb with hb | ⟨f1, f2, f3⟩
    · exact Or.inl hb
    · have d := f3 g hg
      have z := hw o (by omega)
      exact Or.inr ⟨z.2.trans f1, z.1.trans f2, f3⟩
  · rcases m2 a a2 with z | ⟨z1, z2⟩
    · exact hM.1 a a1 z
    · exact ⟨g, i, hg, by omega, hi, z1⟩
  · have v := V j
    by_cases e : j = g ∧ i' = i
    · obtain ⟨e1, e2⟩ := e
      subst e1 e2
      exact m3 q hr y1 y2 (by omega)
    · have n : 6 * j + i' ≠ 6 * g + i := by omega
      refine m1 _ (hM.2 j i' q j1 j2 hi' ⟨?_, hr.2.1, hr.2.2.1, ?_⟩ y1 y2)
      · have := hr.1; rw [pk_un n] at this; exact this
      · have := hr.2.2.2; rw [pk_un n] at this; exact this
  · have v := V j
    refine ⟨v.1, v.2.1, fun z => ⟨(v.2.2 z).1, ?_⟩⟩
    have e : j ≠ g := fun e => by subst e; exact h2 z
    rw [pk_un (by omega)]
    exact (v.2.2 z).2
end
theorem i_vc_put {k : Nat} {u : SX} {v : SY} (I : i_Rel k u v) (hk : k + 4 ≤ 2050) (v1 : Int32) (v2 : Int32) (v3 : Int32) : wpX_put (fun r u' => wpY_put (fun r' v' => r' = r ∧ i_Rel (k + 4) u' v') v v1 v2 v3) u v1 v2 v3 := by
  refine kh_el (P := fun u v => wpX_put (fun r u' => wpY_put (fun r' v' => r' = r ∧ i_Rel (k + 4) u' v') v v1 v2 v3) u v1 v2 v3) ?_ I
  intro cp nu po ob ot yo ex se rc co fc dp w t mk fw sk rm im rx fn sv kd fl rg fi ir re A L s
  have J : i_Rel (k + 4) (nI cp, nI nu, nI po, nI ob, nI ot, nI yo, nI ex, nI se, co, fc, nI rc, dp, w, t, mk, fw, sk, rm, im, rx, fn) (nI cp, nI se, co, fc, (fun z_ => nI (sv z_)), (fun z_ => nI (kd z_)), (fun z_ => nI (fl z_)), fi, ir, re, (fun z_ => nI (rg z_)), fn) := kh_in L (by omega)
  have L' := L
  obtain ⟨G, ⟨⟨p1, p2, p3, p4, p5, p6⟩, hR, hS, hM⟩, L1, L2, V, S1, S2, S3, E1, E2, N1, N2, P1⟩ := L
  unfold wpX_put
  refine kh_xword L' (fun h => br_f kh_0m1 ?_) (fun r hr e g => br_f (by decide) ?_) (fun r hr e g x h => br_f kh_0m1 ?_) (fun r i hr e g x hi e2 => ?_)
  · unfold wpY_put
    exact kh_yc1 h (br_f (by decide) ⟨rfl, J⟩)
  · subst e
    unfold wpY_put
    exact kh_yc2 hr g (br_f (by decide) ⟨rfl, J⟩)
  · subst e
    unfold wpY_put
    exact kh_yc3 hr g (p1 _ x).2 h (br_f (by decide) ⟨rfl, J⟩)
  · subst e e2
    obtain ⟨g1, g2, g3, g4, g5⟩ := G
    have g97 := (p1 _ x).2
    have vg := V (rg r)
    have e1 := p3 _ x
    have c : A (rg r) + 1 + i < 208 := by omega
    have y : rx r = nI (A (rg r)) := by
      rcases hR r hr with ⟨z, _⟩ | ⟨_, _, z⟩
      · omega
      · exact z
    refine br_t (kh_n0 c) ⟨vp_in_nI hr (by decide), ?_⟩
    rw [kh_cl (show r < 208 by omega), y]
    refine kh_kind x (p2 _ x).2.1 vg.1 vg.2.1 ?_
    have c6 : 6 * rg r + i < 582 := by omega
    have yput : ∀ (postY : Int32 → SY → Prop), (kd (rg r) = 2 → postY (-1) (nI cp, nI se, co, fc, (fun z_ => nI (sv z_)), (fun z_ => nI (kd z_)), (fun z_ => nI (fl z_)), fi, ir, re, (fun z_ => nI (rg z_)), fn)) → (kd (rg r) ≠ 2 → postY 0 (nI cp, nI se, co, fc, (fun z_ => nI (sv z_)), (fun z_ => nI (kd z_)), (fun z_ => nI (fl z_)), upd fi (6 * rg r + i) v3, upd ir (6 * rg r + i) 0, re, (fun z_ => nI (rg z_)), fn)) → wpY_put postY (nI cp, nI se, co, fc, (fun z_ => nI (sv z_)), (fun z_ => nI (kd z_)), (fun z_ => nI (fl z_)), fi, ir, re, (fun z_ => nI (rg z_)), fn) (nI r) (nI i) v3 := by
      intro postY a b
      unfold wpY_put
      refine kh_yc4 hr g g97 vg.2.1 hi (br_t rfl ⟨vp_in_nI hr (by decide), nm_r (e' := nI (rg r)) (by rw [kh_cl (show r < 208 by omega)]) ⟨vp_in_nI g97 (by decide), ?_⟩⟩)
      rw [kh_cl (show rg r < 208 by omega)]
      refine pk_eq (kd (rg r)) 2 (fun z => a z) (fun z => ?_) rfl rfl (by omega)
      have e6 : (6 : Int32) * nI (rg r) + nI i = nI (6 * rg r + i) := by
        have : (6 : Int32) * nI (rg r) = nI (6 * rg r) := pk_mul 6 _
        rw [this, nI_add]
      rw [e6, nI_clamp (by omega), kh_bo0]
      exact ⟨vp_in_nI c6 (by decide), nm_e ⟨vp_in_nI c6 (by decide), nm_e (b z)⟩⟩
    refine pk_eq (kd (rg r)) 2 (fun z => ?_) (fun z => ?_) rfl rfl (by omega)
    · exact yput _ (fun _ => ⟨rfl, J⟩) (fun q => absurd z q)
    · rw [kh_cl c, kh_by0]
      refine ⟨vp_in_nI c (by decide), nm_e ⟨vp_in_nI c (by decide), nm_e (yput _ (fun q => absurd q z) (fun _ => ⟨rfl, ?_⟩))⟩⟩
      refine kh_in (kh_RLfld L' x hi z (fun b hb => ⟨pk_un hb, pk_un hb⟩) (Or.inl ⟨pk_us, pk_us, by rw [pk_us, pk_us]⟩) hS (fun _ h => h) (fun _ h => Or.inl h) (fun q hq => ?_)) (by omega)
      have := hq.1
      rw [pk_us] at this
      exact absurd rfl this
theorem i_vc_link {k : Nat} {u : SX} {v : SY} (I : i_Rel k u v) (hk : k + 4 ≤ 2050) (v1 : Int32) (v2 : Int32) (v3 : Int32) : wpX_link (fun r u' => wpY_link (fun r' v' => r' = r ∧ i_Rel (k + 4) u' v') v v1 v2 v3) u v1 v2 v3 := by
  refine kh_el (P := fun u v => wpX_link (fun r u' => wpY_link (fun r' v' => r' = r ∧ i_Rel (k + 4) u' v') v v1 v2 v3) u v1 v2 v3) ?_ I
  intro cp nu po ob ot yo ex se rc co fc dp w t mk fw sk rm im rx fn sv kd fl rg fi ir re A L s
  have J : i_Rel (k + 4) (nI cp, nI nu, nI po, nI ob, nI ot, nI yo, nI ex, nI se, co, fc, nI rc, dp, w, t, mk, fw, sk, rm, im, rx, fn) (nI cp, nI se, co, fc, (fun z_ => nI (sv z_)), (fun z_ => nI (kd z_)), (fun z_ => nI (fl z_)), fi, ir, re, (fun z_ => nI (rg z_)), fn) := kh_in L (by omega)
  have L' := L
  obtain ⟨G, ⟨⟨p1, p2, p3, p4, p5, p6⟩, hR, hS, hM⟩, L1, L2, V, S1, S2, S3, E1, E2, N1, N2, P1⟩ := L
  unfold wpX_link
  refine kh_isReg (fun m hm em => ?_) (fun hm => ?_)
  rotate_left
  · refine br_t rfl ?_
    unfold wpY_link
    exact kh_ybad1 hm (br_f kh_10 ⟨rfl, J⟩)
  subst em
  refine br_f kh_10 ?_
  refine kh_xword L' (fun h => br_f kh_0m1 ?_) (fun r hr e g => br_f (by decide) ?_) (fun r hr e g x h => br_f kh_0m1 ?_) (fun r i hr e g x hi e2 => ?_)
  · unfold wpY_link
    exact kh_ybad0 hm (br_t rfl (kh_yc1 h (br_f (by decide) ⟨rfl, J⟩)))
  · subst e
    unfold wpY_link
    exact kh_ybad0 hm (br_t rfl (kh_yc2 hr g (br_f (by decide) ⟨rfl, J⟩)))
  · subst e
    unfold wpY_link
    exact kh_ybad0 hm (br_t rfl (kh_yc3 hr g (p1 _ x).2 h (br_f (by decide) ⟨rfl, J⟩)))
  · subst e e2
    obtain ⟨g1, g2, g3, g4, g5⟩ := G
    have g97 := (p1 _ x).2
    have vg := V (rg r)
    have e1 := p3 _ x
    have c : A (rg r) + 1 + i < 208 := by omega
    have y : rx r = nI (A (rg r)) := by
      rcases hR r hr with ⟨z, _⟩ | ⟨_, _, z⟩
      · omega
      · exact z
    refine br_t (kh_n0 c) ⟨vp_in_nI hr (by decide), ?_⟩
    rw [kh_cl (show r < 208 by omega), y]
    refine kh_kind x (p2 _ x).2.1 vg.1 vg.2.1 ?_
    have c6 : 6 * rg r + i < 582 := by omega
    have ylink : ∀ (postY : Int32 → SY → Prop), (kd (rg r) = 2 → postY (-1) (nI cp, nI se, co, fc, (fun z_ => nI (sv z_)), (fun z_ => nI (kd z_)), (fun z_ => nI (fl z_)), fi, ir, re, (fun z_ => nI (rg z_)), fn)) → (kd (rg r) ≠ 2 → postY 0 (nI cp, nI se, co, fc, (fun z_ => nI (sv z_)), (fun z_ => nI (kd z_)), (fun z_ => nI (fl z_)), upd fi (6 * rg r + i) (nI (rg m)), upd ir (6 * rg r + i) 1, re, (fun z_ => nI (rg z_)), fn)) → wpY_link postY (nI cp, nI se, co, fc, (fun z_ => nI (sv z_)), (fun z_ => nI (kd z_)), (fun z_ => nI (fl z_)), fi, ir, re, (fun z_ => nI (rg z_)), fn) (nI r) (nI i) (nI m) := by
      intro postY a b
      unfold wpY_link
      refine kh_ybad0 hm (br_t rfl (kh_yc4 hr g g97 vg.2.1 hi (br_t rfl ⟨vp_in_nI hr (by decide), nm_r (e' := nI (rg r)) (by rw [kh_cl (show r < 208 by omega)]) ⟨vp_in_nI g97 (by decide), ?_⟩⟩)))
      rw [kh_cl (show rg r < 208 by omega)]
      refine pk_eq (kd (rg r)) 2 (fun z => a z) (fun z => ?_) rfl rfl (by omega)
      have e6 : (6 : Int32) * nI (rg r) + nI i = nI (6 * rg r + i) := by
        have : (6 : Int32) * nI (rg r) = nI (6 * rg r) := pk_mul 6 _
        rw [this, nI_add]
      rw [e6, nI_clamp (show 6 * rg r + i < 2 ^ 31 by omega), kh_bo1, kh_cl (show m < 208 by omega)]
      exact ⟨vp_in_nI hm (by decide), vp_in_nI c6 (by decide), nm_e ⟨vp_in_nI c6 (by decide), nm_e (b z)⟩⟩
    refine pk_eq (kd (rg r)) 2 (fun z => ?_) (fun z => ?_) rfl rfl (by omega)
    · exact ylink _ (fun _ => ⟨rfl, J⟩) (fun q => absurd z q)
    · refine ⟨vp_in_nI hm (by decide), ?_⟩
      rw [kh_cl (show m < 208 by omega)]
      rcases hR m hm with ⟨a1, a2⟩ | ⟨a1, a2, a3⟩
      · rw [a2]
        refine kh_srNull c (ylink _ (fun q => absurd q z) (fun _ => ⟨rfl, ?_⟩))
        refine kh_in (kh_RLfld L' x hi z (fun b hb => ⟨pk_un hb, pk_un hb⟩) (Or.inr (Or.inl ⟨by rw [pk_us]; exact kh_10, by rw [pk_us, a1]; rfl, pk_us⟩)) hS (fun _ h => h) (fun _ h => Or.inl h) (fun q hq => ?_)) (by omega)
        have := hq.2.2.2
        rw [pk_us, a1] at this
        exact absurd this.symm (nI_ne0 hq.2.1 (by have := hq.2.2.1; omega))
      · rw [a3]
        have m97 := (p1 _ a2).2
        refine kh_sr c a2 hS (fun rm2 im2 rc2 s1 s2 s3 s4 => ylink _ (fun q => absurd q z) (fun _ => ⟨rfl, ?_⟩))
        refine kh_in (kh_RLfld L' x hi z (fun b hb => ⟨pk_un hb, pk_un hb⟩) (Or.inr (Or.inr ⟨rg m, ⟨by rw [pk_us]; exact kh_10, a1, m97, pk_us⟩, pk_us, pk_us, a2⟩)) s1 s2 (fun b hb => ?_) (fun q hq y1 y2 y3 => ?_)) (by omega)
        · rcases s3 b hb with q | q
          · exact Or.inl q
          · exact Or.inr ⟨q.1, q.2.2.2⟩
        · have e := hq.2.2.2
          rw [pk_us] at e
          have eq := kh_inj (by omega) (by have := hq.2.2.1; omega) e
          subst eq
          exact s4 y1 y2 y3
end
section
theorem i_vc_load {k : Nat} {u : SX} {v : SY} (I : i_Rel k u v) (hk : k + 4 ≤ 2050) (v1 : Int32) (v2 : Int32) (v3 : Int32) : wpX_load (fun r u' => wpY_load (fun r' v' => r' = r ∧ i_Rel (k + 4) u' v') v v1 v2 v3) u v1 v2 v3 := by
  refine kh_el (P := fun u v => wpX_load (fun r u' => wpY_load (fun r' v' => r' = r ∧ i_Rel (k + 4) u' v') v v1 v2 v3) u v1 v2 v3) ?_ I
  intro cp nu po ob ot yo ex se rc co fc dp w t mk fw sk rm im rx fn sv kd fl rg fi ir re A L s
  have J : i_Rel (k + 4) (nI cp, nI nu, nI po, nI ob, nI ot, nI yo, nI ex, nI se, co, fc, nI rc, dp, w, t, mk, fw, sk, rm, im, rx, fn) (nI cp, nI se, co, fc, (fun z_ => nI (sv z_)), (fun z_ => nI (kd z_)), (fun z_ => nI (fl z_)), fi, ir, re, (fun z_ => nI (rg z_)), fn) := kh_in L (by omega)
  have L' := L
  obtain ⟨G, ⟨⟨p1, p2, p3, p4, p5, p6⟩, hR, hS, hM⟩, L1, L2, V, S1, S2, S3, E1, E2, N1, N2, P1⟩ := L
  unfold wpX_load
  refine kh_isReg (fun m hm em => ?_) (fun hm => ?_)
  rotate_left
  · refine br_t rfl ?_
    unfold wpY_load
    exact kh_ybad1 hm (br_f kh_10 ⟨rfl, J⟩)
  subst em
  refine br_f kh_10 ?_
  refine kh_xword L' (fun h => br_f kh_0m1 ?_) (fun r hr e g => br_f (by decide) ?_) (fun r hr e g x h => br_f kh_0m1 ?_) (fun r i hr e g x hi e2 => ?_)
  · unfold wpY_load
    exact kh_ybad0 hm (br_t rfl (kh_yc1 h (br_f (by decide) ⟨rfl, J⟩)))
  · subst e
    unfold wpY_load
    exact kh_ybad0 hm (br_t rfl (kh_yc2 hr g (br_f (by decide) ⟨rfl, J⟩)))
  · subst e
    unfold wpY_load
    exact kh_ybad0 hm (br_t rfl (kh_yc3 hr g (p1 _ x).2 h (br_f (by decide) ⟨rfl, J⟩)))
  · subst e e2
    obtain ⟨g1, g2, g3, g4, g5⟩ := G
    have g97 := (p1 _ x).2
    have vg := V (rg r)
    have e1 := p3 _ x
    have c : A (rg r) + 1 + i < 208 := by omega
    have c6 : 6 * rg r + i < 582 := by omega
    have yload : ∀ (postY : Int32 → SY → Prop), (ir (6 * rg r + i) = 0 → postY (-1) (nI cp, nI se, co, fc, (fun z_ => nI (sv z_)), (fun z_ => nI (kd z_)), (fun z_ => nI (fl z_)), fi, ir, re, (fun z_ => nI (rg z_)), fn)) → (∀ q, q < 97 → ir (6 * rg r + i) ≠ 0 → fi (6 * rg r + i) = nI q → postY 0 (nI cp, nI se, co, fc, (fun z_ => nI (sv z_)), (fun z_ => nI (kd z_)), (fun z_ => nI (fl z_)), fi, ir, re, (fun z_ => nI ((kh_up rg m q) z_)), fn)) → (ir (6 * rg r + i) ≠ 0 → ∃ q, q < 97 ∧ fi (6 * rg r + i) = nI q) → wpY_load postY (nI cp, nI se, co, fc, (fun z_ => nI (sv z_)), (fun z_ => nI (kd z_)), (fun z_ => nI (fl z_)), fi, ir, re, (fun z_ => nI (rg z_)), fn) (nI m) (nI r) (nI i) := by
      intro postY a b d
      unfold wpY_load
      have e6 : (6 : Int32) * nI (rg r) + nI i = nI (6 * rg r + i) := by
        have : (6 : Int32) * nI (rg r) = nI (6 * rg r) := pk_mul 6 _
        rw [this, nI_add]
      refine kh_ybad0 hm (br_t rfl (kh_yc4 hr g g97 vg.2.1 hi (br_t rfl ⟨vp_in_nI hr (by decide), nm_r (e' := nI (6 * rg r + i)) (by rw [kh_cl (show r < 208 by omega)]; exact e6) ⟨vp_in_nI c6 (by decide), ?_⟩⟩)))
      rw [nI_clamp (show 6 * rg r + i < 2 ^ 31 by omega)]
      refine br_c (fun z => a z) (fun z => ⟨vp_in_nI c6 (by decide), vp_in_nI hm (by decide), ?_⟩)
      obtain ⟨q, q1, q2⟩ := d z
      refine nm_r (e' := fun z_ => nI (kh_up rg m q z_)) (by rw [kh_cl (show m < 208 by omega), q2]; exact kh_upI rg m q) (b q q1 z q2)
    refine br_t (kh_n0 c) ⟨vp_in_nI c (by decide), ?_⟩
    rw [kh_cl c]
    rcases (p2 _ x).2.2 i hi with ⟨z1, z2, z3⟩ | ⟨z1, z2, z3⟩ | ⟨q, z1, z2, z3, z4⟩
    · rw [z2]
      exact br_t rfl (yload _ (fun _ => ⟨rfl, J⟩) (fun q _ y => absurd z1 y) (fun y => absurd z1 y))
    · refine br_f (by rw [z3]; decide) (kh_isRef c (fun y => ?_) (fun _ => br_t rfl ⟨vp_in_nI hm (by decide), nm_r (e' := upd rx m (-1)) ?_ (yload _ (fun y => absurd y z1) (fun q q1 _ q2 => ?_) (fun _ => ⟨0, by omega, z2⟩))⟩))
      · rw [z3] at y; exact absurd y (by decide)
      · rw [kh_cl (show m < 208 by omega)]
        exact congrArg _ (show vp_nar .short ((-1 : Int32).toInt16.toInt32) = -1 from by rw [vp_nar_short]; decide)
      · have e0 : q = 0 := kh_inj (b := 0) (by omega) (by omega) (q2.symm.trans z2)
        subst e0
        exact ⟨rfl, kh_in (kh_RLreg L' (Or.inl ⟨rfl, rfl⟩)) (by omega)⟩
    · refine br_f (by rw [z2]; decide) (kh_isRef c (fun y => ?_) (fun y => absurd z2 y))
      refine br_f kh_10 ⟨vp_in_nI c (by decide), vp_in_nI hm (by decide), nm_r (e' := upd rx m (nI (A q))) (by rw [kh_cl (show m < 208 by omega), z3, kh_ns2 z4]) (yload _ (fun y => absurd y z1.1) (fun q' q1 _ q2 => ?_) (fun _ => ⟨q, z1.2.2.1, z1.2.2.2⟩))⟩
      have e0 : q' = q := kh_inj (by omega) (by have := z1.2.2.1; omega) (q2.symm.trans z1.2.2.2)
      subst e0
      exact ⟨rfl, kh_in (kh_RLreg L' (Or.inr ⟨z1.2.1, z4, rfl⟩)) (by omega)⟩
theorem i_vc_read {k : Nat} {u : SX} {v : SY} (I : i_Rel k u v) (hk : k + 4 ≤ 2050) (v1 : Int32) (v2 : Int32) : wpX_read (fun r => wpY_read (fun r' => r' = r ∧ i_Rel (k + 4) u v) v v1 v2) u v1 v2 := by
  refine kh_el (P := fun u v => wpX_read (fun r => wpY_read (fun r' => r' = r ∧ i_Rel (k + 4) u v) v v1 v2) u v1 v2) ?_ I
  intro cp nu po ob ot yo ex se rc co fc dp w t mk fw sk rm im rx fn sv kd fl rg fi ir re A L s
  have J : i_Rel (k + 4) (nI cp, nI nu, nI po, nI ob, nI ot, nI yo, nI ex, nI se, co, fc, nI rc, dp, w, t, mk, fw, sk, rm, im, rx, fn) (nI cp, nI se, co, fc, (fun z_ => nI (sv z_)), (fun z_ => nI (kd z_)), (fun z_ => nI (fl z_)), fi, ir, re, (fun z_ => nI (rg z_)), fn) := kh_in L (by omega)
  have L' := L
  obtain ⟨G, ⟨⟨p1, p2, p3, p4, p5, p6⟩, hR, hS, hM⟩, L1, L2, V, S1, S2, S3, E1, E2, N1, N2, P1⟩ := L
  unfold wpX_read
  refine kh_xword L' (fun h => br_f kh_0m1 ?_) (fun r hr e g => br_f (by decide) ?_) (fun r hr e g x h => br_f kh_0m1 ?_) (fun r i hr e g x hi e2 => ?_)
  · unfold wpY_read
    exact kh_yc1 h (br_f (by decide) ⟨rfl, J⟩)
  · subst e
    unfold wpY_read
    exact kh_yc2 hr g (br_f (by decide) ⟨rfl, J⟩)
  · subst e
    unfold wpY_read
    exact kh_yc3 hr g (p1 _ x).2 h (br_f (by decide) ⟨rfl, J⟩)
  · subst e e2
    obtain ⟨g1, g2, g3, g4, g5⟩ := G
    have g97 := (p1 _ x).2
    have vg := V (rg r)
    have e1 := p3 _ x
    have c : A (rg r) + 1 + i < 208 := by omega
    have c6 : 6 * rg r + i < 582 := by omega
    have yread : ∀ (postY : Int64 → Prop), (ir (6 * rg r + i) = 0 → postY (fi (6 * rg r + i)).toInt64) → (ir (6 * rg r + i) ≠ 0 → fi (6 * rg r + i) = 0 → postY (-1000000000000)) → (∀ q, kh_Rf fi ir (6 * rg r + i) q → postY (1000000000000 + (nI (sv q)).toInt64)) → (ir (6 * rg r + i) ≠ 0 → fi (6 * rg r + i) ≠ 0 → ∃ q, kh_Rf fi ir (6 * rg r + i) q) → wpY_read postY (nI cp, nI se, co, fc, (fun z_ => nI (sv z_)), (fun z_ => nI (kd z_)), (fun z_ => nI (fl z_)), fi, ir, re, (fun z_ => nI (rg z_)), fn) (nI r) (nI i) := by
      intro postY a b d f
      unfold wpY_read
      have e6 : (6 : Int32) * nI (rg r) + nI i = nI (6 * rg r + i) := by
        have : (6 : Int32) * nI (rg r) = nI (6 * rg r) := pk_mul 6 _
        rw [this, nI_add]
      refine kh_yc4 hr g g97 vg.2.1 hi (br_t rfl ⟨vp_in_nI hr (by decide), nm_r (e' := nI (6 * rg r + i)) (by rw [kh_cl (show r < 208 by omega)]; exact e6) ⟨vp_in_nI c6 (by decide), ?_⟩⟩)
      rw [nI_clamp (show 6 * rg r + i < 2 ^ 31 by omega)]
      refine nm_e ⟨vp_in_nI c6 (by decide), br_c (fun z => a z) (fun z => br_c (fun z1 => b z z1) (fun z1 => ?_))⟩
      obtain ⟨q, q1⟩ := f z z1
      have q2 := q1.2.2.1
      have dq := d q q1
      rw [q1.2.2.2, kh_cl (show q < 208 by omega)]
      exact ⟨vp_in_nI q2 (by decide), dq⟩
    refine br_t (kh_n0 c) ⟨vp_in_nI c (by decide), ?_⟩
    rw [kh_cl c]
    rcases (p2 _ x).2.2 i hi with ⟨z1, z2, z3⟩ | ⟨z1, z2, z3⟩ | ⟨q, z1, z2, z3, z4⟩
    · refine nm_r z2 (br_t rfl ⟨vp_in_nI c (by decide), ?_⟩)
      rw [z3]
      exact yread _ (fun _ => ⟨rfl, J⟩) (fun y => absurd z1 y) (fun q hq => absurd z1 hq.1) (fun y => absurd z1 y)
    · refine nm_r z3 (br_f (by decide) (br_f (by decide) ?_))
      refine yread _ (fun y => absurd y z1) (fun _ _ => ⟨rfl, J⟩) (fun q hq => ?_) (fun _ y => absurd z2 y)
      exact absurd (hq.2.2.2.symm.trans z2) (nI_ne0 hq.2.1 (by have := hq.2.2.1; omega))
    · refine nm_r z2 (br_f (by decide) (br_t rfl ⟨vp_in_nI c (by decide), ?_⟩))
      rw [z3, kh_cl z4, (p2 q z4).1]
      refine ⟨vp_in_nI z4 (by decide), yread _ (fun y => absurd y z1.1) (fun _ y => ?_) (fun q' hq' => ?_) (fun _ _ => ⟨q, z1⟩)⟩
      · exact absurd (z1.2.2.2.symm.trans y) (nI_ne0 z1.2.1 (by have := z1.2.2.1; omega))
      · have e0 : q' = q := kh_inj (by have := hq'.2.2.1; omega) (by have := z1.2.2.1; omega) (hq'.2.2.2.symm.trans z1.2.2.2)
        subst e0
        exact ⟨rfl, J⟩
section
variable {cp nu po ob ot yo ex se rc : Nat} {co fc dp : Int32} {w t mk fw sk rm im rx fn : Nat → Int32} {sv kd fl rg : Nat → Nat} {fi ir re : Nat → Int32} {A : Nat → Nat}
/-- after a collection -/
theorem kh_RLfull {A' sv' : Nat → Nat} {fi' w' t' rm' im' rx' : Nat → Int32} {ob' ot' ex' : Nat} (L : kh_RL cp nu po ob ot yo ex se rc w t rm im rx sv kd fl rg fi ir A) (X' : kh_XI kd fl sv (kh_fiw (kh_Rch rg kd fl fi ir) kd fi) ir rg A' w' t' rm' im' rx' ob' ot' 0 0) (G' : kh_Ge cp ob' ot' 0) (r1 : ∀ k, (kh_Rch rg kd fl fi ir) k ↔ A' k < 208)
    (O : kh_YO (kh_Rch rg kd fl fi ir) fl sv (kh_fiw (kh_Rch rg kd fl fi ir) kd fi) sv' fi') (hew : kh_ew sv' fl = ex') (hx : ex' ≤ cp) : kh_RL cp nu po ob' ot' 0 ex' se 0 w' t' rm' im' rx' sv' kd fl rg fi' ir A' := by
  obtain ⟨hF, hg, hP⟩ := kh_RL_hF L
  obtain ⟨G, ⟨⟨p1, p2, p3, p4, p5, p6⟩, hR, hS, hM⟩, L1, L2, V, S1, S2, S3, E1, E2, N1, N2, P1⟩ := L
  obtain ⟨⟨q1, q2, q3, q4, q5, q6⟩, R', S', M'⟩ := X'
  have sp : ∀ j, 0 < sv' j → (kh_Rch rg kd fl fi ir) j := by
    intro j hj
    rcases Classical.em ((kh_Rch rg kd fl fi ir) j) with c | c
    · exact c
    · rw [O.2.1 j c] at hj; omega
  refine ⟨G', ⟨⟨q1, fun k hk => ?_, q3, q4, q5, q6⟩, R', S', M'.1, fun k i q k1 k2 hi hr y1 y2 => ?_⟩, fun k hk => ?_, fun k _ _ k3 _ => (r1 k).mp (sp k k3), V, fun k => ?_, fun k hk => ?_, fun i j h0 hij => ?_, hew.symm, hx, N1, by omega, P1⟩
  · have rk := (r1 k).mpr hk
    exact kh_Ob_fi (q2 k hk) (fun i hi => ⟨O.2.2 k i rk hi, rfl⟩) rfl rfl (O.1 k rk)
  · have rk := (r1 k).mpr k1
    exact M'.2 k i q k1 k2 hi ⟨hr.1, hr.2.1, hr.2.2.1, by rw [← O.2.2 k i rk hi]; exact hr.2.2.2⟩ y1 y2
  · have rk := (r1 k).mpr hk
    rw [O.1 k rk]; exact (hP k rk).2.2.1
  · rcases Classical.em ((kh_Rch rg kd fl fi ir) k) with c | c
    · rw [O.1 k c]; exact S1 k
    · rw [O.2.1 k c]; omega
  · exact O.2.1 k (fun y => hk ⟨(hP k y).1, (hP k y).2.1⟩)
  · have ci := sp i h0
    have cj := sp j (by omega)
    rw [O.1 i ci] at h0 hij
    rw [O.1 j cj] at hij
    exact S3 i j h0 hij
end
theorem i_vc_collect {k : Nat} {u : SX} {v : SY} (I : i_Rel k u v) (hk : k + 4 ≤ 2050) : wpX_collect (fun r u' => wpY_collect (fun r' v' => r' = r ∧ i_Rel (k + 4) u' v') v) u := by
  refine kh_el (P := fun u v => wpX_collect (fun r u' => wpY_collect (fun r' v' => r' = r ∧ i_Rel (k + 4) u' v') v) u) ?_ I
  intro cp nu po ob ot yo ex se rc co fc dp w t mk fw sk rm im rx fn sv kd fl rg fi ir re A L s
  have L' := L
  obtain ⟨hF, hg, hP⟩ := kh_RL_hF L
  obtain ⟨G, ⟨⟨p1, p2, p3, p4, p5, p6⟩, hR, hS, hM⟩, L1, L2, V, S1, S2, S3, E1, E2, N1, N2, P1⟩ := L
  have X : kh_XI kd fl sv fi ir rg A w t rm im rx ob ot yo rc := L'.2.1
  have pe := kh_pw_ew (fl := fl) L1
  unfold wpX_collect
  refine kh_major (rg := rg) (se' := se) G P1 V X (fun k hk => ⟨L1 k hk, S1 k⟩) (by omega) L2 (by omega) (fun A1 w1 t1 mk1 fw1 sk1 rm1 im1 rx1 ob1 ot1 dp1 H1 R1 r1 i1 G1 => ?_)
  refine kh_ycollect (se' := se) (by omega) V S1 S2 S3 hF hg (fun k hk => ⟨(hP k hk).1, (hP k hk).2.1⟩) (fun sv' fi' re' O _ => ⟨rfl, ?_⟩)
  have cw1 : kh_pw fl A1 = kh_cw (kh_Rch rg kd fl fi ir) fl := kh_cw_eq (fun k _ hk => if_pos ((r1 k).mp hk)) (fun k _ hk => if_neg (fun y => hk ((r1 k).mpr y)))
  have cw2 : kh_pw fl A1 ≤ kh_pw fl A := kh_pw_le (fun k hk => (hP k ((r1 k).mpr hk)).2.2.2)
  exact kh_in (kh_RLfull L' (kh_XI_of (rm := rm1) G1 H1 R1 i1) G1 r1 O (kh_YO_ew O (fun k hk => (hP k hk).2.2.1)) (by omega)) (by omega)
end
section
/-! make, weak -/
theorem kh_k01 (x : Int32) : (x &&& (-2)) = 0 ↔ ∃ n, n < 2 ∧ x = nI n := by
  constructor
  · intro h
    refine ⟨x.toBitVec.toNat, ?_, ?_⟩
    · have e : x.toBitVec &&& (-2 : Int32).toBitVec = 0#32 := by
        have := congrArg Int32.toBitVec h
        rw [Int32.toBitVec_and] at this
        exact this
      have e2 : (-2 : Int32).toBitVec = ~~~ 1#32 := by decide
      rw [e2] at e
      have e3 : x.toBitVec = x.toBitVec &&& 1#32 := by
        have : x.toBitVec = (x.toBitVec &&& ~~~ 1#32) ||| (x.toBitVec &&& 1#32) := by
          rw [← BitVec.and_or_distrib_left]
          have : ~~~ 1#32 ||| 1#32 = BitVec.allOnes 32 := by decide
          rw [this, BitVec.and_allOnes]
        rw [e, BitVec.zero_or] at this
        exact this
      rw [e3, BitVec.toNat_and]
      exact Nat.lt_of_le_of_lt Nat.and_le_right (by decide)
    · apply Int32.toBitVec_inj.mp
      apply BitVec.eq_of_toNat_eq
      rw [pk_tn x.toBitVec.isLt]
  · rintro ⟨n, hn, rfl⟩
    have : ∀ n, n < 2 → nI n &&& (-2) = 0 := by decide +kernel
    exact this n hn
theorem kh_shp : ∀ kk, kk < 2 → ∀ f, f < 7 → (nI kk <<< ((3 : Int32) &&& 31)) ||| nI f = nI (8 * kk + f) := by decide +kernel
theorem i_vc_make {k : Nat} {u : SX} {v : SY} (I : i_Rel k u v) (hk : k + 4 ≤ 2050) (v1 : Int32) (v2 : Int32) (v3 : Int32) : wpX_make (fun r u' => wpY_make (fun r' v' => r' = r ∧ i_Rel (k + 4) u' v') v v1 v2 v3) u v1 v2 v3 := by
  refine kh_el (P := fun u v => wpX_make (fun r u' => wpY_make (fun r' v' => r' = r ∧ i_Rel (k + 4) u' v') v v1 v2 v3) u v1 v2 v3) ?_ I
  intro cp nu po ob ot yo ex se rc co fc dp w t mk fw sk rm im rx fn sv kd fl rg fi ir re A L s
  have J : i_Rel (k + 4) (nI cp, nI nu, nI po, nI ob, nI ot, nI yo, nI ex, nI se, co, fc, nI rc, dp, w, t, mk, fw, sk, rm, im, rx, fn) (nI cp, nI se, co, fc, (fun z_ => nI (sv z_)), (fun z_ => nI (kd z_)), (fun z_ => nI (fl z_)), fi, ir, re, (fun z_ => nI (rg z_)), fn) := kh_in L (by omega)
  unfold wpX_make
  refine kh_isReg (fun m hm em => ?_) (fun hm => ?_)
  rotate_left
  · refine br_t rfl ?_
    unfold wpY_make
    exact kh_ybad1 hm (br_f kh_10 ⟨rfl, J⟩)
  subst em
  refine br_f kh_10 ?_
  by_cases a : v2 < 0
  · refine br_t a ?_
    unfold wpY_make
    exact kh_ybad0 hm (br_t rfl (br_t a ⟨rfl, J⟩))
  refine br_f a ?_
  by_cases b : 6 < v2
  · refine br_t b ?_
    unfold wpY_make
    exact kh_ybad0 hm (br_t rfl (br_f a (br_t b ⟨rfl, J⟩)))
  refine br_f b ?_
  obtain ⟨f, hf, rfl⟩ := nI_of2 (M := 6) (n := 6) (show (6 : Int32).toInt = (6 : Nat) from by decide) a (Int32.not_lt.mp b)
  by_cases c : (v3 &&& (-2)) = 0
  rotate_left
  · refine br_f c ?_
    unfold wpY_make
    refine kh_ybad0 hm (br_t rfl (br_f a (br_f b ?_)))
    rcases pk_ix v3 (n := 2) (by decide) with z | z | ⟨j, hj, e⟩
    · exact br_t z ⟨rfl, J⟩
    · have z0 : ¬ v3 < 0 := by
        rw [Int32.lt_iff_toInt_lt, show (0 : Int32).toInt = 0 from by decide]
        rw [Int32.le_iff_toInt_le, nI_toInt (by decide)] at z
        omega
      have z1 : ¬ v3 ≤ 1 := by
        rw [Int32.le_iff_toInt_le, show (1 : Int32).toInt = 1 from by decide]
        rw [Int32.le_iff_toInt_le, nI_toInt (by decide)] at z
        omega
      exact br_f z0 (br_f z1 ⟨rfl, J⟩)
    · exact absurd ((kh_k01 v3).mpr ⟨j, hj, e⟩) c
  refine br_t c ?_
  obtain ⟨kk, hkk, rfl⟩ := (kh_k01 v3).mp c
  rw [nI_1]
  refine kh_allocY (kk := kk) hf (by omega) L (fun A1 w1 t1 mk1 fw1 sk1 rm1 im1 rx1 ob1 ot1 dp1 co1 fc1 fn1 ex1 X1 G1 r1 x1 HY => ?_) (fun P fix fiy A1 w1 t1 mk1 fw1 sk1 rm1 im1 rx1 ob1 ot1 yo1 rc1 dp1 co1 fc1 fn1 ex1 o Q aP Pa Pv G1 y1 x1 o1 _ _ HY => ?_)
  · refine br_f kh_0m1 ?_
    unfold wpY_make
    refine kh_ybad0 hm (br_t rfl (br_f a (br_f b (br_f (nI_pos (by omega)) (br_t (nI_le (b := 1) (by omega) (by decide)) ?_)))))
    refine HY re _ (fun sv' fi' re' O ew => br_t rfl ⟨rfl, ?_⟩)
    exact kh_in (kh_RLfull L X1 G1 r1 O ew x1) (by omega)
  · have os := Q.1.2.2.2.2.1
    refine br_t (kh_n0 o1) ?_
    rw [kh_shp kk hkk f (by omega)]
    refine kh_start (by omega) (by omega) hf (fun w2 t2 m1 mo1 mo2 mf => ?_)
    refine ⟨vp_in_nI hm (by decide), nm_r (e' := upd rx1 m (nI o)) (by rw [kh_cl (show m < 208 by omega), kh_ns2 o1]) ?_⟩
    unfold wpY_make
    refine kh_ybad0 hm (br_t rfl (br_f a (br_f b (br_f (nI_pos (by omega)) (br_t (nI_le (b := 1) (by omega) (by decide)) ?_)))))
    refine HY re _ (fun sv' fi1 re' g fi' ir' O _ ew g1 g2 gP _ f1 f2 => ?_)
    refine br_f (nI_ne0 g1 (by omega)) ⟨vp_in_nI hm (by decide), nm_r (e' := fun z_ => nI (kh_up rg m g z_)) (by rw [kh_cl (show m < 208 by omega)]; exact kh_upI rg m g) ⟨vp_in_nI g2 (by decide), ?_, ?_⟩⟩
    · rw [kh_cl (show g < 208 by omega)]
      show nI (kh_up sv' g (se + 1) g) = nI (se + 1)
      rw [kh_up_s]
    · have LN := kh_RLnew (k := g) (kk := kk) (ir2 := ir') (fi2 := fi') (w2 := w2) (t2 := t2) (rm2 := rm1) (im2 := im1) (rc2 := rc1) L Q aP Pa Pv G1 y1 x1 o1 O ew g1 g2 gP hf (by omega) (fun z => by omega) f1 m1 mo1 mo2 (fun i hi => ?_) Q.2.2.1 (fun _ h => h) (fun b _ hb => Or.inl hb) (fun i q hi hr => ?_)
      · exact kh_in (kh_RLreg LN (r := m) (g := g) (x := nI o) (Or.inr ⟨g1, by rw [kh_up_s]; exact o1, by rw [kh_up_s]⟩)) (by omega)
      · have z1 := f2 i (by omega)
        have z2 := mf i hi
        exact Or.inl ⟨z1.2, z2.2, by rw [z2.1, z1.1]⟩
      · exact absurd (f2 i (by omega)).2 hr.1
theorem i_vc_weak {k : Nat} {u : SX} {v : SY} (I : i_Rel k u v) (hk : k + 4 ≤ 2050) (v1 : Int32) (v2 : Int32) : wpX_weak (fun r u' => wpY_weak (fun r' v' => r' = r ∧ i_Rel (k + 4) u' v') v v1 v2) u v1 v2 := by
  refine kh_el (P := fun u v => wpX_weak (fun r u' => wpY_weak (fun r' v' => r' = r ∧ i_Rel (k + 4) u' v') v v1 v2) u v1 v2) ?_ I
  intro cp nu po ob ot yo ex se rc co fc dp w t mk fw sk rm im rx fn sv kd fl rg fi ir re A L s
  have J : i_Rel (k + 4) (nI cp, nI nu, nI po, nI ob, nI ot, nI yo, nI ex, nI se, co, fc, nI rc, dp, w, t, mk, fw, sk, rm, im, rx, fn) (nI cp, nI se, co, fc, (fun z_ => nI (sv z_)), (fun z_ => nI (kd z_)), (fun z_ => nI (fl z_)), fi, ir, re, (fun z_ => nI (rg z_)), fn) := kh_in L (by omega)
  unfold wpX_weak
  refine kh_isReg (fun m hm em => ?_) (fun hm => ?_)
  rotate_left
  · refine br_t rfl ?_
    unfold wpY_weak
    exact kh_ybad1 hm (br_f kh_10 ⟨rfl, J⟩)
  subst em
  refine br_f kh_10 ?_
  refine kh_isReg (fun p hp ep => ?_) (fun hp => ?_)
  rotate_left
  · refine br_t rfl ?_
    unfold wpY_weak
    exact kh_ybad0 hm (br_t rfl (kh_ybad1 hp (br_f kh_10 ⟨rfl, J⟩)))
  subst ep
  refine br_f kh_10 ?_
  refine kh_allocY (f := 1) (kk := 2) (by omega) (by omega) L (fun A1 w1 t1 mk1 fw1 sk1 rm1 im1 rx1 ob1 ot1 dp1 co1 fc1 fn1 ex1 X1 G1 r1 x1 HY => ?_) (fun P fix fiy A1 w1 t1 mk1 fw1 sk1 rm1 im1 rx1 ob1 ot1 yo1 rc1 dp1 co1 fc1 fn1 ex1 o Q aP Pa Pv G1 y1 x1 o1 _ _ HY => ?_)
  · refine br_f kh_0m1 ?_
    unfold wpY_weak
    refine kh_ybad0 hm (br_t rfl (kh_ybad0 hp (br_t rfl ?_)))
    refine HY re _ (fun sv' fi' re' O ew => br_t rfl ⟨rfl, ?_⟩)
    exact kh_in (kh_RLfull L X1 G1 r1 O ew x1) (by omega)
  · have os := Q.1.2.2.2.2.1
    have hR1 := Q.2.1
    have hS1 := Q.2.2.1
    refine br_t (kh_n0 o1) ?_
    refine kh_start (k := 2) (f := 1) (by omega) (by omega) (by omega) (fun w2 t2 m1 mo1 mo2 mf => ?_)
    refine ⟨vp_in_nI hp (by decide), ?_⟩
    rw [kh_cl (show p < 208 by omega), nI_1 o]
    have c1 : o + 1 < 208 := by omega
    /- the common end -/
    have fin : ∀ (w3 t3 rm3 im3 : Nat → Int32) (rc3 : Nat), (∀ b, b ≠ o + 1 → w3 b = w2 b ∧ t3 b = t2 b) → ((rg p = 0 ∧ t3 (o + 1) = 2) ∨ (0 < rg p ∧ A1 (rg p) < 208 ∧ t3 (o + 1) = 1 ∧ w3 (o + 1) = nI (A1 (rg p)))) → kh_RS rm3 im3 rc3 → (∀ b, im1 b ≠ 0 → im3 b ≠ 0) → (∀ b, im3 b ≠ 0 → im1 b ≠ 0 ∨ (b = o + 1 ∧ ¬ (96 ≤ o + 1 ∧ o + 1 < 112))) → (0 < rg p → 96 ≤ A1 (rg p) → A1 (rg p) < 112 → ¬ (96 ≤ o + 1 ∧ o + 1 < 112) → im3 (o + 1) ≠ 0) →
        wpY_weak (fun r' v' => r' = nI (se + 1) ∧ i_Rel (k + 4) (nI cp, nI nu, nI po, nI ob1, nI ot1, nI yo1, nI (ex1 + (1 + 1)), nI (se + 1), co1, fc1, nI rc3, dp1, w3, t3, mk1, fw1, sk1, rm3, im3, upd rx1 m (nI o), fn1) v') (nI cp, nI se, co, fc, (fun z_ => nI (sv z_)), (fun z_ => nI (kd z_)), (fun z_ => nI (fl z_)), fi, ir, re, (fun z_ => nI (rg z_)), fn) (nI m) (nI p) := by
      intro w3 t3 rm3 im3 rc3 h1 h2 h3 h4 h5 h6
      have G1' := G1
      obtain ⟨g1', g2', g3', g4', g5'⟩ := G1'
      have yold : (96 ≤ o ∧ o < 112) ↔ (96 ≤ o + 1 ∧ o + 1 < 112) := by
        rcases Q.1.2.2.2.2.2.2.2 with ⟨z1, z2, _⟩ | ⟨z1, z2, _⟩ <;> omega
      unfold wpY_weak
      refine kh_ybad0 hm (br_t rfl (kh_ybad0 hp (br_t rfl ?_)))
      refine HY re _ (fun sv' fi1 re' g fi' ir' O _ ew g1 g2 gP _ f1 f2 => ?_)
      have c6 : 6 * g < 582 := by omega
      have e6 : (6 : Int32) * nI g = nI (6 * g) := pk_mul 6 g
      have gA : ¬ A1 g < 208 := fun z => gP (aP g z)
      rw [e6, nI_clamp (show 6 * g < 2 ^ 31 by omega), kh_bo1]
      refine br_f (nI_ne0 g1 (by omega)) ⟨vp_in_nI c6 (by decide), nm_e ⟨vp_in_nI hp (by decide), vp_in_nI c6 (by decide), nm_r (e' := upd fi' (6 * g) (nI (rg p))) (by rw [kh_cl (show p < 208 by omega)]) ⟨vp_in_nI hm (by decide), nm_r (e' := fun z_ => nI (kh_up rg m g z_)) (by rw [kh_cl (show m < 208 by omega)]; exact kh_upI rg m g) ⟨vp_in_nI g2 (by decide), ?_, ?_⟩⟩⟩⟩
      · rw [kh_cl (show g < 208 by omega)]
        show nI (kh_up sv' g (se + 1) g) = nI (se + 1)
        rw [kh_up_s]
      · have LN := kh_RLnew (k := g) (kk := 2) (f := 1) (ir2 := upd ir' (6 * g) 1) (fi2 := upd fi' (6 * g) (nI (rg p))) (w2 := w3) (t2 := t3) (rm2 := rm3) (im2 := im3) (rc2 := rc3) L Q aP Pa Pv G1 y1 x1 o1 O ew g1 g2 gP (by omega) (by omega) (fun _ => ⟨rfl, by rw [pk_us]; exact kh_10⟩) (fun j hj => by rw [pk_un (by omega), pk_un (by omega)]; exact f1 j hj) (fun a ha => ?_) ?_ ?_ (fun i hi => ?_) h3 h4 (fun b _ hb => ?_) (fun i q hi hr z1 z2 z3 => ?_)
        · exact kh_in (kh_RLreg LN (r := m) (g := g) (x := nI o) (Or.inr ⟨g1, by rw [kh_up_s]; exact o1, by rw [kh_up_s]⟩)) (by omega)
        · have z1 := h1 a (by omega)
          have z2 := m1 a ha
          exact ⟨z1.1.trans z2.1, z1.2.trans z2.2⟩
        · rw [(h1 o (by omega)).1]; exact mo1
        · rw [(h1 o (by omega)).2]; exact mo2
        · have i0 : i = 0 := by omega
          subst i0
          show kh_Fw _ _ _ w3 t3 (o + 1) (6 * g)
          rcases h2 with ⟨z1, z2⟩ | ⟨z1, z2, z3, z4⟩
          · exact Or.inr (Or.inl ⟨by rw [pk_us]; exact kh_10, by rw [pk_us, z1]; rfl, z2⟩)
          · have r97 := (Q.1.1 _ z2).2
            have ne : rg p ≠ g := fun z => by rw [z] at z2; exact gA z2
            exact Or.inr (Or.inr ⟨rg p, ⟨by rw [pk_us]; exact kh_10, z1, r97, pk_us⟩, z3, by rw [kh_up_n ne]; exact z4, by rw [kh_up_n ne]; exact z2⟩)
        · rcases h5 b hb with z | ⟨z1, z2⟩
          · exact Or.inl z
          · exact Or.inr ⟨fun y => z2 (yold.mp y), 0, by omega, z1⟩
        · have i0 : i = 0 := by omega
          subst i0
          have e := hr.2.2.2
          rw [Nat.add_zero, pk_us] at e
          rcases h2 with ⟨w1', _⟩ | ⟨w1', w2', _, _⟩
          · rw [w1'] at e
            exact absurd e.symm (nI_ne0 hr.2.1 (by have := hr.2.2.1; omega))
          · have r97 := (Q.1.1 _ w2').2
            have eq := kh_inj (by omega) (by have := hr.2.2.1; omega) e
            subst eq
            have ne : rg p ≠ g := fun z => by rw [z] at w2'; exact gA w2'
            rw [kh_up_n ne] at z1 z2
            exact h6 w1' z1 z2 (fun y => z3 (yold.mpr y))
    rcases hR1 p hp with ⟨a1, a2⟩ | ⟨a1, a2, a3⟩
    · rw [a2]
      refine kh_srNull c1 ⟨vp_in_nI hm (by decide), nm_r (e' := upd rx1 m (nI o)) (by rw [kh_cl (show m < 208 by omega), kh_ns2 o1]) ?_⟩
      exact fin (upd w2 (o + 1) 0) (upd t2 (o + 1) 2) rm1 im1 rc1 (fun b hb => ⟨pk_un hb, pk_un hb⟩) (Or.inl ⟨a1, pk_us⟩) hS1 (fun _ h => h) (fun _ h => Or.inl h) (fun z => by omega)
    · rw [a3]
      refine kh_sr c1 a2 hS1 (fun rm3 im3 rc3 s1 s2 s3 s4 => ⟨vp_in_nI hm (by decide), nm_r (e' := upd rx1 m (nI o)) (by rw [kh_cl (show m < 208 by omega), kh_ns2 o1]) ?_⟩)
      exact fin (upd w2 (o + 1) (nI (A1 (rg p)))) (upd t2 (o + 1) 1) rm3 im3 rc3 (fun b hb => ⟨pk_un hb, pk_un hb⟩) (Or.inr ⟨a1, a2, pk_us, pk_us⟩) s1 s2 (fun b hb => by
        rcases s3 b hb with z | z
        · exact Or.inl z
        · exact Or.inr ⟨z.1, z.2.2.2⟩) (fun _ z1 z2 z3 => s4 z1 z2 z3)
end
section
/-! list -/
noncomputable def kh_svC (P : Nat → Prop) (sv : Nat → Nat) (g : Nat) : Nat := kh_ci (P g) (sv g)
def kh_zb (h : Nat → Int32) (g i : Nat) : Int32 := if 6 * g ≤ i ∧ i < 6 * g + 6 then 0 else h i
theorem kh_svC_YO {P : Nat → Prop} {fl sv : Nat → Nat} {fix fiy : Nat → Int32} (h : ∀ k i, P k → i < fl k → fiy (6 * k + i) = fix (6 * k + i)) : kh_YO P fl sv fix (kh_svC P sv) fiy :=
  ⟨fun _ hk => kh_ci_t hk, fun _ hk => kh_ci_f hk, h⟩
theorem kh_svC_eq {P : Nat → Prop} {fl sv sv' : Nat → Nat} {fix fi' : Nat → Int32} (O : kh_YO P fl sv fix sv' fi') : sv' = kh_svC P sv := by
  funext k
  rcases Classical.em (P k) with c | c
  · rw [O.1 k c]; exact (kh_ci_t c).symm
  · rw [O.2.1 k c]; exact (kh_ci_f c).symm
theorem kh_zb_eq {h h' : Nat → Int32} {g : Nat} (h1 : ∀ j, j < 6 * g ∨ 6 * g + 6 ≤ j → h' j = h j) (h2 : ∀ i, i < 6 → h' (6 * g + i) = 0) : h' = kh_zb h g := by
  funext j
  unfold kh_zb
  by_cases c : 6 * g ≤ j ∧ j < 6 * g + 6
  · rw [if_pos c]
    have e : j = 6 * g + (j - 6 * g) := by omega
    rw [e]; exact h2 _ (by omega)
  · rw [if_neg c]; exact h1 j (by omega)
theorem kh_least {P : Nat → Prop} {fl sv : Nat → Nat} {fix fiy : Nat → Int32} {ex : Nat} (O : kh_YO P fl sv fix (kh_svC P sv) fiy) (hv : ∀ k, P k → 0 < k ∧ k < 97 ∧ 0 < sv k) (hx : kh_cw P fl = ex) (hl : ex < 96) : ∃ g, 0 < g ∧ g < 97 ∧ ¬ P g ∧ kh_svC P sv g = 0 ∧ ∀ j, 0 < j → j < g → kh_svC P sv j ≠ 0 := by
  have n97 : kh_svC P sv 97 = 0 := kh_ci_f (fun z => by have := hv 97 z; omega)
  obtain ⟨g, ⟨g1, g2⟩, g3⟩ := pk_least (fun g => 0 < g ∧ kh_svC P sv g = 0) ⟨97, by omega, n97⟩
  have ls : ∀ j, 0 < j → j < g → kh_svC P sv j ≠ 0 := fun j j1 j2 z => g3 j j2 ⟨j1, z⟩
  have ew := kh_YO_ew O (fun k hk => (hv k hk).2.2)
  refine ⟨g, g1, ?_, fun z => ?_, g2, ls⟩
  · by_cases c : (97 : Nat) ≤ g
    · have := kh_ew_ge (fl := fl) ls 97 (by omega)
      rw [if_pos c] at this
      have h : kh_ew (kh_svC P sv) fl + 1 ≥ 97 := this
      omega
    · omega
  · have : kh_svC P sv g = sv g := kh_ci_t z
    have := (hv g z).2.2
    omega
theorem kh_listLoop {k r c cp nu po : Nat} {st : Int32} {Y0 : SY} (hk : k + 4 ≤ 2050) (hr : r < 8) (hc : c ≤ 20) :
    ∀ (d j ob ot yo ex se rc : Nat) (co fc dp : Int32) (w t mk fw sk rm im rx fn : Nat → Int32) (sv kd fl rg : Nat → Nat) (fi ir : Nat → Int32) (A : Nat → Nat), d + j = c → kh_RL cp nu po ob ot yo ex se rc w t rm im rx sv kd fl rg fi ir A → se ≤ 5 * k + j →
      (∀ postY : Int32 → SY → Prop, (∀ (re : Nat → Int32) (m : Nat), c < m + j → wY_list_22 postY (nI r) (nI c) st m (nI j) (nI cp) (nI se) co fc (fun z_ => nI (sv z_)) (fun z_ => nI (kd z_)) (fun z_ => nI (fl z_)) fi ir re (fun z_ => nI (rg z_)) fn) → wpY_list postY Y0 (nI r) (nI c) st) →
      ∀ n, d + 1 < n → wX_list_25 (fun r' u' => wpY_list (fun r'' v' => r'' = r' ∧ i_Rel (k + 4) u' v') Y0 (nI r) (nI c) st) (nI r) (nI c) st n (nI j) 1 (nI cp) (nI nu) (nI po) (nI ob) (nI ot) (nI yo) (nI ex) (nI se) co fc (nI rc) dp w t mk fw sk rm im rx fn := by
  intro d
  induction d with
  | zero =>
    intro j ob ot yo ex se rc co fc dp w t mk fw sk rm im rx fn sv kd fl rg fi ir A hj L s HY n hn
    cases n with
    | zero => omega
    | succ n =>
      rw [wX_list_25]
      refine br_t (nI_le (by omega) (by omega)) (HY _ (fun re m hm => ?_))
      cases m with
      | zero => omega
      | succ m =>
        rw [wY_list_22]
        have e : c = j := by omega
        refine br_t (nI_le (by omega) (by omega)) ⟨by rw [e], kh_in L (by omega)⟩
  | succ d ih =>
    intro j ob ot yo ex se rc co fc dp w t mk fw sk rm im rx fn sv kd fl rg fi ir A hj L s HY n hn
    cases n with
    | zero => omega
    | succ n =>
      rw [wX_list_25]
      refine br_f (nI_ge (by omega) (by omega)) (br_f kh_10 ?_)
      refine kh_allocY (f := 2) (kk := 0) (by omega) (by omega) L (fun A1 w1 t1 mk1 fw1 sk1 rm1 im1 rx1 ob1 ot1 dp1 co1 fc1 fn1 ex1 X1 G1 r1 x1 HF => ?_) (fun P fix fiy A1 w1 t1 mk1 fw1 sk1 rm1 im1 rx1 ob1 ot1 yo1 rc1 dp1 co1 fc1 fn1 ex1 o Q aP Pa Pv G1 y1 x1 o1 hcw hfy HC => ?_)
      · refine br_t kh_m10 (br_t rfl ?_)
        cases n with
        | zero => omega
        | succ n =>
          rw [wX_list_25]
          refine br_f (nI_ge (by omega) (by omega)) (br_t rfl (HY _ (fun re m hm => ?_)))
          cases m with
          | zero => omega
          | succ m =>
            rw [wY_list_22]
            refine br_f (nI_ge (by omega) (by omega)) (HF re _ (fun sv' fi' re' O ew => br_t rfl ⟨rfl, ?_⟩))
            exact kh_in (kh_RLfull L X1 G1 r1 O ew x1) (by omega)
      · have os := Q.1.2.2.2.2.1
        have hR1 := Q.2.1
        have hS1 := Q.2.2.1
        refine br_f (kh_nn0 o1) (br_f kh_10 ?_)
        refine kh_start (k := 0) (f := 2) (by omega) (by omega) (by omega) (fun w2 t2 m1 mo1 mo2 mf => ?_)
        have c1 : o + 1 < 208 := by omega
        have c2 : o + 2 < 208 := by omega
        have e2 : nI o + (2 : Int32) = nI (o + 2) := nI_add o 2
        rw [nI_1 o, kh_cl c1, e2, kh_cl (show r < 208 by omega)]
        refine ⟨vp_in_nI c1 (by decide), nm_e ⟨vp_in_nI hr (by decide), ?_⟩⟩
        /- the common end -/
        have fin : ∀ (w4 t4 rm4 im4 : Nat → Int32) (rc4 : Nat), (∀ b, b ≠ o + 1 → b ≠ o + 2 → w4 b = w2 b ∧ t4 b = t2 b) → w4 (o + 1) = st + nI j → t4 (o + 1) = 0 → ((rg r = 0 ∧ t4 (o + 2) = 2) ∨ (0 < rg r ∧ A1 (rg r) < 208 ∧ t4 (o + 2) = 1 ∧ w4 (o + 2) = nI (A1 (rg r)))) → kh_RS rm4 im4 rc4 → (∀ b, im1 b ≠ 0 → im4 b ≠ 0) → (∀ b, im4 b ≠ 0 → im1 b ≠ 0 ∨ (b = o + 2 ∧ ¬ (96 ≤ o + 2 ∧ o + 2 < 112))) → (0 < rg r → 96 ≤ A1 (rg r) → A1 (rg r) < 112 → ¬ (96 ≤ o + 2 ∧ o + 2 < 112) → im4 (o + 2) ≠ 0) →
            wX_list_25 (fun r' u' => wpY_list (fun r'' v' => r'' = r' ∧ i_Rel (k + 4) u' v') Y0 (nI r) (nI c) st) (nI r) (nI c) st n (nI (j + 1)) 1 (nI cp) (nI nu) (nI po) (nI ob1) (nI ot1) (nI yo1) (nI (ex1 + (2 + 1))) (nI (se + 1)) co1 fc1 (nI rc4) dp1 w4 t4 mk1 fw1 sk1 rm4 im4 (upd rx1 r (nI o)) fn1 := by
          intro w4 t4 rm4 im4 rc4 h1 ha hb h2 h3 h4 h5 h6
          have G1' := G1
          obtain ⟨g1', g2', g3', g4', g5'⟩ := G1'
          have yold : (96 ≤ o ∧ o < 112) ↔ (96 ≤ o + 2 ∧ o + 2 < 112) := by
            rcases Q.1.2.2.2.2.2.2.2 with ⟨z1, z2, _⟩ | ⟨z1, z2, _⟩ <;> omega
          have O := kh_svC_YO (sv := sv) hfy
          obtain ⟨g, g1, g2, gP, gz, gl⟩ := kh_least O Pv hcw (by omega)
          have gA : ¬ A1 g < 208 := fun z => gP (aP g z)
          have ew := (kh_YO_ew O (fun k hk => (Pv k hk).2.2)).trans hcw
          have zi : ∀ (h : Nat → Int32) i, i < 6 → kh_zb h g (6 * g + i) = 0 := fun h i hi => if_pos (by omega)
          have zo : ∀ (h : Nat → Int32) i, i < 6 * g ∨ 6 * g + 6 ≤ i → kh_zb h g i = h i := fun h i hi => if_neg (by omega)
          have LN := kh_RLnew (k := g) (kk := 0) (f := 2) (ir2 := upd (kh_zb ir g) (6 * g + 1) 1) (fi2 := upd (upd (kh_zb fiy g) (6 * g) (st + nI j)) (6 * g + 1) (nI (rg r))) (w2 := w4) (t2 := t4) (rm2 := rm4) (im2 := im4) (rc2 := rc4) L Q aP Pa Pv G1 y1 x1 o1 O ew g1 g2 gP (by omega) (by omega) (fun z => by omega) (fun i hi => ?_) (fun a ha' => ?_) ?_ ?_ (fun i hi => ?_) h3 h4 (fun b _ hb' => ?_) (fun i q hi hr' z1 z2 z3 => ?_)
          · refine ih (j + 1) ob1 ot1 yo1 (ex1 + (2 + 1)) (se + 1) rc4 co1 fc1 dp1 w4 t4 mk1 fw1 sk1 rm4 im4 (upd rx1 r (nI o)) fn1 (kh_up (kh_svC P sv) g (se + 1)) (kh_up kd g 0) (kh_up fl g 2) (kh_up rg r g) (upd (upd (kh_zb fiy g) (6 * g) (st + nI j)) (6 * g + 1) (nI (rg r))) (upd (kh_zb ir g) (6 * g + 1) 1) (kh_up A1 g o) (by omega) (kh_RLreg LN (Or.inr ⟨g1, by rw [kh_up_s]; exact o1, by rw [kh_up_s]⟩)) (by omega) (fun postY H => ?_) n (by omega)
            refine HY postY (fun re m hm => ?_)
            cases m with
            | zero => omega
            | succ m =>
              rw [wY_list_22]
              refine br_f (nI_ge (by omega) (by omega)) (HC re _ (fun sv' fi1 re' g' fi' ir' O' fe ew' q1 q2 qP ql f1 f2 => ?_))
              have es := kh_svC_eq O'
              subst es fe
              have eg : g' = g := by
                have z' : kh_svC P sv g' = 0 := kh_ci_f qP
                rcases Nat.lt_trichotomy g' g with z | z | z
                · exact absurd z' (gl g' q1 z)
                · exact z
                · exact absurd gz (ql g g1 z)
              subst eg
              have ef := kh_zb_eq (fun i hi => (f1 i hi).1) (fun i hi => (f2 i hi).1)
              have ei := kh_zb_eq (fun i hi => (f1 i hi).2) (fun i hi => (f2 i hi).2)
              subst ef ei
              have e6 : (6 : Int32) * nI g' = nI (6 * g') := pk_mul 6 g'
              have e61 : nI (6 * g') + 1 = nI (6 * g' + 1) := nI_1 _
              rw [e6, e61, nI_clamp (show 6 * g' < 2 ^ 31 by omega), nI_clamp (show 6 * g' + 1 < 2 ^ 31 by omega), kh_bo1, kh_cl (show r < 208 by omega)]
              refine br_f (nI_ne0 q1 (by omega)) ⟨vp_in_nI (show 6 * g' < 582 by omega) (by decide), nm_e ⟨vp_in_nI (show 6 * g' + 1 < 582 by omega) (by decide), nm_e ⟨vp_in_nI hr (by decide), vp_in_nI (show 6 * g' + 1 < 582 by omega) (by decide), nm_e ⟨vp_in_nI hr (by decide), nm_r (kh_upI rg r g') (nm_r (nI_1 j) ?_)⟩⟩⟩⟩
              exact H re' m (by omega)
          · rw [pk_un (by omega), pk_un (by omega), pk_un (by omega)]
            exact ⟨zo _ i hi, zo _ i hi⟩
          · have z1 := h1 a (by omega) (by omega)
            have z2 := m1 a ha'
            exact ⟨z1.1.trans z2.1, z1.2.trans z2.2⟩
          · rw [(h1 o (by omega) (by omega)).1]; exact mo1
          · rw [(h1 o (by omega) (by omega)).2]; exact mo2
          · have i01 : i = 0 ∨ i = 1 := by omega
            rcases i01 with rfl | rfl
            · show kh_Fw _ _ _ w4 t4 (o + 1) (6 * g)
              refine Or.inl ⟨?_, hb, ?_⟩
              · rw [pk_un (by omega)]; exact zi _ 0 (by omega)
              · rw [pk_un (by omega), pk_us]; exact ha
            · show kh_Fw _ _ _ w4 t4 (o + 2) (6 * g + 1)
              rcases h2 with ⟨z1, z2⟩ | ⟨z1, z2, z3, z4⟩
              · exact Or.inr (Or.inl ⟨by rw [pk_us]; exact kh_10, by rw [pk_us, z1]; rfl, z2⟩)
              · have r97 := (Q.1.1 _ z2).2
                have ne : rg r ≠ g := fun z => by rw [z] at z2; exact gA z2
                exact Or.inr (Or.inr ⟨rg r, ⟨by rw [pk_us]; exact kh_10, z1, r97, pk_us⟩, z3, by rw [kh_up_n ne]; exact z4, by rw [kh_up_n ne]; exact z2⟩)
          · rcases h5 b hb' with z | ⟨z1, z2⟩
            · exact Or.inl z
            · exact Or.inr ⟨fun y => z2 (yold.mp y), 1, by omega, by omega⟩
          · have i01 : i = 0 ∨ i = 1 := by omega
            rcases i01 with rfl | rfl
            · have y := hr'.1
              rw [pk_un (by omega)] at y
              exact absurd (zi ir 0 (by omega)) y
            · have e := hr'.2.2.2
              rw [pk_us] at e
              rcases h2 with ⟨w1', _⟩ | ⟨w1', w2', _, _⟩
              · rw [w1'] at e
                exact absurd e.symm (nI_ne0 hr'.2.1 (by have := hr'.2.2.1; omega))
              · have r97 := (Q.1.1 _ w2').2
                have eq := kh_inj (by omega) (by have := hr'.2.2.1; omega) e
                subst eq
                have ne : rg r ≠ g := fun z => by rw [z] at w2'; exact gA w2'
                rw [kh_up_n ne] at z1 z2
                exact h6 w1' z1 z2 (fun y => z3 (yold.mpr y))
        have t20 : t2 (o + 1) = 0 := (mf 0 (by omega)).2
        rcases hR1 r hr with ⟨a1, a2⟩ | ⟨a1, a2, a3⟩
        · rw [a2]
          refine kh_srNull c2 ⟨vp_in_nI hr (by decide), nm_r (e' := upd rx1 r (nI o)) (by rw [kh_ns2 o1]) (nm_r (nI_1 j) ?_)⟩
          exact fin (upd (upd w2 (o + 1) (st + nI j)) (o + 2) 0) (upd t2 (o + 2) 2) rm1 im1 rc1 (fun b hb hb2 => ⟨by rw [pk_un hb2, pk_un hb], pk_un hb2⟩) (by rw [pk_un (by omega), pk_us]) (by rw [pk_un (by omega)]; exact t20) (Or.inl ⟨a1, pk_us⟩) hS1 (fun _ h => h) (fun _ h => Or.inl h) (fun z => by omega)
        · rw [a3]
          refine kh_sr c2 a2 hS1 (fun rm3 im3 rc3 s1 s2 s3 s4 => ⟨vp_in_nI hr (by decide), nm_r (e' := upd rx1 r (nI o)) (by rw [kh_ns2 o1]) (nm_r (nI_1 j) ?_)⟩)
          exact fin (upd (upd w2 (o + 1) (st + nI j)) (o + 2) (nI (A1 (rg r)))) (upd t2 (o + 2) 1) rm3 im3 rc3 (fun b hb hb2 => ⟨by rw [pk_un hb2, pk_un hb], pk_un hb2⟩) (by rw [pk_un (by omega), pk_us]) (by rw [pk_un (by omega)]; exact t20) (Or.inr ⟨a1, a2, pk_us, pk_us⟩) s1 s2 (fun b hb => by
            rcases s3 b hb with z | z
            · exact Or.inl z
            · exact Or.inr ⟨z.1, z.2.2.2⟩) (fun _ z1 z2 z3 => s4 z1 z2 z3)
theorem i_vc_list {k : Nat} {u : SX} {v : SY} (I : i_Rel k u v) (hk : k + 4 ≤ 2050) (v1 : Int32) (v2 : Int32) (v3 : Int32) : wpX_list (fun r u' => wpY_list (fun r' v' => r' = r ∧ i_Rel (k + 4) u' v') v v1 v2 v3) u v1 v2 v3 := by
  refine kh_el (P := fun u v => wpX_list (fun r u' => wpY_list (fun r' v' => r' = r ∧ i_Rel (k + 4) u' v') v v1 v2 v3) u v1 v2 v3) ?_ I
  intro cp nu po ob ot yo ex se rc co fc dp w t mk fw sk rm im rx fn sv kd fl rg fi ir re A L s
  have J : i_Rel (k + 4) (nI cp, nI nu, nI po, nI ob, nI ot, nI yo, nI ex, nI se, co, fc, nI rc, dp, w, t, mk, fw, sk, rm, im, rx, fn) (nI cp, nI se, co, fc, (fun z_ => nI (sv z_)), (fun z_ => nI (kd z_)), (fun z_ => nI (fl z_)), fi, ir, re, (fun z_ => nI (rg z_)), fn) := kh_in L (by omega)
  unfold wpX_list
  refine kh_isReg (fun m hm em => ?_) (fun hm => ?_)
  rotate_left
  · refine br_t rfl ?_
    unfold wpY_list
    exact kh_ybad1 hm (br_f kh_10 ⟨rfl, J⟩)
  subst em
  refine br_f kh_10 ?_
  by_cases a : v2 < 0
  · refine br_t a ?_
    unfold wpY_list
    exact kh_ybad0 hm (br_t rfl (br_t a ⟨rfl, J⟩))
  refine br_f a ?_
  by_cases b : v2 ≤ 20
  rotate_left
  · refine br_f b ?_
    unfold wpY_list
    exact kh_ybad0 hm (br_t rfl (br_f a (br_f b ⟨rfl, J⟩)))
  refine br_t b ?_
  obtain ⟨c, hc, rfl⟩ := nI_of2 (M := 20) (n := 20) (show (20 : Int32).toInt = (20 : Nat) from by decide) a b
  refine ⟨c + 2, kh_listLoop (k := k) hk hm hc c 0 ob ot yo ex se rc co fc dp w t mk fw sk rm im rx fn sv kd fl rg fi ir A (by omega) L (by omega) (fun postY H => ?_) (c + 2) (by omega)⟩
  unfold wpY_list
  exact kh_ybad0 hm (br_t rfl (br_f a (br_t b ⟨c + 1, H re (c + 1) (by omega)⟩)))
end
