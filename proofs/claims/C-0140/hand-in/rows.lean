section
/-! pure rows to paste: stores, nI and lN arithmetic, masks, shifts, narrowing, branches by naturals (pk_le, pk_lt, pk_eq), loops (lp1 .. lp16: the measure of the state; rp1 ..: recursion), negatives. Take what you need -/
theorem pk_us {f : Nat → Int32} {k : Nat} {x : Int32} : upd f k x k = x := if_pos rfl
theorem pk_un {f : Nat → Int32} {k j : Nat} {x : Int32} (h : j ≠ k) : upd f k x j = f j := if_neg h
theorem pk_uLs {f : Nat → Int64} {k : Nat} {x : Int64} : vp_updL f k x k = x := if_pos rfl
theorem pk_uLn {f : Nat → Int64} {k j : Nat} {x : Int64} (h : j ≠ k) : vp_updL f k x j = f j := if_neg h
theorem pk_sub {a b : Nat} (h : b ≤ a) : nI a - nI b = nI (a - b) := by
  obtain ⟨c, rfl⟩ : ∃ c, a = c + b := ⟨a - b, by omega⟩
  rw [← nI_add, Int32.add_sub_cancel, Nat.add_sub_cancel]
theorem pk_m1 (n : Nat) : nI (n + 1) + (-1) = nI n := by
  rw [← nI_1, Int32.add_assoc, show (1 : Int32) + (-1) = 0 from rfl, Int32.add_zero]
theorem pk_mul (a b : Nat) : nI a * nI b = nI (a * b) := (Int32.ofNat_mul a b).symm
theorem pk_div {a d : Nat} (ha : a < 2 ^ 31) (h0 : 0 < d) (hd : d < 2 ^ 31) : nI a / nI d = nI (a / d) := by
  apply Int32.toInt_inj.mp
  rw [lg_idiv_nonneg (by rw [nI_toInt ha]; omega) (by rw [nI_toInt hd]; omega), nI_toInt ha, nI_toInt hd, nI_toInt (Nat.lt_of_le_of_lt (Nat.div_le_self a d) ha)]
  first | rfl | exact (Int.natCast_ediv _ _).symm
theorem pk_rem {a d : Nat} (ha : a < 2 ^ 31) (h0 : 0 < d) (hd : d < 2 ^ 31) : nI a - nI a / nI d * nI d = nI (a % d) := by
  rw [pk_div ha h0 hd, pk_mul, pk_sub (Nat.div_mul_le_self a d)]
  exact congrArg nI (by have := Nat.div_add_mod' a d; omega)
theorem pk_sub_toInt {a b : Nat} (ha : a < 2 ^ 30) (hb : b < 2 ^ 30) : (nI a - nI b).toInt = (a : Int) - b := by
  rw [Int32.toInt_sub, nI_toInt (by omega), nI_toInt (by omega)]
  exact Int.bmod_eq_of_le (by omega) (by omega)
theorem pk_sneg {a b : Nat} (hb : b < 2 ^ 30) (h : a < b) : nI a - nI b < 0 := by
  rw [Int32.lt_iff_toInt_lt, pk_sub_toInt (by omega) hb, show (0 : Int32).toInt = 0 from by decide]
  omega
theorem pk_ix (x : Int32) {n : Nat} (hn : n < 2 ^ 31) : x < 0 ∨ nI n ≤ x ∨ ∃ j : Nat, j < n ∧ x = nI j := by
  by_cases h : x < 0
  · exact Or.inl h
  · obtain ⟨j, hj, rfl⟩ := nI_of h
    by_cases h2 : j < n
    · exact Or.inr (Or.inr ⟨j, h2, rfl⟩)
    · exact Or.inr (Or.inl (nI_le (by omega) hj))
theorem pk_le {x y : Int32} {A B : Prop} (a b : Nat) (f : a ≤ b → A) (g : b < a → B) (hx : x = nI a := by rfl) (hy : y = nI b := by rfl) (ha : a < 2 ^ 31 := by omega) (hb : b < 2 ^ 31 := by omega) : (x ≤ y → A) ∧ (¬ x ≤ y → B) := by
  subst hx hy
  rw [nI_leI ha hb]
  exact ⟨f, fun z => g (by omega)⟩
theorem pk_lt {x y : Int32} {A B : Prop} (a b : Nat) (f : a < b → A) (g : b ≤ a → B) (hx : x = nI a := by rfl) (hy : y = nI b := by rfl) (ha : a < 2 ^ 31 := by omega) (hb : b < 2 ^ 31 := by omega) : (x < y → A) ∧ (¬ x < y → B) := by
  subst hx hy
  rw [nI_ltI ha hb]
  exact ⟨f, fun z => g (by omega)⟩
theorem pk_eq {x y : Int32} {A B : Prop} (a b : Nat) (f : a = b → A) (g : a ≠ b → B) (hx : x = nI a := by rfl) (hy : y = nI b := by rfl) (ha : a < 2 ^ 31 := by omega) (hb : b < 2 ^ 31 := by omega) : (x = y → A) ∧ (¬ x = y → B) := by
  subst hx hy
  rw [nI_eq ha hb]
  exact ⟨f, g⟩
theorem pk_in {x : Int32} (n N : Nat) (h : n < N) (hx : x = nI n := by rfl) (hN : N < 2 ^ 31 := by omega) : vp_in x N := by
  subst hx
  exact vp_in_nI h hN
theorem pk_cl {x : Int32} (n : Nat) (hx : x = nI n := by rfl) (h : n < 2 ^ 31 := by omega) : x.toNatClampNeg = n := by
  subst hx
  exact nI_clamp h
theorem pk_tn {n : Nat} (h : n < 2 ^ 32) : (nI n).toBitVec.toNat = n := Nat.mod_eq_of_lt h
theorem pk_and (x : Int32) {m : Int32} (k : Nat) (hm : m.toBitVec.toNat = 2 ^ k - 1) : x &&& m = nI (x.toBitVec.toNat % 2 ^ k) := by
  apply Int32.toBitVec_inj.mp
  apply BitVec.eq_of_toNat_eq
  rw [Int32.toBitVec_and, BitVec.toNat_and, hm, Nat.and_two_pow_sub_one_eq_mod]
  show _ = (BitVec.ofNat 32 _).toNat
  rw [BitVec.toNat_ofNat]
  exact (Nat.mod_eq_of_lt (Nat.lt_of_le_of_lt (Nat.mod_le _ _) x.toBitVec.isLt)).symm
theorem pk_andN {n : Nat} (h : n < 2 ^ 32) {m : Int32} (k : Nat) (hm : m.toBitVec.toNat = 2 ^ k - 1) : nI n &&& m = nI (n % 2 ^ k) := by
  rw [pk_and _ k hm, pk_tn h]
theorem pk_andE (x : Int32) {m : Int32} (k : Nat) (hm : m.toBitVec.toNat = 2 ^ k - 1) : ∃ j : Nat, j < 2 ^ k ∧ x &&& m = nI j := ⟨_, Nat.mod_lt _ (Nat.two_pow_pos k), pk_and x k hm⟩
theorem pk_andIn (x : Int32) {m : Int32} (k : Nat) (hm : m.toBitVec.toNat = 2 ^ k - 1) (hk : k ≤ 30) : vp_in (x &&& m) (2 ^ k) := by
  obtain ⟨j, hj, e⟩ := pk_andE x k hm
  rw [e]
  exact vp_in_nI hj (Nat.lt_of_le_of_lt (Nat.pow_le_pow_right (by decide) hk) (by decide))
theorem pk_shl (a s : Int32) (k : Nat) (hs : (s.toBitVec.smod 32).toNat = k) : (a <<< s).toBitVec.toNat = a.toBitVec.toNat * 2 ^ k % 2 ^ 32 := by
  show (a.toBitVec <<< (s.toBitVec.smod 32).toNat).toNat = _
  rw [hs, BitVec.toNat_shiftLeft, Nat.shiftLeft_eq]
theorem pk_shlN {n : Nat} (s : Int32) (k : Nat) (hs : (s.toBitVec.smod 32).toNat = k) (h : n * 2 ^ k < 2 ^ 32) : nI n <<< s = nI (n * 2 ^ k) := by
  apply Int32.toBitVec_inj.mp
  apply BitVec.eq_of_toNat_eq
  have hn : n < 2 ^ 32 := Nat.lt_of_le_of_lt (Nat.le_mul_of_pos_right n (Nat.two_pow_pos k)) h
  rw [pk_shl _ _ k hs, pk_tn hn, pk_tn h, Nat.mod_eq_of_lt h]
theorem pk_shr (a s : Int32) (k : Nat) (hs : (s.toBitVec.smod 32).toNat = k) : (a >>> s).toInt = a.toInt >>> k := by
  show (a.toBitVec.sshiftRight (s.toBitVec.smod 32).toNat).toInt = _
  rw [hs, BitVec.toInt_sshiftRight]
  rfl
theorem pk_shrN {n : Nat} (h : n < 2 ^ 31) (s : Int32) (k : Nat) (hs : (s.toBitVec.smod 32).toNat = k) : nI n >>> s = nI (n / 2 ^ k) := by
  apply Int32.toInt_inj.mp
  have h2 : n / 2 ^ k ≤ n := Nat.div_le_self _ _
  rw [pk_shr _ _ k hs, nI_toInt h, nI_toInt (by omega), Int.shiftRight_eq_div_pow]
  rfl
theorem pk_ushr (x s : Int32) (k : Nat) (hs : ((s.toUInt32 &&& Int32.toUInt32 31).toBitVec % 32).toNat = k) : (x.toUInt32 >>> (s.toUInt32 &&& Int32.toUInt32 31)).toInt32.toBitVec.toNat = x.toBitVec.toNat / 2 ^ k := by
  have e : (x.toUInt32 >>> (s.toUInt32 &&& Int32.toUInt32 31)).toInt32.toBitVec = x.toBitVec >>> k := by
    rw [← hs]
    exact UInt32.toBitVec_shiftRight _ _
  rw [e, BitVec.toNat_ushiftRight, Nat.shiftRight_eq_div_pow]
theorem pk_ushrN {n : Nat} (hn : n < 2 ^ 32) (s : Int32) (k : Nat) (hs : ((s.toUInt32 &&& Int32.toUInt32 31).toBitVec % 32).toNat = k) : ((nI n).toUInt32 >>> (s.toUInt32 &&& Int32.toUInt32 31)).toInt32 = nI (n / 2 ^ k) := by
  apply Int32.toBitVec_inj.mp
  apply BitVec.eq_of_toNat_eq
  rw [pk_ushr _ s k hs, pk_tn hn, pk_tn (Nat.lt_of_le_of_lt (Nat.div_le_self _ _) hn)]
theorem pk_nb (z : Int32) : narrow .byte (.int z.toInt8.toInt32) = .int z.toInt8.toInt32 := congrArg Value.int (by simp)
theorem pk_ns (z : Int32) : narrow .short (.int z.toInt16.toInt32) = .int z.toInt16.toInt32 := congrArg Value.int (by simp)
theorem pk_fb (r : Int32) : fits .byte (.int r.toInt8.toInt32) = true := by
  have ⟨a, b⟩ := lg_i2b_range r
  have h1 : (-128 : Int32).toInt = -128 := by decide
  have h2 : (127 : Int32).toInt = 127 := by decide
  simp only [fits, Bool.and_eq_true, decide_eq_true_eq, Int32.le_iff_toInt_le, h1, h2]
  omega
theorem pk_fs (r : Int32) : fits .short (.int r.toInt16.toInt32) = true := by
  have ⟨a, b⟩ := lg_i2s_range r
  have h1 : (-32768 : Int32).toInt = -32768 := by decide
  have h2 : (32767 : Int32).toInt = 32767 := by decide
  simp only [fits, Bool.and_eq_true, decide_eq_true_eq, Int32.le_iff_toInt_le, h1, h2]
  omega
theorem pk_charN {q : Nat} (hq : q < 65536) : narrow .char (.int (nI q)) = .int (nI q) ∧ fits .char (.int (nI q)) = true := by
  constructor
  · have e : (nI q).toUInt32.toUInt16.toUInt32.toInt32 = nI q := by
      apply Int32.toBitVec_inj.mp
      apply BitVec.eq_of_toNat_eq
      show (nI q).toUInt32.toUInt16.toUInt32.toNat = q % 2 ^ 32
      rw [UInt16.toNat_toUInt32, UInt32.toNat_toUInt16, show (nI q).toUInt32.toNat = q % 2 ^ 32 from rfl]
      omega
    exact congrArg Value.int e
  · have a : (0 : Int32) ≤ nI q := nI_pos' (by omega)
    have b : nI q ≤ 65535 := nI_le (b := 65535) (by omega) (by decide)
    show (decide ((0 : Int32) ≤ nI q) && decide (nI q ≤ 65535)) = true
    rw [decide_eq_true a, decide_eq_true b]
    rfl
theorem pk_char (x : Int32) : (x.toUInt32 % 65536).toInt32 = nI (x.toBitVec.toNat % 65536) := by
  apply Int32.toBitVec_inj.mp
  apply BitVec.eq_of_toNat_eq
  rw [pk_tn (by omega)]
  show (x.toUInt32 % 65536).toNat = _
  rw [UInt32.toNat_mod]
  rfl
theorem pk_nc (x : Int32) : narrow .char (.int (x.toUInt32 % 65536).toInt32) = .int (x.toUInt32 % 65536).toInt32 := by
  rw [pk_char]
  exact (pk_charN (Nat.mod_lt _ (by decide))).1
theorem pk_fc (x : Int32) : fits .char (.int (x.toUInt32 % 65536).toInt32) = true := by
  rw [pk_char]
  exact (pk_charN (Nat.mod_lt _ (by decide))).2
theorem pk_vb (z : Int32) : vp_nar .byte z.toInt8.toInt32 = z.toInt8.toInt32 := by rw [vp_nar_byte]; simp
theorem pk_vs (z : Int32) : vp_nar .short z.toInt16.toInt32 = z.toInt16.toInt32 := by rw [vp_nar_short]; simp
theorem pk_vc (z : Int32) : vp_nar .char (z.toUInt32 % 65536).toInt32 = (z.toUInt32 % 65536).toInt32 := Value.int.inj (pk_nc z)
theorem pk_lT {n : Nat} (h : n < 2 ^ 63) : (lN n).toInt = (n : Int) := lg_ofNat_toInt h
theorem pk_lLT {a b : Nat} (ha : a < 2 ^ 63) (hb : b < 2 ^ 63) : lN a < lN b ↔ a < b := by
  rw [Int64.lt_iff_toInt_lt, pk_lT ha, pk_lT hb]; omega
theorem pk_lLE {a b : Nat} (ha : a < 2 ^ 63) (hb : b < 2 ^ 63) : lN a ≤ lN b ↔ a ≤ b := by
  rw [Int64.le_iff_toInt_le, pk_lT ha, pk_lT hb]; omega
theorem pk_lEQ {a b : Nat} (ha : a < 2 ^ 63) (hb : b < 2 ^ 63) : lN a = lN b ↔ a = b := by
  rw [← Int64.toInt_inj, pk_lT ha, pk_lT hb]; omega
theorem pk_lOf {x : Int64} (h : ¬ x < 0) : ∃ k : Nat, k < 2 ^ 63 ∧ x = lN k := by
  rw [Int64.lt_iff_toInt_lt] at h
  have h0 : (0 : Int64).toInt = 0 := by decide
  have hx := Int64.toInt_lt x
  refine ⟨x.toInt.toNat, by omega, Int64.toInt_inj.mp ?_⟩
  rw [pk_lT (by omega)]
  omega
theorem pk_lDiv {a b : Nat} (ha : a < 2 ^ 63) (h0 : 0 < b) (hb : b < 2 ^ 63) : lN a / lN b = lN (a / b) := by
  apply Int64.toInt_inj.mp
  rw [lg_ldiv_nonneg (by rw [pk_lT ha]; omega) (by rw [pk_lT hb]; omega), pk_lT ha, pk_lT hb, pk_lT (Nat.lt_of_le_of_lt (Nat.div_le_self a b) ha)]
  rfl
theorem pk_lRem {a b : Nat} (ha : a < 2 ^ 63) (h0 : 0 < b) (hb : b < 2 ^ 63) : lN a - lN a / lN b * lN b = lN (a % b) := by
  rw [pk_lDiv ha h0 hb, lN_mul, lN_sub (Nat.div_mul_le_self a b)]
  exact congrArg lN (by have := Nat.div_add_mod' a b; omega)
theorem pk_loop {σ : Type} (W : Nat → Nat → σ → Prop) (I : Nat → σ → Prop) (e i0 : Nat) (s : σ) (hi : i0 ≤ e) (h0 : I i0 s) (hx : ∀ n s, I e s → W (n + 1) e s)
    (hs : ∀ n i s, i < e → I i s → (∀ s', I (i + 1) s' → W n (i + 1) s') → W (n + 1) i s) : ∃ n, W n i0 s :=
  ⟨e + 1, loop_i W I e hx hs (e + 1) i0 s hi (by omega) h0⟩
theorem pk_loopD {σ : Type} (W : Nat → Nat → σ → Prop) (I : Nat → σ → Prop) (hx : ∀ n s, I 0 s → W (n + 1) 0 s)
    (hs : ∀ n i s, I (i + 1) s → (∀ s', I i s' → W n i s') → W (n + 1) (i + 1) s) : ∀ (e : Nat) (s : σ), I e s → W (e + 1) e s := by
  intro e
  induction e with
  | zero => exact fun s h => hx 0 s h
  | succ e ih => exact fun s h => hs (e + 1) e s h (fun s' h' => ih s' h')
theorem lp1 {A1 : Type} (W : Nat → A1 → Prop) (I : A1 → Prop) (μ : A1 → Nat) (hs : ∀ (n : Nat) (a1 : A1), I a1 → (∀ (b1 : A1), I b1 → μ b1 < μ a1 → W n b1) → W (n + 1) a1) (a1 : A1) (h : I a1) : ∃ n, W n a1 :=
  loop_m (σ := A1) (fun n s => W n s) (fun s => I s) (fun s => μ s) (fun n s hI hk => hs n s hI (fun b1 h9 hm => hk b1 h9 hm)) a1 h
theorem lp2 {A1 A2 : Type} (W : Nat → A1 → A2 → Prop) (I : A1 → A2 → Prop) (μ : A1 → A2 → Nat) (hs : ∀ (n : Nat) (a1 : A1) (a2 : A2), I a1 a2 → (∀ (b1 : A1) (b2 : A2), I b1 b2 → μ b1 b2 < μ a1 a2 → W n b1 b2) → W (n + 1) a1 a2) (a1 : A1) (a2 : A2) (h : I a1 a2) : ∃ n, W n a1 a2 :=
  loop_m (σ := A1 × A2) (fun n s => W n s.1 s.2) (fun s => I s.1 s.2) (fun s => μ s.1 s.2) (fun n s hI hk => hs n s.1 s.2 hI (fun b1 b2 h9 hm => hk (b1, b2) h9 hm)) (a1, a2) h
theorem lp3 {A1 A2 A3 : Type} (W : Nat → A1 → A2 → A3 → Prop) (I : A1 → A2 → A3 → Prop) (μ : A1 → A2 → A3 → Nat) (hs : ∀ (n : Nat) (a1 : A1) (a2 : A2) (a3 : A3), I a1 a2 a3 → (∀ (b1 : A1) (b2 : A2) (b3 : A3), I b1 b2 b3 → μ b1 b2 b3 < μ a1 a2 a3 → W n b1 b2 b3) → W (n + 1) a1 a2 a3) (a1 : A1) (a2 : A2) (a3 : A3) (h : I a1 a2 a3) : ∃ n, W n a1 a2 a3 :=
  loop_m (σ := A1 × A2 × A3) (fun n s => W n s.1 s.2.1 s.2.2) (fun s => I s.1 s.2.1 s.2.2) (fun s => μ s.1 s.2.1 s.2.2) (fun n s hI hk => hs n s.1 s.2.1 s.2.2 hI (fun b1 b2 b3 h9 hm => hk (b1, b2, b3) h9 hm)) (a1, a2, a3) h
theorem lp4 {A1 A2 A3 A4 : Type} (W : Nat → A1 → A2 → A3 → A4 → Prop) (I : A1 → A2 → A3 → A4 → Prop) (μ : A1 → A2 → A3 → A4 → Nat) (hs : ∀ (n : Nat) (a1 : A1) (a2 : A2) (a3 : A3) (a4 : A4), I a1 a2 a3 a4 → (∀ (b1 : A1) (b2 : A2) (b3 : A3) (b4 : A4), I b1 b2 b3 b4 → μ b1 b2 b3 b4 < μ a1 a2 a3 a4 → W n b1 b2 b3 b4) → W (n + 1) a1 a2 a3 a4) (a1 : A1) (a2 : A2) (a3 : A3) (a4 : A4) (h : I a1 a2 a3 a4) : ∃ n, W n a1 a2 a3 a4 :=
  loop_m (σ := A1 × A2 × A3 × A4) (fun n s => W n s.1 s.2.1 s.2.2.1 s.2.2.2) (fun s => I s.1 s.2.1 s.2.2.1 s.2.2.2) (fun s => μ s.1 s.2.1 s.2.2.1 s.2.2.2) (fun n s hI hk => hs n s.1 s.2.1 s.2.2.1 s.2.2.2 hI (fun b1 b2 b3 b4 h9 hm => hk (b1, b2, b3, b4) h9 hm)) (a1, a2, a3, a4) h
theorem lp5 {A1 A2 A3 A4 A5 : Type} (W : Nat → A1 → A2 → A3 → A4 → A5 → Prop) (I : A1 → A2 → A3 → A4 → A5 → Prop) (μ : A1 → A2 → A3 → A4 → A5 → Nat) (hs : ∀ (n : Nat) (a1 : A1) (a2 : A2) (a3 : A3) (a4 : A4) (a5 : A5), I a1 a2 a3 a4 a5 → (∀ (b1 : A1) (b2 : A2) (b3 : A3) (b4 : A4) (b5 : A5), I b1 b2 b3 b4 b5 → μ b1 b2 b3 b4 b5 < μ a1 a2 a3 a4 a5 → W n b1 b2 b3 b4 b5) → W (n + 1) a1 a2 a3 a4 a5) (a1 : A1) (a2 : A2) (a3 : A3) (a4 : A4) (a5 : A5) (h : I a1 a2 a3 a4 a5) : ∃ n, W n a1 a2 a3 a4 a5 :=
  loop_m (σ := A1 × A2 × A3 × A4 × A5) (fun n s => W n s.1 s.2.1 s.2.2.1 s.2.2.2.1 s.2.2.2.2) (fun s => I s.1 s.2.1 s.2.2.1 s.2.2.2.1 s.2.2.2.2) (fun s => μ s.1 s.2.1 s.2.2.1 s.2.2.2.1 s.2.2.2.2) (fun n s hI hk => hs n s.1 s.2.1 s.2.2.1 s.2.2.2.1 s.2.2.2.2 hI (fun b1 b2 b3 b4 b5 h9 hm => hk (b1, b2, b3, b4, b5) h9 hm)) (a1, a2, a3, a4, a5) h
theorem lp6 {A1 A2 A3 A4 A5 A6 : Type} (W : Nat → A1 → A2 → A3 → A4 → A5 → A6 → Prop) (I : A1 → A2 → A3 → A4 → A5 → A6 → Prop) (μ : A1 → A2 → A3 → A4 → A5 → A6 → Nat) (hs : ∀ (n : Nat) (a1 : A1) (a2 : A2) (a3 : A3) (a4 : A4) (a5 : A5) (a6 : A6), I a1 a2 a3 a4 a5 a6 → (∀ (b1 : A1) (b2 : A2) (b3 : A3) (b4 : A4) (b5 : A5) (b6 : A6), I b1 b2 b3 b4 b5 b6 → μ b1 b2 b3 b4 b5 b6 < μ a1 a2 a3 a4 a5 a6 → W n b1 b2 b3 b4 b5 b6) → W (n + 1) a1 a2 a3 a4 a5 a6) (a1 : A1) (a2 : A2) (a3 : A3) (a4 : A4) (a5 : A5) (a6 : A6) (h : I a1 a2 a3 a4 a5 a6) : ∃ n, W n a1 a2 a3 a4 a5 a6 :=
  loop_m (σ := A1 × A2 × A3 × A4 × A5 × A6) (fun n s => W n s.1 s.2.1 s.2.2.1 s.2.2.2.1 s.2.2.2.2.1 s.2.2.2.2.2) (fun s => I s.1 s.2.1 s.2.2.1 s.2.2.2.1 s.2.2.2.2.1 s.2.2.2.2.2) (fun s => μ s.1 s.2.1 s.2.2.1 s.2.2.2.1 s.2.2.2.2.1 s.2.2.2.2.2) (fun n s hI hk => hs n s.1 s.2.1 s.2.2.1 s.2.2.2.1 s.2.2.2.2.1 s.2.2.2.2.2 hI (fun b1 b2 b3 b4 b5 b6 h9 hm => hk (b1, b2, b3, b4, b5, b6) h9 hm)) (a1, a2, a3, a4, a5, a6) h
theorem lp7 {A1 A2 A3 A4 A5 A6 A7 : Type} (W : Nat → A1 → A2 → A3 → A4 → A5 → A6 → A7 → Prop) (I : A1 → A2 → A3 → A4 → A5 → A6 → A7 → Prop) (μ : A1 → A2 → A3 → A4 → A5 → A6 → A7 → Nat) (hs : ∀ (n : Nat) (a1 : A1) (a2 : A2) (a3 : A3) (a4 : A4) (a5 : A5) (a6 : A6) (a7 : A7), I a1 a2 a3 a4 a5 a6 a7 → (∀ (b1 : A1) (b2 : A2) (b3 : A3) (b4 : A4) (b5 : A5) (b6 : A6) (b7 : A7), I b1 b2 b3 b4 b5 b6 b7 → μ b1 b2 b3 b4 b5 b6 b7 < μ a1 a2 a3 a4 a5 a6 a7 → W n b1 b2 b3 b4 b5 b6 b7) → W (n + 1) a1 a2 a3 a4 a5 a6 a7) (a1 : A1) (a2 : A2) (a3 : A3) (a4 : A4) (a5 : A5) (a6 : A6) (a7 : A7) (h : I a1 a2 a3 a4 a5 a6 a7) : ∃ n, W n a1 a2 a3 a4 a5 a6 a7 :=
  loop_m (σ := A1 × A2 × A3 × A4 × A5 × A6 × A7) (fun n s => W n s.1 s.2.1 s.2.2.1 s.2.2.2.1 s.2.2.2.2.1 s.2.2.2.2.2.1 s.2.2.2.2.2.2) (fun s => I s.1 s.2.1 s.2.2.1 s.2.2.2.1 s.2.2.2.2.1 s.2.2.2.2.2.1 s.2.2.2.2.2.2) (fun s => μ s.1 s.2.1 s.2.2.1 s.2.2.2.1 s.2.2.2.2.1 s.2.2.2.2.2.1 s.2.2.2.2.2.2) (fun n s hI hk => hs n s.1 s.2.1 s.2.2.1 s.2.2.2.1 s.2.2.2.2.1 s.2.2.2.2.2.1 s.2.2.2.2.2.2 hI (fun b1 b2 b3 b4 b5 b6 b7 h9 hm => hk (b1, b2, b3, b4, b5, b6, b7) h9 hm)) (a1, a2, a3, a4, a5, a6, a7) h
theorem lp8 {A1 A2 A3 A4 A5 A6 A7 A8 : Type} (W : Nat → A1 → A2 → A3 → A4 → A5 → A6 → A7 → A8 → Prop) (I : A1 → A2 → A3 → A4 → A5 → A6 → A7 → A8 → Prop) (μ : A1 → A2 → A3 → A4 → A5 → A6 → A7 → A8 → Nat) (hs : ∀ (n : Nat) (a1 : A1) (a2 : A2) (a3 : A3) (a4 : A4) (a5 : A5) (a6 : A6) (a7 : A7) (a8 : A8), I a1 a2 a3 a4 a5 a6 a7 a8 → (∀ (b1 : A1) (b2 : A2) (b3 : A3) (b4 : A4) (b5 : A5) (b6 : A6) (b7 : A7) (b8 : A8), I b1 b2 b3 b4 b5 b6 b7 b8 → μ b1 b2 b3 b4 b5 b6 b7 b8 < μ a1 a2 a3 a4 a5 a6 a7 a8 → W n b1 b2 b3 b4 b5 b6 b7 b8) → W (n + 1) a1 a2 a3 a4 a5 a6 a7 a8) (a1 : A1) (a2 : A2) (a3 : A3) (a4 : A4) (a5 : A5) (a6 : A6) (a7 : A7) (a8 : A8) (h : I a1 a2 a3 a4 a5 a6 a7 a8) : ∃ n, W n a1 a2 a3 a4 a5 a6 a7 a8 :=
  loop_m (σ := A1 × A2 × A3 × A4 × A5 × A6 × A7 × A8) (fun n s => W n s.1 s.2.1 s.2.2.1 s.2.2.2.1 s.2.2.2.2.1 s.2.2.2.2.2.1 s.2.2.2.2.2.2.1 s.2.2.2.2.2.2.2) (fun s => I s.1 s.2.1 s.2.2.1 s.2.2.2.1 s.2.2.2.2.1 s.2.2.2.2.2.1 s.2.2.2.2.2.2.1 s.2.2.2.2.2.2.2) (fun s => μ s.1 s.2.1 s.2.2.1 s.2.2.2.1 s.2.2.2.2.1 s.2.2.2.2.2.1 s.2.2.2.2.2.2.1 s.2.2.2.2.2.2.2) (fun n s hI hk => hs n s.1 s.2.1 s.2.2.1 s.2.2.2.1 s.2.2.2.2.1 s.2.2.2.2.2.1 s.2.2.2.2.2.2.1 s.2.2.2.2.2.2.2 hI (fun b1 b2 b3 b4 b5 b6 b7 b8 h9 hm => hk (b1, b2, b3, b4, b5, b6, b7, b8) h9 hm)) (a1, a2, a3, a4, a5, a6, a7, a8) h
theorem lp9 {A1 A2 A3 A4 A5 A6 A7 A8 A9 : Type} (W : Nat → A1 → A2 → A3 → A4 → A5 → A6 → A7 → A8 → A9 → Prop) (I : A1 → A2 → A3 → A4 → A5 → A6 → A7 → A8 → A9 → Prop) (μ : A1 → A2 → A3 → A4 → A5 → A6 → A7 → A8 → A9 → Nat) (hs : ∀ (n : Nat) (a1 : A1) (a2 : A2) (a3 : A3) (a4 : A4) (a5 : A5) (a6 : A6) (a7 : A7) (a8 : A8) (a9 : A9), I a1 a2 a3 a4 a5 a6 a7 a8 a9 → (∀ (b1 : A1) (b2 : A2) (b3 : A3) (b4 : A4) (b5 : A5) (b6 : A6) (b7 : A7) (b8 : A8) (b9 : A9), I b1 b2 b3 b4 b5 b6 b7 b8 b9 → μ b1 b2 b3 b4 b5 b6 b7 b8 b9 < μ a1 a2 a3 a4 a5 a6 a7 a8 a9 → W n b1 b2 b3 b4 b5 b6 b7 b8 b9) → W (n + 1) a1 a2 a3 a4 a5 a6 a7 a8 a9) (a1 : A1) (a2 : A2) (a3 : A3) (a4 : A4) (a5 : A5) (a6 : A6) (a7 : A7) (a8 : A8) (a9 : A9) (h : I a1 a2 a3 a4 a5 a6 a7 a8 a9) : ∃ n, W n a1 a2 a3 a4 a5 a6 a7 a8 a9 :=
  loop_m (σ := A1 × A2 × A3 × A4 × A5 × A6 × A7 × A8 × A9) (fun n s => W n s.1 s.2.1 s.2.2.1 s.2.2.2.1 s.2.2.2.2.1 s.2.2.2.2.2.1 s.2.2.2.2.2.2.1 s.2.2.2.2.2.2.2.1 s.2.2.2.2.2.2.2.2) (fun s => I s.1 s.2.1 s.2.2.1 s.2.2.2.1 s.2.2.2.2.1 s.2.2.2.2.2.1 s.2.2.2.2.2.2.1 s.2.2.2.2.2.2.2.1 s.2.2.2.2.2.2.2.2) (fun s => μ s.1 s.2.1 s.2.2.1 s.2.2.2.1 s.2.2.2.2.1 s.2.2.2.2.2.1 s.2.2.2.2.2.2.1 s.2.2.2.2.2.2.2.1 s.2.2.2.2.2.2.2.2) (fun n s hI hk => hs n s.1 s.2.1 s.2.2.1 s.2.2.2.1 s.2.2.2.2.1 s.2.2.2.2.2.1 s.2.2.2.2.2.2.1 s.2.2.2.2.2.2.2.1 s.2.2.2.2.2.2.2.2 hI (fun b1 b2 b3 b4 b5 b6 b7 b8 b9 h9 hm => hk (b1, b2, b3, b4, b5, b6, b7, b8, b9) h9 hm)) (a1, a2, a3, a4, a5, a6, a7, a8, a9) h
theorem lp10 {A1 A2 A3 A4 A5 A6 A7 A8 A9 A10 : Type} (W : Nat → A1 → A2 → A3 → A4 → A5 → A6 → A7 → A8 → A9 → A10 → Prop) (I : A1 → A2 → A3 → A4 → A5 → A6 → A7 → A8 → A9 → A10 → Prop) (μ : A1 → A2 → A3 → A4 → A5 → A6 → A7 → A8 → A9 → A10 → Nat) (hs : ∀ (n : Nat) (a1 : A1) (a2 : A2) (a3 : A3) (a4 : A4) (a5 : A5) (a6 : A6) (a7 : A7) (a8 : A8) (a9 : A9) (a10 : A10), I a1 a2 a3 a4 a5 a6 a7 a8 a9 a10 → (∀ (b1 : A1) (b2 : A2) (b3 : A3) (b4 : A4) (b5 : A5) (b6 : A6) (b7 : A7) (b8 : A8) (b9 : A9) (b10 : A10), I b1 b2 b3 b4 b5 b6 b7 b8 b9 b10 → μ b1 b2 b3 b4 b5 b6 b7 b8 b9 b10 < μ a1 a2 a3 a4 a5 a6 a7 a8 a9 a10 → W n b1 b2 b3 b4 b5 b6 b7 b8 b9 b10) → W (n + 1) a1 a2 a3 a4 a5 a6 a7 a8 a9 a10) (a1 : A1) (a2 : A2) (a3 : A3) (a4 : A4) (a5 : A5) (a6 : A6) (a7 : A7) (a8 : A8) (a9 : A9) (a10 : A10) (h : I a1 a2 a3 a4 a5 a6 a7 a8 a9 a10) : ∃ n, W n a1 a2 a3 a4 a5 a6 a7 a8 a9 a10 :=
  loop_m (σ := A1 × A2 × A3 × A4 × A5 × A6 × A7 × A8 × A9 × A10) (fun n s => W n s.1 s.2.1 s.2.2.1 s.2.2.2.1 s.2.2.2.2.1 s.2.2.2.2.2.1 s.2.2.2.2.2.2.1 s.2.2.2.2.2.2.2.1 s.2.2.2.2.2.2.2.2.1 s.2.2.2.2.2.2.2.2.2) (fun s => I s.1 s.2.1 s.2.2.1 s.2.2.2.1 s.2.2.2.2.1 s.2.2.2.2.2.1 s.2.2.2.2.2.2.1 s.2.2.2.2.2.2.2.1 s.2.2.2.2.2.2.2.2.1 s.2.2.2.2.2.2.2.2.2) (fun s => μ s.1 s.2.1 s.2.2.1 s.2.2.2.1 s.2.2.2.2.1 s.2.2.2.2.2.1 s.2.2.2.2.2.2.1 s.2.2.2.2.2.2.2.1 s.2.2.2.2.2.2.2.2.1 s.2.2.2.2.2.2.2.2.2) (fun n s hI hk => hs n s.1 s.2.1 s.2.2.1 s.2.2.2.1 s.2.2.2.2.1 s.2.2.2.2.2.1 s.2.2.2.2.2.2.1 s.2.2.2.2.2.2.2.1 s.2.2.2.2.2.2.2.2.1 s.2.2.2.2.2.2.2.2.2 hI (fun b1 b2 b3 b4 b5 b6 b7 b8 b9 b10 h9 hm => hk (b1, b2, b3, b4, b5, b6, b7, b8, b9, b10) h9 hm)) (a1, a2, a3, a4, a5, a6, a7, a8, a9, a10) h
theorem lp11 {A1 A2 A3 A4 A5 A6 A7 A8 A9 A10 A11 : Type} (W : Nat → A1 → A2 → A3 → A4 → A5 → A6 → A7 → A8 → A9 → A10 → A11 → Prop) (I : A1 → A2 → A3 → A4 → A5 → A6 → A7 → A8 → A9 → A10 → A11 → Prop) (μ : A1 → A2 → A3 → A4 → A5 → A6 → A7 → A8 → A9 → A10 → A11 → Nat) (hs : ∀ (n : Nat) (a1 : A1) (a2 : A2) (a3 : A3) (a4 : A4) (a5 : A5) (a6 : A6) (a7 : A7) (a8 : A8) (a9 : A9) (a10 : A10) (a11 : A11), I a1 a2 a3 a4 a5 a6 a7 a8 a9 a10 a11 → (∀ (b1 : A1) (b2 : A2) (b3 : A3) (b4 : A4) (b5 : A5) (b6 : A6) (b7 : A7) (b8 : A8) (b9 : A9) (b10 : A10) (b11 : A11), I b1 b2 b3 b4 b5 b6 b7 b8 b9 b10 b11 → μ b1 b2 b3 b4 b5 b6 b7 b8 b9 b10 b11 < μ a1 a2 a3 a4 a5 a6 a7 a8 a9 a10 a11 → W n b1 b2 b3 b4 b5 b6 b7 b8 b9 b10 b11) → W (n + 1) a1 a2 a3 a4 a5 a6 a7 a8 a9 a10 a11) (a1 : A1) (a2 : A2) (a3 : A3) (a4 : A4) (a5 : A5) (a6 : A6) (a7 : A7) (a8 : A8) (a9 : A9) (a10 : A10) (a11 : A11) (h : I a1 a2 a3 a4 a5 a6 a7 a8 a9 a10 a11) : ∃ n, W n a1 a2 a3 a4 a5 a6 a7 a8 a9 a10 a11 :=
  loop_m (σ := A1 × A2 × A3 × A4 × A5 × A6 × A7 × A8 × A9 × A10 × A11) (fun n s => W n s.1 s.2.1 s.2.2.1 s.2.2.2.1 s.2.2.2.2.1 s.2.2.2.2.2.1 s.2.2.2.2.2.2.1 s.2.2.2.2.2.2.2.1 s.2.2.2.2.2.2.2.2.1 s.2.2.2.2.2.2.2.2.2.1 s.2.2.2.2.2.2.2.2.2.2) (fun s => I s.1 s.2.1 s.2.2.1 s.2.2.2.1 s.2.2.2.2.1 s.2.2.2.2.2.1 s.2.2.2.2.2.2.1 s.2.2.2.2.2.2.2.1 s.2.2.2.2.2.2.2.2.1 s.2.2.2.2.2.2.2.2.2.1 s.2.2.2.2.2.2.2.2.2.2) (fun s => μ s.1 s.2.1 s.2.2.1 s.2.2.2.1 s.2.2.2.2.1 s.2.2.2.2.2.1 s.2.2.2.2.2.2.1 s.2.2.2.2.2.2.2.1 s.2.2.2.2.2.2.2.2.1 s.2.2.2.2.2.2.2.2.2.1 s.2.2.2.2.2.2.2.2.2.2) (fun n s hI hk => hs n s.1 s.2.1 s.2.2.1 s.2.2.2.1 s.2.2.2.2.1 s.2.2.2.2.2.1 s.2.2.2.2.2.2.1 s.2.2.2.2.2.2.2.1 s.2.2.2.2.2.2.2.2.1 s.2.2.2.2.2.2.2.2.2.1 s.2.2.2.2.2.2.2.2.2.2 hI (fun b1 b2 b3 b4 b5 b6 b7 b8 b9 b10 b11 h9 hm => hk (b1, b2, b3, b4, b5, b6, b7, b8, b9, b10, b11) h9 hm)) (a1, a2, a3, a4, a5, a6, a7, a8, a9, a10, a11) h
theorem lp12 {A1 A2 A3 A4 A5 A6 A7 A8 A9 A10 A11 A12 : Type} (W : Nat → A1 → A2 → A3 → A4 → A5 → A6 → A7 → A8 → A9 → A10 → A11 → A12 → Prop) (I : A1 → A2 → A3 → A4 → A5 → A6 → A7 → A8 → A9 → A10 → A11 → A12 → Prop) (μ : A1 → A2 → A3 → A4 → A5 → A6 → A7 → A8 → A9 → A10 → A11 → A12 → Nat) (hs : ∀ (n : Nat) (a1 : A1) (a2 : A2) (a3 : A3) (a4 : A4) (a5 : A5) (a6 : A6) (a7 : A7) (a8 : A8) (a9 : A9) (a10 : A10) (a11 : A11) (a12 : A12), I a1 a2 a3 a4 a5 a6 a7 a8 a9 a10 a11 a12 → (∀ (b1 : A1) (b2 : A2) (b3 : A3) (b4 : A4) (b5 : A5) (b6 : A6) (b7 : A7) (b8 : A8) (b9 : A9) (b10 : A10) (b11 : A11) (b12 : A12), I b1 b2 b3 b4 b5 b6 b7 b8 b9 b10 b11 b12 → μ b1 b2 b3 b4 b5 b6 b7 b8 b9 b10 b11 b12 < μ a1 a2 a3 a4 a5 a6 a7 a8 a9 a10 a11 a12 → W n b1 b2 b3 b4 b5 b6 b7 b8 b9 b10 b11 b12) → W (n + 1) a1 a2 a3 a4 a5 a6 a7 a8 a9 a10 a11 a12) (a1 : A1) (a2 : A2) (a3 : A3) (a4 : A4) (a5 : A5) (a6 : A6) (a7 : A7) (a8 : A8) (a9 : A9) (a10 : A10) (a11 : A11) (a12 : A12) (h : I a1 a2 a3 a4 a5 a6 a7 a8 a9 a10 a11 a12) : ∃ n, W n a1 a2 a3 a4 a5 a6 a7 a8 a9 a10 a11 a12 :=
  loop_m (σ := A1 × A2 × A3 × A4 × A5 × A6 × A7 × A8 × A9 × A10 × A11 × A12) (fun n s => W n s.1 s.2.1 s.2.2.1 s.2.2.2.1 s.2.2.2.2.1 s.2.2.2.2.2.1 s.2.2.2.2.2.2.1 s.2.2.2.2.2.2.2.1 s.2.2.2.2.2.2.2.2.1 s.2.2.2.2.2.2.2.2.2.1 s.2.2.2.2.2.2.2.2.2.2.1 s.2.2.2.2.2.2.2.2.2.2.2) (fun s => I s.1 s.2.1 s.2.2.1 s.2.2.2.1 s.2.2.2.2.1 s.2.2.2.2.2.1 s.2.2.2.2.2.2.1 s.2.2.2.2.2.2.2.1 s.2.2.2.2.2.2.2.2.1 s.2.2.2.2.2.2.2.2.2.1 s.2.2.2.2.2.2.2.2.2.2.1 s.2.2.2.2.2.2.2.2.2.2.2) (fun s => μ s.1 s.2.1 s.2.2.1 s.2.2.2.1 s.2.2.2.2.1 s.2.2.2.2.2.1 s.2.2.2.2.2.2.1 s.2.2.2.2.2.2.2.1 s.2.2.2.2.2.2.2.2.1 s.2.2.2.2.2.2.2.2.2.1 s.2.2.2.2.2.2.2.2.2.2.1 s.2.2.2.2.2.2.2.2.2.2.2) (fun n s hI hk => hs n s.1 s.2.1 s.2.2.1 s.2.2.2.1 s.2.2.2.2.1 s.2.2.2.2.2.1 s.2.2.2.2.2.2.1 s.2.2.2.2.2.2.2.1 s.2.2.2.2.2.2.2.2.1 s.2.2.2.2.2.2.2.2.2.1 s.2.2.2.2.2.2.2.2.2.2.1 s.2.2.2.2.2.2.2.2.2.2.2 hI (fun b1 b2 b3 b4 b5 b6 b7 b8 b9 b10 b11 b12 h9 hm => hk (b1, b2, b3, b4, b5, b6, b7, b8, b9, b10, b11, b12) h9 hm)) (a1, a2, a3, a4, a5, a6, a7, a8, a9, a10, a11, a12) h
theorem lp13 {A1 A2 A3 A4 A5 A6 A7 A8 A9 A10 A11 A12 A13 : Type} (W : Nat → A1 → A2 → A3 → A4 → A5 → A6 → A7 → A8 → A9 → A10 → A11 → A12 → A13 → Prop) (I : A1 → A2 → A3 → A4 → A5 → A6 → A7 → A8 → A9 → A10 → A11 → A12 → A13 → Prop) (μ : A1 → A2 → A3 → A4 → A5 → A6 → A7 → A8 → A9 → A10 → A11 → A12 → A13 → Nat) (hs : ∀ (n : Nat) (a1 : A1) (a2 : A2) (a3 : A3) (a4 : A4) (a5 : A5) (a6 : A6) (a7 : A7) (a8 : A8) (a9 : A9) (a10 : A10) (a11 : A11) (a12 : A12) (a13 : A13), I a1 a2 a3 a4 a5 a6 a7 a8 a9 a10 a11 a12 a13 → (∀ (b1 : A1) (b2 : A2) (b3 : A3) (b4 : A4) (b5 : A5) (b6 : A6) (b7 : A7) (b8 : A8) (b9 : A9) (b10 : A10) (b11 : A11) (b12 : A12) (b13 : A13), I b1 b2 b3 b4 b5 b6 b7 b8 b9 b10 b11 b12 b13 → μ b1 b2 b3 b4 b5 b6 b7 b8 b9 b10 b11 b12 b13 < μ a1 a2 a3 a4 a5 a6 a7 a8 a9 a10 a11 a12 a13 → W n b1 b2 b3 b4 b5 b6 b7 b8 b9 b10 b11 b12 b13) → W (n + 1) a1 a2 a3 a4 a5 a6 a7 a8 a9 a10 a11 a12 a13) (a1 : A1) (a2 : A2) (a3 : A3) (a4 : A4) (a5 : A5) (a6 : A6) (a7 : A7) (a8 : A8) (a9 : A9) (a10 : A10) (a11 : A11) (a12 : A12) (a13 : A13) (h : I a1 a2 a3 a4 a5 a6 a7 a8 a9 a10 a11 a12 a13) : ∃ n, W n a1 a2 a3 a4 a5 a6 a7 a8 a9 a10 a11 a12 a13 :=
  loop_m (σ := A1 × A2 × A3 × A4 × A5 × A6 × A7 × A8 × A9 × A10 × A11 × A12 × A13) (fun n s => W n s.1 s.2.1 s.2.2.1 s.2.2.2.1 s.2.2.2.2.1 s.2.2.2.2.2.1 s.2.2.2.2.2.2.1 s.2.2.2.2.2.2.2.1 s.2.2.2.2.2.2.2.2.1 s.2.2.2.2.2.2.2.2.2.1 s.2.2.2.2.2.2.2.2.2.2.1 s.2.2.2.2.2.2.2.2.2.2.2.1 s.2.2.2.2.2.2.2.2.2.2.2.2) (fun s => I s.1 s.2.1 s.2.2.1 s.2.2.2.1 s.2.2.2.2.1 s.2.2.2.2.2.1 s.2.2.2.2.2.2.1 s.2.2.2.2.2.2.2.1 s.2.2.2.2.2.2.2.2.1 s.2.2.2.2.2.2.2.2.2.1 s.2.2.2.2.2.2.2.2.2.2.1 s.2.2.2.2.2.2.2.2.2.2.2.1 s.2.2.2.2.2.2.2.2.2.2.2.2) (fun s => μ s.1 s.2.1 s.2.2.1 s.2.2.2.1 s.2.2.2.2.1 s.2.2.2.2.2.1 s.2.2.2.2.2.2.1 s.2.2.2.2.2.2.2.1 s.2.2.2.2.2.2.2.2.1 s.2.2.2.2.2.2.2.2.2.1 s.2.2.2.2.2.2.2.2.2.2.1 s.2.2.2.2.2.2.2.2.2.2.2.1 s.2.2.2.2.2.2.2.2.2.2.2.2) (fun n s hI hk => hs n s.1 s.2.1 s.2.2.1 s.2.2.2.1 s.2.2.2.2.1 s.2.2.2.2.2.1 s.2.2.2.2.2.2.1 s.2.2.2.2.2.2.2.1 s.2.2.2.2.2.2.2.2.1 s.2.2.2.2.2.2.2.2.2.1 s.2.2.2.2.2.2.2.2.2.2.1 s.2.2.2.2.2.2.2.2.2.2.2.1 s.2.2.2.2.2.2.2.2.2.2.2.2 hI (fun b1 b2 b3 b4 b5 b6 b7 b8 b9 b10 b11 b12 b13 h9 hm => hk (b1, b2, b3, b4, b5, b6, b7, b8, b9, b10, b11, b12, b13) h9 hm)) (a1, a2, a3, a4, a5, a6, a7, a8, a9, a10, a11, a12, a13) h
theorem lp14 {A1 A2 A3 A4 A5 A6 A7 A8 A9 A10 A11 A12 A13 A14 : Type} (W : Nat → A1 → A2 → A3 → A4 → A5 → A6 → A7 → A8 → A9 → A10 → A11 → A12 → A13 → A14 → Prop) (I : A1 → A2 → A3 → A4 → A5 → A6 → A7 → A8 → A9 → A10 → A11 → A12 → A13 → A14 → Prop) (μ : A1 → A2 → A3 → A4 → A5 → A6 → A7 → A8 → A9 → A10 → A11 → A12 → A13 → A14 → Nat) (hs : ∀ (n : Nat) (a1 : A1) (a2 : A2) (a3 : A3) (a4 : A4) (a5 : A5) (a6 : A6) (a7 : A7) (a8 : A8) (a9 : A9) (a10 : A10) (a11 : A11) (a12 : A12) (a13 : A13) (a14 : A14), I a1 a2 a3 a4 a5 a6 a7 a8 a9 a10 a11 a12 a13 a14 → (∀ (b1 : A1) (b2 : A2) (b3 : A3) (b4 : A4) (b5 : A5) (b6 : A6) (b7 : A7) (b8 : A8) (b9 : A9) (b10 : A10) (b11 : A11) (b12 : A12) (b13 : A13) (b14 : A14), I b1 b2 b3 b4 b5 b6 b7 b8 b9 b10 b11 b12 b13 b14 → μ b1 b2 b3 b4 b5 b6 b7 b8 b9 b10 b11 b12 b13 b14 < μ a1 a2 a3 a4 a5 a6 a7 a8 a9 a10 a11 a12 a13 a14 → W n b1 b2 b3 b4 b5 b6 b7 b8 b9 b10 b11 b12 b13 b14) → W (n + 1) a1 a2 a3 a4 a5 a6 a7 a8 a9 a10 a11 a12 a13 a14) (a1 : A1) (a2 : A2) (a3 : A3) (a4 : A4) (a5 : A5) (a6 : A6) (a7 : A7) (a8 : A8) (a9 : A9) (a10 : A10) (a11 : A11) (a12 : A12) (a13 : A13) (a14 : A14) (h : I a1 a2 a3 a4 a5 a6 a7 a8 a9 a10 a11 a12 a13 a14) : ∃ n, W n a1 a2 a3 a4 a5 a6 a7 a8 a9 a10 a11 a12 a13 a14 :=
  loop_m (σ := A1 × A2 × A3 × A4 × A5 × A6 × A7 × A8 × A9 × A10 × A11 × A12 × A13 × A14) (fun n s => W n s.1 s.2.1 s.2.2.1 s.2.2.2.1 s.2.2.2.2.1 s.2.2.2.2.2.1 s.2.2.2.2.2.2.1 s.2.2.2.2.2.2.2.1 s.2.2.2.2.2.2.2.2.1 s.2.2.2.2.2.2.2.2.2.1 s.2.2.2.2.2.2.2.2.2.2.1 s.2.2.2.2.2.2.2.2.2.2.2.1 s.2.2.2.2.2.2.2.2.2.2.2.2.1 s.2.2.2.2.2.2.2.2.2.2.2.2.2) (fun s => I s.1 s.2.1 s.2.2.1 s.2.2.2.1 s.2.2.2.2.1 s.2.2.2.2.2.1 s.2.2.2.2.2.2.1 s.2.2.2.2.2.2.2.1 s.2.2.2.2.2.2.2.2.1 s.2.2.2.2.2.2.2.2.2.1 s.2.2.2.2.2.2.2.2.2.2.1 s.2.2.2.2.2.2.2.2.2.2.2.1 s.2.2.2.2.2.2.2.2.2.2.2.2.1 s.2.2.2.2.2.2.2.2.2.2.2.2.2) (fun s => μ s.1 s.2.1 s.2.2.1 s.2.2.2.1 s.2.2.2.2.1 s.2.2.2.2.2.1 s.2.2.2.2.2.2.1 s.2.2.2.2.2.2.2.1 s.2.2.2.2.2.2.2.2.1 s.2.2.2.2.2.2.2.2.2.1 s.2.2.2.2.2.2.2.2.2.2.1 s.2.2.2.2.2.2.2.2.2.2.2.1 s.2.2.2.2.2.2.2.2.2.2.2.2.1 s.2.2.2.2.2.2.2.2.2.2.2.2.2) (fun n s hI hk => hs n s.1 s.2.1 s.2.2.1 s.2.2.2.1 s.2.2.2.2.1 s.2.2.2.2.2.1 s.2.2.2.2.2.2.1 s.2.2.2.2.2.2.2.1 s.2.2.2.2.2.2.2.2.1 s.2.2.2.2.2.2.2.2.2.1 s.2.2.2.2.2.2.2.2.2.2.1 s.2.2.2.2.2.2.2.2.2.2.2.1 s.2.2.2.2.2.2.2.2.2.2.2.2.1 s.2.2.2.2.2.2.2.2.2.2.2.2.2 hI (fun b1 b2 b3 b4 b5 b6 b7 b8 b9 b10 b11 b12 b13 b14 h9 hm => hk (b1, b2, b3, b4, b5, b6, b7, b8, b9, b10, b11, b12, b13, b14) h9 hm)) (a1, a2, a3, a4, a5, a6, a7, a8, a9, a10, a11, a12, a13, a14) h
theorem lp15 {A1 A2 A3 A4 A5 A6 A7 A8 A9 A10 A11 A12 A13 A14 A15 : Type} (W : Nat → A1 → A2 → A3 → A4 → A5 → A6 → A7 → A8 → A9 → A10 → A11 → A12 → A13 → A14 → A15 → Prop) (I : A1 → A2 → A3 → A4 → A5 → A6 → A7 → A8 → A9 → A10 → A11 → A12 → A13 → A14 → A15 → Prop) (μ : A1 → A2 → A3 → A4 → A5 → A6 → A7 → A8 → A9 → A10 → A11 → A12 → A13 → A14 → A15 → Nat) (hs : ∀ (n : Nat) (a1 : A1) (a2 : A2) (a3 : A3) (a4 : A4) (a5 : A5) (a6 : A6) (a7 : A7) (a8 : A8) (a9 : A9) (a10 : A10) (a11 : A11) (a12 : A12) (a13 : A13) (a14 : A14) (a15 : A15), I a1 a2 a3 a4 a5 a6 a7 a8 a9 a10 a11 a12 a13 a14 a15 → (∀ (b1 : A1) (b2 : A2) (b3 : A3) (b4 : A4) (b5 : A5) (b6 : A6) (b7 : A7) (b8 : A8) (b9 : A9) (b10 : A10) (b11 : A11) (b12 : A12) (b13 : A13) (b14 : A14) (b15 : A15), I b1 b2 b3 b4 b5 b6 b7 b8 b9 b10 b11 b12 b13 b14 b15 → μ b1 b2 b3 b4 b5 b6 b7 b8 b9 b10 b11 b12 b13 b14 b15 < μ a1 a2 a3 a4 a5 a6 a7 a8 a9 a10 a11 a12 a13 a14 a15 → W n b1 b2 b3 b4 b5 b6 b7 b8 b9 b10 b11 b12 b13 b14 b15) → W (n + 1) a1 a2 a3 a4 a5 a6 a7 a8 a9 a10 a11 a12 a13 a14 a15) (a1 : A1) (a2 : A2) (a3 : A3) (a4 : A4) (a5 : A5) (a6 : A6) (a7 : A7) (a8 : A8) (a9 : A9) (a10 : A10) (a11 : A11) (a12 : A12) (a13 : A13) (a14 : A14) (a15 : A15) (h : I a1 a2 a3 a4 a5 a6 a7 a8 a9 a10 a11 a12 a13 a14 a15) : ∃ n, W n a1 a2 a3 a4 a5 a6 a7 a8 a9 a10 a11 a12 a13 a14 a15 :=
  loop_m (σ := A1 × A2 × A3 × A4 × A5 × A6 × A7 × A8 × A9 × A10 × A11 × A12 × A13 × A14 × A15) (fun n s => W n s.1 s.2.1 s.2.2.1 s.2.2.2.1 s.2.2.2.2.1 s.2.2.2.2.2.1 s.2.2.2.2.2.2.1 s.2.2.2.2.2.2.2.1 s.2.2.2.2.2.2.2.2.1 s.2.2.2.2.2.2.2.2.2.1 s.2.2.2.2.2.2.2.2.2.2.1 s.2.2.2.2.2.2.2.2.2.2.2.1 s.2.2.2.2.2.2.2.2.2.2.2.2.1 s.2.2.2.2.2.2.2.2.2.2.2.2.2.1 s.2.2.2.2.2.2.2.2.2.2.2.2.2.2) (fun s => I s.1 s.2.1 s.2.2.1 s.2.2.2.1 s.2.2.2.2.1 s.2.2.2.2.2.1 s.2.2.2.2.2.2.1 s.2.2.2.2.2.2.2.1 s.2.2.2.2.2.2.2.2.1 s.2.2.2.2.2.2.2.2.2.1 s.2.2.2.2.2.2.2.2.2.2.1 s.2.2.2.2.2.2.2.2.2.2.2.1 s.2.2.2.2.2.2.2.2.2.2.2.2.1 s.2.2.2.2.2.2.2.2.2.2.2.2.2.1 s.2.2.2.2.2.2.2.2.2.2.2.2.2.2) (fun s => μ s.1 s.2.1 s.2.2.1 s.2.2.2.1 s.2.2.2.2.1 s.2.2.2.2.2.1 s.2.2.2.2.2.2.1 s.2.2.2.2.2.2.2.1 s.2.2.2.2.2.2.2.2.1 s.2.2.2.2.2.2.2.2.2.1 s.2.2.2.2.2.2.2.2.2.2.1 s.2.2.2.2.2.2.2.2.2.2.2.1 s.2.2.2.2.2.2.2.2.2.2.2.2.1 s.2.2.2.2.2.2.2.2.2.2.2.2.2.1 s.2.2.2.2.2.2.2.2.2.2.2.2.2.2) (fun n s hI hk => hs n s.1 s.2.1 s.2.2.1 s.2.2.2.1 s.2.2.2.2.1 s.2.2.2.2.2.1 s.2.2.2.2.2.2.1 s.2.2.2.2.2.2.2.1 s.2.2.2.2.2.2.2.2.1 s.2.2.2.2.2.2.2.2.2.1 s.2.2.2.2.2.2.2.2.2.2.1 s.2.2.2.2.2.2.2.2.2.2.2.1 s.2.2.2.2.2.2.2.2.2.2.2.2.1 s.2.2.2.2.2.2.2.2.2.2.2.2.2.1 s.2.2.2.2.2.2.2.2.2.2.2.2.2.2 hI (fun b1 b2 b3 b4 b5 b6 b7 b8 b9 b10 b11 b12 b13 b14 b15 h9 hm => hk (b1, b2, b3, b4, b5, b6, b7, b8, b9, b10, b11, b12, b13, b14, b15) h9 hm)) (a1, a2, a3, a4, a5, a6, a7, a8, a9, a10, a11, a12, a13, a14, a15) h
theorem lp16 {A1 A2 A3 A4 A5 A6 A7 A8 A9 A10 A11 A12 A13 A14 A15 A16 : Type} (W : Nat → A1 → A2 → A3 → A4 → A5 → A6 → A7 → A8 → A9 → A10 → A11 → A12 → A13 → A14 → A15 → A16 → Prop) (I : A1 → A2 → A3 → A4 → A5 → A6 → A7 → A8 → A9 → A10 → A11 → A12 → A13 → A14 → A15 → A16 → Prop) (μ : A1 → A2 → A3 → A4 → A5 → A6 → A7 → A8 → A9 → A10 → A11 → A12 → A13 → A14 → A15 → A16 → Nat) (hs : ∀ (n : Nat) (a1 : A1) (a2 : A2) (a3 : A3) (a4 : A4) (a5 : A5) (a6 : A6) (a7 : A7) (a8 : A8) (a9 : A9) (a10 : A10) (a11 : A11) (a12 : A12) (a13 : A13) (a14 : A14) (a15 : A15) (a16 : A16), I a1 a2 a3 a4 a5 a6 a7 a8 a9 a10 a11 a12 a13 a14 a15 a16 → (∀ (b1 : A1) (b2 : A2) (b3 : A3) (b4 : A4) (b5 : A5) (b6 : A6) (b7 : A7) (b8 : A8) (b9 : A9) (b10 : A10) (b11 : A11) (b12 : A12) (b13 : A13) (b14 : A14) (b15 : A15) (b16 : A16), I b1 b2 b3 b4 b5 b6 b7 b8 b9 b10 b11 b12 b13 b14 b15 b16 → μ b1 b2 b3 b4 b5 b6 b7 b8 b9 b10 b11 b12 b13 b14 b15 b16 < μ a1 a2 a3 a4 a5 a6 a7 a8 a9 a10 a11 a12 a13 a14 a15 a16 → W n b1 b2 b3 b4 b5 b6 b7 b8 b9 b10 b11 b12 b13 b14 b15 b16) → W (n + 1) a1 a2 a3 a4 a5 a6 a7 a8 a9 a10 a11 a12 a13 a14 a15 a16) (a1 : A1) (a2 : A2) (a3 : A3) (a4 : A4) (a5 : A5) (a6 : A6) (a7 : A7) (a8 : A8) (a9 : A9) (a10 : A10) (a11 : A11) (a12 : A12) (a13 : A13) (a14 : A14) (a15 : A15) (a16 : A16) (h : I a1 a2 a3 a4 a5 a6 a7 a8 a9 a10 a11 a12 a13 a14 a15 a16) : ∃ n, W n a1 a2 a3 a4 a5 a6 a7 a8 a9 a10 a11 a12 a13 a14 a15 a16 :=
  loop_m (σ := A1 × A2 × A3 × A4 × A5 × A6 × A7 × A8 × A9 × A10 × A11 × A12 × A13 × A14 × A15 × A16) (fun n s => W n s.1 s.2.1 s.2.2.1 s.2.2.2.1 s.2.2.2.2.1 s.2.2.2.2.2.1 s.2.2.2.2.2.2.1 s.2.2.2.2.2.2.2.1 s.2.2.2.2.2.2.2.2.1 s.2.2.2.2.2.2.2.2.2.1 s.2.2.2.2.2.2.2.2.2.2.1 s.2.2.2.2.2.2.2.2.2.2.2.1 s.2.2.2.2.2.2.2.2.2.2.2.2.1 s.2.2.2.2.2.2.2.2.2.2.2.2.2.1 s.2.2.2.2.2.2.2.2.2.2.2.2.2.2.1 s.2.2.2.2.2.2.2.2.2.2.2.2.2.2.2) (fun s => I s.1 s.2.1 s.2.2.1 s.2.2.2.1 s.2.2.2.2.1 s.2.2.2.2.2.1 s.2.2.2.2.2.2.1 s.2.2.2.2.2.2.2.1 s.2.2.2.2.2.2.2.2.1 s.2.2.2.2.2.2.2.2.2.1 s.2.2.2.2.2.2.2.2.2.2.1 s.2.2.2.2.2.2.2.2.2.2.2.1 s.2.2.2.2.2.2.2.2.2.2.2.2.1 s.2.2.2.2.2.2.2.2.2.2.2.2.2.1 s.2.2.2.2.2.2.2.2.2.2.2.2.2.2.1 s.2.2.2.2.2.2.2.2.2.2.2.2.2.2.2) (fun s => μ s.1 s.2.1 s.2.2.1 s.2.2.2.1 s.2.2.2.2.1 s.2.2.2.2.2.1 s.2.2.2.2.2.2.1 s.2.2.2.2.2.2.2.1 s.2.2.2.2.2.2.2.2.1 s.2.2.2.2.2.2.2.2.2.1 s.2.2.2.2.2.2.2.2.2.2.1 s.2.2.2.2.2.2.2.2.2.2.2.1 s.2.2.2.2.2.2.2.2.2.2.2.2.1 s.2.2.2.2.2.2.2.2.2.2.2.2.2.1 s.2.2.2.2.2.2.2.2.2.2.2.2.2.2.1 s.2.2.2.2.2.2.2.2.2.2.2.2.2.2.2) (fun n s hI hk => hs n s.1 s.2.1 s.2.2.1 s.2.2.2.1 s.2.2.2.2.1 s.2.2.2.2.2.1 s.2.2.2.2.2.2.1 s.2.2.2.2.2.2.2.1 s.2.2.2.2.2.2.2.2.1 s.2.2.2.2.2.2.2.2.2.1 s.2.2.2.2.2.2.2.2.2.2.1 s.2.2.2.2.2.2.2.2.2.2.2.1 s.2.2.2.2.2.2.2.2.2.2.2.2.1 s.2.2.2.2.2.2.2.2.2.2.2.2.2.1 s.2.2.2.2.2.2.2.2.2.2.2.2.2.2.1 s.2.2.2.2.2.2.2.2.2.2.2.2.2.2.2 hI (fun b1 b2 b3 b4 b5 b6 b7 b8 b9 b10 b11 b12 b13 b14 b15 b16 h9 hm => hk (b1, b2, b3, b4, b5, b6, b7, b8, b9, b10, b11, b12, b13, b14, b15, b16) h9 hm)) (a1, a2, a3, a4, a5, a6, a7, a8, a9, a10, a11, a12, a13, a14, a15, a16) h
theorem pk_least (P : Nat → Prop) (h : ∃ k, P k) : ∃ k, P k ∧ ∀ j, j < k → ¬ P j := by
  obtain ⟨k, hk⟩ := h
  induction k using Nat.strongRecOn with
  | ind k ih =>
    by_cases e : ∃ j, j < k ∧ P j
    · obtain ⟨j, hj, pj⟩ := e
      exact ih j hj pj
    · exact ⟨k, hk, fun j hj pj => e ⟨j, hj, pj⟩⟩
theorem rp1 {ρ A1 : Type} (W : Nat → (ρ → Prop) → A1 → Prop) (ok : A1 → Prop) (μ : A1 → Nat) (val : A1 → ρ)
    (hs : ∀ (d : Nat) (post : ρ → Prop) (a1 : A1), ok a1 → post (val a1) → (∀ (post' : ρ → Prop) (b1 : A1), ok b1 → μ b1 < μ a1 → post' (val b1) → W d post' b1) → W (d + 1) post a1) :
    ∀ (d : Nat) (post : ρ → Prop) (a1 : A1), ok a1 → μ a1 < d → post (val a1) → W d post a1 := by
  intro d
  induction d with
  | zero => intro post a1 _ h; omega
  | succ d ih =>
    intro post a1 ho hm hp
    exact hs d post a1 ho hp (fun post' b1 ho' hm' hp' => ih post' b1 ho' (by omega) hp')
theorem rp2 {ρ A1 A2 : Type} (W : Nat → (ρ → Prop) → A1 → A2 → Prop) (ok : A1 → A2 → Prop) (μ : A1 → A2 → Nat) (val : A1 → A2 → ρ)
    (hs : ∀ (d : Nat) (post : ρ → Prop) (a1 : A1) (a2 : A2), ok a1 a2 → post (val a1 a2) → (∀ (post' : ρ → Prop) (b1 : A1) (b2 : A2), ok b1 b2 → μ b1 b2 < μ a1 a2 → post' (val b1 b2) → W d post' b1 b2) → W (d + 1) post a1 a2) :
    ∀ (d : Nat) (post : ρ → Prop) (a1 : A1) (a2 : A2), ok a1 a2 → μ a1 a2 < d → post (val a1 a2) → W d post a1 a2 := by
  intro d
  induction d with
  | zero => intro post a1 a2 _ h; omega
  | succ d ih =>
    intro post a1 a2 ho hm hp
    exact hs d post a1 a2 ho hp (fun post' b1 b2 ho' hm' hp' => ih post' b1 b2 ho' (by omega) hp')
theorem rp3 {ρ A1 A2 A3 : Type} (W : Nat → (ρ → Prop) → A1 → A2 → A3 → Prop) (ok : A1 → A2 → A3 → Prop) (μ : A1 → A2 → A3 → Nat) (val : A1 → A2 → A3 → ρ)
    (hs : ∀ (d : Nat) (post : ρ → Prop) (a1 : A1) (a2 : A2) (a3 : A3), ok a1 a2 a3 → post (val a1 a2 a3) → (∀ (post' : ρ → Prop) (b1 : A1) (b2 : A2) (b3 : A3), ok b1 b2 b3 → μ b1 b2 b3 < μ a1 a2 a3 → post' (val b1 b2 b3) → W d post' b1 b2 b3) → W (d + 1) post a1 a2 a3) :
    ∀ (d : Nat) (post : ρ → Prop) (a1 : A1) (a2 : A2) (a3 : A3), ok a1 a2 a3 → μ a1 a2 a3 < d → post (val a1 a2 a3) → W d post a1 a2 a3 := by
  intro d
  induction d with
  | zero => intro post a1 a2 a3 _ h; omega
  | succ d ih =>
    intro post a1 a2 a3 ho hm hp
    exact hs d post a1 a2 a3 ho hp (fun post' b1 b2 b3 ho' hm' hp' => ih post' b1 b2 b3 ho' (by omega) hp')
theorem rp4 {ρ A1 A2 A3 A4 : Type} (W : Nat → (ρ → Prop) → A1 → A2 → A3 → A4 → Prop) (ok : A1 → A2 → A3 → A4 → Prop) (μ : A1 → A2 → A3 → A4 → Nat) (val : A1 → A2 → A3 → A4 → ρ)
    (hs : ∀ (d : Nat) (post : ρ → Prop) (a1 : A1) (a2 : A2) (a3 : A3) (a4 : A4), ok a1 a2 a3 a4 → post (val a1 a2 a3 a4) → (∀ (post' : ρ → Prop) (b1 : A1) (b2 : A2) (b3 : A3) (b4 : A4), ok b1 b2 b3 b4 → μ b1 b2 b3 b4 < μ a1 a2 a3 a4 → post' (val b1 b2 b3 b4) → W d post' b1 b2 b3 b4) → W (d + 1) post a1 a2 a3 a4) :
    ∀ (d : Nat) (post : ρ → Prop) (a1 : A1) (a2 : A2) (a3 : A3) (a4 : A4), ok a1 a2 a3 a4 → μ a1 a2 a3 a4 < d → post (val a1 a2 a3 a4) → W d post a1 a2 a3 a4 := by
  intro d
  induction d with
  | zero => intro post a1 a2 a3 a4 _ h; omega
  | succ d ih =>
    intro post a1 a2 a3 a4 ho hm hp
    exact hs d post a1 a2 a3 a4 ho hp (fun post' b1 b2 b3 b4 ho' hm' hp' => ih post' b1 b2 b3 b4 ho' (by omega) hp')
theorem rp5 {ρ A1 A2 A3 A4 A5 : Type} (W : Nat → (ρ → Prop) → A1 → A2 → A3 → A4 → A5 → Prop) (ok : A1 → A2 → A3 → A4 → A5 → Prop) (μ : A1 → A2 → A3 → A4 → A5 → Nat) (val : A1 → A2 → A3 → A4 → A5 → ρ)
    (hs : ∀ (d : Nat) (post : ρ → Prop) (a1 : A1) (a2 : A2) (a3 : A3) (a4 : A4) (a5 : A5), ok a1 a2 a3 a4 a5 → post (val a1 a2 a3 a4 a5) → (∀ (post' : ρ → Prop) (b1 : A1) (b2 : A2) (b3 : A3) (b4 : A4) (b5 : A5), ok b1 b2 b3 b4 b5 → μ b1 b2 b3 b4 b5 < μ a1 a2 a3 a4 a5 → post' (val b1 b2 b3 b4 b5) → W d post' b1 b2 b3 b4 b5) → W (d + 1) post a1 a2 a3 a4 a5) :
    ∀ (d : Nat) (post : ρ → Prop) (a1 : A1) (a2 : A2) (a3 : A3) (a4 : A4) (a5 : A5), ok a1 a2 a3 a4 a5 → μ a1 a2 a3 a4 a5 < d → post (val a1 a2 a3 a4 a5) → W d post a1 a2 a3 a4 a5 := by
  intro d
  induction d with
  | zero => intro post a1 a2 a3 a4 a5 _ h; omega
  | succ d ih =>
    intro post a1 a2 a3 a4 a5 ho hm hp
    exact hs d post a1 a2 a3 a4 a5 ho hp (fun post' b1 b2 b3 b4 b5 ho' hm' hp' => ih post' b1 b2 b3 b4 b5 ho' (by omega) hp')
theorem rp6 {ρ A1 A2 A3 A4 A5 A6 : Type} (W : Nat → (ρ → Prop) → A1 → A2 → A3 → A4 → A5 → A6 → Prop) (ok : A1 → A2 → A3 → A4 → A5 → A6 → Prop) (μ : A1 → A2 → A3 → A4 → A5 → A6 → Nat) (val : A1 → A2 → A3 → A4 → A5 → A6 → ρ)
    (hs : ∀ (d : Nat) (post : ρ → Prop) (a1 : A1) (a2 : A2) (a3 : A3) (a4 : A4) (a5 : A5) (a6 : A6), ok a1 a2 a3 a4 a5 a6 → post (val a1 a2 a3 a4 a5 a6) → (∀ (post' : ρ → Prop) (b1 : A1) (b2 : A2) (b3 : A3) (b4 : A4) (b5 : A5) (b6 : A6), ok b1 b2 b3 b4 b5 b6 → μ b1 b2 b3 b4 b5 b6 < μ a1 a2 a3 a4 a5 a6 → post' (val b1 b2 b3 b4 b5 b6) → W d post' b1 b2 b3 b4 b5 b6) → W (d + 1) post a1 a2 a3 a4 a5 a6) :
    ∀ (d : Nat) (post : ρ → Prop) (a1 : A1) (a2 : A2) (a3 : A3) (a4 : A4) (a5 : A5) (a6 : A6), ok a1 a2 a3 a4 a5 a6 → μ a1 a2 a3 a4 a5 a6 < d → post (val a1 a2 a3 a4 a5 a6) → W d post a1 a2 a3 a4 a5 a6 := by
  intro d
  induction d with
  | zero => intro post a1 a2 a3 a4 a5 a6 _ h; omega
  | succ d ih =>
    intro post a1 a2 a3 a4 a5 a6 ho hm hp
    exact hs d post a1 a2 a3 a4 a5 a6 ho hp (fun post' b1 b2 b3 b4 b5 b6 ho' hm' hp' => ih post' b1 b2 b3 b4 b5 b6 ho' (by omega) hp')
theorem rec_p {σ ρ : Type} (W : Nat → (ρ → Prop) → σ → Prop) (ok : σ → Prop) (μ : σ → Nat) (val : σ → ρ)
    (hs : ∀ d s post, ok s → post (val s) → (∀ s' post', ok s' → μ s' < μ s → post' (val s') → W d post' s') → W (d + 1) post s) :
    ∀ d s post, ok s → μ s < d → post (val s) → W d post s := by
  intro d
  induction d with
  | zero => intro s post _ h; omega
  | succ d ih =>
    intro s post ho hm hp
    exact hs d s post ho hp (fun s' post' ho' hm' hp' => ih s' post' ho' (by omega) hp')
theorem rec_q {σ ρ : Type} (W : Nat → (ρ → Prop) → σ → Prop) (ok : σ → Prop) (μ : σ → Nat) (Q : σ → ρ → Prop)
    (hs : ∀ d s post, ok s → (∀ r, Q s r → post r) → (∀ s' post', ok s' → μ s' < μ s → (∀ r, Q s' r → post' r) → W d post' s') → W (d + 1) post s) :
    ∀ d s post, ok s → μ s < d → (∀ r, Q s r → post r) → W d post s := by
  intro d
  induction d with
  | zero => intro s post _ h; omega
  | succ d ih =>
    intro s post ho hm hp
    exact hs d s post ho hp (fun s' post' ho' hm' hp' => ih s' post' ho' (by omega) hp')
def bx_sum (f : Nat → Int32) : Nat → Int32
  | 0 => 0
  | n + 1 => bx_sum f n + f n
theorem ek_u {A : Prop} {B : Nat → Prop} {k N : Nat} (hk : k < N) (h : B k) : (some k = none → A) ∧ (∀ y : Nat, some k = some y → (y < N ∧ B y)) :=
  ⟨fun z => absurd z (Option.some_ne_none k), fun _ e => (by cases e; exact ⟨hk, h⟩)⟩
theorem ek_nu {A : Prop} {B : Nat → Prop} (h : A) : ((none : Option Nat) = none → A) ∧ (∀ y : Nat, (none : Option Nat) = some y → B y) :=
  ⟨fun _ => h, fun _ e => (by cases e)⟩
theorem ek_if {c d A B : Prop} (e : c ↔ d) (f : d → A) (g : ¬ d → B) : (c → A) ∧ (¬ c → B) :=
  ⟨fun z => f (e.mp z), fun z => g (fun y => z (e.mpr y))⟩
theorem ek_v {α : Sort _} {P : α → Prop} {a b : α} (e : a = b) (h : P b) : P a := e ▸ h
theorem co_some {x : Option Nat} {A : Prop} {B : Nat → Prop} (i : Nat) (h : B i) (hx : x = some i := by rfl) : (x = none → A) ∧ (∀ y : Nat, x = some y → B y) := by
  subst hx
  exact ⟨fun e => (nomatch e), fun y e => Option.some.inj e ▸ h⟩
theorem co_none {x : Option Nat} {A : Prop} {B : Nat → Prop} (h : A) (hx : x = none := by rfl) : (x = none → A) ∧ (∀ y : Nat, x = some y → B y) := by
  subst hx
  exact ⟨fun _ => h, fun y e => (nomatch e)⟩
theorem co_any {x : Option Nat} {A : Prop} {B : Nat → Prop} (hn : x = none → A) (hs : ∀ i : Nat, x = some i → B i) : (x = none → A) ∧ (∀ y : Nat, x = some y → B y) := ⟨hn, hs⟩
theorem co_2 {P : Nat → Prop} (h0 : P 0) (h1 : P 1) {i : Nat} (hi : i < 2) : P i :=
  match i, hi with
  | 0, _ => h0
  | 1, _ => h1
theorem co_3 {P : Nat → Prop} (h0 : P 0) (h1 : P 1) (h2 : P 2) {i : Nat} (hi : i < 3) : P i :=
  match i, hi with
  | 0, _ => h0
  | 1, _ => h1
  | 2, _ => h2
theorem co_4 {P : Nat → Prop} (h0 : P 0) (h1 : P 1) (h2 : P 2) (h3 : P 3) {i : Nat} (hi : i < 4) : P i :=
  match i, hi with
  | 0, _ => h0
  | 1, _ => h1
  | 2, _ => h2
  | 3, _ => h3
theorem co_dec {N : Nat} {P : Nat → Prop} [DecidablePred P] (h : (List.range N).all (fun i => decide (P i)) = true) {i : Nat} (hi : i < N) : P i := by
  have := List.all_eq_true.mp h i (List.mem_range.mpr hi)
  exact of_decide_eq_true this
theorem co_tab {α : Type} {l : List α} {d : α} {P : α → Prop} (h : ∀ a, a ∈ l → P a) {i : Nat} (hi : i < l.length) : P (l.getD i d) := by
  rw [List.getD_eq_getElem?_getD, List.getElem?_eq_getElem hi]
  exact h _ (List.getElem_mem hi)
theorem pk_mu {x : Int32} {L : Nat} (h0 : ¬ x < 0) (h : ¬ nI L ≤ x) (hL : L < 2 ^ 31) : ∃ j : Nat, j < L ∧ x = nI j ∧ x + 1 = nI (j + 1) ∧ x.toNatClampNeg = j ∧ L - (x + 1).toNatClampNeg < L - x.toNatClampNeg := by
  obtain ⟨j, hj, rfl⟩ := nI_of h0
  have hl : j < L := Nat.not_le.mp fun q => h (nI_le q hj)
  refine ⟨j, hl, rfl, nI_1 j, nI_clamp hj, ?_⟩
  rw [nI_1, nI_clamp (by omega), nI_clamp hj]
  omega
theorem op_s {α : Type} {r : Option α} {A : Prop} {B : α → Prop} {y : α} (h : r = some y) (b : B y) : (r = none → A) ∧ ∀ z, r = some z → B z :=
  ⟨fun e => (by rw [h] at e; cases e), fun z e => (by rw [h] at e; cases e; exact b)⟩
def l_holds {α : Type} (a : Nat → Option Nat) (LP : List Nat) (p : Nat → α) (c : Nat) (b : Nat → α) : Prop :=
  ∀ j, j < c → ∃ y, a j = some y ∧ y ∈ LP ∧ p y = b j
theorem l_holds_0 {α : Type} {a : Nat → Option Nat} {LP : List Nat} {p b : Nat → α} : l_holds a LP p 0 b := fun j h => absurd h (Nat.not_lt_zero j)
theorem l_in_new (LP : List Nat) (q : Nat) : q ∈ LP ++ [q] := List.mem_append.mpr (Or.inr (List.mem_singleton.mpr rfl))
def l_sum (b : Nat → Int32) : Nat → Int32
  | 0 => 0
  | k + 1 => l_sum b k + b k
theorem sb_shr0 (x : Int32) : x >>> ((0 : Int32) &&& 31) = x := by
  rw [show ((0 : Int32) &&& 31) = 0 by decide]
  simp
theorem sb_shl0 (x : Int32) : x <<< ((0 : Int32) &&& 31) = x := by
  rw [show ((0 : Int32) &&& 31) = 0 by decide]
  simp
theorem sb_cl0 : (0 : Int32).toNatClampNeg = 0 := by decide
theorem sb_m1 {p : Nat} (h : 0 < p) : nI p + (-1) = nI (p - 1) := by
  obtain ⟨q, rfl⟩ : ∃ q, p = q + 1 := ⟨p - 1, by omega⟩
  exact pk_m1 q
def sb_b (c : Nat) : Int32 := (nI c).toInt8.toInt32
theorem sb_byte : ∀ c, c < 256 → sb_b c &&& 255 = nI c ∧ ((nI c).toUInt32 % 65536).toInt32 = nI c ∧ nI c ≤ 255 := by decide +kernel
def sb_Fit (a : Nat → Int32) : Prop := ∀ j, fits .byte (.int (a j)) = true
def sb_Lat (t : Nat → Nat) (n : Nat) (a : Nat → Int32) : Prop := ∀ j, j < n → t j < 256 ∧ a j = sb_b (t j)
theorem sb_fitB (c : Nat) : fits .byte (.int (sb_b c)) = true := pk_fb _
theorem sb_fit0 : sb_Fit (fun _ => 0) := fun _ => by
  show fits .byte (.int 0) = true
  decide
theorem sb_fitU {a : Nat → Int32} {k : Nat} {x : Int32} (h : sb_Fit a) (hx : fits .byte (.int x) = true) : sb_Fit (upd a k x) := by
  intro j
  by_cases e : j = k
  · subst e
    rw [pk_us]
    exact hx
  · rw [pk_un e]
    exact h j
def sb_cat (t : Nat → Nat) (n : Nat) (s : Nat → Nat) : Nat → Nat := fun j => if j < n then t j else s (j - n)
theorem sb_cat_lo {t s : Nat → Nat} {n j : Nat} (h : j < n) : sb_cat t n s j = t j := if_pos h
theorem sb_cat_hi {t s : Nat → Nat} {n j : Nat} : sb_cat t n s (n + j) = s j := by
  show (if n + j < n then t (n + j) else s (n + j - n)) = s j
  rw [if_neg (by omega), Nat.add_sub_cancel_left]
theorem sb_latPut {t s : Nat → Nat} {n w : Nat} {a a' : Nat → Int32} (h : sb_Lat t n a) (hk : ∀ j, j < n → a' j = a j) (hs : ∀ i, i < w → s i < 256 ∧ a' (n + i) = sb_b (s i)) : sb_Lat (sb_cat t n s) (n + w) a' := by
  intro j hj
  by_cases e : j < n
  · rw [sb_cat_lo e, hk j e]
    exact h j e
  · obtain ⟨i, rfl⟩ : ∃ i, j = n + i := ⟨j - n, by omega⟩
    rw [sb_cat_hi]
    exact hs i (by omega)
theorem sb_latKeep {t : Nat → Nat} {n : Nat} {a a' : Nat → Int32} (h : sb_Lat t n a) (hk : ∀ j, j < n → a' j = a j) : sb_Lat t n a' := fun j hj => by
  rw [hk j hj]
  exact h j hj
def sb_cap (q m : Nat) : Nat := if q ≤ m then m else if 2 * m + 2 < q then q else 2 * m + 2
def sb_Room (q m mc ms : Nat) : Prop := q ≤ m ∨ (1 ≤ mc ∧ sb_cap q m ≤ ms ∧ sb_cap q m ≤ 65536)
theorem sb_cap_ge (q m : Nat) : q ≤ sb_cap q m := by
  unfold sb_cap
  split
  · omega
  · split <;> omega
theorem sb_cap_gem (q m : Nat) : m ≤ sb_cap q m := by
  unfold sb_cap
  split
  · omega
  · split <;> omega
theorem sb_cap_le {q m mc ms : Nat} (hm : m ≤ 65536) (hr : sb_Room q m mc ms) : sb_cap q m ≤ 65536 := by
  rcases hr with h | h
  · rw [sb_cap, if_pos h]
    exact hm
  · exact h.2.2
theorem sb_at {P : Int32 → Prop} {x y : Int32} (e : x = y) (h : P y) : P x := e ▸ h
def sb_dg (w : Nat) : Nat := if w < 10 then 1 else if w < 100 then 2 else if w < 1000 then 3 else if w < 10000 then 4 else if w < 100000 then 5 else if w < 1000000 then 6 else if w < 10000000 then 7 else if w < 100000000 then 8 else if w < 1000000000 then 9 else 10
def sb_dec (v : Nat) : Nat → Nat := fun i => 48 + v / 10 ^ (sb_dg v - 1 - i) % 10
theorem sb_dg_in (w : Nat) : 1 ≤ sb_dg w ∧ sb_dg w ≤ 10 := by
  unfold sb_dg
  constructor <;> (repeat' split) <;> omega
theorem sb_dg100 {w : Nat} (h : 100 ≤ w) (hw : w < 2 ^ 31) : sb_dg w = sb_dg (w / 100) + 2 := by
  rw [sb_dg, sb_dg, if_neg (show ¬ w < 10 by omega), if_neg (show ¬ w < 100 by omega)]
  by_cases h3 : w < 1000
  · rw [if_pos h3, if_pos (show w / 100 < 10 by omega)]
  rw [if_neg h3, if_neg (show ¬ w / 100 < 10 by omega)]
  by_cases h4 : w < 10000
  · rw [if_pos h4, if_pos (show w / 100 < 100 by omega)]
  rw [if_neg h4, if_neg (show ¬ w / 100 < 100 by omega)]
  by_cases h5 : w < 100000
  · rw [if_pos h5, if_pos (show w / 100 < 1000 by omega)]
  rw [if_neg h5, if_neg (show ¬ w / 100 < 1000 by omega)]
  by_cases h6 : w < 1000000
  · rw [if_pos h6, if_pos (show w / 100 < 10000 by omega)]
  rw [if_neg h6, if_neg (show ¬ w / 100 < 10000 by omega)]
  by_cases h7 : w < 10000000
  · rw [if_pos h7, if_pos (show w / 100 < 100000 by omega)]
  rw [if_neg h7, if_neg (show ¬ w / 100 < 100000 by omega)]
  by_cases h8 : w < 100000000
  · rw [if_pos h8, if_pos (show w / 100 < 1000000 by omega)]
  rw [if_neg h8, if_neg (show ¬ w / 100 < 1000000 by omega)]
  by_cases h9 : w < 1000000000
  · rw [if_pos h9, if_pos (show w / 100 < 10000000 by omega)]
  rw [if_neg h9, if_neg (show ¬ w / 100 < 10000000 by omega)]
  rw [if_pos (show w / 100 < 100000000 by omega)]
theorem sb_negT {w : Nat} (h : w < 2 ^ 31) : (-nI w).toInt = -(w : Int) := by
  rw [Int32.toInt_neg, nI_toInt h]
  exact Int.bmod_eq_of_le (by omega) (by omega)
theorem sb_nle {a b : Nat} (ha : a < 2 ^ 31) (hb : b < 2 ^ 31) : -nI a ≤ -nI b ↔ b ≤ a := by
  rw [Int32.le_iff_toInt_le, sb_negT ha, sb_negT hb]
  omega
theorem sb_nlt {a b : Nat} (ha : a < 2 ^ 31) (hb : b < 2 ^ 31) : -nI a < -nI b ↔ b < a := by
  rw [Int32.lt_iff_toInt_lt, sb_negT ha, sb_negT hb]
  omega
theorem sb_cmp {A B : Prop} {x : Int32} (v c : Nat) (f : c ≤ v → A) (g : v < c → B) (hv : v < 2 ^ 31) (hx : x = -nI c := by rfl) (hc : c < 2 ^ 31 := by omega) : (-nI v ≤ x → A) ∧ (¬ -nI v ≤ x → B) := by
  subst hx
  rw [sb_nle hv hc]
  exact ⟨f, fun z => g (by omega)⟩
theorem sb_ndiv {w : Nat} (hw : w < 2 ^ 31) : (-nI w) / 100 = -nI (w / 100) := by
  apply Int32.toInt_inj.mp
  have h100 : (100 : Int32).toInt = 100 := by decide
  rw [Int32.toInt_div, sb_negT hw, h100, sb_negT (by omega), Int.neg_tdiv, Int.tdiv_eq_ediv_of_nonneg (by omega), Int.bmod_eq_of_le (by omega) (by omega)]
  omega
theorem sb_nrem {w : Nat} (hw : w < 2 ^ 31) : (-nI (w / 100)) * 100 - (-nI w) = nI (w % 100) := by
  have h := pk_rem (a := w) (d := 100) hw (by decide) (by decide)
  rw [pk_div hw (by decide) (by decide)] at h
  rw [← h]
  show (-nI (w / 100)) * nI 100 - (-nI w) = nI w - nI (w / 100) * nI 100
  rw [Int32.neg_mul, Int32.sub_neg, Int32.add_comm, ← Int32.sub_eq_add_neg]
end
section
/-! rows on bits, shifts and unsigned numbers, to paste: each family out of a closed proof of our own, whole with what it rests on; each by itself clean at Lean in its own claim (generation 39, form 5). Take a family whole -/
/-! ===== Int32 by its bits: bt x i ===== -/
def bt (x : Int32) (i : Nat) : Bool := x.toBitVec.getLsbD i
theorem b_ext {x y : Int32} (h : ∀ i, i < 32 → bt x i = bt y i) : x = y := Int32.toBitVec_inj.mp (BitVec.eq_of_getLsbD_eq (fun i hi => h i hi))
theorem b_or (x y : Int32) (i : Nat) : bt (x ||| y) i = (bt x i || bt y i) := by unfold bt; rw [Int32.toBitVec_or, BitVec.getLsbD_or]
theorem b_and (x y : Int32) (i : Nat) : bt (x &&& y) i = (bt x i && bt y i) := by unfold bt; rw [Int32.toBitVec_and, BitVec.getLsbD_and]
theorem b_xor (x y : Int32) (i : Nat) : bt (x ^^^ y) i = (bt x i ^^ bt y i) := by unfold bt; rw [Int32.toBitVec_xor, BitVec.getLsbD_xor]
theorem b_big {x : Int32} {i : Nat} (h : 32 ≤ i) : bt x i = false := BitVec.getLsbD_of_ge _ _ h
theorem b_255 (i : Nat) : bt 255 i = decide (i < 8) := by
  rcases Nat.lt_or_ge i 32 with h | h
  · exact (by decide +kernel : ∀ i, i < 32 → bt 255 i = decide (i < 8)) i h
  · rw [b_big h, decide_eq_false (by omega)]
theorem b_65535 (i : Nat) : bt 65535 i = decide (i < 16) := by
  rcases Nat.lt_or_ge i 32 with h | h
  · exact (by decide +kernel : ∀ i, i < 32 → bt 65535 i = decide (i < 16)) i h
  · rw [b_big h, decide_eq_false (by omega)]
theorem b_m1 : ∀ i, i < 32 → bt (-1) i = true := by decide +kernel
theorem b_0 (i : Nat) : bt 0 i = false := BitVec.getLsbD_zero
theorem s_l : ∀ n, n < 32 → ((nI n &&& 31).toBitVec.smod 32).toNat = n := by decide +kernel
theorem s_u : ∀ n, n < 32 → (((nI n).toUInt32 &&& Int32.toUInt32 31).toBitVec % 32).toNat = n := by decide +kernel
theorem b_shl (n : Nat) (hn : n < 32) (x : Int32) {i : Nat} (hi : i < 32) : bt (x <<< (nI n &&& 31)) i = (decide (n ≤ i) && bt x (i - n)) := by
  unfold bt
  rw [Int32.toBitVec_shiftLeft]
  show (x.toBitVec <<< ((nI n &&& 31).toBitVec.smod 32).toNat).getLsbD i = _
  rw [s_l n hn, BitVec.getLsbD_shiftLeft]
  rcases Nat.lt_or_ge i n with h | h
  · simp [h, Nat.not_le.mpr h]
  · simp [hi, h, Nat.not_lt.mpr h]
theorem b_ushr (n : Nat) (hn : n < 32) (x : Int32) (i : Nat) : bt ((x.toUInt32 >>> ((nI n).toUInt32 &&& Int32.toUInt32 31)).toInt32) i = bt x (n + i) := by
  show (x.toUInt32 >>> ((nI n).toUInt32 &&& Int32.toUInt32 31)).toBitVec.getLsbD i = x.toUInt32.toBitVec.getLsbD (n + i)
  rw [UInt32.toBitVec_shiftRight]
  show (x.toUInt32.toBitVec >>> (((nI n).toUInt32 &&& Int32.toUInt32 31).toBitVec % 32).toNat).getLsbD i = _
  rw [s_u n hn, BitVec.getLsbD_ushiftRight]
theorem b_sshr (n : Nat) (hn : n < 32) (x : Int32) {i : Nat} (hi : i < 32) : bt (x >>> (nI n &&& 31)) i = if n + i < 32 then bt x (n + i) else bt x 31 := by
  unfold bt
  rw [Int32.toBitVec_shiftRight]
  show (x.toBitVec.sshiftRight ((nI n &&& 31).toBitVec.smod 32).toNat).getLsbD i = _
  rw [s_l n hn, BitVec.getLsbD_sshiftRight, BitVec.msb_eq_getLsbD_last]
  simp [hi]
theorem b_shl8 (x : Int32) {i : Nat} (hi : i < 32) : bt (x <<< ((8 : Int32) &&& 31)) i = (decide (8 ≤ i) && bt x (i - 8)) := b_shl 8 (by omega) x hi
theorem b_shl16 (x : Int32) {i : Nat} (hi : i < 32) : bt (x <<< ((16 : Int32) &&& 31)) i = (decide (16 ≤ i) && bt x (i - 16)) := b_shl 16 (by omega) x hi
theorem b_shl24 (x : Int32) {i : Nat} (hi : i < 32) : bt (x <<< ((24 : Int32) &&& 31)) i = (decide (24 ≤ i) && bt x (i - 24)) := b_shl 24 (by omega) x hi
theorem b_sshr8 (x : Int32) {i : Nat} (hi : i < 32) : bt (x >>> ((8 : Int32) &&& 31)) i = if 8 + i < 32 then bt x (8 + i) else bt x 31 := b_sshr 8 (by omega) x hi
/-! ===== nI under and, xor, >>>, one bit, 65535 ===== -/
theorem nx_and (a b : Nat) : nI a &&& nI b = nI (a &&& b) := by
  apply Int32.toBitVec_inj.1
  show BitVec.ofNat 32 a &&& BitVec.ofNat 32 b = BitVec.ofNat 32 (a &&& b)
  apply BitVec.eq_of_getLsbD_eq
  intro i hi
  simp [hi]
theorem nx_xor (a b : Nat) : nI a ^^^ nI b = nI (a ^^^ b) := by
  apply Int32.toBitVec_inj.1
  show BitVec.ofNat 32 a ^^^ BitVec.ofNat 32 b = BitVec.ofNat 32 (a ^^^ b)
  apply BitVec.eq_of_getLsbD_eq
  intro i hi
  simp [hi]
theorem nx_cnt : ∀ j : Fin 32, (UInt32.ofNat j.val &&& Int32.toUInt32 31).toNat % 32 = j.val := by decide +kernel
theorem nx_ush {k j : Nat} (hk : k < 65536) (hj : j < 32) : ((nI k).toUInt32 >>> ((nI j).toUInt32 &&& Int32.toUInt32 31)).toInt32 = nI (k >>> j) := by
  have hs : k >>> j ≤ k := by
    rw [Nat.shiftRight_eq_div_pow]
    exact Nat.div_le_self _ _
  have e2 : UInt32.ofNat k >>> (UInt32.ofNat j &&& Int32.toUInt32 31) = UInt32.ofNat (k >>> j) := by
    apply UInt32.toNat_inj.1
    have h1 : (UInt32.ofNat k).toNat = k := Nat.mod_eq_of_lt (by omega)
    have h2 : (UInt32.ofNat (k >>> j)).toNat = k >>> j := Nat.mod_eq_of_lt (by omega)
    rw [UInt32.toNat_shiftRight, nx_cnt ⟨j, hj⟩, h1, h2]
  show (UInt32.ofNat k >>> (UInt32.ofNat j &&& Int32.toUInt32 31)).toInt32 = _
  rw [e2]
  rfl
theorem nx_bit {k j : Nat} (hk : k < 65536) (hj : j < 16) : (((nI k).toUInt32 >>> ((nI j).toUInt32 &&& Int32.toUInt32 31)).toInt32 &&& 1) = 0 ↔ k.testBit j = false := by
  rw [nx_ush hk (by omega)]
  show nI (k >>> j) &&& nI 1 = 0 ↔ _
  rw [nx_and, Nat.and_one_is_mod, ← nI_0, nI_eq (by omega) (by omega), Nat.testBit_eq_decide_div_mod_eq, Nat.shiftRight_eq_div_pow, decide_eq_false_iff_not]
  generalize k / 2 ^ j = z
  omega
theorem nx_mod (k : Nat) : nI k &&& 65535 = nI (k % 65536) := by
  show nI k &&& nI 65535 = _
  rw [nx_and, show (65535 : Nat) = 2 ^ 16 - 1 from rfl, Nat.and_two_pow_sub_one_eq_mod]
theorem nx_m16 {k : Nat} (h : k < 65536) : nI k &&& 65535 = nI k := by rw [nx_mod, Nat.mod_eq_of_lt h]
theorem nx_mask (x : Int32) : ∃ k, k < 65536 ∧ x &&& 65535 = nI k := by
  have e : x = nI x.toBitVec.toNat := by
    apply Int32.toBitVec_inj.1
    show x.toBitVec = BitVec.ofNat 32 x.toBitVec.toNat
    simp
  refine ⟨x.toBitVec.toNat % 65536, Nat.mod_lt _ (by omega), ?_⟩
  rw [← nx_mod, ← e]
/-! ===== Int32 as a set of bits: test, set ===== -/
def nf_M (m : Int32) : Nat := 4294967296 - m.toBitVec.toNat
theorem nf_sh : ∀ l, l < 32 → ((1 : Int32) <<< (nI l &&& 31)).toBitVec = BitVec.twoPow 32 l := by decide +kernel
theorem nf_sl : ∀ l, l < 32 → (((nI l).toUInt32 &&& Int32.toUInt32 31).toBitVec % 32).toNat = l := by decide +kernel
theorem nf_tp : ∀ l, l < 32 → BitVec.twoPow 32 l ≠ 0#32 := by decide +kernel
theorem nf_bit (m : Int32) (l : Nat) (hl : l < 32) : ((m.toUInt32 >>> ((nI l).toUInt32 &&& Int32.toUInt32 31)).toInt32 &&& 1) = 0 ↔ (m &&& ((1 : Int32) <<< (nI l &&& 31))) = 0 := by
  have e : ((m.toUInt32 >>> ((nI l).toUInt32 &&& Int32.toUInt32 31)).toInt32).toBitVec = m.toBitVec >>> l := by
    show m.toBitVec >>> (((nI l).toUInt32 &&& Int32.toUInt32 31).toBitVec % 32) = m.toBitVec >>> l
    rw [BitVec.ushiftRight_eq', nf_sl l hl]
  rw [← Int32.toBitVec_inj, ← Int32.toBitVec_inj, Int32.toBitVec_and, Int32.toBitVec_and, nf_sh l hl, e, BitVec.and_twoPow]
  show (m.toBitVec >>> l &&& 1#32) = 0#32 ↔ _ = 0#32
  rw [BitVec.and_one_eq_setWidth_ofBool_getLsbD, BitVec.getLsbD_ushiftRight, Nat.add_zero]
  cases hb : m.toBitVec.getLsbD l
  · exact ⟨fun _ => by simp, fun _ => by decide⟩
  · exact ⟨fun z => absurd z (by decide), fun z => absurd ((if_pos rfl).symm.trans z) (nf_tp l hl)⟩
theorem nf_gr (m k : Int32) (h : m &&& k = 0) (hk : k ≠ 0) : nf_M (m ||| k) < nf_M m := by
  have hm := m.toBitVec.isLt
  have hm' := (m ||| k).toBitVec.isLt
  have h1 : m.toBitVec.toNat ≤ (m ||| k).toBitVec.toNat := by
    rw [Int32.toBitVec_or, BitVec.toNat_or]
    exact Nat.left_le_or
  have h2 : m.toBitVec.toNat ≠ (m ||| k).toBitVec.toNat := by
    intro e
    have e2 : m = m ||| k := Int32.toBitVec_inj.mp (BitVec.eq_of_toNat_eq e)
    apply hk
    apply Int32.toBitVec_inj.mp
    show k.toBitVec = 0#32
    apply BitVec.eq_of_getLsbD_eq
    intro i hi
    have a : m.toBitVec.getLsbD i = (m.toBitVec.getLsbD i || k.toBitVec.getLsbD i) := by rw [← BitVec.getLsbD_or, ← Int32.toBitVec_or, ← e2]
    have b : (m.toBitVec.getLsbD i && k.toBitVec.getLsbD i) = false := by
      rw [← BitVec.getLsbD_and, ← Int32.toBitVec_and, h]
      exact BitVec.getLsbD_zero
    rw [BitVec.getLsbD_zero]
    revert a b
    cases m.toBitVec.getLsbD i <;> cases k.toBitVec.getLsbD i <;> simp
  unfold nf_M
  omega
/-! ===== a byte read unsigned ===== -/
theorem bp_b (x : Int32) : x.toInt8.toInt32 &&& 255 = x &&& 255 := by
  apply Int32.toBitVec_inj.mp
  rw [Int32.toBitVec_and, Int32.toBitVec_and, Int8.toBitVec_toInt32, Int32.toBitVec_toInt8]
  apply BitVec.eq_of_getLsbD_eq
  intro i hi
  rw [BitVec.getLsbD_and, BitVec.getLsbD_and]
  have hm : ∀ i < 32, 8 ≤ i → (255 : Int32).toBitVec.getLsbD i = false := by decide
  rcases Nat.lt_or_ge i 8 with z | z
  · rw [BitVec.getLsbD_signExtend, BitVec.getLsbD_signExtend, if_pos z, if_pos hi]
    simp only [z, hi, decide_true, Bool.true_and]
  · rw [hm i hi z]; simp
/-! ===== the char cast and 65535 ===== -/
theorem em_w (v : Int32) : ∃ w : Nat, w < 65536 ∧ (v.toUInt32 % 65536).toInt32 = nI w ∧ v &&& 65535 = nI w := by
  have hr := lw_u16_r v
  have h0 : (0 : Int32).toInt = 0 := by decide
  obtain ⟨w, h1, h2⟩ := nI_of (x := lw_u16 v) (by rw [Int32.lt_iff_toInt_lt]; omega)
  have h3 : (v.toUInt32 % 65536).toInt32 = nI w := h2
  rw [h2, nI_toInt h1] at hr
  exact ⟨w, by omega, h3, by rw [← lg_i2c_mask, ← lg_i2c_nf, h3]⟩
/-! ===== Int64 as a set of bits: test, set, clear ===== -/
theorem ts_nf {x : Bool} (h : ¬ x = false) : x = true := by cases x <;> first | rfl | exact absurd rfl h
theorem ts_nt {x : Bool} (h : ¬ x = true) : x = false := by cases x <;> first | rfl | exact absurd rfl h
theorem ts_bit {w : Int64} {s : UInt64} {j : Nat} (hj : j < 64) (hs : s.toNat = j) : ((w.toUInt64 >>> s).toInt64 &&& 1) = 0 ↔ w.toBitVec.getLsbD j = false := by
  have e : (w.toUInt64 >>> s).toInt64.toBitVec = w.toBitVec >>> j := by
    apply BitVec.eq_of_toNat_eq
    show (w.toUInt64 >>> s).toNat = _
    rw [UInt64.toNat_shiftRight, hs, Nat.mod_eq_of_lt hj, BitVec.toNat_ushiftRight]
    rfl
  rw [← Int64.toBitVec_inj, Int64.toBitVec_and, e]
  show w.toBitVec >>> j &&& 1#64 = 0#64 ↔ _
  constructor
  · intro h
    have t := congrArg (fun x => x.getLsbD 0) h
    simpa using t
  · intro h
    apply BitVec.eq_of_getLsbD_eq
    intro i hi
    cases i with
    | zero => simp [h]
    | succ i => simp
theorem ts_or {w m : Int64} {j : Nat} (hj : j < 64) (hm : m.toBitVec = BitVec.twoPow 64 j) : (w ||| m) = w ↔ w.toBitVec.getLsbD j = true := by
  rw [← Int64.toBitVec_inj, Int64.toBitVec_or, hm]
  constructor
  · intro h
    have t := congrArg (fun x => x.getLsbD j) h
    simp only [BitVec.getLsbD_or, BitVec.getLsbD_twoPow] at t
    simpa [hj] using t.symm
  · intro h
    apply BitVec.eq_of_getLsbD_eq
    intro i hi
    rw [BitVec.getLsbD_or, BitVec.getLsbD_twoPow]
    by_cases e : j = i
    · subst e; rw [h, Bool.true_or]
    · simp [e]
theorem ts_and {w m : Int64} {j : Nat} (hj : j < 64) (hm : m.toBitVec = BitVec.twoPow 64 j) : (w &&& (m ^^^ (-1))) = w ↔ w.toBitVec.getLsbD j = false := by
  have ha : (-1 : Int64).toBitVec = BitVec.allOnes 64 := by decide
  rw [← Int64.toBitVec_inj, Int64.toBitVec_and, Int64.toBitVec_xor, hm, ha]
  constructor
  · intro h
    have t := congrArg (fun x => x.getLsbD j) h
    simp only [BitVec.getLsbD_and, BitVec.getLsbD_xor, BitVec.getLsbD_twoPow, BitVec.getLsbD_allOnes] at t
    simpa [hj] using t.symm
  · intro h
    apply BitVec.eq_of_getLsbD_eq
    intro i hi
    rw [BitVec.getLsbD_and, BitVec.getLsbD_xor, BitVec.getLsbD_twoPow, BitVec.getLsbD_allOnes]
    by_cases e : j = i
    · subst e; rw [h, Bool.false_and]
    · simp [e, hi]
/-! ===== lN n to 2^64: shifts, and, or, masks, one bit ===== -/
theorem wb_tb (n : Nat) : (lN n).toBitVec = BitVec.ofNat 64 n := rfl
theorem wb_inj {a b : Int64} (h : a.toBitVec = b.toBitVec) : a = b := Int64.toBitVec_inj.mp h
theorem wb_tn {n : Nat} (h : n < 2 ^ 64) : (lN n).toBitVec.toNat = n := by rw [wb_tb, BitVec.toNat_ofNat, Nat.mod_eq_of_lt h]
theorem wb_of (x : Int64) : ∃ n, n < 2 ^ 64 ∧ x = lN n := ⟨x.toBitVec.toNat, x.toBitVec.isLt, wb_inj (by rw [wb_tb]; simp)⟩
theorem wb_of32 (x : Int32) : ∃ n, n < 2 ^ 32 ∧ x = nI n := ⟨x.toBitVec.toNat, x.toBitVec.isLt, Int32.toBitVec_inj.mp (by show _ = BitVec.ofNat 32 _; simp)⟩
theorem wb_c : ∀ k, k < 64 → ((nI k).toInt64 &&& 63) = lN k := by decide +kernel
theorem wb_cu : ∀ k, k < 64 → ((nI k).toInt64.toUInt64 &&& Int64.toUInt64 63) = UInt64.ofNat k := by decide +kernel
theorem wb_sm : ∀ k, k < 64 → (BitVec.ofNat 64 k).smod 64 = BitVec.ofNat 64 k := by decide +kernel
theorem wb_pw {a b : Nat} (h : a ≤ b) : 2 ^ b = 2 ^ a * 2 ^ (b - a) := by rw [← Nat.pow_add]; congr 1; omega
theorem wb_lt2 {a b : Nat} (h : a < b) : 2 ^ a < 2 ^ b := Nat.pow_lt_pow_right (by decide) h
theorem wb_mod (n : Nat) : lN n = lN (n % 2 ^ 64) := wb_inj (by rw [wb_tb, wb_tb]; apply BitVec.eq_of_toNat_eq; rw [BitVec.toNat_ofNat, BitVec.toNat_ofNat, Nat.mod_mod])
theorem wb_shr {n k : Nat} (hn : n < 2 ^ 64) (hk : k < 64) : ((lN n).toUInt64 >>> ((nI k).toInt64.toUInt64 &&& Int64.toUInt64 63)).toInt64 = lN (n / 2 ^ k) := by
  rw [wb_cu k hk]
  apply wb_inj
  apply BitVec.eq_of_toNat_eq
  show ((lN n).toUInt64 >>> UInt64.ofNat k).toNat = (BitVec.ofNat 64 _).toNat
  have h1 : (UInt64.ofNat k).toNat = k := by
    show (BitVec.ofNat 64 k).toNat = k
    rw [BitVec.toNat_ofNat, Nat.mod_eq_of_lt (by omega)]
  have h2 : (lN n).toUInt64.toNat = n := wb_tn hn
  rw [UInt64.toNat_shiftRight, h1, h2, Nat.mod_eq_of_lt hk, Nat.shiftRight_eq_div_pow, BitVec.toNat_ofNat, Nat.mod_eq_of_lt (Nat.lt_of_le_of_lt (Nat.div_le_self _ _) hn)]
theorem wb_shl (n : Nat) {k : Nat} (hk : k < 64) : lN n <<< ((nI k).toInt64 &&& 63) = lN (n * 2 ^ k) := by
  rw [wb_c k hk]
  apply wb_inj
  rw [Int64.toBitVec_shiftLeft, wb_tb, wb_tb, wb_tb, wb_sm k hk]
  apply BitVec.eq_of_toNat_eq
  rw [BitVec.shiftLeft_eq', BitVec.toNat_shiftLeft, BitVec.toNat_ofNat, BitVec.toNat_ofNat, BitVec.toNat_ofNat, Nat.mod_eq_of_lt (show k < 2 ^ 64 by omega), Nat.shiftLeft_eq, Nat.mul_mod, Nat.mod_mod, ← Nat.mul_mod]
theorem wb_and {a b : Nat} (ha : a < 2 ^ 64) (hb : b < 2 ^ 64) : lN a &&& lN b = lN (a &&& b) := by
  apply wb_inj
  rw [Int64.toBitVec_and, wb_tb, wb_tb, wb_tb]
  apply BitVec.eq_of_toNat_eq
  rw [BitVec.toNat_and, BitVec.toNat_ofNat, BitVec.toNat_ofNat, BitVec.toNat_ofNat, Nat.mod_eq_of_lt ha, Nat.mod_eq_of_lt hb, Nat.mod_eq_of_lt (Nat.and_lt_two_pow _ hb)]
theorem wb_or {a b : Nat} (ha : a < 2 ^ 64) (hb : b < 2 ^ 64) : lN a ||| lN b = lN (a ||| b) := by
  apply wb_inj
  rw [Int64.toBitVec_or, wb_tb, wb_tb, wb_tb]
  apply BitVec.eq_of_toNat_eq
  rw [BitVec.toNat_or, BitVec.toNat_ofNat, BitVec.toNat_ofNat, BitVec.toNat_ofNat, Nat.mod_eq_of_lt ha, Nat.mod_eq_of_lt hb, Nat.mod_eq_of_lt (Nat.or_lt_two_pow ha hb)]
theorem wb_mask {n k : Nat} (hn : n < 2 ^ 64) (hk : k < 64) : lN n &&& lN (2 ^ k - 1) = lN (n % 2 ^ k) := by
  rw [wb_and hn (by have := wb_lt2 hk; omega), Nat.and_two_pow_sub_one_eq_mod]
theorem wb_a1 {n : Nat} (hn : n < 2 ^ 64) : lN n &&& 1 = lN (n % 2) := wb_mask (k := 1) hn (by decide)
theorem wb_bit {n k : Nat} (hn : n < 2 ^ 64) (hk : k < 64) : ((lN n).toUInt64 >>> ((nI k).toInt64.toUInt64 &&& Int64.toUInt64 63)).toInt64 &&& 1 = lN (n / 2 ^ k % 2) := by
  rw [wb_shr hn hk, wb_a1 (Nat.lt_of_le_of_lt (Nat.div_le_self _ _) hn)]
theorem wb_xor {q k : Nat} (hk : k < 63) (h : 2 ^ k ≤ q) (h2 : q < 2 ^ (k + 1)) : lN q ^^^ lN (2 ^ k) = lN (q - 2 ^ k) := by
  obtain ⟨r, rfl⟩ : ∃ r, q = 2 ^ k + r := ⟨q - 2 ^ k, by omega⟩
  have hr : r < 2 ^ k := by rw [Nat.pow_succ] at h2; omega
  have hx : (2 ^ k + r) ^^^ 2 ^ k = r := by
    apply Nat.eq_of_testBit_eq
    intro i
    rw [Nat.testBit_xor, Nat.testBit_two_pow]
    rcases Nat.lt_trichotomy i k with h | h | h
    · rw [Nat.testBit_two_pow_add_gt h]
      simp [show ¬ k = i by omega]
    · subst h
      rw [Nat.testBit_two_pow_add_eq]
      simp
    · have a1 : 2 ^ (k + 1) ≤ 2 ^ i := Nat.pow_le_pow_right (by decide) h
      rw [Nat.testBit_lt_two_pow (show 2 ^ k + r < 2 ^ i by omega), Nat.testBit_lt_two_pow (show r < 2 ^ i by omega)]
      simp [show ¬ k = i by omega]
  have b1 := wb_lt2 (show k + 1 < 64 by omega)
  have b2 := wb_lt2 (show k < 64 by omega)
  apply wb_inj
  rw [Int64.toBitVec_xor, wb_tb, wb_tb, wb_tb]
  apply BitVec.eq_of_toNat_eq
  rw [BitVec.toNat_xor, BitVec.toNat_ofNat, BitVec.toNat_ofNat, BitVec.toNat_ofNat, Nat.mod_eq_of_lt (by omega : 2 ^ k + r < 2 ^ 64), Nat.mod_eq_of_lt b2, hx, Nat.add_sub_cancel_left, Nat.mod_eq_of_lt (by omega)]
/-! ===== lN: masks, 'or' of parts that don't overlap is a sum ===== -/
theorem u_tn {n : Nat} (h : n < 2 ^ 64) : (UInt64.ofNat n).toNat = n := Nat.mod_eq_of_lt h
theorem g_and {a b c : Nat} (ha : a < 2 ^ 64) (hb : b < 2 ^ 64) (hc : a &&& b = c) : lN a &&& lN b = lN c := by
  subst hc
  have h : UInt64.ofNat a &&& UInt64.ofNat b = UInt64.ofNat (a &&& b) := UInt64.toNat_inj.mp (by rw [UInt64.toNat_and, u_tn ha, u_tn hb, u_tn (Nat.and_lt_two_pow a hb)])
  have h2 := congrArg UInt64.toInt64 h
  exact h2
theorem g_and1 {a : Nat} (ha : a < 2 ^ 64) : lN a &&& 1 = lN (a % 2) := g_and (b := 1) ha (by decide) (Nat.and_two_pow_sub_one_eq_mod a 1)
theorem g_mask {a s p : Nat} (hp : 2 ^ s = p) (hs : s < 64) (ha : a < 2 ^ 64) : lN a &&& lN (p - 1) = lN (a % p) := by
  subst hp
  have := Nat.pow_lt_pow_right (show 1 < 2 by decide) hs
  exact g_and ha (by omega) (Nat.and_two_pow_sub_one_eq_mod a s)
theorem g_or {k p a b : Nat} (hp : 2 ^ k = p) (ha : a < p) (h : b * p + a < 2 ^ 64) : lN (b * p) ||| lN a = lN (b * p + a) := by
  subst hp
  have h1 : b * 2 ^ k ||| a = b * 2 ^ k + a := by rw [← Nat.shiftLeft_eq, Nat.shiftLeft_add_eq_or_of_lt ha]
  have h3 : UInt64.ofNat (b * 2 ^ k) ||| UInt64.ofNat a = UInt64.ofNat (b * 2 ^ k + a) := UInt64.toNat_inj.mp (by rw [UInt64.toNat_or, u_tn (by omega), u_tn (by omega), u_tn h, h1])
  have h2 := congrArg UInt64.toInt64 h3
  exact h2
theorem g_or' {k p a b : Nat} (hp : 2 ^ k = p) (ha : a < p) (h : a + b * p < 2 ^ 64) : lN a ||| lN (b * p) = lN (a + b * p) := by
  rw [Int64.or_comm, g_or hp ha (by omega), Nat.add_comm]
theorem g_ushr {a k p : Nat} {y : UInt64} (hy : y = UInt64.ofNat k) (hk : k < 64) (hp : 2 ^ k = p) (ha : a < 2 ^ 64) : ((lN a).toUInt64 >>> y).toInt64 = lN (a / p) := by
  subst hy hp
  have h : UInt64.ofNat a >>> UInt64.ofNat k = UInt64.ofNat (a / 2 ^ k) := UInt64.toNat_inj.mp (by rw [UInt64.toNat_shiftRight, u_tn ha, u_tn (by omega), u_tn (Nat.lt_of_le_of_lt (Nat.div_le_self _ _) ha), Nat.mod_eq_of_lt hk, Nat.shiftRight_eq_div_pow])
  have h2 := congrArg UInt64.toInt64 h
  exact h2
theorem g_shl {a k p : Nat} {y : Int64} (hy : y.toBitVec.smod 64 = BitVec.ofNat 64 k) (hk : k < 64) (hp : 2 ^ k = p) (ha : a < 2 ^ 64) : lN a <<< y = lN (a * p) := by
  subst hp
  apply Int64.toBitVec_inj.mp
  rw [Int64.toBitVec_shiftLeft, hy]
  apply BitVec.eq_of_toNat_eq
  have hb : (lN a).toBitVec.toNat = a := Nat.mod_eq_of_lt ha
  have hk' : (BitVec.ofNat 64 k).toNat = k := Nat.mod_eq_of_lt (by omega)
  have h : ((lN a).toBitVec <<< BitVec.ofNat 64 k).toNat = (a * 2 ^ k) % 2 ^ 64 := by simp only [BitVec.shiftLeft_eq', BitVec.toNat_shiftLeft, hb, hk', Nat.shiftLeft_eq]
  exact h
/-! ===== lN to 2^62 under >> and >>> ===== -/
theorem pf_lI {a : Nat} (h : a < 2 ^ 63) : (lN a).toInt = (a : Int) := lg_ofNat_toInt h
theorem pf_shr {a d : Nat} {D : Int64} (hD : (D.toBitVec.smod 64).toNat = d) (h : a < 2 ^ 62) : lN a >>> D = lN (a / 2 ^ d) := by
  have hd : a / 2 ^ d ≤ a := Nat.div_le_self _ _
  apply Int64.toInt_inj.mp
  have e : (lN a >>> D).toInt = (lN a).toInt >>> d := by
    rw [← hD]
    exact BitVec.toInt_sshiftRight ..
  rw [e, Int.shiftRight_eq_div_pow, pf_lI (by omega), pf_lI (by omega)]
  rfl
theorem pf_ushr {a d : Nat} {D : UInt64} (hD : D.toNat % 64 = d) (h : a < 2 ^ 62) : ((lN a).toUInt64 >>> D).toInt64 = lN (a / 2 ^ d) := by
  have hd : a / 2 ^ d ≤ a := Nat.div_le_self _ _
  have e : (lN a).toUInt64 >>> D = UInt64.ofNat (a / 2 ^ d) := UInt64.toNat_inj.mp (by
    rw [UInt64.toNat_shiftRight, hD, Nat.shiftRight_eq_div_pow, UInt64.toNat_ofNat']
    show (UInt64.ofNat a).toNat / 2 ^ d = _
    rw [UInt64.toNat_ofNat', Nat.mod_eq_of_lt (by omega), Nat.mod_eq_of_lt (by omega)])
  rw [e]
  rfl
theorem pf_andw (x : Int64) : ∃ m, m < 2 ^ 32 ∧ x &&& 4294967295 = lN m := ⟨x.toBitVec.toNat % 2 ^ 32, Nat.mod_lt _ (by decide), Int64.toBitVec_inj.mp (BitVec.eq_of_toNat_eq (by
  show (x.toBitVec &&& 4294967295#64).toNat = (BitVec.ofNat 64 (x.toBitVec.toNat % 2 ^ 32)).toNat
  rw [BitVec.toNat_and, show (4294967295#64).toNat = 2 ^ 32 - 1 from by decide, Nat.and_two_pow_sub_one_eq_mod, BitVec.toNat_ofNat]
  omega))⟩
/-! ===== Int64 as an unsigned number: uN x ===== -/
def uN (x : Int64) : Nat := x.toUInt64.toNat
theorem uN_lt (x : Int64) : uN x < 18446744073709551616 := x.toUInt64.toNat_lt
theorem uN_inj {x y : Int64} (h : uN x = uN y) : x = y := congrArg UInt64.toInt64 (UInt64.toNat_inj.mp h)
theorem uN_add (x y : Int64) : uN (x + y) = (uN x + uN y) % 18446744073709551616 := by
  show (x.toUInt64 + y.toUInt64).toNat = _
  exact UInt64.toNat_add _ _
theorem uN_mul (x y : Int64) : uN (x * y) = (uN x * uN y) % 18446744073709551616 := by
  show (x.toUInt64 * y.toUInt64).toNat = _
  exact UInt64.toNat_mul _ _
theorem uN_shl (x : Int64) : uN (x <<< ((1 : Int32).toInt64 &&& 63)) = (2 * uN x) % 18446744073709551616 := by
  have h : (((1 : Int32).toInt64 &&& 63).toBitVec.smod 64).toNat = 1 := by decide
  show (x.toBitVec <<< (((1 : Int32).toInt64 &&& 63).toBitVec.smod 64).toNat).toNat = _
  rw [h, BitVec.toNat_shiftLeft, Nat.shiftLeft_eq, Nat.mul_comm]
  rfl
theorem uN_shr (x : Int64) (s : UInt64) : uN (x.toUInt64 >>> s).toInt64 = uN x / 2 ^ (s.toNat % 64) := by
  show (x.toUInt64 >>> s).toNat = _
  rw [UInt64.toNat_shiftRight, Nat.shiftRight_eq_div_pow]
  rfl
theorem uN_s32 (x : Int64) : uN (x.toUInt64 >>> ((32 : Int32).toInt64.toUInt64 &&& Int64.toUInt64 63)).toInt64 = uN x / 4294967296 := by
  have h : ((32 : Int32).toInt64.toUInt64 &&& Int64.toUInt64 63).toNat % 64 = 32 := by decide
  rw [uN_shr, h]
theorem uN_s63 (x : Int64) : uN (x.toUInt64 >>> ((63 : Int32).toInt64.toUInt64 &&& Int64.toUInt64 63)).toInt64 = uN x / 9223372036854775808 := by
  have h : ((63 : Int32).toInt64.toUInt64 &&& Int64.toUInt64 63).toNat % 64 = 63 := by decide
  rw [uN_shr, h]
theorem uN_lo (x : Int64) : uN (x &&& 4294967295) = uN x % 4294967296 := by
  show (x.toUInt64 &&& Int64.toUInt64 4294967295).toNat = _
  rw [UInt64.toNat_and]
  exact Nat.and_two_pow_sub_one_eq_mod _ 32
theorem uN_bit (x : Int64) : (x &&& 1) = 0 ↔ uN x % 2 = 0 := by
  have h : uN (x &&& 1) = uN x % 2 := by
    show (x.toUInt64 &&& Int64.toUInt64 1).toNat = _
    rw [UInt64.toNat_and]
    exact Nat.and_two_pow_sub_one_eq_mod _ 1
  rw [← h]
  exact ⟨fun z => by rw [z]; rfl, fun z => uN_inj (z.trans rfl)⟩
theorem uN_or {x y : Int64} (hy : uN y < 2) : uN ((x <<< ((1 : Int32).toInt64 &&& 63)) ||| y) = (2 * uN x) % 18446744073709551616 + uN y := by
  have h1 : uN ((x <<< ((1 : Int32).toInt64 &&& 63)) ||| y) = uN (x <<< ((1 : Int32).toInt64 &&& 63)) ||| uN y := UInt64.toNat_or _ _
  have h2 : (2 * uN x) % 18446744073709551616 = 2 ^ 1 * (uN x % 9223372036854775808) := by omega
  rw [h1, uN_shl, h2]
  exact (Nat.two_pow_add_eq_or_of_lt (i := 1) hy _).symm
theorem nat_xor {a : Nat} (h : a < 18446744073709551616) : a ^^^ 2 ^ 63 = (a + 9223372036854775808) % 18446744073709551616 := by
  have h1 : (a ^^^ 2 ^ 63) % 2 ^ 63 = a % 2 ^ 63 := by rw [Nat.xor_mod_two_pow, Nat.mod_self, Nat.xor_zero]
  have h2 : (a ^^^ 2 ^ 63) / 2 ^ 63 = (a / 2 ^ 63) ^^^ 1 := by rw [Nat.xor_div_two_pow, Nat.div_self (Nat.two_pow_pos 63)]
  have h3 : a / 2 ^ 63 = 0 ∨ a / 2 ^ 63 = 1 := by omega
  generalize a ^^^ 2 ^ 63 = t at h1 h2
  rcases h3 with h3 | h3
  · rw [h3] at h2
    have h2 : t / 2 ^ 63 = 1 := h2
    omega
  · rw [h3] at h2
    have h2 : t / 2 ^ 63 = 0 := h2
    omega
theorem uN_xor (x : Int64) : uN (x ^^^ (-9223372036854775808)) = (uN x + 9223372036854775808) % 18446744073709551616 := by
  rw [← nat_xor (uN_lt x)]
  exact UInt64.toNat_xor _ _
theorem uN_int (x : Int64) : x.toInt = if 2 * uN x < 18446744073709551616 then (uN x : Int) else (uN x : Int) - 18446744073709551616 := BitVec.toInt_eq_toNat_cond _
theorem uN_le (x y : Int64) : (x ^^^ (-9223372036854775808)) ≤ (y ^^^ (-9223372036854775808)) ↔ uN x ≤ uN y := by
  have hx := uN_lt x
  have hy := uN_lt y
  rw [Int64.le_iff_toInt_le, uN_int, uN_int, uN_xor, uN_xor]
  omega
theorem uN_sk (x : Int64) {k : Nat} (hk : k < 64) : uN (x.toUInt64 >>> ((nI k).toInt64.toUInt64 &&& Int64.toUInt64 63)).toInt64 = uN x / 2 ^ k := by
  have h : ((nI k).toInt64.toUInt64 &&& Int64.toUInt64 63).toNat % 64 = k := by
    rw [nI_l (by omega), UInt64.toNat_and]
    have e : (lN k).toUInt64.toNat = k % 2 ^ 64 := rfl
    have e2 : (Int64.toUInt64 63).toNat = 2 ^ 6 - 1 := by decide
    rw [e, e2, Nat.and_two_pow_sub_one_eq_mod]
    omega
  rw [uN_shr, h]
/-! ===== unsigned comparison by xor with the least ===== -/
theorem lN_bv (n : Nat) : (lN n).toBitVec = BitVec.ofNat 64 n := rfl
theorem lN_nat {n : Nat} (h : n < 2 ^ 64) : (lN n).toBitVec.toNat = n := by rw [lN_bv, BitVec.toNat_ofNat]; exact Nat.mod_eq_of_lt h
theorem lN_xor (a b : Nat) : lN a ^^^ lN b = lN (a ^^^ b) := by
  apply Int64.toBitVec_inj.mp; rw [Int64.toBitVec_xor, lN_bv, lN_bv, lN_bv]; apply BitVec.eq_of_getLsbD_eq; intro i hi; simp [BitVec.getLsbD_ofNat, Nat.testBit_xor, hi]
theorem lN_ti {m : Nat} (h : m < 2 ^ 64) : (lN m).toInt = if m < 2 ^ 63 then (m : Int) else (m : Int) - 2 ^ 64 := by
  have c := BitVec.toInt_eq_toNat_cond (lN m).toBitVec
  rw [lN_nat h] at c
  show (lN m).toBitVec.toInt = _
  rw [c]
  split <;> split <;> omega
theorem xor63 {x : Nat} (h : x < 2 ^ 63) : x ^^^ 2 ^ 63 = 2 ^ 63 + x := by
  apply Nat.eq_of_testBit_eq
  intro i
  rw [Nat.testBit_xor, Nat.testBit_two_pow]
  rcases Nat.lt_trichotomy i 63 with z | z | z
  · rw [Nat.testBit_two_pow_add_gt z, decide_eq_false (by omega)]; simp
  · subst z; rw [Nat.testBit_two_pow_add_eq]; simp
  · have hp : 2 ^ 64 ≤ 2 ^ i := Nat.pow_le_pow_right (by decide) z
    rw [Nat.testBit_lt_two_pow (show x < 2 ^ i by omega), Nat.testBit_lt_two_pow (show 2 ^ 63 + x < 2 ^ i by omega), decide_eq_false (by omega)]; rfl
theorem xorS {a : Nat} (h : a < 2 ^ 64) : (lN a ^^^ (-9223372036854775808)).toInt = (a : Int) - 2 ^ 63 := by
  rw [show (-9223372036854775808 : Int64) = lN (2 ^ 63) from by decide +kernel, lN_xor]
  rcases Nat.lt_or_ge a (2 ^ 63) with z | z
  · rw [xor63 z, lN_ti (by omega), if_neg (by omega)]; omega
  · obtain ⟨x, rfl⟩ : ∃ x, a = 2 ^ 63 + x := ⟨a - 2 ^ 63, by omega⟩
    rw [← xor63 (by omega), Nat.xor_assoc, Nat.xor_self, Nat.xor_zero, lN_ti (by omega), if_pos (by omega), xor63 (by omega)]; omega
theorem ultL {a b : Nat} (ha : a < 2 ^ 64) (hb : b < 2 ^ 64) : ((lN b ^^^ (-9223372036854775808)) ≤ (lN a ^^^ (-9223372036854775808))) ↔ b ≤ a := by
  rw [Int64.le_iff_toInt_le, xorS ha, xorS hb]; omega
/-! ===== Int64 masks of n low bits ===== -/
theorem cr_bits (W U M : BitVec 64) : ((W &&& U) &&& (U &&& (M ^^^ BitVec.allOnes 64))) = 0#64 ↔ (W &&& U) &&& M = W &&& U := by
  constructor
  · intro h
    apply BitVec.eq_of_getLsbD_eq
    intro i hi
    have e := congrArg (fun x => BitVec.getLsbD x i) h
    simp only [BitVec.getLsbD_and, BitVec.getLsbD_xor, BitVec.getLsbD_allOnes, BitVec.getLsbD_zero, hi, decide_true] at e ⊢
    revert e
    cases W.getLsbD i <;> cases U.getLsbD i <;> cases M.getLsbD i <;> decide
  · intro h
    apply BitVec.eq_of_getLsbD_eq
    intro i hi
    have e := congrArg (fun x => BitVec.getLsbD x i) h
    simp only [BitVec.getLsbD_and, BitVec.getLsbD_xor, BitVec.getLsbD_allOnes, BitVec.getLsbD_zero, hi, decide_true] at e ⊢
    revert e
    cases W.getLsbD i <;> cases U.getLsbD i <;> cases M.getLsbD i <;> decide
theorem cr_mask (w U m : Int64) (n : Nat) (hm : m.toBitVec.toNat = 2 ^ n - 1) : ((w &&& U) &&& (U &&& (m ^^^ (-1)))) = 0 ↔ (w &&& U).toBitVec.toNat < 2 ^ n := by
  have e0 : (-1 : Int64).toBitVec = BitVec.allOnes 64 := by decide
  have z0 : (0 : Int64).toBitVec = 0#64 := by decide
  rw [← Int64.toBitVec_inj, z0, Int64.toBitVec_and, Int64.toBitVec_and, Int64.toBitVec_and, Int64.toBitVec_xor, e0, cr_bits]
  generalize w.toBitVec &&& U.toBitVec = T
  rw [← BitVec.toNat_inj, BitVec.toNat_and, hm, Nat.and_two_pow_sub_one_eq_mod]
  constructor
  · intro h
    have t := Nat.mod_lt T.toNat (Nat.two_pow_pos n)
    rw [h] at t
    exact t
  · exact Nat.mod_eq_of_lt
theorem cr_shr (t : Int64) (x : UInt64) (n : Nat) (hx : x.toNat % 64 = n) : (t.toUInt64 >>> x).toInt64 = 0 ↔ t.toBitVec.toNat < 2 ^ n := by
  rw [← Int64.toBitVec_inj, ← BitVec.toNat_inj]
  show (t.toUInt64 >>> x).toNat = 0 ↔ t.toUInt64.toNat < 2 ^ n
  rw [UInt64.toNat_shiftRight, hx, Nat.shiftRight_eq_div_pow]
  constructor
  · intro h
    have d : t.toUInt64.toNat / 2 ^ n < 1 := by
      rw [h]
      decide
    have e := (Nat.div_lt_iff_lt_mul (Nat.two_pow_pos n)).mp d
    rw [Nat.one_mul] at e
    exact e
  · exact Nat.div_eq_of_lt
theorem cr_amt (s : Int64) : ∃ n, n < 64 ∧ s &&& 63 = lN n ∧ (s.toUInt64 &&& Int64.toUInt64 63).toNat % 64 = n := by
  have e : (s.toUInt64 &&& Int64.toUInt64 63).toNat = s.toUInt64.toNat % 2 ^ 6 := by
    rw [UInt64.toNat_and, show (Int64.toUInt64 63).toNat = 2 ^ 6 - 1 from by decide, Nat.and_two_pow_sub_one_eq_mod]
  refine ⟨s.toUInt64.toNat % 2 ^ 6, by omega, ?_, by omega⟩
  rw [← Int64.toBitVec_inj, ← BitVec.toNat_inj]
  show (s.toUInt64 &&& Int64.toUInt64 63).toNat = (BitVec.ofNat 64 (s.toUInt64.toNat % 2 ^ 6)).toNat
  rw [e, BitVec.toNat_ofNat]
  omega
end
section
/-! arrays of small naturals, sums -/
def qa_u (f : Nat → Nat) (k v : Nat) : Nat → Nat := fun j => if j = k then v else f j
def qa_A (f : Nat → Nat) : Nat → Int32 := fun j => nI (f j)
theorem qa_us {f : Nat → Nat} {k v : Nat} : qa_u f k v k = v := if_pos rfl
theorem qa_un {f : Nat → Nat} {k v j : Nat} (h : j ≠ k) : qa_u f k v j = f j := if_neg h
theorem qa_ub {f : Nat → Nat} {k v b : Nat} (h : ∀ j, f j < b) (hv : v < b) : ∀ j, qa_u f k v j < b := by
  intro j
  by_cases e : j = k
  · subst e; rw [qa_us]; exact hv
  · rw [qa_un e]; exact h j
theorem qa_uu {f : Nat → Nat} {k v v' : Nat} (h : v' = f k) : qa_u (qa_u f k v) k v' = f := by
  funext j
  by_cases e : j = k
  · subst e; rw [qa_us, h]
  · rw [qa_un e, qa_un e]
theorem qa_upd (f : Nat → Nat) (k v : Nat) : upd (qa_A f) k (nI v) = qa_A (qa_u f k v) := by
  funext j
  by_cases e : j = k
  · subst e; rw [pk_us]; show _ = nI (qa_u f j v j); rw [qa_us]
  · rw [pk_un e]; show nI (f j) = nI (qa_u f k v j); rw [qa_un e]
theorem qa_at {f : Nat → Nat} {x : Nat} (h : x < 2 ^ 31) : qa_A f (nI x).toNatClampNeg = nI (f x) := by rw [nI_clamp h]; rfl
/-- the store at a numbered place of a number -/
theorem qa_st {f : Nat → Nat} {x v : Nat} (h : x < 2 ^ 31) : upd (qa_A f) (nI x).toNatClampNeg (nI v) = qa_A (qa_u f x v) := by rw [nI_clamp h, qa_upd]
def qa_s (f : Nat → Nat) : Nat → Nat
  | 0 => 0
  | n + 1 => qa_s f n + f n
theorem qa_sS (f : Nat → Nat) (n : Nat) : qa_s f (n + 1) = qa_s f n + f n := rfl
theorem qa_sc {f g : Nat → Nat} : ∀ n, (∀ i, i < n → f i = g i) → qa_s f n = qa_s g n := by
  intro n
  induction n with
  | zero => intro _; rfl
  | succ n ih => intro h; rw [qa_sS, qa_sS, ih (fun i hi => h i (by omega)), h n (by omega)]
theorem qa_mono {f : Nat → Nat} {i j : Nat} (h : i ≤ j) : qa_s f i ≤ qa_s f j := by
  obtain ⟨d, rfl⟩ := Nat.exists_eq_add_of_le h
  clear h
  induction d with
  | zero => exact Nat.le_refl _
  | succ d ih => rw [← Nat.add_assoc, qa_sS]; omega
theorem qa_slt {f : Nat → Nat} {i j : Nat} (h : i < j) : qa_s f i + f i ≤ qa_s f j := by
  rw [← qa_sS]; exact qa_mono h
theorem qa_sle {f : Nat → Nat} (hf : ∀ i, f i ≤ 1) : ∀ n, qa_s f n ≤ n := by
  intro n
  induction n with
  | zero => exact Nat.le_refl _
  | succ n ih => rw [qa_sS]; have := hf n; omega
theorem qa_find {f : Nat → Nat} (hf : ∀ i, f i ≤ 1) {p : Nat} : ∀ n, p < qa_s f n → ∃ q, q < n ∧ f q = 1 ∧ qa_s f q = p := by
  intro n
  induction n with
  | zero => intro h; exact absurd h (Nat.not_lt_zero _)
  | succ n ih =>
    intro h
    by_cases c : p < qa_s f n
    · obtain ⟨q, hq, r⟩ := ih c
      exact ⟨q, by omega, r⟩
    · rw [qa_sS] at h
      have := hf n
      exact ⟨n, by omega, by omega, by omega⟩
/-- a value put in at q: sums up to q stay, sums behind it grow -/
theorem qa_ins {f g : Nat → Nat} {q : Nat} (h1 : ∀ j, j < q → g j = f j) (h3 : ∀ j, q ≤ j → g (j + 1) = f j) : ∀ n, (n ≤ q → qa_s g n = qa_s f n) ∧ (q ≤ n → qa_s g (n + 1) = qa_s f n + g q) := by
  intro n
  induction n with
  | zero =>
    refine ⟨fun _ => rfl, fun h => ?_⟩
    have e : q = 0 := by omega
    subst e
    rfl
  | succ n ih =>
    have h0 : n + 1 ≤ q → qa_s g (n + 1) = qa_s f (n + 1) := fun h => by
      rw [qa_sS, qa_sS, ih.1 (by omega), h1 n (by omega)]
    refine ⟨h0, fun h => ?_⟩
    by_cases c : q ≤ n
    · rw [qa_sS, ih.2 c, qa_sS f, h3 n c]; omega
    · have e : q = n + 1 := by omega
      rw [qa_sS, h0 (by omega), e]
/-- one value changed at q -/
theorem qa_one {f g : Nat → Nat} {q : Nat} : ∀ n, (∀ j, j < n → j ≠ q → g j = f j) → (n ≤ q → qa_s g n = qa_s f n) ∧ (q < n → qa_s g n + f q = qa_s f n + g q) := by
  intro n
  induction n with
  | zero => exact fun _ => ⟨fun _ => rfl, fun z => absurd z (Nat.not_lt_zero _)⟩
  | succ n ih0 =>
    intro h
    have ih := ih0 (fun j hj => h j (by omega))
    refine ⟨fun z => ?_, fun z => ?_⟩
    · rw [qa_sS, qa_sS, ih.1 (by omega), h n (by omega) (by omega)]
    · rw [qa_sS, qa_sS]
      by_cases c : q < n
      · have := ih.2 c
        rw [h n (by omega) (by omega)]; omega
      · have e : q = n := by omega
        subst e
        rw [ih.1 (Nat.le_refl _)]; omega
theorem qa_s0 {f : Nat → Nat} : ∀ n, (∀ i, i < n → f i = 0) → qa_s f n = 0 := by
  intro n
  induction n with
  | zero => intro _; rfl
  | succ n ih => intro h; rw [qa_sS, ih (fun i hi => h i (by omega)), h n (by omega)]
theorem qa_s0' {f : Nat → Nat} {n i : Nat} (h : qa_s f n = 0) (hi : i < n) : f i = 0 := by
  have := qa_slt (f := f) hi
  omega
theorem qa_sadd {f g : Nat → Nat} : ∀ n, qa_s (fun i => f i + g i) n = qa_s f n + qa_s g n := by
  intro n
  induction n with
  | zero => rfl
  | succ n ih => rw [qa_sS, qa_sS, qa_sS, ih]; omega
end
section
/-! the tree by intervals of places: lo x ≤ pos x < hi x -/
def qt_N (nc rt : Nat) (L R U lo hi pos : Nat → Nat) (x : Nat) : Prop :=
  (lo x ≤ pos x ∧ pos x < hi x ∧ hi x ≤ nc) ∧
  (L x = 0 ∧ lo x = pos x ∨ 1 ≤ L x ∧ L x ≤ nc ∧ lo (L x) = lo x ∧ hi (L x) = pos x ∧ U (L x) = x) ∧
  (R x = 0 ∧ pos x + 1 = hi x ∨ 1 ≤ R x ∧ R x ≤ nc ∧ lo (R x) = pos x + 1 ∧ hi (R x) = hi x ∧ U (R x) = x) ∧
  (U x = 0 ∧ x = rt ∨ 1 ≤ U x ∧ U x ≤ nc ∧ (L (U x) = x ∨ R (U x) = x))
def qt_T (nc rt : Nat) (L R U lo hi pos : Nat → Nat) : Prop :=
  (nc = 0 ∧ rt = 0 ∨ 1 ≤ rt ∧ rt ≤ nc ∧ lo rt = 0 ∧ hi rt = nc ∧ U rt = 0) ∧
  ∀ x, 1 ≤ x → x ≤ nc → qt_N nc rt L R U lo hi pos x
def qt_O (nc : Nat) (od pos : Nat → Nat) : Prop :=
  (∀ x, 1 ≤ x → x ≤ nc → pos x < nc ∧ od (pos x) = x) ∧ (∀ i, i < nc → 1 ≤ od i ∧ od i ≤ nc ∧ pos (od i) = i)
section
variable {nc rt : Nat} {L R U lo hi pos od : Nat → Nat}
theorem qt_inj (O : qt_O nc od pos) {x y : Nat} (hx : 1 ≤ x) (hx' : x ≤ nc) (hy : 1 ≤ y) (hy' : y ≤ nc) (h : pos x = pos y) : x = y := by
  rw [← (O.1 x hx hx').2, ← (O.1 y hy hy').2, h]
/-- the node over y, from which side -/
theorem qt_par (T : qt_T nc rt L R U lo hi pos) {y : Nat} (hy : 1 ≤ y) (hy' : y ≤ nc) (h : U y ≠ 0) :
    1 ≤ U y ∧ U y ≤ nc ∧ (L (U y) = y ∧ lo y = lo (U y) ∧ hi y = pos (U y) ∨ R (U y) = y ∧ lo y = pos (U y) + 1 ∧ hi y = hi (U y)) := by
  obtain ⟨_, _, _, h4⟩ := T.2 y hy hy'
  rcases h4 with h4 | ⟨a, b, c⟩
  · exact absurd h4.1 h
  · obtain ⟨_, n2, n3, _⟩ := T.2 (U y) a b
    refine ⟨a, b, ?_⟩
    rcases c with c | c
    · refine Or.inl ⟨c, ?_⟩
      rw [c] at n2
      rcases n2 with n2 | ⟨_, _, n2, n2', _⟩
      · omega
      · exact ⟨n2, n2'⟩
    · refine Or.inr ⟨c, ?_⟩
      rw [c] at n3
      rcases n3 with n3 | ⟨_, _, n3, n3', _⟩
      · omega
      · exact ⟨n3, n3'⟩
theorem qt_iv (T : qt_T nc rt L R U lo hi pos) {y : Nat} (hy : 1 ≤ y) (hy' : y ≤ nc) : lo y ≤ pos y ∧ pos y < hi y ∧ hi y ≤ nc := (T.2 y hy hy').1
/-- nesting: a node other than y whose interval holds y's place holds the interval of the node over y -/
theorem qt_anc (T : qt_T nc rt L R U lo hi pos) (O : qt_O nc od pos) {y : Nat} (hy : 1 ≤ y) (hy' : y ≤ nc) :
    ∀ d z, hi z - lo z ≤ d → 1 ≤ z → z ≤ nc → z ≠ y → lo z ≤ pos y → pos y < hi z → U y ≠ 0 ∧ lo z ≤ lo (U y) ∧ hi (U y) ≤ hi z := by
  intro d
  induction d with
  | zero => intro z h1 hz hz' _ h2 h3; omega
  | succ d ih =>
    intro z h1 hz hz' hne h2 h3
    obtain ⟨⟨a1, a2, a3⟩, n2, n3, _⟩ := T.2 z hz hz'
    have hne2 : pos z ≠ pos y := fun e => hne (qt_inj O hz hz' hy hy' e)
    by_cases c : pos y < pos z
    · rcases n2 with n2 | ⟨b1, b2, b3, b4, b5⟩
      · omega
      · by_cases e : L z = y
        · rw [e] at b5
          rw [b5]
          exact ⟨by omega, Nat.le_refl _, Nat.le_refl _⟩
        · have := ih (L z) (by omega) b1 b2 e (by omega) (by omega)
          exact ⟨this.1, by omega, by omega⟩
    · rcases n3 with n3 | ⟨b1, b2, b3, b4, b5⟩
      · omega
      · by_cases e : R z = y
        · rw [e] at b5
          rw [b5]
          exact ⟨by omega, Nat.le_refl _, Nat.le_refl _⟩
        · have := ih (R z) (by omega) b1 b2 e (by omega) (by omega)
          exact ⟨this.1, by omega, by omega⟩
end
end
section
/-! lifting a node: the intervals of two nodes change (written by src/gen05.py) -/
theorem qt_ch {nc z A A' a b a' b' : Nat} {lo hi U lo' hi' U' : Nat → Nat} (h : A = 0 ∧ a = b ∨ 1 ≤ A ∧ A ≤ nc ∧ lo A = a ∧ hi A = b ∧ U A = z) (eA : A' = A) (ea : a' = a) (eb : b' = b)
    (k : 1 ≤ A → A ≤ nc → lo A = a → hi A = b → U A = z → lo' A = lo A ∧ hi' A = hi A ∧ U' A = U A) : A' = 0 ∧ a' = b' ∨ 1 ≤ A' ∧ A' ≤ nc ∧ lo' A' = a' ∧ hi' A' = b' ∧ U' A' = z := by
  subst eA ea eb
  rcases h with h | ⟨h1, h2, h3, h4, h5⟩
  · exact Or.inl h
  · obtain ⟨k1, k2, k3⟩ := k h1 h2 h3 h4 h5
    exact Or.inr ⟨h1, h2, by rw [k1]; exact h3, by rw [k2]; exact h4, by rw [k3]; exact h5⟩
theorem qt_cn {nc z A A' a b : Nat} {lo' hi' U' : Nat → Nat} (eA : A' = A) (h1 : 1 ≤ A) (h2 : A ≤ nc) (h3 : lo' A = a) (h4 : hi' A = b) (h5 : U' A = z) : A' = 0 ∧ a = b ∨ 1 ≤ A' ∧ A' ≤ nc ∧ lo' A' = a ∧ hi' A' = b ∧ U' A' = z := by
  subst eA
  exact Or.inr ⟨h1, h2, h3, h4, h5⟩
section
variable {nc rt rt' : Nat} {L R U lo hi pos L' R' U' lo' hi' : Nat → Nat} {x p g c a : Nat}
theorem qt_lfp (T : qt_T nc rt L R U lo hi pos) (hx : 1 ≤ x) (hx' : x ≤ nc) (hp : U x = p) (hp0 : p ≠ 0) : 1 ≤ p ∧ p ≤ nc := by
  have h1 := qt_par T hx hx' (by rw [hp]; exact hp0)
  rw [hp] at h1
  exact ⟨h1.1, h1.2.1⟩
theorem qt_lfL (T : qt_T nc rt L R U lo hi pos) (hx : 1 ≤ x) (p1 : 1 ≤ p) (p2 : p ≤ nc) (hL : L p = x) : lo x = lo p ∧ hi x = pos p ∧ U x = p := by
  have h2 := (T.2 p p1 p2).2.1
  rw [hL] at h2
  rcases h2 with h | ⟨_, _, h3, h4, h5⟩
  · omega
  · exact ⟨h3, h4, h5⟩
theorem qt_lfR (T : qt_T nc rt L R U lo hi pos) (hx : 1 ≤ x) (p1 : 1 ≤ p) (p2 : p ≤ nc) (hR : R p = x) : lo x = pos p + 1 ∧ hi x = hi p ∧ U x = p := by
  have h2 := (T.2 p p1 p2).2.2.1
  rw [hR] at h2
  rcases h2 with h | ⟨_, _, h3, h4, h5⟩
  · omega
  · exact ⟨h3, h4, h5⟩
theorem qt_lfg (T : qt_T nc rt L R U lo hi pos) (p1 : 1 ≤ p) (p2 : p ≤ nc) (hg : U p = g) (g0 : g ≠ 0) :
    1 ≤ g ∧ g ≤ nc ∧ (L g = p ∧ lo p = lo g ∧ hi p = pos g ∨ L g ≠ p ∧ R g = p ∧ lo p = pos g + 1 ∧ hi p = hi g) := by
  have h1 := qt_par T p1 p2 (by rw [hg]; exact g0)
  rw [hg] at h1
  refine ⟨h1.1, h1.2.1, ?_⟩
  by_cases e : L g = p
  · have := qt_lfL T p1 h1.1 h1.2.1 e
    exact Or.inl ⟨e, this.1, this.2.1⟩
  · rcases h1.2.2 with h | h
    · exact absurd h.1 e
    · exact Or.inr ⟨e, h⟩
/-- a node inside p isn't the node over p -/
theorem qt_lfd (T : qt_T nc rt L R U lo hi pos) (p1 : 1 ≤ p) (p2 : p ≤ nc) (hg : U p = g) (a1 : 1 ≤ a) (ha : lo p ≤ lo a) (hb : hi a ≤ hi p) : a ≠ g := by
  by_cases g0 : g = 0
  · omega
  · obtain ⟨g1, g2, g3⟩ := qt_lfg T p1 p2 hg g0
    have vg := qt_iv T g1 g2
    intro e
    subst e
    rcases g3 with g3 | g3 <;> omega
theorem qt_lfn {a b : Nat} {f : Nat → Nat} (h : f a ≠ f b) : a ≠ b := fun e => h (congrArg f e)
/-- the node over the node over p is another -/
theorem qt_lfu (T : qt_T nc rt L R U lo hi pos) (p1 : 1 ≤ p) (p2 : p ≤ nc) (h : U p ≠ 0) (a1 : 1 ≤ a) (ha : lo p ≤ lo a) (hb : hi a ≤ hi p) : U p ≠ a := fun e => qt_lfd T p1 p2 rfl a1 ha hb e.symm
theorem qt_rotL (T : qt_T nc rt L R U lo hi pos) (hx : 1 ≤ x) (hx' : x ≤ nc) (hp : U x = p) (hp0 : p ≠ 0) (hg : U p = g) (hA : L p = x) (hc : R x = c)
    (l1 : L' p = c) (l2 : ∀ z, z ≠ p → z ≠ g → L' z = L z)
    (r1 : R' x = p) (r2 : ∀ z, z ≠ x → z ≠ g → R' z = R z)
    (g1 : g ≠ 0 → (L g = p ∧ L' g = x ∧ R' g = R g) ∨ (L g ≠ p ∧ L' g = L g ∧ R' g = x))
    (u1 : U' x = g) (u2 : U' p = x) (u3 : c ≠ 0 → U' c = p) (u4 : ∀ z, z ≠ x → z ≠ p → z ≠ c → U' z = U z)
    (t1 : g = 0 → rt' = x) (t2 : g ≠ 0 → rt' = rt)
    (o1 : lo' p = pos x + 1) (o2 : ∀ z, z ≠ p → lo' z = lo z)
    (i1 : hi' x = hi p) (i2 : ∀ z, z ≠ x → hi' z = hi z) :
    qt_T nc rt' L' R' U' lo' hi' pos := by
  obtain ⟨p1, p2⟩ := qt_lfp T hx hx' hp hp0
  have vp := qt_iv T p1 p2
  have vx := qt_iv T hx hx'
  obtain ⟨fx1, fx2, _⟩ := qt_lfL T hx p1 p2 hA
  have xp : x ≠ p := qt_lfn (f := hi) (by omega)
  have px : p ≠ x := fun e => xp e.symm
  have pg : p ≠ g := qt_lfd T p1 p2 hg p1 (Nat.le_refl _) (Nat.le_refl _)
  have xg : x ≠ g := qt_lfd T p1 p2 hg hx (by omega) (by omega)
  have fc : 1 ≤ c → c ≤ nc ∧ (lo c = pos x + 1 ∧ hi c = hi x) ∧ U c = x := fun h => by
    have c0 : c ≤ nc := by
      have := (T.2 x hx hx').2.2.1
      rw [hc] at this
      omega
    obtain ⟨q1, q2, q3⟩ := qt_lfR T h hx hx' hc
    exact ⟨c0, ⟨q1, q2⟩, q3⟩
  have fc0 : c = 0 → pos x + 1 = hi x := fun h => by
    have := (T.2 x hx hx').2.2.1
    rw [hc] at this
    omega
  have cx : c ≠ x := by
    by_cases h : 1 ≤ c
    · have := fc h
      exact qt_lfn (f := lo) (by omega)
    · omega
  have cp : c ≠ p := by
    by_cases h : 1 ≤ c
    · have := fc h
      have vc := qt_iv T h this.1
      exact qt_lfn (f := hi) (by omega)
    · omega
  have cg : 1 ≤ c → c ≠ g := fun h => by
    have := fc h
    have vc := qt_iv T h this.1
    exact qt_lfd T p1 p2 hg h (by omega) (by omega)
  have K : ∀ y, y ≠ x → y ≠ p → y ≠ c → lo' y = lo y ∧ hi' y = hi y ∧ U' y = U y := fun y a b d => ⟨o2 y b, i2 y a, u4 y a b d⟩
  have hUc : 1 ≤ c → U c = x := fun h => (fc h).2.2
  refine ⟨?_, ?_⟩
  · refine Or.inr ?_
    by_cases e : g = 0
    · have hr : p = rt := by
        rcases (T.2 p p1 p2).2.2.2 with h | h
        · exact h.2
        · rw [hg] at h; omega
      have hr2 : lo p = 0 ∧ hi p = nc := by
        rcases T.1 with h | h
        · omega
        · rw [hr]; exact ⟨h.2.2.1, h.2.2.2.1⟩
      rw [t1 e]
      exact ⟨hx, hx', by rw [o2 x xp]; omega, by rw [i1]; omega, by rw [u1, e]⟩
    · rw [t2 e]
      have h1 : 1 ≤ rt ∧ rt ≤ nc ∧ lo rt = 0 ∧ hi rt = nc ∧ U rt = 0 := by
        rcases T.1 with h | h
        · omega
        · exact h
      obtain ⟨k1, k2, k3⟩ := K rt (fun z => hp0 (by rw [← hp, ← z]; exact h1.2.2.2.2)) (fun z => e (by rw [← hg, ← z]; exact h1.2.2.2.2)) (fun z => by
        have h2 := hUc (by rw [← z]; exact h1.1)
        rw [← z, h1.2.2.2.2] at h2
        omega)
      rw [k1, k2, k3]
      exact h1
  · intro z hz hz'
    by_cases zx : z = x
    · subst zx
      have hgx : U' z = 0 ∧ z = rt' ∨ 1 ≤ U' z ∧ U' z ≤ nc ∧ (L' (U' z) = z ∨ R' (U' z) = z) := by
        rw [u1]
        by_cases e : g = 0
        · exact Or.inl ⟨e, (t1 e).symm⟩
        · obtain ⟨q1, q2, _⟩ := qt_lfg T p1 p2 hg e
          refine Or.inr ⟨q1, q2, ?_⟩
          rcases g1 e with h | h
          · exact Or.inl h.2.1
          · exact Or.inr h.2.2
      have hnew : R' z = 0 ∧ pos z + 1 = hi' z ∨ 1 ≤ R' z ∧ R' z ≤ nc ∧ lo' (R' z) = pos z + 1 ∧ hi' (R' z) = hi' z ∧ U' (R' z) = z := by
        refine qt_cn r1 p1 p2 ?_ ?_ u2
        · exact o1
        · rw [i2 p px, i1]
      have hold : L' z = 0 ∧ lo' z = pos z ∨ 1 ≤ L' z ∧ L' z ≤ nc ∧ lo' (L' z) = lo' z ∧ hi' (L' z) = pos z ∧ U' (L' z) = z := by
        refine qt_ch (T.2 z hx hx').2.1 (l2 z xp xg) (o2 z xp) rfl (fun b1 b2 b3 b4 b5 => K _ (fun e => xp (b5.symm.trans ((congrArg U e).trans hp))) (fun e => xg (b5.symm.trans ((congrArg U e).trans hg))) (fun e => ?_))
        rw [e] at b1 b3 b4
        have := fc b1
        omega
      exact ⟨by rw [o2 z xp, i1]; omega, hold, hnew, hgx⟩
    by_cases zp : z = p
    · subst zp
      have hnew : L' z = 0 ∧ lo' z = pos z ∨ 1 ≤ L' z ∧ L' z ≤ nc ∧ lo' (L' z) = lo' z ∧ hi' (L' z) = pos z ∧ U' (L' z) = z := by
        by_cases c1 : 1 ≤ c
        · obtain ⟨c2, c3, c4⟩ := fc c1
          refine qt_cn l1 c1 c2 ?_ ?_ (u3 (by omega))
          · rw [o2 c cp, o1]; exact c3.1
          · rw [i2 c cx]; omega
        · have c0 : c = 0 := by omega
          have := fc0 c0
          exact Or.inl ⟨by rw [l1, c0], by rw [o1]; omega⟩
      have hold : R' z = 0 ∧ pos z + 1 = hi' z ∨ 1 ≤ R' z ∧ R' z ≤ nc ∧ lo' (R' z) = pos z + 1 ∧ hi' (R' z) = hi' z ∧ U' (R' z) = z := by
        refine qt_ch (T.2 z hz hz').2.2.1 (r2 z zx pg) rfl (i2 z zx) (fun b1 b2 b3 b4 b5 => K _ (fun e => ?_) (fun e => pg (b5.symm.trans ((congrArg U e).trans hg))) (fun e => zx (b5.symm.trans ((congrArg U e).trans (hUc (e ▸ b1))))))
        rw [e] at b3 b4
        omega
      have hup : U' z = 0 ∧ z = rt' ∨ 1 ≤ U' z ∧ U' z ≤ nc ∧ (L' (U' z) = z ∨ R' (U' z) = z) := by
        rw [u2]
        exact Or.inr ⟨hx, hx', Or.inr r1⟩
      exact ⟨by rw [o1, i2 z zx]; omega, hnew, hold, hup⟩
    by_cases zc : z = c
    · subst zc
      have zg : z ≠ g := cg hz
      have vz := qt_iv T hz hz'
      have hUz := hUc hz
      have hA2 : L' z = 0 ∧ lo' z = pos z ∨ 1 ≤ L' z ∧ L' z ≤ nc ∧ lo' (L' z) = lo' z ∧ hi' (L' z) = pos z ∧ U' (L' z) = z :=
        qt_ch (T.2 z hz hz').2.1 (l2 z zp zg) (o2 z zp) rfl (fun b1 b2 b3 b4 b5 => K _ (fun e => cp (b5.symm.trans ((congrArg U e).trans hp))) (fun e => zg (b5.symm.trans ((congrArg U e).trans hg))) (fun e => cx (b5.symm.trans ((congrArg U e).trans hUz))))
      have hB2 : R' z = 0 ∧ pos z + 1 = hi' z ∨ 1 ≤ R' z ∧ R' z ≤ nc ∧ lo' (R' z) = pos z + 1 ∧ hi' (R' z) = hi' z ∧ U' (R' z) = z :=
        qt_ch (T.2 z hz hz').2.2.1 (r2 z zx zg) rfl (i2 z zx) (fun b1 b2 b3 b4 b5 => K _ (fun e => cp (b5.symm.trans ((congrArg U e).trans hp))) (fun e => zg (b5.symm.trans ((congrArg U e).trans hg))) (fun e => cx (b5.symm.trans ((congrArg U e).trans hUz))))
      have hup : U' z = 0 ∧ z = rt' ∨ 1 ≤ U' z ∧ U' z ≤ nc ∧ (L' (U' z) = z ∨ R' (U' z) = z) := by
        rw [u3 (by omega)]
        exact Or.inr ⟨p1, p2, Or.inl l1⟩
      exact ⟨by rw [o2 z zp, i2 z zx]; exact vz, hA2, hB2, hup⟩
    by_cases zg : z = g
    · subst zg
      have g0 : z ≠ 0 := by omega
      have vz := qt_iv T hz hz'
      obtain ⟨_, _, g3⟩ := qt_lfg T p1 p2 hg g0
      have hl : L' z = 0 ∧ lo' z = pos z ∨ 1 ≤ L' z ∧ L' z ≤ nc ∧ lo' (L' z) = lo' z ∧ hi' (L' z) = pos z ∧ U' (L' z) = z := by
        rcases g1 g0 with ⟨h1, h2, h3⟩ | ⟨h1, h2, h3⟩
        · obtain ⟨q1, q2⟩ : lo p = lo z ∧ hi p = pos z := by
            rcases g3 with g3 | g3
            · exact g3.2
            · exact absurd h1 g3.1
          refine qt_cn h2 hx hx' ?_ ?_ u1
          · rw [o2 x xp, o2 z zp]; omega
          · rw [i1]; omega
        · exact qt_ch (T.2 z hz hz').2.1 h2 (o2 z zp) rfl (fun b1 b2 b3 b4 b5 => K _ (fun e => pg ((b5.symm.trans ((congrArg U e).trans hp)).symm)) (fun e => h1 e) (fun e => xg ((b5.symm.trans ((congrArg U e).trans (hUc (e ▸ b1)))).symm)))
      have hr : R' z = 0 ∧ pos z + 1 = hi' z ∨ 1 ≤ R' z ∧ R' z ≤ nc ∧ lo' (R' z) = pos z + 1 ∧ hi' (R' z) = hi' z ∧ U' (R' z) = z := by
        rcases g1 g0 with ⟨h1, h2, h3⟩ | ⟨h1, h2, h3⟩
        · obtain ⟨q1, q2⟩ : lo p = lo z ∧ hi p = pos z := by
            rcases g3 with g3 | g3
            · exact g3.2
            · exact absurd h1 g3.1
          refine qt_ch (T.2 z hz hz').2.2.1 h3 rfl (i2 z zx) (fun b1 b2 b3 b4 b5 => K _ (fun e => pg ((b5.symm.trans ((congrArg U e).trans hp)).symm)) (fun e => ?_) (fun e => xg ((b5.symm.trans ((congrArg U e).trans (hUc (e ▸ b1)))).symm)))
          rw [e] at b3 b4
          omega
        · obtain ⟨q1, q2⟩ : lo p = pos z + 1 ∧ hi p = hi z := by
            rcases g3 with g3 | g3
            · exact absurd g3.1 h1
            · exact g3.2.2
          refine qt_cn h3 hx hx' ?_ ?_ u1
          · rw [o2 x xp]; omega
          · rw [i1, i2 z zx]; omega
      have hup : U' z = 0 ∧ z = rt' ∨ 1 ≤ U' z ∧ U' z ≤ nc ∧ (L' (U' z) = z ∨ R' (U' z) = z) := by
        rw [u4 z zx zp zc]
        rcases (T.2 z hz hz').2.2.2 with h | ⟨h1, h2, h3⟩
        · exact Or.inl ⟨h.1, by rw [t2 g0]; exact h.2⟩
        · have hin : lo z ≤ lo p ∧ hi p ≤ hi z := by
            clear g1 t1 t2 u3 h3 fc fc0 cg hUc
            rcases g3 with g3 | g3 <;> omega
          have hU0 : U z ≠ 0 := by omega
          have a1 : U z ≠ p := qt_lfu T hz hz' hU0 p1 hin.1 hin.2
          have a2 : U z ≠ x := qt_lfu T hz hz' hU0 hx (by omega) (by omega)
          have a3 : U z ≠ z := qt_lfu T hz hz' hU0 hz (Nat.le_refl _) (Nat.le_refl _)
          have e1 := l2 _ a1 a3
          have e2 := r2 _ a2 a3
          rw [e1, e2]
          exact Or.inr ⟨h1, h2, h3⟩
      exact ⟨by rw [o2 z zp, i2 z zx]; exact vz, hl, hr, hup⟩
    have vz := qt_iv T hz hz'
    have hA2 : L' z = 0 ∧ lo' z = pos z ∨ 1 ≤ L' z ∧ L' z ≤ nc ∧ lo' (L' z) = lo' z ∧ hi' (L' z) = pos z ∧ U' (L' z) = z :=
      qt_ch (T.2 z hz hz').2.1 (l2 z zp zg) (o2 z zp) rfl (fun b1 b2 b3 b4 b5 => K _ (fun e => zp (b5.symm.trans ((congrArg U e).trans hp))) (fun e => zg (b5.symm.trans ((congrArg U e).trans hg))) (fun e => zx (b5.symm.trans ((congrArg U e).trans (hUc (e ▸ b1))))))
    have hB2 : R' z = 0 ∧ pos z + 1 = hi' z ∨ 1 ≤ R' z ∧ R' z ≤ nc ∧ lo' (R' z) = pos z + 1 ∧ hi' (R' z) = hi' z ∧ U' (R' z) = z :=
      qt_ch (T.2 z hz hz').2.2.1 (r2 z zx zg) rfl (i2 z zx) (fun b1 b2 b3 b4 b5 => K _ (fun e => zp (b5.symm.trans ((congrArg U e).trans hp))) (fun e => zg (b5.symm.trans ((congrArg U e).trans hg))) (fun e => zx (b5.symm.trans ((congrArg U e).trans (hUc (e ▸ b1))))))
    have hup : U' z = 0 ∧ z = rt' ∨ 1 ≤ U' z ∧ U' z ≤ nc ∧ (L' (U' z) = z ∨ R' (U' z) = z) := by
      rw [u4 z zx zp zc]
      rcases (T.2 z hz hz').2.2.2 with h | ⟨h1, h2, h3⟩
      · refine Or.inl ⟨h.1, ?_⟩
        rw [t2 (fun e => zp ?_)]
        · exact h.2
        · rcases (T.2 p p1 p2).2.2.2 with q | q
          · rw [q.2]; exact h.2
          · rw [hg] at q; omega
      · refine Or.inr ⟨h1, h2, ?_⟩
        by_cases a1 : U z = p
        · rw [a1] at h3 ⊢
          rw [r2 p px pg]
          rcases h3 with h3 | h3
          · exact absurd (h3.symm.trans hA) zx
          · exact Or.inr h3
        by_cases a2 : U z = x
        · rw [a2] at h3 ⊢
          rw [l2 x xp xg]
          rcases h3 with h3 | h3
          · exact Or.inl h3
          · exact absurd (h3.symm.trans hc) zc
        by_cases a3 : U z = g
        · rw [a3] at h3 ⊢
          have g0 : g ≠ 0 := fun e => by rw [a3, e] at h1; omega
          obtain ⟨_, _, g3⟩ := qt_lfg T p1 p2 hg g0
          rcases g1 g0 with ⟨k1, k2, k3⟩ | ⟨k1, k2, k3⟩
          · rw [k3]
            rcases h3 with h3 | h3
            · exact absurd (h3.symm.trans k1) zp
            · exact Or.inr h3
          · rw [k2]
            rcases h3 with h3 | h3
            · exact Or.inl h3
            · rcases g3 with g3 | g3
              · exact absurd g3.1 k1
              · exact absurd (h3.symm.trans g3.2.1) zp
        have e1 := l2 _ a1 a3
        have e2 := r2 _ a2 a3
        rw [e1, e2]
        exact h3
    exact ⟨by rw [o2 z zp, i2 z zx]; exact vz, hA2, hB2, hup⟩
theorem qt_rotR (T : qt_T nc rt L R U lo hi pos) (hx : 1 ≤ x) (hx' : x ≤ nc) (hp : U x = p) (hp0 : p ≠ 0) (hg : U p = g) (hA : R p = x) (hc : L x = c)
    (l1 : R' p = c) (l2 : ∀ z, z ≠ p → z ≠ g → R' z = R z)
    (r1 : L' x = p) (r2 : ∀ z, z ≠ x → z ≠ g → L' z = L z)
    (g1 : g ≠ 0 → (L g = p ∧ L' g = x ∧ R' g = R g) ∨ (L g ≠ p ∧ L' g = L g ∧ R' g = x))
    (u1 : U' x = g) (u2 : U' p = x) (u3 : c ≠ 0 → U' c = p) (u4 : ∀ z, z ≠ x → z ≠ p → z ≠ c → U' z = U z)
    (t1 : g = 0 → rt' = x) (t2 : g ≠ 0 → rt' = rt)
    (o1 : hi' p = pos x) (o2 : ∀ z, z ≠ p → hi' z = hi z)
    (i1 : lo' x = lo p) (i2 : ∀ z, z ≠ x → lo' z = lo z) :
    qt_T nc rt' L' R' U' lo' hi' pos := by
  obtain ⟨p1, p2⟩ := qt_lfp T hx hx' hp hp0
  have vp := qt_iv T p1 p2
  have vx := qt_iv T hx hx'
  obtain ⟨fx1, fx2, _⟩ := qt_lfR T hx p1 p2 hA
  have xp : x ≠ p := qt_lfn (f := lo) (by omega)
  have px : p ≠ x := fun e => xp e.symm
  have pg : p ≠ g := qt_lfd T p1 p2 hg p1 (Nat.le_refl _) (Nat.le_refl _)
  have xg : x ≠ g := qt_lfd T p1 p2 hg hx (by omega) (by omega)
  have fc : 1 ≤ c → c ≤ nc ∧ (lo c = lo x ∧ hi c = pos x) ∧ U c = x := fun h => by
    have c0 : c ≤ nc := by
      have := (T.2 x hx hx').2.1
      rw [hc] at this
      omega
    obtain ⟨q1, q2, q3⟩ := qt_lfL T h hx hx' hc
    exact ⟨c0, ⟨q1, q2⟩, q3⟩
  have fc0 : c = 0 → lo x = pos x := fun h => by
    have := (T.2 x hx hx').2.1
    rw [hc] at this
    omega
  have cx : c ≠ x := by
    by_cases h : 1 ≤ c
    · have := fc h
      exact qt_lfn (f := hi) (by omega)
    · omega
  have cp : c ≠ p := by
    by_cases h : 1 ≤ c
    · have := fc h
      have vc := qt_iv T h this.1
      exact qt_lfn (f := lo) (by omega)
    · omega
  have cg : 1 ≤ c → c ≠ g := fun h => by
    have := fc h
    have vc := qt_iv T h this.1
    exact qt_lfd T p1 p2 hg h (by omega) (by omega)
  have K : ∀ y, y ≠ x → y ≠ p → y ≠ c → lo' y = lo y ∧ hi' y = hi y ∧ U' y = U y := fun y a b d => ⟨i2 y a, o2 y b, u4 y a b d⟩
  have hUc : 1 ≤ c → U c = x := fun h => (fc h).2.2
  refine ⟨?_, ?_⟩
  · refine Or.inr ?_
    by_cases e : g = 0
    · have hr : p = rt := by
        rcases (T.2 p p1 p2).2.2.2 with h | h
        · exact h.2
        · rw [hg] at h; omega
      have hr2 : lo p = 0 ∧ hi p = nc := by
        rcases T.1 with h | h
        · omega
        · rw [hr]; exact ⟨h.2.2.1, h.2.2.2.1⟩
      rw [t1 e]
      exact ⟨hx, hx', by rw [i1]; omega, by rw [o2 x xp]; omega, by rw [u1, e]⟩
    · rw [t2 e]
      have h1 : 1 ≤ rt ∧ rt ≤ nc ∧ lo rt = 0 ∧ hi rt = nc ∧ U rt = 0 := by
        rcases T.1 with h | h
        · omega
        · exact h
      obtain ⟨k1, k2, k3⟩ := K rt (fun z => hp0 (by rw [← hp, ← z]; exact h1.2.2.2.2)) (fun z => e (by rw [← hg, ← z]; exact h1.2.2.2.2)) (fun z => by
        have h2 := hUc (by rw [← z]; exact h1.1)
        rw [← z, h1.2.2.2.2] at h2
        omega)
      rw [k1, k2, k3]
      exact h1
  · intro z hz hz'
    by_cases zx : z = x
    · subst zx
      have hgx : U' z = 0 ∧ z = rt' ∨ 1 ≤ U' z ∧ U' z ≤ nc ∧ (L' (U' z) = z ∨ R' (U' z) = z) := by
        rw [u1]
        by_cases e : g = 0
        · exact Or.inl ⟨e, (t1 e).symm⟩
        · obtain ⟨q1, q2, _⟩ := qt_lfg T p1 p2 hg e
          refine Or.inr ⟨q1, q2, ?_⟩
          rcases g1 e with h | h
          · exact Or.inl h.2.1
          · exact Or.inr h.2.2
      have hnew : L' z = 0 ∧ lo' z = pos z ∨ 1 ≤ L' z ∧ L' z ≤ nc ∧ lo' (L' z) = lo' z ∧ hi' (L' z) = pos z ∧ U' (L' z) = z := by
        refine qt_cn r1 p1 p2 ?_ ?_ u2
        · rw [i2 p px, i1]
        · exact o1
      have hold : R' z = 0 ∧ pos z + 1 = hi' z ∨ 1 ≤ R' z ∧ R' z ≤ nc ∧ lo' (R' z) = pos z + 1 ∧ hi' (R' z) = hi' z ∧ U' (R' z) = z := by
        refine qt_ch (T.2 z hx hx').2.2.1 (l2 z xp xg) rfl (o2 z xp) (fun b1 b2 b3 b4 b5 => K _ (fun e => xp (b5.symm.trans ((congrArg U e).trans hp))) (fun e => xg (b5.symm.trans ((congrArg U e).trans hg))) (fun e => ?_))
        rw [e] at b1 b3 b4
        have := fc b1
        omega
      exact ⟨by rw [i1, o2 z xp]; omega, hnew, hold, hgx⟩
    by_cases zp : z = p
    · subst zp
      have hnew : R' z = 0 ∧ pos z + 1 = hi' z ∨ 1 ≤ R' z ∧ R' z ≤ nc ∧ lo' (R' z) = pos z + 1 ∧ hi' (R' z) = hi' z ∧ U' (R' z) = z := by
        by_cases c1 : 1 ≤ c
        · obtain ⟨c2, c3, c4⟩ := fc c1
          refine qt_cn l1 c1 c2 ?_ ?_ (u3 (by omega))
          · rw [i2 c cx]; omega
          · rw [o2 c cp, o1]; exact c3.2
        · have c0 : c = 0 := by omega
          have := fc0 c0
          exact Or.inl ⟨by rw [l1, c0], by rw [o1]; omega⟩
      have hold : L' z = 0 ∧ lo' z = pos z ∨ 1 ≤ L' z ∧ L' z ≤ nc ∧ lo' (L' z) = lo' z ∧ hi' (L' z) = pos z ∧ U' (L' z) = z := by
        refine qt_ch (T.2 z hz hz').2.1 (r2 z zx pg) (i2 z zx) rfl (fun b1 b2 b3 b4 b5 => K _ (fun e => ?_) (fun e => pg (b5.symm.trans ((congrArg U e).trans hg))) (fun e => zx (b5.symm.trans ((congrArg U e).trans (hUc (e ▸ b1))))))
        rw [e] at b3 b4
        omega
      have hup : U' z = 0 ∧ z = rt' ∨ 1 ≤ U' z ∧ U' z ≤ nc ∧ (L' (U' z) = z ∨ R' (U' z) = z) := by
        rw [u2]
        exact Or.inr ⟨hx, hx', Or.inl r1⟩
      exact ⟨by rw [i2 z zx, o1]; omega, hold, hnew, hup⟩
    by_cases zc : z = c
    · subst zc
      have zg : z ≠ g := cg hz
      have vz := qt_iv T hz hz'
      have hUz := hUc hz
      have hA2 : R' z = 0 ∧ pos z + 1 = hi' z ∨ 1 ≤ R' z ∧ R' z ≤ nc ∧ lo' (R' z) = pos z + 1 ∧ hi' (R' z) = hi' z ∧ U' (R' z) = z :=
        qt_ch (T.2 z hz hz').2.2.1 (l2 z zp zg) rfl (o2 z zp) (fun b1 b2 b3 b4 b5 => K _ (fun e => cp (b5.symm.trans ((congrArg U e).trans hp))) (fun e => zg (b5.symm.trans ((congrArg U e).trans hg))) (fun e => cx (b5.symm.trans ((congrArg U e).trans hUz))))
      have hB2 : L' z = 0 ∧ lo' z = pos z ∨ 1 ≤ L' z ∧ L' z ≤ nc ∧ lo' (L' z) = lo' z ∧ hi' (L' z) = pos z ∧ U' (L' z) = z :=
        qt_ch (T.2 z hz hz').2.1 (r2 z zx zg) (i2 z zx) rfl (fun b1 b2 b3 b4 b5 => K _ (fun e => cp (b5.symm.trans ((congrArg U e).trans hp))) (fun e => zg (b5.symm.trans ((congrArg U e).trans hg))) (fun e => cx (b5.symm.trans ((congrArg U e).trans hUz))))
      have hup : U' z = 0 ∧ z = rt' ∨ 1 ≤ U' z ∧ U' z ≤ nc ∧ (L' (U' z) = z ∨ R' (U' z) = z) := by
        rw [u3 (by omega)]
        exact Or.inr ⟨p1, p2, Or.inr l1⟩
      exact ⟨by rw [i2 z zx, o2 z zp]; exact vz, hB2, hA2, hup⟩
    by_cases zg : z = g
    · subst zg
      have g0 : z ≠ 0 := by omega
      have vz := qt_iv T hz hz'
      obtain ⟨_, _, g3⟩ := qt_lfg T p1 p2 hg g0
      have hl : L' z = 0 ∧ lo' z = pos z ∨ 1 ≤ L' z ∧ L' z ≤ nc ∧ lo' (L' z) = lo' z ∧ hi' (L' z) = pos z ∧ U' (L' z) = z := by
        rcases g1 g0 with ⟨h1, h2, h3⟩ | ⟨h1, h2, h3⟩
        · obtain ⟨q1, q2⟩ : lo p = lo z ∧ hi p = pos z := by
            rcases g3 with g3 | g3
            · exact g3.2
            · exact absurd h1 g3.1
          refine qt_cn h2 hx hx' ?_ ?_ u1
          · rw [i1, i2 z zx]; omega
          · rw [o2 x xp]; omega
        · exact qt_ch (T.2 z hz hz').2.1 h2 (i2 z zx) rfl (fun b1 b2 b3 b4 b5 => K _ (fun e => pg ((b5.symm.trans ((congrArg U e).trans hp)).symm)) (fun e => h1 e) (fun e => xg ((b5.symm.trans ((congrArg U e).trans (hUc (e ▸ b1)))).symm)))
      have hr : R' z = 0 ∧ pos z + 1 = hi' z ∨ 1 ≤ R' z ∧ R' z ≤ nc ∧ lo' (R' z) = pos z + 1 ∧ hi' (R' z) = hi' z ∧ U' (R' z) = z := by
        rcases g1 g0 with ⟨h1, h2, h3⟩ | ⟨h1, h2, h3⟩
        · obtain ⟨q1, q2⟩ : lo p = lo z ∧ hi p = pos z := by
            rcases g3 with g3 | g3
            · exact g3.2
            · exact absurd h1 g3.1
          refine qt_ch (T.2 z hz hz').2.2.1 h3 rfl (o2 z zp) (fun b1 b2 b3 b4 b5 => K _ (fun e => pg ((b5.symm.trans ((congrArg U e).trans hp)).symm)) (fun e => ?_) (fun e => xg ((b5.symm.trans ((congrArg U e).trans (hUc (e ▸ b1)))).symm)))
          rw [e] at b3 b4
          omega
        · obtain ⟨q1, q2⟩ : lo p = pos z + 1 ∧ hi p = hi z := by
            rcases g3 with g3 | g3
            · exact absurd g3.1 h1
            · exact g3.2.2
          refine qt_cn h3 hx hx' ?_ ?_ u1
          · rw [i1]; omega
          · rw [o2 x xp, o2 z zp]; omega
      have hup : U' z = 0 ∧ z = rt' ∨ 1 ≤ U' z ∧ U' z ≤ nc ∧ (L' (U' z) = z ∨ R' (U' z) = z) := by
        rw [u4 z zx zp zc]
        rcases (T.2 z hz hz').2.2.2 with h | ⟨h1, h2, h3⟩
        · exact Or.inl ⟨h.1, by rw [t2 g0]; exact h.2⟩
        · have hin : lo z ≤ lo p ∧ hi p ≤ hi z := by
            clear g1 t1 t2 u3 h3 fc fc0 cg hUc
            rcases g3 with g3 | g3 <;> omega
          have hU0 : U z ≠ 0 := by omega
          have a1 : U z ≠ p := qt_lfu T hz hz' hU0 p1 hin.1 hin.2
          have a2 : U z ≠ x := qt_lfu T hz hz' hU0 hx (by omega) (by omega)
          have a3 : U z ≠ z := qt_lfu T hz hz' hU0 hz (Nat.le_refl _) (Nat.le_refl _)
          have e1 := l2 _ a1 a3
          have e2 := r2 _ a2 a3
          rw [e1, e2]
          exact Or.inr ⟨h1, h2, h3⟩
      exact ⟨by rw [i2 z zx, o2 z zp]; exact vz, hl, hr, hup⟩
    have vz := qt_iv T hz hz'
    have hA2 : R' z = 0 ∧ pos z + 1 = hi' z ∨ 1 ≤ R' z ∧ R' z ≤ nc ∧ lo' (R' z) = pos z + 1 ∧ hi' (R' z) = hi' z ∧ U' (R' z) = z :=
      qt_ch (T.2 z hz hz').2.2.1 (l2 z zp zg) rfl (o2 z zp) (fun b1 b2 b3 b4 b5 => K _ (fun e => zp (b5.symm.trans ((congrArg U e).trans hp))) (fun e => zg (b5.symm.trans ((congrArg U e).trans hg))) (fun e => zx (b5.symm.trans ((congrArg U e).trans (hUc (e ▸ b1))))))
    have hB2 : L' z = 0 ∧ lo' z = pos z ∨ 1 ≤ L' z ∧ L' z ≤ nc ∧ lo' (L' z) = lo' z ∧ hi' (L' z) = pos z ∧ U' (L' z) = z :=
      qt_ch (T.2 z hz hz').2.1 (r2 z zx zg) (i2 z zx) rfl (fun b1 b2 b3 b4 b5 => K _ (fun e => zp (b5.symm.trans ((congrArg U e).trans hp))) (fun e => zg (b5.symm.trans ((congrArg U e).trans hg))) (fun e => zx (b5.symm.trans ((congrArg U e).trans (hUc (e ▸ b1))))))
    have hup : U' z = 0 ∧ z = rt' ∨ 1 ≤ U' z ∧ U' z ≤ nc ∧ (L' (U' z) = z ∨ R' (U' z) = z) := by
      rw [u4 z zx zp zc]
      rcases (T.2 z hz hz').2.2.2 with h | ⟨h1, h2, h3⟩
      · refine Or.inl ⟨h.1, ?_⟩
        rw [t2 (fun e => zp ?_)]
        · exact h.2
        · rcases (T.2 p p1 p2).2.2.2 with q | q
          · rw [q.2]; exact h.2
          · rw [hg] at q; omega
      · refine Or.inr ⟨h1, h2, ?_⟩
        by_cases a1 : U z = p
        · rw [a1] at h3 ⊢
          rw [r2 p px pg]
          rcases h3 with h3 | h3
          · exact Or.inl h3
          · exact absurd (h3.symm.trans hA) zx
        by_cases a2 : U z = x
        · rw [a2] at h3 ⊢
          rw [l2 x xp xg]
          rcases h3 with h3 | h3
          · exact absurd (h3.symm.trans hc) zc
          · exact Or.inr h3
        by_cases a3 : U z = g
        · rw [a3] at h3 ⊢
          have g0 : g ≠ 0 := fun e => by rw [a3, e] at h1; omega
          obtain ⟨_, _, g3⟩ := qt_lfg T p1 p2 hg g0
          rcases g1 g0 with ⟨k1, k2, k3⟩ | ⟨k1, k2, k3⟩
          · rw [k3]
            rcases h3 with h3 | h3
            · exact absurd (h3.symm.trans k1) zp
            · exact Or.inr h3
          · rw [k2]
            rcases h3 with h3 | h3
            · exact Or.inl h3
            · rcases g3 with g3 | g3
              · exact absurd g3.1 k1
              · exact absurd (h3.symm.trans g3.2.1) zp
        have e1 := l2 _ a1 a3
        have e2 := r2 _ a2 a3
        rw [e1, e2]
        exact h3
    exact ⟨by rw [i2 z zx, o2 z zp]; exact vz, hB2, hA2, hup⟩
end
end
section
/-! hanging a new node: places at q and behind it move by one -/
def qt_j (f : Nat → Nat) (nw t v : Nat) : Nat → Nat := fun z => if z = nw then v else if f z < t then f z else f z + 1
theorem qt_jn {f : Nat → Nat} {nw t v : Nat} : qt_j f nw t v nw = v := if_pos rfl
theorem qt_jo {f : Nat → Nat} {nw t v z : Nat} (h : z ≠ nw) : (f z < t ∧ qt_j f nw t v z = f z) ∨ (t ≤ f z ∧ qt_j f nw t v z = f z + 1) := by
  unfold qt_j
  rw [if_neg h]
  by_cases c : f z < t
  · rw [if_pos c]; exact Or.inl ⟨c, rfl⟩
  · rw [if_neg c]; exact Or.inr ⟨by omega, rfl⟩
def qt_oi (od : Nat → Nat) (q v : Nat) : Nat → Nat := fun j => if j < q then od j else if j = q then v else od (j - 1)
theorem qt_oi1 {od : Nat → Nat} {q v j : Nat} (h : j < q) : qt_oi od q v j = od j := if_pos h
theorem qt_oi2 {od : Nat → Nat} {q v : Nat} : qt_oi od q v q = v := by unfold qt_oi; rw [if_neg (Nat.lt_irrefl q), if_pos rfl]
theorem qt_oi3 {od : Nat → Nat} {q v j : Nat} (h : q ≤ j) : qt_oi od q v (j + 1) = od j := by
  unfold qt_oi; rw [if_neg (by omega), if_neg (by omega)]; rfl
section
variable {nc rt : Nat} {L R U lo hi pos od : Nat → Nat}
theorem qt_insO (O : qt_O nc od pos) {q : Nat} (hq : q ≤ nc) : qt_O (nc + 1) (qt_oi od q (nc + 1)) (qt_j pos (nc + 1) q q) := by
  refine ⟨fun x hx hx' => ?_, fun i hi => ?_⟩
  · by_cases e : x = nc + 1
    · subst e; rw [qt_jn, qt_oi2]; exact ⟨by omega, rfl⟩
    · obtain ⟨h1, h2⟩ := O.1 x hx (by omega)
      rcases qt_jo (f := pos) (t := q) (v := q) e with ⟨a, b⟩ | ⟨a, b⟩
      · rw [b, qt_oi1 a]; exact ⟨by omega, h2⟩
      · rw [b, qt_oi3 a]; exact ⟨by omega, h2⟩
  · by_cases c : i < q
    · obtain ⟨h1, h2, h3⟩ := O.2 i (by omega)
      rw [qt_oi1 c]
      refine ⟨h1, by omega, ?_⟩
      rcases qt_jo (f := pos) (nw := nc + 1) (t := q) (v := q) (z := od i) (by omega) with ⟨a, b⟩ | ⟨a, b⟩
      · rw [b, h3]
      · omega
    · by_cases e : i = q
      · subst e; rw [qt_oi2, qt_jn]; exact ⟨by omega, by omega, rfl⟩
      · obtain ⟨j, rfl⟩ : ∃ j, i = j + 1 := ⟨i - 1, by omega⟩
        obtain ⟨h1, h2, h3⟩ := O.2 j (by omega)
        rw [qt_oi3 (by omega)]
        refine ⟨h1, by omega, ?_⟩
        rcases qt_jo (f := pos) (nw := nc + 1) (t := q) (v := q) (z := od j) (by omega) with ⟨a, b⟩ | ⟨a, b⟩
        · omega
        · rw [b, h3]
/-- hung to the right of x, which has no right node -/
theorem qt_insR (T : qt_T nc rt L R U lo hi pos) (O : qt_O nc od pos) {x q : Nat} (hx : 1 ≤ x) (hx' : x ≤ nc) (hR : R x = 0) (hq : q = pos x + 1) (hLn : L (nc + 1) = 0) (hRn : R (nc + 1) = 0) :
    qt_T (nc + 1) rt L (qa_u R x (nc + 1)) (qa_u U (nc + 1) x) (qt_j lo (nc + 1) q q) (qt_j hi (nc + 1) q (q + 1)) (qt_j pos (nc + 1) q q) := by
  obtain ⟨vx, _, nx3, _⟩ := T.2 x hx hx'
  refine ⟨Or.inr ?_, fun z hz hz' => ?_⟩
  · have hr : 1 ≤ rt ∧ rt ≤ nc ∧ lo rt = 0 ∧ hi rt = nc ∧ U rt = 0 := by have := T.1; omega
    have a1 := qt_jo (f := lo) (nw := nc + 1) (t := q) (v := q) (z := rt) (by omega)
    have a2 := qt_jo (f := hi) (nw := nc + 1) (t := q) (v := q + 1) (z := rt) (by omega)
    refine ⟨hr.1, by omega, by omega, by omega, ?_⟩
    rw [qa_un (by omega)]; exact hr.2.2.2.2
  · by_cases e : z = nc + 1
    · subst e
      refine ⟨?_, ?_, ?_, ?_⟩
      · rw [qt_jn, qt_jn, qt_jn]; omega
      · rw [qt_jn, qt_jn]; exact Or.inl ⟨hLn, rfl⟩
      · rw [qt_jn, qt_jn, qa_un (by omega)]; exact Or.inl ⟨hRn, rfl⟩
      · rw [qa_us, qa_us]; exact Or.inr ⟨hx, by omega, Or.inr rfl⟩
    · have hz2 : z ≤ nc := by omega
      obtain ⟨vz, nz2, nz3, nz4⟩ := T.2 z hz hz2
      have a1 := qt_jo (f := lo) (t := q) (v := q) e
      have a2 := qt_jo (f := pos) (t := q) (v := q) e
      have a3 := qt_jo (f := hi) (t := q) (v := q + 1) e
      refine ⟨by omega, ?_, ?_, ?_⟩
      · rcases nz2 with h | ⟨b1, b2, b3, b4, b5⟩
        · exact Or.inl ⟨h.1, by omega⟩
        · have c1 := qt_jo (f := lo) (nw := nc + 1) (t := q) (v := q) (z := L z) (by omega)
          have c2 := qt_jo (f := hi) (nw := nc + 1) (t := q) (v := q + 1) (z := L z) (by omega)
          refine Or.inr ⟨b1, by omega, by omega, by omega, ?_⟩
          rw [qa_un (by omega)]; exact b5
      · by_cases zx : z = x
        · subst zx
          rw [qa_us, qt_jn, qt_jn, qa_us]
          exact Or.inr ⟨by omega, by omega, by omega, by omega, rfl⟩
        · rw [qa_un zx]
          have hne : pos z ≠ pos x := fun k => zx (qt_inj O hz hz2 hx hx' k)
          rcases nz3 with h | ⟨b1, b2, b3, b4, b5⟩
          · exact Or.inl ⟨h.1, by omega⟩
          · have c1 := qt_jo (f := lo) (nw := nc + 1) (t := q) (v := q) (z := R z) (by omega)
            have c2 := qt_jo (f := hi) (nw := nc + 1) (t := q) (v := q + 1) (z := R z) (by omega)
            refine Or.inr ⟨b1, by omega, by omega, by omega, ?_⟩
            rw [qa_un (by omega)]; exact b5
      · rw [qa_un e]
        rcases nz4 with h | ⟨b1, b2, b3⟩
        · exact Or.inl h
        · refine Or.inr ⟨b1, by omega, ?_⟩
          by_cases k : U z = x
          · rw [k] at b3 ⊢
            rw [hR] at b3
            exact Or.inl (by omega)
          · rw [qa_un k]; exact b3
/-- hung to the left of x, which has no left node -/
theorem qt_insL (T : qt_T nc rt L R U lo hi pos) (O : qt_O nc od pos) {x q : Nat} (hx : 1 ≤ x) (hx' : x ≤ nc) (hL : L x = 0) (hq : q = pos x) (hLn : L (nc + 1) = 0) (hRn : R (nc + 1) = 0) :
    qt_T (nc + 1) rt (qa_u L x (nc + 1)) R (qa_u U (nc + 1) x) (qt_j lo (nc + 1) (q + 1) q) (qt_j hi (nc + 1) (q + 1) (q + 1)) (qt_j pos (nc + 1) q q) := by
  obtain ⟨vx, nx2, _, _⟩ := T.2 x hx hx'
  refine ⟨Or.inr ?_, fun z hz hz' => ?_⟩
  · have hr : 1 ≤ rt ∧ rt ≤ nc ∧ lo rt = 0 ∧ hi rt = nc ∧ U rt = 0 := by have := T.1; omega
    have a1 := qt_jo (f := lo) (nw := nc + 1) (t := q + 1) (v := q) (z := rt) (by omega)
    have a2 := qt_jo (f := hi) (nw := nc + 1) (t := q + 1) (v := q + 1) (z := rt) (by omega)
    refine ⟨hr.1, by omega, by omega, by omega, ?_⟩
    rw [qa_un (by omega)]; exact hr.2.2.2.2
  · by_cases e : z = nc + 1
    · subst e
      refine ⟨?_, ?_, ?_, ?_⟩
      · rw [qt_jn, qt_jn, qt_jn]; omega
      · rw [qt_jn, qt_jn, qa_un (by omega)]; exact Or.inl ⟨hLn, rfl⟩
      · rw [qt_jn, qt_jn]; exact Or.inl ⟨hRn, rfl⟩
      · rw [qa_us, qa_us]; exact Or.inr ⟨hx, by omega, Or.inl rfl⟩
    · have hz2 : z ≤ nc := by omega
      obtain ⟨vz, nz2, nz3, nz4⟩ := T.2 z hz hz2
      have a1 := qt_jo (f := lo) (t := q + 1) (v := q) e
      have a2 := qt_jo (f := pos) (t := q) (v := q) e
      have a3 := qt_jo (f := hi) (t := q + 1) (v := q + 1) e
      refine ⟨by omega, ?_, ?_, ?_⟩
      · by_cases zx : z = x
        · subst zx
          rw [qa_us, qt_jn, qt_jn, qa_us]
          exact Or.inr ⟨by omega, by omega, by omega, by omega, rfl⟩
        · rw [qa_un zx]
          have hne : pos z ≠ pos x := fun k => zx (qt_inj O hz hz2 hx hx' k)
          rcases nz2 with h | ⟨b1, b2, b3, b4, b5⟩
          · exact Or.inl ⟨h.1, by omega⟩
          · have c1 := qt_jo (f := lo) (nw := nc + 1) (t := q + 1) (v := q) (z := L z) (by omega)
            have c2 := qt_jo (f := hi) (nw := nc + 1) (t := q + 1) (v := q + 1) (z := L z) (by omega)
            refine Or.inr ⟨b1, by omega, by omega, by omega, ?_⟩
            rw [qa_un (by omega)]; exact b5
      · rcases nz3 with h | ⟨b1, b2, b3, b4, b5⟩
        · exact Or.inl ⟨h.1, by omega⟩
        · have c1 := qt_jo (f := lo) (nw := nc + 1) (t := q + 1) (v := q) (z := R z) (by omega)
          have c2 := qt_jo (f := hi) (nw := nc + 1) (t := q + 1) (v := q + 1) (z := R z) (by omega)
          refine Or.inr ⟨b1, by omega, by omega, by omega, ?_⟩
          rw [qa_un (by omega)]; exact b5
      · rw [qa_un e]
        rcases nz4 with h | ⟨b1, b2, b3⟩
        · exact Or.inl h
        · refine Or.inr ⟨b1, by omega, ?_⟩
          by_cases k : U z = x
          · rw [k] at b3 ⊢
            rw [hL] at b3
            exact Or.inr (by omega)
          · rw [qa_un k]; exact b3
/-- the first node -/
theorem qt_ins0 (hL : L 1 = 0) (hR : R 1 = 0) (hU : U 1 = 0) : qt_T 1 1 L R U (qt_j lo 1 0 0) (qt_j hi 1 0 1) (qt_j pos 1 0 0) := by
  refine ⟨Or.inr ⟨by omega, by omega, qt_jn, qt_jn, hU⟩, fun z hz hz' => ?_⟩
  have e : z = 1 := by omega
  subst e
  refine ⟨?_, ?_, ?_, Or.inl ⟨hU, rfl⟩⟩
  · rw [qt_jn, qt_jn, qt_jn]; omega
  · rw [qt_jn, qt_jn]; exact Or.inl ⟨hL, rfl⟩
  · rw [qt_jn, qt_jn]; exact Or.inl ⟨hR, rfl⟩
end
end
section
/-! X: shown, pull, pullUp -/
abbrev qx_S (cn rt m : Nat) (sd : Int32) (L R U : Nat → Nat) (rk : Nat → Int32) (SH LT TY CV ON TP : Nat → Nat) (co : Nat → Int64) : SX :=
  (nI cn, nI rt, nI m, sd, qa_A L, qa_A R, qa_A U, rk, qa_A SH, qa_A LT, qa_A TY, qa_A CV, qa_A ON, qa_A TP, co)
def qx_w (TY CV ON : Nat → Nat) (x : Nat) : Nat := if x = 0 then 0 else if ON (TY x) = 0 then 0 else if CV x = 0 then 1 else 0
theorem qx_w01 (TY CV ON : Nat → Nat) (x : Nat) : qx_w TY CV ON x ≤ 1 := by
  unfold qx_w
  by_cases h : x = 0
  · rw [if_pos h]; omega
  · rw [if_neg h]
    by_cases h2 : ON (TY x) = 0
    · rw [if_pos h2]; omega
    · rw [if_neg h2]
      by_cases h3 : CV x = 0
      · rw [if_pos h3]; omega
      · rw [if_neg h3]; omega
def qx_B (TY CV ON : Nat → Nat) : Prop := (∀ j, TY j < 32) ∧ (∀ j, CV j < 64) ∧ (∀ j, ON j < 2)
section
variable {cn nc rt m : Nat} {sd : Int32} {L R U : Nat → Nat} {rk : Nat → Int32} {SH LT TY CV ON TP : Nat → Nat} {co : Nat → Int64} {lo hi pos od P : Nat → Nat}
theorem qx_shown {post : Int32 → Prop} {x : Nat} (B : qx_B TY CV ON) (hx : x < 49) (h : post (nI (qx_w TY CV ON x))) : wpX_shown post (qx_S cn rt m sd L R U rk SH LT TY CV ON TP co) (nI x) := by
  have h1 := B.1 x
  have h2 := B.2.1 x
  have h3 := B.2.2 (TY x)
  have e1 : qa_A TY (nI x).toNatClampNeg = nI (TY x) := qa_at (by omega)
  have e2 : qa_A CV (nI x).toNatClampNeg = nI (CV x) := qa_at (by omega)
  have e3 : qa_A ON (nI (TY x)).toNatClampNeg = nI (ON (TY x)) := qa_at (by omega)
  unfold qx_w at h
  unfold wpX_shown
  dsimp only [qx_S]
  rw [e1, e2, e3]
  refine pk_eq x 0 (fun e => ?_) (fun e => ⟨vp_in_nI hx (by omega), vp_in_nI h1 (by omega), pk_eq (ON (TY x)) 0 (fun e' => ?_) (fun e' => ⟨vp_in_nI hx (by omega), pk_eq (CV x) 0 (fun e'' => ?_) (fun e'' => ?_)⟩)⟩)
  · rw [if_pos e] at h; exact h
  · rw [if_neg e, if_pos e'] at h; exact h
  · rw [if_neg e, if_neg e', if_pos e''] at h; exact h
  · rw [if_neg e, if_neg e', if_neg e''] at h; exact h
theorem qx_pull13 {post : SX → Prop} {x v : Nat} (hx : x < 49) (hL : L x < 49) (hR : R x < 49) (h : post (qx_S cn rt m sd L R U rk (qa_u SH x (SH (L x) + v + SH (R x))) LT TY CV ON TP co)) : wX_pull_13 post (nI x) (nI v) (nI cn) (nI rt) (nI m) sd (qa_A L) (qa_A R) (qa_A U) rk (qa_A SH) (qa_A LT) (qa_A TY) (qa_A CV) (qa_A ON) (qa_A TP) co := by
  unfold wX_pull_13
  rw [qa_at (f := L) (x := x) (by omega), qa_at (f := R) (x := x) (by omega), qa_at (f := SH) (x := L x) (by omega), qa_at (f := SH) (x := R x) (by omega), nI_add, nI_add]
  refine ⟨vp_in_nI hx (by omega), vp_in_nI hL (by omega), vp_in_nI hx (by omega), vp_in_nI hR (by omega), vp_in_nI hx (by omega), fun a ea => ?_⟩
  rw [ea, qa_st (by omega)]
  exact h
theorem qx_pull {post : SX → Prop} {x : Nat} (B : qx_B TY CV ON) (hx : x < 49) (hL : L x < 49) (hR : R x < 49) (h : post (qx_S cn rt m sd L R U rk (qa_u SH x (SH (L x) + qx_w TY CV ON x + SH (R x))) LT TY CV ON TP co)) : wpX_pull post (qx_S cn rt m sd L R U rk SH LT TY CV ON TP co) (nI x) := by
  unfold wpX_pull
  dsimp only [qx_S]
  refine qx_shown B hx ?_
  have hw := qx_w01 TY CV ON x
  refine pk_eq (qx_w TY CV ON x) 0 (fun e => ?_) (fun e => ?_)
  · rw [e] at h
    exact qx_pull13 hx hL hR h
  · have e1 : qx_w TY CV ON x = 1 := by omega
    rw [e1] at h
    exact qx_pull13 hx hL hR h
/-- what pull stores is right if the nodes below are right -/
theorem qt_pl {w : Nat → Nat} (T : qt_T nc rt L R U lo hi pos) (hP : ∀ z, 1 ≤ z → z ≤ nc → P (pos z + 1) = P (pos z) + w z) (h0 : SH 0 = 0) {a : Nat} (a1 : 1 ≤ a) (a2 : a ≤ nc)
    (h : ∀ y, 1 ≤ y → y ≤ nc → hi y - lo y < hi a - lo a → U y = a → SH y + P (lo y) = P (hi y)) : SH (L a) + w a + SH (R a) + P (lo a) = P (hi a) := by
  obtain ⟨va, n2, n3, _⟩ := T.2 a a1 a2
  have k1 : SH (L a) + P (lo a) = P (pos a) := by
    rcases n2 with e | ⟨b1, b2, b3, b4, b5⟩
    · rw [e.1, h0, e.2]; omega
    · have := h (L a) b1 b2 (by omega) b5
      rw [b3, b4] at this
      exact this
  have k2 : SH (R a) + P (pos a + 1) = P (hi a) := by
    rcases n3 with e | ⟨b1, b2, b3, b4, b5⟩
    · rw [e.1, h0, e.2]; omega
    · have := h (R a) b1 b2 (by omega) b5
      rw [b3, b4] at this
      exact this
  have k3 := hP a a1 a2
  omega
theorem qx_pullUpL {post : SX → Prop} (B : qx_B TY CV ON) (hn : nc ≤ 47) (T : qt_T nc rt L R U lo hi pos) (O : qt_O nc od pos) (hP : ∀ z, 1 ≤ z → z ≤ nc → P (pos z + 1) = P (pos z) + qx_w TY CV ON z)
    (hk : ∀ SH' : Nat → Nat, SH' 0 = 0 → (∀ z, 1 ≤ z → z ≤ nc → SH' z + P (lo z) = P (hi z)) → post (qx_S cn rt m sd L R U rk SH' LT TY CV ON TP co)) :
    ∀ (n a i : Nat) (SH : Nat → Nat), 48 < n + i → i ≤ 48 → SH 0 = 0 →
      (a = 0 ∧ (∀ z, 1 ≤ z → z ≤ nc → SH z + P (lo z) = P (hi z)) ∨ 1 ≤ a ∧ a ≤ nc ∧ i < hi a - lo a ∧ (∀ z, 1 ≤ z → z ≤ nc → ¬ (lo z ≤ lo a ∧ hi a ≤ hi z) → SH z + P (lo z) = P (hi z))) →
      wX_pullUp_4 post n (nI a) (nI i) (nI cn) (nI rt) (nI m) sd (qa_A L) (qa_A R) (qa_A U) rk (qa_A SH) (qa_A LT) (qa_A TY) (qa_A CV) (qa_A ON) (qa_A TP) co := by
  intro n
  induction n with
  | zero => intro a i SH h1 h2; omega
  | succ n ih =>
    intro a i SH h1 h2 h0 h
    rcases h with ⟨ha, hs⟩ | ⟨a1, a2, a3, hs⟩
    · subst ha
      exact pk_le 48 i (fun _ => hk SH h0 hs) (fun _ => pk_eq 0 0 (fun _ => hk SH h0 hs) (fun e => absurd rfl e))
    · obtain ⟨va, n2, n3, n4⟩ := T.2 a a1 a2
      refine pk_le 48 i (fun e => absurd e (by omega)) (fun e => pk_eq a 0 (fun e => absurd e (by omega)) (fun _ => ?_))
      refine qx_pull B (by omega) (by omega) (by omega) ?_
      dsimp only [qx_S]
      rw [qa_at (f := U) (x := a) (by omega)]
      refine ⟨vp_in_nI (by omega) (by omega), nm_e (nm_r (nI_1 i) ?_)⟩
      have hpl := qt_pl T hP h0 a1 a2 (fun y y1 y2 y3 y4 => hs y y1 y2 (by omega))
      refine ih (U a) (i + 1) _ (by omega) (by omega) (by rw [qa_un (by omega)]; exact h0) ?_
      by_cases hU : U a = 0
      · refine Or.inl ⟨hU, fun z z1 z2 => ?_⟩
        by_cases e : z = a
        · subst e; rw [qa_us]; exact hpl
        · rw [qa_un e]
          refine hs z z1 z2 (fun c => ?_)
          exact (qt_anc T O a1 a2 _ z (Nat.le_refl _) z1 z2 e (by omega) (by omega)).1 hU
      · obtain ⟨p1, p2, p3⟩ := qt_par T a1 a2 hU
        have vp := qt_iv T p1 p2
        refine Or.inr ⟨p1, p2, by omega, fun z z1 z2 hz => ?_⟩
        by_cases e : z = a
        · subst e; rw [qa_us]; exact hpl
        · rw [qa_un e]
          refine hs z z1 z2 (fun c => hz ?_)
          exact (qt_anc T O a1 a2 _ z (Nat.le_refl _) z1 z2 e (by omega) (by omega)).2
theorem qx_pullUp {post : SX → Prop} {x : Nat} (B : qx_B TY CV ON) (hn : nc ≤ 47) (T : qt_T nc rt L R U lo hi pos) (O : qt_O nc od pos) (hP : ∀ z, 1 ≤ z → z ≤ nc → P (pos z + 1) = P (pos z) + qx_w TY CV ON z)
    (h0 : SH 0 = 0) (x1 : 1 ≤ x) (x2 : x ≤ nc) (hs : ∀ z, 1 ≤ z → z ≤ nc → ¬ (lo z ≤ pos x ∧ pos x < hi z) → SH z + P (lo z) = P (hi z))
    (hk : ∀ SH' : Nat → Nat, SH' 0 = 0 → (∀ z, 1 ≤ z → z ≤ nc → SH' z + P (lo z) = P (hi z)) → post (qx_S cn rt m sd L R U rk SH' LT TY CV ON TP co)) :
    wpX_pullUp post (qx_S cn rt m sd L R U rk SH LT TY CV ON TP co) (nI x) := by
  have vx := qt_iv T x1 x2
  refine ⟨49, qx_pullUpL B hn T O hP hk 49 x 0 SH (by omega) (by omega) h0 (Or.inr ⟨x1, x2, by omega, fun z z1 z2 hz => hs z z1 z2 (fun c => hz ?_)⟩)⟩
  by_cases e : z = x
  · subst e; omega
  · obtain ⟨c1, c2, c3⟩ := qt_anc T O x1 x2 _ z (Nat.le_refl _) z1 z2 e c.1 c.2
    obtain ⟨p1, p2, p3⟩ := qt_par T x1 x2 c1
    have vp := qt_iv T p1 p2
    omega
end
end
section
/-! X: lift -/
section
variable {cn nc rt m : Nat} {sd : Int32} {L R U : Nat → Nat} {rk : Nat → Int32} {SH LT TY CV ON TP : Nat → Nat} {co : Nat → Int64} {lo hi pos od P : Nat → Nat}
/-- what the last rows of lift leave -/
def qx_RB (x p g rt : Nat) (L R : Nat → Nat) (rt' : Nat) (L' R' : Nat → Nat) : Prop :=
  (g = 0 ∧ rt' = x ∧ L' = L ∧ R' = R) ∨ (g ≠ 0 ∧ L g = p ∧ rt' = rt ∧ L' = qa_u L g x ∧ R' = R) ∨ (g ≠ 0 ∧ L g ≠ p ∧ rt' = rt ∧ L' = L ∧ R' = qa_u R g x)
theorem qx_replace {post : SX → Prop} {x p g : Nat} (hp : p < 49) (hg : g < 49) (hLg : g ≠ 0 → L g < 49)
    (k : ∀ (rt' : Nat) (L' R' : Nat → Nat), qx_RB x p g rt L R rt' L' R' → post (qx_S cn rt' m sd L' R' U rk SH LT TY CV ON TP co)) : wpX_replaceBelow post (qx_S cn rt m sd L R U rk SH LT TY CV ON TP co) (nI g) (nI p) (nI x) := by
  unfold wpX_replaceBelow
  dsimp only [qx_S]
  rw [qa_at (f := L) (x := g) (by omega), qa_st (f := L) (x := g) (by omega), qa_st (f := R) (x := g) (by omega)]
  refine pk_eq g 0 (fun e => k x L R (Or.inl ⟨e, rfl, rfl, rfl⟩)) (fun e => ⟨vp_in_nI hg (by omega), ?_⟩)
  have hb := hLg e
  refine pk_eq (L g) p (fun e' => ?_) (fun e' => ?_)
  · exact ⟨vp_in_nI hg (by omega), nm_e (k rt _ R (Or.inr (Or.inl ⟨e, e', rfl, rfl, rfl⟩)))⟩
  · exact ⟨vp_in_nI hg (by omega), nm_e (k rt L _ (Or.inr (Or.inr ⟨e, e', rfl, rfl, rfl⟩)))⟩
theorem qx_lift107 {post : SX → Prop} {x p g : Nat} (B : qx_B TY CV ON) (hx : x < 49) (hp : p < 49) (hg : g < 49) (hLg : g ≠ 0 → L g < 49)
    (k : ∀ (rt' : Nat) (L' R' : Nat → Nat), qx_RB x p g rt L R rt' L' R' → (L' p < 49 ∧ R' p < 49 ∧ L' x < 49 ∧ R' x < 49) ∧
      post (qx_S cn rt' m sd L' R' (qa_u (qa_u U p x) x g) rk (qa_u (qa_u SH p (SH (L' p) + qx_w TY CV ON p + SH (R' p))) x (qa_u SH p (SH (L' p) + qx_w TY CV ON p + SH (R' p)) (L' x) + qx_w TY CV ON x + qa_u SH p (SH (L' p) + qx_w TY CV ON p + SH (R' p)) (R' x))) LT TY CV ON TP co)) :
    wX_lift_107 post (nI x) (nI p) (nI g) (nI cn) (nI rt) (nI m) sd (qa_A L) (qa_A R) (qa_A U) rk (qa_A SH) (qa_A LT) (qa_A TY) (qa_A CV) (qa_A ON) (qa_A TP) co := by
  unfold wX_lift_107
  rw [qa_st (f := U) (x := p) (by omega)]
  refine ⟨vp_in_nI hp (by omega), nm_e ?_⟩
  rw [qa_st (x := x) (by omega)]
  refine ⟨vp_in_nI hx (by omega), nm_e ?_⟩
  refine qx_replace hp hg hLg (fun rt' L' R' hrb => ?_)
  obtain ⟨⟨b1, b2, b3, b4⟩, hpost⟩ := k rt' L' R' hrb
  dsimp only [qx_S]
  refine qx_pull B hp b1 b2 ?_
  dsimp only [qx_S]
  refine qx_pull B hx b3 b4 ?_
  exact hpost
/-- the tree part of a state is sound: nc nodes, intervals lo, hi, places pos, sums P -/
def qt_W (nc rt : Nat) (L R U SH lo hi pos P : Nat → Nat) : Prop :=
  qt_T nc rt L R U lo hi pos ∧ (∀ z, nc < z → L z = 0 ∧ R z = 0 ∧ U z = 0) ∧ SH 0 = 0 ∧ (∀ z, 1 ≤ z → z ≤ nc → SH z + P (lo z) = P (hi z))
theorem qt_siL {x p g : Nat} {w SH1 lo' hi' L' R' U' : Nat → Nat} {rt' : Nat} (T : qt_T nc rt' L' R' U' lo' hi' pos) (hP : ∀ z, 1 ≤ z → z ≤ nc → P (pos z + 1) = P (pos z) + w z) (h0 : SH 0 = 0)
    (x1 : 1 ≤ x) (x2 : x ≤ nc) (p1 : 1 ≤ p) (p2 : p ≤ nc) (xp : x ≠ p) (hs : ∀ z, 1 ≤ z → z ≤ nc → SH z + P (lo z) = P (hi z)) (ux : U' x = g) (gp : g ≠ p)
    (o2 : ∀ z, z ≠ x → z ≠ p → lo' z = lo z) (i2 : ∀ z, z ≠ x → z ≠ p → hi' z = hi z)
    (e1 : SH1 = qa_u SH p (SH (L' p) + w p + SH (R' p))) :
    qa_u SH1 x (SH1 (L' x) + w x + SH1 (R' x)) 0 = 0 ∧ (∀ z, 1 ≤ z → z ≤ nc → qa_u SH1 x (SH1 (L' x) + w x + SH1 (R' x)) z + P (lo' z) = P (hi' z)) := by
  have k1 := qt_pl T hP h0 p1 p2 (fun y y1 y2 y3 y4 => by
    have yx : y ≠ x := fun e => by rw [e] at y4; omega
    have yp : y ≠ p := fun e => by rw [e] at y3; omega
    rw [o2 y yx yp, i2 y yx yp]
    exact hs y y1 y2)
  have s0 : SH1 0 = 0 := by rw [e1, qa_un (by omega)]; exact h0
  have s1 : ∀ y, 1 ≤ y → y ≤ nc → y ≠ x → SH1 y + P (lo' y) = P (hi' y) := fun y y1 y2 yx => by
    by_cases yp : y = p
    · subst yp; rw [e1, qa_us]; exact k1
    · rw [e1, qa_un yp, o2 y yx yp, i2 y yx yp]; exact hs y y1 y2
  have k2 := qt_pl T hP s0 x1 x2 (fun y y1 y2 y3 y4 => s1 y y1 y2 (fun e => by rw [e] at y3; omega))
  refine ⟨by rw [qa_un (by omega)]; exact s0, fun z z1 z2 => ?_⟩
  by_cases e : z = x
  · subst e; rw [qa_us]; exact k2
  · rw [qa_un e]; exact s1 z z1 z2 e
theorem qt_bd {x : Nat} (T : qt_T nc rt L R U lo hi pos) (x1 : 1 ≤ x) (x2 : x ≤ nc) : L x ≤ nc ∧ R x ≤ nc ∧ U x ≤ nc := by
  obtain ⟨_, n2, n3, n4⟩ := T.2 x x1 x2
  refine ⟨?_, ?_, ?_⟩
  · clear n3 n4; omega
  · clear n2 n4; omega
  · clear n2 n3; omega
theorem qx_liftL57 {post : SX → Prop} {x p g : Nat} {U1 : Nat → Nat} (B : qx_B TY CV ON) (hn : nc ≤ 47) (W : qt_W nc rt L R U SH lo hi pos P) (hP : ∀ z, 1 ≤ z → z ≤ nc → P (pos z + 1) = P (pos z) + qx_w TY CV ON z)
    (x1 : 1 ≤ x) (x2 : x ≤ nc) (p1 : 1 ≤ p) (p2 : p ≤ nc) (hp : U x = p) (hg : U p = g) (hgn : g ≤ nc) (hgp : g ≠ p) (hgx : g ≠ x) (xp : x ≠ p) (hA : L p = x) (cx : R x ≠ x) (cp : R x ≠ p)
    (u3 : R x ≠ 0 → U1 (R x) = p) (u4 : ∀ z, z ≠ R x → U1 z = U z)
    (k : ∀ (rt' : Nat) (L' R' U' SH' lo' hi' : Nat → Nat), qt_W nc rt' L' R' U' SH' lo' hi' pos P → post (qx_S cn rt' m sd L' R' U' rk SH' LT TY CV ON TP co)) : wX_lift_57 post (nI x) (nI p) (nI g) (nI cn) (nI rt) (nI m) sd (qa_A (qa_u L p (R x))) (qa_A R) (qa_A U1) rk (qa_A SH) (qa_A LT) (qa_A TY) (qa_A CV) (qa_A ON) (qa_A TP) co := by
  obtain ⟨T, hF, h0, hs⟩ := W
  unfold wX_lift_57
  rw [qa_st (f := R) (x := x) (by omega)]
  refine ⟨vp_in_nI (by omega) (by omega), nm_e ?_⟩
  have px : p ≠ x := fun e => xp e.symm
  have pg : p ≠ g := fun e => hgp e.symm
  have xg : x ≠ g := fun e => hgx e.symm
  refine qx_lift107 B (by omega) (by omega) (by omega) (fun g0 => ?_) (fun rt' L' R' hrb => ?_)
  · rw [qa_un hgp]
    have := (qt_bd T (show 1 ≤ g by omega) hgn).1
    omega
  · have T' : qt_T nc rt' L' R' (qa_u (qa_u U1 p x) x g) (qa_u lo p (pos x + 1)) (qa_u hi x (hi p)) pos := by
      have u2 : qa_u (qa_u U1 p x) x g p = x := by rw [qa_un px, qa_us]
      have u3' : R x ≠ 0 → qa_u (qa_u U1 p x) x g (R x) = p := fun c0 => by rw [qa_un cx, qa_un cp]; exact u3 c0
      have u4' : ∀ z, z ≠ x → z ≠ p → z ≠ R x → qa_u (qa_u U1 p x) x g z = U z := fun z a b c => by rw [qa_un a, qa_un b]; exact u4 z c
      rcases hrb with ⟨g0, ert, eL, eR⟩ | ⟨g0, lg, ert, eL, eR⟩ | ⟨g0, lg, ert, eL, eR⟩
      · rw [ert, eL, eR]
        exact qt_rotL T x1 x2 hp (by omega) hg hA rfl qa_us (fun z a b => qa_un a) qa_us (fun z a b => qa_un a) (fun z => absurd g0 z) qa_us u2 u3' u4' (fun _ => rfl) (fun z => absurd g0 z) qa_us (fun z e => qa_un e) qa_us (fun z e => qa_un e)
      · rw [qa_un hgp] at lg
        rw [ert, eL, eR]
        exact qt_rotL T x1 x2 hp (by omega) hg hA rfl (by rw [qa_un pg, qa_us]) (fun z a b => by rw [qa_un b, qa_un a]) qa_us (fun z a b => qa_un a) (fun _ => Or.inl ⟨lg, qa_us, qa_un hgx⟩) qa_us u2 u3' u4' (fun z => absurd z g0) (fun _ => rfl) qa_us (fun z e => qa_un e) qa_us (fun z e => qa_un e)
      · rw [qa_un hgp] at lg
        rw [ert, eL, eR]
        exact qt_rotL T x1 x2 hp (by omega) hg hA rfl qa_us (fun z a b => qa_un a) (by rw [qa_un xg, qa_us]) (fun z a b => by rw [qa_un b, qa_un a]) (fun _ => Or.inr ⟨lg, qa_un hgp, qa_us⟩) qa_us u2 u3' u4' (fun z => absurd z g0) (fun _ => rfl) qa_us (fun z e => qa_un e) qa_us (fun z e => qa_un e)
    have a2 := qt_bd T' p1 p2
    have b2 := qt_bd T' x1 x2
    have S' := qt_siL (w := qx_w TY CV ON) (SH := SH) (lo := lo) (hi := hi) T' hP h0 x1 x2 p1 p2 xp hs qa_us hgp (fun z a b => qa_un b) (fun z a b => qa_un a) rfl
    refine ⟨⟨by omega, by omega, by omega, by omega⟩, k rt' L' R' _ _ _ _ ⟨T', fun z hz => ?_, S'.1, S'.2⟩⟩
    obtain ⟨f1, f2, f3⟩ := hF z hz
    have zx : z ≠ x := by omega
    have zp : z ≠ p := by omega
    have zg : z ≠ g := by omega
    have zc : z ≠ R x := fun e => by
      have := qt_bd T x1 x2
      omega
    refine ⟨?_, ?_, by rw [qa_un zx, qa_un zp, u4 z zc]; exact f3⟩
    · rcases hrb with ⟨g0, ert, eL, eR⟩ | ⟨g0, lg, ert, eL, eR⟩ | ⟨g0, lg, ert, eL, eR⟩
      · rw [eL, qa_un zp]; exact f1
      · rw [eL, qa_un zg, qa_un zp]; exact f1
      · rw [eL, qa_un zp]; exact f1
    · rcases hrb with ⟨g0, ert, eL, eR⟩ | ⟨g0, lg, ert, eL, eR⟩ | ⟨g0, lg, ert, eL, eR⟩
      · rw [eR, qa_un zx]; exact f2
      · rw [eR, qa_un zx]; exact f2
      · rw [eR, qa_un zg, qa_un zx]; exact f2
theorem qx_liftR100 {post : SX → Prop} {x p g : Nat} {U1 : Nat → Nat} (B : qx_B TY CV ON) (hn : nc ≤ 47) (W : qt_W nc rt L R U SH lo hi pos P) (hP : ∀ z, 1 ≤ z → z ≤ nc → P (pos z + 1) = P (pos z) + qx_w TY CV ON z)
    (x1 : 1 ≤ x) (x2 : x ≤ nc) (p1 : 1 ≤ p) (p2 : p ≤ nc) (hp : U x = p) (hg : U p = g) (hgn : g ≤ nc) (hgp : g ≠ p) (hgx : g ≠ x) (xp : x ≠ p) (hA : R p = x) (cx : L x ≠ x) (cp : L x ≠ p)
    (u3 : L x ≠ 0 → U1 (L x) = p) (u4 : ∀ z, z ≠ L x → U1 z = U z)
    (k : ∀ (rt' : Nat) (L' R' U' SH' lo' hi' : Nat → Nat), qt_W nc rt' L' R' U' SH' lo' hi' pos P → post (qx_S cn rt' m sd L' R' U' rk SH' LT TY CV ON TP co)) : wX_lift_100 post (nI x) (nI p) (nI g) (nI cn) (nI rt) (nI m) sd (qa_A L) (qa_A (qa_u R p (L x))) (qa_A U1) rk (qa_A SH) (qa_A LT) (qa_A TY) (qa_A CV) (qa_A ON) (qa_A TP) co := by
  obtain ⟨T, hF, h0, hs⟩ := W
  unfold wX_lift_100
  rw [qa_st (f := L) (x := x) (by omega)]
  refine ⟨vp_in_nI (by omega) (by omega), nm_e ?_⟩
  have px : p ≠ x := fun e => xp e.symm
  have pg : p ≠ g := fun e => hgp e.symm
  have xg : x ≠ g := fun e => hgx e.symm
  refine qx_lift107 B (by omega) (by omega) (by omega) (fun g0 => ?_) (fun rt' L' R' hrb => ?_)
  · rw [qa_un hgx]
    have := (qt_bd T (show 1 ≤ g by omega) hgn).1
    omega
  · have T' : qt_T nc rt' L' R' (qa_u (qa_u U1 p x) x g) (qa_u lo x (lo p)) (qa_u hi p (pos x)) pos := by
      have u2 : qa_u (qa_u U1 p x) x g p = x := by rw [qa_un px, qa_us]
      have u3' : L x ≠ 0 → qa_u (qa_u U1 p x) x g (L x) = p := fun c0 => by rw [qa_un cx, qa_un cp]; exact u3 c0
      have u4' : ∀ z, z ≠ x → z ≠ p → z ≠ L x → qa_u (qa_u U1 p x) x g z = U z := fun z a b c => by rw [qa_un a, qa_un b]; exact u4 z c
      rcases hrb with ⟨g0, ert, eL, eR⟩ | ⟨g0, lg, ert, eL, eR⟩ | ⟨g0, lg, ert, eL, eR⟩
      · rw [ert, eL, eR]
        exact qt_rotR T x1 x2 hp (by omega) hg hA rfl qa_us (fun z a b => qa_un a) qa_us (fun z a b => qa_un a) (fun z => absurd g0 z) qa_us u2 u3' u4' (fun _ => rfl) (fun z => absurd g0 z) qa_us (fun z e => qa_un e) qa_us (fun z e => qa_un e)
      · rw [qa_un hgx] at lg
        rw [ert, eL, eR]
        exact qt_rotR T x1 x2 hp (by omega) hg hA rfl qa_us (fun z a b => qa_un a) (by rw [qa_un xg, qa_us]) (fun z a b => by rw [qa_un b, qa_un a]) (fun _ => Or.inl ⟨lg, qa_us, qa_un hgp⟩) qa_us u2 u3' u4' (fun z => absurd z g0) (fun _ => rfl) qa_us (fun z e => qa_un e) qa_us (fun z e => qa_un e)
      · rw [qa_un hgx] at lg
        rw [ert, eL, eR]
        exact qt_rotR T x1 x2 hp (by omega) hg hA rfl (by rw [qa_un pg, qa_us]) (fun z a b => by rw [qa_un b, qa_un a]) qa_us (fun z a b => qa_un a) (fun _ => Or.inr ⟨lg, qa_un hgx, qa_us⟩) qa_us u2 u3' u4' (fun z => absurd z g0) (fun _ => rfl) qa_us (fun z e => qa_un e) qa_us (fun z e => qa_un e)
    have a2 := qt_bd T' p1 p2
    have b2 := qt_bd T' x1 x2
    have S' := qt_siL (w := qx_w TY CV ON) (SH := SH) (lo := lo) (hi := hi) T' hP h0 x1 x2 p1 p2 xp hs qa_us hgp (fun z a b => qa_un a) (fun z a b => qa_un b) rfl
    refine ⟨⟨by omega, by omega, by omega, by omega⟩, k rt' L' R' _ _ _ _ ⟨T', fun z hz => ?_, S'.1, S'.2⟩⟩
    obtain ⟨f1, f2, f3⟩ := hF z hz
    have zx : z ≠ x := by omega
    have zp : z ≠ p := by omega
    have zg : z ≠ g := by omega
    have zc : z ≠ L x := fun e => by
      have := qt_bd T x1 x2
      omega
    refine ⟨?_, ?_, by rw [qa_un zx, qa_un zp, u4 z zc]; exact f3⟩
    · rcases hrb with ⟨g0, ert, eL, eR⟩ | ⟨g0, lg, ert, eL, eR⟩ | ⟨g0, lg, ert, eL, eR⟩
      · rw [eL, qa_un zx]; exact f1
      · rw [eL, qa_un zg, qa_un zx]; exact f1
      · rw [eL, qa_un zx]; exact f1
    · rcases hrb with ⟨g0, ert, eL, eR⟩ | ⟨g0, lg, ert, eL, eR⟩ | ⟨g0, lg, ert, eL, eR⟩
      · rw [eR, qa_un zp]; exact f2
      · rw [eR, qa_un zp]; exact f2
      · rw [eR, qa_un zg, qa_un zp]; exact f2
theorem qx_lift {post : SX → Prop} {x : Nat} (B : qx_B TY CV ON) (hn : nc ≤ 47) (W : qt_W nc rt L R U SH lo hi pos P) (hP : ∀ z, 1 ≤ z → z ≤ nc → P (pos z + 1) = P (pos z) + qx_w TY CV ON z)
    (x1 : 1 ≤ x) (x2 : x ≤ nc) (hU : U x ≠ 0)
    (k : ∀ (rt' : Nat) (L' R' U' SH' lo' hi' : Nat → Nat), qt_W nc rt' L' R' U' SH' lo' hi' pos P → post (qx_S cn rt' m sd L' R' U' rk SH' LT TY CV ON TP co)) : wpX_lift post (qx_S cn rt m sd L R U rk SH LT TY CV ON TP co) (nI x) := by
  obtain ⟨p, hp⟩ : ∃ p, U x = p := ⟨_, rfl⟩
  obtain ⟨g, hg⟩ : ∃ g, U p = g := ⟨_, rfl⟩
  have T := W.1
  rw [hp] at hU
  obtain ⟨p1, p2⟩ := qt_lfp T x1 x2 hp hU
  obtain ⟨hLx, hRx, _⟩ := qt_bd T x1 x2
  obtain ⟨hLp, hRp, hgn⟩ := qt_bd T p1 p2
  rw [hg] at hgn
  have vx := qt_iv T x1 x2
  have hside : L p = x ∨ L p ≠ x ∧ R p = x := by
    by_cases e : L p = x
    · exact Or.inl e
    · have := (qt_par T x1 x2 (by rw [hp]; exact hU)).2.2
      rw [hp] at this
      rcases this with h | h
      · exact absurd h.1 e
      · exact Or.inr ⟨e, h.1⟩
  have hio : lo p ≤ lo x ∧ hi x ≤ hi p ∧ (hi x ≠ hi p ∨ lo x ≠ lo p) := by
    have vp := qt_iv T p1 p2
    rcases hside with h | h
    · have := qt_lfL T x1 p1 p2 h
      omega
    · have := qt_lfR T x1 p1 p2 h.2
      omega
  have hgp : g ≠ p := fun e => qt_lfd T p1 p2 hg p1 (Nat.le_refl _) (Nat.le_refl _) e.symm
  have hgx : g ≠ x := fun e => qt_lfd T p1 p2 hg x1 hio.1 hio.2.1 e.symm
  have xp : x ≠ p := fun e => by subst e; rcases hio.2.2 with h | h <;> exact h rfl
  clear hio
  unfold wpX_lift
  dsimp only [qx_S]
  rw [qa_at (f := U) (x := x) (by omega), hp]
  refine ⟨vp_in_nI (by omega) (by omega), nm_e ?_⟩
  rw [qa_at (f := U) (x := p) (by omega), hg]
  refine ⟨vp_in_nI (by omega) (by omega), nm_e ?_⟩
  refine ⟨vp_in_nI (by omega) (by omega), ?_⟩
  rw [qa_at (f := L) (x := p) (by omega), qa_at (f := R) (x := x) (by omega), qa_at (f := L) (x := x) (by omega)]
  refine pk_eq (L p) x (fun hL => ?_) (fun hL => ?_)
  · have cx : R x ≠ x := fun e => by have := qt_lfR T x1 x1 x2 e; omega
    have cp : R x ≠ p := fun e => hgx (hg.symm.trans (qt_lfR T p1 x1 x2 e).2.2)
    rw [qa_st (f := L) (x := p) (by omega)]
    refine ⟨vp_in_nI (by omega) (by omega), vp_in_nI (by omega) (by omega), nm_e ⟨vp_in_nI (by omega) (by omega), ?_⟩⟩
    refine pk_eq (R x) 0 (fun e => ?_) (fun e => ?_)
    · exact qx_liftL57 (U1 := U) B hn W hP x1 x2 p1 p2 hp hg hgn hgp hgx xp hL cx cp (fun z => absurd e z) (fun z _ => rfl) k
    · rw [qa_st (f := U) (x := R x) (by omega)]
      refine ⟨vp_in_nI (by omega) (by omega), vp_in_nI (by omega) (by omega), nm_e ?_⟩
      exact qx_liftL57 (U1 := qa_u U (R x) p) B hn W hP x1 x2 p1 p2 hp hg hgn hgp hgx xp hL cx cp (fun _ => qa_us) (fun z a => qa_un a) k
  · have hR : R p = x := by
      rcases hside with h | h
      · exact absurd h hL
      · exact h.2
    have cx : L x ≠ x := fun e => by have := qt_lfL T x1 x1 x2 e; omega
    have cp : L x ≠ p := fun e => hgx (hg.symm.trans (qt_lfL T p1 x1 x2 e).2.2)
    rw [qa_st (f := R) (x := p) (by omega)]
    refine ⟨vp_in_nI (by omega) (by omega), vp_in_nI (by omega) (by omega), nm_e ⟨vp_in_nI (by omega) (by omega), ?_⟩⟩
    refine pk_eq (L x) 0 (fun e => ?_) (fun e => ?_)
    · exact qx_liftR100 (U1 := U) B hn W hP x1 x2 p1 p2 hp hg hgn hgp hgx xp hR cx cp (fun z => absurd e z) (fun z _ => rfl) k
    · rw [qa_st (f := U) (x := L x) (by omega)]
      refine ⟨vp_in_nI (by omega) (by omega), vp_in_nI (by omega) (by omega), nm_e ?_⟩
      exact qx_liftR100 (U1 := qa_u U (L x) p) B hn W hP x1 x2 p1 p2 hp hg hgn hgp hgx xp hR cx cp (fun _ => qa_us) (fun z a => qa_un a) k
end
end
section
/-! X: hang -/
def qt_P (w od : Nat → Nat) : Nat → Nat := qa_s (fun j => w (od j))
theorem qt_hP {nc : Nat} {od pos : Nat → Nat} (w : Nat → Nat) (O : qt_O nc od pos) : ∀ z, 1 ≤ z → z ≤ nc → qt_P w od (pos z + 1) = qt_P w od (pos z) + w z := by
  intro z z1 z2
  show qa_s (fun j => w (od j)) (pos z) + w (od (pos z)) = _
  rw [(O.1 z z1 z2).2]
  rfl
theorem qt_Pi (w od : Nat → Nat) (q v : Nat) : ∀ n, (n ≤ q → qt_P w (qt_oi od q v) n = qt_P w od n) ∧ (q ≤ n → qt_P w (qt_oi od q v) (n + 1) = qt_P w od n + w v) := by
  intro n
  have h := qa_ins (f := fun j => w (od j)) (g := fun j => w (qt_oi od q v j)) (q := q) (fun j hj => by show w (qt_oi od q v j) = w (od j); rw [qt_oi1 hj]) (fun j hj => by show w (qt_oi od q v (j + 1)) = w (od j); rw [qt_oi3 hj]) n
  refine ⟨h.1, fun hn => ?_⟩
  have h2 := h.2 hn
  rw [qt_oi2] at h2
  exact h2
section
variable {cn nc rt m : Nat} {sd : Int32} {L R U : Nat → Nat} {rk : Nat → Int32} {SH LT TY CV ON TP : Nat → Nat} {co : Nat → Int64} {lo hi pos od P : Nat → Nat}
theorem qt_sj {P' : Nat → Nat} {q s v : Nat} (hs1 : s ≤ 1) (T : qt_T nc rt L R U lo hi pos) (hs : ∀ z, 1 ≤ z → z ≤ nc → SH z + P (lo z) = P (hi z)) (hp : ∀ n, (n ≤ q → P' n = P n) ∧ (q ≤ n → P' (n + 1) = P n + v)) :
    ∀ z, 1 ≤ z → z ≤ nc + 1 → ¬ (qt_j lo (nc + 1) (q + s) q z ≤ q ∧ q < qt_j hi (nc + 1) (q + s) (q + 1) z) → SH z + P' (qt_j lo (nc + 1) (q + s) q z) = P' (qt_j hi (nc + 1) (q + s) (q + 1) z) := by
  intro z z1 z2 hz
  by_cases e : z = nc + 1
  · subst e
    rw [qt_jn, qt_jn] at hz
    omega
  · have vz := qt_iv T z1 (show z ≤ nc by omega)
    have h := hs z z1 (by omega)
    have a1 := qt_jo (f := lo) (t := q + s) (v := q) e
    have a2 := qt_jo (f := hi) (t := q + s) (v := q + 1) e
    by_cases c : qt_j hi (nc + 1) (q + s) (q + 1) z ≤ q
    · have b1 : qt_j lo (nc + 1) (q + s) q z = lo z := by omega
      have b2 : qt_j hi (nc + 1) (q + s) (q + 1) z = hi z := by omega
      rw [b1, b2, (hp (lo z)).1 (by omega), (hp (hi z)).1 (by omega)]
      exact h
    · have b1 : qt_j lo (nc + 1) (q + s) q z = lo z + 1 := by omega
      have b2 : qt_j hi (nc + 1) (q + s) (q + 1) z = hi z + 1 := by omega
      rw [b1, b2, (hp (lo z)).2 (by omega), (hp (hi z)).2 (by omega)]
      omega
theorem qx_hang116 {post : SX → Prop} {x : Nat} (B : qx_B TY CV ON) (hn : nc ≤ 47) (hP : ∀ z, 1 ≤ z → z ≤ nc → P (pos z + 1) = P (pos z) + qx_w TY CV ON z) (x1 : 1 ≤ x) (x2 : x ≤ nc)
    (k : ∀ (rt' : Nat) (L' R' U' SH' lo' hi' : Nat → Nat), qt_W nc rt' L' R' U' SH' lo' hi' pos P → post (qx_S cn rt' m sd L' R' U' rk SH' LT TY CV ON TP co)) :
    ∀ (n i rt : Nat) (L R U SH lo hi : Nat → Nat), 48 < n + i → i ≤ 48 → qt_W nc rt L R U SH lo hi pos P → wX_hang_116 post (nI x) n (nI i) (nI cn) (nI rt) (nI m) sd (qa_A L) (qa_A R) (qa_A U) rk (qa_A SH) (qa_A LT) (qa_A TY) (qa_A CV) (qa_A ON) (qa_A TP) co := by
  intro n
  induction n with
  | zero => intro i rt L R U SH lo hi h1 h2; omega
  | succ n ih =>
    intro i rt L R U SH lo hi h1 h2 W
    have hp := k rt L R U SH lo hi W
    have n4 := (W.1.2 x x1 x2).2.2.2
    have e1 : qa_A U (nI x).toNatClampNeg = nI (U x) := qa_at (by omega)
    refine pk_le 48 i (fun _ => hp) (fun hi => ⟨vp_in_nI (by omega) (by omega), ?_⟩)
    rw [e1]
    refine pk_eq (U x) 0 (fun _ => hp) (fun hU => ⟨vp_in_nI (by omega) (by omega), vp_in_nI (by omega) (by omega), vp_in_nI (by omega) (by omega), br_c (fun _ => hp) (fun _ => ?_)⟩)
    refine qx_lift B hn W hP x1 x2 hU (fun rt' L' R' U' SH' lo' hi' W' => ?_)
    exact nm_r (nI_1 i) (ih (i + 1) rt' L' R' U' SH' lo' hi' (by omega) (by omega) W')
theorem qx_hang109 {post : SX → Prop} {x : Nat} (B : qx_B TY CV ON) (hn : nc ≤ 47) (T : qt_T nc rt L R U lo hi pos) (O : qt_O nc od pos) (hP : ∀ z, 1 ≤ z → z ≤ nc → P (pos z + 1) = P (pos z) + qx_w TY CV ON z)
    (hF : ∀ z, nc < z → L z = 0 ∧ R z = 0 ∧ U z = 0) (h0 : SH 0 = 0) (x1 : 1 ≤ x) (x2 : x ≤ nc) (hs : ∀ z, 1 ≤ z → z ≤ nc → ¬ (lo z ≤ pos x ∧ pos x < hi z) → SH z + P (lo z) = P (hi z))
    (k : ∀ (rt' : Nat) (L' R' U' SH' lo' hi' : Nat → Nat), qt_W nc rt' L' R' U' SH' lo' hi' pos P → post (qx_S cn rt' m sd L' R' U' rk SH' LT TY CV ON TP co)) : wX_hang_109 post (nI x) (nI cn) (nI rt) (nI m) sd (qa_A L) (qa_A R) (qa_A U) rk (qa_A SH) (qa_A LT) (qa_A TY) (qa_A CV) (qa_A ON) (qa_A TP) co := by
  unfold wX_hang_109
  refine qx_pullUp B hn T O hP h0 x1 x2 hs (fun SH' h0' hs' => ?_)
  exact ⟨49, qx_hang116 B hn hP x1 x2 k 49 0 rt L R U SH' lo hi (by omega) (by omega) ⟨T, hF, h0', hs'⟩⟩
/-- hung to the left of the node a whose interval begins at q -/
theorem qx_hang95 {post : SX → Prop} {a q : Nat} (B : qx_B TY CV ON) (hn : nc ≤ 46) (W : qt_W nc rt L R U SH lo hi pos (qt_P (qx_w TY CV ON) od)) (O : qt_O nc od pos)
    (a1 : 1 ≤ a) (a2 : a ≤ nc) (hL : L a = 0) (hq : lo a = q)
    (k : ∀ (rt' : Nat) (L' R' U' SH' lo' hi' : Nat → Nat), qt_W (nc + 1) rt' L' R' U' SH' lo' hi' (qt_j pos (nc + 1) q q) (qt_P (qx_w TY CV ON) (qt_oi od q (nc + 1))) → post (qx_S cn rt' m sd L' R' U' rk SH' LT TY CV ON TP co)) : wX_hang_95 post (nI (nc + 1)) (nI a) (nI cn) (nI rt) (nI m) sd (qa_A L) (qa_A R) (qa_A U) rk (qa_A SH) (qa_A LT) (qa_A TY) (qa_A CV) (qa_A ON) (qa_A TP) co := by
  obtain ⟨T, hF, h0, hs⟩ := W
  obtain ⟨va, n2, n3, n4⟩ := T.2 a a1 a2
  have hf := hF (nc + 1) (by omega)
  unfold wX_hang_95
  rw [qa_st (f := L) (x := a) (by omega), qa_st (f := U) (x := nc + 1) (by omega)]
  refine ⟨vp_in_nI (by omega) (by omega), nm_e ⟨vp_in_nI (by omega) (by omega), nm_e ?_⟩⟩
  have O' := qt_insO O (q := q) (by omega)
  have T' := qt_insL T O a1 a2 hL (q := q) (by omega) hf.1 hf.2.1
  refine qx_hang109 B (by omega) T' O' (qt_hP _ O') (fun z hz => ?_) h0 (by omega) (by omega) (fun z z1 z2 hz => ?_) k
  · obtain ⟨f1, f2, f3⟩ := hF z (by omega)
    exact ⟨by rw [qa_un (by omega)]; exact f1, f2, by rw [qa_un (by omega)]; exact f3⟩
  · rw [qt_jn] at hz
    exact qt_sj (s := 1) (by omega) T hs (qt_Pi _ od q (nc + 1)) z z1 z2 hz
theorem qx_hang66 {post : SX → Prop} {q : Nat} (B : qx_B TY CV ON) (hn : nc ≤ 46) (W : qt_W nc rt L R U SH lo hi pos (qt_P (qx_w TY CV ON) od)) (O : qt_O nc od pos)
    (k : ∀ (rt' : Nat) (L' R' U' SH' lo' hi' : Nat → Nat), qt_W (nc + 1) rt' L' R' U' SH' lo' hi' (qt_j pos (nc + 1) q q) (qt_P (qx_w TY CV ON) (qt_oi od q (nc + 1))) → post (qx_S cn rt' m sd L' R' U' rk SH' LT TY CV ON TP co)) :
    ∀ n a i : Nat, 48 < n + i → 1 ≤ a → a ≤ nc → lo a = q → i + (hi a - lo a) ≤ nc → wX_hang_66 post (nI (nc + 1)) (nI cn) (nI rt) (nI m) sd (qa_A L) (qa_A R) (qa_A U) rk (qa_A SH) (qa_A LT) (qa_A TY) (qa_A CV) (qa_A ON) (qa_A TP) co n (nI a) (nI i) := by
  intro n
  induction n with
  | zero => intro a i h1 a1 a2 h2 h3; omega
  | succ n ih =>
    intro a i h1 a1 a2 h2 h3
    obtain ⟨va, n2, n3, n4⟩ := W.1.2 a a1 a2
    have e1 : qa_A L (nI a).toNatClampNeg = nI (L a) := qa_at (by omega)
    refine pk_le 48 i (fun e => absurd e (by omega)) (fun e => ⟨vp_in_nI (by omega) (by omega), ?_⟩)
    rw [e1]
    refine pk_eq (L a) 0 (fun e => ?_) (fun e => ⟨vp_in_nI (by omega) (by omega), nm_e (nm_r (nI_1 i) ?_)⟩)
    · exact qx_hang95 B hn W O a1 a2 e h2 k
    · rcases n2 with n2 | ⟨b1, b2, b3, b4, b5⟩
      · exact absurd n2.1 e
      · exact ih (L a) (i + 1) (by omega) b1 b2 (by omega) (by omega)
theorem qx_hang {post : SX → Prop} {x q : Nat} (B : qx_B TY CV ON) (hn : nc ≤ 46) (W : qt_W nc rt L R U SH lo hi pos (qt_P (qx_w TY CV ON) od)) (O : qt_O nc od pos)
    (hx : x = 0 ∧ q = 0 ∨ 1 ≤ x ∧ x ≤ nc ∧ q = pos x + 1)
    (k : ∀ (rt' : Nat) (L' R' U' SH' lo' hi' : Nat → Nat), qt_W (nc + 1) rt' L' R' U' SH' lo' hi' (qt_j pos (nc + 1) q q) (qt_P (qx_w TY CV ON) (qt_oi od q (nc + 1))) → post (qx_S cn rt' m sd L' R' U' rk SH' LT TY CV ON TP co)) :
    wpX_hang post (qx_S cn rt m sd L R U rk SH LT TY CV ON TP co) (nI (nc + 1)) (nI x) := by
  have W' := W
  obtain ⟨T, hF, h0, hs⟩ := W
  have hf := hF (nc + 1) (by omega)
  have hr := T.1
  have hx49 : x ≤ 46 := by omega
  have eR : qa_A R (nI x).toNatClampNeg = nI (R x) := qa_at (by omega)
  unfold wpX_hang
  dsimp only [qx_S]
  rw [eR]
  refine pk_eq rt 0 (fun e => ?_) (fun e => ?_)
  · have hnc : nc = 0 := by omega
    subst hnc
    have hq : q = 0 := by omega
    subst hq
    have O' := qt_insO O (q := 0) (by omega)
    have T' := qt_ins0 (lo := lo) (hi := hi) (pos := pos) hf.1 hf.2.1 hf.2.2
    refine qx_hang109 B (by omega) T' O' (qt_hP _ O') (fun z hz => hF z (by omega)) h0 (by omega) (by omega) (fun z z1 z2 hz => ?_) k
    rw [qt_jn] at hz
    have hz1 : z = 0 + 1 := by omega
    subst hz1
    rw [qt_jn, qt_jn] at hz
    omega
  · have hr' : 1 ≤ rt ∧ rt ≤ nc ∧ lo rt = 0 ∧ hi rt = nc := by omega
    have h45 : (x = 0 ∨ R x ≠ 0) → wX_hang_45 post (nI (nc + 1)) (nI x) (nI cn) (nI rt) (nI m) sd (qa_A L) (qa_A R) (qa_A U) rk (qa_A SH) (qa_A LT) (qa_A TY) (qa_A CV) (qa_A ON) (qa_A TP) co := by
      intro hx2
      unfold wX_hang_45
      rw [eR]
      refine pk_eq x 0 (fun e => ?_) (fun e => ⟨vp_in_nI (by omega) (by omega), nm_e ?_⟩)
      · exact ⟨49, qx_hang66 B hn W' O k 49 rt 0 (by omega) hr'.1 hr'.2.1 (by omega) (by omega)⟩
      · obtain ⟨vx, n2, n3, n4⟩ := T.2 x (by omega) (by omega)
        rcases n3 with n3 | ⟨b1, b2, b3, b4, b5⟩
        · omega
        · exact ⟨49, qx_hang66 B hn W' O k 49 (R x) 0 (by omega) b1 b2 (by omega) (by omega)⟩
    refine pk_eq x 0 (fun e => h45 (Or.inl e)) (fun e => ?_)
    obtain ⟨vx, n2, n3, n4⟩ := T.2 x (by omega) (by omega)
    refine ⟨vp_in_nI (by omega) (by omega), pk_eq (R x) 0 (fun e => ?_) (fun e => h45 (Or.inr e))⟩
    rw [qa_st (f := R) (x := x) (by omega), qa_st (f := U) (x := nc + 1) (by omega)]
    refine ⟨vp_in_nI (by omega) (by omega), nm_e ⟨vp_in_nI (by omega) (by omega), nm_e ?_⟩⟩
    have O' := qt_insO O (q := q) (by omega)
    have T' := qt_insR T O (x := x) (by omega) (by omega) e (q := q) (by omega) hf.1 hf.2.1
    refine qx_hang109 B (by omega) T' O' (qt_hP _ O') (fun z hz => ?_) h0 (by omega) (by omega) (fun z z1 z2 hz => ?_) k
    · obtain ⟨f1, f2, f3⟩ := hF z (by omega)
      exact ⟨f1, by rw [qa_un (by omega)]; exact f2, by rw [qa_un (by omega)]; exact f3⟩
    · rw [qt_jn] at hz
      exact qt_sj (s := 0) (by omega) T hs (qt_Pi _ od q (nc + 1)) z z1 z2 hz
end
end
section
/-! X: textLength, nodeAt, placeOf -/
section
variable {cn nc rt m : Nat} {sd : Int32} {L R U : Nat → Nat} {rk : Nat → Int32} {SH LT TY CV ON TP : Nat → Nat} {co : Nat → Int64} {lo hi pos od P : Nat → Nat}
theorem qt_P1 {w od : Nat → Nat} (hw : ∀ x, w x ≤ 1) (i : Nat) : qt_P w od i ≤ i := qa_sle (fun j => hw (od j)) i
theorem qt_Plt {w od : Nat → Nat} {i j : Nat} (h : i < j) : qt_P w od i + w (od i) ≤ qt_P w od j := qa_slt (f := fun j => w (od j)) h
theorem qt_Ple {w od : Nat → Nat} {i j : Nat} (h : i ≤ j) : qt_P w od i ≤ qt_P w od j := qa_mono h
theorem qt_len {w : Nat → Nat} (W : qt_W nc rt L R U SH lo hi pos (qt_P w od)) : rt ≤ nc ∧ SH rt = qt_P w od nc := by
  obtain ⟨T, hF, h0, hs⟩ := W
  rcases T.1 with h | h
  · rw [h.2, h.1, h0]; exact ⟨Nat.le_refl _, rfl⟩
  · have := hs rt h.1 h.2.1
    rw [h.2.2.1, h.2.2.2.1] at this
    exact ⟨h.2.1, this⟩
theorem qx_len {post : Int32 → Prop} (hn : nc ≤ 47) (W : qt_W nc rt L R U SH lo hi pos (qt_P (qx_w TY CV ON) od)) (h : post (nI (qt_P (qx_w TY CV ON) od nc))) : wpX_textLength post (qx_S cn rt m sd L R U rk SH LT TY CV ON TP co) := by
  obtain ⟨h1, h2⟩ := qt_len W
  unfold wpX_textLength
  dsimp only [qx_S]
  rw [qa_at (f := SH) (x := rt) (by omega), h2]
  exact ⟨vp_in_nI (by omega) (by omega), h⟩
theorem qx_n62 {post : Int32 → Prop} {J : Int32 → Int32 → Int32 → Prop} {y r b i : Nat} (B : qx_B TY CV ON) (hy : y < 49) (hb : b + qx_w TY CV ON y ≤ r)
    (k : J (nI (R y)) (nI (r - b - qx_w TY CV ON y)) (nI (i + 1))) : wX_nodeAt_62 post J (nI y) (nI r) (nI i) (nI b) (nI cn) (nI rt) (nI m) sd (qa_A L) (qa_A R) (qa_A U) rk (qa_A SH) (qa_A LT) (qa_A TY) (qa_A CV) (qa_A ON) (qa_A TP) co := by
  have h79 : ∀ v, v = qx_w TY CV ON y → wX_nodeAt_79 post J (nI y) (nI i) (nI v) (nI r - nI b) (nI cn) (nI rt) (nI m) sd (qa_A L) (qa_A R) (qa_A U) rk (qa_A SH) (qa_A LT) (qa_A TY) (qa_A CV) (qa_A ON) (qa_A TP) co := by
    intro v hv
    subst hv
    unfold wX_nodeAt_79
    rw [qa_at (f := R) (x := y) (by omega), pk_sub (show b ≤ r by omega), pk_sub (show qx_w TY CV ON y ≤ r - b by omega)]
    exact nm_e ⟨vp_in_nI hy (by omega), nm_e (nm_r (nI_1 i) k)⟩
  unfold wX_nodeAt_62
  refine qx_shown B hy ?_
  have hw := qx_w01 TY CV ON y
  exact pk_eq (qx_w TY CV ON y) 0 (fun e => h79 0 e.symm) (fun e => h79 1 (by omega))
theorem qx_nodeAtL {post : Int32 → Prop} {x : Nat} (B : qx_B TY CV ON) (hn : nc ≤ 47) (W : qt_W nc rt L R U SH lo hi pos (qt_P (qx_w TY CV ON) od)) (O : qt_O nc od pos) (x1 : 1 ≤ x) (x2 : x ≤ nc) (hw : qx_w TY CV ON x = 1) (k : post (nI x)) :
    ∀ n y r i : Nat, 48 < n + i → 1 ≤ y → y ≤ nc → lo y ≤ pos x → pos x < hi y → r + qt_P (qx_w TY CV ON) od (lo y) = qt_P (qx_w TY CV ON) od (pos x) → i + (hi y - lo y) ≤ nc → wX_nodeAt_10 post (nI cn) (nI rt) (nI m) sd (qa_A L) (qa_A R) (qa_A U) rk (qa_A SH) (qa_A LT) (qa_A TY) (qa_A CV) (qa_A ON) (qa_A TP) co n (nI y) (nI r) (nI i) := by
  obtain ⟨T, hF, h0, hs⟩ := W
  have ox := O.1 x x1 x2
  intro n
  induction n with
  | zero => intro y r i h1 y1 y2 h2 h3 h4 h5; omega
  | succ n ih =>
    intro y r i h1 y1 y2 h2 h3 h4 h5
    obtain ⟨vy, n2, n3, n4⟩ := T.2 y y1 y2
    have oy := O.1 y y1 y2
    have hPx := qt_P1 (od := od) (qx_w01 TY CV ON) (pos x)
    have hPy := qt_P1 (od := od) (qx_w01 TY CV ON) (pos y)
    have hb : SH (L y) + qt_P (qx_w TY CV ON) od (lo y) = qt_P (qx_w TY CV ON) od (pos y) := by
      rcases n2 with e | ⟨b1, b2, b3, b4, b5⟩
      · rw [e.1, h0, e.2]; omega
      · have := hs (L y) b1 b2
        rw [b3, b4] at this
        exact this
    have hstep := qt_hP (qx_w TY CV ON) O y y1 y2
    have hwy := qx_w01 TY CV ON y
    have elo : pos x < pos y → qt_P (qx_w TY CV ON) od (pos x) + 1 ≤ qt_P (qx_w TY CV ON) od (pos y) := fun h => by
      have := qt_Plt (w := qx_w TY CV ON) (od := od) h
      rw [ox.2, hw] at this
      exact this
    have ehi : pos y < pos x → qt_P (qx_w TY CV ON) od (pos y) + qx_w TY CV ON y ≤ qt_P (qx_w TY CV ON) od (pos x) := fun h => by
      have := qt_Plt (w := qx_w TY CV ON) (od := od) h
      rw [oy.2] at this
      exact this
    have eeq : pos x = pos y → x = y := fun h => qt_inj O x1 x2 y1 y2 h
    have e1 : qa_A L (nI y).toNatClampNeg = nI (L y) := qa_at (by omega)
    have e2 : qa_A SH (nI (L y)).toNatClampNeg = nI (SH (L y)) := qa_at (by omega)
    refine pk_le 48 i (fun e => absurd e (by omega)) (fun e => ?_)
    rw [e1, e2]
    refine ⟨vp_in_nI (by omega) (by omega), vp_in_nI (by omega) (by omega), nm_e ?_⟩
    have h62 : pos y < pos x → wX_nodeAt_62 post (wX_nodeAt_10 post (nI cn) (nI rt) (nI m) sd (qa_A L) (qa_A R) (qa_A U) rk (qa_A SH) (qa_A LT) (qa_A TY) (qa_A CV) (qa_A ON) (qa_A TP) co n) (nI y) (nI r) (nI i) (nI (SH (L y))) (nI cn) (nI rt) (nI m) sd (qa_A L) (qa_A R) (qa_A U) rk (qa_A SH) (qa_A LT) (qa_A TY) (qa_A CV) (qa_A ON) (qa_A TP) co := by
      intro h
      have hh := ehi h
      refine qx_n62 B (by omega) (by omega) ?_
      rcases n3 with n3 | ⟨b1, b2, b3, b4, b5⟩
      · omega
      · exact ih (R y) _ (i + 1) (by omega) b1 b2 (by omega) (by omega) (by rw [b3]; omega) (by omega)
    refine pk_le (SH (L y)) r (fun h => pk_eq r (SH (L y)) (fun h' => ?_) (fun h' => h62 ?_)) (fun h => ⟨vp_in_nI (by omega) (by omega), nm_e (nm_r (nI_1 i) ?_)⟩)
    · refine qx_shown B (by omega) ?_
      refine pk_eq (qx_w TY CV ON y) 0 (fun h2 => h62 ?_) (fun h2 => ?_)
      · rcases Nat.lt_trichotomy (pos x) (pos y) with c | c | c
        · have := elo c; omega
        · have := eeq c
          rw [this] at hw; omega
        · exact c
      · have : x = y := by
          rcases Nat.lt_trichotomy (pos x) (pos y) with c | c | c
          · have := elo c; omega
          · exact eeq c
          · have := ehi c; omega
        rw [← this]
        exact k
    · rcases Nat.lt_trichotomy (pos x) (pos y) with c | c | c
      · have := elo c; omega
      · rw [c] at h4; omega
      · exact c
    · have c : pos x < pos y := by
        rcases Nat.lt_trichotomy (pos x) (pos y) with c | c | c
        · exact c
        · rw [c] at h4; omega
        · have := ehi c; omega
      rcases n2 with n2 | ⟨b1, b2, b3, b4, b5⟩
      · omega
      · exact ih (L y) r (i + 1) (by omega) b1 b2 (by omega) (by omega) (by rw [b3]; exact h4) (by omega)
theorem qx_nodeAt {post : Int32 → Prop} {q : Nat} (B : qx_B TY CV ON) (hn : nc ≤ 47) (W : qt_W nc rt L R U SH lo hi pos (qt_P (qx_w TY CV ON) od)) (O : qt_O nc od pos) (hq : q < nc) (hw : qx_w TY CV ON (od q) = 1) (k : post (nI (od q))) :
    wpX_nodeAt post (qx_S cn rt m sd L R U rk SH LT TY CV ON TP co) (nI (qt_P (qx_w TY CV ON) od q)) := by
  obtain ⟨o1, o2, o3⟩ := O.2 q hq
  have hr : 1 ≤ rt ∧ rt ≤ nc ∧ lo rt = 0 ∧ hi rt = nc ∧ U rt = 0 := by have := W.1.1; omega
  exact ⟨49, qx_nodeAtL B hn W O o1 o2 hw k 49 rt _ 0 (by omega) hr.1 hr.2.1 (by omega) (by omega) (by rw [hr.2.2.1, o3]; exact Nat.add_zero _) (by omega)⟩
theorem qx_placeL {post : Int32 → Prop} {x : Nat} (B : qx_B TY CV ON) (hn : nc ≤ 47) (W : qt_W nc rt L R U SH lo hi pos (qt_P (qx_w TY CV ON) od)) (O : qt_O nc od pos) (k : post (nI (qt_P (qx_w TY CV ON) od (pos x)))) :
    ∀ n b a i : Nat, 48 < n + i → 1 ≤ a → a ≤ nc → b + qt_P (qx_w TY CV ON) od (lo a) = qt_P (qx_w TY CV ON) od (pos x) → i < hi a - lo a → wX_placeOf_17 post (nI cn) (nI rt) (nI m) sd (qa_A L) (qa_A R) (qa_A U) rk (qa_A SH) (qa_A LT) (qa_A TY) (qa_A CV) (qa_A ON) (qa_A TP) co n (nI b) (nI a) (nI i) := by
  obtain ⟨T, hF, h0, hs⟩ := W
  intro n
  induction n with
  | zero =>
    intro b a i h1 a1 a2 h2 h3
    have va := qt_iv T a1 a2
    omega
  | succ n ih =>
    intro b a i h1 a1 a2 h2 h3
    obtain ⟨va, _, _, n4⟩ := T.2 a a1 a2
    have e1 : qa_A U (nI a).toNatClampNeg = nI (U a) := qa_at (by omega)
    refine pk_le 48 i (fun e => absurd e (by omega)) (fun e => ⟨vp_in_nI (by omega) (by omega), ?_⟩)
    rw [e1]
    refine pk_eq (U a) 0 (fun hU => ?_) (fun hU => ⟨vp_in_nI (by omega) (by omega), nm_e ⟨vp_in_nI (by omega) (by omega), ?_⟩⟩)
    · have hl : lo a = 0 := by
        rcases n4 with h | h
        · have := T.1
          rw [← h.2] at this
          omega
        · omega
      rw [hl] at h2
      have hb : b = qt_P (qx_w TY CV ON) od (pos x) := h2
      rw [hb]
      exact k
    · obtain ⟨p1, p2, p3⟩ := qt_par T a1 a2 hU
      obtain ⟨vp, n2, n3, _⟩ := T.2 (U a) p1 p2
      have e2 : qa_A R (nI (U a)).toNatClampNeg = nI (R (U a)) := qa_at (by omega)
      have e3 : qa_A L (nI (U a)).toNatClampNeg = nI (L (U a)) := qa_at (by omega)
      have e4 : qa_A SH (nI (L (U a))).toNatClampNeg = nI (SH (L (U a))) := qa_at (by omega)
      rw [e2, e3, e4]
      refine pk_eq (R (U a)) a (fun hR => ?_) (fun hR => ?_)
      · have hb : SH (L (U a)) + qt_P (qx_w TY CV ON) od (lo (U a)) = qt_P (qx_w TY CV ON) od (pos (U a)) := by
          rcases n2 with e | ⟨b1, b2, b3, b4, b5⟩
          · rw [e.1, h0, e.2]; omega
          · have := hs (L (U a)) b1 b2
            rw [b3, b4] at this
            exact this
        have hstep := qt_hP (qx_w TY CV ON) O (U a) p1 p2
        have hla : lo a = pos (U a) + 1 := by
          rw [hR] at n3
          omega
        rw [hla] at h2
        have hwy := qx_w01 TY CV ON (U a)
        refine ⟨vp_in_nI (by omega) (by omega), vp_in_nI (by omega) (by omega), ?_⟩
        refine qx_shown B (by omega) ?_
        refine pk_eq (qx_w TY CV ON (U a)) 0 (fun h2 => ?_) (fun h2 => ?_)
        · refine nm_r (e' := nI (b + SH (L (U a)))) ?_ (nm_r (nI_1 i) (ih _ _ (i + 1) (by omega) p1 p2 (by omega) (by omega)))
          rw [nI_add]; exact Int32.add_zero _
        · refine nm_r (e' := nI (b + SH (L (U a)) + 1)) ?_ (nm_r (nI_1 i) (ih _ _ (i + 1) (by omega) p1 p2 (by omega) (by omega)))
          rw [nI_add, nI_1]
      · have hl : lo a = lo (U a) := by omega
        rw [hl] at h2
        exact nm_r (nI_1 i) (ih b (U a) (i + 1) (by omega) p1 p2 h2 (by omega))
theorem qx_placeOf {post : Int32 → Prop} {x : Nat} (B : qx_B TY CV ON) (hn : nc ≤ 47) (W : qt_W nc rt L R U SH lo hi pos (qt_P (qx_w TY CV ON) od)) (O : qt_O nc od pos) (x1 : 1 ≤ x) (x2 : x ≤ nc) (k : post (nI (qt_P (qx_w TY CV ON) od (pos x)))) :
    wpX_placeOf post (qx_S cn rt m sd L R U rk SH LT TY CV ON TP co) (nI x) := by
  obtain ⟨T, hF, h0, hs⟩ := id W
  obtain ⟨vx, n2, n3, n4⟩ := T.2 x x1 x2
  have e1 : qa_A L (nI x).toNatClampNeg = nI (L x) := qa_at (by omega)
  have e2 : qa_A SH (nI (L x)).toNatClampNeg = nI (SH (L x)) := qa_at (by omega)
  have hb : SH (L x) + qt_P (qx_w TY CV ON) od (lo x) = qt_P (qx_w TY CV ON) od (pos x) := by
    rcases n2 with e | ⟨b1, b2, b3, b4, b5⟩
    · rw [e.1, h0, e.2]; omega
    · have := hs (L x) b1 b2
      rw [b3, b4] at this
      exact this
  unfold wpX_placeOf
  dsimp only [qx_S]
  rw [e1, e2]
  exact ⟨vp_in_nI (by omega) (by omega), vp_in_nI (by omega) (by omega), nm_e ⟨49, qx_placeL B hn W O k 49 _ x 0 (by omega) x1 x2 hb (by omega)⟩⟩
end
end
section
/-! bits of both sides -/
theorem qb_1 : ∀ i, i < 32 → bt 1 i = decide (i = 0) := by decide +kernel
theorem qb_yv (v : Int32) {c : Nat} (hc : c < 32) : ((v >>> (nI c &&& 31)) &&& 1) = nI (if bt v c = true then 1 else 0) := by
  apply b_ext
  intro i hi
  rw [b_and, b_sshr c hc v hi, qb_1 i hi]
  by_cases e : i = 0
  · subst e
    rw [if_pos (show c + 0 < 32 by omega), Nat.add_zero]
    cases bt v c <;> rfl
  · rw [decide_eq_false e, Bool.and_false]
    by_cases h : bt v c = true
    · rw [if_pos h]
      exact ((qb_1 i hi).trans (decide_eq_false e)).symm
    · rw [if_neg h]
      exact (b_0 i).symm
theorem qb_yt (v : Int32) {c : Nat} (hc : c < 32) : ((v >>> (nI c &&& 31)) &&& 1) = 1 ↔ bt v c = true := by
  rw [qb_yv v hc]
  by_cases h : bt v c = true
  · rw [if_pos h]; exact ⟨fun _ => h, fun _ => rfl⟩
  · rw [if_neg h]; exact ⟨fun e => absurd e (by decide), fun e => absurd e h⟩
theorem qb_ys (v : Int32) {c i : Nat} (hc : c < 32) (hi : i < 32) : bt (v ||| ((1 : Int32) <<< (nI c &&& 31))) i = (bt v i || decide (i = c)) := by
  rw [b_or, b_shl c hc 1 hi, qb_1 (i - c) (by omega)]
  congr 1
  by_cases e : i = c
  · subst e; simp
  · by_cases h : c ≤ i
    · have : i - c ≠ 0 := by omega
      rw [decide_eq_false this, decide_eq_false e, Bool.and_false]
    · rw [decide_eq_false h, decide_eq_false e, Bool.false_and]
def qb_x (v : Int64) (i : Nat) : Bool := v.toBitVec.getLsbD i
theorem qb_x0 (i : Nat) : qb_x 0 i = false := BitVec.getLsbD_zero
theorem qb_xa (y : Int64) : y &&& 1 = 0 ∨ y &&& 1 = 1 := by
  obtain ⟨n, hn, e⟩ := wb_of y
  rw [e, g_and1 hn]
  rcases Nat.mod_two_eq_zero_or_one n with h | h
  · rw [h]; exact Or.inl rfl
  · rw [h]; exact Or.inr rfl
theorem qb_xt (v : Int64) {j : Nat} (hj : j < 64) : (((v.toUInt64 >>> ((nI j).toInt64.toUInt64 &&& Int64.toUInt64 63)).toInt64) &&& 1) = 1 ↔ qb_x v j = true := by
  have hs : ((nI j).toInt64.toUInt64 &&& Int64.toUInt64 63).toNat = j := by rw [wb_cu j hj]; exact u_tn (by omega)
  have h := ts_bit (w := v) hj hs
  have h01 : ¬ ((0 : Int64) = 1) := by decide
  unfold qb_x
  rcases qb_xa ((v.toUInt64 >>> ((nI j).toInt64.toUInt64 &&& Int64.toUInt64 63)).toInt64) with e | e
  · rw [h.mp e, e]
    exact ⟨fun z => absurd z h01, fun z => absurd z (by decide)⟩
  · refine ⟨fun _ => ?_, fun _ => e⟩
    apply ts_nf
    intro z
    rw [h.mpr z] at e
    exact h01 e
theorem qb_xs (v : Int64) {j i : Nat} (hj : j < 64) (hi : i < 64) : qb_x (v ||| ((1 : Int64) <<< ((nI j).toInt64 &&& 63))) i = (qb_x v i || decide (i = j)) := by
  unfold qb_x
  have e : ((1 : Int64) <<< ((nI j).toInt64 &&& 63)) = lN (1 * 2 ^ j) := wb_shl 1 hj
  rw [e, Int64.toBitVec_or, BitVec.getLsbD_or, wb_tb, BitVec.getLsbD_ofNat, Nat.one_mul, Nat.testBit_two_pow]
  congr 1
  rw [decide_eq_true hi, Bool.true_and]
  by_cases h : i = j
  · subst h; rfl
  · rw [decide_eq_false h, decide_eq_false (fun z => h z.symm)]
/-- numbers of bits -/
def qb_px (v : Int64) : Nat := qa_s (fun i => if qb_x v i = true then 1 else 0) 48
def qb_py (v : Int32) : Nat := qa_s (fun i => if bt v i = true then 1 else 0) 32
theorem qb_pxs (v : Int64) {j : Nat} (hj : j < 48) : qb_px (v ||| ((1 : Int64) <<< ((nI j).toInt64 &&& 63))) + (if qb_x v j = true then 1 else 0) = qb_px v + 1 := by
  have h := (qa_one (f := fun i => if qb_x v i = true then 1 else 0) (g := fun i => if qb_x (v ||| ((1 : Int64) <<< ((nI j).toInt64 &&& 63))) i = true then 1 else 0) (q := j) 48 (fun i hi hne => by
    show (if qb_x (v ||| ((1 : Int64) <<< ((nI j).toInt64 &&& 63))) i = true then 1 else 0) = (if qb_x v i = true then 1 else 0)
    rw [qb_xs v (by omega) (by omega), decide_eq_false hne, Bool.or_false])).2 hj
  have e2 : qb_x (v ||| ((1 : Int64) <<< ((nI j).toInt64 &&& 63))) j = true := by rw [qb_xs v (by omega) (by omega), decide_eq_true rfl, Bool.or_true]
  rw [if_pos e2] at h
  exact h
theorem qb_pys (v : Int32) {j : Nat} (hj : j < 32) : qb_py (v ||| ((1 : Int32) <<< (nI j &&& 31))) + (if bt v j = true then 1 else 0) = qb_py v + 1 := by
  have h := (qa_one (f := fun i => if bt v i = true then 1 else 0) (g := fun i => if bt (v ||| ((1 : Int32) <<< (nI j &&& 31))) i = true then 1 else 0) (q := j) 32 (fun i hi hne => by
    show (if bt (v ||| ((1 : Int32) <<< (nI j &&& 31))) i = true then 1 else 0) = (if bt v i = true then 1 else 0)
    rw [qb_ys v hj (by omega), decide_eq_false hne, Bool.or_false])).2 hj
  have e2 : bt (v ||| ((1 : Int32) <<< (nI j &&& 31))) j = true := by rw [qb_ys v hj (by omega), decide_eq_true rfl, Bool.or_true]
  rw [if_pos e2] at h
  exact h
end
section
/-! Y: coversOf, isShown, charAt, length, the list's shift -/
abbrev qy_S (nl m : Nat) (LS YT YL : Nat → Nat) (yc : Nat → Int32) (ON : Nat → Nat) : SY := (nI nl, nI m, qa_A LS, qa_A YT, qa_A YL, yc, qa_A ON)
def qy_f (yc : Nat → Int32) (ON : Nat → Nat) (c : Nat) : Nat → Nat := fun j => if ON j = 0 then 0 else if bt (yc j) c = true then 1 else 0
def qy_w (yc : Nat → Int32) (ON : Nat → Nat) (m c : Nat) : Nat := if ON c = 0 then 0 else if qa_s (qy_f yc ON c) m = 0 then 1 else 0
theorem qy_f1 (yc : Nat → Int32) (ON : Nat → Nat) (c j : Nat) : qy_f yc ON c j ≤ 1 := by
  unfold qy_f
  by_cases h : ON j = 0
  · rw [if_pos h]; omega
  · rw [if_neg h]
    by_cases h2 : bt (yc j) c = true
    · rw [if_pos h2]; omega
    · rw [if_neg h2]; omega
theorem qy_w1 (yc : Nat → Int32) (ON : Nat → Nat) (m c : Nat) : qy_w yc ON m c ≤ 1 := by
  unfold qy_w
  by_cases h : ON c = 0
  · rw [if_pos h]; omega
  · rw [if_neg h]
    by_cases h2 : qa_s (qy_f yc ON c) m = 0
    · rw [if_pos h2]; omega
    · rw [if_neg h2]; omega
section
variable {nl m : Nat} {LS YT YL : Nat → Nat} {yc : Nat → Int32} {ON : Nat → Nat}
theorem qy_covL {post : Int32 → Prop} {c : Nat} (hm : m ≤ 32) (hc : c < 32) (hON : ∀ j, ON j < 2) (h : post (nI (qa_s (qy_f yc ON c) m))) :
    ∀ d i n : Nat, i + d = m → d < n → wY_coversOf_4 post (nI c) (nI nl) (nI m) (qa_A LS) (qa_A YT) (qa_A YL) yc (qa_A ON) n (nI (qa_s (qy_f yc ON c) i)) (nI i) := by
  intro d
  induction d with
  | zero =>
    intro i n hi hn
    obtain ⟨n, rfl⟩ : ∃ k, n = k + 1 := ⟨n - 1, by omega⟩
    have e : i = m := by omega
    subst e
    exact br_t (nI_le (Nat.le_refl _) (by omega)) h
  | succ d ih =>
    intro i n hi hn
    obtain ⟨n, rfl⟩ : ∃ k, n = k + 1 := ⟨n - 1, by omega⟩
    have hi2 := hON i
    have e1 : qa_A ON (nI i).toNatClampNeg = nI (ON i) := qa_at (by omega)
    have e2 : yc (nI i).toNatClampNeg = yc i := by rw [nI_clamp (by omega)]
    have ih' := ih (i + 1) n (by omega) (by omega)
    rw [qa_sS] at ih'
    unfold qy_f at ih'
    refine br_f (nI_ge (by omega) (by omega)) ⟨vp_in_nI (by omega) (by omega), ?_⟩
    rw [e1, e2]
    refine pk_eq (ON i) 0 (fun z => nm_r (nI_1 i) ?_) (fun z => ⟨vp_in_nI (by omega) (by omega), ek_if (qb_yt (yc i) hc) (fun y => ?_) (fun y => ?_)⟩)
    · rw [if_pos z] at ih'; exact ih'
    · rw [if_neg z, if_pos y] at ih'
      exact nm_r (nI_1 _) (nm_r (nI_1 i) ih')
    · rw [if_neg z, if_neg y] at ih'
      exact nm_r (nI_1 i) ih'
theorem qy_cov {post : Int32 → Prop} {c : Nat} (hm : m ≤ 32) (hc : c < 32) (hON : ∀ j, ON j < 2) (h : post (nI (qa_s (qy_f yc ON c) m))) : wpY_coversOf post (qy_S nl m LS YT YL yc ON) (nI c) :=
  ⟨m + 1, qy_covL hm hc hON h m 0 (m + 1) (by omega) (by omega)⟩
theorem qy_shown {post : Int32 → Prop} {c : Nat} (hm : m ≤ 32) (hc : c < 32) (hON : ∀ j, ON j < 2) (h : post (nI (qy_w yc ON m c))) : wpY_isShown post (qy_S nl m LS YT YL yc ON) (nI c) := by
  have h1 := hON c
  have h2 := qa_sle (qy_f1 yc ON c) m
  have e1 : qa_A ON (nI c).toNatClampNeg = nI (ON c) := qa_at (by omega)
  unfold qy_w at h
  unfold wpY_isShown
  dsimp only [qy_S]
  rw [e1]
  refine ⟨vp_in_nI hc (by omega), pk_eq (ON c) 0 (fun z => ?_) (fun z => ?_)⟩
  · rw [if_pos z] at h; exact h
  · refine qy_cov hm hc hON ?_
    refine pk_eq (qa_s (qy_f yc ON c) m) 0 (fun y => ?_) (fun y => ?_)
    · rw [if_neg z, if_pos y] at h; exact h
    · rw [if_neg z, if_neg y] at h; exact h
/-- the number of shown ones before place i of the list -/
def qy_Q (yc : Nat → Int32) (ON : Nat → Nat) (m : Nat) (LS : Nat → Nat) : Nat → Nat := qa_s (fun i => qy_w yc ON m (LS i))
theorem qy_Q1 (yc : Nat → Int32) (ON : Nat → Nat) (m : Nat) (LS : Nat → Nat) (i : Nat) : qy_Q yc ON m LS i ≤ i := qa_sle (fun j => qy_w1 yc ON m (LS j)) i
theorem qy_QS (yc : Nat → Int32) (ON : Nat → Nat) (m : Nat) (LS : Nat → Nat) (i : Nat) : qy_Q yc ON m LS (i + 1) = qy_Q yc ON m LS i + qy_w yc ON m (LS i) := rfl
theorem qy_atL {post : Int32 → Prop} {q : Nat} (hm : m ≤ 32) (hn : nl ≤ 32) (hON : ∀ j, ON j < 2) (hLS : ∀ j, LS j < 32) (hq : q < nl) (hw : qy_w yc ON m (LS q) = 1) (h : post (nI (LS q))) :
    ∀ d i n : Nat, i + d = q → d < n → wY_charAt_4 post (nI (qy_Q yc ON m LS q)) (nI nl) (nI m) (qa_A LS) (qa_A YT) (qa_A YL) yc (qa_A ON) n (nI (qy_Q yc ON m LS i)) (nI i) := by
  have hQq := qy_Q1 yc ON m LS q
  intro d
  induction d with
  | zero =>
    intro i n hi hn'
    obtain ⟨n, rfl⟩ : ∃ k, n = k + 1 := ⟨n - 1, by omega⟩
    have e : i = q := by omega
    subst e
    have e1 : qa_A LS (nI i).toNatClampNeg = nI (LS i) := qa_at (by omega)
    refine br_f (nI_ge (by omega) (by omega)) ⟨vp_in_nI (by omega) (by omega), ?_⟩
    rw [e1]
    refine qy_shown hm (hLS i) hON ?_
    rw [hw]
    exact br_f (by decide) (br_t rfl ⟨vp_in_nI (by omega) (by omega), h⟩)
  | succ d ih =>
    intro i n hi hn'
    obtain ⟨n, rfl⟩ : ∃ k, n = k + 1 := ⟨n - 1, by omega⟩
    have e1 : qa_A LS (nI i).toNatClampNeg = nI (LS i) := qa_at (by omega)
    have hQi := qy_Q1 yc ON m LS i
    have hw1 := qy_w1 yc ON m (LS i)
    have ih' := ih (i + 1) n (by omega) (by omega)
    rw [qy_QS] at ih'
    have hlt : qy_Q yc ON m LS i + qy_w yc ON m (LS i) ≤ qy_Q yc ON m LS q := qa_slt (f := fun i => qy_w yc ON m (LS i)) (by omega)
    refine br_f (nI_ge (by omega) (by omega)) ⟨vp_in_nI (by omega) (by omega), ?_⟩
    rw [e1]
    refine qy_shown hm (hLS i) hON ?_
    refine pk_eq (qy_w yc ON m (LS i)) 0 (fun z => ?_) (fun z => ?_)
    · rw [z] at ih'
      exact nm_r (nI_1 i) ih'
    · have z1 : qy_w yc ON m (LS i) = 1 := by omega
      rw [z1] at ih'
      exact pk_eq (qy_Q yc ON m LS i) (qy_Q yc ON m LS q) (fun y => absurd y (by omega)) (fun y => nm_r (nI_1 _) (nm_r (nI_1 i) ih'))
theorem qy_at {post : Int32 → Prop} {q : Nat} (hm : m ≤ 32) (hn : nl ≤ 32) (hON : ∀ j, ON j < 2) (hLS : ∀ j, LS j < 32) (hq : q < nl) (hw : qy_w yc ON m (LS q) = 1) (h : post (nI (LS q))) :
    wpY_charAt post (qy_S nl m LS YT YL yc ON) (nI (qy_Q yc ON m LS q)) :=
  ⟨q + 1, qy_atL hm hn hON hLS hq hw h q 0 (q + 1) (by omega) (by omega)⟩
theorem qy_noL {post : Int32 → Prop} {p : Int32} (hm : m ≤ 32) (hn : nl ≤ 32) (hON : ∀ j, ON j < 2) (hLS : ∀ j, LS j < 32) (hp : ∀ i, i < nl → qy_w yc ON m (LS i) = 1 → nI (qy_Q yc ON m LS i) ≠ p) (h : post (-4)) :
    ∀ d i n : Nat, i + d = nl → d < n → wY_charAt_4 post p (nI nl) (nI m) (qa_A LS) (qa_A YT) (qa_A YL) yc (qa_A ON) n (nI (qy_Q yc ON m LS i)) (nI i) := by
  intro d
  induction d with
  | zero =>
    intro i n hi hn'
    obtain ⟨n, rfl⟩ : ∃ k, n = k + 1 := ⟨n - 1, by omega⟩
    have e : i = nl := by omega
    subst e
    exact br_t (nI_le (Nat.le_refl _) (by omega)) h
  | succ d ih =>
    intro i n hi hn'
    obtain ⟨n, rfl⟩ : ∃ k, n = k + 1 := ⟨n - 1, by omega⟩
    have e1 : qa_A LS (nI i).toNatClampNeg = nI (LS i) := qa_at (by omega)
    have hw1 := qy_w1 yc ON m (LS i)
    have ih' := ih (i + 1) n (by omega) (by omega)
    rw [qy_QS] at ih'
    refine br_f (nI_ge (by omega) (by omega)) ⟨vp_in_nI (by omega) (by omega), ?_⟩
    rw [e1]
    refine qy_shown hm (hLS i) hON ?_
    refine pk_eq (qy_w yc ON m (LS i)) 0 (fun z => ?_) (fun z => ?_)
    · rw [z] at ih'
      exact nm_r (nI_1 i) ih'
    · have z1 : qy_w yc ON m (LS i) = 1 := by omega
      rw [z1] at ih'
      exact br_f (hp i (by omega) z1) (nm_r (nI_1 _) (nm_r (nI_1 i) ih'))
theorem qy_no {post : Int32 → Prop} {p : Int32} (hm : m ≤ 32) (hn : nl ≤ 32) (hON : ∀ j, ON j < 2) (hLS : ∀ j, LS j < 32) (hp : p < 0 ∨ nI (qy_Q yc ON m LS nl) ≤ p) (h : post (-4)) : wpY_charAt post (qy_S nl m LS YT YL yc ON) p := by
  refine ⟨nl + 1, qy_noL hm hn hON hLS (fun i hi hw e => ?_) h nl 0 (nl + 1) (by omega) (by omega)⟩
  have h1 := qy_Q1 yc ON m LS i
  have h2 := qy_Q1 yc ON m LS nl
  rcases hp with hp | hp
  · rw [← e] at hp
    exact nI_pos (by omega) hp
  · rw [← e, nI_leI (by omega) (by omega)] at hp
    have h3 : qy_Q yc ON m LS i + qy_w yc ON m (LS i) ≤ qy_Q yc ON m LS nl := qa_slt (f := fun i => qy_w yc ON m (LS i)) hi
    omega
theorem qy_lenL {post : Int32 → Prop} (hm : m ≤ 32) (hn : nl ≤ 32) (hON : ∀ j, ON j < 2) (hLS : ∀ j, LS j < 32) (h : post (nI (qy_Q yc ON m LS nl))) :
    ∀ d i n : Nat, i + d = nl → d < n → wY_length_4 post (nI nl) (nI m) (qa_A LS) (qa_A YT) (qa_A YL) yc (qa_A ON) n (nI (qy_Q yc ON m LS i)) (nI i) := by
  intro d
  induction d with
  | zero =>
    intro i n hi hn'
    obtain ⟨n, rfl⟩ : ∃ k, n = k + 1 := ⟨n - 1, by omega⟩
    have e : i = nl := by omega
    subst e
    exact br_t (nI_le (Nat.le_refl _) (by omega)) h
  | succ d ih =>
    intro i n hi hn'
    obtain ⟨n, rfl⟩ : ∃ k, n = k + 1 := ⟨n - 1, by omega⟩
    have e1 : qa_A LS (nI i).toNatClampNeg = nI (LS i) := qa_at (by omega)
    have hw1 := qy_w1 yc ON m (LS i)
    have ih' := ih (i + 1) n (by omega) (by omega)
    rw [qy_QS] at ih'
    refine br_f (nI_ge (by omega) (by omega)) ⟨vp_in_nI (by omega) (by omega), ?_⟩
    rw [e1]
    refine qy_shown hm (hLS i) hON ?_
    refine pk_eq (qy_w yc ON m (LS i)) 0 (fun z => ?_) (fun z => ?_)
    · rw [z] at ih'
      exact nm_r (nI_1 i) ih'
    · have z1 : qy_w yc ON m (LS i) = 1 := by omega
      rw [z1] at ih'
      exact nm_r (nI_1 _) (nm_r (nI_1 i) ih')
theorem qy_len {post : Int32 → Prop} (hm : m ≤ 32) (hn : nl ≤ 32) (hON : ∀ j, ON j < 2) (hLS : ∀ j, LS j < 32) (h : post (nI (qy_Q yc ON m LS nl))) : wpY_length post (qy_S nl m LS YT YL yc ON) :=
  ⟨nl + 1, qy_lenL hm hn hON hLS h nl 0 (nl + 1) (by omega) (by omega)⟩
theorem qy_ty99 {post : Int32 → SY → Prop} {c a : Nat} (hm : m < 32) (ha : a < 32) (k : post (nI m) (qy_S (nl + 1) (m + 1) (qa_u LS a m) (qa_u YT m 1) (qa_u YL m c) (upd yc m 0) (qa_u ON m 1))) :
    wY_type_99 post (nI c) (nI a) (nI nl) (nI m) (qa_A LS) (qa_A YT) (qa_A YL) yc (qa_A ON) := by
  have v1 : vp_nar .boolean 1 = nI 1 := rfl
  unfold wY_type_99
  rw [v1, qa_st (f := LS) (x := a) (by omega), qa_st (f := YT) (x := m) (by omega), qa_st (f := YL) (x := m) (by omega), qa_st (f := ON) (x := m) (by omega), nI_clamp (n := m) (by omega)]
  refine ⟨vp_in_nI ha (by omega), nm_e (nm_r (nI_1 nl) ⟨vp_in_nI hm (by omega), nm_e ⟨vp_in_nI hm (by omega), nm_e ⟨vp_in_nI hm (by omega), nm_e ⟨vp_in_nI hm (by omega), nm_e (nm_r (nI_1 m) ?_)⟩⟩⟩⟩)⟩
  rw [nI_pred]
  exact k
theorem qy_ty59 {post : Int32 → SY → Prop} {c q : Nat} {be : Int32} {LS0 : Nat → Nat} (hm : m < 32) (hn : nl < 32) (hq : q ≤ nl) (hb1 : ∀ i, q ≤ i → i < nl → nI (LS0 i) ≠ be) (hb2 : 1 ≤ q → nI (LS0 (q - 1)) = be)
    (k : ∀ LS' : Nat → Nat, (∀ j, LS' j < 32) → (∀ j, j < q → LS' j = LS0 j) → LS' q = m → (∀ j, q ≤ j → j < nl → LS' (j + 1) = LS0 j) → post (nI m) (qy_S (nl + 1) (m + 1) LS' (qa_u YT m 1) (qa_u YL m c) (upd yc m 0) (qa_u ON m 1))) :
    ∀ (d a n : Nat) (LS : Nat → Nat), a = q + d → a ≤ nl → d < n → (∀ j, LS j < 32) → (∀ j, j ≤ a → LS j = LS0 j) → (∀ j, a ≤ j → j < nl → LS (j + 1) = LS0 j) → wY_type_59 post (nI c) be (nI nl) (nI m) n (nI a) (qa_A LS) (qa_A YT) (qa_A YL) yc (qa_A ON) := by
  intro d
  induction d with
  | zero =>
    intro a n LS ha ha2 hn' h1 h2 h3
    obtain ⟨n, rfl⟩ : ∃ k, n = k + 1 := ⟨n - 1, by omega⟩
    have e : a = q := by omega
    subst e
    have hk := k (qa_u LS a m) (qa_ub h1 hm) (fun j hj => by rw [qa_un (by omega)]; exact h2 j (by omega)) qa_us (fun j j1 j2 => by rw [qa_un (by omega)]; exact h3 j j1 j2)
    have h99 := qy_ty99 (post := post) (nl := nl) (LS := LS) (YT := YT) (YL := YL) (yc := yc) (ON := ON) (c := c) (a := a) hm (by omega) hk
    refine pk_le a 0 (fun _ => h99) (fun h => ?_)
    obtain ⟨b, rfl⟩ : ∃ b, a = b + 1 := ⟨a - 1, by omega⟩
    have hbe : nI (LS b) = be := by rw [h2 b (by omega)]; exact hb2 (by omega)
    have e1 : qa_A LS (nI (b + 1) - 1).toNatClampNeg = nI (LS b) := by rw [nI_pred]; exact qa_at (by omega)
    rw [e1]
    refine ⟨?_, br_t hbe h99⟩
    rw [nI_pred]
    exact vp_in_nI (by omega) (by omega)
  | succ d ih =>
    intro a n LS ha ha2 hn' h1 h2 h3
    obtain ⟨n, rfl⟩ : ∃ k, n = k + 1 := ⟨n - 1, by omega⟩
    refine pk_le a 0 (fun h => absurd h (by omega)) (fun h => ?_)
    obtain ⟨b, rfl⟩ : ∃ b, a = b + 1 := ⟨a - 1, by omega⟩
    have hbe : nI (LS b) ≠ be := by rw [h2 b (by omega)]; exact hb1 b (by omega) (by omega)
    have e1 : qa_A LS (nI (b + 1) - 1).toNatClampNeg = nI (LS b) := by rw [nI_pred]; exact qa_at (by omega)
    rw [e1, qa_st (f := LS) (x := b + 1) (by omega), pk_m1]
    have hv : vp_in (nI (b + 1) - 1) 32 := by rw [nI_pred]; exact vp_in_nI (by omega) (by omega)
    refine ⟨hv, br_f hbe ⟨hv, vp_in_nI (by omega) (by omega), nm_e (nm_e ?_)⟩⟩
    refine ih b n _ (by omega) (by omega) (by omega) (qa_ub h1 (h1 b)) (fun j hj => by rw [qa_un (by omega)]; exact h2 j (by omega)) (fun j j1 j2 => ?_)
    by_cases e : j = b
    · subst e; rw [qa_us]; exact h2 j (by omega)
    · rw [qa_un (by omega)]; exact h3 j (by omega) j2
end
end
section
/-! the relation; coverBy and toggle keep it -/
def qx_f (co : Nat → Int64) (ON : Nat → Nat) (x : Nat) : Nat → Nat := fun j => if ON j = 0 then 0 else if qb_x (co j) (x - 1) = true then 1 else 0
theorem qx_f1 (co : Nat → Int64) (ON : Nat → Nat) (c j : Nat) : qx_f co ON c j ≤ 1 := by
  unfold qx_f
  by_cases h : ON j = 0
  · rw [if_pos h]; omega
  · rw [if_neg h]
    by_cases h2 : qb_x (co j) (c - 1) = true
    · rw [if_pos h2]; omega
    · rw [if_neg h2]; omega
/-- X's own part -/
def qr_X (nc m rt : Nat) (L R U SH TY CV ON TP : Nat → Nat) (co : Nat → Int64) (lo hi pos od : Nat → Nat) : Prop :=
  (nc ≤ m ∧ m ≤ 32) ∧ qx_B TY CV ON ∧ (∀ j, TP j < 49) ∧ qt_W nc rt L R U SH lo hi pos (qt_P (qx_w TY CV ON) od) ∧ qt_O nc od pos ∧
  (∀ x, 1 ≤ x → x ≤ nc → TY x < m ∧ TP (TY x) = x) ∧
  (∀ k, k < m → TP k ≠ 0 → TP k ≤ nc ∧ TY (TP k) = k ∧ co k = 0) ∧
  (∀ x, 1 ≤ x → x ≤ nc → CV x = qa_s (qx_f co ON x) m) ∧ (∀ x, nc < x → CV x = 0)
/-- what ties the two sides, the switches apart -/
def qr_Y (nc m : Nat) (LT TY TP : Nat → Nat) (co : Nat → Int64) (od LS YT YL : Nat → Nat) (yc : Nat → Int32) : Prop :=
  (∀ j, LS j < 32) ∧ (∀ k, k < m → ∀ i, nc ≤ i → qb_x (co k) i = false) ∧ (∀ k, k < m → ∀ c, m ≤ c → bt (yc k) c = false) ∧
  (∀ k, k < m → ∀ x, 1 ≤ x → x ≤ nc → qb_x (co k) (x - 1) = bt (yc k) (TY x)) ∧ (∀ k, k < m → qb_px (co k) = qb_py (yc k)) ∧
  (∀ k, k < m → YT k = if TP k = 0 then 0 else 1) ∧ (∀ x, 1 ≤ x → x ≤ nc → YL (TY x) = LT x) ∧ (∀ i, i < nc → LS i = TY (od i)) ∧
  (∀ f : Nat → Nat, qa_s (fun i => f (od i)) nc = qa_s (fun i => f (i + 1)) nc)
section
variable {cn nc rt m : Nat} {sd : Int32} {L R U : Nat → Nat} {rk : Nat → Int32} {SH LT TY CV ON TP : Nat → Nat} {co : Nat → Int64} {lo hi pos od P : Nat → Nat}
theorem qt_Wc {P' : Nat → Nat} (h : ∀ i, i ≤ nc → P i = P' i) (W : qt_W nc rt L R U SH lo hi pos P) : qt_W nc rt L R U SH lo hi pos P' := by
  obtain ⟨T, hF, h0, hs⟩ := W
  refine ⟨T, hF, h0, fun z z1 z2 => ?_⟩
  have vz := qt_iv T z1 z2
  rw [← h (lo z) (by omega), ← h (hi z) (by omega)]
  exact hs z z1 z2
theorem qt_Pc {w w' : Nat → Nat} (O : qt_O nc od pos) (h : ∀ z, 1 ≤ z → z ≤ nc → w z = w' z) : ∀ i, i ≤ nc → qt_P w od i = qt_P w' od i := by
  intro i hi
  refine qa_sc i (fun j hj => ?_)
  have := O.2 j (by omega)
  exact h (od j) this.1 this.2.1
/-- one node's weight changes: sums that don't hold its place stay -/
theorem qt_P1c {w w' : Nat → Nat} (O : qt_O nc od pos) {a : Nat} (a1 : 1 ≤ a) (a2 : a ≤ nc) (h : ∀ z, 1 ≤ z → z ≤ nc → z ≠ a → w' z = w z) (W : qt_W nc rt L R U SH lo hi pos (qt_P w od)) :
    ∀ z, 1 ≤ z → z ≤ nc → ¬ (lo z ≤ pos a ∧ pos a < hi z) → SH z + qt_P w' od (lo z) = qt_P w' od (hi z) := by
  obtain ⟨T, hF, h0, hs⟩ := W
  intro z z1 z2 hz
  have vz := qt_iv T z1 z2
  have hh := hs z z1 z2
  have key : ∀ n, n ≤ nc → (n ≤ pos a → qt_P w' od n = qt_P w od n) ∧ (pos a < n → qt_P w' od n + w (od (pos a)) = qt_P w od n + w' (od (pos a))) := by
    intro n hn
    refine qa_one (f := fun j => w (od j)) (g := fun j => w' (od j)) (q := pos a) n (fun j hj hne => ?_)
    have oj := O.2 j (by omega)
    refine h (od j) oj.1 oj.2.1 (fun e => hne ?_)
    rw [← e, oj.2.2]
  have k1 := key (lo z) (by omega)
  have k2 := key (hi z) (by omega)
  by_cases c : hi z ≤ pos a
  · rw [k1.1 (by omega), k2.1 c]; exact hh
  · have := k1.2 (by omega)
    have := k2.2 (by omega)
    omega
theorem qx_covL {post : SX → Prop} {v : Int64} {mo : Int32} {CV1 : Nat → Nat} (hn : nc ≤ 47) (O : qt_O nc od pos) (B0 : qx_B TY CV ON) (B1 : qx_B TY CV1 ON)
    (hb1 : ∀ x, 1 ≤ x → x ≤ nc → qb_x v (x - 1) = true → nI (CV x) + mo = nI (CV1 x)) (hb2 : ∀ x, 1 ≤ x → x ≤ nc → ¬ qb_x v (x - 1) = true → CV1 x = CV x) (hb3 : ∀ x, nc < x ∨ x = 0 → CV1 x = CV x)
    (k : ∀ SH' : Nat → Nat, qt_W nc rt L R U SH' lo hi pos (qt_P (qx_w TY CV1 ON) od) → post (qx_S nc rt m sd L R U rk SH' LT TY CV1 ON TP co)) :
    ∀ (n a : Nat) (SH : Nat → Nat), 1 ≤ a → a ≤ nc + 1 → nc + 1 < n + a → qt_W nc rt L R U SH lo hi pos (qt_P (qx_w TY (fun j => if j < a then CV1 j else CV j) ON) od) → wX_coverBy_3 post v mo n (nI a) (nI nc) (nI rt) (nI m) sd (qa_A L) (qa_A R) (qa_A U) rk (qa_A SH) (qa_A LT) (qa_A TY) (qa_A (fun j => if j < a then CV1 j else CV j)) (qa_A ON) (qa_A TP) co := by
  intro n
  induction n with
  | zero => intro a SH a1 a2 h; omega
  | succ n ih =>
    intro a SH a1 a2 h W
    by_cases hc : a = nc + 1
    · subst hc
      have e : (fun j => if j < nc + 1 then CV1 j else CV j) = CV1 := by
        funext j
        by_cases hj : j < nc + 1
        · exact if_pos hj
        · rw [if_neg hj]; exact (hb3 j (Or.inl (by omega))).symm
      rw [e] at W ⊢
      exact br_t (nI_lt (by omega) (by omega)) (k SH W)
    · have hBm : ∀ b, qx_B TY (fun j => if j < b then CV1 j else CV j) ON := fun b => ⟨B0.1, fun j => by
        show (if j < b then CV1 j else CV j) < 64
        by_cases hj : j < b
        · rw [if_pos hj]; exact B1.2.1 j
        · rw [if_neg hj]; exact B0.2.1 j, B0.2.2⟩
      obtain ⟨b, rfl⟩ : ∃ b, a = b + 1 := ⟨a - 1, by omega⟩
      refine br_f (nI_nlt (by omega) (by omega)) ?_
      rw [nI_pred]
      refine ek_if (qb_xt v (by omega)) (fun hb => ?_) (fun hb => ?_)
      · have e1 : qa_A (fun j => if j < b + 1 then CV1 j else CV j) (nI (b + 1)).toNatClampNeg = nI (CV (b + 1)) := by
          rw [qa_at (by omega)]
          show nI (if b + 1 < b + 1 then CV1 (b + 1) else CV (b + 1)) = _
          rw [if_neg (by omega)]
        have e2 : qa_u (fun j => if j < b + 1 then CV1 j else CV j) (b + 1) (CV1 (b + 1)) = fun j => if j < b + 1 + 1 then CV1 j else CV j := by
          funext j
          by_cases hj : j = b + 1
          · subst hj; rw [qa_us, if_pos (by omega)]
          · rw [qa_un hj]
            show (if j < b + 1 then CV1 j else CV j) = (if j < b + 1 + 1 then CV1 j else CV j)
            by_cases hj2 : j < b + 1
            · rw [if_pos hj2, if_pos (by omega)]
            · rw [if_neg hj2, if_neg (by omega)]
        rw [e1, hb1 (b + 1) (by omega) (by omega) hb, qa_st (by omega), e2]
        refine ⟨vp_in_nI (by omega) (by omega), vp_in_nI (by omega) (by omega), nm_e ?_⟩
        have hs := qt_P1c (w' := qx_w TY (fun j => if j < b + 1 + 1 then CV1 j else CV j) ON) O (a := b + 1) (by omega) (by omega) (fun z z1 z2 hz => ?_) W
        · refine qx_pullUp (hBm _) hn W.1 O (qt_hP _ O) W.2.2.1 (by omega) (by omega) hs (fun SH' h0' hs' => ?_)
          exact nm_r (nI_1 (b + 1)) (ih (b + 1 + 1) SH' (by omega) (by omega) (by omega) ⟨W.1, W.2.1, h0', hs'⟩)
        · unfold qx_w
          have : (if z < b + 1 + 1 then CV1 z else CV z) = (if z < b + 1 then CV1 z else CV z) := by
            by_cases hj2 : z < b + 1
            · rw [if_pos hj2, if_pos (by omega)]
            · rw [if_neg hj2, if_neg (by omega)]
          show (if z = 0 then 0 else if ON (TY z) = 0 then 0 else if (if z < b + 1 + 1 then CV1 z else CV z) = 0 then 1 else 0) = (if z = 0 then 0 else if ON (TY z) = 0 then 0 else if (if z < b + 1 then CV1 z else CV z) = 0 then 1 else 0)
          rw [this]
      · have e2 : (fun j => if j < b + 1 then CV1 j else CV j) = fun j => if j < b + 1 + 1 then CV1 j else CV j := by
          funext j
          by_cases hj : j = b + 1
          · subst hj; rw [if_neg (by omega), if_pos (by omega), hb2 (b + 1) (by omega) (by omega) hb]
          · by_cases hj2 : j < b + 1
            · rw [if_pos hj2, if_pos (by omega)]
            · rw [if_neg hj2, if_neg (by omega)]
        rw [e2] at W ⊢
        exact nm_r (nI_1 (b + 1)) (ih (b + 1 + 1) SH (by omega) (by omega) (by omega) W)
theorem qx_cov {post : SX → Prop} {v : Int64} {mo : Int32} {CV1 : Nat → Nat} (hn : nc ≤ 47) (O : qt_O nc od pos) (B0 : qx_B TY CV ON) (B1 : qx_B TY CV1 ON)
    (hb1 : ∀ x, 1 ≤ x → x ≤ nc → qb_x v (x - 1) = true → nI (CV x) + mo = nI (CV1 x)) (hb2 : ∀ x, 1 ≤ x → x ≤ nc → ¬ qb_x v (x - 1) = true → CV1 x = CV x) (hb3 : ∀ x, nc < x ∨ x = 0 → CV1 x = CV x)
    (W : qt_W nc rt L R U SH lo hi pos (qt_P (qx_w TY CV ON) od))
    (k : ∀ SH' : Nat → Nat, qt_W nc rt L R U SH' lo hi pos (qt_P (qx_w TY CV1 ON) od) → post (qx_S nc rt m sd L R U rk SH' LT TY CV1 ON TP co)) : wpX_coverBy post (qx_S nc rt m sd L R U rk SH LT TY CV ON TP co) v mo := by
  have e : (fun j => if j < 1 then CV1 j else CV j) = CV := by
    funext j
    by_cases hj : j < 1
    · rw [if_pos hj]; exact hb3 j (Or.inr (by omega))
    · exact if_neg hj
  have h := qx_covL (post := post) (rk := rk) (m := m) (sd := sd) (LT := LT) (TP := TP) (co := co) hn O B0 B1 hb1 hb2 hb3 k (nc + 1) 1 SH (by omega) (by omega) (by omega) (by rw [e]; exact W)
  rw [e] at h
  exact ⟨nc + 1, h⟩
end
end
section
/-! toggle and the calls that switch changes -/
theorem qx_fu {co : Nat → Int64} {ON : Nat → Nat} {x k v : Nat} {m : Nat} (hk : k < m) : qa_s (qx_f co (qa_u ON k v) x) m + qx_f co ON x k = qa_s (qx_f co ON x) m + qx_f co (qa_u ON k v) x k := by
  refine (qa_one (f := qx_f co ON x) (g := qx_f co (qa_u ON k v) x) (q := k) m (fun j _ hj => ?_)).2 hk
  unfold qx_f
  rw [qa_un hj]
theorem qx_f0 {co : Nat → Int64} {ON : Nat → Nat} {x k : Nat} (h : ¬ qb_x (co k) (x - 1) = true) : qx_f co ON x k = 0 := by
  unfold qx_f
  by_cases e : ON k = 0
  · rw [if_pos e]
  · rw [if_neg e, if_neg h]
theorem qx_ft {co : Nat → Int64} {ON : Nat → Nat} {x k : Nat} (h : qb_x (co k) (x - 1) = true) : (ON k = 0 ∧ qx_f co ON x k = 0) ∨ (ON k ≠ 0 ∧ qx_f co ON x k = 1) := by
  unfold qx_f
  by_cases e : ON k = 0
  · rw [if_pos e]; exact Or.inl ⟨e, rfl⟩
  · rw [if_neg e, if_pos h]; exact Or.inr ⟨e, rfl⟩
theorem qx_wTY {TY CV ON ON' : Nat → Nat} {z : Nat} (h : ON' (TY z) = ON (TY z)) : qx_w TY CV ON' z = qx_w TY CV ON z := by
  unfold qx_w
  rw [h]
section
variable {cn nc rt m : Nat} {sd : Int32} {L R U : Nat → Nat} {rk : Nat → Int32} {SH LT TY CV ON TP : Nat → Nat} {co : Nat → Int64} {lo hi pos od P : Nat → Nat}
theorem qr_tog {post : SX → Prop} {k : Nat} (hX : qr_X nc m rt L R U SH TY CV ON TP co lo hi pos od) (hk : k < m)
    (h : ∀ SH' CV' : Nat → Nat, qr_X nc m rt L R U SH' TY CV' (qa_u ON k (1 - ON k)) TP co lo hi pos od → post (qx_S nc rt m sd L R U rk SH' LT TY CV' (qa_u ON k (1 - ON k)) TP co)) : wpX_toggle post (qx_S nc rt m sd L R U rk SH LT TY CV ON TP co) (nI k) := by
  obtain ⟨⟨hm1, hm2⟩, B, hTP, W, O, hTY, hT, hCV, hCF⟩ := hX
  have hON := B.2.2 k
  have hTPk := hTP k
  have B' : qx_B TY CV (qa_u ON k (1 - ON k)) := ⟨B.1, B.2.1, qa_ub B.2.2 (by omega)⟩
  have e1 : qa_A ON (nI k).toNatClampNeg = nI (ON k) := qa_at (by omega)
  have e2 : qa_A TP (nI k).toNatClampNeg = nI (TP k) := qa_at (by omega)
  have e3 : co (nI k).toNatClampNeg = co k := by rw [nI_clamp (by omega)]
  have e4 : qa_A (qa_u ON k (1 - ON k)) (nI k).toNatClampNeg = nI (1 - ON k) := by rw [qa_at (by omega), qa_us]
  have hcov : ∀ mo : Int32, TP k = 0 → (ON k = 0 ∧ mo = 1 ∨ ON k = 1 ∧ mo = -1) → wX_toggle_63 post mo (co k) (nI nc) (nI rt) (nI m) sd (qa_A L) (qa_A R) (qa_A U) rk (qa_A SH) (qa_A LT) (qa_A TY) (qa_A CV) (qa_A (qa_u ON k (1 - ON k))) (qa_A TP) co := by
    intro mo t hmo
    unfold wX_toggle_63
    have hle : ∀ x, qa_s (qx_f co (qa_u ON k (1 - ON k)) x) m ≤ m := fun x => qa_sle (qx_f1 co _ x) m
    have B1 : qx_B TY (fun x => if 1 ≤ x ∧ x ≤ nc then qa_s (qx_f co (qa_u ON k (1 - ON k)) x) m else CV x) (qa_u ON k (1 - ON k)) := ⟨B.1, fun j => by
      show (if 1 ≤ j ∧ j ≤ nc then qa_s (qx_f co (qa_u ON k (1 - ON k)) j) m else CV j) < 64
      by_cases c : 1 ≤ j ∧ j ≤ nc
      · rw [if_pos c]; have := hle j; omega
      · rw [if_neg c]; exact B.2.1 j, B'.2.2⟩
    refine qx_cov (CV1 := fun x => if 1 ≤ x ∧ x ≤ nc then qa_s (qx_f co (qa_u ON k (1 - ON k)) x) m else CV x) (by omega) O B' B1 (fun x x1 x2 hb => ?_) (fun x x1 x2 hb => ?_) (fun x hx => if_neg (by omega)) (qt_Wc (qt_Pc O (fun z z1 z2 => ?_)) W) (fun SH' W' => h SH' _ ⟨⟨hm1, hm2⟩, B1, hTP, W', O, hTY, hT, fun x x1 x2 => if_pos ⟨x1, x2⟩, fun x hx => ?_⟩)
    · show nI (CV x) + mo = nI (if 1 ≤ x ∧ x ≤ nc then qa_s (qx_f co (qa_u ON k (1 - ON k)) x) m else CV x)
      rw [if_pos ⟨x1, x2⟩, hCV x x1 x2]
      have f1 := qx_fu (co := co) (ON := ON) (x := x) (v := 1 - ON k) hk
      have f2 := qx_ft (ON := ON) hb
      have f3 := qx_ft (ON := qa_u ON k (1 - ON k)) hb
      rw [qa_us] at f3
      rcases hmo with ⟨hm, rfl⟩ | ⟨hm, rfl⟩
      · rw [nI_1]
        exact congrArg nI (by omega)
      · obtain ⟨y, hy⟩ : ∃ y, qa_s (qx_f co ON x) m = y + 1 := ⟨qa_s (qx_f co ON x) m - 1, by omega⟩
        rw [hy, pk_m1]
        exact congrArg nI (by omega)
    · show (if 1 ≤ x ∧ x ≤ nc then qa_s (qx_f co (qa_u ON k (1 - ON k)) x) m else CV x) = CV x
      rw [if_pos ⟨x1, x2⟩, hCV x x1 x2]
      have f1 := qx_fu (co := co) (ON := ON) (x := x) (v := 1 - ON k) hk
      have f2 := qx_f0 (ON := ON) hb
      have f3 := qx_f0 (ON := qa_u ON k (1 - ON k)) hb
      omega
    · refine (qx_wTY ?_).symm
      refine qa_un (fun e => ?_)
      have := (hTY z z1 z2).2
      rw [e, t] at this
      omega
    · show (if 1 ≤ x ∧ x ≤ nc then qa_s (qx_f co (qa_u ON k (1 - ON k)) x) m else CV x) = 0
      rw [if_neg (by omega)]
      exact hCF x hx
  have key : ∀ z, z = 1 - ON k → wX_toggle_19 post (nI k) (nI z) (nI k) (nI nc) (nI rt) (nI m) sd (qa_A L) (qa_A R) (qa_A U) rk (qa_A SH) (qa_A LT) (qa_A TY) (qa_A CV) (qa_A ON) (qa_A TP) co := by
    intro z hz
    subst hz
    have vz : vp_nar .boolean (nI (1 - ON k)) = nI (1 - ON k) := by
      rcases (show ON k = 0 ∨ ON k = 1 by omega) with e | e
      · rw [e]; rfl
      · rw [e]; rfl
    unfold wX_toggle_19
    rw [vz, qa_st (f := ON) (x := k) (by omega)]
    refine ⟨vp_in_nI (by omega) (by omega), nm_e ⟨vp_in_nI (by omega) (by omega), ?_⟩⟩
    rw [e2, e3, e4]
    refine pk_eq (TP k) 0 (fun t => ⟨vp_in_nI (by omega) (by omega), vp_in_nI (by omega) (by omega), pk_eq (1 - ON k) 0 (fun e => hcov (-1) t (Or.inr ⟨by omega, rfl⟩)) (fun e => hcov 1 t (Or.inl ⟨by omega, rfl⟩))⟩) (fun t => ⟨vp_in_nI (by omega) (by omega), ?_⟩)
    obtain ⟨t1, t2, t3⟩ := hT k hk t
    have hw : ∀ z, 1 ≤ z → z ≤ nc → z ≠ TP k → qx_w TY CV (qa_u ON k (1 - ON k)) z = qx_w TY CV ON z := fun z z1 z2 hz => qx_wTY (qa_un (fun e => hz (by
      have := (hTY z z1 z2).2
      rw [e] at this
      exact this.symm)))
    refine qx_pullUp B' (by omega) W.1 O (qt_hP _ O) W.2.2.1 (by omega) t1 (qt_P1c O (by omega) t1 hw W) (fun SH' h0' hs' => ?_)
    refine h SH' CV ⟨⟨hm1, hm2⟩, B', hTP, ⟨W.1, W.2.1, h0', hs'⟩, O, hTY, hT, fun x x1 x2 => ?_, hCF⟩
    rw [hCV x x1 x2]
    refine qa_sc m (fun j hj => ?_)
    unfold qx_f
    by_cases e : j = k
    · subst e
      have hb : ¬ qb_x (co j) (x - 1) = true := by rw [t3, qb_x0]; decide
      rw [if_neg hb]
      by_cases c1 : ON j = 0 <;> by_cases c2 : qa_u ON j (1 - ON j) j = 0 <;> simp [c1, c2]
    · rw [qa_un e]
  unfold wpX_toggle
  dsimp only [qx_S]
  rw [e1]
  exact ⟨vp_in_nI (by omega) (by omega), pk_eq (ON k) 0 (fun e => key 1 (by omega)) (fun e => key 0 (by omega))⟩
theorem qx_bad1 {post : Int32 → Prop} {v : Int32} (h : v < 0 ∨ nI m ≤ v) (k : post 1) : wpX_bad post (qx_S cn rt m sd L R U rk SH LT TY CV ON TP co) v := by
  unfold wpX_bad
  dsimp only [qx_S]
  refine br_c (fun _ => k) (fun h0 => br_f ?_ k)
  rcases h with h | h
  · exact absurd h h0
  · exact Int32.not_lt.mpr h
theorem qx_bad0 {post : Int32 → Prop} {j : Nat} (hm : m ≤ 32) (h : j < m) (k : post 0) : wpX_bad post (qx_S cn rt m sd L R U rk SH LT TY CV ON TP co) (nI j) := by
  unfold wpX_bad
  dsimp only [qx_S]
  exact br_f (nI_pos (by omega)) (br_t (nI_lt h (by omega)) k)
end
section
variable {nl m : Nat} {LS YT YL : Nat → Nat} {yc : Nat → Int32} {ON : Nat → Nat}
theorem qy_ch0 {post : Int32 → Prop} {v : Int32} (h : v < 0 ∨ nI m ≤ v) (k : post 0) : wpY_isChange post (qy_S nl m LS YT YL yc ON) v := by
  unfold wpY_isChange
  dsimp only [qy_S]
  refine br_c (fun _ => k) (fun h0 => br_t ?_ k)
  rcases h with h | h
  · exact absurd h h0
  · exact h
theorem qy_ch1 {post : Int32 → Prop} {j : Nat} (hm : m ≤ 32) (h : j < m) (k : post 1) : wpY_isChange post (qy_S nl m LS YT YL yc ON) (nI j) := by
  unfold wpY_isChange
  dsimp only [qy_S]
  exact br_f (nI_pos (by omega)) (br_f (nI_ge h (by omega)) k)
end
end
section
/-! put, undo, redo, flip: each side -/
theorem qa_ui {f : Nat → Nat} {k v : Nat} (h : v = f k) : qa_u f k v = f := by
  funext j
  by_cases e : j = k
  · subst e; rw [qa_us, h]
  · exact qa_un e
theorem qb_nar {v : Nat} (h : v < 2) : vp_nar .boolean (nI v) = nI v := by
  rcases (show v = 0 ∨ v = 1 by omega) with e | e
  · rw [e]; rfl
  · rw [e]; rfl
def qa_fl (ON : Nat → Nat) (a i : Nat) : Nat → Nat := fun j => if a ≤ j ∧ j < i then 1 - ON j else ON j
def qa_fs (ON : Nat → Nat) (a : Nat) : Nat → Nat := qa_s (fun j => if a ≤ j then 1 - ON j else 0)
theorem qa_fl0 (ON : Nat → Nat) (a : Nat) : qa_fl ON a a = ON := by
  funext j
  exact if_neg (by omega)
theorem qa_fli (ON : Nat → Nat) (a i : Nat) : qa_fl ON a i i = ON i := if_neg (by omega)
theorem qa_flS (ON : Nat → Nat) {a i : Nat} (h : a ≤ i) : qa_u (qa_fl ON a i) i (1 - ON i) = qa_fl ON a (i + 1) := by
  funext j
  by_cases e : j = i
  · subst e
    rw [qa_us]
    exact (if_pos (by omega)).symm
  · rw [qa_un e]
    unfold qa_fl
    by_cases c : a ≤ j ∧ j < i
    · rw [if_pos c, if_pos (by omega)]
    · rw [if_neg c, if_neg (by omega)]
theorem qa_fs0 (ON : Nat → Nat) (a : Nat) : qa_fs ON a a = 0 := qa_s0 a (fun i hi => if_neg (by omega))
theorem qa_fsS (ON : Nat → Nat) {a i : Nat} (h : a ≤ i) : qa_fs ON a (i + 1) = qa_fs ON a i + (1 - ON i) := by
  show qa_fs ON a i + (if a ≤ i then 1 - ON i else 0) = _
  rw [if_pos h]
theorem qa_flb {ON : Nat → Nat} (h : ∀ j, ON j < 2) (a i : Nat) : ∀ j, qa_fl ON a i j < 2 := by
  intro j
  have := h j
  unfold qa_fl
  by_cases c : a ≤ j ∧ j < i
  · rw [if_pos c]; omega
  · rw [if_neg c]; omega
section
variable {cn nc rt m : Nat} {sd : Int32} {L R U : Nat → Nat} {rk : Nat → Int32} {SH LT TY CV ON TP : Nat → Nat} {co : Nat → Int64} {lo hi pos od P : Nat → Nat}
theorem qx_put {post : Int32 → SX → Prop} {j t : Nat} {v2 : Int32} (hX : qr_X nc m rt L R U SH TY CV ON TP co lo hi pos od) (hj : j < m) (ht : v2 = 0 ∧ t = 0 ∨ v2 ≠ 0 ∧ t = 1)
    (h : ∀ SH' CV' : Nat → Nat, qr_X nc m rt L R U SH' TY CV' (qa_u ON j t) TP co lo hi pos od → post (nI (ON j)) (qx_S nc rt m sd L R U rk SH' LT TY CV' (qa_u ON j t) TP co)) : wpX_put post (qx_S nc rt m sd L R U rk SH LT TY CV ON TP co) (nI j) v2 := by
  have hON := hX.2.1.2.2 j
  have hm := hX.1.2
  have e1 : qa_A ON (nI j).toNatClampNeg = nI (ON j) := qa_at (by omega)
  have h40 : wX_put_40 post (nI j) (nI (ON j)) (nI t) (nI (ON j)) (nI nc) (nI rt) (nI m) sd (qa_A L) (qa_A R) (qa_A U) rk (qa_A SH) (qa_A LT) (qa_A TY) (qa_A CV) (qa_A ON) (qa_A TP) co := by
    unfold wX_put_40
    refine pk_eq (ON j) t (fun e => ?_) (fun e => ?_)
    · have e1 : qa_u ON j t = ON := qa_ui e.symm
      rw [e1] at h
      exact h SH CV hX
    · have e1 : t = 1 - ON j := by omega
      subst e1
      exact qr_tog hX hj (fun SH' CV' hX' => h SH' CV' hX')
  have h24 : wX_put_24 post (nI j) v2 (nI (ON j)) (nI nc) (nI rt) (nI m) sd (qa_A L) (qa_A R) (qa_A U) rk (qa_A SH) (qa_A LT) (qa_A TY) (qa_A CV) (qa_A ON) (qa_A TP) co := by
    unfold wX_put_24
    rw [e1]
    refine ⟨vp_in_nI (by omega) (by omega), ?_⟩
    rcases ht with ⟨a, b⟩ | ⟨a, b⟩
    · rw [b] at h40; exact br_t a h40
    · rw [b] at h40; exact br_f a h40
  unfold wpX_put
  dsimp only [qx_S]
  refine qx_bad0 hm hj (br_t rfl ⟨vp_in_nI (by omega) (by omega), ?_⟩)
  rw [e1]
  refine pk_eq (ON j) 0 (fun e => ?_) (fun e => ?_)
  · rw [e] at h24; exact h24
  · have e2 : ON j = 1 := by omega
    rw [e2] at h24; exact h24
theorem qx_undoN {post : Int32 → SX → Prop} (hm : m ≤ 32) (h0 : ∀ j, j < m → ON j = 0) (h : post (-4) (qx_S cn rt m sd L R U rk SH LT TY CV ON TP co)) : ∀ i n : Nat, i ≤ m → i < n → wX_undo_7 post (nI cn) (nI rt) (nI m) sd (qa_A L) (qa_A R) (qa_A U) rk (qa_A SH) (qa_A LT) (qa_A TY) (qa_A CV) (qa_A ON) (qa_A TP) co n (nI i - 1) := by
  intro i
  induction i with
  | zero =>
    intro n h1 h2
    obtain ⟨n, rfl⟩ : ∃ k, n = k + 1 := ⟨n - 1, by omega⟩
    exact br_t (by decide) h
  | succ i ih =>
    intro n h1 h2
    obtain ⟨n, rfl⟩ : ∃ k, n = k + 1 := ⟨n - 1, by omega⟩
    have e1 : qa_A ON (nI i).toNatClampNeg = nI (ON i) := qa_at (by omega)
    rw [nI_pred]
    refine br_f (nI_pos (by omega)) ⟨vp_in_nI (by omega) (by omega), ?_⟩
    rw [e1, h0 i (by omega)]
    exact br_t rfl (nm_r (Int32.sub_eq_add_neg _ _).symm (ih n (by omega) (by omega)))
theorem qx_undoK {post : Int32 → SX → Prop} {k : Nat} (hX : qr_X nc m rt L R U SH TY CV ON TP co lo hi pos od) (hk : k < m) (h1 : ON k ≠ 0) (h2 : ∀ j, k < j → j < m → ON j = 0)
    (h : ∀ SH' CV' : Nat → Nat, qr_X nc m rt L R U SH' TY CV' (qa_u ON k 0) TP co lo hi pos od → post (nI k) (qx_S nc rt m sd L R U rk SH' LT TY CV' (qa_u ON k 0) TP co)) : ∀ d n : Nat, k + d < m → d < n → wX_undo_7 post (nI nc) (nI rt) (nI m) sd (qa_A L) (qa_A R) (qa_A U) rk (qa_A SH) (qa_A LT) (qa_A TY) (qa_A CV) (qa_A ON) (qa_A TP) co n (nI (k + d)) := by
  have hON := hX.2.1.2.2 k
  have hm := hX.1.2
  have e0 : 0 = 1 - ON k := by omega
  rw [e0] at h
  intro d
  induction d with
  | zero =>
    intro n h3 h4
    obtain ⟨n, rfl⟩ : ∃ k, n = k + 1 := ⟨n - 1, by omega⟩
    have e1 : qa_A ON (nI (k + 0)).toNatClampNeg = nI (ON k) := qa_at (by omega)
    refine br_f (nI_pos (by omega)) ⟨vp_in_nI (by omega) (by omega), ?_⟩
    rw [e1]
    refine pk_eq (ON k) 0 (fun e => absurd e h1) (fun e => ?_)
    exact qr_tog hX hk (fun SH' CV' hX' => h SH' CV' hX')
  | succ d ih =>
    intro n h3 h4
    obtain ⟨n, rfl⟩ : ∃ k, n = k + 1 := ⟨n - 1, by omega⟩
    have e1 : qa_A ON (nI (k + (d + 1))).toNatClampNeg = nI (ON (k + (d + 1))) := qa_at (by omega)
    refine br_f (nI_pos (by omega)) ⟨vp_in_nI (by omega) (by omega), ?_⟩
    rw [e1, h2 (k + (d + 1)) (by omega) (by omega)]
    exact br_t rfl (nm_r (pk_m1 (k + d)) (ih n (by omega) (by omega)))
theorem qx_redoN {post : Int32 → SX → Prop} (hm : m ≤ 32) (h0 : ∀ j, j < m → ON j = 1) (h : post (-4) (qx_S cn rt m sd L R U rk SH LT TY CV ON TP co)) : ∀ d i n : Nat, i + d = m → d < n → wX_redo_2 post (nI cn) (nI rt) (nI m) sd (qa_A L) (qa_A R) (qa_A U) rk (qa_A SH) (qa_A LT) (qa_A TY) (qa_A CV) (qa_A ON) (qa_A TP) co n (nI i) := by
  intro d
  induction d with
  | zero =>
    intro i n h1 h2
    obtain ⟨n, rfl⟩ : ∃ k, n = k + 1 := ⟨n - 1, by omega⟩
    exact br_t (nI_le (by omega) (by omega)) h
  | succ d ih =>
    intro i n h1 h2
    obtain ⟨n, rfl⟩ : ∃ k, n = k + 1 := ⟨n - 1, by omega⟩
    have e1 : qa_A ON (nI i).toNatClampNeg = nI (ON i) := qa_at (by omega)
    refine br_f (nI_ge (by omega) (by omega)) ⟨vp_in_nI (by omega) (by omega), ?_⟩
    rw [e1, h0 i (by omega)]
    exact br_f (by decide) (nm_r (nI_1 i) (ih (i + 1) n (by omega) (by omega)))
theorem qx_redoK {post : Int32 → SX → Prop} {k : Nat} (hX : qr_X nc m rt L R U SH TY CV ON TP co lo hi pos od) (hk : k < m) (h1 : ON k = 0) (h2 : ∀ j, j < k → ON j = 1)
    (h : ∀ SH' CV' : Nat → Nat, qr_X nc m rt L R U SH' TY CV' (qa_u ON k 1) TP co lo hi pos od → post (nI k) (qx_S nc rt m sd L R U rk SH' LT TY CV' (qa_u ON k 1) TP co)) : ∀ d i n : Nat, i + d = k → d < n → wX_redo_2 post (nI nc) (nI rt) (nI m) sd (qa_A L) (qa_A R) (qa_A U) rk (qa_A SH) (qa_A LT) (qa_A TY) (qa_A CV) (qa_A ON) (qa_A TP) co n (nI i) := by
  have hm := hX.1.2
  have e0 : 1 = 1 - ON k := by omega
  rw [show qa_u ON k 1 = qa_u ON k (1 - ON k) by rw [← e0]] at h
  intro d
  induction d with
  | zero =>
    intro i n h3 h4
    obtain ⟨n, rfl⟩ : ∃ k, n = k + 1 := ⟨n - 1, by omega⟩
    have e : i = k := by omega
    subst e
    have e1 : qa_A ON (nI i).toNatClampNeg = nI (ON i) := qa_at (by omega)
    refine br_f (nI_ge (by omega) (by omega)) ⟨vp_in_nI (by omega) (by omega), ?_⟩
    rw [e1]
    refine pk_eq (ON i) 0 (fun e => ?_) (fun e => absurd h1 e)
    exact qr_tog hX hk (fun SH' CV' hX' => h SH' CV' hX')
  | succ d ih =>
    intro i n h3 h4
    obtain ⟨n, rfl⟩ : ∃ k, n = k + 1 := ⟨n - 1, by omega⟩
    have e1 : qa_A ON (nI i).toNatClampNeg = nI (ON i) := qa_at (by omega)
    refine br_f (nI_ge (by omega) (by omega)) ⟨vp_in_nI (by omega) (by omega), ?_⟩
    rw [e1, h2 i (by omega)]
    exact br_f (by decide) (nm_r (nI_1 i) (ih (i + 1) n (by omega) (by omega)))
theorem qx_flipL {post : Int32 → SX → Prop} {a b : Nat} (hb : b < m) (hm : m ≤ 32) (hON : ∀ j, ON j < 2)
    (h : ∀ SH' CV' : Nat → Nat, qr_X nc m rt L R U SH' TY CV' (qa_fl ON a (b + 1)) TP co lo hi pos od → post (nI (qa_fs ON a (b + 1))) (qx_S nc rt m sd L R U rk SH' LT TY CV' (qa_fl ON a (b + 1)) TP co)) :
    ∀ (d i n : Nat) (SH CV : Nat → Nat), i + d = b + 1 → a ≤ i → d < n → qr_X nc m rt L R U SH TY CV (qa_fl ON a i) TP co lo hi pos od → wX_flip_24 post (nI b) n (nI (qa_fs ON a i)) (nI i) (nI nc) (nI rt) (nI m) sd (qa_A L) (qa_A R) (qa_A U) rk (qa_A SH) (qa_A LT) (qa_A TY) (qa_A CV) (qa_A (qa_fl ON a i)) (qa_A TP) co := by
  intro d
  induction d with
  | zero =>
    intro i n SH CV h1 h2 h3 hX
    obtain ⟨n, rfl⟩ : ∃ k, n = k + 1 := ⟨n - 1, by omega⟩
    have e : i = b + 1 := by omega
    subst e
    exact br_t (nI_lt (by omega) (by omega)) (h SH CV hX)
  | succ d ih =>
    intro i n SH CV h1 h2 h3 hX
    obtain ⟨n, rfl⟩ : ∃ k, n = k + 1 := ⟨n - 1, by omega⟩
    have hi := hON i
    refine br_f (nI_nlt (by omega) (by omega)) ?_
    refine qr_tog hX (by omega) (fun SH' CV' hX' => ?_)
    rw [qa_fli, qa_flS ON h2] at hX'
    have ih' := ih (i + 1) n SH' CV' (by omega) (by omega) (by omega) hX'
    have e1 : qa_A (qa_fl ON a (i + 1)) (nI i).toNatClampNeg = nI (1 - ON i) := by
      rw [qa_at (by omega), ← qa_flS ON h2, qa_us]
    rw [qa_fsS ON h2] at ih'
    rw [qa_fli, qa_flS ON h2]
    dsimp only [qx_S]
    rw [e1]
    refine ⟨vp_in_nI (by omega) (by omega), pk_eq (1 - ON i) 0 (fun e => ?_) (fun e => ?_)⟩
    · rw [e] at ih'
      exact nm_r (nI_1 i) ih'
    · have e2 : 1 - ON i = 1 := by omega
      rw [e2] at ih'
      exact nm_r (nI_1 _) (nm_r (nI_1 i) ih')
end
section
variable {nl m : Nat} {LS YT YL : Nat → Nat} {yc : Nat → Int32} {ON : Nat → Nat}
theorem qy_put {post : Int32 → SY → Prop} {j t : Nat} {v2 : Int32} (hm : m ≤ 32) (hON : ∀ j, ON j < 2) (hj : j < m) (ht : v2 = 0 ∧ t = 0 ∨ v2 ≠ 0 ∧ t = 1) (h : post (nI (ON j)) (qy_S nl m LS YT YL yc (qa_u ON j t))) : wpY_put post (qy_S nl m LS YT YL yc ON) (nI j) v2 := by
  have hO := hON j
  have e1 : qa_A ON (nI j).toNatClampNeg = nI (ON j) := qa_at (by omega)
  have h24 : wY_put_24 post (nI j) v2 (nI (ON j)) (nI nl) (nI m) (qa_A LS) (qa_A YT) (qa_A YL) yc (qa_A ON) := by
    unfold wY_put_24
    have v0 : vp_nar .boolean 0 = nI 0 := rfl
    have v1 : vp_nar .boolean 1 = nI 1 := rfl
    rw [v0, v1, qa_st (f := ON) (x := j) (by omega), qa_st (f := ON) (x := j) (by omega)]
    rcases ht with ⟨a, b⟩ | ⟨a, b⟩
    · rw [b] at h; exact br_t a ⟨vp_in_nI (by omega) (by omega), nm_e h⟩
    · rw [b] at h; exact br_f a ⟨vp_in_nI (by omega) (by omega), nm_e h⟩
  unfold wpY_put
  dsimp only [qy_S]
  refine qy_ch1 hm hj (br_f (by decide) ⟨vp_in_nI (by omega) (by omega), ?_⟩)
  rw [e1]
  refine pk_eq (ON j) 0 (fun e => ?_) (fun e => ?_)
  · rw [e] at h24; exact h24
  · have e2 : ON j = 1 := by omega
    rw [e2] at h24; exact h24
theorem qy_undoN {post : Int32 → SY → Prop} (hm : m ≤ 32) (h0 : ∀ j, j < m → ON j = 0) (h : post (-4) (qy_S nl m LS YT YL yc ON)) : ∀ i n : Nat, i ≤ m → i < n → wY_undo_7 post (nI nl) (nI m) (qa_A LS) (qa_A YT) (qa_A YL) yc (qa_A ON) n (nI i - 1) := by
  intro i
  induction i with
  | zero =>
    intro n h1 h2
    obtain ⟨n, rfl⟩ : ∃ k, n = k + 1 := ⟨n - 1, by omega⟩
    exact br_t (by decide) h
  | succ i ih =>
    intro n h1 h2
    obtain ⟨n, rfl⟩ : ∃ k, n = k + 1 := ⟨n - 1, by omega⟩
    have e1 : qa_A ON (nI i).toNatClampNeg = nI (ON i) := qa_at (by omega)
    rw [nI_pred]
    refine br_f (nI_pos (by omega)) ⟨vp_in_nI (by omega) (by omega), ?_⟩
    rw [e1, h0 i (by omega)]
    exact br_t rfl (nm_r (Int32.sub_eq_add_neg _ _).symm (ih n (by omega) (by omega)))
theorem qy_undoK {post : Int32 → SY → Prop} {k : Nat} (hm : m ≤ 32) (hON : ∀ j, ON j < 2) (hk : k < m) (h1 : ON k ≠ 0) (h2 : ∀ j, k < j → j < m → ON j = 0) (h : post (nI k) (qy_S nl m LS YT YL yc (qa_u ON k 0))) : ∀ d n : Nat, k + d < m → d < n → wY_undo_7 post (nI nl) (nI m) (qa_A LS) (qa_A YT) (qa_A YL) yc (qa_A ON) n (nI (k + d)) := by
  have hO := hON k
  have v0 : vp_nar .boolean 0 = nI 0 := rfl
  intro d
  induction d with
  | zero =>
    intro n h3 h4
    obtain ⟨n, rfl⟩ : ∃ k, n = k + 1 := ⟨n - 1, by omega⟩
    have e1 : qa_A ON (nI (k + 0)).toNatClampNeg = nI (ON k) := qa_at (by omega)
    refine br_f (nI_pos (by omega)) ⟨vp_in_nI (by omega) (by omega), ?_⟩
    rw [e1, v0, qa_st (f := ON) (x := k + 0) (by omega)]
    exact pk_eq (ON k) 0 (fun e => absurd e h1) (fun e => ⟨vp_in_nI (by omega) (by omega), nm_e h⟩)
  | succ d ih =>
    intro n h3 h4
    obtain ⟨n, rfl⟩ : ∃ k, n = k + 1 := ⟨n - 1, by omega⟩
    have e1 : qa_A ON (nI (k + (d + 1))).toNatClampNeg = nI (ON (k + (d + 1))) := qa_at (by omega)
    refine br_f (nI_pos (by omega)) ⟨vp_in_nI (by omega) (by omega), ?_⟩
    rw [e1, h2 (k + (d + 1)) (by omega) (by omega)]
    exact br_t rfl (nm_r (pk_m1 (k + d)) (ih n (by omega) (by omega)))
theorem qy_redoN {post : Int32 → SY → Prop} (hm : m ≤ 32) (h0 : ∀ j, j < m → ON j = 1) (h : post (-4) (qy_S nl m LS YT YL yc ON)) : ∀ d i n : Nat, i + d = m → d < n → wY_redo_2 post (nI nl) (nI m) (qa_A LS) (qa_A YT) (qa_A YL) yc (qa_A ON) n (nI i) := by
  intro d
  induction d with
  | zero =>
    intro i n h1 h2
    obtain ⟨n, rfl⟩ : ∃ k, n = k + 1 := ⟨n - 1, by omega⟩
    exact br_t (nI_le (by omega) (by omega)) h
  | succ d ih =>
    intro i n h1 h2
    obtain ⟨n, rfl⟩ : ∃ k, n = k + 1 := ⟨n - 1, by omega⟩
    have e1 : qa_A ON (nI i).toNatClampNeg = nI (ON i) := qa_at (by omega)
    refine br_f (nI_ge (by omega) (by omega)) ⟨vp_in_nI (by omega) (by omega), ?_⟩
    rw [e1, h0 i (by omega)]
    exact br_f (by decide) (nm_r (nI_1 i) (ih (i + 1) n (by omega) (by omega)))
theorem qy_redoK {post : Int32 → SY → Prop} {k : Nat} (hm : m ≤ 32) (hk : k < m) (h1 : ON k = 0) (h2 : ∀ j, j < k → ON j = 1) (h : post (nI k) (qy_S nl m LS YT YL yc (qa_u ON k 1))) : ∀ d i n : Nat, i + d = k → d < n → wY_redo_2 post (nI nl) (nI m) (qa_A LS) (qa_A YT) (qa_A YL) yc (qa_A ON) n (nI i) := by
  have v1 : vp_nar .boolean 1 = nI 1 := rfl
  intro d
  induction d with
  | zero =>
    intro i n h3 h4
    obtain ⟨n, rfl⟩ : ∃ k, n = k + 1 := ⟨n - 1, by omega⟩
    have e : i = k := by omega
    subst e
    have e1 : qa_A ON (nI i).toNatClampNeg = nI (ON i) := qa_at (by omega)
    refine br_f (nI_ge (by omega) (by omega)) ⟨vp_in_nI (by omega) (by omega), ?_⟩
    rw [e1, v1, qa_st (f := ON) (x := i) (by omega)]
    exact pk_eq (ON i) 0 (fun e => ⟨vp_in_nI (by omega) (by omega), nm_e h⟩) (fun e => absurd h1 e)
  | succ d ih =>
    intro i n h3 h4
    obtain ⟨n, rfl⟩ : ∃ k, n = k + 1 := ⟨n - 1, by omega⟩
    have e1 : qa_A ON (nI i).toNatClampNeg = nI (ON i) := qa_at (by omega)
    refine br_f (nI_ge (by omega) (by omega)) ⟨vp_in_nI (by omega) (by omega), ?_⟩
    rw [e1, h2 i (by omega)]
    exact br_f (by decide) (nm_r (nI_1 i) (ih (i + 1) n (by omega) (by omega)))
theorem qy_flipL {post : Int32 → SY → Prop} {a b : Nat} (hb : b < m) (hm : m ≤ 32) (hON : ∀ j, ON j < 2) (h : post (nI (qa_fs ON a (b + 1))) (qy_S nl m LS YT YL yc (qa_fl ON a (b + 1)))) :
    ∀ d i n : Nat, i + d = b + 1 → a ≤ i → d < n → wY_flip_24 post (nI b) (nI nl) (nI m) n (nI (qa_fs ON a i)) (nI i) (qa_A LS) (qa_A YT) (qa_A YL) yc (qa_A (qa_fl ON a i)) := by
  intro d
  induction d with
  | zero =>
    intro i n h1 h2 h3
    obtain ⟨n, rfl⟩ : ∃ k, n = k + 1 := ⟨n - 1, by omega⟩
    have e : i = b + 1 := by omega
    subst e
    exact br_t (nI_lt (by omega) (by omega)) h
  | succ d ih =>
    intro i n h1 h2 h3
    obtain ⟨n, rfl⟩ : ∃ k, n = k + 1 := ⟨n - 1, by omega⟩
    have hi := hON i
    have ih' := ih (i + 1) n (by omega) (by omega) (by omega)
    rw [qa_fsS ON h2] at ih'
    have e0 : qa_A (qa_fl ON a i) (nI i).toNatClampNeg = nI (ON i) := by rw [qa_at (by omega), qa_fli]
    have e1 : qa_A (qa_fl ON a (i + 1)) (nI i).toNatClampNeg = nI (1 - ON i) := by
      rw [qa_at (by omega), ← qa_flS ON h2, qa_us]
    have h51 : wY_flip_51 post (wY_flip_24 post (nI b) (nI nl) (nI m) n) (nI b) (nI (qa_fs ON a i)) (nI i) (nI (1 - ON i)) (nI i) (nI nl) (nI m) (qa_A LS) (qa_A YT) (qa_A YL) yc (qa_A (qa_fl ON a i)) := by
      unfold wY_flip_51
      rw [qb_nar (by omega), qa_st (x := i) (by omega), qa_flS ON h2]
      refine ⟨vp_in_nI (by omega) (by omega), nm_e ⟨vp_in_nI (by omega) (by omega), ?_⟩⟩
      rw [e1]
      refine pk_eq (1 - ON i) 0 (fun e => ?_) (fun e => ?_)
      · rw [e] at ih'
        exact nm_r (nI_1 i) ih'
      · have e2 : 1 - ON i = 1 := by omega
        rw [e2] at ih'
        exact nm_r (nI_1 _) (nm_r (nI_1 i) ih')
    refine br_f (nI_nlt (by omega) (by omega)) ⟨vp_in_nI (by omega) (by omega), ?_⟩
    rw [e0]
    refine pk_eq (ON i) 0 (fun e => ?_) (fun e => ?_)
    · rw [e] at h51; exact h51
    · have e2 : ON i = 1 := by omega
      rw [e2] at h51; exact h51
end
end
section
/-! the relation of the two states, its opening; what both sides find -/
def i_Rel (k : Nat) (u : SX) (v : SY) : Prop :=
  ∃ (nc rt m : Nat) (sd : Int32) (L R U : Nat → Nat) (rk : Nat → Int32) (SH LT TY CV ON TP : Nat → Nat) (co : Nat → Int64) (lo hi pos od LS YT YL : Nat → Nat) (yc : Nat → Int32),
    u = (qx_S nc rt m sd L R U rk SH LT TY CV ON TP co) ∧ v = (qy_S nc m LS YT YL yc ON) ∧ qr_X nc m rt L R U SH TY CV ON TP co lo hi pos od ∧ qr_Y nc m LT TY TP co od LS YT YL yc
theorem i_up {k : Nat} {u : SX} {v : SY} (h : i_Rel k u v) : i_Rel (k + 3) u v := h
section
variable {cn nc rt m : Nat} {sd : Int32} {L R U : Nat → Nat} {rk : Nat → Int32} {SH LT TY CV ON TP : Nat → Nat} {co : Nat → Int64} {lo hi pos od P : Nat → Nat} {LS YT YL : Nat → Nat} {yc : Nat → Int32}
theorem qr_in {k : Nat} (hX : qr_X nc m rt L R U SH TY CV ON TP co lo hi pos od) (hY : qr_Y nc m LT TY TP co od LS YT YL yc) : i_Rel k (qx_S nc rt m sd L R U rk SH LT TY CV ON TP co) (qy_S nc m LS YT YL yc ON) :=
  ⟨nc, rt, m, sd, L, R, U, rk, SH, LT, TY, CV, ON, TP, co, lo, hi, pos, od, LS, YT, YL, yc, rfl, rfl, hX, hY⟩
theorem qr_el {P : SX → SY → Prop} {k : Nat} {u : SX} {v : SY} (I : i_Rel k u v)
    (h : ∀ (nc rt m : Nat) (sd : Int32) (L R U : Nat → Nat) (rk : Nat → Int32) (SH LT TY CV ON TP : Nat → Nat) (co : Nat → Int64) (lo hi pos od LS YT YL : Nat → Nat) (yc : Nat → Int32),
      qr_X nc m rt L R U SH TY CV ON TP co lo hi pos od → qr_Y nc m LT TY TP co od LS YT YL yc → P (qx_S nc rt m sd L R U rk SH LT TY CV ON TP co) (qy_S nc m LS YT YL yc ON)) : P u v :=
  Exists.elim I fun nc I => Exists.elim I fun rt I => Exists.elim I fun m I => Exists.elim I fun sd I => Exists.elim I fun L I => Exists.elim I fun R I => Exists.elim I fun U I =>
  Exists.elim I fun rk I => Exists.elim I fun SH I => Exists.elim I fun LT I => Exists.elim I fun TY I => Exists.elim I fun CV I => Exists.elim I fun ON I => Exists.elim I fun TP I =>
  Exists.elim I fun co I => Exists.elim I fun lo I => Exists.elim I fun hi I => Exists.elim I fun pos I => Exists.elim I fun od I => Exists.elim I fun LS I => Exists.elim I fun YT I =>
  Exists.elim I fun YL I => Exists.elim I fun yc I => by
    have hu := I.1
    have hv := I.2.1
    have hX := I.2.2.1
    have hY := I.2.2.2
    rw [hu, hv]
    exact h nc rt m sd L R U rk SH LT TY CV ON TP co lo hi pos od LS YT YL yc hX hY
theorem qr_f (hY : qr_Y nc m LT TY TP co od LS YT YL yc) {x : Nat} (x1 : 1 ≤ x) (x2 : x ≤ nc) {j : Nat} (hj : j < m) (ON : Nat → Nat) : qx_f co ON x j = qy_f yc ON (TY x) j := by
  unfold qx_f qy_f
  rw [hY.2.2.2.1 j hj x x1 x2]
theorem qr_w (hX : qr_X nc m rt L R U SH TY CV ON TP co lo hi pos od) (hY : qr_Y nc m LT TY TP co od LS YT YL yc) {x : Nat} (x1 : 1 ≤ x) (x2 : x ≤ nc) : qx_w TY CV ON x = qy_w yc ON m (TY x) := by
  obtain ⟨⟨hm1, hm2⟩, B, hTP, W, O, hTY, hT, hCV, hCF⟩ := hX
  unfold qx_w qy_w
  rw [if_neg (by omega), hCV x x1 x2, qa_sc m (fun j hj => qr_f hY x1 x2 hj ON)]
theorem qr_Q (hX : qr_X nc m rt L R U SH TY CV ON TP co lo hi pos od) (hY : qr_Y nc m LT TY TP co od LS YT YL yc) {i : Nat} (hi : i ≤ nc) : qy_Q yc ON m LS i = qt_P (qx_w TY CV ON) od i := by
  obtain ⟨y1, y2, y3, y4, y5, y6, y7, y8, y9⟩ := id hY
  refine qa_sc i (fun j hj => ?_)
  have oj := hX.2.2.2.2.1.2 j (by omega)
  show qy_w yc ON m (LS j) = qx_w TY CV ON (od j)
  rw [y8 j (by omega), qr_w hX hY oj.1 oj.2.1]
theorem qr_lx {post : Int32 → Prop} (hX : qr_X nc m rt L R U SH TY CV ON TP co lo hi pos od) (h : post (nI (qt_P (qx_w TY CV ON) od nc))) : wpX_textLength post (qx_S cn rt m sd L R U rk SH LT TY CV ON TP co) := by
  have := hX.1
  exact qx_len (by omega) hX.2.2.2.1 h
theorem qr_ly {post : Int32 → Prop} (hX : qr_X nc m rt L R U SH TY CV ON TP co lo hi pos od) (hY : qr_Y nc m LT TY TP co od LS YT YL yc) (h : post (nI (qt_P (qx_w TY CV ON) od nc))) : wpY_length post (qy_S nc m LS YT YL yc ON) := by
  have := hX.1
  refine qy_len hX.1.2 (by omega) hX.2.1.2.2 hY.1 ?_
  rw [qr_Q hX hY (Nat.le_refl _)]
  exact h
theorem qr_at (hX : qr_X nc m rt L R U SH TY CV ON TP co lo hi pos od) (hY : qr_Y nc m LT TY TP co od LS YT YL yc) {p : Nat} (hp : p < qt_P (qx_w TY CV ON) od nc) :
    ∃ x, (1 ≤ x ∧ x ≤ nc ∧ qx_w TY CV ON x = 1 ∧ qt_P (qx_w TY CV ON) od (pos x) = p) ∧ (∀ post : Int32 → Prop, post (nI x) → wpX_nodeAt post (qx_S cn rt m sd L R U rk SH LT TY CV ON TP co) (nI p)) ∧ (∀ post : Int32 → Prop, post (nI (TY x)) → wpY_charAt post (qy_S nc m LS YT YL yc ON) (nI p)) := by
  obtain ⟨⟨hm1, hm2⟩, B, hTP, W, O, hTY, hT, hCV, hCF⟩ := id hX
  obtain ⟨q, hq, hw, hs⟩ := qa_find (f := fun j => qx_w TY CV ON (od j)) (fun j => qx_w01 TY CV ON (od j)) nc hp
  have oq := O.2 q hq
  have hs' : qt_P (qx_w TY CV ON) od q = p := hs
  refine ⟨od q, ⟨oq.1, oq.2.1, hw, by rw [oq.2.2]; exact hs⟩, fun post h => ?_, fun post h => ?_⟩
  · have := qx_nodeAt (cn := cn) (m := m) (sd := sd) (rk := rk) (LT := LT) (TP := TP) (co := co) B (by omega) W O hq hw h
    rw [hs'] at this
    exact this
  · have hL : LS q = TY (od q) := hY.2.2.2.2.2.2.2.1 q hq
    have := qy_at (YT := YT) (YL := YL) (post := post) (LS := LS) (q := q) hm2 (show nc ≤ 32 by omega) B.2.2 hY.1 hq (yc := yc) (by rw [hL, ← qr_w hX hY oq.1 oq.2.1]; exact hw) (by rw [hL]; exact h)
    rw [qr_Q hX hY (by omega), hs'] at this
    exact this
theorem qr_no {post : Int32 → Prop} (hX : qr_X nc m rt L R U SH TY CV ON TP co lo hi pos od) (hY : qr_Y nc m LT TY TP co od LS YT YL yc) {p : Int32} (hp : p < 0 ∨ nI (qt_P (qx_w TY CV ON) od nc) ≤ p) (h : post (-4)) : wpY_charAt post (qy_S nc m LS YT YL yc ON) p := by
  have := hX.1
  refine qy_no hX.1.2 (by omega) hX.2.1.2.2 hY.1 ?_ h
  rw [qr_Q hX hY (Nat.le_refl _)]
  exact hp
theorem qr_pn (hX : qr_X nc m rt L R U SH TY CV ON TP co lo hi pos od) : qt_P (qx_w TY CV ON) od nc ≤ 32 := by
  have h1 := hX.1
  have h2 := qt_P1 (w := qx_w TY CV ON) (od := od) (qx_w01 TY CV ON) nc
  omega
end
end
section
/-! the owed rows of put, undo, redo, flip and the plain questions -/
theorem i_vc0 : wpX_init (fun u => wpY_init (fun v => i_Rel 0 u v)) := by
  show i_Rel 0 (qx_S 0 0 0 12345 (fun _ => 0) (fun _ => 0) (fun _ => 0) (fun _ => 0) (fun _ => 0) (fun _ => 0) (fun _ => 0) (fun _ => 0) (fun _ => 0) (fun _ => 0) (fun _ => 0)) (qy_S 0 0 (fun _ => 0) (fun _ => 0) (fun _ => 0) (fun _ => 0) (fun _ => 0))
  refine qr_in (lo := fun _ => 0) (hi := fun _ => 0) (pos := fun _ => 0) (od := fun _ => 0) ?_ ?_
  · refine ⟨⟨by omega, by omega⟩, ⟨fun _ => (by decide : (0 : Nat) < 32), fun _ => (by decide : (0 : Nat) < 64), fun _ => (by decide : (0 : Nat) < 2)⟩, fun _ => (by decide : (0 : Nat) < 49), ⟨⟨Or.inl ⟨rfl, rfl⟩, fun x h1 h2 => by omega⟩, fun z _ => ⟨rfl, rfl, rfl⟩, rfl, fun z h1 h2 => by omega⟩, ⟨fun x h1 h2 => by omega, fun i h => by omega⟩, fun x h1 h2 => by omega, fun k h => by omega, fun x h1 h2 => by omega, fun x _ => rfl⟩
  · exact ⟨fun _ => (by decide : (0 : Nat) < 32), fun k h => by omega, fun k h => by omega, fun k h => by omega, fun k h => by omega, fun k h => by omega, fun x h1 h2 => by omega, fun i h => by omega, fun f => rfl⟩
theorem i_vc_changes {k : Nat} {u : SX} {v : SY} (I : i_Rel k u v) (hk : k + 3 ≤ 1536) : wpX_changes (fun r => wpY_changes (fun r' => r' = r ∧ i_Rel (k + 3) u v) v) u := by
  refine qr_el (P := fun u v => wpX_changes (fun r => wpY_changes (fun r' => r' = r ∧ i_Rel (k + 3) u v) v) u) I ?_
  intro nc rt m sd L R U rk SH LT TY CV ON TP co lo hi pos od LS YT YL yc hX hY
  exact ⟨rfl, qr_in hX hY⟩
theorem i_vc_isOn {k : Nat} {u : SX} {v : SY} (I : i_Rel k u v) (hk : k + 3 ≤ 1536) (v1 : Int32) : wpX_isOn (fun r => wpY_isOn (fun r' => r' = r ∧ i_Rel (k + 3) u v) v v1) u v1 := by
  refine qr_el (P := fun u v => wpX_isOn (fun r => wpY_isOn (fun r' => r' = r ∧ i_Rel (k + 3) u v) v v1) u v1) I ?_
  intro nc rt m sd L R U rk SH LT TY CV ON TP co lo hi pos od LS YT YL yc hX hY
  have J : i_Rel (k + 3) (qx_S nc rt m sd L R U rk SH LT TY CV ON TP co) (qy_S nc m LS YT YL yc ON) := qr_in hX hY
  have hm := hX.1.2
  have hbad : (v1 < 0 ∨ nI m ≤ v1) → wpX_isOn (fun r => wpY_isOn (fun r' => r' = r ∧ i_Rel (k + 3) (qx_S nc rt m sd L R U rk SH LT TY CV ON TP co) (qy_S nc m LS YT YL yc ON)) (qy_S nc m LS YT YL yc ON) v1) (qx_S nc rt m sd L R U rk SH LT TY CV ON TP co) v1 := fun hb => by
    unfold wpX_isOn
    dsimp only [qx_S]
    refine qx_bad1 hb (br_f (by decide) ?_)
    unfold wpY_isOn
    dsimp only [qy_S]
    exact qy_ch0 hb (br_t rfl ⟨rfl, J⟩)
  rcases pk_ix v1 (show m < 2 ^ 31 by omega) with hb | hb | ⟨j, hj, rfl⟩
  · exact hbad (Or.inl hb)
  · exact hbad (Or.inr hb)
  · have hO := hX.2.1.2.2 j
    have e1 : qa_A ON (nI j).toNatClampNeg = nI (ON j) := qa_at (by omega)
    have hy : ∀ r : Int32, (ON j = 0 → r = 0) → (ON j ≠ 0 → r = 1) → wpY_isOn (fun r' => r' = r ∧ i_Rel (k + 3) (qx_S nc rt m sd L R U rk SH LT TY CV ON TP co) (qy_S nc m LS YT YL yc ON)) (qy_S nc m LS YT YL yc ON) (nI j) := fun r a b => by
      unfold wpY_isOn
      dsimp only [qy_S]
      refine qy_ch1 hm hj (br_f (by decide) ⟨vp_in_nI (by omega) (by omega), ?_⟩)
      rw [e1]
      exact pk_eq (ON j) 0 (fun e => ⟨(a e).symm, J⟩) (fun e => ⟨(b e).symm, J⟩)
    unfold wpX_isOn
    dsimp only [qx_S]
    refine qx_bad0 hm hj (br_t rfl ⟨vp_in_nI (by omega) (by omega), ?_⟩)
    rw [e1]
    exact pk_eq (ON j) 0 (fun e => hy 0 (fun _ => rfl) (fun z => absurd e z)) (fun e => hy 1 (fun z => absurd z e) (fun _ => rfl))
theorem i_vc_length {k : Nat} {u : SX} {v : SY} (I : i_Rel k u v) (hk : k + 3 ≤ 1536) : wpX_length (fun r => wpY_length (fun r' => r' = r ∧ i_Rel (k + 3) u v) v) u := by
  refine qr_el (P := fun u v => wpX_length (fun r => wpY_length (fun r' => r' = r ∧ i_Rel (k + 3) u v) v) u) I ?_
  intro nc rt m sd L R U rk SH LT TY CV ON TP co lo hi pos od LS YT YL yc hX hY
  unfold wpX_length
  dsimp only [qx_S]
  exact qr_lx hX (qr_ly hX hY ⟨rfl, qr_in hX hY⟩)
theorem i_vc_origin {k : Nat} {u : SX} {v : SY} (I : i_Rel k u v) (hk : k + 3 ≤ 1536) (v1 : Int32) : wpX_origin (fun r => wpY_origin (fun r' => r' = r ∧ i_Rel (k + 3) u v) v v1) u v1 := by
  refine qr_el (P := fun u v => wpX_origin (fun r => wpY_origin (fun r' => r' = r ∧ i_Rel (k + 3) u v) v v1) u v1) I ?_
  intro nc rt m sd L R U rk SH LT TY CV ON TP co lo hi pos od LS YT YL yc hX hY
  have J : i_Rel (k + 3) (qx_S nc rt m sd L R U rk SH LT TY CV ON TP co) (qy_S nc m LS YT YL yc ON) := qr_in hX hY
  have hm := hX.1
  have hpn := qr_pn hX
  have hno : (v1 < 0 ∨ nI (qt_P (qx_w TY CV ON) od nc) ≤ v1) → wpY_origin (fun r' => r' = -4 ∧ i_Rel (k + 3) (qx_S nc rt m sd L R U rk SH LT TY CV ON TP co) (qy_S nc m LS YT YL yc ON)) (qy_S nc m LS YT YL yc ON) v1 := fun hb => by
    unfold wpY_origin
    dsimp only [qy_S]
    exact qr_no hX hY hb ⟨rfl, J⟩
  unfold wpX_origin
  dsimp only [qx_S]
  rcases pk_ix v1 (show qt_P (qx_w TY CV ON) od nc < 2 ^ 31 by omega) with hb | hb | ⟨j, hj, rfl⟩
  · exact br_t hb (hno (Or.inl hb))
  · refine br_c (fun h => hno (Or.inl h)) (fun _ => qr_lx hX (br_f (Int32.not_lt.mpr hb) (hno (Or.inr hb))))
  · obtain ⟨x, ⟨x1, x2, _, _⟩, ax, ay⟩ := qr_at (cn := nc) (sd := sd) (rk := rk) hX hY hj
    have e1 : qa_A TY (nI x).toNatClampNeg = nI (TY x) := qa_at (by omega)
    refine br_f (nI_pos (by omega)) (qr_lx hX (br_t (nI_lt hj (by omega)) (ax _ ?_)))
    rw [e1]
    refine ⟨vp_in_nI (by omega) (by omega), ?_⟩
    unfold wpY_origin
    dsimp only [qy_S]
    exact ay _ ⟨rfl, J⟩
theorem i_vc_letter {k : Nat} {u : SX} {v : SY} (I : i_Rel k u v) (hk : k + 3 ≤ 1536) (v1 : Int32) : wpX_letter (fun r => wpY_letter (fun r' => r' = r ∧ i_Rel (k + 3) u v) v v1) u v1 := by
  refine qr_el (P := fun u v => wpX_letter (fun r => wpY_letter (fun r' => r' = r ∧ i_Rel (k + 3) u v) v v1) u v1) I ?_
  intro nc rt m sd L R U rk SH LT TY CV ON TP co lo hi pos od LS YT YL yc hX hY
  have J : i_Rel (k + 3) (qx_S nc rt m sd L R U rk SH LT TY CV ON TP co) (qy_S nc m LS YT YL yc ON) := qr_in hX hY
  have hm := hX.1
  have hpn := qr_pn hX
  have hno : (v1 < 0 ∨ nI (qt_P (qx_w TY CV ON) od nc) ≤ v1) → wpY_letter (fun r' => r' = -4 ∧ i_Rel (k + 3) (qx_S nc rt m sd L R U rk SH LT TY CV ON TP co) (qy_S nc m LS YT YL yc ON)) (qy_S nc m LS YT YL yc ON) v1 := fun hb => by
    unfold wpY_letter
    dsimp only [qy_S]
    exact qr_no hX hY hb (br_f (by decide) ⟨rfl, J⟩)
  unfold wpX_letter
  dsimp only [qx_S]
  rcases pk_ix v1 (show qt_P (qx_w TY CV ON) od nc < 2 ^ 31 by omega) with hb | hb | ⟨j, hj, rfl⟩
  · exact br_t hb (hno (Or.inl hb))
  · refine br_c (fun h => hno (Or.inl h)) (fun _ => qr_lx hX (br_f (Int32.not_lt.mpr hb) (hno (Or.inr hb))))
  · obtain ⟨x, ⟨x1, x2, _, _⟩, ax, ay⟩ := qr_at (cn := nc) (sd := sd) (rk := rk) hX hY hj
    have e1 : qa_A LT (nI x).toNatClampNeg = nI (LT x) := qa_at (by omega)
    have h32 := hX.2.1.1 x
    have e2 : qa_A YL (nI (TY x)).toNatClampNeg = nI (LT x) := by rw [qa_at (by omega), hY.2.2.2.2.2.2.1 x x1 x2]
    refine br_f (nI_pos (by omega)) (qr_lx hX (br_t (nI_lt hj (by omega)) (ax _ ?_)))
    rw [e1]
    refine ⟨vp_in_nI (by omega) (by omega), ?_⟩
    unfold wpY_letter
    dsimp only [qy_S]
    refine ay _ (br_t (nI_pos' (by omega)) ⟨vp_in_nI (by omega) (by omega), ?_⟩)
    rw [e2]
    exact ⟨rfl, J⟩
end
section
/-! the owed rows of put, undo, redo, flip -/
theorem i_vc_put {k : Nat} {u : SX} {v : SY} (I : i_Rel k u v) (hk : k + 3 ≤ 1536) (v1 : Int32) (v2 : Int32) : wpX_put (fun r u' => wpY_put (fun r' v' => r' = r ∧ i_Rel (k + 3) u' v') v v1 v2) u v1 v2 := by
  refine qr_el (P := fun u v => wpX_put (fun r u' => wpY_put (fun r' v' => r' = r ∧ i_Rel (k + 3) u' v') v v1 v2) u v1 v2) I ?_
  intro nc rt m sd L R U rk SH LT TY CV ON TP co lo hi pos od LS YT YL yc hX hY
  have hm := hX.1.2
  have hbad : (v1 < 0 ∨ nI m ≤ v1) → wpX_put (fun r u' => wpY_put (fun r' v' => r' = r ∧ i_Rel (k + 3) u' v') (qy_S nc m LS YT YL yc ON) v1 v2) (qx_S nc rt m sd L R U rk SH LT TY CV ON TP co) v1 v2 := fun hb => by
    unfold wpX_put
    dsimp only [qx_S]
    refine qx_bad1 hb (br_f (by decide) ?_)
    unfold wpY_put
    dsimp only [qy_S]
    exact qy_ch0 hb (br_t rfl ⟨rfl, qr_in hX hY⟩)
  rcases pk_ix v1 (show m < 2 ^ 31 by omega) with hb | hb | ⟨j, hj, rfl⟩
  · exact hbad (Or.inl hb)
  · exact hbad (Or.inr hb)
  · obtain ⟨t, ht⟩ : ∃ t, v2 = 0 ∧ t = 0 ∨ v2 ≠ 0 ∧ t = 1 := by
      by_cases e : v2 = 0
      · exact ⟨0, Or.inl ⟨e, rfl⟩⟩
      · exact ⟨1, Or.inr ⟨e, rfl⟩⟩
    exact qx_put hX hj ht (fun SH' CV' hX' => qy_put hm hX.2.1.2.2 hj ht ⟨rfl, qr_in hX' hY⟩)
theorem qa_last {ON : Nat → Nat} : ∀ m : Nat, (∀ j, j < m → ON j = 0) ∨ ∃ k, k < m ∧ ON k ≠ 0 ∧ ∀ j, k < j → j < m → ON j = 0 := by
  intro m
  induction m with
  | zero => exact Or.inl (fun j hj => absurd hj (Nat.not_lt_zero _))
  | succ m ih =>
    by_cases e : ON m = 0
    · rcases ih with h | ⟨k, h1, h2, h3⟩
      · refine Or.inl (fun j hj => ?_)
        by_cases c : j = m
        · rw [c]; exact e
        · exact h j (by omega)
      · refine Or.inr ⟨k, by omega, h2, fun j a b => ?_⟩
        by_cases c : j = m
        · rw [c]; exact e
        · exact h3 j a (by omega)
    · exact Or.inr ⟨m, by omega, e, fun j a b => by omega⟩
theorem qa_first {ON : Nat → Nat} (hON : ∀ j, ON j < 2) : ∀ m : Nat, (∀ j, j < m → ON j = 1) ∨ ∃ k, k < m ∧ ON k = 0 ∧ ∀ j, j < k → ON j = 1 := by
  intro m
  induction m with
  | zero => exact Or.inl (fun j hj => absurd hj (Nat.not_lt_zero _))
  | succ m ih =>
    rcases ih with h | ⟨k, h1, h2, h3⟩
    · by_cases e : ON m = 0
      · exact Or.inr ⟨m, by omega, e, h⟩
      · refine Or.inl (fun j hj => ?_)
        by_cases c : j = m
        · rw [c]; have := hON m; omega
        · exact h j (by omega)
    · exact Or.inr ⟨k, by omega, h2, h3⟩
theorem i_vc_undo {k : Nat} {u : SX} {v : SY} (I : i_Rel k u v) (hk : k + 3 ≤ 1536) : wpX_undo (fun r u' => wpY_undo (fun r' v' => r' = r ∧ i_Rel (k + 3) u' v') v) u := by
  refine qr_el (P := fun u v => wpX_undo (fun r u' => wpY_undo (fun r' v' => r' = r ∧ i_Rel (k + 3) u' v') v) u) I ?_
  intro nc rt m sd L R U rk SH LT TY CV ON TP co lo hi pos od LS YT YL yc hX hY
  have hm := hX.1.2
  rcases qa_last (ON := ON) m with h | ⟨j, h1, h2, h3⟩
  · refine nm_e ⟨m + 1, qx_undoN hm h ?_ m (m + 1) (Nat.le_refl _) (by omega)⟩
    exact nm_e ⟨m + 1, qy_undoN hm h ⟨rfl, qr_in hX hY⟩ m (m + 1) (Nat.le_refl _) (by omega)⟩
  · obtain ⟨d, hd⟩ : ∃ d, m = j + d + 1 := ⟨m - j - 1, by omega⟩
    have e : nI m - 1 = nI (j + d) := by rw [hd, nI_pred]
    refine nm_r e ⟨m + 1, qx_undoK hX h1 h2 h3 (fun SH' CV' hX' => ?_) d (m + 1) (by omega) (by omega)⟩
    exact nm_r e ⟨m + 1, qy_undoK hm hX.2.1.2.2 h1 h2 h3 ⟨rfl, qr_in hX' hY⟩ d (m + 1) (by omega) (by omega)⟩
theorem i_vc_redo {k : Nat} {u : SX} {v : SY} (I : i_Rel k u v) (hk : k + 3 ≤ 1536) : wpX_redo (fun r u' => wpY_redo (fun r' v' => r' = r ∧ i_Rel (k + 3) u' v') v) u := by
  refine qr_el (P := fun u v => wpX_redo (fun r u' => wpY_redo (fun r' v' => r' = r ∧ i_Rel (k + 3) u' v') v) u) I ?_
  intro nc rt m sd L R U rk SH LT TY CV ON TP co lo hi pos od LS YT YL yc hX hY
  have hm := hX.1.2
  rcases qa_first hX.2.1.2.2 m with h | ⟨j, h1, h2, h3⟩
  · refine ⟨m + 1, qx_redoN hm h ?_ m 0 (m + 1) (by omega) (by omega)⟩
    exact ⟨m + 1, qy_redoN hm h ⟨rfl, qr_in hX hY⟩ m 0 (m + 1) (by omega) (by omega)⟩
  · refine ⟨m + 1, qx_redoK hX h1 h2 h3 (fun SH' CV' hX' => ?_) j 0 (m + 1) (by omega) (by omega)⟩
    exact ⟨m + 1, qy_redoK hm h1 h2 h3 ⟨rfl, qr_in hX' hY⟩ j 0 (m + 1) (by omega) (by omega)⟩
theorem i_vc_flip {k : Nat} {u : SX} {v : SY} (I : i_Rel k u v) (hk : k + 3 ≤ 1536) (v1 : Int32) (v2 : Int32) : wpX_flip (fun r u' => wpY_flip (fun r' v' => r' = r ∧ i_Rel (k + 3) u' v') v v1 v2) u v1 v2 := by
  refine qr_el (P := fun u v => wpX_flip (fun r u' => wpY_flip (fun r' v' => r' = r ∧ i_Rel (k + 3) u' v') v v1 v2) u v1 v2) I ?_
  intro nc rt m sd L R U rk SH LT TY CV ON TP co lo hi pos od LS YT YL yc hX hY
  have hm := hX.1.2
  have J : i_Rel (k + 3) (qx_S nc rt m sd L R U rk SH LT TY CV ON TP co) (qy_S nc m LS YT YL yc ON) := qr_in hX hY
  unfold wpX_flip
  dsimp only [qx_S]
  refine br_c (fun h1 => br_t h1 ⟨rfl, J⟩) (fun h1 => br_c (fun h2 => br_f h1 (br_t h2 ⟨rfl, J⟩)) (fun h2 => ?_))
  obtain ⟨a, ha, rfl⟩ := nI_of h1
  rcases pk_ix v2 (show m < 2 ^ 31 by omega) with hb | hb | ⟨b, hb, rfl⟩
  · refine qx_bad1 (Or.inl hb) (br_f (by decide) (br_f h1 (br_f h2 (br_f (fun z => h2 ?_) ⟨rfl, J⟩))))
    exact Int32.lt_of_lt_of_le hb (nI_pos' ha)
  · exact qx_bad1 (Or.inr hb) (br_f (by decide) (br_f h1 (br_f h2 (br_f (Int32.not_lt.mpr hb) ⟨rfl, J⟩))))
  · rw [nI_ltI (by omega) ha] at h2
    have h2' : ¬ nI b < nI a := nI_nlt (by omega) (by omega)
    refine qx_bad0 hm hb (br_t rfl ?_)
    have hf := qx_flipL (post := fun r u' => wpY_flip (fun r' v' => r' = r ∧ i_Rel (k + 3) u' v') (qy_S nc m LS YT YL yc ON) (nI a) (nI b)) (sd := sd) (rk := rk) (LT := LT) (nc := nc) (rt := rt) (L := L) (R := R) (U := U) (TY := TY) (TP := TP) (co := co) (lo := lo) (hi := hi) (pos := pos) (od := od) (a := a) (b := b) hb hm hX.2.1.2.2 (fun SH' CV' hX' => ?_) (b + 1 - a) a (b + 2 - a) SH CV (by omega) (Nat.le_refl _) (by omega) (by rw [qa_fl0]; exact hX)
    · rw [qa_fs0, qa_fl0] at hf
      exact ⟨b + 2 - a, hf⟩
    · refine br_f h1 (br_f h2' (br_t (nI_lt hb (by omega)) ?_))
      have hf := qy_flipL (post := fun r' v' => r' = nI (qa_fs ON a (b + 1)) ∧ i_Rel (k + 3) (qx_S nc rt m sd L R U rk SH' LT TY CV' (qa_fl ON a (b + 1)) TP co) v') (nl := nc) (LS := LS) (YT := YT) (YL := YL) (yc := yc) (a := a) (b := b) hb hm hX.2.1.2.2 ⟨rfl, qr_in hX' hY⟩ (b + 1 - a) a (b + 2 - a) (by omega) (Nat.le_refl _) (by omega)
      rw [qa_fs0, qa_fl0] at hf
      exact ⟨b + 2 - a, hf⟩
end
section
/-! where, covers, coveredBy, digest -/
section
variable {cn nc rt m : Nat} {sd : Int32} {L R U : Nat → Nat} {rk : Nat → Int32} {SH LT TY CV ON TP : Nat → Nat} {co : Nat → Int64} {lo hi pos od P : Nat → Nat} {LS YT YL : Nat → Nat} {yc : Nat → Int32}
theorem qr_one (hX : qr_X nc m rt L R U SH TY CV ON TP co lo hi pos od) {x y : Nat} (x1 : 1 ≤ x) (x2 : x ≤ nc) (y1 : 1 ≤ y) (y2 : y ≤ nc) (hx : qx_w TY CV ON x = 1) (hy : qx_w TY CV ON y = 1)
    (h : qt_P (qx_w TY CV ON) od (pos x) = qt_P (qx_w TY CV ON) od (pos y)) : x = y := by
  have O := hX.2.2.2.2.1
  have ox := O.1 x x1 x2
  have oy := O.1 y y1 y2
  rcases Nat.lt_trichotomy (pos x) (pos y) with c | c | c
  · have := qt_Plt (w := qx_w TY CV ON) (od := od) c
    rw [ox.2, hx] at this
    omega
  · exact qt_inj O x1 x2 y1 y2 c
  · have := qt_Plt (w := qx_w TY CV ON) (od := od) c
    rw [oy.2, hy] at this
    omega
theorem qy_whereN {post : Int32 → Prop} {v : Int32} (hX : qr_X nc m rt L R U SH TY CV ON TP co lo hi pos od) (hY : qr_Y nc m LT TY TP co od LS YT YL yc)
    (hn : ∀ x, 1 ≤ x → x ≤ nc → qx_w TY CV ON x = 1 → nI (TY x) ≠ v) (h : post (-4)) : ∀ d p n : Nat, p + d = 32 → d < n → wY_where_2 post v (nI nc) (nI m) (qa_A LS) (qa_A YT) (qa_A YL) yc (qa_A ON) n (nI p) := by
  have hpn := qr_pn hX
  intro d
  induction d with
  | zero =>
    intro p n h1 h2
    obtain ⟨n, rfl⟩ : ∃ k, n = k + 1 := ⟨n - 1, by omega⟩
    exact pk_le 32 p (fun _ => h) (fun e => absurd e (by omega))
  | succ d ih =>
    intro p n h1 h2
    obtain ⟨n, rfl⟩ : ∃ k, n = k + 1 := ⟨n - 1, by omega⟩
    have ih' := ih (p + 1) n (by omega) (by omega)
    refine pk_le 32 p (fun e => absurd e (by omega)) (fun e => ?_)
    by_cases c : p < qt_P (qx_w TY CV ON) od nc
    · obtain ⟨x, ⟨x1, x2, xw, _⟩, _, ay⟩ := qr_at (cn := nc) (sd := 0) (rk := fun _ => 0) hX hY c
      exact ay _ (br_f (hn x x1 x2 xw) (nm_r (nI_1 p) ih'))
    · refine qr_no hX hY (Or.inr (nI_le (by omega) (by omega))) ?_
      exact br_c (fun _ => br_t (by decide) (nm_r (nI_1 p) ih')) (fun _ => nm_r (nI_1 p) ih')
theorem qy_whereK {post : Int32 → Prop} {y : Nat} (hX : qr_X nc m rt L R U SH TY CV ON TP co lo hi pos od) (hY : qr_Y nc m LT TY TP co od LS YT YL yc)
    (y1 : 1 ≤ y) (y2 : y ≤ nc) (hw : qx_w TY CV ON y = 1) (h : post (nI (qt_P (qx_w TY CV ON) od (pos y)))) : ∀ d p n : Nat, p + d = qt_P (qx_w TY CV ON) od (pos y) → d < n → wY_where_2 post (nI (TY y)) (nI nc) (nI m) (qa_A LS) (qa_A YT) (qa_A YL) yc (qa_A ON) n (nI p) := by
  have hpn := qr_pn hX
  have hTY := hX.2.2.2.2.2.1
  have hb := hX.2.1.1
  have oy := hX.2.2.2.2.1.1 y y1 y2
  have hlt : qt_P (qx_w TY CV ON) od (pos y) < qt_P (qx_w TY CV ON) od nc := by
    have := qt_Plt (w := qx_w TY CV ON) (od := od) oy.1
    rw [oy.2, hw] at this
    omega
  intro d
  induction d with
  | zero =>
    intro p n h1 h2
    obtain ⟨n, rfl⟩ : ∃ k, n = k + 1 := ⟨n - 1, by omega⟩
    have hp : p = qt_P (qx_w TY CV ON) od (pos y) := by omega
    refine pk_le 32 p (fun e => absurd e (by omega)) (fun e => ?_)
    obtain ⟨x, ⟨x1, x2, xw, xp⟩, _, ay⟩ := qr_at (cn := nc) (sd := 0) (rk := fun _ => 0) hX hY (p := p) (by omega)
    have exy : x = y := qr_one hX x1 x2 y1 y2 xw hw (by omega)
    subst exy
    have hbx := hb x
    refine ay _ (br_t rfl (br_f (nI_pos (by omega)) ?_))
    rw [hp]
    exact h
  | succ d ih =>
    intro p n h1 h2
    obtain ⟨n, rfl⟩ : ∃ k, n = k + 1 := ⟨n - 1, by omega⟩
    have ih' := ih (p + 1) n (by omega) (by omega)
    refine pk_le 32 p (fun e => absurd e (by omega)) (fun e => ?_)
    obtain ⟨x, ⟨x1, x2, xw, xp⟩, _, ay⟩ := qr_at (cn := nc) (sd := 0) (rk := fun _ => 0) hX hY (p := p) (by omega)
    have hbx := hb x
    have hby := hb y
    refine ay _ (pk_eq (TY x) (TY y) (fun e => ?_) (fun e => nm_r (nI_1 p) ih'))
    have : x = y := by rw [← (hTY x x1 x2).2, ← (hTY y y1 y2).2, e]
    rw [this] at xp
    omega
theorem qx_coversL {post : Int32 → Prop} {k : Nat} (hk : k < 32) (h : post (nI (qb_px (co k)))) : ∀ d i n : Nat, i + d = 48 → d < n → wX_covers_14 post (nI k) (nI cn) (nI rt) (nI m) sd (qa_A L) (qa_A R) (qa_A U) rk (qa_A SH) (qa_A LT) (qa_A TY) (qa_A CV) (qa_A ON) (qa_A TP) co n (nI (qa_s (fun i => if qb_x (co k) i = true then 1 else 0) i)) (nI i) := by
  have e1 : co (nI k).toNatClampNeg = co k := by rw [nI_clamp (by omega)]
  intro d
  induction d with
  | zero =>
    intro i n h1 h2
    obtain ⟨n, rfl⟩ : ∃ k, n = k + 1 := ⟨n - 1, by omega⟩
    have e : i = 48 := by omega
    subst e
    exact pk_le 48 48 (fun _ => h) (fun e => absurd e (by omega))
  | succ d ih =>
    intro i n h1 h2
    obtain ⟨n, rfl⟩ : ∃ k, n = k + 1 := ⟨n - 1, by omega⟩
    have ih' := ih (i + 1) n (by omega) (by omega)
    rw [qa_sS] at ih'
    refine pk_le 48 i (fun e => absurd e (by omega)) (fun e => ⟨vp_in_nI hk (by omega), ?_⟩)
    rw [e1]
    refine ek_if (qb_xt (co k) (show i < 64 by omega)) (fun b => ?_) (fun b => ?_)
    · rw [if_pos b] at ih'
      exact nm_r (nI_1 _) (nm_r (nI_1 i) ih')
    · rw [if_neg b] at ih'
      exact nm_r (nI_1 i) ih'
end
section
variable {nl m : Nat} {LS YT YL : Nat → Nat} {yc : Nat → Int32} {ON : Nat → Nat}
theorem qy_coversL {post : Int32 → Prop} {k : Nat} (hk : k < 32) (h : post (nI (qb_py (yc k)))) : ∀ d i n : Nat, i + d = 32 → d < n → wY_covers_14 post (nI k) (nI nl) (nI m) (qa_A LS) (qa_A YT) (qa_A YL) yc (qa_A ON) n (nI (qa_s (fun i => if bt (yc k) i = true then 1 else 0) i)) (nI i) := by
  have e1 : yc (nI k).toNatClampNeg = yc k := by rw [nI_clamp (by omega)]
  intro d
  induction d with
  | zero =>
    intro i n h1 h2
    obtain ⟨n, rfl⟩ : ∃ k, n = k + 1 := ⟨n - 1, by omega⟩
    have e : i = 32 := by omega
    subst e
    exact pk_le 32 32 (fun _ => h) (fun e => absurd e (by omega))
  | succ d ih =>
    intro i n h1 h2
    obtain ⟨n, rfl⟩ : ∃ k, n = k + 1 := ⟨n - 1, by omega⟩
    have ih' := ih (i + 1) n (by omega) (by omega)
    rw [qa_sS] at ih'
    refine pk_le 32 i (fun e => absurd e (by omega)) (fun e => ⟨vp_in_nI hk (by omega), ?_⟩)
    rw [e1, qb_yv (yc k) (show i < 32 by omega)]
    exact nm_r (nI_add _ _) (nm_r (nI_1 i) ih')
end
theorem i_vc_where {k : Nat} {u : SX} {v : SY} (I : i_Rel k u v) (hk : k + 3 ≤ 1536) (v1 : Int32) : wpX_where (fun r => wpY_where (fun r' => r' = r ∧ i_Rel (k + 3) u v) v v1) u v1 := by
  refine qr_el (P := fun u v => wpX_where (fun r => wpY_where (fun r' => r' = r ∧ i_Rel (k + 3) u v) v v1) u v1) I ?_
  intro nc rt m sd L R U rk SH LT TY CV ON TP co lo hi pos od LS YT YL yc hX hY
  have J : i_Rel (k + 3) (qx_S nc rt m sd L R U rk SH LT TY CV ON TP co) (qy_S nc m LS YT YL yc ON) := qr_in hX hY
  obtain ⟨⟨hm1, hm2⟩, B, hTP, W, O, hTY, hT, hCV, hCF⟩ := id hX
  have hyn : (∀ x, 1 ≤ x → x ≤ nc → qx_w TY CV ON x = 1 → nI (TY x) ≠ v1) → wpY_where (fun r' => r' = -4 ∧ i_Rel (k + 3) (qx_S nc rt m sd L R U rk SH LT TY CV ON TP co) (qy_S nc m LS YT YL yc ON)) (qy_S nc m LS YT YL yc ON) v1 := fun hn =>
    ⟨33, qy_whereN hX hY hn ⟨rfl, J⟩ 32 0 33 (by omega) (by omega)⟩
  have hbad : (v1 < 0 ∨ nI m ≤ v1) → ∀ x, 1 ≤ x → x ≤ nc → qx_w TY CV ON x = 1 → nI (TY x) ≠ v1 := fun hb x x1 x2 _ e => by
    have h1 := (hTY x x1 x2).1
    rcases hb with hb | hb
    · rw [← e] at hb
      exact nI_pos (by omega) hb
    · rw [← e, nI_leI (by omega) (by omega)] at hb
      omega
  unfold wpX_where
  dsimp only [qx_S]
  rcases pk_ix v1 (show m < 2 ^ 31 by omega) with hb | hb | ⟨j, hj, rfl⟩
  · exact qx_bad1 (Or.inl hb) (br_f (by decide) (hyn (hbad (Or.inl hb))))
  · exact qx_bad1 (Or.inr hb) (br_f (by decide) (hyn (hbad (Or.inr hb))))
  · have hTj := hTP j
    have e1 : qa_A TP (nI j).toNatClampNeg = nI (TP j) := qa_at (by omega)
    have hinj : ∀ x, 1 ≤ x → x ≤ nc → nI (TY x) = nI j → x = TP j := fun x x1 x2 e => by
      have h1 := hTY x x1 x2
      rw [nI_eq (by omega) (by omega)] at e
      rw [← e]; exact h1.2.symm
    refine qx_bad0 hm2 hj (br_t rfl ⟨vp_in_nI (by omega) (by omega), ?_⟩)
    rw [e1]
    refine pk_eq (TP j) 0 (fun e => hyn (fun x x1 x2 _ ex => ?_)) (fun e => ⟨vp_in_nI (by omega) (by omega), ?_⟩)
    · have := hinj x x1 x2 ex
      omega
    · obtain ⟨t1, t2, t3⟩ := hT j hj e
      have hw01 := qx_w01 TY CV ON (TP j)
      refine qx_shown B (by omega) (pk_eq (qx_w TY CV ON (TP j)) 0 (fun hw => hyn (fun x x1 x2 xw ex => ?_)) (fun hw => ⟨vp_in_nI (by omega) (by omega), ?_⟩))
      · rw [hinj x x1 x2 ex] at xw
        omega
      · refine qx_placeOf B (by omega) W O (by omega) t1 ?_
        have hwk := qy_whereK (post := fun r' => r' = nI (qt_P (qx_w TY CV ON) od (pos (TP j))) ∧ i_Rel (k + 3) (qx_S nc rt m sd L R U rk SH LT TY CV ON TP co) (qy_S nc m LS YT YL yc ON)) hX hY (y := TP j) (by omega) t1 (by omega) ⟨rfl, J⟩ _ 0 (qt_P (qx_w TY CV ON) od (pos (TP j)) + 1) (Nat.zero_add _) (by omega)
        rw [t2] at hwk
        exact ⟨_, hwk⟩
theorem i_vc_covers {k : Nat} {u : SX} {v : SY} (I : i_Rel k u v) (hk : k + 3 ≤ 1536) (v1 : Int32) : wpX_covers (fun r => wpY_covers (fun r' => r' = r ∧ i_Rel (k + 3) u v) v v1) u v1 := by
  refine qr_el (P := fun u v => wpX_covers (fun r => wpY_covers (fun r' => r' = r ∧ i_Rel (k + 3) u v) v v1) u v1) I ?_
  intro nc rt m sd L R U rk SH LT TY CV ON TP co lo hi pos od LS YT YL yc hX hY
  have J : i_Rel (k + 3) (qx_S nc rt m sd L R U rk SH LT TY CV ON TP co) (qy_S nc m LS YT YL yc ON) := qr_in hX hY
  have hm := hX.1.2
  have hbad : (v1 < 0 ∨ nI m ≤ v1) → wpX_covers (fun r => wpY_covers (fun r' => r' = r ∧ i_Rel (k + 3) (qx_S nc rt m sd L R U rk SH LT TY CV ON TP co) (qy_S nc m LS YT YL yc ON)) (qy_S nc m LS YT YL yc ON) v1) (qx_S nc rt m sd L R U rk SH LT TY CV ON TP co) v1 := fun hb => by
    unfold wpX_covers
    dsimp only [qx_S]
    refine qx_bad1 hb (br_f (by decide) ?_)
    unfold wpY_covers
    dsimp only [qy_S]
    exact qy_ch0 hb (br_t rfl ⟨rfl, J⟩)
  rcases pk_ix v1 (show m < 2 ^ 31 by omega) with hb | hb | ⟨j, hj, rfl⟩
  · exact hbad (Or.inl hb)
  · exact hbad (Or.inr hb)
  · unfold wpX_covers
    dsimp only [qx_S]
    refine qx_bad0 hm hj (br_t rfl ⟨49, qx_coversL (by omega) ?_ 48 0 49 (by omega) (by omega)⟩)
    unfold wpY_covers
    dsimp only [qy_S]
    refine qy_ch1 hm hj (br_f (by decide) ⟨33, qy_coversL (by omega) ?_ 32 0 33 (by omega) (by omega)⟩)
    refine ⟨?_, J⟩
    rw [hY.2.2.2.2.1 j hj]
theorem i_vc_coveredBy {k : Nat} {u : SX} {v : SY} (I : i_Rel k u v) (hk : k + 3 ≤ 1536) (v1 : Int32) : wpX_coveredBy (fun r => wpY_coveredBy (fun r' => r' = r ∧ i_Rel (k + 3) u v) v v1) u v1 := by
  refine qr_el (P := fun u v => wpX_coveredBy (fun r => wpY_coveredBy (fun r' => r' = r ∧ i_Rel (k + 3) u v) v v1) u v1) I ?_
  intro nc rt m sd L R U rk SH LT TY CV ON TP co lo hi pos od LS YT YL yc hX hY
  have J : i_Rel (k + 3) (qx_S nc rt m sd L R U rk SH LT TY CV ON TP co) (qy_S nc m LS YT YL yc ON) := qr_in hX hY
  obtain ⟨⟨hm1, hm2⟩, B, hTP, W, O, hTY, hT, hCV, hCF⟩ := id hX
  have hbad : (v1 < 0 ∨ nI m ≤ v1) → wpX_coveredBy (fun r => wpY_coveredBy (fun r' => r' = r ∧ i_Rel (k + 3) (qx_S nc rt m sd L R U rk SH LT TY CV ON TP co) (qy_S nc m LS YT YL yc ON)) (qy_S nc m LS YT YL yc ON) v1) (qx_S nc rt m sd L R U rk SH LT TY CV ON TP co) v1 := fun hb => by
    unfold wpX_coveredBy
    dsimp only [qx_S]
    refine qx_bad1 hb (br_f (by decide) ?_)
    unfold wpY_coveredBy
    dsimp only [qy_S]
    exact qy_ch0 hb (br_t rfl ⟨rfl, J⟩)
  rcases pk_ix v1 (show m < 2 ^ 31 by omega) with hb | hb | ⟨j, hj, rfl⟩
  · exact hbad (Or.inl hb)
  · exact hbad (Or.inr hb)
  · have hTj := hTP j
    have e1 : qa_A TP (nI j).toNatClampNeg = nI (TP j) := qa_at (by omega)
    have e2 : qa_A CV (nI (TP j)).toNatClampNeg = nI (CV (TP j)) := qa_at (by omega)
    have e3 : qa_A YT (nI j).toNatClampNeg = nI (if TP j = 0 then 0 else 1) := by rw [qa_at (by omega), hY.2.2.2.2.2.1 j hj]
    unfold wpX_coveredBy
    dsimp only [qx_S]
    refine qx_bad0 hm2 hj (br_t rfl ⟨vp_in_nI (by omega) (by omega), ?_⟩)
    rw [e1, e2]
    refine pk_eq (TP j) 0 (fun e => ?_) (fun e => ⟨vp_in_nI (by omega) (by omega), vp_in_nI (by omega) (by omega), ?_⟩)
    · rw [if_pos e] at e3
      unfold wpY_coveredBy
      dsimp only [qy_S]
      refine qy_ch1 hm2 hj (br_f (by decide) ⟨vp_in_nI (by omega) (by omega), ?_⟩)
      rw [e3]
      exact br_t rfl ⟨rfl, J⟩
    · obtain ⟨t1, t2, t3⟩ := hT j hj e
      rw [if_neg e] at e3
      unfold wpY_coveredBy
      dsimp only [qy_S]
      refine qy_ch1 hm2 hj (br_f (by decide) ⟨vp_in_nI (by omega) (by omega), ?_⟩)
      rw [e3]
      refine br_f (by decide) (qy_cov hm2 (by omega) B.2.2 ⟨?_, J⟩)
      rw [hCV (TP j) (by omega) t1, qa_sc m (fun i hi => qr_f hY (show 1 ≤ TP j by omega) t1 hi ON), t2]
section
variable {cn nc rt m : Nat} {sd : Int32} {L R U : Nat → Nat} {rk : Nat → Int32} {SH LT TY CV ON TP : Nat → Nat} {co : Nat → Int64} {lo hi pos od P : Nat → Nat} {LS YT YL : Nat → Nat} {yc : Nat → Int32}
theorem qy_digT {post : Int32 → Prop} {s : Int32} (hX : qr_X nc m rt L R U SH TY CV ON TP co lo hi pos od) (hY : qr_Y nc m LT TY TP co od LS YT YL yc) (h : post s) :
    ∀ d p n : Nat, p + d = 32 → qt_P (qx_w TY CV ON) od nc ≤ p → d < n → wY_digest_4 post (nI nc) (nI m) (qa_A LS) (qa_A YT) (qa_A YL) yc (qa_A ON) n s (nI p) := by
  intro d
  induction d with
  | zero =>
    intro p n h1 h2 h3
    obtain ⟨n, rfl⟩ : ∃ k, n = k + 1 := ⟨n - 1, by omega⟩
    exact pk_le 32 p (fun _ => h) (fun e => absurd e (by omega))
  | succ d ih =>
    intro p n h1 h2 h3
    obtain ⟨n, rfl⟩ : ∃ k, n = k + 1 := ⟨n - 1, by omega⟩
    refine pk_le 32 p (fun e => absurd e (by omega)) (fun e => qr_no hX hY (Or.inr (nI_le h2 (by omega))) ?_)
    exact br_f (by decide) (nm_r (nI_1 p) (ih (p + 1) n (by omega) (by omega) (by omega)))
theorem qr_dig (hX : qr_X nc m rt L R U SH TY CV ON TP co lo hi pos od) (hY : qr_Y nc m LT TY TP co od LS YT YL yc) :
    ∀ (d p : Nat) (s : Int32), p + d = qt_P (qx_w TY CV ON) od nc → ∃ r : Int32, (∀ (post : Int32 → Prop) (n : Nat), d < n → post r → wX_digest_9 post (nI (qt_P (qx_w TY CV ON) od nc)) (nI cn) (nI rt) (nI m) sd (qa_A L) (qa_A R) (qa_A U) rk (qa_A SH) (qa_A LT) (qa_A TY) (qa_A CV) (qa_A ON) (qa_A TP) co n s (nI p)) ∧ (∀ (post : Int32 → Prop) (n : Nat), d + 32 < n → post r → wY_digest_4 post (nI nc) (nI m) (qa_A LS) (qa_A YT) (qa_A YL) yc (qa_A ON) n s (nI p)) := by
  have hpn := qr_pn hX
  have hm := hX.1
  intro d
  induction d with
  | zero =>
    intro p s h1
    refine ⟨s, fun post n hn h => ?_, fun post n hn h => ?_⟩
    · obtain ⟨n, rfl⟩ : ∃ k, n = k + 1 := ⟨n - 1, by omega⟩
      exact pk_le (qt_P (qx_w TY CV ON) od nc) p (fun _ => h) (fun e => absurd e (by omega))
    · exact qy_digT hX hY h (32 - p) p n (by omega) (by omega) (by omega)
  | succ d ih =>
    intro p s h1
    obtain ⟨x, ⟨x1, x2, xw, xp⟩, ax, ay⟩ := qr_at (cn := cn) (sd := sd) (rk := rk) hX hY (p := p) (by omega)
    obtain ⟨r, rx, ry⟩ := ih (p + 1) (s + ((nI p + 1) * (nI (LT x) + 1))) (by omega)
    have h32 := hX.2.1.1 x
    have e1 : qa_A LT (nI x).toNatClampNeg = nI (LT x) := qa_at (by omega)
    have e2 : qa_A YL (nI (TY x)).toNatClampNeg = nI (LT x) := by rw [qa_at (by omega), hY.2.2.2.2.2.2.1 x x1 x2]
    refine ⟨r, fun post n hn h => ?_, fun post n hn h => ?_⟩
    · obtain ⟨n, rfl⟩ : ∃ k, n = k + 1 := ⟨n - 1, by omega⟩
      refine pk_le (qt_P (qx_w TY CV ON) od nc) p (fun e => absurd e (by omega)) (fun _ => ax _ ⟨vp_in_nI (by omega) (by omega), ?_⟩)
      rw [e1]
      exact nm_e (nm_r (nI_1 p) (rx post n (by omega) h))
    · obtain ⟨n, rfl⟩ : ∃ k, n = k + 1 := ⟨n - 1, by omega⟩
      refine pk_le 32 p (fun e => absurd e (by omega)) (fun _ => ay _ (br_t (nI_pos' (by omega)) ⟨vp_in_nI (by omega) (by omega), ?_⟩))
      rw [e2]
      exact nm_e (nm_r (nI_1 p) (ry post n (by omega) h))
end
theorem i_vc_digest {k : Nat} {u : SX} {v : SY} (I : i_Rel k u v) (hk : k + 3 ≤ 1536) : wpX_digest (fun r => wpY_digest (fun r' => r' = r ∧ i_Rel (k + 3) u v) v) u := by
  refine qr_el (P := fun u v => wpX_digest (fun r => wpY_digest (fun r' => r' = r ∧ i_Rel (k + 3) u v) v) u) I ?_
  intro nc rt m sd L R U rk SH LT TY CV ON TP co lo hi pos od LS YT YL yc hX hY
  obtain ⟨r, rx, ry⟩ := qr_dig (cn := nc) (sd := sd) (rk := rk) hX hY (qt_P (qx_w TY CV ON) od nc) 0 0 (by omega)
  unfold wpX_digest
  dsimp only [qx_S]
  refine qr_lx hX ⟨_, rx _ (qt_P (qx_w TY CV ON) od nc + 1) (by omega) ?_⟩
  exact ⟨_, ry _ (qt_P (qx_w TY CV ON) od nc + 33) (by omega) ⟨rfl, qr_in hX hY⟩⟩
end
section
/-! effect -/
theorem qn_sub1 {a b c : Nat} (h : a = b + c) : nI a - nI b = nI c := by
  rw [h, pk_sub (by omega)]
  exact congrArg nI (by omega)
theorem qn_sub2 {a b c : Nat} (h : b = a + c) : nI a - nI b = -nI c := by
  rw [h, ← nI_add]
  grind
def qx_ef (co : Nat → Int64) (TY CV ON : Nat → Nat) (j t : Nat) (x : Nat) : Nat := if qb_x (co j) (x - 1) = true then (if ON (TY x) = 0 then 0 else if CV x = t then 1 else 0) else 0
theorem qy_fu {yc : Nat → Int32} {ON : Nat → Nat} {c k v : Nat} {m : Nat} (hk : k < m) : qa_s (qy_f yc (qa_u ON k v) c) m + qy_f yc ON c k = qa_s (qy_f yc ON c) m + qy_f yc (qa_u ON k v) c k := by
  refine (qa_one (f := qy_f yc ON c) (g := qy_f yc (qa_u ON k v) c) (q := k) m (fun j _ hj => ?_)).2 hk
  unfold qy_f
  rw [qa_un hj]
theorem qy_fv {yc : Nat → Int32} {ON : Nat → Nat} {c k : Nat} : (bt (yc k) c = true ∧ (ON k = 0 ∧ qy_f yc ON c k = 0 ∨ ON k ≠ 0 ∧ qy_f yc ON c k = 1)) ∨ (¬ bt (yc k) c = true ∧ qy_f yc ON c k = 0) := by
  unfold qy_f
  by_cases h : bt (yc k) c = true
  · refine Or.inl ⟨h, ?_⟩
    by_cases e : ON k = 0
    · rw [if_pos e]; exact Or.inl ⟨e, rfl⟩
    · rw [if_neg e, if_pos h]; exact Or.inr ⟨e, rfl⟩
  · refine Or.inr ⟨h, ?_⟩
    by_cases e : ON k = 0
    · rw [if_pos e]
    · rw [if_neg e, if_neg h]
theorem qy_wv {yc : Nat → Int32} {ON : Nat → Nat} {m c : Nat} : (ON c = 0 ∧ qy_w yc ON m c = 0) ∨ (ON c ≠ 0 ∧ (qa_s (qy_f yc ON c) m = 0 ∧ qy_w yc ON m c = 1 ∨ qa_s (qy_f yc ON c) m ≠ 0 ∧ qy_w yc ON m c = 0)) := by
  unfold qy_w
  by_cases e : ON c = 0
  · rw [if_pos e]; exact Or.inl ⟨e, rfl⟩
  · rw [if_neg e]
    refine Or.inr ⟨e, ?_⟩
    by_cases h : qa_s (qy_f yc ON c) m = 0
    · rw [if_pos h]; exact Or.inl ⟨h, rfl⟩
    · rw [if_neg h]; exact Or.inr ⟨h, rfl⟩
section
variable {cn nc rt m : Nat} {sd : Int32} {L R U : Nat → Nat} {rk : Nat → Int32} {SH LT TY CV ON TP : Nat → Nat} {co : Nat → Int64} {lo hi pos od P : Nat → Nat} {LS YT YL : Nat → Nat} {yc : Nat → Int32}
theorem qx_ef_v {j t x : Nat} : (¬ qb_x (co j) (x - 1) = true ∧ qx_ef co TY CV ON j t x = 0) ∨ (qb_x (co j) (x - 1) = true ∧ (ON (TY x) = 0 ∧ qx_ef co TY CV ON j t x = 0 ∨ ON (TY x) ≠ 0 ∧ (CV x = t ∧ qx_ef co TY CV ON j t x = 1 ∨ CV x ≠ t ∧ qx_ef co TY CV ON j t x = 0))) := by
  unfold qx_ef
  by_cases h : qb_x (co j) (x - 1) = true
  · rw [if_pos h]
    refine Or.inr ⟨h, ?_⟩
    by_cases e : ON (TY x) = 0
    · rw [if_pos e]; exact Or.inl ⟨e, rfl⟩
    · rw [if_neg e]
      refine Or.inr ⟨e, ?_⟩
      by_cases c : CV x = t
      · rw [if_pos c]; exact Or.inl ⟨c, rfl⟩
      · rw [if_neg c]; exact Or.inr ⟨c, rfl⟩
  · rw [if_neg h]; exact Or.inl ⟨h, rfl⟩
theorem qx_effL {post : Int32 → Prop} {j t : Nat} (hj : j < 32) (hn : nc ≤ 32) (ht : t ≤ 1) (B : qx_B TY CV ON)
    (h0 : ON j = 0 → post (-nI (qa_s (fun i => qx_ef co TY CV ON j t (i + 1)) nc))) (h1 : ON j ≠ 0 → post (nI (qa_s (fun i => qx_ef co TY CV ON j t (i + 1)) nc))) :
    ∀ d i n : Nat, i + d = nc → d < n → wX_effect_75 post (nI j) (nI t) (nI nc) (nI rt) (nI m) sd (qa_A L) (qa_A R) (qa_A U) rk (qa_A SH) (qa_A LT) (qa_A TY) (qa_A CV) (qa_A ON) (qa_A TP) co n (nI (qa_s (fun i => qx_ef co TY CV ON j t (i + 1)) i)) (nI (i + 1)) := by
  have e1 : co (nI j).toNatClampNeg = co j := by rw [nI_clamp (by omega)]
  have e2 : qa_A ON (nI j).toNatClampNeg = nI (ON j) := qa_at (by omega)
  have hO := B.2.2 j
  intro d
  induction d with
  | zero =>
    intro i n h2 h3
    obtain ⟨n, rfl⟩ : ∃ k, n = k + 1 := ⟨n - 1, by omega⟩
    have e : i = nc := by omega
    subst e
    refine br_t (nI_lt (by omega) (by omega)) ⟨vp_in_nI hj (by omega), ?_⟩
    rw [e2]
    exact pk_eq (ON j) 0 h0 h1
  | succ d ih =>
    intro i n h2 h3
    obtain ⟨n, rfl⟩ : ∃ k, n = k + 1 := ⟨n - 1, by omega⟩
    have ih' := ih (i + 1) n (by omega) (by omega)
    rw [qa_sS] at ih'
    have hb1 := B.1 (i + 1)
    have hb2 := B.2.1 (i + 1)
    have hb3 := B.2.2 (TY (i + 1))
    have e3 : qa_A TY (nI (i + 1)).toNatClampNeg = nI (TY (i + 1)) := qa_at (by omega)
    have e4 : qa_A ON (nI (TY (i + 1))).toNatClampNeg = nI (ON (TY (i + 1))) := qa_at (by omega)
    have e5 : qa_A CV (nI (i + 1)).toNatClampNeg = nI (CV (i + 1)) := qa_at (by omega)
    have hv := qx_ef_v (co := co) (TY := TY) (CV := CV) (ON := ON) (j := j) (t := t) (x := i + 1)
    rw [Nat.add_sub_cancel] at hv
    refine br_f (nI_nlt (by omega) (by omega)) ⟨vp_in_nI hj (by omega), ?_⟩
    rw [e1, nI_pred]
    refine ek_if (qb_xt (co j) (show i < 64 by omega)) (fun b => ?_) (fun b => ?_)
    · unfold wX_effect_107
      rw [e3, e4, e5]
      refine br_f (by decide) ⟨vp_in_nI (by omega) (by omega), vp_in_nI (by omega) (by omega), pk_eq (ON (TY (i + 1))) 0 (fun c => ?_) (fun c => ⟨vp_in_nI (by omega) (by omega), pk_eq (CV (i + 1)) t (fun c' => ?_) (fun c' => ?_)⟩)⟩
      · rcases hv with hv | hv
        · exact absurd b hv.1
        · have ev : qx_ef co TY CV ON j t (i + 1) = 0 := by have := hv.2; omega
          rw [ev] at ih'
          exact nm_r (nI_1 (i + 1)) ih'
      · rcases hv with hv | hv
        · exact absurd b hv.1
        · have ev : qx_ef co TY CV ON j t (i + 1) = 1 := by have := hv.2; omega
          rw [ev] at ih'
          exact nm_r (nI_1 _) (nm_r (nI_1 (i + 1)) ih')
      · rcases hv with hv | hv
        · exact absurd b hv.1
        · have ev : qx_ef co TY CV ON j t (i + 1) = 0 := by have := hv.2; omega
          rw [ev] at ih'
          exact nm_r (nI_1 (i + 1)) ih'
    · unfold wX_effect_107
      rcases hv with hv | hv
      · rw [hv.2] at ih'
        exact br_t rfl (nm_r (nI_1 (i + 1)) ih')
      · exact absurd hv.1 b
/-- Y's length with other switches -/
theorem qr_lyg {post : Int32 → Prop} {ON' : Nat → Nat} (hm : m ≤ 32) (hn : nc ≤ 32) (hY : qr_Y nc m LT TY TP co od LS YT YL yc) (hON : ∀ j, ON' j < 2)
    (h : post (nI (qa_s (fun i => qy_w yc ON' m (TY (i + 1))) nc))) : wpY_length post (qy_S nc m LS YT YL yc ON') := by
  obtain ⟨y1, y2, y3, y4, y5, y6, y7, y8, y9⟩ := hY
  refine qy_len hm hn hON y1 ?_
  have e : qy_Q yc ON' m LS nc = qa_s (fun i => qy_w yc ON' m (TY (i + 1))) nc := by
    rw [← y9 (fun x => qy_w yc ON' m (TY x))]
    exact qa_sc nc (fun i hi => by show qy_w yc ON' m (LS i) = qy_w yc ON' m (TY (od i)); rw [y8 i hi])
  rw [e]
  exact h
theorem qy_eff {post : Int32 → SY → Prop} {j : Nat} (hm : m ≤ 32) (hn : nc ≤ 32) (hj : j < m) (hY : qr_Y nc m LT TY TP co od LS YT YL yc) (hON : ∀ j, ON j < 2)
    (h : post (nI (qa_s (fun i => qy_w yc (qa_u ON j (1 - ON j)) m (TY (i + 1))) nc) - nI (qa_s (fun i => qy_w yc ON m (TY (i + 1))) nc)) (qy_S nc m LS YT YL yc ON)) : wpY_effect post (qy_S nc m LS YT YL yc ON) (nI j) := by
  have hO := hON j
  have e1 : qa_A ON (nI j).toNatClampNeg = nI (ON j) := qa_at (by omega)
  have hON' : ∀ i, qa_u ON j (1 - ON j) i < 2 := qa_ub hON (by omega)
  have e2 : qa_A (qa_u ON j (1 - ON j)) (nI j).toNatClampNeg = nI (1 - ON j) := by rw [qa_at (by omega), qa_us]
  have v0 : vp_nar .boolean 0 = nI 0 := rfl
  have v1 : vp_nar .boolean 1 = nI 1 := rfl
  have h34 : wY_effect_34 post (nI j) (nI (qa_s (fun i => qy_w yc ON m (TY (i + 1))) nc)) (nI (1 - ON j)) (nI j) (nI nc) (nI m) (qa_A LS) (qa_A YT) (qa_A YL) yc (qa_A ON) := by
    unfold wY_effect_34
    rw [qb_nar (show 1 - ON j < 2 by omega), qa_st (f := ON) (x := j) (by omega), v0, v1]
    refine ⟨vp_in_nI (by omega) (by omega), nm_e (qr_lyg hm hn hY hON' ⟨vp_in_nI (by omega) (by omega), ?_⟩)⟩
    rw [e2, qa_st (x := j) (by omega), qa_st (x := j) (by omega)]
    refine pk_eq (1 - ON j) 0 (fun e => ⟨vp_in_nI (by omega) (by omega), nm_e ?_⟩) (fun e => ⟨vp_in_nI (by omega) (by omega), nm_e ?_⟩)
    · rw [qa_uu (show 1 = ON j by omega)]
      exact h
    · rw [qa_uu (show 0 = ON j by omega)]
      exact h
  unfold wpY_effect
  dsimp only [qy_S]
  refine qy_ch1 hm hj (br_f (by decide) (qr_lyg hm hn hY hON ⟨vp_in_nI (by omega) (by omega), ?_⟩))
  rw [e1]
  refine pk_eq (ON j) 0 (fun e => ?_) (fun e => ?_)
  · rw [e] at h34
    exact h34
  · have e3 : ON j = 1 := by omega
    rw [e3] at h34
    exact h34
end
theorem i_vc_effect {k : Nat} {u : SX} {v : SY} (I : i_Rel k u v) (hk : k + 3 ≤ 1536) (v1 : Int32) : wpX_effect (fun r => wpY_effect (fun r' v' => r' = r ∧ i_Rel (k + 3) u v') v v1) u v1 := by
  refine qr_el (P := fun u v => wpX_effect (fun r => wpY_effect (fun r' v' => r' = r ∧ i_Rel (k + 3) u v') v v1) u v1) I ?_
  intro nc rt m sd L R U rk SH LT TY CV ON TP co lo hi pos od LS YT YL yc hX hY
  have J : i_Rel (k + 3) (qx_S nc rt m sd L R U rk SH LT TY CV ON TP co) (qy_S nc m LS YT YL yc ON) := qr_in hX hY
  obtain ⟨⟨hm1, hm2⟩, B, hTP, W, O, hTY, hT, hCV, hCF⟩ := id hX
  have hbad : (v1 < 0 ∨ nI m ≤ v1) → wpX_effect (fun r => wpY_effect (fun r' v' => r' = r ∧ i_Rel (k + 3) (qx_S nc rt m sd L R U rk SH LT TY CV ON TP co) v') (qy_S nc m LS YT YL yc ON) v1) (qx_S nc rt m sd L R U rk SH LT TY CV ON TP co) v1 := fun hb => by
    unfold wpX_effect
    dsimp only [qx_S]
    refine qx_bad1 hb (br_f (by decide) ?_)
    unfold wpY_effect
    dsimp only [qy_S]
    exact qy_ch0 hb (br_t rfl ⟨rfl, J⟩)
  rcases pk_ix v1 (show m < 2 ^ 31 by omega) with hb | hb | ⟨j, hj, rfl⟩
  · exact hbad (Or.inl hb)
  · exact hbad (Or.inr hb)
  · have hTj := hTP j
    have hO := B.2.2 j
    have e1 : qa_A TP (nI j).toNatClampNeg = nI (TP j) := qa_at (by omega)
    have e2 : qa_A ON (nI j).toNatClampNeg = nI (ON j) := qa_at (by omega)
    have e3 : qa_A CV (nI (TP j)).toNatClampNeg = nI (CV (TP j)) := qa_at (by omega)
    have hy : ∀ r : Int32, nI (qa_s (fun i => qy_w yc (qa_u ON j (1 - ON j)) m (TY (i + 1))) nc) - nI (qa_s (fun i => qy_w yc ON m (TY (i + 1))) nc) = r → wpY_effect (fun r' v' => r' = r ∧ i_Rel (k + 3) (qx_S nc rt m sd L R U rk SH LT TY CV ON TP co) v') (qy_S nc m LS YT YL yc ON) (nI j) := fun r hr => by
      exact qy_eff hm2 (by omega) hj hY B.2.2 ⟨hr, J⟩
    have hS : ∀ x, 1 ≤ x → x ≤ nc → CV x = qa_s (qy_f yc ON (TY x)) m := fun x x1 x2 => by
      rw [hCV x x1 x2, qa_sc m (fun i hi => qr_f hY x1 x2 hi ON)]
    unfold wpX_effect
    dsimp only [qx_S]
    refine qx_bad0 hm2 hj (br_t rfl ⟨vp_in_nI (by omega) (by omega), ?_⟩)
    rw [e1, e2, e3]
    refine pk_eq (TP j) 0 (fun e => ⟨vp_in_nI (by omega) (by omega), ?_⟩) (fun e => ⟨vp_in_nI (by omega) (by omega), vp_in_nI (by omega) (by omega), ?_⟩)
    · have hne : ∀ x, 1 ≤ x → x ≤ nc → TY x ≠ j := fun x x1 x2 ex => by
        have := (hTY x x1 x2).2
        rw [ex, e] at this
        omega
      have hbx : ∀ x, 1 ≤ x → x ≤ nc → qb_x (co j) (x - 1) = bt (yc j) (TY x) := hY.2.2.2.1 j hj
      have hw' : ∀ x, 1 ≤ x → x ≤ nc → (ON j = 0 → qy_w yc (qa_u ON j (1 - ON j)) m (TY x) + qx_ef co TY CV ON j 0 x = qy_w yc ON m (TY x)) ∧ (ON j ≠ 0 → qy_w yc (qa_u ON j (1 - ON j)) m (TY x) = qy_w yc ON m (TY x) + qx_ef co TY CV ON j 1 x) := fun x x1 x2 => by
        have s1 := hS x x1 x2
        have s2 := qy_fu (yc := yc) (ON := ON) (c := TY x) (v := 1 - ON j) hj
        have s3 := qy_fv (yc := yc) (ON := ON) (c := TY x) (k := j)
        have s4 := qy_fv (yc := yc) (ON := qa_u ON j (1 - ON j)) (c := TY x) (k := j)
        rw [qa_us] at s4
        have s5 := qy_wv (yc := yc) (ON := ON) (m := m) (c := TY x)
        have s6 := qy_wv (yc := yc) (ON := qa_u ON j (1 - ON j)) (m := m) (c := TY x)
        rw [qa_un (hne x x1 x2)] at s6
        have hb2 := hbx x x1 x2
        refine ⟨fun hz => ?_, fun hz => ?_⟩
        · have s7 := qx_ef_v (co := co) (TY := TY) (CV := CV) (ON := ON) (j := j) (t := 0) (x := x)
          rw [hb2] at s7
          by_cases hbt : bt (yc j) (TY x) = true
          · rcases s7 with s7 | s7
            · exact absurd hbt s7.1
            rcases s3 with s3 | s3
            case inr => exact absurd hbt s3.1
            rcases s4 with s4 | s4
            case inr => exact absurd hbt s4.1
            have s7 := s7.2
            have s3 := s3.2
            have s4 := s4.2
            omega
          · rcases s7 with s7 | s7
            case inr => exact absurd s7.1 hbt
            rcases s3 with s3 | s3
            · exact absurd s3.1 hbt
            rcases s4 with s4 | s4
            · exact absurd s4.1 hbt
            have s7 := s7.2
            have s3 := s3.2
            have s4 := s4.2
            omega
        · have s7 := qx_ef_v (co := co) (TY := TY) (CV := CV) (ON := ON) (j := j) (t := 1) (x := x)
          rw [hb2] at s7
          by_cases hbt : bt (yc j) (TY x) = true
          · rcases s7 with s7 | s7
            · exact absurd hbt s7.1
            rcases s3 with s3 | s3
            case inr => exact absurd hbt s3.1
            rcases s4 with s4 | s4
            case inr => exact absurd hbt s4.1
            have s7 := s7.2
            have s3 := s3.2
            have s4 := s4.2
            omega
          · rcases s7 with s7 | s7
            case inr => exact absurd s7.1 hbt
            rcases s3 with s3 | s3
            · exact absurd s3.1 hbt
            rcases s4 with s4 | s4
            · exact absurd s4.1 hbt
            have s7 := s7.2
            have s3 := s3.2
            have s4 := s4.2
            omega
      have hz0 : ON j = 0 → wpY_effect (fun r' v' => r' = -nI (qa_s (fun i => qx_ef co TY CV ON j 0 (i + 1)) nc) ∧ i_Rel (k + 3) (qx_S nc rt m sd L R U rk SH LT TY CV ON TP co) v') (qy_S nc m LS YT YL yc ON) (nI j) := fun hz => hy _ (qn_sub2 (by
        rw [← qa_sadd]
        exact qa_sc nc (fun i hi => ((hw' (i + 1) (by omega) (by omega)).1 hz).symm)))
      have hz1 : ON j ≠ 0 → wpY_effect (fun r' v' => r' = nI (qa_s (fun i => qx_ef co TY CV ON j 1 (i + 1)) nc) ∧ i_Rel (k + 3) (qx_S nc rt m sd L R U rk SH LT TY CV ON TP co) v') (qy_S nc m LS YT YL yc ON) (nI j) := fun hz => hy _ (qn_sub1 (by
        rw [← qa_sadd]
        exact qa_sc nc (fun i hi => (hw' (i + 1) (by omega) (by omega)).2 hz)))
      refine pk_eq (ON j) 0 (fun hz => ⟨nc + 1, ?_⟩) (fun hz => ⟨nc + 1, ?_⟩)
      · exact qx_effL (t := 0) (by omega) (by omega) (by omega) B hz0 (fun z => absurd hz z) nc 0 (nc + 1) (by omega) (by omega)
      · exact qx_effL (t := 1) (by omega) (by omega) (by omega) B (fun z => absurd z hz) hz1 nc 0 (nc + 1) (by omega) (by omega)
    · obtain ⟨t1, t2, t3⟩ := hT j hj e
      have hbc := B.2.1 (TP j)
      have hb0 : ∀ x, 1 ≤ x → x ≤ nc → ¬ bt (yc j) (TY x) = true := fun x x1 x2 => by
        rw [← hY.2.2.2.1 j hj x x1 x2, t3, qb_x0]
        decide
      have hfe : ∀ x, 1 ≤ x → x ≤ nc → qa_s (qy_f yc (qa_u ON j (1 - ON j)) (TY x)) m = qa_s (qy_f yc ON (TY x)) m := fun x x1 x2 => by
        have s2 := qy_fu (yc := yc) (ON := ON) (c := TY x) (v := 1 - ON j) hj
        have s3 := qy_fv (yc := yc) (ON := ON) (c := TY x) (k := j)
        have s4 := qy_fv (yc := yc) (ON := qa_u ON j (1 - ON j)) (c := TY x) (k := j)
        rcases s3 with s3 | s3
        · exact absurd s3.1 (hb0 x x1 x2)
        rcases s4 with s4 | s4
        · exact absurd s4.1 (hb0 x x1 x2)
        have s3 := s3.2
        have s4 := s4.2
        omega
      have hsum := (qa_one (f := fun i => qy_w yc ON m (TY (i + 1))) (g := fun i => qy_w yc (qa_u ON j (1 - ON j)) m (TY (i + 1))) (q := TP j - 1) nc (fun i hi hne => by
        show qy_w yc (qa_u ON j (1 - ON j)) m (TY (i + 1)) = qy_w yc ON m (TY (i + 1))
        unfold qy_w
        rw [hfe (i + 1) (by omega) (by omega), qa_un (fun ex => hne (by
          have := (hTY (i + 1) (by omega) (by omega)).2
          rw [ex] at this
          omega))])).2 (by omega)
      rw [show TP j - 1 + 1 = TP j by omega, t2] at hsum
      have s1 := hS (TP j) (by omega) t1
      have s8 := hfe (TP j) (by omega) t1
      rw [t2] at s1 s8
      have s5 := qy_wv (yc := yc) (ON := ON) (m := m) (c := j)
      have s6 := qy_wv (yc := yc) (ON := qa_u ON j (1 - ON j)) (m := m) (c := j)
      rw [qa_us, s8] at s6
      rw [← s1] at s5 s6
      have h38 : ∀ z : Nat, (CV (TP j) = 0 ∧ z = 1 ∨ CV (TP j) ≠ 0 ∧ z = 0) → wX_effect_38 (fun r => wpY_effect (fun r' v' => r' = r ∧ i_Rel (k + 3) (qx_S nc rt m sd L R U rk SH LT TY CV ON TP co) v') (qy_S nc m LS YT YL yc ON) (nI j)) (nI j) (nI z) (nI nc) (nI rt) (nI m) sd (qa_A L) (qa_A R) (qa_A U) rk (qa_A SH) (qa_A LT) (qa_A TY) (qa_A CV) (qa_A ON) (qa_A TP) co := fun z hz => by
        unfold wX_effect_38
        rw [e2]
        refine ⟨vp_in_nI (by omega) (by omega), pk_eq (ON j) 0 (fun c => hy _ (qn_sub1 ?_)) (fun c => hy _ (qn_sub2 ?_))⟩
        · clear hT hTY hS hfe hb0
          omega
        · clear hT hTY hS hfe hb0
          omega
      exact pk_eq (CV (TP j)) 0 (fun c => h38 1 (Or.inl ⟨c, rfl⟩)) (fun c => h38 0 (Or.inr ⟨c, rfl⟩))
end
section
/-! type -/
theorem qb_px0 : qb_px 0 = 0 := qa_s0 48 (fun i _ => by show (if qb_x 0 i = true then 1 else 0) = 0; rw [qb_x0]; rfl)
theorem qb_py0 : qb_py 0 = 0 := qa_s0 32 (fun i _ => by show (if bt 0 i = true then 1 else 0) = 0; rw [b_0]; rfl)
section
variable {cn nc rt m : Nat} {sd : Int32} {L R U : Nat → Nat} {rk : Nat → Int32} {SH LT TY CV ON TP : Nat → Nat} {co : Nat → Int64} {lo hi pos od P : Nat → Nat} {LS YT YL : Nat → Nat} {yc : Nat → Int32}
/-- X's part with a new character -/
theorem qr_tyX {q : Nat} {rt' : Nat} {L' R' U' SH' lo' hi' : Nat → Nat} (hX : qr_X nc m rt L R U SH TY CV ON TP co lo hi pos od) (hY : qr_Y nc m LT TY TP co od LS YT YL yc) (hm : m < 32) (hq : q ≤ nc)
    (W' : qt_W (nc + 1) rt' L' R' U' SH' lo' hi' (qt_j pos (nc + 1) q q) (qt_P (qx_w (qa_u TY (nc + 1) m) CV (qa_u ON m 1)) (qt_oi od q (nc + 1)))) :
    qr_X (nc + 1) (m + 1) rt' L' R' U' SH' (qa_u TY (nc + 1) m) CV (qa_u ON m 1) (qa_u TP m (nc + 1)) (vp_updL co m 0) lo' hi' (qt_j pos (nc + 1) q q) (qt_oi od q (nc + 1)) := by
  obtain ⟨⟨hm1, hm2⟩, B, hTP, W, O, hTY, hT, hCV, hCF⟩ := hX
  have hco : ∀ j, j < m → vp_updL co m 0 j = co j := fun j hj => pk_uLn (by omega)
  have hf : ∀ x, qa_s (qx_f (vp_updL co m 0) (qa_u ON m 1) x) (m + 1) = qa_s (qx_f co ON x) m := fun x => by
    rw [qa_sS]
    have h1 : qx_f (vp_updL co m 0) (qa_u ON m 1) x m = 0 := by
      unfold qx_f
      rw [pk_uLs, qa_us, qb_x0]
      rfl
    rw [h1]
    refine qa_sc m (fun j hj => ?_)
    unfold qx_f
    rw [hco j hj, qa_un (by omega)]
  refine ⟨⟨by omega, by omega⟩, ⟨qa_ub B.1 hm, B.2.1, qa_ub B.2.2 (by omega)⟩, qa_ub hTP (by omega), W', qt_insO O hq, fun x x1 x2 => ?_, fun k hk ht => ?_, fun x x1 x2 => ?_, fun x hx => hCF x (by omega)⟩
  · by_cases e : x = nc + 1
    · subst e
      rw [qa_us, qa_us]
      exact ⟨by omega, rfl⟩
    · have := hTY x x1 (by omega)
      rw [qa_un e, qa_un (by omega)]
      exact ⟨by omega, this.2⟩
  · by_cases e : k = m
    · subst e
      rw [qa_us, qa_us, pk_uLs]
      exact ⟨Nat.le_refl _, rfl, rfl⟩
    · rw [qa_un e] at ht ⊢
      have := hT k (by omega) ht
      rw [qa_un (by omega), hco k (by omega)]
      exact ⟨by omega, this.2⟩
  · rw [hf x]
    by_cases e : x = nc + 1
    · subst e
      rw [hCF (nc + 1) (by omega)]
      refine (qa_s0 m (fun j hj => ?_)).symm
      refine qx_f0 ?_
      rw [hY.2.1 j hj (nc + 1 - 1) (by omega)]
      decide
    · exact hCV x x1 (by omega)
theorem qr_tyY {q c : Nat} {LS' : Nat → Nat} (hX : qr_X nc m rt L R U SH TY CV ON TP co lo hi pos od) (hY : qr_Y nc m LT TY TP co od LS YT YL yc) (hq : q ≤ nc)
    (l1 : ∀ j, LS' j < 32) (l2 : ∀ j, j < q → LS' j = LS j) (l3 : LS' q = m) (l4 : ∀ j, q ≤ j → j < nc → LS' (j + 1) = LS j) :
    qr_Y (nc + 1) (m + 1) (qa_u LT (nc + 1) c) (qa_u TY (nc + 1) m) (qa_u TP m (nc + 1)) (vp_updL co m 0) (qt_oi od q (nc + 1)) LS' (qa_u YT m 1) (qa_u YL m c) (upd yc m 0) := by
  obtain ⟨⟨hm1, hm2⟩, B, hTP, W, O, hTY, hT, hCV, hCF⟩ := hX
  obtain ⟨y1, y2, y3, y4, y5, y6, y7, y8, y9⟩ := hY
  refine ⟨l1, fun k hk i hi => ?_, fun k hk c' hc => ?_, fun k hk x x1 x2 => ?_, fun k hk => ?_, fun k hk => ?_, fun x x1 x2 => ?_, fun i hi => ?_, fun f => ?_⟩
  · by_cases e : k = m
    · subst e; rw [pk_uLs]; exact qb_x0 i
    · rw [pk_uLn e]; exact y2 k (by omega) i (by omega)
  · by_cases e : k = m
    · subst e; rw [pk_us]; exact b_0 c'
    · rw [pk_un e]; exact y3 k (by omega) c' (by omega)
  · by_cases e : k = m
    · subst e; rw [pk_us, pk_uLs, qb_x0, b_0]
    · rw [pk_un e, pk_uLn e]
      by_cases e2 : x = nc + 1
      · subst e2
        rw [qa_us, y2 k (by omega) _ (by omega), y3 k (by omega) m (by omega)]
      · rw [qa_un e2]
        exact y4 k (by omega) x x1 (by omega)
  · by_cases e : k = m
    · subst e; rw [pk_us, pk_uLs, qb_px0, qb_py0]
    · rw [pk_un e, pk_uLn e]; exact y5 k (by omega)
  · by_cases e : k = m
    · subst e; rw [qa_us, qa_us, if_neg (by omega)]
    · rw [qa_un e, qa_un e]; exact y6 k (by omega)
  · by_cases e : x = nc + 1
    · subst e; rw [qa_us, qa_us, qa_us]
    · have := hTY x x1 (by omega)
      rw [qa_un e, qa_un (show TY x ≠ m by omega), qa_un e]
      exact y7 x x1 (by omega)
  · by_cases c1 : i < q
    · have oi := O.2 i (by omega)
      rw [l2 i c1, qt_oi1 c1, qa_un (by omega)]
      exact y8 i (by omega)
    · by_cases c2 : i = q
      · subst c2; rw [l3, qt_oi2, qa_us]
      · obtain ⟨j, rfl⟩ : ∃ j, i = j + 1 := ⟨i - 1, by omega⟩
        have oj := O.2 j (by omega)
        rw [l4 j (by omega) (by omega), qt_oi3 (by omega), qa_un (by omega)]
        exact y8 j (by omega)
  · have h := (qt_Pi f od q (nc + 1) nc).2 hq
    show qt_P f (qt_oi od q (nc + 1)) (nc + 1) = qa_s (fun i => f (i + 1)) nc + f (nc + 1)
    rw [h]
    show qa_s (fun j => f (od j)) nc + f (nc + 1) = _
    rw [y9 f]
theorem qr_ty {post : Int32 → SX → Prop} {c x q : Nat} {be : Int32} (hX : qr_X nc m rt L R U SH TY CV ON TP co lo hi pos od) (hY : qr_Y nc m LT TY TP co od LS YT YL yc) (hm : m < 32)
    (hx : x = 0 ∧ q = 0 ∧ be = -4 ∨ 1 ≤ x ∧ x ≤ nc ∧ q = pos x + 1 ∧ be = nI (TY x))
    (h : ∀ u' : SX, (∀ k : Nat, ∃ n, wY_type_59 (fun r' v' => r' = nI m ∧ i_Rel k u' v') (nI c) be (nI nc) (nI m) n (nI nc) (qa_A LS) (qa_A YT) (qa_A YL) yc (qa_A ON)) → post (nI m) u') :
    wX_type_60 post (nI c) (nI x) (nI nc) (nI rt) (nI m) sd (qa_A L) (qa_A R) (qa_A U) rk (qa_A SH) (qa_A LT) (qa_A TY) (qa_A CV) (qa_A ON) (qa_A TP) co := by
  have hX0 := hX
  have hY0 := hY
  obtain ⟨⟨hm1, hm2⟩, B, hTP, W, O, hTY, hT, hCV, hCF⟩ := hX
  obtain ⟨y1, y2, y3, y4, y5, y6, y7, y8, y9⟩ := hY
  have hq : q ≤ nc := by
    rcases hx with hx | ⟨x1, x2, x3, x4⟩
    · omega
    · have := (O.1 x x1 x2).1
      omega
  have v1 : vp_nar .boolean 1 = nI 1 := rfl
  unfold wX_type_60
  refine nm_r (nI_1 nc) ⟨vp_in_nI (by omega) (by omega), nm_r (qa_st (by omega)) ⟨vp_in_nI (by omega) (by omega), nm_r (qa_st (by omega)) (nm_e ⟨vp_in_nI (by omega) (by omega), nm_e ⟨vp_in_nI (by omega) (by omega), nm_r (e' := qa_A (qa_u ON m 1)) (by rw [v1, qa_st (by omega)]) ⟨vp_in_nI (by omega) (by omega), nm_r (qa_st (by omega)) ⟨vp_in_nI (by omega) (by omega), nm_r (e' := vp_updL co m 0) (by rw [nI_clamp (by omega)]) (nm_r (nI_1 m) ?_)⟩⟩⟩⟩)⟩⟩
  have hw : ∀ z, 1 ≤ z → z ≤ nc → qx_w TY CV ON z = qx_w (qa_u TY (nc + 1) m) CV (qa_u ON m 1) z := fun z z1 z2 => by
    have := (hTY z z1 z2).1
    unfold qx_w
    rw [qa_un (show z ≠ nc + 1 by omega), qa_un (show TY z ≠ m by omega)]
  refine qx_hang (q := q) ⟨qa_ub B.1 hm, B.2.1, qa_ub B.2.2 (by omega)⟩ (by omega) (qt_Wc (qt_Pc O hw) W) O (by omega) (fun rt' L' R' U' SH' lo' hi' W' => ?_)
  dsimp only [qx_S]
  rw [nI_pred]
  refine h _ (fun k => ⟨nc - q + 1, ?_⟩)
  obtain ⟨d, hd⟩ : ∃ d, nc = q + d := ⟨nc - q, by omega⟩
  refine qy_ty59 (LS0 := LS) hm (by omega) hq (fun i i1 i2 => ?_) (fun hq1 => ?_) (fun LS' l1 l2 l3 l4 => ⟨rfl, ?_⟩) d nc (nc - q + 1) LS hd (Nat.le_refl _) (by omega) y1 (fun j _ => rfl) (fun j j1 j2 => by omega)
  · have hLi := y1 i
    rcases hx with ⟨_, _, hbe⟩ | ⟨x1, x2, x3, hbe⟩
    · rw [hbe]
      intro e
      have : nI (LS i) < 0 := by rw [e]; decide
      exact nI_pos (by omega) this
    · rw [hbe]
      have oi := O.2 i i2
      have hb := B.1 x
      intro e
      rw [nI_eq (by omega) (by omega), y8 i i2] at e
      have a1 := (hTY (od i) oi.1 oi.2.1).2
      have a2 := (hTY x x1 x2).2
      rw [e, a2] at a1
      rw [← a1] at oi
      omega
  · rcases hx with ⟨_, _, hbe⟩ | ⟨x1, x2, x3, hbe⟩
    · omega
    · have ox := O.1 x x1 x2
      rw [hbe, x3, Nat.add_sub_cancel, y8 (pos x) ox.1, ox.2]
  · exact qr_in (qr_tyX hX0 hY0 hm hq W') (qr_tyY hX0 hY0 hq l1 l2 l3 l4)
end
theorem i_vc_type {k : Nat} {u : SX} {v : SY} (I : i_Rel k u v) (hk : k + 3 ≤ 1536) (v1 : Int32) (v2 : Int32) : wpX_type (fun r u' => wpY_type (fun r' v' => r' = r ∧ i_Rel (k + 3) u' v') v v1 v2) u v1 v2 := by
  refine qr_el (P := fun u v => wpX_type (fun r u' => wpY_type (fun r' v' => r' = r ∧ i_Rel (k + 3) u' v') v v1 v2) u v1 v2) I ?_
  intro nc rt m sd L R U rk SH LT TY CV ON TP co lo hi pos od LS YT YL yc hX hY
  have J : i_Rel (k + 3) (qx_S nc rt m sd L R U rk SH LT TY CV ON TP co) (qy_S nc m LS YT YL yc ON) := qr_in hX hY
  have hm := hX.1
  have hpn := qr_pn hX
  unfold wpX_type
  dsimp only [qx_S]
  refine br_c (fun a1 => br_t a1 ⟨rfl, J⟩) (fun a1 => br_c (fun a2 => br_f a1 (br_t a2 ⟨rfl, J⟩)) (fun a2 => br_c (fun a3 => br_f a1 (br_f a2 (br_t a3 ⟨rfl, J⟩))) (fun a3 => qr_lx hX ?_)))
  obtain ⟨c, hc, rfl⟩ := nI_of a1
  obtain ⟨p, hp, rfl⟩ := nI_of a3
  have hy : ∀ (r : Int32) (u' : SX), (p ≤ qt_P (qx_w TY CV ON) od nc → m = 32 → r = -2 ∧ i_Rel (k + 3) u' (qy_S nc m LS YT YL yc ON)) → (p ≤ qt_P (qx_w TY CV ON) od nc → m ≠ 32 → ((nI p = 0 → ∃ n59 : Nat, wY_type_59 (fun r' v' => r' = r ∧ i_Rel (k + 3) u' v') (nI c) (-4) (nI nc) (nI m) n59 (nI nc) (qa_A LS) (qa_A YT) (qa_A YL) yc (qa_A ON)) ∧ (¬ nI p = 0 → wpY_charAt (fun r_15 => ∃ n59 : Nat, wY_type_59 (fun r' v' => r' = r ∧ i_Rel (k + 3) u' v') (nI c) r_15 (nI nc) (nI m) n59 (nI nc) (qa_A LS) (qa_A YT) (qa_A YL) yc (qa_A ON)) (qy_S nc m LS YT YL yc ON) (nI p - 1)))) → (qt_P (qx_w TY CV ON) od nc < p → r = -1 ∧ i_Rel (k + 3) u' (qy_S nc m LS YT YL yc ON)) → wpY_type (fun r' v' => r' = r ∧ i_Rel (k + 3) u' v') (qy_S nc m LS YT YL yc ON) (nI p) (nI c) := fun r u' b1 b2 b3 => by
    unfold wpY_type
    dsimp only [qy_S]
    refine br_f a1 (br_f a2 (br_f a3 (qr_ly hX hY (pk_le p (qt_P (qx_w TY CV ON) od nc) (fun a4 => pk_eq m 32 (fun a5 => ?_) (fun a5 => b2 a4 a5)) (fun a4 => ?_)))))
    · have := b1 a4 a5
      exact ⟨this.1.symm, this.2⟩
    · have := b3 a4
      exact ⟨this.1.symm, this.2⟩
  refine pk_le p (qt_P (qx_w TY CV ON) od nc) (fun a4 => pk_eq m 32 (fun a5 => ?_) (fun a5 => pk_eq nc 48 (fun a6 => absurd a6 (by omega)) (fun a6 => pk_eq p 0 (fun a7 => ?_) (fun a7 => ?_)))) (fun a4 => ?_)
  · exact hy _ _ (fun _ _ => ⟨rfl, J⟩) (fun _ z => absurd a5 z) (fun z => absurd z (by omega))
  · refine qr_ty (x := 0) (q := 0) (be := -4) hX hY (by omega) (Or.inl ⟨rfl, rfl, rfl⟩) (fun u' hu => ?_)
    exact hy _ _ (fun _ z => absurd z a5) (fun _ _ => br_t (by rw [a7]; rfl) (hu (k + 3))) (fun z => absurd z (by omega))
  · obtain ⟨p, rfl⟩ : ∃ p', p = p' + 1 := ⟨p - 1, by omega⟩
    rw [nI_pred] at hy ⊢
    obtain ⟨x, ⟨x1, x2, xw, xp⟩, ax, ay⟩ := qr_at (cn := nc) (sd := sd) (rk := rk) hX hY (p := p) (by omega)
    refine ax _ (qr_ty (x := x) (q := pos x + 1) (be := nI (TY x)) hX hY (by omega) (Or.inr ⟨x1, x2, rfl, rfl⟩) (fun u' hu => ?_))
    exact hy _ _ (fun _ z => absurd z a5) (fun _ _ => br_f (nI_ne0 (by omega) hp) (ay _ (hu (k + 3)))) (fun z => absurd z (by omega))
  · exact hy _ _ (fun z => absurd z (by omega)) (fun z => absurd z (by omega)) (fun _ => ⟨rfl, J⟩)
end
section
/-! erase -/
/-- the two sets hold the same characters -/
def qr_E (nc m : Nat) (TY : Nat → Nat) (sx : Int64) (sy : Int32) : Prop :=
  (∀ i, nc ≤ i → qb_x sx i = false) ∧ (∀ c, m ≤ c → bt sy c = false) ∧ (∀ x, 1 ≤ x → x ≤ nc → qb_x sx (x - 1) = bt sy (TY x)) ∧ qb_px sx = qb_py sy
theorem qr_E0 (nc m : Nat) (TY : Nat → Nat) : qr_E nc m TY 0 0 :=
  ⟨fun i _ => qb_x0 i, fun c _ => b_0 c, fun x _ _ => by rw [qb_x0, b_0], by rw [qb_px0, qb_py0]⟩
section
variable {cn nc rt m : Nat} {sd : Int32} {L R U : Nat → Nat} {rk : Nat → Int32} {SH LT TY CV ON TP : Nat → Nat} {co : Nat → Int64} {lo hi pos od P : Nat → Nat} {LS YT YL : Nat → Nat} {yc : Nat → Int32}
theorem qr_ES {x : Nat} {sx : Int64} {sy : Int32} (hX : qr_X nc m rt L R U SH TY CV ON TP co lo hi pos od) (x1 : 1 ≤ x) (x2 : x ≤ nc) (h : qr_E nc m TY sx sy) :
    qr_E nc m TY (sx ||| ((1 : Int64) <<< ((nI (x - 1)).toInt64 &&& 63))) (sy ||| ((1 : Int32) <<< (nI (TY x) &&& 31))) := by
  obtain ⟨⟨hm1, hm2⟩, B, hTP, W, O, hTY, hT, hCV, hCF⟩ := hX
  obtain ⟨h1, h2, h3, h4⟩ := h
  have hx := hTY x x1 x2
  refine ⟨fun i hi => ?_, fun c hc => ?_, fun z z1 z2 => ?_, ?_⟩
  · by_cases c : i < 64
    · rw [qb_xs sx (by omega) c, h1 i hi, decide_eq_false (by omega)]
      rfl
    · exact BitVec.getLsbD_of_ge _ _ (by omega)
  · by_cases c' : c < 32
    · rw [qb_ys sy (by omega) c', h2 c hc, decide_eq_false (by omega)]
      rfl
    · exact b_big (by omega)
  · have hz := hTY z z1 z2
    rw [qb_xs sx (by omega) (by omega), qb_ys sy (by omega) (by omega), h3 z z1 z2]
    congr 1
    by_cases e : z = x
    · subst e
      rw [decide_eq_true rfl, decide_eq_true rfl]
    · have e2 : TY z ≠ TY x := fun q => e (by rw [← hz.2, ← hx.2, q])
      rw [decide_eq_false (by omega), decide_eq_false e2]
  · have a1 := qb_pxs sx (show x - 1 < 48 by omega)
    have a2 := qb_pys sy (show TY x < 32 by omega)
    rw [h3 x x1 x2] at a1
    omega
theorem qr_eL {j : Nat} (hX : qr_X nc m rt L R U SH TY CV ON TP co lo hi pos od) (hY : qr_Y nc m LT TY TP co od LS YT YL yc) (hj : j ≤ qt_P (qx_w TY CV ON) od nc) :
    ∀ (d p : Nat) (sx : Int64) (sy : Int32), p + d = j → qr_E nc m TY sx sy → ∃ (sx' : Int64) (sy' : Int32), qr_E nc m TY sx' sy' ∧
      (∀ (post : Int32 → SX → Prop) (n : Nat), d < n → (∀ n, 0 < n → wX_erase_36 post (nI j) (nI cn) (nI rt) (nI m) sd (qa_A L) (qa_A R) (qa_A U) rk (qa_A SH) (qa_A LT) (qa_A TY) (qa_A CV) (qa_A ON) (qa_A TP) co n sx' (nI j)) → wX_erase_36 post (nI j) (nI cn) (nI rt) (nI m) sd (qa_A L) (qa_A R) (qa_A U) rk (qa_A SH) (qa_A LT) (qa_A TY) (qa_A CV) (qa_A ON) (qa_A TP) co n sx (nI p)) ∧
      (∀ (post : Int32 → SY → Prop) (n : Nat), d < n → (∀ n, 0 < n → wY_erase_36 post (nI j) (nI nc) (nI m) (qa_A LS) (qa_A YT) (qa_A YL) yc (qa_A ON) n sy' (nI j)) → wY_erase_36 post (nI j) (nI nc) (nI m) (qa_A LS) (qa_A YT) (qa_A YL) yc (qa_A ON) n sy (nI p)) := by
  have hpn := qr_pn hX
  have hm := hX.1
  intro d
  induction d with
  | zero =>
    intro p sx sy h1 h2
    have e : p = j := by omega
    subst e
    exact ⟨sx, sy, h2, fun post n hn h => h n hn, fun post n hn h => h n hn⟩
  | succ d ih =>
    intro p sx sy h1 h2
    obtain ⟨x, ⟨x1, x2, xw, xp⟩, ax, ay⟩ := qr_at (cn := cn) (sd := sd) (rk := rk) hX hY (p := p) (by omega)
    obtain ⟨sx', sy', hE, rx, ry⟩ := ih (p + 1) _ _ (by omega) (qr_ES hX x1 x2 h2)
    have h32 := hX.2.1.1 x
    have e1 : nI x - 1 = nI (x - 1) := by
      obtain ⟨y, rfl⟩ : ∃ y, x = y + 1 := ⟨x - 1, by omega⟩
      exact nI_pred y
    refine ⟨sx', sy', hE, fun post n hn h => ?_, fun post n hn h => ?_⟩
    · obtain ⟨n, rfl⟩ : ∃ k, n = k + 1 := ⟨n - 1, by omega⟩
      refine pk_le j p (fun e => absurd e (by omega)) (fun _ => ax _ ?_)
      rw [e1]
      exact nm_e (nm_r (nI_1 p) (rx post n (by omega) h))
    · obtain ⟨n, rfl⟩ : ∃ k, n = k + 1 := ⟨n - 1, by omega⟩
      refine pk_le j p (fun e => absurd e (by omega)) (fun _ => ay _ (br_t (nI_pos' (by omega)) ?_))
      exact nm_e (nm_r (nI_1 p) (ry post n (by omega) h))
theorem qr_eX {post : Int32 → SX → Prop} {j : Nat} {sx : Int64} {sy : Int32} (hj : j < 2 ^ 31) (hX : qr_X nc m rt L R U SH TY CV ON TP co lo hi pos od) (hm : m < 32) (hE : qr_E nc m TY sx sy)
    (h : ∀ SH' CV' : Nat → Nat, qr_X nc (m + 1) rt L R U SH' TY CV' (qa_u ON m 1) (qa_u TP m 0) (vp_updL co m sx) lo hi pos od → post (nI m) (qx_S nc rt (m + 1) sd L R U rk SH' LT TY CV' (qa_u ON m 1) (qa_u TP m 0) (vp_updL co m sx))) :
    ∀ n, 0 < n → wX_erase_36 post (nI j) (nI nc) (nI rt) (nI m) sd (qa_A L) (qa_A R) (qa_A U) rk (qa_A SH) (qa_A LT) (qa_A TY) (qa_A CV) (qa_A ON) (qa_A TP) co n sx (nI j) := by
  intro n hn
  obtain ⟨n, rfl⟩ : ∃ k, n = k + 1 := ⟨n - 1, by omega⟩
  obtain ⟨⟨hm1, hm2⟩, B, hTP, W, O, hTY, hT, hCV, hCF⟩ := hX
  obtain ⟨h1, h2, h3, h4⟩ := hE
  have v1 : vp_nar .boolean 1 = nI 1 := rfl
  have hco : ∀ i, i < m → vp_updL co m sx i = co i := fun i hi => pk_uLn (by omega)
  have hf : ∀ x, qa_s (qx_f (vp_updL co m sx) (qa_u ON m 1) x) (m + 1) = qa_s (qx_f co ON x) m + (if qb_x sx (x - 1) = true then 1 else 0) := fun x => by
    rw [qa_sS]
    have e1 : qx_f (vp_updL co m sx) (qa_u ON m 1) x m = if qb_x sx (x - 1) = true then 1 else 0 := by
      unfold qx_f
      rw [pk_uLs, qa_us]
      rfl
    rw [e1]
    congr 1
    refine qa_sc m (fun i hi => ?_)
    unfold qx_f
    rw [hco i hi, qa_un (by omega)]
  have hle : ∀ x, qa_s (qx_f (vp_updL co m sx) (qa_u ON m 1) x) (m + 1) ≤ m + 1 := fun x => qa_sle (qx_f1 _ _ x) (m + 1)
  have B0 : qx_B TY CV (qa_u ON m 1) := ⟨B.1, B.2.1, qa_ub B.2.2 (by omega)⟩
  have B1 : qx_B TY (fun x => if 1 ≤ x ∧ x ≤ nc then qa_s (qx_f (vp_updL co m sx) (qa_u ON m 1) x) (m + 1) else CV x) (qa_u ON m 1) := ⟨B.1, fun i => by
    show (if 1 ≤ i ∧ i ≤ nc then qa_s (qx_f (vp_updL co m sx) (qa_u ON m 1) i) (m + 1) else CV i) < 64
    by_cases c : 1 ≤ i ∧ i ≤ nc
    · rw [if_pos c]; have := hle i; omega
    · rw [if_neg c]; exact B.2.1 i, B0.2.2⟩
  refine br_t (nI_le (Nat.le_refl _) hj) ⟨vp_in_nI (by omega) (by omega), nm_r (e' := qa_A (qa_u ON m 1)) (by rw [v1, qa_st (by omega)]) ⟨vp_in_nI (by omega) (by omega), nm_r (e' := qa_A (qa_u TP m 0)) (qa_st (v := 0) (by omega)) ⟨vp_in_nI (by omega) (by omega), nm_r (e' := vp_updL co m sx) (by rw [nI_clamp (by omega)]) (nm_r (nI_1 m) ?_)⟩⟩⟩
  refine qx_cov (CV1 := fun x => if 1 ≤ x ∧ x ≤ nc then qa_s (qx_f (vp_updL co m sx) (qa_u ON m 1) x) (m + 1) else CV x) (by omega) O B0 B1 (fun x x1 x2 hb => ?_) (fun x x1 x2 hb => ?_) (fun x hx => if_neg (by omega)) (qt_Wc (qt_Pc O (fun z z1 z2 => ?_)) W) (fun SH' W' => ?_)
  · show nI (CV x) + 1 = nI (if 1 ≤ x ∧ x ≤ nc then qa_s (qx_f (vp_updL co m sx) (qa_u ON m 1) x) (m + 1) else CV x)
    rw [if_pos ⟨x1, x2⟩, hf x, if_pos hb, nI_1, hCV x x1 x2]
  · show (if 1 ≤ x ∧ x ≤ nc then qa_s (qx_f (vp_updL co m sx) (qa_u ON m 1) x) (m + 1) else CV x) = CV x
    rw [if_pos ⟨x1, x2⟩, hf x, if_neg hb, hCV x x1 x2]
    rfl
  · refine (qx_wTY ?_).symm
    have := (hTY z z1 z2).1
    exact qa_un (by omega)
  · dsimp only [qx_S]
    rw [nI_pred]
    refine h SH' _ ⟨⟨by omega, by omega⟩, B1, qa_ub hTP (by omega), W', O, fun x x1 x2 => ?_, fun k hk ht => ?_, fun x x1 x2 => if_pos ⟨x1, x2⟩, fun x hx => ?_⟩
    · have := hTY x x1 x2
      rw [qa_un (by omega)]
      exact ⟨by omega, this.2⟩
    · by_cases e : k = m
      · subst e
        rw [qa_us] at ht
        exact absurd rfl ht
      · rw [qa_un e] at ht ⊢
        have := hT k (by omega) ht
        rw [hco k (by omega)]
        exact this
    · show (if 1 ≤ x ∧ x ≤ nc then qa_s (qx_f (vp_updL co m sx) (qa_u ON m 1) x) (m + 1) else CV x) = 0
      rw [if_neg (by omega)]
      exact hCF x hx
theorem qr_eY {sx : Int64} {sy : Int32} (hX : qr_X nc m rt L R U SH TY CV ON TP co lo hi pos od) (hY : qr_Y nc m LT TY TP co od LS YT YL yc) (hE : qr_E nc m TY sx sy) :
    qr_Y nc (m + 1) LT TY (qa_u TP m 0) (vp_updL co m sx) od LS (qa_u YT m 0) YL (upd yc m sy) := by
  obtain ⟨y1, y2, y3, y4, y5, y6, y7, y8, y9⟩ := hY
  obtain ⟨h1, h2, h3, h4⟩ := hE
  refine ⟨y1, fun k hk i hi => ?_, fun k hk c hc => ?_, fun k hk x x1 x2 => ?_, fun k hk => ?_, fun k hk => ?_, y7, y8, y9⟩
  · by_cases e : k = m
    · subst e; rw [pk_uLs]; exact h1 i hi
    · rw [pk_uLn e]; exact y2 k (by omega) i hi
  · by_cases e : k = m
    · subst e; rw [pk_us]; exact h2 c (by omega)
    · rw [pk_un e]; exact y3 k (by omega) c (by omega)
  · by_cases e : k = m
    · subst e; rw [pk_us, pk_uLs]; exact h3 x x1 x2
    · rw [pk_un e, pk_uLn e]; exact y4 k (by omega) x x1 x2
  · by_cases e : k = m
    · subst e; rw [pk_us, pk_uLs]; exact h4
    · rw [pk_un e, pk_uLn e]; exact y5 k (by omega)
  · by_cases e : k = m
    · subst e; rw [qa_us, qa_us, if_pos rfl]
    · rw [qa_un e, qa_un e]; exact y6 k (by omega)
end
section
variable {nl m : Nat} {LS YT YL : Nat → Nat} {yc : Nat → Int32} {ON : Nat → Nat}
theorem qy_eF {post : Int32 → SY → Prop} {j : Nat} {sy : Int32} (hj : j < 2 ^ 31) (hm : m < 32) (h : post (nI m) (qy_S nl (m + 1) LS (qa_u YT m 0) YL (upd yc m sy) (qa_u ON m 1))) :
    ∀ n, 0 < n → wY_erase_36 post (nI j) (nI nl) (nI m) (qa_A LS) (qa_A YT) (qa_A YL) yc (qa_A ON) n sy (nI j) := by
  intro n hn
  obtain ⟨n, rfl⟩ : ∃ k, n = k + 1 := ⟨n - 1, by omega⟩
  have v0 : vp_nar .boolean 0 = nI 0 := rfl
  have v1 : vp_nar .boolean 1 = nI 1 := rfl
  refine br_t (nI_le (Nat.le_refl _) hj) ⟨vp_in_nI (by omega) (by omega), nm_r (e' := qa_A (qa_u YT m 0)) (by rw [v0, qa_st (by omega)]) ⟨vp_in_nI (by omega) (by omega), nm_r (e' := upd yc m sy) (by rw [nI_clamp (by omega)]) ⟨vp_in_nI (by omega) (by omega), nm_r (e' := qa_A (qa_u ON m 1)) (by rw [v1, qa_st (by omega)]) (nm_r (nI_1 m) ?_)⟩⟩⟩
  rw [nI_pred]
  exact h
end
theorem i_vc_erase {k : Nat} {u : SX} {v : SY} (I : i_Rel k u v) (hk : k + 3 ≤ 1536) (v1 : Int32) (v2 : Int32) : wpX_erase (fun r u' => wpY_erase (fun r' v' => r' = r ∧ i_Rel (k + 3) u' v') v v1 v2) u v1 v2 := by
  refine qr_el (P := fun u v => wpX_erase (fun r u' => wpY_erase (fun r' v' => r' = r ∧ i_Rel (k + 3) u' v') v v1 v2) u v1 v2) I ?_
  intro nc rt m sd L R U rk SH LT TY CV ON TP co lo hi pos od LS YT YL yc hX hY
  have J : i_Rel (k + 3) (qx_S nc rt m sd L R U rk SH LT TY CV ON TP co) (qy_S nc m LS YT YL yc ON) := qr_in hX hY
  have hm := hX.1
  have hpn := qr_pn hX
  unfold wpX_erase
  dsimp only [qx_S]
  refine br_c (fun a1 => br_t a1 ⟨rfl, J⟩) (fun a1 => br_c (fun a2 => br_f a1 (br_t a2 ⟨rfl, J⟩)) (fun a2 => qr_lx hX ?_))
  obtain ⟨i, hi, rfl⟩ := nI_of a1
  obtain ⟨j, hj, rfl⟩ := nI_of (x := v2) (fun z => a2 (Int32.le_of_lt (Int32.lt_of_lt_of_le z (nI_pos' hi))))
  have a2' : i < j := by
    rw [nI_leI hj hi] at a2
    omega
  have hy : ∀ (r : Int32) (u' : SX), (j ≤ qt_P (qx_w TY CV ON) od nc → m = 32 → r = -2 ∧ i_Rel (k + 3) u' (qy_S nc m LS YT YL yc ON)) → (j ≤ qt_P (qx_w TY CV ON) od nc → m ≠ 32 → (∃ n36 : Nat, wY_erase_36 (fun r' v' => r' = r ∧ i_Rel (k + 3) u' v') (nI j) (nI nc) (nI m) (qa_A LS) (qa_A YT) (qa_A YL) yc (qa_A ON) n36 0 (nI i))) → (qt_P (qx_w TY CV ON) od nc < j → r = -1 ∧ i_Rel (k + 3) u' (qy_S nc m LS YT YL yc ON)) → wpY_erase (fun r' v' => r' = r ∧ i_Rel (k + 3) u' v') (qy_S nc m LS YT YL yc ON) (nI i) (nI j) := fun r u' b1 b2 b3 => by
    unfold wpY_erase
    dsimp only [qy_S]
    refine br_f a1 (br_f a2 (qr_ly hX hY (pk_le j (qt_P (qx_w TY CV ON) od nc) (fun a4 => pk_eq m 32 (fun a5 => ?_) (fun a5 => b2 a4 a5)) (fun a4 => ?_))))
    · have := b1 a4 a5
      exact ⟨this.1.symm, this.2⟩
    · have := b3 a4
      exact ⟨this.1.symm, this.2⟩
  refine pk_le j (qt_P (qx_w TY CV ON) od nc) (fun a4 => pk_eq m 32 (fun a5 => ?_) (fun a5 => ?_)) (fun a4 => ?_)
  · exact hy _ _ (fun _ _ => ⟨rfl, J⟩) (fun _ z => absurd a5 z) (fun z => absurd z (by omega))
  · obtain ⟨sx, sy, hE, rx, ry⟩ := qr_eL (cn := nc) (sd := sd) (rk := rk) hX hY a4 (j - i) i 0 0 (by omega) (qr_E0 nc m TY)
    refine ⟨j - i + 1, rx _ (j - i + 1) (by omega) (qr_eX hj hX (by omega) hE (fun SH' CV' hX' => ?_))⟩
    exact hy _ _ (fun _ z => absurd z a5) (fun _ _ => ⟨j - i + 1, ry _ (j - i + 1) (by omega) (qy_eF hj (by omega) ⟨rfl, qr_in hX' (qr_eY hX hY hE)⟩)⟩) (fun z => absurd z (by omega))
  · exact hy _ _ (fun z => absurd z (by omega)) (fun z => absurd z (by omega)) (fun _ => ⟨rfl, J⟩)
end
