section
/-! pure rows to paste: stores, nI and lN arithmetic, masks, shifts, narrowing, branches by naturals (pk_le, pk_lt, pk_eq), loops (lp1 .. lp16: the measure of the state; rp1 ..: recursion), negatives. Take what you need -/
theorem pk_us {f : Nat → Int32} {k : Nat} {x : Int32} : upd f k x k = x := if_pos rfl
theorem pk_un {f : Nat → Int32} {k j : Nat} {x : Int32} (h : j ≠ k) : upd f k x j = f j := if_neg h
theorem pk_uLs {f : Nat → Int64} {k : Nat} {x : Int64} : vp_updL f k x k = x := if_pos rfl
theorem pk_uLn {f : Nat → Int64} {k j : Nat} {x : Int64} (h : j ≠ k) : vp_updL f k x j = f j := if_neg h
theorem pk_sub {a b : Nat} (h : b ≤ a) : nI a - nI b = nI (a - b) := by
  obtain ⟨c, rfl⟩ : ∃ c, a = c + b := ⟨a - b, by omega⟩
  rw [← nI_add, Int32.add_sub_cancel, Nat.add_sub_cancel]
theorem pk_m1 (n : Nat) : nI (n + 1) + (-1) = nI n := by
  rw [← nI_1, Int32.add_assoc, show (1 : Int32) + (-1) = 0 from rfl, Int32.add_zero]
theorem pk_mul (a b : Nat) : nI a * nI b = nI (a * b) := (Int32.ofNat_mul a b).symm
theorem pk_div {a d : Nat} (ha : a < 2 ^ 31) (h0 : 0 < d) (hd : d < 2 ^ 31) : nI a / nI d = nI (a / d) := by
  apply Int32.toInt_inj.mp
  rw [lg_idiv_nonneg (by rw [nI_toInt ha]; omega) (by rw [nI_toInt hd]; omega), nI_toInt ha, nI_toInt hd, nI_toInt (Nat.lt_of_le_of_lt (Nat.div_le_self a d) ha)]
  first | rfl | exact (Int.natCast_ediv _ _).symm
theorem pk_rem {a d : Nat} (ha : a < 2 ^ 31) (h0 : 0 < d) (hd : d < 2 ^ 31) : nI a - nI a / nI d * nI d = nI (a % d) := by
  rw [pk_div ha h0 hd, pk_mul, pk_sub (Nat.div_mul_le_self a d)]
  exact congrArg nI (by have := Nat.div_add_mod' a d; omega)
theorem pk_sub_toInt {a b : Nat} (ha : a < 2 ^ 30) (hb : b < 2 ^ 30) : (nI a - nI b).toInt = (a : Int) - b := by
  rw [Int32.toInt_sub, nI_toInt (by omega), nI_toInt (by omega)]
  exact Int.bmod_eq_of_le (by omega) (by omega)
theorem pk_sneg {a b : Nat} (hb : b < 2 ^ 30) (h : a < b) : nI a - nI b < 0 := by
  rw [Int32.lt_iff_toInt_lt, pk_sub_toInt (by omega) hb, show (0 : Int32).toInt = 0 from by decide]
  omega
theorem pk_ix (x : Int32) {n : Nat} (hn : n < 2 ^ 31) : x < 0 ∨ nI n ≤ x ∨ ∃ j : Nat, j < n ∧ x = nI j := by
  by_cases h : x < 0
  · exact Or.inl h
  · obtain ⟨j, hj, rfl⟩ := nI_of h
    by_cases h2 : j < n
    · exact Or.inr (Or.inr ⟨j, h2, rfl⟩)
    · exact Or.inr (Or.inl (nI_le (by omega) hj))
theorem pk_le {x y : Int32} {A B : Prop} (a b : Nat) (f : a ≤ b → A) (g : b < a → B) (hx : x = nI a := by rfl) (hy : y = nI b := by rfl) (ha : a < 2 ^ 31 := by omega) (hb : b < 2 ^ 31 := by omega) : (x ≤ y → A) ∧ (¬ x ≤ y → B) := by
  subst hx hy
  rw [nI_leI ha hb]
  exact ⟨f, fun z => g (by omega)⟩
theorem pk_lt {x y : Int32} {A B : Prop} (a b : Nat) (f : a < b → A) (g : b ≤ a → B) (hx : x = nI a := by rfl) (hy : y = nI b := by rfl) (ha : a < 2 ^ 31 := by omega) (hb : b < 2 ^ 31 := by omega) : (x < y → A) ∧ (¬ x < y → B) := by
  subst hx hy
  rw [nI_ltI ha hb]
  exact ⟨f, fun z => g (by omega)⟩
theorem pk_eq {x y : Int32} {A B : Prop} (a b : Nat) (f : a = b → A) (g : a ≠ b → B) (hx : x = nI a := by rfl) (hy : y = nI b := by rfl) (ha : a < 2 ^ 31 := by omega) (hb : b < 2 ^ 31 := by omega) : (x = y → A) ∧ (¬ x = y → B) := by
  subst hx hy
  rw [nI_eq ha hb]
  exact ⟨f, g⟩
theorem pk_in {x : Int32} (n N : Nat) (h : n < N) (hx : x = nI n := by rfl) (hN : N < 2 ^ 31 := by omega) : vp_in x N := by
  subst hx
  exact vp_in_nI h hN
theorem pk_cl {x : Int32} (n : Nat) (hx : x = nI n := by rfl) (h : n < 2 ^ 31 := by omega) : x.toNatClampNeg = n := by
  subst hx
  exact nI_clamp h
theorem pk_tn {n : Nat} (h : n < 2 ^ 32) : (nI n).toBitVec.toNat = n := Nat.mod_eq_of_lt h
theorem pk_and (x : Int32) {m : Int32} (k : Nat) (hm : m.toBitVec.toNat = 2 ^ k - 1) : x &&& m = nI (x.toBitVec.toNat % 2 ^ k) := by
  apply Int32.toBitVec_inj.mp
  apply BitVec.eq_of_toNat_eq
  rw [Int32.toBitVec_and, BitVec.toNat_and, hm, Nat.and_two_pow_sub_one_eq_mod]
  show _ = (BitVec.ofNat 32 _).toNat
  rw [BitVec.toNat_ofNat]
  exact (Nat.mod_eq_of_lt (Nat.lt_of_le_of_lt (Nat.mod_le _ _) x.toBitVec.isLt)).symm
theorem pk_andN {n : Nat} (h : n < 2 ^ 32) {m : Int32} (k : Nat) (hm : m.toBitVec.toNat = 2 ^ k - 1) : nI n &&& m = nI (n % 2 ^ k) := by
  rw [pk_and _ k hm, pk_tn h]
theorem pk_andE (x : Int32) {m : Int32} (k : Nat) (hm : m.toBitVec.toNat = 2 ^ k - 1) : ∃ j : Nat, j < 2 ^ k ∧ x &&& m = nI j := ⟨_, Nat.mod_lt _ (Nat.two_pow_pos k), pk_and x k hm⟩
theorem pk_andIn (x : Int32) {m : Int32} (k : Nat) (hm : m.toBitVec.toNat = 2 ^ k - 1) (hk : k ≤ 30) : vp_in (x &&& m) (2 ^ k) := by
  obtain ⟨j, hj, e⟩ := pk_andE x k hm
  rw [e]
  exact vp_in_nI hj (Nat.lt_of_le_of_lt (Nat.pow_le_pow_right (by decide) hk) (by decide))
theorem pk_shl (a s : Int32) (k : Nat) (hs : (s.toBitVec.smod 32).toNat = k) : (a <<< s).toBitVec.toNat = a.toBitVec.toNat * 2 ^ k % 2 ^ 32 := by
  show (a.toBitVec <<< (s.toBitVec.smod 32).toNat).toNat = _
  rw [hs, BitVec.toNat_shiftLeft, Nat.shiftLeft_eq]
theorem pk_shlN {n : Nat} (s : Int32) (k : Nat) (hs : (s.toBitVec.smod 32).toNat = k) (h : n * 2 ^ k < 2 ^ 32) : nI n <<< s = nI (n * 2 ^ k) := by
  apply Int32.toBitVec_inj.mp
  apply BitVec.eq_of_toNat_eq
  have hn : n < 2 ^ 32 := Nat.lt_of_le_of_lt (Nat.le_mul_of_pos_right n (Nat.two_pow_pos k)) h
  rw [pk_shl _ _ k hs, pk_tn hn, pk_tn h, Nat.mod_eq_of_lt h]
theorem pk_shr (a s : Int32) (k : Nat) (hs : (s.toBitVec.smod 32).toNat = k) : (a >>> s).toInt = a.toInt >>> k := by
  show (a.toBitVec.sshiftRight (s.toBitVec.smod 32).toNat).toInt = _
  rw [hs, BitVec.toInt_sshiftRight]
  rfl
theorem pk_shrN {n : Nat} (h : n < 2 ^ 31) (s : Int32) (k : Nat) (hs : (s.toBitVec.smod 32).toNat = k) : nI n >>> s = nI (n / 2 ^ k) := by
  apply Int32.toInt_inj.mp
  have h2 : n / 2 ^ k ≤ n := Nat.div_le_self _ _
  rw [pk_shr _ _ k hs, nI_toInt h, nI_toInt (by omega), Int.shiftRight_eq_div_pow]
  rfl
theorem pk_ushr (x s : Int32) (k : Nat) (hs : ((s.toUInt32 &&& Int32.toUInt32 31).toBitVec % 32).toNat = k) : (x.toUInt32 >>> (s.toUInt32 &&& Int32.toUInt32 31)).toInt32.toBitVec.toNat = x.toBitVec.toNat / 2 ^ k := by
  have e : (x.toUInt32 >>> (s.toUInt32 &&& Int32.toUInt32 31)).toInt32.toBitVec = x.toBitVec >>> k := by
    rw [← hs]
    exact UInt32.toBitVec_shiftRight _ _
  rw [e, BitVec.toNat_ushiftRight, Nat.shiftRight_eq_div_pow]
theorem pk_ushrN {n : Nat} (hn : n < 2 ^ 32) (s : Int32) (k : Nat) (hs : ((s.toUInt32 &&& Int32.toUInt32 31).toBitVec % 32).toNat = k) : ((nI n).toUInt32 >>> (s.toUInt32 &&& Int32.toUInt32 31)).toInt32 = nI (n / 2 ^ k) := by
  apply Int32.toBitVec_inj.mp
  apply BitVec.eq_of_toNat_eq
  rw [pk_ushr _ s k hs, pk_tn hn, pk_tn (Nat.lt_of_le_of_lt (Nat.div_le_self _ _) hn)]
theorem pk_nb (z : Int32) : narrow .byte (.int z.toInt8.toInt32) = .int z.toInt8.toInt32 := congrArg Value.int (by simp)
theorem pk_ns (z : Int32) : narrow .short (.int z.toInt16.toInt32) = .int z.toInt16.toInt32 := congrArg Value.int (by simp)
theorem pk_fb (r : Int32) : fits .byte (.int r.toInt8.toInt32) = true := by
  have ⟨a, b⟩ := lg_i2b_range r
  have h1 : (-128 : Int32).toInt = -128 := by decide
  have h2 : (127 : Int32).toInt = 127 := by decide
  simp only [fits, Bool.and_eq_true, decide_eq_true_eq, Int32.le_iff_toInt_le, h1, h2]
  omega
theorem pk_fs (r : Int32) : fits .short (.int r.toInt16.toInt32) = true := by
  have ⟨a, b⟩ := lg_i2s_range r
  have h1 : (-32768 : Int32).toInt = -32768 := by decide
  have h2 : (32767 : Int32).toInt = 32767 := by decide
  simp only [fits, Bool.and_eq_true, decide_eq_true_eq, Int32.le_iff_toInt_le, h1, h2]
  omega
theorem pk_charN {q : Nat} (hq : q < 65536) : narrow .char (.int (nI q)) = .int (nI q) ∧ fits .char (.int (nI q)) = true := by
  constructor
  · have e : (nI q).toUInt32.toUInt16.toUInt32.toInt32 = nI q := by
      apply Int32.toBitVec_inj.mp
      apply BitVec.eq_of_toNat_eq
      show (nI q).toUInt32.toUInt16.toUInt32.toNat = q % 2 ^ 32
      rw [UInt16.toNat_toUInt32, UInt32.toNat_toUInt16, show (nI q).toUInt32.toNat = q % 2 ^ 32 from rfl]
      omega
    exact congrArg Value.int e
  · have a : (0 : Int32) ≤ nI q := nI_pos' (by omega)
    have b : nI q ≤ 65535 := nI_le (b := 65535) (by omega) (by decide)
    show (decide ((0 : Int32) ≤ nI q) && decide (nI q ≤ 65535)) = true
    rw [decide_eq_true a, decide_eq_true b]
    rfl
theorem pk_char (x : Int32) : (x.toUInt32 % 65536).toInt32 = nI (x.toBitVec.toNat % 65536) := by
  apply Int32.toBitVec_inj.mp
  apply BitVec.eq_of_toNat_eq
  rw [pk_tn (by omega)]
  show (x.toUInt32 % 65536).toNat = _
  rw [UInt32.toNat_mod]
  rfl
theorem pk_nc (x : Int32) : narrow .char (.int (x.toUInt32 % 65536).toInt32) = .int (x.toUInt32 % 65536).toInt32 := by
  rw [pk_char]
  exact (pk_charN (Nat.mod_lt _ (by decide))).1
theorem pk_fc (x : Int32) : fits .char (.int (x.toUInt32 % 65536).toInt32) = true := by
  rw [pk_char]
  exact (pk_charN (Nat.mod_lt _ (by decide))).2
theorem pk_vb (z : Int32) : vp_nar .byte z.toInt8.toInt32 = z.toInt8.toInt32 := by rw [vp_nar_byte]; simp
theorem pk_vs (z : Int32) : vp_nar .short z.toInt16.toInt32 = z.toInt16.toInt32 := by rw [vp_nar_short]; simp
theorem pk_vc (z : Int32) : vp_nar .char (z.toUInt32 % 65536).toInt32 = (z.toUInt32 % 65536).toInt32 := Value.int.inj (pk_nc z)
theorem pk_lT {n : Nat} (h : n < 2 ^ 63) : (lN n).toInt = (n : Int) := lg_ofNat_toInt h
theorem pk_lLT {a b : Nat} (ha : a < 2 ^ 63) (hb : b < 2 ^ 63) : lN a < lN b ↔ a < b := by
  rw [Int64.lt_iff_toInt_lt, pk_lT ha, pk_lT hb]; omega
theorem pk_lLE {a b : Nat} (ha : a < 2 ^ 63) (hb : b < 2 ^ 63) : lN a ≤ lN b ↔ a ≤ b := by
  rw [Int64.le_iff_toInt_le, pk_lT ha, pk_lT hb]; omega
theorem pk_lEQ {a b : Nat} (ha : a < 2 ^ 63) (hb : b < 2 ^ 63) : lN a = lN b ↔ a = b := by
  rw [← Int64.toInt_inj, pk_lT ha, pk_lT hb]; omega
theorem pk_lOf {x : Int64} (h : ¬ x < 0) : ∃ k : Nat, k < 2 ^ 63 ∧ x = lN k := by
  rw [Int64.lt_iff_toInt_lt] at h
  have h0 : (0 : Int64).toInt = 0 := by decide
  have hx := Int64.toInt_lt x
  refine ⟨x.toInt.toNat, by omega, Int64.toInt_inj.mp ?_⟩
  rw [pk_lT (by omega)]
  omega
theorem pk_lDiv {a b : Nat} (ha : a < 2 ^ 63) (h0 : 0 < b) (hb : b < 2 ^ 63) : lN a / lN b = lN (a / b) := by
  apply Int64.toInt_inj.mp
  rw [lg_ldiv_nonneg (by rw [pk_lT ha]; omega) (by rw [pk_lT hb]; omega), pk_lT ha, pk_lT hb, pk_lT (Nat.lt_of_le_of_lt (Nat.div_le_self a b) ha)]
  rfl
theorem pk_lRem {a b : Nat} (ha : a < 2 ^ 63) (h0 : 0 < b) (hb : b < 2 ^ 63) : lN a - lN a / lN b * lN b = lN (a % b) := by
  rw [pk_lDiv ha h0 hb, lN_mul, lN_sub (Nat.div_mul_le_self a b)]
  exact congrArg lN (by have := Nat.div_add_mod' a b; omega)
theorem pk_loop {σ : Type} (W : Nat → Nat → σ → Prop) (I : Nat → σ → Prop) (e i0 : Nat) (s : σ) (hi : i0 ≤ e) (h0 : I i0 s) (hx : ∀ n s, I e s → W (n + 1) e s)
    (hs : ∀ n i s, i < e → I i s → (∀ s', I (i + 1) s' → W n (i + 1) s') → W (n + 1) i s) : ∃ n, W n i0 s :=
  ⟨e + 1, loop_i W I e hx hs (e + 1) i0 s hi (by omega) h0⟩
theorem pk_loopD {σ : Type} (W : Nat → Nat → σ → Prop) (I : Nat → σ → Prop) (hx : ∀ n s, I 0 s → W (n + 1) 0 s)
    (hs : ∀ n i s, I (i + 1) s → (∀ s', I i s' → W n i s') → W (n + 1) (i + 1) s) : ∀ (e : Nat) (s : σ), I e s → W (e + 1) e s := by
  intro e
  induction e with
  | zero => exact fun s h => hx 0 s h
  | succ e ih => exact fun s h => hs (e + 1) e s h (fun s' h' => ih s' h')
theorem lp1 {A1 : Type} (W : Nat → A1 → Prop) (I : A1 → Prop) (μ : A1 → Nat) (hs : ∀ (n : Nat) (a1 : A1), I a1 → (∀ (b1 : A1), I b1 → μ b1 < μ a1 → W n b1) → W (n + 1) a1) (a1 : A1) (h : I a1) : ∃ n, W n a1 :=
  loop_m (σ := A1) (fun n s => W n s) (fun s => I s) (fun s => μ s) (fun n s hI hk => hs n s hI (fun b1 h9 hm => hk b1 h9 hm)) a1 h
theorem lp2 {A1 A2 : Type} (W : Nat → A1 → A2 → Prop) (I : A1 → A2 → Prop) (μ : A1 → A2 → Nat) (hs : ∀ (n : Nat) (a1 : A1) (a2 : A2), I a1 a2 → (∀ (b1 : A1) (b2 : A2), I b1 b2 → μ b1 b2 < μ a1 a2 → W n b1 b2) → W (n + 1) a1 a2) (a1 : A1) (a2 : A2) (h : I a1 a2) : ∃ n, W n a1 a2 :=
  loop_m (σ := A1 × A2) (fun n s => W n s.1 s.2) (fun s => I s.1 s.2) (fun s => μ s.1 s.2) (fun n s hI hk => hs n s.1 s.2 hI (fun b1 b2 h9 hm => hk (b1, b2) h9 hm)) (a1, a2) h
theorem lp3 {A1 A2 A3 : Type} (W : Nat → A1 → A2 → A3 → Prop) (I : A1 → A2 → A3 → Prop) (μ : A1 → A2 → A3 → Nat) (hs : ∀ (n : Nat) (a1 : A1) (a2 : A2) (a3 : A3), I a1 a2 a3 → (∀ (b1 : A1) (b2 : A2) (b3 : A3), I b1 b2 b3 → μ b1 b2 b3 < μ a1 a2 a3 → W n b1 b2 b3) → W (n + 1) a1 a2 a3) (a1 : A1) (a2 : A2) (a3 : A3) (h : I a1 a2 a3) : ∃ n, W n a1 a2 a3 :=
  loop_m (σ := A1 × A2 × A3) (fun n s => W n s.1 s.2.1 s.2.2) (fun s => I s.1 s.2.1 s.2.2) (fun s => μ s.1 s.2.1 s.2.2) (fun n s hI hk => hs n s.1 s.2.1 s.2.2 hI (fun b1 b2 b3 h9 hm => hk (b1, b2, b3) h9 hm)) (a1, a2, a3) h
theorem lp4 {A1 A2 A3 A4 : Type} (W : Nat → A1 → A2 → A3 → A4 → Prop) (I : A1 → A2 → A3 → A4 → Prop) (μ : A1 → A2 → A3 → A4 → Nat) (hs : ∀ (n : Nat) (a1 : A1) (a2 : A2) (a3 : A3) (a4 : A4), I a1 a2 a3 a4 → (∀ (b1 : A1) (b2 : A2) (b3 : A3) (b4 : A4), I b1 b2 b3 b4 → μ b1 b2 b3 b4 < μ a1 a2 a3 a4 → W n b1 b2 b3 b4) → W (n + 1) a1 a2 a3 a4) (a1 : A1) (a2 : A2) (a3 : A3) (a4 : A4) (h : I a1 a2 a3 a4) : ∃ n, W n a1 a2 a3 a4 :=
  loop_m (σ := A1 × A2 × A3 × A4) (fun n s => W n s.1 s.2.1 s.2.2.1 s.2.2.2) (fun s => I s.1 s.2.1 s.2.2.1 s.2.2.2) (fun s => μ s.1 s.2.1 s.2.2.1 s.2.2.2) (fun n s hI hk => hs n s.1 s.2.1 s.2.2.1 s.2.2.2 hI (fun b1 b2 b3 b4 h9 hm => hk (b1, b2, b3, b4) h9 hm)) (a1, a2, a3, a4) h
theorem lp5 {A1 A2 A3 A4 A5 : Type} (W : Nat → A1 → A2 → A3 → A4 → A5 → Prop) (I : A1 → A2 → A3 → A4 → A5 → Prop) (μ : A1 → A2 → A3 → A4 → A5 → Nat) (hs : ∀ (n : Nat) (a1 : A1) (a2 : A2) (a3 : A3) (a4 : A4) (a5 : A5), I a1 a2 a3 a4 a5 → (∀ (b1 : A1) (b2 : A2) (b3 : A3) (b4 : A4) (b5 : A5), I b1 b2 b3 b4 b5 → μ b1 b2 b3 b4 b5 < μ a1 a2 a3 a4 a5 → W n b1 b2 b3 b4 b5) → W (n + 1) a1 a2 a3 a4 a5) (a1 : A1) (a2 : A2) (a3 : A3) (a4 : A4) (a5 : A5) (h : I a1 a2 a3 a4 a5) : ∃ n, W n a1 a2 a3 a4 a5 :=
  loop_m (σ := A1 × A2 × A3 × A4 × A5) (fun n s => W n s.1 s.2.1 s.2.2.1 s.2.2.2.1 s.2.2.2.2) (fun s => I s.1 s.2.1 s.2.2.1 s.2.2.2.1 s.2.2.2.2) (fun s => μ s.1 s.2.1 s.2.2.1 s.2.2.2.1 s.2.2.2.2) (fun n s hI hk => hs n s.1 s.2.1 s.2.2.1 s.2.2.2.1 s.2.2.2.2 hI (fun b1 b2 b3 b4 b5 h9 hm => hk (b1, b2, b3, b4, b5) h9 hm)) (a1, a2, a3, a4, a5) h
theorem lp6 {A1 A2 A3 A4 A5 A6 : Type} (W : Nat → A1 → A2 → A3 → A4 → A5 → A6 → Prop) (I : A1 → A2 → A3 → A4 → A5 → A6 → Prop) (μ : A1 → A2 → A3 → A4 → A5 → A6 → Nat) (hs : ∀ (n : Nat) (a1 : A1) (a2 : A2) (a3 : A3) (a4 : A4) (a5 : A5) (a6 : A6), I a1 a2 a3 a4 a5 a6 → (∀ (b1 : A1) (b2 : A2) (b3 : A3) (b4 : A4) (b5 : A5) (b6 : A6), I b1 b2 b3 b4 b5 b6 → μ b1 b2 b3 b4 b5 b6 < μ a1 a2 a3 a4 a5 a6 → W n b1 b2 b3 b4 b5 b6) → W (n + 1) a1 a2 a3 a4 a5 a6) (a1 : A1) (a2 : A2) (a3 : A3) (a4 : A4) (a5 : A5) (a6 : A6) (h : I a1 a2 a3 a4 a5 a6) : ∃ n, W n a1 a2 a3 a4 a5 a6 :=
  loop_m (σ := A1 × A2 × A3 × A4 × A5 × A6) (fun n s => W n s.1 s.2.1 s.2.2.1 s.2.2.2.1 s.2.2.2.2.1 s.2.2.2.2.2) (fun s => I s.1 s.2.1 s.2.2.1 s.2.2.2.1 s.2.2.2.2.1 s.2.2.2.2.2) (fun s => μ s.1 s.2.1 s.2.2.1 s.2.2.2.1 s.2.2.2.2.1 s.2.2.2.2.2) (fun n s hI hk => hs n s.1 s.2.1 s.2.2.1 s.2.2.2.1 s.2.2.2.2.1 s.2.2.2.2.2 hI (fun b1 b2 b3 b4 b5 b6 h9 hm => hk (b1, b2, b3, b4, b5, b6) h9 hm)) (a1, a2, a3, a4, a5, a6) h
theorem lp7 {A1 A2 A3 A4 A5 A6 A7 : Type} (W : Nat → A1 → A2 → A3 → A4 → A5 → A6 → A7 → Prop) (I : A1 → A2 → A3 → A4 → A5 → A6 → A7 → Prop) (μ : A1 → A2 → A3 → A4 → A5 → A6 → A7 → Nat) (hs : ∀ (n : Nat) (a1 : A1) (a2 : A2) (a3 : A3) (a4 : A4) (a5 : A5) (a6 : A6) (a7 : A7), I a1 a2 a3 a4 a5 a6 a7 → (∀ (b1 : A1) (b2 : A2) (b3 : A3) (b4 : A4) (b5 : A5) (b6 : A6) (b7 : A7), I b1 b2 b3 b4 b5 b6 b7 → μ b1 b2 b3 b4 b5 b6 b7 < μ a1 a2 a3 a4 a5 a6 a7 → W n b1 b2 b3 b4 b5 b6 b7) → W (n + 1) a1 a2 a3 a4 a5 a6 a7) (a1 : A1) (a2 : A2) (a3 : A3) (a4 : A4) (a5 : A5) (a6 : A6) (a7 : A7) (h : I a1 a2 a3 a4 a5 a6 a7) : ∃ n, W n a1 a2 a3 a4 a5 a6 a7 :=
  loop_m (σ := A1 × A2 × A3 × A4 × A5 × A6 × A7) (fun n s => W n s.1 s.2.1 s.2.2.1 s.2.2.2.1 s.2.2.2.2.1 s.2.2.2.2.2.1 s.2.2.2.2.2.2) (fun s => I s.1 s.2.1 s.2.2.1 s.2.2.2.1 s.2.2.2.2.1 s.2.2.2.2.2.1 s.2.2.2.2.2.2) (fun s => μ s.1 s.2.1 s.2.2.1 s.2.2.2.1 s.2.2.2.2.1 s.2.2.2.2.2.1 s.2.2.2.2.2.2) (fun n s hI hk => hs n s.1 s.2.1 s.2.2.1 s.2.2.2.1 s.2.2.2.2.1 s.2.2.2.2.2.1 s.2.2.2.2.2.2 hI (fun b1 b2 b3 b4 b5 b6 b7 h9 hm => hk (b1, b2, b3, b4, b5, b6, b7) h9 hm)) (a1, a2, a3, a4, a5, a6, a7) h
theorem lp8 {A1 A2 A3 A4 A5 A6 A7 A8 : Type} (W : Nat → A1 → A2 → A3 → A4 → A5 → A6 → A7 → A8 → Prop) (I : A1 → A2 → A3 → A4 → A5 → A6 → A7 → A8 → Prop) (μ : A1 → A2 → A3 → A4 → A5 → A6 → A7 → A8 → Nat) (hs : ∀ (n : Nat) (a1 : A1) (a2 : A2) (a3 : A3) (a4 : A4) (a5 : A5) (a6 : A6) (a7 : A7) (a8 : A8), I a1 a2 a3 a4 a5 a6 a7 a8 → (∀ (b1 : A1) (b2 : A2) (b3 : A3) (b4 : A4) (b5 : A5) (b6 : A6) (b7 : A7) (b8 : A8), I b1 b2 b3 b4 b5 b6 b7 b8 → μ b1 b2 b3 b4 b5 b6 b7 b8 < μ a1 a2 a3 a4 a5 a6 a7 a8 → W n b1 b2 b3 b4 b5 b6 b7 b8) → W (n + 1) a1 a2 a3 a4 a5 a6 a7 a8) (a1 : A1) (a2 : A2) (a3 : A3) (a4 : A4) (a5 : A5) (a6 : A6) (a7 : A7) (a8 : A8) (h : I a1 a2 a3 a4 a5 a6 a7 a8) : ∃ n, W n a1 a2 a3 a4 a5 a6 a7 a8 :=
  loop_m (σ := A1 × A2 × A3 × A4 × A5 × A6 × A7 × A8) (fun n s => W n s.1 s.2.1 s.2.2.1 s.2.2.2.1 s.2.2.2.2.1 s.2.2.2.2.2.1 s.2.2.2.2.2.2.1 s.2.2.2.2.2.2.2) (fun s => I s.1 s.2.1 s.2.2.1 s.2.2.2.1 s.2.2.2.2.1 s.2.2.2.2.2.1 s.2.2.2.2.2.2.1 s.2.2.2.2.2.2.2) (fun s => μ s.1 s.2.1 s.2.2.1 s.2.2.2.1 s.2.2.2.2.1 s.2.2.2.2.2.1 s.2.2.2.2.2.2.1 s.2.2.2.2.2.2.2) (fun n s hI hk => hs n s.1 s.2.1 s.2.2.1 s.2.2.2.1 s.2.2.2.2.1 s.2.2.2.2.2.1 s.2.2.2.2.2.2.1 s.2.2.2.2.2.2.2 hI (fun b1 b2 b3 b4 b5 b6 b7 b8 h9 hm => hk (b1, b2, b3, b4, b5, b6, b7, b8) h9 hm)) (a1, a2, a3, a4, a5, a6, a7, a8) h
theorem lp9 {A1 A2 A3 A4 A5 A6 A7 A8 A9 : Type} (W : Nat → A1 → A2 → A3 → A4 → A5 → A6 → A7 → A8 → A9 → Prop) (I : A1 → A2 → A3 → A4 → A5 → A6 → A7 → A8 → A9 → Prop) (μ : A1 → A2 → A3 → A4 → A5 → A6 → A7 → A8 → A9 → Nat) (hs : ∀ (n : Nat) (a1 : A1) (a2 : A2) (a3 : A3) (a4 : A4) (a5 : A5) (a6 : A6) (a7 : A7) (a8 : A8) (a9 : A9), I a1 a2 a3 a4 a5 a6 a7 a8 a9 → (∀ (b1 : A1) (b2 : A2) (b3 : A3) (b4 : A4) (b5 : A5) (b6 : A6) (b7 : A7) (b8 : A8) (b9 : A9), I b1 b2 b3 b4 b5 b6 b7 b8 b9 → μ b1 b2 b3 b4 b5 b6 b7 b8 b9 < μ a1 a2 a3 a4 a5 a6 a7 a8 a9 → W n b1 b2 b3 b4 b5 b6 b7 b8 b9) → W (n + 1) a1 a2 a3 a4 a5 a6 a7 a8 a9) (a1 : A1) (a2 : A2) (a3 : A3) (a4 : A4) (a5 : A5) (a6 : A6) (a7 : A7) (a8 : A8) (a9 : A9) (h : I a1 a2 a3 a4 a5 a6 a7 a8 a9) : ∃ n, W n a1 a2 a3 a4 a5 a6 a7 a8 a9 :=
  loop_m (σ := A1 × A2 × A3 × A4 × A5 × A6 × A7 × A8 × A9) (fun n s => W n s.1 s.2.1 s.2.2.1 s.2.2.2.1 s.2.2.2.2.1 s.2.2.2.2.2.1 s.2.2.2.2.2.2.1 s.2.2.2.2.2.2.2.1 s.2.2.2.2.2.2.2.2) (fun s => I s.1 s.2.1 s.2.2.1 s.2.2.2.1 s.2.2.2.2.1 s.2.2.2.2.2.1 s.2.2.2.2.2.2.1 s.2.2.2.2.2.2.2.1 s.2.2.2.2.2.2.2.2) (fun s => μ s.1 s.2.1 s.2.2.1 s.2.2.2.1 s.2.2.2.2.1 s.2.2.2.2.2.1 s.2.2.2.2.2.2.1 s.2.2.2.2.2.2.2.1 s.2.2.2.2.2.2.2.2) (fun n s hI hk => hs n s.1 s.2.1 s.2.2.1 s.2.2.2.1 s.2.2.2.2.1 s.2.2.2.2.2.1 s.2.2.2.2.2.2.1 s.2.2.2.2.2.2.2.1 s.2.2.2.2.2.2.2.2 hI (fun b1 b2 b3 b4 b5 b6 b7 b8 b9 h9 hm => hk (b1, b2, b3, b4, b5, b6, b7, b8, b9) h9 hm)) (a1, a2, a3, a4, a5, a6, a7, a8, a9) h
theorem lp10 {A1 A2 A3 A4 A5 A6 A7 A8 A9 A10 : Type} (W : Nat → A1 → A2 → A3 → A4 → A5 → A6 → A7 → A8 → A9 → A10 → Prop) (I : A1 → A2 → A3 → A4 → A5 → A6 → A7 → A8 → A9 → A10 → Prop) (μ : A1 → A2 → A3 → A4 → A5 → A6 → A7 → A8 → A9 → A10 → Nat) (hs : ∀ (n : Nat) (a1 : A1) (a2 : A2) (a3 : A3) (a4 : A4) (a5 : A5) (a6 : A6) (a7 : A7) (a8 : A8) (a9 : A9) (a10 : A10), I a1 a2 a3 a4 a5 a6 a7 a8 a9 a10 → (∀ (b1 : A1) (b2 : A2) (b3 : A3) (b4 : A4) (b5 : A5) (b6 : A6) (b7 : A7) (b8 : A8) (b9 : A9) (b10 : A10), I b1 b2 b3 b4 b5 b6 b7 b8 b9 b10 → μ b1 b2 b3 b4 b5 b6 b7 b8 b9 b10 < μ a1 a2 a3 a4 a5 a6 a7 a8 a9 a10 → W n b1 b2 b3 b4 b5 b6 b7 b8 b9 b10) → W (n + 1) a1 a2 a3 a4 a5 a6 a7 a8 a9 a10) (a1 : A1) (a2 : A2) (a3 : A3) (a4 : A4) (a5 : A5) (a6 : A6) (a7 : A7) (a8 : A8) (a9 : A9) (a10 : A10) (h : I a1 a2 a3 a4 a5 a6 a7 a8 a9 a10) : ∃ n, W n a1 a2 a3 a4 a5 a6 a7 a8 a9 a10 :=
  loop_m (σ := A1 × A2 × A3 × A4 × A5 × A6 × A7 × A8 × A9 × A10) (fun n s => W n s.1 s.2.1 s.2.2.1 s.2.2.2.1 s.2.2.2.2.1 s.2.2.2.2.2.1 s.2.2.2.2.2.2.1 s.2.2.2.2.2.2.2.1 s.2.2.2.2.2.2.2.2.1 s.2.2.2.2.2.2.2.2.2) (fun s => I s.1 s.2.1 s.2.2.1 s.2.2.2.1 s.2.2.2.2.1 s.2.2.2.2.2.1 s.2.2.2.2.2.2.1 s.2.2.2.2.2.2.2.1 s.2.2.2.2.2.2.2.2.1 s.2.2.2.2.2.2.2.2.2) (fun s => μ s.1 s.2.1 s.2.2.1 s.2.2.2.1 s.2.2.2.2.1 s.2.2.2.2.2.1 s.2.2.2.2.2.2.1 s.2.2.2.2.2.2.2.1 s.2.2.2.2.2.2.2.2.1 s.2.2.2.2.2.2.2.2.2) (fun n s hI hk => hs n s.1 s.2.1 s.2.2.1 s.2.2.2.1 s.2.2.2.2.1 s.2.2.2.2.2.1 s.2.2.2.2.2.2.1 s.2.2.2.2.2.2.2.1 s.2.2.2.2.2.2.2.2.1 s.2.2.2.2.2.2.2.2.2 hI (fun b1 b2 b3 b4 b5 b6 b7 b8 b9 b10 h9 hm => hk (b1, b2, b3, b4, b5, b6, b7, b8, b9, b10) h9 hm)) (a1, a2, a3, a4, a5, a6, a7, a8, a9, a10) h
theorem lp11 {A1 A2 A3 A4 A5 A6 A7 A8 A9 A10 A11 : Type} (W : Nat → A1 → A2 → A3 → A4 → A5 → A6 → A7 → A8 → A9 → A10 → A11 → Prop) (I : A1 → A2 → A3 → A4 → A5 → A6 → A7 → A8 → A9 → A10 → A11 → Prop) (μ : A1 → A2 → A3 → A4 → A5 → A6 → A7 → A8 → A9 → A10 → A11 → Nat) (hs : ∀ (n : Nat) (a1 : A1) (a2 : A2) (a3 : A3) (a4 : A4) (a5 : A5) (a6 : A6) (a7 : A7) (a8 : A8) (a9 : A9) (a10 : A10) (a11 : A11), I a1 a2 a3 a4 a5 a6 a7 a8 a9 a10 a11 → (∀ (b1 : A1) (b2 : A2) (b3 : A3) (b4 : A4) (b5 : A5) (b6 : A6) (b7 : A7) (b8 : A8) (b9 : A9) (b10 : A10) (b11 : A11), I b1 b2 b3 b4 b5 b6 b7 b8 b9 b10 b11 → μ b1 b2 b3 b4 b5 b6 b7 b8 b9 b10 b11 < μ a1 a2 a3 a4 a5 a6 a7 a8 a9 a10 a11 → W n b1 b2 b3 b4 b5 b6 b7 b8 b9 b10 b11) → W (n + 1) a1 a2 a3 a4 a5 a6 a7 a8 a9 a10 a11) (a1 : A1) (a2 : A2) (a3 : A3) (a4 : A4) (a5 : A5) (a6 : A6) (a7 : A7) (a8 : A8) (a9 : A9) (a10 : A10) (a11 : A11) (h : I a1 a2 a3 a4 a5 a6 a7 a8 a9 a10 a11) : ∃ n, W n a1 a2 a3 a4 a5 a6 a7 a8 a9 a10 a11 :=
  loop_m (σ := A1 × A2 × A3 × A4 × A5 × A6 × A7 × A8 × A9 × A10 × A11) (fun n s => W n s.1 s.2.1 s.2.2.1 s.2.2.2.1 s.2.2.2.2.1 s.2.2.2.2.2.1 s.2.2.2.2.2.2.1 s.2.2.2.2.2.2.2.1 s.2.2.2.2.2.2.2.2.1 s.2.2.2.2.2.2.2.2.2.1 s.2.2.2.2.2.2.2.2.2.2) (fun s => I s.1 s.2.1 s.2.2.1 s.2.2.2.1 s.2.2.2.2.1 s.2.2.2.2.2.1 s.2.2.2.2.2.2.1 s.2.2.2.2.2.2.2.1 s.2.2.2.2.2.2.2.2.1 s.2.2.2.2.2.2.2.2.2.1 s.2.2.2.2.2.2.2.2.2.2) (fun s => μ s.1 s.2.1 s.2.2.1 s.2.2.2.1 s.2.2.2.2.1 s.2.2.2.2.2.1 s.2.2.2.2.2.2.1 s.2.2.2.2.2.2.2.1 s.2.2.2.2.2.2.2.2.1 s.2.2.2.2.2.2.2.2.2.1 s.2.2.2.2.2.2.2.2.2.2) (fun n s hI hk => hs n s.1 s.2.1 s.2.2.1 s.2.2.2.1 s.2.2.2.2.1 s.2.2.2.2.2.1 s.2.2.2.2.2.2.1 s.2.2.2.2.2.2.2.1 s.2.2.2.2.2.2.2.2.1 s.2.2.2.2.2.2.2.2.2.1 s.2.2.2.2.2.2.2.2.2.2 hI (fun b1 b2 b3 b4 b5 b6 b7 b8 b9 b10 b11 h9 hm => hk (b1, b2, b3, b4, b5, b6, b7, b8, b9, b10, b11) h9 hm)) (a1, a2, a3, a4, a5, a6, a7, a8, a9, a10, a11) h
theorem lp12 {A1 A2 A3 A4 A5 A6 A7 A8 A9 A10 A11 A12 : Type} (W : Nat → A1 → A2 → A3 → A4 → A5 → A6 → A7 → A8 → A9 → A10 → A11 → A12 → Prop) (I : A1 → A2 → A3 → A4 → A5 → A6 → A7 → A8 → A9 → A10 → A11 → A12 → Prop) (μ : A1 → A2 → A3 → A4 → A5 → A6 → A7 → A8 → A9 → A10 → A11 → A12 → Nat) (hs : ∀ (n : Nat) (a1 : A1) (a2 : A2) (a3 : A3) (a4 : A4) (a5 : A5) (a6 : A6) (a7 : A7) (a8 : A8) (a9 : A9) (a10 : A10) (a11 : A11) (a12 : A12), I a1 a2 a3 a4 a5 a6 a7 a8 a9 a10 a11 a12 → (∀ (b1 : A1) (b2 : A2) (b3 : A3) (b4 : A4) (b5 : A5) (b6 : A6) (b7 : A7) (b8 : A8) (b9 : A9) (b10 : A10) (b11 : A11) (b12 : A12), I b1 b2 b3 b4 b5 b6 b7 b8 b9 b10 b11 b12 → μ b1 b2 b3 b4 b5 b6 b7 b8 b9 b10 b11 b12 < μ a1 a2 a3 a4 a5 a6 a7 a8 a9 a10 a11 a12 → W n b1 b2 b3 b4 b5 b6 b7 b8 b9 b10 b11 b12) → W (n + 1) a1 a2 a3 a4 a5 a6 a7 a8 a9 a10 a11 a12) (a1 : A1) (a2 : A2) (a3 : A3) (a4 : A4) (a5 : A5) (a6 : A6) (a7 : A7) (a8 : A8) (a9 : A9) (a10 : A10) (a11 : A11) (a12 : A12) (h : I a1 a2 a3 a4 a5 a6 a7 a8 a9 a10 a11 a12) : ∃ n, W n a1 a2 a3 a4 a5 a6 a7 a8 a9 a10 a11 a12 :=
  loop_m (σ := A1 × A2 × A3 × A4 × A5 × A6 × A7 × A8 × A9 × A10 × A11 × A12) (fun n s => W n s.1 s.2.1 s.2.2.1 s.2.2.2.1 s.2.2.2.2.1 s.2.2.2.2.2.1 s.2.2.2.2.2.2.1 s.2.2.2.2.2.2.2.1 s.2.2.2.2.2.2.2.2.1 s.2.2.2.2.2.2.2.2.2.1 s.2.2.2.2.2.2.2.2.2.2.1 s.2.2.2.2.2.2.2.2.2.2.2) (fun s => I s.1 s.2.1 s.2.2.1 s.2.2.2.1 s.2.2.2.2.1 s.2.2.2.2.2.1 s.2.2.2.2.2.2.1 s.2.2.2.2.2.2.2.1 s.2.2.2.2.2.2.2.2.1 s.2.2.2.2.2.2.2.2.2.1 s.2.2.2.2.2.2.2.2.2.2.1 s.2.2.2.2.2.2.2.2.2.2.2) (fun s => μ s.1 s.2.1 s.2.2.1 s.2.2.2.1 s.2.2.2.2.1 s.2.2.2.2.2.1 s.2.2.2.2.2.2.1 s.2.2.2.2.2.2.2.1 s.2.2.2.2.2.2.2.2.1 s.2.2.2.2.2.2.2.2.2.1 s.2.2.2.2.2.2.2.2.2.2.1 s.2.2.2.2.2.2.2.2.2.2.2) (fun n s hI hk => hs n s.1 s.2.1 s.2.2.1 s.2.2.2.1 s.2.2.2.2.1 s.2.2.2.2.2.1 s.2.2.2.2.2.2.1 s.2.2.2.2.2.2.2.1 s.2.2.2.2.2.2.2.2.1 s.2.2.2.2.2.2.2.2.2.1 s.2.2.2.2.2.2.2.2.2.2.1 s.2.2.2.2.2.2.2.2.2.2.2 hI (fun b1 b2 b3 b4 b5 b6 b7 b8 b9 b10 b11 b12 h9 hm => hk (b1, b2, b3, b4, b5, b6, b7, b8, b9, b10, b11, b12) h9 hm)) (a1, a2, a3, a4, a5, a6, a7, a8, a9, a10, a11, a12) h
theorem lp13 {A1 A2 A3 A4 A5 A6 A7 A8 A9 A10 A11 A12 A13 : Type} (W : Nat → A1 → A2 → A3 → A4 → A5 → A6 → A7 → A8 → A9 → A10 → A11 → A12 → A13 → Prop) (I : A1 → A2 → A3 → A4 → A5 → A6 → A7 → A8 → A9 → A10 → A11 → A12 → A13 → Prop) (μ : A1 → A2 → A3 → A4 → A5 → A6 → A7 → A8 → A9 → A10 → A11 → A12 → A13 → Nat) (hs : ∀ (n : Nat) (a1 : A1) (a2 : A2) (a3 : A3) (a4 : A4) (a5 : A5) (a6 : A6) (a7 : A7) (a8 : A8) (a9 : A9) (a10 : A10) (a11 : A11) (a12 : A12) (a13 : A13), I a1 a2 a3 a4 a5 a6 a7 a8 a9 a10 a11 a12 a13 → (∀ (b1 : A1) (b2 : A2) (b3 : A3) (b4 : A4) (b5 : A5) (b6 : A6) (b7 : A7) (b8 : A8) (b9 : A9) (b10 : A10) (b11 : A11) (b12 : A12) (b13 : A13), I b1 b2 b3 b4 b5 b6 b7 b8 b9 b10 b11 b12 b13 → μ b1 b2 b3 b4 b5 b6 b7 b8 b9 b10 b11 b12 b13 < μ a1 a2 a3 a4 a5 a6 a7 a8 a9 a10 a11 a12 a13 → W n b1 b2 b3 b4 b5 b6 b7 b8 b9 b10 b11 b12 b13) → W (n + 1) a1 a2 a3 a4 a5 a6 a7 a8 a9 a10 a11 a12 a13) (a1 : A1) (a2 : A2) (a3 : A3) (a4 : A4) (a5 : A5) (a6 : A6) (a7 : A7) (a8 : A8) (a9 : A9) (a10 : A10) (a11 : A11) (a12 : A12) (a13 : A13) (h : I a1 a2 a3 a4 a5 a6 a7 a8 a9 a10 a11 a12 a13) : ∃ n, W n a1 a2 a3 a4 a5 a6 a7 a8 a9 a10 a11 a12 a13 :=
  loop_m (σ := A1 × A2 × A3 × A4 × A5 × A6 × A7 × A8 × A9 × A10 × A11 × A12 × A13) (fun n s => W n s.1 s.2.1 s.2.2.1 s.2.2.2.1 s.2.2.2.2.1 s.2.2.2.2.2.1 s.2.2.2.2.2.2.1 s.2.2.2.2.2.2.2.1 s.2.2.2.2.2.2.2.2.1 s.2.2.2.2.2.2.2.2.2.1 s.2.2.2.2.2.2.2.2.2.2.1 s.2.2.2.2.2.2.2.2.2.2.2.1 s.2.2.2.2.2.2.2.2.2.2.2.2) (fun s => I s.1 s.2.1 s.2.2.1 s.2.2.2.1 s.2.2.2.2.1 s.2.2.2.2.2.1 s.2.2.2.2.2.2.1 s.2.2.2.2.2.2.2.1 s.2.2.2.2.2.2.2.2.1 s.2.2.2.2.2.2.2.2.2.1 s.2.2.2.2.2.2.2.2.2.2.1 s.2.2.2.2.2.2.2.2.2.2.2.1 s.2.2.2.2.2.2.2.2.2.2.2.2) (fun s => μ s.1 s.2.1 s.2.2.1 s.2.2.2.1 s.2.2.2.2.1 s.2.2.2.2.2.1 s.2.2.2.2.2.2.1 s.2.2.2.2.2.2.2.1 s.2.2.2.2.2.2.2.2.1 s.2.2.2.2.2.2.2.2.2.1 s.2.2.2.2.2.2.2.2.2.2.1 s.2.2.2.2.2.2.2.2.2.2.2.1 s.2.2.2.2.2.2.2.2.2.2.2.2) (fun n s hI hk => hs n s.1 s.2.1 s.2.2.1 s.2.2.2.1 s.2.2.2.2.1 s.2.2.2.2.2.1 s.2.2.2.2.2.2.1 s.2.2.2.2.2.2.2.1 s.2.2.2.2.2.2.2.2.1 s.2.2.2.2.2.2.2.2.2.1 s.2.2.2.2.2.2.2.2.2.2.1 s.2.2.2.2.2.2.2.2.2.2.2.1 s.2.2.2.2.2.2.2.2.2.2.2.2 hI (fun b1 b2 b3 b4 b5 b6 b7 b8 b9 b10 b11 b12 b13 h9 hm => hk (b1, b2, b3, b4, b5, b6, b7, b8, b9, b10, b11, b12, b13) h9 hm)) (a1, a2, a3, a4, a5, a6, a7, a8, a9, a10, a11, a12, a13) h
theorem lp14 {A1 A2 A3 A4 A5 A6 A7 A8 A9 A10 A11 A12 A13 A14 : Type} (W : Nat → A1 → A2 → A3 → A4 → A5 → A6 → A7 → A8 → A9 → A10 → A11 → A12 → A13 → A14 → Prop) (I : A1 → A2 → A3 → A4 → A5 → A6 → A7 → A8 → A9 → A10 → A11 → A12 → A13 → A14 → Prop) (μ : A1 → A2 → A3 → A4 → A5 → A6 → A7 → A8 → A9 → A10 → A11 → A12 → A13 → A14 → Nat) (hs : ∀ (n : Nat) (a1 : A1) (a2 : A2) (a3 : A3) (a4 : A4) (a5 : A5) (a6 : A6) (a7 : A7) (a8 : A8) (a9 : A9) (a10 : A10) (a11 : A11) (a12 : A12) (a13 : A13) (a14 : A14), I a1 a2 a3 a4 a5 a6 a7 a8 a9 a10 a11 a12 a13 a14 → (∀ (b1 : A1) (b2 : A2) (b3 : A3) (b4 : A4) (b5 : A5) (b6 : A6) (b7 : A7) (b8 : A8) (b9 : A9) (b10 : A10) (b11 : A11) (b12 : A12) (b13 : A13) (b14 : A14), I b1 b2 b3 b4 b5 b6 b7 b8 b9 b10 b11 b12 b13 b14 → μ b1 b2 b3 b4 b5 b6 b7 b8 b9 b10 b11 b12 b13 b14 < μ a1 a2 a3 a4 a5 a6 a7 a8 a9 a10 a11 a12 a13 a14 → W n b1 b2 b3 b4 b5 b6 b7 b8 b9 b10 b11 b12 b13 b14) → W (n + 1) a1 a2 a3 a4 a5 a6 a7 a8 a9 a10 a11 a12 a13 a14) (a1 : A1) (a2 : A2) (a3 : A3) (a4 : A4) (a5 : A5) (a6 : A6) (a7 : A7) (a8 : A8) (a9 : A9) (a10 : A10) (a11 : A11) (a12 : A12) (a13 : A13) (a14 : A14) (h : I a1 a2 a3 a4 a5 a6 a7 a8 a9 a10 a11 a12 a13 a14) : ∃ n, W n a1 a2 a3 a4 a5 a6 a7 a8 a9 a10 a11 a12 a13 a14 :=
  loop_m (σ := A1 × A2 × A3 × A4 × A5 × A6 × A7 × A8 × A9 × A10 × A11 × A12 × A13 × A14) (fun n s => W n s.1 s.2.1 s.2.2.1 s.2.2.2.1 s.2.2.2.2.1 s.2.2.2.2.2.1 s.2.2.2.2.2.2.1 s.2.2.2.2.2.2.2.1 s.2.2.2.2.2.2.2.2.1 s.2.2.2.2.2.2.2.2.2.1 s.2.2.2.2.2.2.2.2.2.2.1 s.2.2.2.2.2.2.2.2.2.2.2.1 s.2.2.2.2.2.2.2.2.2.2.2.2.1 s.2.2.2.2.2.2.2.2.2.2.2.2.2) (fun s => I s.1 s.2.1 s.2.2.1 s.2.2.2.1 s.2.2.2.2.1 s.2.2.2.2.2.1 s.2.2.2.2.2.2.1 s.2.2.2.2.2.2.2.1 s.2.2.2.2.2.2.2.2.1 s.2.2.2.2.2.2.2.2.2.1 s.2.2.2.2.2.2.2.2.2.2.1 s.2.2.2.2.2.2.2.2.2.2.2.1 s.2.2.2.2.2.2.2.2.2.2.2.2.1 s.2.2.2.2.2.2.2.2.2.2.2.2.2) (fun s => μ s.1 s.2.1 s.2.2.1 s.2.2.2.1 s.2.2.2.2.1 s.2.2.2.2.2.1 s.2.2.2.2.2.2.1 s.2.2.2.2.2.2.2.1 s.2.2.2.2.2.2.2.2.1 s.2.2.2.2.2.2.2.2.2.1 s.2.2.2.2.2.2.2.2.2.2.1 s.2.2.2.2.2.2.2.2.2.2.2.1 s.2.2.2.2.2.2.2.2.2.2.2.2.1 s.2.2.2.2.2.2.2.2.2.2.2.2.2) (fun n s hI hk => hs n s.1 s.2.1 s.2.2.1 s.2.2.2.1 s.2.2.2.2.1 s.2.2.2.2.2.1 s.2.2.2.2.2.2.1 s.2.2.2.2.2.2.2.1 s.2.2.2.2.2.2.2.2.1 s.2.2.2.2.2.2.2.2.2.1 s.2.2.2.2.2.2.2.2.2.2.1 s.2.2.2.2.2.2.2.2.2.2.2.1 s.2.2.2.2.2.2.2.2.2.2.2.2.1 s.2.2.2.2.2.2.2.2.2.2.2.2.2 hI (fun b1 b2 b3 b4 b5 b6 b7 b8 b9 b10 b11 b12 b13 b14 h9 hm => hk (b1, b2, b3, b4, b5, b6, b7, b8, b9, b10, b11, b12, b13, b14) h9 hm)) (a1, a2, a3, a4, a5, a6, a7, a8, a9, a10, a11, a12, a13, a14) h
theorem lp15 {A1 A2 A3 A4 A5 A6 A7 A8 A9 A10 A11 A12 A13 A14 A15 : Type} (W : Nat → A1 → A2 → A3 → A4 → A5 → A6 → A7 → A8 → A9 → A10 → A11 → A12 → A13 → A14 → A15 → Prop) (I : A1 → A2 → A3 → A4 → A5 → A6 → A7 → A8 → A9 → A10 → A11 → A12 → A13 → A14 → A15 → Prop) (μ : A1 → A2 → A3 → A4 → A5 → A6 → A7 → A8 → A9 → A10 → A11 → A12 → A13 → A14 → A15 → Nat) (hs : ∀ (n : Nat) (a1 : A1) (a2 : A2) (a3 : A3) (a4 : A4) (a5 : A5) (a6 : A6) (a7 : A7) (a8 : A8) (a9 : A9) (a10 : A10) (a11 : A11) (a12 : A12) (a13 : A13) (a14 : A14) (a15 : A15), I a1 a2 a3 a4 a5 a6 a7 a8 a9 a10 a11 a12 a13 a14 a15 → (∀ (b1 : A1) (b2 : A2) (b3 : A3) (b4 : A4) (b5 : A5) (b6 : A6) (b7 : A7) (b8 : A8) (b9 : A9) (b10 : A10) (b11 : A11) (b12 : A12) (b13 : A13) (b14 : A14) (b15 : A15), I b1 b2 b3 b4 b5 b6 b7 b8 b9 b10 b11 b12 b13 b14 b15 → μ b1 b2 b3 b4 b5 b6 b7 b8 b9 b10 b11 b12 b13 b14 b15 < μ a1 a2 a3 a4 a5 a6 a7 a8 a9 a10 a11 a12 a13 a14 a15 → W n b1 b2 b3 b4 b5 b6 b7 b8 b9 b10 b11 b12 b13 b14 b15) → W (n + 1) a1 a2 a3 a4 a5 a6 a7 a8 a9 a10 a11 a12 a13 a14 a15) (a1 : A1) (a2 : A2) (a3 : A3) (a4 : A4) (a5 : A5) (a6 : A6) (a7 : A7) (a8 : A8) (a9 : A9) (a10 : A10) (a11 : A11) (a12 : A12) (a13 : A13) (a14 : A14) (a15 : A15) (h : I a1 a2 a3 a4 a5 a6 a7 a8 a9 a10 a11 a12 a13 a14 a15) : ∃ n, W n a1 a2 a3 a4 a5 a6 a7 a8 a9 a10 a11 a12 a13 a14 a15 :=
  loop_m (σ := A1 × A2 × A3 × A4 × A5 × A6 × A7 × A8 × A9 × A10 × A11 × A12 × A13 × A14 × A15) (fun n s => W n s.1 s.2.1 s.2.2.1 s.2.2.2.1 s.2.2.2.2.1 s.2.2.2.2.2.1 s.2.2.2.2.2.2.1 s.2.2.2.2.2.2.2.1 s.2.2.2.2.2.2.2.2.1 s.2.2.2.2.2.2.2.2.2.1 s.2.2.2.2.2.2.2.2.2.2.1 s.2.2.2.2.2.2.2.2.2.2.2.1 s.2.2.2.2.2.2.2.2.2.2.2.2.1 s.2.2.2.2.2.2.2.2.2.2.2.2.2.1 s.2.2.2.2.2.2.2.2.2.2.2.2.2.2) (fun s => I s.1 s.2.1 s.2.2.1 s.2.2.2.1 s.2.2.2.2.1 s.2.2.2.2.2.1 s.2.2.2.2.2.2.1 s.2.2.2.2.2.2.2.1 s.2.2.2.2.2.2.2.2.1 s.2.2.2.2.2.2.2.2.2.1 s.2.2.2.2.2.2.2.2.2.2.1 s.2.2.2.2.2.2.2.2.2.2.2.1 s.2.2.2.2.2.2.2.2.2.2.2.2.1 s.2.2.2.2.2.2.2.2.2.2.2.2.2.1 s.2.2.2.2.2.2.2.2.2.2.2.2.2.2) (fun s => μ s.1 s.2.1 s.2.2.1 s.2.2.2.1 s.2.2.2.2.1 s.2.2.2.2.2.1 s.2.2.2.2.2.2.1 s.2.2.2.2.2.2.2.1 s.2.2.2.2.2.2.2.2.1 s.2.2.2.2.2.2.2.2.2.1 s.2.2.2.2.2.2.2.2.2.2.1 s.2.2.2.2.2.2.2.2.2.2.2.1 s.2.2.2.2.2.2.2.2.2.2.2.2.1 s.2.2.2.2.2.2.2.2.2.2.2.2.2.1 s.2.2.2.2.2.2.2.2.2.2.2.2.2.2) (fun n s hI hk => hs n s.1 s.2.1 s.2.2.1 s.2.2.2.1 s.2.2.2.2.1 s.2.2.2.2.2.1 s.2.2.2.2.2.2.1 s.2.2.2.2.2.2.2.1 s.2.2.2.2.2.2.2.2.1 s.2.2.2.2.2.2.2.2.2.1 s.2.2.2.2.2.2.2.2.2.2.1 s.2.2.2.2.2.2.2.2.2.2.2.1 s.2.2.2.2.2.2.2.2.2.2.2.2.1 s.2.2.2.2.2.2.2.2.2.2.2.2.2.1 s.2.2.2.2.2.2.2.2.2.2.2.2.2.2 hI (fun b1 b2 b3 b4 b5 b6 b7 b8 b9 b10 b11 b12 b13 b14 b15 h9 hm => hk (b1, b2, b3, b4, b5, b6, b7, b8, b9, b10, b11, b12, b13, b14, b15) h9 hm)) (a1, a2, a3, a4, a5, a6, a7, a8, a9, a10, a11, a12, a13, a14, a15) h
theorem lp16 {A1 A2 A3 A4 A5 A6 A7 A8 A9 A10 A11 A12 A13 A14 A15 A16 : Type} (W : Nat → A1 → A2 → A3 → A4 → A5 → A6 → A7 → A8 → A9 → A10 → A11 → A12 → A13 → A14 → A15 → A16 → Prop) (I : A1 → A2 → A3 → A4 → A5 → A6 → A7 → A8 → A9 → A10 → A11 → A12 → A13 → A14 → A15 → A16 → Prop) (μ : A1 → A2 → A3 → A4 → A5 → A6 → A7 → A8 → A9 → A10 → A11 → A12 → A13 → A14 → A15 → A16 → Nat) (hs : ∀ (n : Nat) (a1 : A1) (a2 : A2) (a3 : A3) (a4 : A4) (a5 : A5) (a6 : A6) (a7 : A7) (a8 : A8) (a9 : A9) (a10 : A10) (a11 : A11) (a12 : A12) (a13 : A13) (a14 : A14) (a15 : A15) (a16 : A16), I a1 a2 a3 a4 a5 a6 a7 a8 a9 a10 a11 a12 a13 a14 a15 a16 → (∀ (b1 : A1) (b2 : A2) (b3 : A3) (b4 : A4) (b5 : A5) (b6 : A6) (b7 : A7) (b8 : A8) (b9 : A9) (b10 : A10) (b11 : A11) (b12 : A12) (b13 : A13) (b14 : A14) (b15 : A15) (b16 : A16), I b1 b2 b3 b4 b5 b6 b7 b8 b9 b10 b11 b12 b13 b14 b15 b16 → μ b1 b2 b3 b4 b5 b6 b7 b8 b9 b10 b11 b12 b13 b14 b15 b16 < μ a1 a2 a3 a4 a5 a6 a7 a8 a9 a10 a11 a12 a13 a14 a15 a16 → W n b1 b2 b3 b4 b5 b6 b7 b8 b9 b10 b11 b12 b13 b14 b15 b16) → W (n + 1) a1 a2 a3 a4 a5 a6 a7 a8 a9 a10 a11 a12 a13 a14 a15 a16) (a1 : A1) (a2 : A2) (a3 : A3) (a4 : A4) (a5 : A5) (a6 : A6) (a7 : A7) (a8 : A8) (a9 : A9) (a10 : A10) (a11 : A11) (a12 : A12) (a13 : A13) (a14 : A14) (a15 : A15) (a16 : A16) (h : I a1 a2 a3 a4 a5 a6 a7 a8 a9 a10 a11 a12 a13 a14 a15 a16) : ∃ n, W n a1 a2 a3 a4 a5 a6 a7 a8 a9 a10 a11 a12 a13 a14 a15 a16 :=
  loop_m (σ := A1 × A2 × A3 × A4 × A5 × A6 × A7 × A8 × A9 × A10 × A11 × A12 × A13 × A14 × A15 × A16) (fun n s => W n s.1 s.2.1 s.2.2.1 s.2.2.2.1 s.2.2.2.2.1 s.2.2.2.2.2.1 s.2.2.2.2.2.2.1 s.2.2.2.2.2.2.2.1 s.2.2.2.2.2.2.2.2.1 s.2.2.2.2.2.2.2.2.2.1 s.2.2.2.2.2.2.2.2.2.2.1 s.2.2.2.2.2.2.2.2.2.2.2.1 s.2.2.2.2.2.2.2.2.2.2.2.2.1 s.2.2.2.2.2.2.2.2.2.2.2.2.2.1 s.2.2.2.2.2.2.2.2.2.2.2.2.2.2.1 s.2.2.2.2.2.2.2.2.2.2.2.2.2.2.2) (fun s => I s.1 s.2.1 s.2.2.1 s.2.2.2.1 s.2.2.2.2.1 s.2.2.2.2.2.1 s.2.2.2.2.2.2.1 s.2.2.2.2.2.2.2.1 s.2.2.2.2.2.2.2.2.1 s.2.2.2.2.2.2.2.2.2.1 s.2.2.2.2.2.2.2.2.2.2.1 s.2.2.2.2.2.2.2.2.2.2.2.1 s.2.2.2.2.2.2.2.2.2.2.2.2.1 s.2.2.2.2.2.2.2.2.2.2.2.2.2.1 s.2.2.2.2.2.2.2.2.2.2.2.2.2.2.1 s.2.2.2.2.2.2.2.2.2.2.2.2.2.2.2) (fun s => μ s.1 s.2.1 s.2.2.1 s.2.2.2.1 s.2.2.2.2.1 s.2.2.2.2.2.1 s.2.2.2.2.2.2.1 s.2.2.2.2.2.2.2.1 s.2.2.2.2.2.2.2.2.1 s.2.2.2.2.2.2.2.2.2.1 s.2.2.2.2.2.2.2.2.2.2.1 s.2.2.2.2.2.2.2.2.2.2.2.1 s.2.2.2.2.2.2.2.2.2.2.2.2.1 s.2.2.2.2.2.2.2.2.2.2.2.2.2.1 s.2.2.2.2.2.2.2.2.2.2.2.2.2.2.1 s.2.2.2.2.2.2.2.2.2.2.2.2.2.2.2) (fun n s hI hk => hs n s.1 s.2.1 s.2.2.1 s.2.2.2.1 s.2.2.2.2.1 s.2.2.2.2.2.1 s.2.2.2.2.2.2.1 s.2.2.2.2.2.2.2.1 s.2.2.2.2.2.2.2.2.1 s.2.2.2.2.2.2.2.2.2.1 s.2.2.2.2.2.2.2.2.2.2.1 s.2.2.2.2.2.2.2.2.2.2.2.1 s.2.2.2.2.2.2.2.2.2.2.2.2.1 s.2.2.2.2.2.2.2.2.2.2.2.2.2.1 s.2.2.2.2.2.2.2.2.2.2.2.2.2.2.1 s.2.2.2.2.2.2.2.2.2.2.2.2.2.2.2 hI (fun b1 b2 b3 b4 b5 b6 b7 b8 b9 b10 b11 b12 b13 b14 b15 b16 h9 hm => hk (b1, b2, b3, b4, b5, b6, b7, b8, b9, b10, b11, b12, b13, b14, b15, b16) h9 hm)) (a1, a2, a3, a4, a5, a6, a7, a8, a9, a10, a11, a12, a13, a14, a15, a16) h
theorem pk_least (P : Nat → Prop) (h : ∃ k, P k) : ∃ k, P k ∧ ∀ j, j < k → ¬ P j := by
  obtain ⟨k, hk⟩ := h
  induction k using Nat.strongRecOn with
  | ind k ih =>
    by_cases e : ∃ j, j < k ∧ P j
    · obtain ⟨j, hj, pj⟩ := e
      exact ih j hj pj
    · exact ⟨k, hk, fun j hj pj => e ⟨j, hj, pj⟩⟩
theorem rp1 {ρ A1 : Type} (W : Nat → (ρ → Prop) → A1 → Prop) (ok : A1 → Prop) (μ : A1 → Nat) (val : A1 → ρ)
    (hs : ∀ (d : Nat) (post : ρ → Prop) (a1 : A1), ok a1 → post (val a1) → (∀ (post' : ρ → Prop) (b1 : A1), ok b1 → μ b1 < μ a1 → post' (val b1) → W d post' b1) → W (d + 1) post a1) :
    ∀ (d : Nat) (post : ρ → Prop) (a1 : A1), ok a1 → μ a1 < d → post (val a1) → W d post a1 := by
  intro d
  induction d with
  | zero => intro post a1 _ h; omega
  | succ d ih =>
    intro post a1 ho hm hp
    exact hs d post a1 ho hp (fun post' b1 ho' hm' hp' => ih post' b1 ho' (by omega) hp')
theorem rp2 {ρ A1 A2 : Type} (W : Nat → (ρ → Prop) → A1 → A2 → Prop) (ok : A1 → A2 → Prop) (μ : A1 → A2 → Nat) (val : A1 → A2 → ρ)
    (hs : ∀ (d : Nat) (post : ρ → Prop) (a1 : A1) (a2 : A2), ok a1 a2 → post (val a1 a2) → (∀ (post' : ρ → Prop) (b1 : A1) (b2 : A2), ok b1 b2 → μ b1 b2 < μ a1 a2 → post' (val b1 b2) → W d post' b1 b2) → W (d + 1) post a1 a2) :
    ∀ (d : Nat) (post : ρ → Prop) (a1 : A1) (a2 : A2), ok a1 a2 → μ a1 a2 < d → post (val a1 a2) → W d post a1 a2 := by
  intro d
  induction d with
  | zero => intro post a1 a2 _ h; omega
  | succ d ih =>
    intro post a1 a2 ho hm hp
    exact hs d post a1 a2 ho hp (fun post' b1 b2 ho' hm' hp' => ih post' b1 b2 ho' (by omega) hp')
theorem rp3 {ρ A1 A2 A3 : Type} (W : Nat → (ρ → Prop) → A1 → A2 → A3 → Prop) (ok : A1 → A2 → A3 → Prop) (μ : A1 → A2 → A3 → Nat) (val : A1 → A2 → A3 → ρ)
    (hs : ∀ (d : Nat) (post : ρ → Prop) (a1 : A1) (a2 : A2) (a3 : A3), ok a1 a2 a3 → post (val a1 a2 a3) → (∀ (post' : ρ → Prop) (b1 : A1) (b2 : A2) (b3 : A3), ok b1 b2 b3 → μ b1 b2 b3 < μ a1 a2 a3 → post' (val b1 b2 b3) → W d post' b1 b2 b3) → W (d + 1) post a1 a2 a3) :
    ∀ (d : Nat) (post : ρ → Prop) (a1 : A1) (a2 : A2) (a3 : A3), ok a1 a2 a3 → μ a1 a2 a3 < d → post (val a1 a2 a3) → W d post a1 a2 a3 := by
  intro d
  induction d with
  | zero => intro post a1 a2 a3 _ h; omega
  | succ d ih =>
    intro post a1 a2 a3 ho hm hp
    exact hs d post a1 a2 a3 ho hp (fun post' b1 b2 b3 ho' hm' hp' => ih post' b1 b2 b3 ho' (by omega) hp')
theorem rp4 {ρ A1 A2 A3 A4 : Type} (W : Nat → (ρ → Prop) → A1 → A2 → A3 → A4 → Prop) (ok : A1 → A2 → A3 → A4 → Prop) (μ : A1 → A2 → A3 → A4 → Nat) (val : A1 → A2 → A3 → A4 → ρ)
    (hs : ∀ (d : Nat) (post : ρ → Prop) (a1 : A1) (a2 : A2) (a3 : A3) (a4 : A4), ok a1 a2 a3 a4 → post (val a1 a2 a3 a4) → (∀ (post' : ρ → Prop) (b1 : A1) (b2 : A2) (b3 : A3) (b4 : A4), ok b1 b2 b3 b4 → μ b1 b2 b3 b4 < μ a1 a2 a3 a4 → post' (val b1 b2 b3 b4) → W d post' b1 b2 b3 b4) → W (d + 1) post a1 a2 a3 a4) :
    ∀ (d : Nat) (post : ρ → Prop) (a1 : A1) (a2 : A2) (a3 : A3) (a4 : A4), ok a1 a2 a3 a4 → μ a1 a2 a3 a4 < d → post (val a1 a2 a3 a4) → W d post a1 a2 a3 a4 := by
  intro d
  induction d with
  | zero => intro post a1 a2 a3 a4 _ h; omega
  | succ d ih =>
    intro post a1 a2 a3 a4 ho hm hp
    exact hs d post a1 a2 a3 a4 ho hp (fun post' b1 b2 b3 b4 ho' hm' hp' => ih post' b1 b2 b3 b4 ho' (by omega) hp')
theorem rp5 {ρ A1 A2 A3 A4 A5 : Type} (W : Nat → (ρ → Prop) → A1 → A2 → A3 → A4 → A5 → Prop) (ok : A1 → A2 → A3 → A4 → A5 → Prop) (μ : A1 → A2 → A3 → A4 → A5 → Nat) (val : A1 → A2 → A3 → A4 → A5 → ρ)
    (hs : ∀ (d : Nat) (post : ρ → Prop) (a1 : A1) (a2 : A2) (a3 : A3) (a4 : A4) (a5 : A5), ok a1 a2 a3 a4 a5 → post (val a1 a2 a3 a4 a5) → (∀ (post' : ρ → Prop) (b1 : A1) (b2 : A2) (b3 : A3) (b4 : A4) (b5 : A5), ok b1 b2 b3 b4 b5 → μ b1 b2 b3 b4 b5 < μ a1 a2 a3 a4 a5 → post' (val b1 b2 b3 b4 b5) → W d post' b1 b2 b3 b4 b5) → W (d + 1) post a1 a2 a3 a4 a5) :
    ∀ (d : Nat) (post : ρ → Prop) (a1 : A1) (a2 : A2) (a3 : A3) (a4 : A4) (a5 : A5), ok a1 a2 a3 a4 a5 → μ a1 a2 a3 a4 a5 < d → post (val a1 a2 a3 a4 a5) → W d post a1 a2 a3 a4 a5 := by
  intro d
  induction d with
  | zero => intro post a1 a2 a3 a4 a5 _ h; omega
  | succ d ih =>
    intro post a1 a2 a3 a4 a5 ho hm hp
    exact hs d post a1 a2 a3 a4 a5 ho hp (fun post' b1 b2 b3 b4 b5 ho' hm' hp' => ih post' b1 b2 b3 b4 b5 ho' (by omega) hp')
theorem rp6 {ρ A1 A2 A3 A4 A5 A6 : Type} (W : Nat → (ρ → Prop) → A1 → A2 → A3 → A4 → A5 → A6 → Prop) (ok : A1 → A2 → A3 → A4 → A5 → A6 → Prop) (μ : A1 → A2 → A3 → A4 → A5 → A6 → Nat) (val : A1 → A2 → A3 → A4 → A5 → A6 → ρ)
    (hs : ∀ (d : Nat) (post : ρ → Prop) (a1 : A1) (a2 : A2) (a3 : A3) (a4 : A4) (a5 : A5) (a6 : A6), ok a1 a2 a3 a4 a5 a6 → post (val a1 a2 a3 a4 a5 a6) → (∀ (post' : ρ → Prop) (b1 : A1) (b2 : A2) (b3 : A3) (b4 : A4) (b5 : A5) (b6 : A6), ok b1 b2 b3 b4 b5 b6 → μ b1 b2 b3 b4 b5 b6 < μ a1 a2 a3 a4 a5 a6 → post' (val b1 b2 b3 b4 b5 b6) → W d post' b1 b2 b3 b4 b5 b6) → W (d + 1) post a1 a2 a3 a4 a5 a6) :
    ∀ (d : Nat) (post : ρ → Prop) (a1 : A1) (a2 : A2) (a3 : A3) (a4 : A4) (a5 : A5) (a6 : A6), ok a1 a2 a3 a4 a5 a6 → μ a1 a2 a3 a4 a5 a6 < d → post (val a1 a2 a3 a4 a5 a6) → W d post a1 a2 a3 a4 a5 a6 := by
  intro d
  induction d with
  | zero => intro post a1 a2 a3 a4 a5 a6 _ h; omega
  | succ d ih =>
    intro post a1 a2 a3 a4 a5 a6 ho hm hp
    exact hs d post a1 a2 a3 a4 a5 a6 ho hp (fun post' b1 b2 b3 b4 b5 b6 ho' hm' hp' => ih post' b1 b2 b3 b4 b5 b6 ho' (by omega) hp')
theorem rec_p {σ ρ : Type} (W : Nat → (ρ → Prop) → σ → Prop) (ok : σ → Prop) (μ : σ → Nat) (val : σ → ρ)
    (hs : ∀ d s post, ok s → post (val s) → (∀ s' post', ok s' → μ s' < μ s → post' (val s') → W d post' s') → W (d + 1) post s) :
    ∀ d s post, ok s → μ s < d → post (val s) → W d post s := by
  intro d
  induction d with
  | zero => intro s post _ h; omega
  | succ d ih =>
    intro s post ho hm hp
    exact hs d s post ho hp (fun s' post' ho' hm' hp' => ih s' post' ho' (by omega) hp')
theorem rec_q {σ ρ : Type} (W : Nat → (ρ → Prop) → σ → Prop) (ok : σ → Prop) (μ : σ → Nat) (Q : σ → ρ → Prop)
    (hs : ∀ d s post, ok s → (∀ r, Q s r → post r) → (∀ s' post', ok s' → μ s' < μ s → (∀ r, Q s' r → post' r) → W d post' s') → W (d + 1) post s) :
    ∀ d s post, ok s → μ s < d → (∀ r, Q s r → post r) → W d post s := by
  intro d
  induction d with
  | zero => intro s post _ h; omega
  | succ d ih =>
    intro s post ho hm hp
    exact hs d s post ho hp (fun s' post' ho' hm' hp' => ih s' post' ho' (by omega) hp')
def bx_sum (f : Nat → Int32) : Nat → Int32
  | 0 => 0
  | n + 1 => bx_sum f n + f n
theorem ek_u {A : Prop} {B : Nat → Prop} {k N : Nat} (hk : k < N) (h : B k) : (some k = none → A) ∧ (∀ y : Nat, some k = some y → (y < N ∧ B y)) :=
  ⟨fun z => absurd z (Option.some_ne_none k), fun _ e => (by cases e; exact ⟨hk, h⟩)⟩
theorem ek_nu {A : Prop} {B : Nat → Prop} (h : A) : ((none : Option Nat) = none → A) ∧ (∀ y : Nat, (none : Option Nat) = some y → B y) :=
  ⟨fun _ => h, fun _ e => (by cases e)⟩
theorem ek_if {c d A B : Prop} (e : c ↔ d) (f : d → A) (g : ¬ d → B) : (c → A) ∧ (¬ c → B) :=
  ⟨fun z => f (e.mp z), fun z => g (fun y => z (e.mpr y))⟩
theorem ek_v {α : Sort _} {P : α → Prop} {a b : α} (e : a = b) (h : P b) : P a := e ▸ h
theorem co_some {x : Option Nat} {A : Prop} {B : Nat → Prop} (i : Nat) (h : B i) (hx : x = some i := by rfl) : (x = none → A) ∧ (∀ y : Nat, x = some y → B y) := by
  subst hx
  exact ⟨fun e => (nomatch e), fun y e => Option.some.inj e ▸ h⟩
theorem co_none {x : Option Nat} {A : Prop} {B : Nat → Prop} (h : A) (hx : x = none := by rfl) : (x = none → A) ∧ (∀ y : Nat, x = some y → B y) := by
  subst hx
  exact ⟨fun _ => h, fun y e => (nomatch e)⟩
theorem co_any {x : Option Nat} {A : Prop} {B : Nat → Prop} (hn : x = none → A) (hs : ∀ i : Nat, x = some i → B i) : (x = none → A) ∧ (∀ y : Nat, x = some y → B y) := ⟨hn, hs⟩
theorem co_2 {P : Nat → Prop} (h0 : P 0) (h1 : P 1) {i : Nat} (hi : i < 2) : P i :=
  match i, hi with
  | 0, _ => h0
  | 1, _ => h1
theorem co_3 {P : Nat → Prop} (h0 : P 0) (h1 : P 1) (h2 : P 2) {i : Nat} (hi : i < 3) : P i :=
  match i, hi with
  | 0, _ => h0
  | 1, _ => h1
  | 2, _ => h2
theorem co_4 {P : Nat → Prop} (h0 : P 0) (h1 : P 1) (h2 : P 2) (h3 : P 3) {i : Nat} (hi : i < 4) : P i :=
  match i, hi with
  | 0, _ => h0
  | 1, _ => h1
  | 2, _ => h2
  | 3, _ => h3
theorem co_dec {N : Nat} {P : Nat → Prop} [DecidablePred P] (h : (List.range N).all (fun i => decide (P i)) = true) {i : Nat} (hi : i < N) : P i := by
  have := List.all_eq_true.mp h i (List.mem_range.mpr hi)
  exact of_decide_eq_true this
theorem co_tab {α : Type} {l : List α} {d : α} {P : α → Prop} (h : ∀ a, a ∈ l → P a) {i : Nat} (hi : i < l.length) : P (l.getD i d) := by
  rw [List.getD_eq_getElem?_getD, List.getElem?_eq_getElem hi]
  exact h _ (List.getElem_mem hi)
theorem pk_mu {x : Int32} {L : Nat} (h0 : ¬ x < 0) (h : ¬ nI L ≤ x) (hL : L < 2 ^ 31) : ∃ j : Nat, j < L ∧ x = nI j ∧ x + 1 = nI (j + 1) ∧ x.toNatClampNeg = j ∧ L - (x + 1).toNatClampNeg < L - x.toNatClampNeg := by
  obtain ⟨j, hj, rfl⟩ := nI_of h0
  have hl : j < L := Nat.not_le.mp fun q => h (nI_le q hj)
  refine ⟨j, hl, rfl, nI_1 j, nI_clamp hj, ?_⟩
  rw [nI_1, nI_clamp (by omega), nI_clamp hj]
  omega
theorem op_s {α : Type} {r : Option α} {A : Prop} {B : α → Prop} {y : α} (h : r = some y) (b : B y) : (r = none → A) ∧ ∀ z, r = some z → B z :=
  ⟨fun e => (by rw [h] at e; cases e), fun z e => (by rw [h] at e; cases e; exact b)⟩
def l_holds {α : Type} (a : Nat → Option Nat) (LP : List Nat) (p : Nat → α) (c : Nat) (b : Nat → α) : Prop :=
  ∀ j, j < c → ∃ y, a j = some y ∧ y ∈ LP ∧ p y = b j
theorem l_holds_0 {α : Type} {a : Nat → Option Nat} {LP : List Nat} {p b : Nat → α} : l_holds a LP p 0 b := fun j h => absurd h (Nat.not_lt_zero j)
theorem l_in_new (LP : List Nat) (q : Nat) : q ∈ LP ++ [q] := List.mem_append.mpr (Or.inr (List.mem_singleton.mpr rfl))
def l_sum (b : Nat → Int32) : Nat → Int32
  | 0 => 0
  | k + 1 => l_sum b k + b k
theorem sb_shr0 (x : Int32) : x >>> ((0 : Int32) &&& 31) = x := by
  rw [show ((0 : Int32) &&& 31) = 0 by decide]
  simp
theorem sb_shl0 (x : Int32) : x <<< ((0 : Int32) &&& 31) = x := by
  rw [show ((0 : Int32) &&& 31) = 0 by decide]
  simp
theorem sb_cl0 : (0 : Int32).toNatClampNeg = 0 := by decide
theorem sb_m1 {p : Nat} (h : 0 < p) : nI p + (-1) = nI (p - 1) := by
  obtain ⟨q, rfl⟩ : ∃ q, p = q + 1 := ⟨p - 1, by omega⟩
  exact pk_m1 q
def sb_b (c : Nat) : Int32 := (nI c).toInt8.toInt32
theorem sb_byte : ∀ c, c < 256 → sb_b c &&& 255 = nI c ∧ ((nI c).toUInt32 % 65536).toInt32 = nI c ∧ nI c ≤ 255 := by decide +kernel
def sb_Fit (a : Nat → Int32) : Prop := ∀ j, fits .byte (.int (a j)) = true
def sb_Lat (t : Nat → Nat) (n : Nat) (a : Nat → Int32) : Prop := ∀ j, j < n → t j < 256 ∧ a j = sb_b (t j)
theorem sb_fitB (c : Nat) : fits .byte (.int (sb_b c)) = true := pk_fb _
theorem sb_fit0 : sb_Fit (fun _ => 0) := fun _ => by
  show fits .byte (.int 0) = true
  decide
theorem sb_fitU {a : Nat → Int32} {k : Nat} {x : Int32} (h : sb_Fit a) (hx : fits .byte (.int x) = true) : sb_Fit (upd a k x) := by
  intro j
  by_cases e : j = k
  · subst e
    rw [pk_us]
    exact hx
  · rw [pk_un e]
    exact h j
def sb_cat (t : Nat → Nat) (n : Nat) (s : Nat → Nat) : Nat → Nat := fun j => if j < n then t j else s (j - n)
theorem sb_cat_lo {t s : Nat → Nat} {n j : Nat} (h : j < n) : sb_cat t n s j = t j := if_pos h
theorem sb_cat_hi {t s : Nat → Nat} {n j : Nat} : sb_cat t n s (n + j) = s j := by
  show (if n + j < n then t (n + j) else s (n + j - n)) = s j
  rw [if_neg (by omega), Nat.add_sub_cancel_left]
theorem sb_latPut {t s : Nat → Nat} {n w : Nat} {a a' : Nat → Int32} (h : sb_Lat t n a) (hk : ∀ j, j < n → a' j = a j) (hs : ∀ i, i < w → s i < 256 ∧ a' (n + i) = sb_b (s i)) : sb_Lat (sb_cat t n s) (n + w) a' := by
  intro j hj
  by_cases e : j < n
  · rw [sb_cat_lo e, hk j e]
    exact h j e
  · obtain ⟨i, rfl⟩ : ∃ i, j = n + i := ⟨j - n, by omega⟩
    rw [sb_cat_hi]
    exact hs i (by omega)
theorem sb_latKeep {t : Nat → Nat} {n : Nat} {a a' : Nat → Int32} (h : sb_Lat t n a) (hk : ∀ j, j < n → a' j = a j) : sb_Lat t n a' := fun j hj => by
  rw [hk j hj]
  exact h j hj
def sb_cap (q m : Nat) : Nat := if q ≤ m then m else if 2 * m + 2 < q then q else 2 * m + 2
def sb_Room (q m mc ms : Nat) : Prop := q ≤ m ∨ (1 ≤ mc ∧ sb_cap q m ≤ ms ∧ sb_cap q m ≤ 65536)
theorem sb_cap_ge (q m : Nat) : q ≤ sb_cap q m := by
  unfold sb_cap
  split
  · omega
  · split <;> omega
theorem sb_cap_gem (q m : Nat) : m ≤ sb_cap q m := by
  unfold sb_cap
  split
  · omega
  · split <;> omega
theorem sb_cap_le {q m mc ms : Nat} (hm : m ≤ 65536) (hr : sb_Room q m mc ms) : sb_cap q m ≤ 65536 := by
  rcases hr with h | h
  · rw [sb_cap, if_pos h]
    exact hm
  · exact h.2.2
theorem sb_at {P : Int32 → Prop} {x y : Int32} (e : x = y) (h : P y) : P x := e ▸ h
def sb_dg (w : Nat) : Nat := if w < 10 then 1 else if w < 100 then 2 else if w < 1000 then 3 else if w < 10000 then 4 else if w < 100000 then 5 else if w < 1000000 then 6 else if w < 10000000 then 7 else if w < 100000000 then 8 else if w < 1000000000 then 9 else 10
def sb_dec (v : Nat) : Nat → Nat := fun i => 48 + v / 10 ^ (sb_dg v - 1 - i) % 10
theorem sb_dg_in (w : Nat) : 1 ≤ sb_dg w ∧ sb_dg w ≤ 10 := by
  unfold sb_dg
  constructor <;> (repeat' split) <;> omega
theorem sb_dg100 {w : Nat} (h : 100 ≤ w) (hw : w < 2 ^ 31) : sb_dg w = sb_dg (w / 100) + 2 := by
  rw [sb_dg, sb_dg, if_neg (show ¬ w < 10 by omega), if_neg (show ¬ w < 100 by omega)]
  by_cases h3 : w < 1000
  · rw [if_pos h3, if_pos (show w / 100 < 10 by omega)]
  rw [if_neg h3, if_neg (show ¬ w / 100 < 10 by omega)]
  by_cases h4 : w < 10000
  · rw [if_pos h4, if_pos (show w / 100 < 100 by omega)]
  rw [if_neg h4, if_neg (show ¬ w / 100 < 100 by omega)]
  by_cases h5 : w < 100000
  · rw [if_pos h5, if_pos (show w / 100 < 1000 by omega)]
  rw [if_neg h5, if_neg (show ¬ w / 100 < 1000 by omega)]
  by_cases h6 : w < 1000000
  · rw [if_pos h6, if_pos (show w / 100 < 10000 by omega)]
  rw [if_neg h6, if_neg (show ¬ w / 100 < 10000 by omega)]
  by_cases h7 : w < 10000000
  · rw [if_pos h7, if_pos (show w / 100 < 100000 by omega)]
  rw [if_neg h7, if_neg (show ¬ w / 100 < 100000 by omega)]
  by_cases h8 : w < 100000000
  · rw [if_pos h8, if_pos (show w / 100 < 1000000 by omega)]
  rw [if_neg h8, if_neg (show ¬ w / 100 < 1000000 by omega)]
  by_cases h9 : w < 1000000000
  · rw [if_pos h9, if_pos (show w / 100 < 10000000 by omega)]
  rw [if_neg h9, if_neg (show ¬ w / 100 < 10000000 by omega)]
  rw [if_pos (show w / 100 < 100000000 by omega)]
theorem sb_negT {w : Nat} (h : w < 2 ^ 31) : (-nI w).toInt = -(w : Int) := by
  rw [Int32.toInt_neg, nI_toInt h]
  exact Int.bmod_eq_of_le (by omega) (by omega)
theorem sb_nle {a b : Nat} (ha : a < 2 ^ 31) (hb : b < 2 ^ 31) : -nI a ≤ -nI b ↔ b ≤ a := by
  rw [Int32.le_iff_toInt_le, sb_negT ha, sb_negT hb]
  omega
theorem sb_nlt {a b : Nat} (ha : a < 2 ^ 31) (hb : b < 2 ^ 31) : -nI a < -nI b ↔ b < a := by
  rw [Int32.lt_iff_toInt_lt, sb_negT ha, sb_negT hb]
  omega
theorem sb_cmp {A B : Prop} {x : Int32} (v c : Nat) (f : c ≤ v → A) (g : v < c → B) (hv : v < 2 ^ 31) (hx : x = -nI c := by rfl) (hc : c < 2 ^ 31 := by omega) : (-nI v ≤ x → A) ∧ (¬ -nI v ≤ x → B) := by
  subst hx
  rw [sb_nle hv hc]
  exact ⟨f, fun z => g (by omega)⟩
theorem sb_ndiv {w : Nat} (hw : w < 2 ^ 31) : (-nI w) / 100 = -nI (w / 100) := by
  apply Int32.toInt_inj.mp
  have h100 : (100 : Int32).toInt = 100 := by decide
  rw [Int32.toInt_div, sb_negT hw, h100, sb_negT (by omega), Int.neg_tdiv, Int.tdiv_eq_ediv_of_nonneg (by omega), Int.bmod_eq_of_le (by omega) (by omega)]
  omega
theorem sb_nrem {w : Nat} (hw : w < 2 ^ 31) : (-nI (w / 100)) * 100 - (-nI w) = nI (w % 100) := by
  have h := pk_rem (a := w) (d := 100) hw (by decide) (by decide)
  rw [pk_div hw (by decide) (by decide)] at h
  rw [← h]
  show (-nI (w / 100)) * nI 100 - (-nI w) = nI w - nI (w / 100) * nI 100
  rw [Int32.neg_mul, Int32.sub_neg, Int32.add_comm, ← Int32.sub_eq_add_neg]
end
section
/-! pure pictures of a terminal: registers (row 0, column 1, waits 2, pen 3, top 4, bottom 5, insert 6, wrap 7, other 8, kept row 9, column 10, pen 11, aside row 12, column 13, top 14, bottom 15, state 16, question 17, count 18, numbers 20 .. 23, rows kept 24), cells (screen * 72 + 12 * row + column: sign + 128 * style), kept signs -/
abbrev zz_A : Type := Nat → Int32
abbrev zz_T : Type := (Nat → Nat) × (Nat → Nat) × (Nat → Nat)
def zp_sg (T : zz_T) (j v : Nat) : zz_T := (fun i => if i = j then v else T.1 i, T.2)
def zp_sc (T : zz_T) (a : Nat → Nat) : zz_T := (T.1, a, T.2.2)
def zp_wF (a : Nat → Nat) (j v : Nat) : Nat → Nat := fun i => if i = j then v else a i
def zp_eF (a : Nat → Nat) (f e : Nat) : Nat → Nat := fun i => if f ≤ i ∧ i < e then 32 else a i
def zp_uF (a : Nat → Nat) (f e m : Nat) : Nat → Nat := fun i => if f ≤ i ∧ i < e then (if i + m < e then a (i + m) else 32) else a i
def zp_dF (a : Nat → Nat) (f e m : Nat) : Nat → Nat := fun i => if f ≤ i ∧ i < e then (if f + m ≤ i then a (i - m) else 32) else a i
def zp_E (T : zz_T) (f e : Nat) : zz_T := zp_sc T (zp_eF T.2.1 (72 * T.1 8 + f) (72 * T.1 8 + e))
def zp_U (T : zz_T) (f e m : Nat) : zz_T := zp_sc T (zp_uF T.2.1 (72 * T.1 8 + f) (72 * T.1 8 + e) m)
def zp_D (T : zz_T) (f e m : Nat) : zz_T := zp_sc T (zp_dF T.2.1 (72 * T.1 8 + f) (72 * T.1 8 + e) m)
def zp_keep (T : zz_T) : zz_T := (fun i => if i = 24 then (if T.1 24 < 8 then T.1 24 + 1 else 8) else T.1 i, T.2.1, fun j => if j < 12 then T.2.1 j % 128 else T.2.2 (j - 12))
def zp_K1 (T : zz_T) : zz_T := if T.1 8 = 0 then (if T.1 4 = 0 then zp_keep T else T) else T
def zp_S1 (T : zz_T) : zz_T := zp_U (zp_K1 T) (12 * T.1 4) (12 * T.1 5 + 12) 12
def zp_D1 (T : zz_T) : zz_T := zp_D T (12 * T.1 4) (12 * T.1 5 + 12) 12
def zp_SU : Nat → zz_T → zz_T
  | 0, T => T
  | n + 1, T => zp_SU n (zp_S1 T)
def zp_SD : Nat → zz_T → zz_T
  | 0, T => T
  | n + 1, T => zp_SD n (zp_D1 T)
def zp_LF (T : zz_T) : zz_T := if T.1 0 = T.1 5 then zp_S1 T else if 5 ≤ T.1 0 then T else zp_sg T 0 (T.1 0 + 1)
def zp_GU (T : zz_T) : zz_T := if T.1 0 = T.1 4 then zp_D1 T else if T.1 0 ≤ 0 then T else zp_sg T 0 (T.1 0 - 1)
def zp_mv (T : zz_T) (r c : Nat) : zz_T := zp_sg (zp_sg T 0 r) 1 c
def zp_rg (T : zz_T) (a b : Nat) : zz_T := zp_sg (zp_sg T 4 a) 5 b
def zp_cl1 (T : zz_T) : zz_T := zp_rg (zp_mv (zp_E (zp_sg (zp_E (zp_sg T 8 1) 0 72) 8 0) 0 72) 0 0) 0 5
def zp_cl2 (T : zz_T) : zz_T := zp_sg (zp_sg (zp_sg (zp_sg (zp_sg (zp_sg (zp_sg (zp_sg T 2 0) 3 0) 6 0) 7 1) 9 0) 10 0) 11 0) 16 0
def zp_clr (T : zz_T) : zz_T := zp_sg (zp_cl2 (zp_cl1 T)) 24 0
def zp_ins (T : zz_T) : zz_T := if T.1 6 = 0 then T else zp_D T (12 * T.1 0 + T.1 1) (12 * T.1 0 + 12) 1
def zp_wr (T : zz_T) (b : Nat) : zz_T := zp_sc T (zp_wF T.2.1 (72 * T.1 8 + (12 * T.1 0 + T.1 1)) (b + 128 * T.1 3))
def zp_adv (T : zz_T) : zz_T := if 11 ≤ T.1 1 then zp_sg T 2 (T.1 7) else zp_sg T 1 (T.1 1 + 1)
def zp_put2 (T : zz_T) (b : Nat) : zz_T := zp_adv (zp_wr (zp_ins T) b)
def zp_put (T : zz_T) (b : Nat) : zz_T := if T.1 2 = 0 then zp_put2 T b else zp_put2 (zp_LF (zp_sg (zp_sg T 2 0) 1 0)) b
def zp_ct2 (T : zz_T) (b : Nat) : zz_T := if b = 8 then zp_sg T 1 (T.1 1 - 1) else if b = 9 then zp_sg T 1 (if 12 ≤ (T.1 1 / 4 + 1) * 4 then 11 else (T.1 1 / 4 + 1) * 4) else if b = 10 then zp_LF T else zp_sg T 1 0
def zp_ctl (T : zz_T) (b : Nat) : zz_T := if b = 11 then T else if b = 12 then T else zp_ct2 (zp_sg T 2 0) b
def zp_sh2 (T : zz_T) (b : Nat) : zz_T := if b = 56 then zp_sg (zp_mv T (T.1 9) (T.1 10)) 3 (T.1 11) else if b = 68 then zp_LF T else if b = 69 then zp_LF (zp_sg T 1 0) else if b = 77 then zp_GU T else if b = 99 then zp_clr T else T
def zp_kb (b : Nat) : Nat := if b = 56 then 1 else if b = 68 then 1 else if b = 69 then 1 else if b = 77 then 1 else if b = 99 then 1 else 0
def zp_sht (T : zz_T) (b : Nat) : zz_T := if b = 55 then zp_sg (zp_sg (zp_sg T 9 (T.1 0)) 10 (T.1 1)) 11 (T.1 3) else zp_sh2 (zp_sg T 2 (if zp_kb b = 1 then 0 else T.1 2)) b
def zp_dig (T : zz_T) (d : Nat) : zz_T := if 4 < T.1 18 then T else zp_sg T (19 + T.1 18) (if 10 * T.1 (19 + T.1 18) + d ≤ 99 then 10 * T.1 (19 + T.1 18) + d else 99)
def zp_num (T : zz_T) : zz_T := zp_sg T 18 (if 5 ≤ T.1 18 then 5 else T.1 18 + 1)
def zp_lis (T : zz_T) : zz_T := zp_sg (zp_sg (zp_sg (zp_sg (zp_sg (zp_sg T 17 0) 18 1) 20 0) 21 0) 22 0) 23 0
def zp_pn (p v : Nat) : Nat := if v = 0 then 0 else if v = 1 then p ||| 1 else if v = 4 then p ||| 2 else if v = 7 then p ||| 4 else if v = 22 then p &&& 6 else if v = 24 then p &&& 5 else if v = 27 then p &&& 3 else p
def zp_cp : Nat → Nat → zz_T → zz_T
  | 0, _, T => T
  | k + 1, i, T => zp_cp k (i + 1) (zp_sg T 3 (zp_pn (T.1 3) (T.1 (20 + i))))
def zp_pens (T : zz_T) : zz_T := zp_cp (if T.1 18 < 4 then T.1 18 else 4) 0 T
def zp_swi (T : zz_T) (on : Nat) : zz_T := if on = T.1 8 then T else if on = 0 then zp_rg (zp_mv (zp_sg (zp_sg T 2 0) 8 0) (T.1 12) (T.1 13)) (T.1 14) (T.1 15) else zp_rg (zp_mv (zp_E (zp_sg (zp_sg (zp_sg (zp_sg (zp_sg (zp_sg T 2 0) 12 (T.1 0)) 13 (T.1 1)) 14 (T.1 4)) 15 (T.1 5)) 8 1) 0 72) 0 0) 0 5
def zp_mode (T : zz_T) (on : Nat) : zz_T := if T.1 20 = 7 then zp_sg T 7 on else if T.1 20 = 49 then zp_swi T on else T
def zp_mn (a b : Nat) : Nat := if b ≤ a then b else a
def zp_mx (a b : Nat) : Nat := if a ≤ b then b else a
def zp_trv (T : zz_T) (b n : Nat) : zz_T :=
  if b = 65 then zp_mv T (zp_mx (T.1 0 - n) (if T.1 0 < T.1 4 then 0 else T.1 4)) (T.1 1)
  else if b = 66 then zp_mv T (zp_mn (T.1 0 + n) (if T.1 5 < T.1 0 then 5 else T.1 5)) (T.1 1)
  else if b = 67 then zp_mv T (T.1 0) (zp_mn (T.1 1 + n) 11)
  else if b = 68 then zp_mv T (T.1 0) (T.1 1 - n)
  else if b = 71 then zp_mv T (T.1 0) (zp_mn (n - 1) 11)
  else if b = 100 then zp_mv T (zp_mn (n - 1) 5) (T.1 1)
  else if b = 72 then zp_mv T (zp_mn (n - 1) 5) (if T.1 21 = 0 then 0 else zp_mn (T.1 21 - 1) 11)
  else zp_mv T (T.1 0) (T.1 1)
def zp_er3 (T : zz_T) (b p r : Nat) : zz_T := if b = 74 then (if p = 0 then T else zp_E T 0 (12 * r)) else T
def zp_er2 (T : zz_T) (b p r : Nat) : zz_T := if b = 74 then (if p = 1 then zp_er3 T b p r else zp_er3 (zp_E T (12 * (r + 1)) 72) b p r) else zp_er3 T b p r
def zp_er1 (T : zz_T) (b p : Nat) : zz_T := zp_er2 (zp_E T (12 * T.1 0 + (if p = 0 then T.1 1 else 0)) (12 * T.1 0 + (if p = 1 then T.1 1 + 1 else 12))) b p (T.1 0)
def zp_era (T : zz_T) (b p n : Nat) : zz_T := if b = 88 then zp_E T (12 * T.1 0 + T.1 1) (12 * T.1 0 + zp_mn (T.1 1 + n) 12) else if p ≤ 2 then zp_er1 T b p else T
def zp_shc (T : zz_T) (i n : Nat) : zz_T := if i = 0 then zp_U T (12 * T.1 0 + T.1 1) (12 * T.1 0 + 12) n else zp_D T (12 * T.1 0 + T.1 1) (12 * T.1 0 + 12) n
def zp_shr (T : zz_T) (i n : Nat) : zz_T := if T.1 0 < T.1 4 then T else if T.1 0 ≤ T.1 5 then (if i = 0 then zp_U (zp_sg T 1 0) (12 * T.1 0) (12 * T.1 5 + 12) (12 * n) else zp_D (zp_sg T 1 0) (12 * T.1 0) (12 * T.1 5 + 12) (12 * n)) else T
def zp_reg (T : zz_T) (n q : Nat) : zz_T := if q ≤ n then T else if 6 < q then T else zp_mv (zp_rg T (n - 1) (q - 1)) 0 0
def zp_kn2 (T : zz_T) (b p n : Nat) : zz_T :=
  if b = 100 then zp_trv T b n else if b = 74 then zp_era T b p n else if b = 75 then zp_era T b p n else if b = 88 then zp_era T b p n
  else if b = 64 then zp_shc T 1 n else if b = 80 then zp_shc T 0 n else if b = 76 then zp_shr T 1 n else if b = 77 then zp_shr T 0 n
  else if b = 83 then zp_SU n T else if b = 84 then zp_SD n T else zp_reg T n (if T.1 21 = 0 then 6 else T.1 21)
def zp_kn1 (T : zz_T) (b p n : Nat) : zz_T := if b < 65 then zp_kn2 T b p n else if b ≤ 72 then zp_trv T b n else zp_kn2 T b p n
def zp_kno (T : zz_T) (b : Nat) : zz_T := zp_kn1 (zp_sg T 2 0) b (T.1 20) (if T.1 20 = 0 then 1 else T.1 20)
def zp_kk (b : Nat) : Nat := if b = 64 then 1 else if 65 ≤ b ∧ b ≤ 68 then 1 else if b = 71 then 1 else if b = 72 then 1 else if 74 ≤ b ∧ b ≤ 77 then 1 else if b = 80 then 1 else if b = 83 then 1 else if b = 84 then 1 else if b = 88 then 1 else if b = 100 then 1 else if b = 114 then 1 else 0
def zp_im (T : zz_T) (on : Nat) : zz_T := if T.1 20 = 4 then zp_sg T 6 on else zp_sg T 6 (T.1 6)
def zp_lst (T : zz_T) (b : Nat) : zz_T :=
  if T.1 17 = 0 then (if b = 109 then zp_pens T else if b = 104 then zp_im T 1 else if b = 108 then zp_im T 0 else if zp_kk b = 1 then zp_kno T b else T)
  else if b = 104 then zp_mode T 1 else if b = 108 then zp_mode T 0 else T
def zp_mean (st b : Nat) : Nat :=
  if b = 27 then 3
  else if st = 0 then (if 32 ≤ b ∧ b < 127 then 1 else if 8 ≤ b ∧ b ≤ 13 then 2 else 0)
  else if st = 1 then (if b = 91 then 4 else 5)
  else if 48 ≤ b ∧ b ≤ 57 then 7 else if b = 59 then 8 else if 64 ≤ b ∧ b < 127 then 9 else if b = 63 ∧ st = 2 then 6 else 10
def zp_nx (m : Nat) : Nat := if m = 3 then 1 else if m = 4 then 2 else if m < 6 then 0 else if 8 < m then 0 else 3
def zp_do (T : zz_T) (m b : Nat) : zz_T :=
  if m = 1 then zp_put T b else if m = 2 then zp_ctl T b else if m = 4 then zp_lis T else if m = 6 then zp_sg T 17 1
  else if m = 7 then zp_dig T (b - 48) else if m = 8 then zp_num T else if m = 5 then zp_sht T b else if m = 9 then zp_lst T b else T
def zp_rd (T : zz_T) (b : Nat) : zz_T := zp_do (zp_sg T 16 (zp_nx (zp_mean (T.1 16) b))) (zp_mean (T.1 16) b) b
/-! simple facts -/
theorem zp_sg1 (T : zz_T) (j v : Nat) : (zp_sg T j v).1 j = v := if_pos rfl
theorem zp_sgn (T : zz_T) {i j : Nat} (v : Nat) (h : i ≠ j) : (zp_sg T j v).1 i = T.1 i := if_neg h
theorem zp_sg2 (T : zz_T) (j v : Nat) : (zp_sg T j v).2 = T.2 := rfl
theorem zp_sgs (T : zz_T) {j v : Nat} (h : T.1 j = v) : zp_sg T j v = T := by
  have e : (fun i => if i = j then v else T.1 i) = T.1 := by
    funext i
    by_cases c : i = j
    · rw [if_pos c, c, h]
    · rw [if_neg c]
  unfold zp_sg
  rw [e]
theorem zp_uF_add (a : Nat → Nat) (f e m k : Nat) : zp_uF (zp_uF a f e m) f e k = zp_uF a f e (m + k) := by
  funext i
  simp only [zp_uF]
  (repeat' split) <;> first | rfl | omega | exact congrArg a (by omega)
theorem zp_dF_add (a : Nat → Nat) (f e m k : Nat) : zp_dF (zp_dF a f e m) f e k = zp_dF a f e (m + k) := by
  funext i
  simp only [zp_dF]
  (repeat' split) <;> first | rfl | omega | exact congrArg a (by omega)
theorem zp_U_add (T : zz_T) (f e m k : Nat) : zp_U (zp_U T f e m) f e k = zp_U T f e (m + k) :=
  congrArg (zp_sc T) (zp_uF_add T.2.1 _ _ m k)
theorem zp_D_add (T : zz_T) (f e m k : Nat) : zp_D (zp_D T f e m) f e k = zp_D T f e (m + k) :=
  congrArg (zp_sc T) (zp_dF_add T.2.1 _ _ m k)
theorem zp_uF_0 (a : Nat → Nat) (f e : Nat) : zp_uF a f e 0 = a := by
  funext i
  simp only [zp_uF]
  (repeat' split) <;> first | rfl | omega
theorem zp_dF_0 (a : Nat → Nat) (f e : Nat) : zp_dF a f e 0 = a := by
  funext i
  simp only [zp_dF]
  (repeat' split) <;> first | rfl | omega
theorem zp_U_0 (T : zz_T) (f e : Nat) : zp_U T f e 0 = T := congrArg (zp_sc T) (zp_uF_0 T.2.1 _ _)
theorem zp_D_0 (T : zz_T) (f e : Nat) : zp_D T f e 0 = T := congrArg (zp_sc T) (zp_dF_0 T.2.1 _ _)
/-- beyond its length a shift leaves nothing -/
theorem zp_uF_big (a : Nat → Nat) {f e m k : Nat} (hm : e ≤ f + m) (hk : e ≤ f + k) : zp_uF a f e m = zp_uF a f e k := by
  funext i
  simp only [zp_uF]
  (repeat' split) <;> first | rfl | omega
theorem zp_dF_big (a : Nat → Nat) {f e m k : Nat} (hm : e ≤ f + m) (hk : e ≤ f + k) : zp_dF a f e m = zp_dF a f e k := by
  funext i
  simp only [zp_dF]
  (repeat' split) <;> first | rfl | omega
theorem zp_U_big (T : zz_T) {f e m k : Nat} (hm : e ≤ f + m) (hk : e ≤ f + k) : zp_U T f e m = zp_U T f e k :=
  congrArg (zp_sc T) (zp_uF_big T.2.1 (by omega) (by omega))
theorem zp_D_big (T : zz_T) {f e m k : Nat} (hm : e ≤ f + m) (hk : e ≤ f + k) : zp_D T f e m = zp_D T f e k :=
  congrArg (zp_sc T) (zp_dF_big T.2.1 (by omega) (by omega))
end
section
/-! what holds of every terminal at hand: ranges -/
def zp_bd (j : Nat) : Nat := [6, 12, 2, 8, 6, 6, 2, 2, 2, 6, 12, 8, 6, 12, 6, 6, 4, 2, 6].getD j 0
def zp_okc (v : Nat) : Prop := 32 ≤ v % 128 ∧ v % 128 < 127 ∧ v < 1024
def zp_ok (T : zz_T) : Prop :=
  (∀ j, j < 19 → T.1 j < zp_bd j) ∧
  (∀ i, i < 4 → T.1 (20 + i) ≤ 99 ∧ (T.1 18 ≤ i → T.1 (20 + i) = 0)) ∧
  T.1 24 + 9 * T.1 99 ≤ 8 ∧
  (T.1 4 ≤ T.1 5 ∧ T.1 14 ≤ T.1 15) ∧
  (2 ≤ T.1 16 → 1 ≤ T.1 18) ∧
  (∀ i, i < 144 → zp_okc (T.2.1 i))
theorem zp_b0 {T : zz_T} (h : zp_ok T) : T.1 0 < 6 := h.1 0 (by decide)
theorem zp_b1 {T : zz_T} (h : zp_ok T) : T.1 1 < 12 := h.1 1 (by decide)
theorem zp_b2 {T : zz_T} (h : zp_ok T) : T.1 2 < 2 := h.1 2 (by decide)
theorem zp_b3 {T : zz_T} (h : zp_ok T) : T.1 3 < 8 := h.1 3 (by decide)
theorem zp_b4 {T : zz_T} (h : zp_ok T) : T.1 4 < 6 := h.1 4 (by decide)
theorem zp_b5 {T : zz_T} (h : zp_ok T) : T.1 5 < 6 := h.1 5 (by decide)
theorem zp_b6 {T : zz_T} (h : zp_ok T) : T.1 6 < 2 := h.1 6 (by decide)
theorem zp_b7 {T : zz_T} (h : zp_ok T) : T.1 7 < 2 := h.1 7 (by decide)
theorem zp_b8 {T : zz_T} (h : zp_ok T) : T.1 8 < 2 := h.1 8 (by decide)
theorem zp_b9 {T : zz_T} (h : zp_ok T) : T.1 9 < 6 := h.1 9 (by decide)
theorem zp_b10 {T : zz_T} (h : zp_ok T) : T.1 10 < 12 := h.1 10 (by decide)
theorem zp_b11 {T : zz_T} (h : zp_ok T) : T.1 11 < 8 := h.1 11 (by decide)
theorem zp_b12 {T : zz_T} (h : zp_ok T) : T.1 12 < 6 := h.1 12 (by decide)
theorem zp_b13 {T : zz_T} (h : zp_ok T) : T.1 13 < 12 := h.1 13 (by decide)
theorem zp_b14 {T : zz_T} (h : zp_ok T) : T.1 14 < 6 := h.1 14 (by decide)
theorem zp_b15 {T : zz_T} (h : zp_ok T) : T.1 15 < 6 := h.1 15 (by decide)
theorem zp_b16 {T : zz_T} (h : zp_ok T) : T.1 16 < 4 := h.1 16 (by decide)
theorem zp_b17 {T : zz_T} (h : zp_ok T) : T.1 17 < 2 := h.1 17 (by decide)
theorem zp_b18 {T : zz_T} (h : zp_ok T) : T.1 18 < 6 := h.1 18 (by decide)
theorem zp_b20 {T : zz_T} (h : zp_ok T) : T.1 20 ≤ 99 := (h.2.1 0 (by decide)).1
theorem zp_b21 {T : zz_T} (h : zp_ok T) : T.1 21 ≤ 99 := (h.2.1 1 (by decide)).1
theorem zp_btb {T : zz_T} (h : zp_ok T) : T.1 4 ≤ T.1 5 := h.2.2.2.1.1
theorem zp_bab {T : zz_T} (h : zp_ok T) : T.1 14 ≤ T.1 15 := h.2.2.2.1.2
theorem zp_bli {T : zz_T} (h : zp_ok T) : 2 ≤ T.1 16 → 1 ≤ T.1 18 := h.2.2.2.2.1
theorem zp_bc {T : zz_T} (h : zp_ok T) : ∀ i, i < 144 → zp_okc (T.2.1 i) := h.2.2.2.2.2
theorem zp_b24 {T : zz_T} (h : zp_ok T) : T.1 24 ≤ 8 := by
  have := h.2.2.1
  omega
theorem zp_b99 {T : zz_T} (h : zp_ok T) : T.1 99 = 0 := by
  have := h.2.2.1
  omega
theorem zp_okc32 : zp_okc 32 := by unfold zp_okc; omega
/-- a plain register -/
theorem zp_ok_sg {T : zz_T} {j v : Nat} (h : zp_ok T) (hv : v < zp_bd j) (hj : j < 19 ∧ j ≠ 4 ∧ j ≠ 5 ∧ j ≠ 14 ∧ j ≠ 15 ∧ j ≠ 16 ∧ j ≠ 18) : zp_ok (zp_sg T j v) := by
  obtain ⟨h1, h2, h3, h4, h5, h6⟩ := h
  obtain ⟨a1, a2, a3, a4, a5, a6, a7⟩ := hj
  refine ⟨?_, ?_, ?_, ?_, ?_, h6⟩
  · intro i hi
    by_cases c : i = j
    · subst c
      rw [zp_sg1]
      exact hv
    · rw [zp_sgn T v c]
      exact h1 i hi
  · intro i hi
    rw [zp_sgn T v (by omega : 20 + i ≠ j), zp_sgn T v (by omega : 18 ≠ j)]
    exact h2 i hi
  · rw [zp_sgn T v (by omega : 24 ≠ j), zp_sgn T v (by omega : 99 ≠ j)]
    exact h3
  · rw [zp_sgn T v (by omega : 4 ≠ j), zp_sgn T v (by omega : 5 ≠ j), zp_sgn T v (by omega : 14 ≠ j), zp_sgn T v (by omega : 15 ≠ j)]
    exact h4
  · rw [zp_sgn T v (by omega : 16 ≠ j), zp_sgn T v (by omega : 18 ≠ j)]
    exact h5
theorem zp_ok_sc {T : zz_T} {a : Nat → Nat} (h : zp_ok T) (ha : ∀ i, i < 144 → zp_okc (a i)) : zp_ok (zp_sc T a) :=
  ⟨h.1, h.2.1, h.2.2.1, h.2.2.2.1, h.2.2.2.2.1, ha⟩
theorem zp_ok_E {T : zz_T} (h : zp_ok T) (f e : Nat) : zp_ok (zp_E T f e) := by
  refine zp_ok_sc h (fun i hi => ?_)
  simp only [zp_eF]
  split
  · exact zp_okc32
  · exact zp_bc h i hi
theorem zp_ok_U {T : zz_T} (h : zp_ok T) {f e m : Nat} (he : e ≤ 72) : zp_ok (zp_U T f e m) := by
  refine zp_ok_sc h (fun i hi => ?_)
  have := zp_b8 h
  simp only [zp_uF]
  split
  · split
    · exact zp_bc h _ (by omega)
    · exact zp_okc32
  · exact zp_bc h i hi
theorem zp_ok_D {T : zz_T} (h : zp_ok T) (f e m : Nat) : zp_ok (zp_D T f e m) := by
  refine zp_ok_sc h (fun i hi => ?_)
  simp only [zp_dF]
  split
  · split
    · exact zp_bc h _ (by omega)
    · exact zp_okc32
  · exact zp_bc h i hi
theorem zp_kpn (T : zz_T) {i : Nat} (h : i ≠ 24) : (zp_keep T).1 i = T.1 i := if_neg h
theorem zp_ok_keep {T : zz_T} (h : zp_ok T) : zp_ok (zp_keep T) := by
  obtain ⟨h1, h2, h3, h4, h5, h6⟩ := h
  refine ⟨?_, ?_, ?_, ?_, ?_, h6⟩
  · intro i hi
    rw [zp_kpn T (by omega)]
    exact h1 i hi
  · intro i hi
    rw [zp_kpn T (by omega), zp_kpn T (by omega)]
    exact h2 i hi
  · show (if T.1 24 < 8 then T.1 24 + 1 else 8) + 9 * T.1 99 ≤ 8
    split <;> omega
  · exact h4
  · exact h5
theorem zp_ok_K1 {T : zz_T} (h : zp_ok T) : zp_ok (zp_K1 T) := by
  unfold zp_K1
  split
  · split
    · exact zp_ok_keep h
    · exact h
  · exact h
theorem zp_ok_S1 {T : zz_T} (h : zp_ok T) : zp_ok (zp_S1 T) :=
  zp_ok_U (zp_ok_K1 h) (by have := zp_b5 h; omega)
theorem zp_ok_D1 {T : zz_T} (h : zp_ok T) : zp_ok (zp_D1 T) := zp_ok_D h _ _ _
theorem zp_ok_SU : ∀ (n : Nat) {T : zz_T}, zp_ok T → zp_ok (zp_SU n T)
  | 0, _, h => h
  | n + 1, _, h => zp_ok_SU n (zp_ok_S1 h)
theorem zp_ok_SD : ∀ (n : Nat) {T : zz_T}, zp_ok T → zp_ok (zp_SD n T)
  | 0, _, h => h
  | n + 1, _, h => zp_ok_SD n (zp_ok_D1 h)
theorem zp_ok_LF {T : zz_T} (h : zp_ok T) : zp_ok (zp_LF T) := by
  unfold zp_LF
  split
  · exact zp_ok_S1 h
  · split
    · exact h
    · exact zp_ok_sg h (show T.1 0 + 1 < 6 by omega) (by decide)
theorem zp_ok_GU {T : zz_T} (h : zp_ok T) : zp_ok (zp_GU T) := by
  have := zp_b0 h
  unfold zp_GU
  split
  · exact zp_ok_D1 h
  · split
    · exact h
    · exact zp_ok_sg h (show T.1 0 - 1 < 6 by omega) (by decide)
theorem zp_ok_mv {T : zz_T} {r c : Nat} (h : zp_ok T) (hr : r < 6) (hc : c < 12) : zp_ok (zp_mv T r c) :=
  zp_ok_sg (zp_ok_sg h hr (by decide)) hc (by decide)
theorem zp_ok_rg {T : zz_T} {a b : Nat} (h : zp_ok T) (hb : b < 6) (hab : a ≤ b) : zp_ok (zp_rg T a b) := by
  obtain ⟨h1, h2, h3, h4, h5, h6⟩ := h
  have e : ∀ i, i ≠ 4 → i ≠ 5 → (zp_rg T a b).1 i = T.1 i := fun i c4 c5 => (zp_sgn _ b c5).trans (zp_sgn T a c4)
  have e4 : (zp_rg T a b).1 4 = a := (zp_sgn _ b (by decide)).trans (zp_sg1 T 4 a)
  have e5 : (zp_rg T a b).1 5 = b := zp_sg1 _ 5 b
  refine ⟨?_, ?_, ?_, ?_, ?_, h6⟩
  · intro i hi
    by_cases c5 : i = 5
    · rw [c5, e5]
      exact hb
    · by_cases c4 : i = 4
      · rw [c4, e4]
        exact Nat.lt_of_le_of_lt hab hb
      · rw [e i c4 c5]
        exact h1 i hi
  · intro i hi
    rw [e _ (by omega) (by omega), e 18 (by decide) (by decide)]
    exact h2 i hi
  · rw [e 24 (by decide) (by decide), e 99 (by decide) (by decide)]
    exact h3
  · rw [e4, e5, e 14 (by decide) (by decide), e 15 (by decide) (by decide)]
    exact ⟨hab, h4.2⟩
  · rw [e 16 (by decide) (by decide), e 18 (by decide) (by decide)]
    exact h5
theorem zp_ok_st {T : zz_T} {v : Nat} (h : zp_ok T) (hv : v < 4) (hl : 2 ≤ v → 1 ≤ T.1 18) : zp_ok (zp_sg T 16 v) := by
  obtain ⟨h1, h2, h3, h4, h5, h6⟩ := h
  refine ⟨?_, ?_, ?_, ?_, ?_, h6⟩
  · intro i hi
    by_cases c : i = 16
    · rw [c, zp_sg1]
      exact hv
    · rw [zp_sgn T v c]
      exact h1 i hi
  · intro i hi
    rw [zp_sgn T v (by omega : 20 + i ≠ 16), zp_sgn T v (by decide : 18 ≠ 16)]
    exact h2 i hi
  · rw [zp_sgn T v (by decide : 24 ≠ 16), zp_sgn T v (by decide : 99 ≠ 16)]
    exact h3
  · rw [zp_sgn T v (by decide : 4 ≠ 16), zp_sgn T v (by decide : 5 ≠ 16), zp_sgn T v (by decide : 14 ≠ 16), zp_sgn T v (by decide : 15 ≠ 16)]
    exact h4
  · rw [zp_sg1, zp_sgn T v (by decide : 18 ≠ 16)]
    exact hl
theorem zp_ok_ct {T : zz_T} {v : Nat} (h : zp_ok T) (hv : v < 6) (hl : T.1 18 ≤ v) : zp_ok (zp_sg T 18 v) := by
  obtain ⟨h1, h2, h3, h4, h5, h6⟩ := h
  refine ⟨?_, ?_, ?_, ?_, ?_, h6⟩
  · intro i hi
    by_cases c : i = 18
    · rw [c, zp_sg1]
      exact hv
    · rw [zp_sgn T v c]
      exact h1 i hi
  · intro i hi
    rw [zp_sgn T v (by omega : 20 + i ≠ 18), zp_sg1]
    exact ⟨(h2 i hi).1, fun q => (h2 i hi).2 (by omega)⟩
  · rw [zp_sgn T v (by decide : 24 ≠ 18), zp_sgn T v (by decide : 99 ≠ 18)]
    exact h3
  · exact h4
  · rw [zp_sg1, zp_sgn T v (by decide : 16 ≠ 18)]
    intro q
    have := h5 q
    omega
theorem zp_ok_nu {T : zz_T} {j v : Nat} (h : zp_ok T) (hv : v ≤ 99) (hj : j < 4) (hl : j < T.1 18) : zp_ok (zp_sg T (20 + j) v) := by
  obtain ⟨h1, h2, h3, h4, h5, h6⟩ := h
  have e : ∀ i, i < 20 → (zp_sg T (20 + j) v).1 i = T.1 i := fun i hi => zp_sgn T v (by omega)
  refine ⟨?_, ?_, ?_, ?_, ?_, h6⟩
  · intro i hi
    rw [e i (by omega)]
    exact h1 i hi
  · intro i hi
    rw [e 18 (by decide)]
    by_cases c : i = j
    · rw [c, zp_sg1]
      exact ⟨hv, fun q => absurd q (by omega)⟩
    · rw [zp_sgn T v (by omega : 20 + i ≠ 20 + j)]
      exact h2 i hi
  · rw [zp_sgn T v (by omega : 24 ≠ 20 + j), zp_sgn T v (by omega : 99 ≠ 20 + j)]
    exact h3
  · rw [e 4 (by decide), e 5 (by decide), e 14 (by decide), e 15 (by decide)]
    exact h4
  · rw [e 16 (by decide), e 18 (by decide)]
    exact h5
theorem zp_ok_24 {T : zz_T} {v : Nat} (h : zp_ok T) (hv : v ≤ 8) : zp_ok (zp_sg T 24 v) := by
  obtain ⟨h1, h2, h3, h4, h5, h6⟩ := h
  refine ⟨?_, ?_, ?_, h4, h5, h6⟩
  · intro i hi
    rw [zp_sgn T v (by omega : i ≠ 24)]
    exact h1 i hi
  · intro i hi
    rw [zp_sgn T v (by omega : 20 + i ≠ 24), zp_sgn T v (by decide : 18 ≠ 24)]
    exact h2 i hi
  · rw [zp_sg1, zp_sgn T v (by decide : 99 ≠ 24)]
    omega
theorem zp_ok_cl2 {T : zz_T} (h : zp_ok T) : zp_ok (zp_cl2 T) := by
  unfold zp_cl2
  refine zp_ok_st ?_ (by decide) (fun q => absurd q (by decide))
  refine zp_ok_sg (zp_ok_sg (zp_ok_sg (zp_ok_sg (zp_ok_sg (zp_ok_sg (zp_ok_sg h ?_ ?_) ?_ ?_) ?_ ?_) ?_ ?_) ?_ ?_) ?_ ?_) ?_ ?_ <;> decide
theorem zp_ok_cl1 {T : zz_T} (h : zp_ok T) : zp_ok (zp_cl1 T) := by
  unfold zp_cl1
  refine zp_ok_rg (zp_ok_mv (zp_ok_E (zp_ok_sg (zp_ok_E (zp_ok_sg h ?_ ?_) _ _) ?_ ?_) _ _) ?_ ?_) ?_ ?_ <;> decide
theorem zp_ok_clr {T : zz_T} (h : zp_ok T) : zp_ok (zp_clr T) := zp_ok_24 (zp_ok_cl2 (zp_ok_cl1 h)) (by decide)
theorem zp_ok_ins {T : zz_T} (h : zp_ok T) : zp_ok (zp_ins T) := by
  unfold zp_ins
  split
  · exact h
  · exact zp_ok_D h _ _ _
theorem zp_okcb {b p : Nat} (h1 : 32 ≤ b) (h2 : b < 127) (hp : p < 8) : zp_okc (b + 128 * p) := by
  unfold zp_okc
  omega
theorem zp_ok_wr {T : zz_T} {b : Nat} (h : zp_ok T) (h1 : 32 ≤ b) (h2 : b < 127) : zp_ok (zp_wr T b) := by
  refine zp_ok_sc h (fun i hi => ?_)
  simp only [zp_wF]
  split
  · exact zp_okcb h1 h2 (zp_b3 h)
  · exact zp_bc h i hi
theorem zp_ok_adv {T : zz_T} (h : zp_ok T) : zp_ok (zp_adv T) := by
  unfold zp_adv
  split
  · exact zp_ok_sg h (show T.1 7 < 2 from zp_b7 h) (by decide)
  · exact zp_ok_sg h (show T.1 1 + 1 < 12 by omega) (by decide)
theorem zp_ok_put2 {T : zz_T} {b : Nat} (h : zp_ok T) (h1 : 32 ≤ b) (h2 : b < 127) : zp_ok (zp_put2 T b) :=
  zp_ok_adv (zp_ok_wr (zp_ok_ins h) h1 h2)
theorem zp_ok_20 {T : zz_T} (h : zp_ok T) : zp_ok (zp_sg T 2 0) := zp_ok_sg h (by decide) (by decide)
theorem zp_ok_10 {T : zz_T} (h : zp_ok T) : zp_ok (zp_sg T 1 0) := zp_ok_sg h (by decide) (by decide)
theorem zp_ok_put {T : zz_T} {b : Nat} (h : zp_ok T) (h1 : 32 ≤ b) (h2 : b < 127) : zp_ok (zp_put T b) := by
  unfold zp_put
  split
  · exact zp_ok_put2 h h1 h2
  · exact zp_ok_put2 (zp_ok_LF (zp_ok_10 (zp_ok_20 h))) h1 h2
theorem zp_ok_ct2 {T : zz_T} {b : Nat} (h : zp_ok T) : zp_ok (zp_ct2 T b) := by
  have := zp_b1 h
  unfold zp_ct2
  split
  · exact zp_ok_sg h (show T.1 1 - 1 < 12 by omega) (by decide)
  · split
    · refine zp_ok_sg h (show (if 12 ≤ (T.1 1 / 4 + 1) * 4 then 11 else (T.1 1 / 4 + 1) * 4) < 12 from ?_) (by decide)
      split <;> omega
    · split
      · exact zp_ok_LF h
      · exact zp_ok_10 h
theorem zp_ok_ctl {T : zz_T} {b : Nat} (h : zp_ok T) : zp_ok (zp_ctl T b) := by
  unfold zp_ctl
  split
  · exact h
  · split
    · exact h
    · exact zp_ok_ct2 (zp_ok_20 h)
theorem zp_ok_sh2 {T : zz_T} {b : Nat} (h : zp_ok T) : zp_ok (zp_sh2 T b) := by
  unfold zp_sh2
  split
  · exact zp_ok_sg (zp_ok_mv h (zp_b9 h) (zp_b10 h)) (show T.1 11 < 8 from zp_b11 h) (by decide)
  · split
    · exact zp_ok_LF h
    · split
      · exact zp_ok_LF (zp_ok_10 h)
      · split
        · exact zp_ok_GU h
        · split
          · exact zp_ok_clr h
          · exact h
theorem zp_ok_sht {T : zz_T} {b : Nat} (h : zp_ok T) : zp_ok (zp_sht T b) := by
  unfold zp_sht
  split
  · refine zp_ok_sg (zp_ok_sg (zp_ok_sg h (show T.1 0 < 6 from zp_b0 h) (by decide)) (show T.1 1 < 12 from zp_b1 h) (by decide)) (show T.1 3 < 8 from zp_b3 h) (by decide)
  · refine zp_ok_sh2 (zp_ok_sg h (show (if zp_kb b = 1 then 0 else T.1 2) < 2 from ?_) (by decide))
    have := zp_b2 h
    split <;> omega
theorem zp_ok_dig {T : zz_T} {d : Nat} (h : zp_ok T) (hc : 1 ≤ T.1 18) : zp_ok (zp_dig T d) := by
  unfold zp_dig
  split
  · exact h
  · rw [show 19 + T.1 18 = 20 + (T.1 18 - 1) by omega]
    refine zp_ok_nu h ?_ (by omega) (by omega)
    split <;> omega
theorem zp_ok_num {T : zz_T} (h : zp_ok T) : zp_ok (zp_num T) := by
  have := zp_b18 h
  refine zp_ok_ct h ?_ ?_ <;> split <;> omega
theorem zp_ok_lis {T : zz_T} (h : zp_ok T) {v : Nat} (hv : v < 4) : zp_ok (zp_lis (zp_sg T 16 v)) := by
  obtain ⟨h1, h2, h3, h4, h5, h6⟩ := h
  refine ⟨?_, ?_, h3, h4, ?_, h6⟩
  · intro i hi
    by_cases c7 : i = 17
    · subst c7
      exact (by decide : 0 < 2)
    · by_cases c8 : i = 18
      · subst c8
        exact (by decide : 1 < 6)
      · by_cases c6 : i = 16
        · subst c6
          exact hv
        · simp only [zp_lis, zp_sg]
          rw [if_neg (by omega), if_neg (by omega), if_neg (by omega), if_neg (by omega), if_neg c8, if_neg c7, if_neg c6]
          exact h1 i hi
  · intro i hi
    have e : (zp_lis (zp_sg T 16 v)).1 (20 + i) = 0 := by
      rcases (by omega : i = 0 ∨ i = 1 ∨ i = 2 ∨ i = 3) with c | c | c | c <;> subst c <;> rfl
    rw [e]
    exact ⟨by omega, fun _ => rfl⟩
  · intro _
    exact (by decide : 1 ≤ 1)
theorem zp_pn8 {p v : Nat} (hp : p < 8) : zp_pn p v < 8 := by
  have k : ∀ p, p < 8 → p ||| 1 < 8 ∧ p ||| 2 < 8 ∧ p ||| 4 < 8 ∧ p &&& 6 < 8 ∧ p &&& 5 < 8 ∧ p &&& 3 < 8 := by decide
  obtain ⟨k1, k2, k3, k4, k5, k6⟩ := k p hp
  unfold zp_pn
  (repeat' split) <;> omega
theorem zp_ok_cp : ∀ (k i : Nat) {T : zz_T}, zp_ok T → zp_ok (zp_cp k i T)
  | 0, _, _, h => h
  | k + 1, i, T, h => zp_ok_cp k (i + 1) (zp_ok_sg h (show zp_pn (T.1 3) (T.1 (20 + i)) < 8 from zp_pn8 (zp_b3 h)) (by decide))
theorem zp_ok_pens {T : zz_T} (h : zp_ok T) : zp_ok (zp_pens T) := zp_ok_cp _ _ h
end
section
theorem zp_ok_asd {T : zz_T} (h : zp_ok T) : zp_ok (zp_sg (zp_sg (zp_sg (zp_sg T 12 (T.1 0)) 13 (T.1 1)) 14 (T.1 4)) 15 (T.1 5)) := by
  have b0 := zp_b0 h
  have b1 := zp_b1 h
  have b4 := zp_b4 h
  have b5 := zp_b5 h
  have tb := zp_btb h
  obtain ⟨h1, h2, h3, h4, h5, h6⟩ := h
  refine ⟨?_, ?_, h3, ⟨h4.1, ?_⟩, h5, h6⟩
  · intro i hi
    by_cases c5 : i = 15
    · subst c5
      exact b5
    · by_cases c4 : i = 14
      · subst c4
        exact b4
      · by_cases c3 : i = 13
        · subst c3
          exact b1
        · by_cases c2 : i = 12
          · subst c2
            exact b0
          · simp only [zp_sg]
            rw [if_neg c5, if_neg c4, if_neg c3, if_neg c2]
            exact h1 i hi
  · intro i hi
    simp only [zp_sg]
    rw [if_neg (by omega), if_neg (by omega), if_neg (by omega), if_neg (by omega)]
    exact h2 i hi
  · exact tb
theorem zp_ok_swi {T : zz_T} {on : Nat} (h : zp_ok T) : zp_ok (zp_swi T on) := by
  unfold zp_swi
  split
  · exact h
  · split
    · exact zp_ok_rg (zp_ok_mv (zp_ok_sg (zp_ok_20 h) (by decide) (by decide)) (zp_b12 h) (zp_b13 h)) (zp_b15 h) (zp_bab h)
    · refine zp_ok_rg (zp_ok_mv (zp_ok_E (zp_ok_sg (zp_ok_asd (T := zp_sg T 2 0) (zp_ok_20 h)) ?_ ?_) _ _) ?_ ?_) ?_ ?_ <;> decide
theorem zp_ok_mode {T : zz_T} {on : Nat} (h : zp_ok T) (ho : on < 2) : zp_ok (zp_mode T on) := by
  unfold zp_mode
  split
  · exact zp_ok_sg h (show on < 2 from ho) (by decide)
  · split
    · exact zp_ok_swi h
    · exact h
theorem zp_mn_lt {a b c : Nat} (h : b < c) : zp_mn a b < c := by
  unfold zp_mn
  split <;> omega
theorem zp_ok_trv {T : zz_T} {b n : Nat} (h : zp_ok T) : zp_ok (zp_trv T b n) := by
  have b0 := zp_b0 h
  have b1 := zp_b1 h
  have b4 := zp_b4 h
  have b5 := zp_b5 h
  unfold zp_trv
  split
  · refine zp_ok_mv h ?_ b1
    unfold zp_mx
    split <;> split <;> omega
  · split
    · refine zp_ok_mv h (zp_mn_lt ?_) b1
      split <;> omega
    · split
      · exact zp_ok_mv h b0 (zp_mn_lt (by decide))
      · split
        · exact zp_ok_mv h b0 (by omega)
        · split
          · exact zp_ok_mv h b0 (zp_mn_lt (by decide))
          · split
            · exact zp_ok_mv h (zp_mn_lt (by decide)) b1
            · split
              · refine zp_ok_mv h (zp_mn_lt (by decide)) ?_
                split
                · decide
                · exact zp_mn_lt (by decide)
              · exact zp_ok_mv h b0 b1
theorem zp_ok_er3 {T : zz_T} {b p r : Nat} (h : zp_ok T) : zp_ok (zp_er3 T b p r) := by
  unfold zp_er3
  split
  · split
    · exact h
    · exact zp_ok_E h _ _
  · exact h
theorem zp_ok_er2 {T : zz_T} {b p r : Nat} (h : zp_ok T) : zp_ok (zp_er2 T b p r) := by
  unfold zp_er2
  split
  · split
    · exact zp_ok_er3 h
    · exact zp_ok_er3 (zp_ok_E h _ _)
  · exact zp_ok_er3 h
theorem zp_ok_era {T : zz_T} {b p n : Nat} (h : zp_ok T) : zp_ok (zp_era T b p n) := by
  unfold zp_era
  split
  · exact zp_ok_E h _ _
  · split
    · exact zp_ok_er2 (zp_ok_E h _ _)
    · exact h
theorem zp_ok_shc {T : zz_T} {i n : Nat} (h : zp_ok T) : zp_ok (zp_shc T i n) := by
  have b0 := zp_b0 h
  unfold zp_shc
  split
  · exact zp_ok_U h (by omega)
  · exact zp_ok_D h _ _ _
theorem zp_ok_shr {T : zz_T} {i n : Nat} (h : zp_ok T) : zp_ok (zp_shr T i n) := by
  have b5 := zp_b5 h
  unfold zp_shr
  split
  · exact h
  · split
    · split
      · exact zp_ok_U (zp_ok_10 h) (by omega)
      · exact zp_ok_D (zp_ok_10 h) _ _ _
    · exact h
theorem zp_ok_reg {T : zz_T} {n q : Nat} (h : zp_ok T) : zp_ok (zp_reg T n q) := by
  unfold zp_reg
  split
  · exact h
  · split
    · exact h
    · exact zp_ok_mv (zp_ok_rg h (by omega) (by omega)) (by decide) (by decide)
theorem zp_ok_kn2 {T : zz_T} {b p n : Nat} (h : zp_ok T) : zp_ok (zp_kn2 T b p n) := by
  unfold zp_kn2
  (repeat' split) <;> first | exact zp_ok_trv h | exact zp_ok_era h | exact zp_ok_shc h | exact zp_ok_shr h | exact zp_ok_SU n h | exact zp_ok_SD n h | exact zp_ok_reg h
theorem zp_ok_kno {T : zz_T} {b : Nat} (h : zp_ok T) : zp_ok (zp_kno T b) := by
  unfold zp_kno zp_kn1
  split
  · exact zp_ok_kn2 (zp_ok_20 h)
  · split
    · exact zp_ok_trv (zp_ok_20 h)
    · exact zp_ok_kn2 (zp_ok_20 h)
theorem zp_ok_im {T : zz_T} {on : Nat} (h : zp_ok T) (ho : on < 2) : zp_ok (zp_im T on) := by
  unfold zp_im
  split
  · exact zp_ok_sg h (show on < 2 from ho) (by decide)
  · exact zp_ok_sg h (show T.1 6 < 2 from zp_b6 h) (by decide)
theorem zp_ok_lst {T : zz_T} {b : Nat} (h : zp_ok T) : zp_ok (zp_lst T b) := by
  unfold zp_lst
  split
  · split
    · exact zp_ok_pens h
    · split
      · exact zp_ok_im h (by decide)
      · split
        · exact zp_ok_im h (by decide)
        · split
          · exact zp_ok_kno h
          · exact h
  · split
    · exact zp_ok_mode h (by decide)
    · split
      · exact zp_ok_mode h (by decide)
      · exact h
theorem zp_ok_rd {T : zz_T} {b : Nat} (h : zp_ok T) : zp_ok (zp_rd T b) := by
  have hs := zp_b16 h
  have hl := zp_bli h
  unfold zp_rd
  by_cases m4 : zp_mean (T.1 16) b = 4
  · rw [m4]
    exact zp_ok_lis h (by decide)
  · have h1 : zp_ok (zp_sg T 16 (zp_nx (zp_mean (T.1 16) b))) := by
      refine zp_ok_st h ?_ ?_
      · unfold zp_nx
        (repeat' split) <;> omega
      · intro q
        apply hl
        revert q m4
        unfold zp_nx zp_mean
        (repeat' split) <;> omega
    have hm1 : zp_mean (T.1 16) b = 1 → 32 ≤ b ∧ b < 127 := by
      unfold zp_mean
      (repeat' split) <;> omega
    have hm7 : zp_mean (T.1 16) b = 7 → 2 ≤ T.1 16 := by
      unfold zp_mean
      (repeat' split) <;> omega
    unfold zp_do
    split
    · exact zp_ok_put h1 (hm1 (by assumption)).1 (hm1 (by assumption)).2
    · split
      · exact zp_ok_ctl h1
      · split
        · exact zp_ok_sg h1 (by decide) (by decide)
        · split
          · exact zp_ok_dig h1 (hl (hm7 (by assumption)))
          · split
            · exact zp_ok_num h1
            · split
              · exact zp_ok_sht h1
              · split
                · exact zp_ok_lst h1
                · exact h1
end
section
/-! the component's state against the pictures of its two terminals -/
theorem zn_i {v : Nat} (h : v < 128) : (nI v).toInt8.toInt32 = nI v :=
  lg_i2b_small (by rw [nI_toInt (by omega)]; omega) (by rw [nI_toInt (by omega)]; omega)
theorem zn_b {v : Nat} (h : v < 128) : vp_nar .byte (nI v) = nI v := by
  rw [vp_nar_byte, zn_i h]
theorem zn_bb {v : Nat} (h : v < 128) : vp_nar .byte (nI v).toInt8.toInt32 = nI v := by
  rw [zn_i h, zn_b h]
theorem zn_z {v : Nat} (h : v < 2) : vp_nar .boolean (nI v) = nI v := by
  rcases (by omega : v = 0 ∨ v = 1) with c | c <;> subst c <;> rfl
theorem zn_nb {v : Nat} (h : v < 2) : narrow .boolean (.int (nI v)) = .int (nI v) := by
  rcases (by omega : v = 0 ∨ v = 1) with c | c <;> subst c <;> rfl
theorem zn_fb {v : Nat} (h : v < 2) : fits .boolean (.int (nI v)) = true := by
  rcases (by omega : v = 0 ∨ v = 1) with c | c <;> subst c <;> rfl
theorem zn_in {t : Nat} (h : t < 2) : vp_in (nI t) 2 := vp_in_nI h (by decide)
theorem zn_cl {t : Nat} (h : t < 2) : (nI t).toNatClampNeg = t := nI_clamp (by omega)
def zz_sel (t : Nat) (A B : zz_T) (s : Nat) : zz_T := if s = t then A else B
theorem zz_selp (t : Nat) (A B : zz_T) : zz_sel t A B t = A := if_pos rfl
theorem zz_seln {t s : Nat} (A B : zz_T) (h : s ≠ t) : zz_sel t A B s = B := if_neg h
def zx_S (a kc kn : Int32) (S Y L : zz_A) (R : Nat → zz_A) (N K : zz_A) : SX := (a, kc, kn, S, Y, L, R 0, R 1, R 2, R 3, R 4, R 5, R 6, R 7, R 8, R 9, R 10, R 11, R 12, R 13, R 14, R 15, R 16, R 17, R 18, N, K)
def zx_st (R : Nat → zz_A) (j t v : Nat) : Nat → zz_A := fun i => if i = j then upd (R j) t (nI v) else R i
/-- register 99: the slots are kept in registers 100 .. 111 -/
def zr_V (s : Nat) (L : zz_A) (z sl : Nat → Nat) (T : zz_T) : Prop :=
  (∀ q, q < 12 → L (12 * s + q) = nI (sl q) ∧ sl q < 12) ∧ (∀ p q, p < 12 → q < 12 → sl p = sl q → p = q) ∧ (∀ q c, q < 12 → c < 12 → T.2.1 (12 * q + c) = z (144 * s + 12 * sl q + c)) ∧ (T.1 99 = 1 → ∀ q, q < 12 → sl q = T.1 (100 + q))
theorem zr_Vc {s : Nat} {L : zz_A} {z sl : Nat → Nat} {T T' : zz_T} (h : zr_V s L z sl T) (e2 : T'.2.1 = T.2.1) (e : ∀ i, 99 ≤ i → T'.1 i = T.1 i) : zr_V s L z sl T' := by
  obtain ⟨h1, h2, h3, h4⟩ := h
  refine ⟨h1, h2, ?_, ?_⟩
  · rw [e2]
    exact h3
  · intro q j hj
    rw [e 99 (by omega)] at q
    rw [e (100 + j) (by omega)]
    exact h4 q j hj
def zr_K (kc kn : Int32) (K : zz_A) (T : zz_T) : Prop :=
  kc = nI (T.1 24) ∧ ∃ k, kn = nI k ∧ k < 8 ∧ ∀ i c, i < T.1 24 → i < 8 → c < 12 → K ((k + 7 - i) % 8 * 12 + c) = nI (T.2.2 (12 * i + c))
def zr_B (D : Nat → Prop) (kc kn : Int32) (S Y L : zz_A) (R : Nat → zz_A) (N K : zz_A) (z : Nat → Nat) (sl : Nat → Nat → Nat) (W : Nat → zz_T) : Prop :=
  (∀ s j, s < 2 → j < 19 → R j s = nI ((W s).1 j)) ∧
  (∀ i, i < 288 → S i = nI (z i % 128) ∧ Y i = nI (z i / 128)) ∧
  (∀ s, s < 2 → D s → zr_V s L z (sl s) (W s)) ∧
  (∀ s i, s < 2 → i < 4 → i < (W s).1 18 → N (4 * s + i) = nI ((W s).1 (20 + i))) ∧
  zr_K kc kn K (W 0)
def zr_X (D : Nat → Prop) (u : SX) (t : Nat) (A B : zz_T) : Prop :=
  t < 2 ∧ ∃ kc kn S Y L R N K z sl, u = zx_S (nI t) kc kn S Y L R N K ∧ zr_B D kc kn S Y L R N K z sl (zz_sel t A B)
theorem zr_mk {D : Nat → Prop} {kc kn : Int32} {S Y L : zz_A} {R : Nat → zz_A} {N K : zz_A} {z : Nat → Nat} {sl : Nat → Nat → Nat} {t : Nat} {A B : zz_T} (ht : t < 2) (h : zr_B D kc kn S Y L R N K z sl (zz_sel t A B)) : zr_X D (zx_S (nI t) kc kn S Y L R N K) t A B :=
  ⟨ht, kc, kn, S, Y, L, R, N, K, z, sl, rfl, h⟩
theorem zz_sg2 (t j v s : Nat) (A B : zz_T) : (zz_sel t (zp_sg A j v) B s).2 = (zz_sel t A B s).2 := by
  unfold zz_sel
  split <;> rfl
theorem zz_sgn {j i : Nat} (h : i ≠ j) (t v s : Nat) (A B : zz_T) : (zz_sel t (zp_sg A j v) B s).1 i = (zz_sel t A B s).1 i := by
  unfold zz_sel
  split
  · exact zp_sgn A v h
  · rfl
section
variable {D : Nat → Prop} {kc kn : Int32} {S Y L : zz_A} {R : Nat → zz_A} {N K : zz_A} {z : Nat → Nat} {sl : Nat → Nat → Nat} {t : Nat} {A B : zz_T}
/-- a register of the terminal at hand -/
theorem zr_g (h : zr_B D kc kn S Y L R N K z sl (zz_sel t A B)) (ht : t < 2) {j : Nat} (hj : j < 19) : R j t = nI (A.1 j) := by
  have e := h.1 t j ht hj
  rw [zz_selp] at e
  exact e
theorem zr_st0 (h1 : ∀ s i, s < 2 → i < 19 → R i s = nI ((zz_sel t A B s).1 i)) {j v : Nat} : ∀ s i, s < 2 → i < 19 → zx_st R j t v i s = nI ((zz_sel t (zp_sg A j v) B s).1 i) := by
  intro s i hs hi
  have e := h1 s i hs hi
  unfold zx_st
  by_cases cs : s = t
  · subst cs
    rw [zz_selp] at e
    rw [zz_selp]
    by_cases ci : i = j
    · subst ci
      rw [if_pos rfl, pk_us, zp_sg1]
    · rw [if_neg ci, zp_sgn A v ci, e]
  · rw [zz_seln A B cs] at e
    rw [zz_seln _ B cs]
    by_cases ci : i = j
    · subst ci
      rw [if_pos rfl, pk_un cs, e]
    · rw [if_neg ci, e]
theorem zr_K_sg (h : zr_K kc kn K (zz_sel t A B 0)) {j v : Nat} (hj : 24 ≠ j) : zr_K kc kn K (zz_sel t (zp_sg A j v) B 0) := by
  unfold zr_K at h ⊢
  rw [zz_sgn hj, zz_sg2]
  exact h
theorem zr_st (h : zr_B D kc kn S Y L R N K z sl (zz_sel t A B)) {j v : Nat} (hj : j < 18) : zr_B D kc kn S Y L (zx_st R j t v) N K z sl (zz_sel t (zp_sg A j v) B) := by
  refine ⟨zr_st0 h.1, h.2.1, ?_, ?_, zr_K_sg h.2.2.2.2 (by omega)⟩
  · intro s hs hd
    exact zr_Vc (h.2.2.1 s hs hd) (congrArg Prod.fst (zz_sg2 t j v s A B)) (fun i hi => zz_sgn (by omega) t v s A B)
  · intro s i hs hi
    rw [zz_sgn (by omega : 18 ≠ j), zz_sgn (by omega : 20 + i ≠ j)]
    exact h.2.2.2.1 s i hs hi
/-- the same picture but for cells that lie beyond -/
theorem zz_sc1 (t s : Nat) (a : Nat → Nat) (A B : zz_T) : (zz_sel t (zp_sc A a) B s).1 = (zz_sel t A B s).1 := by
  unfold zz_sel
  split <;> rfl
theorem zz_sc22 (t s : Nat) (a : Nat → Nat) (A B : zz_T) : (zz_sel t (zp_sc A a) B s).2.2 = (zz_sel t A B s).2.2 := by
  unfold zz_sel
  split <;> rfl
theorem zr_K_sc (h : zr_K kc kn K (zz_sel t A B 0)) (a : Nat → Nat) : zr_K kc kn K (zz_sel t (zp_sc A a) B 0) := by
  unfold zr_K at h ⊢
  rw [zz_sc1, zz_sc22]
  exact h
/-- a cell is written -/
theorem zr_wc (h : zr_B D kc kn S Y L R N K z sl (zz_sel t A B)) (ht : t < 2) (hD : D t) {q c : Nat} (v : Nat) (hq : q < 12) (hc : c < 12) :
    zr_B D kc kn (upd S (144 * t + 12 * sl t q + c) (nI (v % 128))) (upd Y (144 * t + 12 * sl t q + c) (nI (v / 128))) L R N K (zp_wF z (144 * t + 12 * sl t q + c) v) sl (zz_sel t (zp_sc A (zp_wF A.2.1 (12 * q + c) v)) B) := by
  obtain ⟨h1, h2, h3, h4, h5⟩ := h
  have hv := h3 t ht hD
  rw [zz_selp] at hv
  obtain ⟨v1, v2, v3, v4⟩ := hv
  have hsq := (v1 q hq).2
  refine ⟨?_, ?_, ?_, ?_, zr_K_sc h5 _⟩
  · intro s j hs hj
    rw [zz_sc1]
    exact h1 s j hs hj
  · intro i hi
    unfold upd zp_wF
    by_cases ci : i = 144 * t + 12 * sl t q + c
    · rw [if_pos ci, if_pos ci, if_pos ci]
      exact ⟨rfl, rfl⟩
    · rw [if_neg ci, if_neg ci, if_neg ci]
      exact h2 i hi
  · intro s hs hd
    by_cases cs : s = t
    · subst cs
      rw [zz_selp]
      refine ⟨v1, v2, ?_, v4⟩
      intro q' c' hq' hc'
      have hsq' := (v1 q' hq').2
      show zp_wF A.2.1 (12 * q + c) v (12 * q' + c') = zp_wF z (144 * s + 12 * sl s q + c) v (144 * s + 12 * sl s q' + c')
      unfold zp_wF
      by_cases ce : 12 * q' + c' = 12 * q + c
      · have e1 : q' = q := by omega
        have e2 : c' = c := by omega
        subst e1 e2
        rw [if_pos rfl, if_pos rfl]
      · rw [if_neg ce, if_neg ?_]
        · exact v3 q' c' hq' hc'
        · intro ce2
          apply ce
          have e1 : sl s q' = sl s q := by omega
          have e2 : c' = c := by omega
          rw [v2 q' q hq' hq e1, e2]
    · have hv' := h3 s hs hd
      rw [zz_seln A B cs] at hv'
      rw [zz_seln _ B cs]
      obtain ⟨w1, w2, w3, w4⟩ := hv'
      refine ⟨w1, w2, ?_, w4⟩
      intro q' c' hq' hc'
      have hsq' := (w1 q' hq').2
      rw [w3 q' c' hq' hc']
      unfold zp_wF
      rw [if_neg (by omega)]
  · intro s i hs hi
    rw [zz_sc1]
    exact h4 s i hs hi
/-- a cell is read -/
theorem zr_rc (h : zr_B D kc kn S Y L R N K z sl (zz_sel t A B)) (ht : t < 2) (hD : D t) {q c : Nat} (hq : q < 12) (hc : c < 12) :
    S (144 * t + 12 * sl t q + c) = nI (A.2.1 (12 * q + c) % 128) ∧ Y (144 * t + 12 * sl t q + c) = nI (A.2.1 (12 * q + c) / 128) := by
  have hv := h.2.2.1 t ht hD
  rw [zz_selp] at hv
  obtain ⟨v1, v2, v3, v4⟩ := hv
  have hsq := (v1 q hq).2
  rw [v3 q c hq hc]
  exact h.2.1 _ (by omega)
theorem zr_sl (h : zr_B D kc kn S Y L R N K z sl (zz_sel t A B)) (ht : t < 2) (hD : D t) {q : Nat} (hq : q < 12) : L (12 * t + q) = nI (sl t q) ∧ sl t q < 12 := by
  have hv := h.2.2.1 t ht hD
  exact hv.1 q hq
/-- the slots of the terminal at hand are turned around -/
theorem zr_rot (h : zr_B D kc kn S Y L R N K z sl (zz_sel t A B)) (ht : t < 2) (hD : D t) (hz : A.1 99 = 0) (L' : zz_A) (ρ : Nat → Nat) (hρ : ∀ q, q < 12 → ρ q < 12) (hi : ∀ p q, p < 12 → q < 12 → ρ p = ρ q → p = q)
    (hL : ∀ q, q < 12 → L' (12 * t + q) = L (12 * t + ρ q)) (hO : ∀ s q, s < 2 → q < 12 → s ≠ t → L' (12 * s + q) = L (12 * s + q)) :
    zr_B D kc kn S Y L' R N K z (fun s q => if s = t then sl t (ρ q) else sl s q) (zz_sel t (zp_sc A (fun i => A.2.1 (12 * ρ (i / 12) + i % 12))) B) := by
  obtain ⟨h1, h2, h3, h4, h5⟩ := h
  refine ⟨?_, h2, ?_, ?_, zr_K_sc h5 _⟩
  · intro s j hs hj
    rw [zz_sc1]
    exact h1 s j hs hj
  · intro s hs hd
    have hv := h3 s hs hd
    by_cases cs : s = t
    · subst cs
      rw [zz_selp] at hv
      rw [zz_selp]
      obtain ⟨v1, v2, v3, v4⟩ := hv
      refine ⟨?_, ?_, ?_, fun q => absurd (hz.symm.trans q) (by decide)⟩
      · intro q hq
        dsimp only
        rw [if_pos rfl, hL q hq]
        exact v1 _ (hρ q hq)
      · intro p q hp hq e
        dsimp only at e
        rw [if_pos rfl, if_pos rfl] at e
        exact hi p q hp hq (v2 _ _ (hρ p hp) (hρ q hq) e)
      · intro q c hq hc
        dsimp only
        rw [if_pos rfl]
        show A.2.1 (12 * ρ ((12 * q + c) / 12) + (12 * q + c) % 12) = _
        rw [show (12 * q + c) / 12 = q by omega, show (12 * q + c) % 12 = c by omega]
        exact v3 _ c (hρ q hq) hc
    · rw [zz_seln A B cs] at hv
      rw [zz_seln _ B cs]
      obtain ⟨v1, v2, v3, v4⟩ := hv
      refine ⟨?_, ?_, ?_, fun q j hj => ?_⟩
      · intro q hq
        dsimp only
        rw [if_neg cs, hO s q hs hq cs]
        exact v1 q hq
      · intro p q hp hq e
        dsimp only at e
        rw [if_neg cs, if_neg cs] at e
        exact v2 p q hp hq e
      · intro q c hq hc
        dsimp only
        rw [if_neg cs]
        exact v3 q c hq hc
      · dsimp only
        rw [if_neg cs]
        exact v4 q j hj
  · intro s i hs hi
    rw [zz_sc1]
    exact h4 s i hs hi
/-- the slots of the terminal at hand as at first -/
theorem zr_new (h : zr_B D kc kn S Y L R N K z sl (zz_sel t A B)) (hz : A.1 99 = 0) (L' : zz_A)
    (hL : ∀ q, q < 12 → L' (12 * t + q) = nI q) (hO : ∀ s q, s < 2 → q < 12 → s ≠ t → L' (12 * s + q) = L (12 * s + q)) :
    zr_B (fun s => s = t ∨ D s) kc kn S Y L' R N K z (fun s q => if s = t then q else sl s q) (zz_sel t (zp_sc A (fun i => if i < 144 then z (144 * t + i) else A.2.1 i)) B) := by
  obtain ⟨h1, h2, h3, h4, h5⟩ := h
  refine ⟨?_, h2, ?_, ?_, zr_K_sc h5 _⟩
  · intro s j hs hj
    rw [zz_sc1]
    exact h1 s j hs hj
  · intro s hs hd
    by_cases cs : s = t
    · subst cs
      rw [zz_selp]
      refine ⟨?_, ?_, ?_, fun q => absurd (hz.symm.trans q) (by decide)⟩
      · intro q hq
        dsimp only
        rw [if_pos rfl]
        exact ⟨hL q hq, hq⟩
      · intro p q hp hq e
        dsimp only at e
        rw [if_pos rfl, if_pos rfl] at e
        exact e
      · intro q c hq hc
        dsimp only
        rw [if_pos rfl]
        show (if 12 * q + c < 144 then z (144 * s + (12 * q + c)) else A.2.1 (12 * q + c)) = _
        rw [if_pos (by omega), Nat.add_assoc]
    · have hv := h3 s hs (hd.resolve_left cs)
      rw [zz_seln A B cs] at hv
      rw [zz_seln _ B cs]
      obtain ⟨v1, v2, v3, v4⟩ := hv
      refine ⟨?_, ?_, ?_, fun q j hj => ?_⟩
      · intro q hq
        dsimp only
        rw [if_neg cs, hO s q hs hq cs]
        exact v1 q hq
      · intro p q hp hq e
        dsimp only at e
        rw [if_neg cs, if_neg cs] at e
        exact v2 p q hp hq e
      · intro q c hq hc
        dsimp only
        rw [if_neg cs]
        exact v3 q c hq hc
      · dsimp only
        rw [if_neg cs]
        exact v4 q j hj
  · intro s i hs hi
    rw [zz_sc1]
    exact h4 s i hs hi
end
end
section
/-! the component: cells and rows -/
theorem zx_k {D : Nat → Prop} {t : Nat} {A B : zz_T} {P : SX → Prop} (H : t < 2 → ∀ kc kn S Y L R N K z sl, zr_B D kc kn S Y L R N K z sl (zz_sel t A B) → P (zx_S (nI t) kc kn S Y L R N K)) : ∀ u', zr_X D u' t A B → P u' := by
  intro u' h
  obtain ⟨ht, kc, kn, S, Y, L, R, N, K, z, sl, rfl, h⟩ := h
  exact H ht kc kn S Y L R N K z sl h
theorem zn_line (t o r : Nat) : (nI t * 2 + nI o) * 6 + nI r = nI (12 * t + (6 * o + r)) := by
  have e : (nI t * nI 2 + nI o) * nI 6 + nI r = nI (12 * t + (6 * o + r)) := by
    rw [pk_mul, nI_add, pk_mul, nI_add]
    exact congrArg nI (by omega)
  exact e
theorem zn_pos (t s : Nat) : (nI t * 12 + nI s) * 12 = nI (144 * t + 12 * s) := by
  have e : (nI t * nI 12 + nI s) * nI 12 = nI (144 * t + 12 * s) := by
    rw [pk_mul, nI_add, pk_mul]
    exact congrArg nI (by omega)
  exact e
section
variable {D : Nat → Prop} {kc kn : Int32} {S Y L : zz_A} {R : Nat → zz_A} {N K : zz_A} {z : Nat → Nat} {sl : Nat → Nat → Nat} {t : Nat} {A B : zz_T}
theorem zx_lineAt (h : zr_B D kc kn S Y L R N K z sl (zz_sel t A B)) (ht : t < 2) (hD : D t) {r : Nat} (hr : r < 6) (ho : A.1 8 < 2) {post : Int32 → Prop} (hp : post (nI (144 * t + 12 * sl t (6 * A.1 8 + r)))) : wpX_lineAt post (zx_S (nI t) kc kn S Y L R N K) (nI r) := by
  have hs := zr_sl h ht hD (q := 6 * A.1 8 + r) (by omega)
  have e8 := zr_g h ht (j := 8) (by decide)
  refine And.intro (zn_in ht) ?_
  show vp_in ((nI t * 2 + R 8 (nI t).toNatClampNeg) * 6 + nI r) 24 ∧ post ((nI t * 12 + L ((nI t * 2 + R 8 (nI t).toNatClampNeg) * 6 + nI r).toNatClampNeg) * 12)
  rw [zn_cl ht, e8, zn_line, nI_clamp (by omega), hs.1, zn_pos]
  exact ⟨vp_in_nI (by omega) (by decide), hp⟩
theorem zp_eF_w {a : Nat → Nat} {f e : Nat} (h : f < e) : zp_eF (zp_wF a f 32) (f + 1) e = zp_eF a f e := by
  funext i
  simp only [zp_eF, zp_wF]
  (repeat' split) <;> first | rfl | omega
theorem zp_eF_0 (a : Nat → Nat) (f : Nat) : zp_eF a f f = a := by
  funext i
  simp only [zp_eF]
  (repeat' split) <;> first | rfl | omega
theorem zx_emptyCells_10 {post : SX → Prop} {q e : Nat} (ht : t < 2) (hD : D t) (hq : q < 12) (he : e ≤ 12) : ∀ (d c : Nat) (S Y : zz_A) (z : Nat → Nat) (A : zz_T), c + d = e → zr_B D kc kn S Y L R N K z sl (zz_sel t A B) →
    (∀ S' Y' z', zr_B D kc kn S' Y' L R N K z' sl (zz_sel t (zp_sc A (zp_eF A.2.1 (12 * q + c) (12 * q + e))) B) → post (zx_S (nI t) kc kn S' Y' L R N K)) →
    ∀ n, d < n → wX_emptyCells_10 post (nI e) (nI (144 * t + 12 * sl t q)) (nI t) kc kn n (nI c) S Y L (R 0) (R 1) (R 2) (R 3) (R 4) (R 5) (R 6) (R 7) (R 8) (R 9) (R 10) (R 11) (R 12) (R 13) (R 14) (R 15) (R 16) (R 17) (R 18) N K := by
  intro d
  induction d with
  | zero =>
    intro c S Y z A hc h hp n hn
    obtain ⟨m, rfl⟩ : ∃ m, n = m + 1 := ⟨n - 1, by omega⟩
    refine br_t (nI_le (by omega) (by omega)) (hp S Y z ?_)
    rw [show c = e by omega, zp_eF_0]
    exact h
  | succ d ih =>
    intro c S Y z A hc h hp n hn
    obtain ⟨m, rfl⟩ : ∃ m, n = m + 1 := ⟨n - 1, by omega⟩
    have hs := (zr_sl h ht hD hq).2
    have ei : vp_in (nI (144 * t + 12 * sl t q) + nI c) 288 := by
      rw [nI_add]
      exact vp_in_nI (by omega) (by decide)
    have ec : (nI (144 * t + 12 * sl t q) + nI c).toNatClampNeg = 144 * t + 12 * sl t q + c := by
      rw [nI_add]
      exact nI_clamp (by omega)
    refine br_f (nI_ge (by omega) (by omega)) ⟨ei, nm_r (e' := upd S (144 * t + 12 * sl t q + c) (nI (32 % 128))) ?_ ⟨ei, nm_r (e' := upd Y (144 * t + 12 * sl t q + c) (nI (32 / 128))) ?_ (nm_r (nI_1 c) ?_)⟩⟩
    · rw [ec]
      exact congrArg _ (zn_b (v := 32) (by decide))
    · rw [ec]
      exact congrArg _ (zn_b (v := 0) (by decide))
    · refine ih (c + 1) _ _ _ _ (by omega) (zr_wc h ht hD 32 hq (by omega)) (fun S' Y' z' h' => hp S' Y' z' ?_) m (by omega)
      rw [← zp_eF_w (show 12 * q + c < 12 * q + e by omega)]
      exact h'
theorem zx_emptyCells {u : SX} {post : SX → Prop} {r f e : Nat} (h : zr_X D u t A B) (hD : D t) (ho : A.1 8 < 2) (hr : r < 6) (hf : f ≤ e) (he : e ≤ 12) (hp : ∀ u', zr_X D u' t (zp_E A (12 * r + f) (12 * r + e)) B → post u') : wpX_emptyCells post u (nI r) (nI f) (nI e) := by
  obtain ⟨ht, kc, kn, S, Y, L, R, N, K, z, sl, rfl, h⟩ := h
  refine zx_lineAt (post := fun r_1 => ∃ n10 : Nat, wX_emptyCells_10 post (nI e) r_1 (nI t) kc kn n10 (nI f) S Y L (R 0) (R 1) (R 2) (R 3) (R 4) (R 5) (R 6) (R 7) (R 8) (R 9) (R 10) (R 11) (R 12) (R 13) (R 14) (R 15) (R 16) (R 17) (R 18) N K) h ht hD hr ho ⟨e - f + 1, ?_⟩
  refine zx_emptyCells_10 ht hD (by omega) he (e - f) f S Y z A (by omega) h (fun S' Y' z' h' => ?_) _ (by omega)
  refine hp _ (zr_mk ht (z := z') (sl := sl) ?_)
  rw [show 12 * (6 * A.1 8 + r) + f = 72 * A.1 8 + (12 * r + f) by omega, show 12 * (6 * A.1 8 + r) + e = 72 * A.1 8 + (12 * r + e) by omega] at h'
  exact h'
theorem zp_E_E {T : zz_T} {f g e : Nat} (h1 : f ≤ g) (h2 : g ≤ e) : zp_E (zp_E T f g) g e = zp_E T f e := by
  refine congrArg (zp_sc T) ?_
  funext i
  show zp_eF (zp_eF T.2.1 (72 * T.1 8 + f) (72 * T.1 8 + g)) (72 * T.1 8 + g) (72 * T.1 8 + e) i = _
  simp only [zp_eF]
  (repeat' split) <;> first | rfl | omega
theorem zp_E_0 (T : zz_T) (f : Nat) : zp_E T f f = T := congrArg (zp_sc T) (zp_eF_0 _ _)
theorem zx_emptyRows_2 {post : SX → Prop} {e : Nat} (ht : t < 2) (hD : D t) (he : e ≤ 6) : ∀ (d r : Nat) (kc kn : Int32) (S Y L : zz_A) (R : Nat → zz_A) (N K : zz_A) (z : Nat → Nat) (sl : Nat → Nat → Nat) (A : zz_T), r + d = e → A.1 8 < 2 → zr_B D kc kn S Y L R N K z sl (zz_sel t A B) →
    (∀ u', zr_X D u' t (zp_E A (12 * r) (12 * e)) B → post u') → ∀ n, d < n → wX_emptyRows_2 post (nI e) n (nI r) (nI t) kc kn S Y L (R 0) (R 1) (R 2) (R 3) (R 4) (R 5) (R 6) (R 7) (R 8) (R 9) (R 10) (R 11) (R 12) (R 13) (R 14) (R 15) (R 16) (R 17) (R 18) N K := by
  intro d
  induction d with
  | zero =>
    intro r kc kn S Y L R N K z sl A hr ho h hp n hn
    obtain ⟨m, rfl⟩ : ∃ m, n = m + 1 := ⟨n - 1, by omega⟩
    rw [show r = e by omega, zp_E_0] at hp
    exact br_t (nI_le (by omega) (by omega)) (hp _ (zr_mk ht h))
  | succ d ih =>
    intro r kc kn S Y L R N K z sl A hr ho h hp n hn
    obtain ⟨m, rfl⟩ : ∃ m, n = m + 1 := ⟨n - 1, by omega⟩
    refine br_f (nI_ge (by omega) (by omega)) (zx_emptyCells (r := r) (f := 0) (e := 12) (zr_mk ht h) hD ho (by omega) (by omega) (by omega) (zx_k ?_))
    intro ht' kc' kn' S' Y' L' R' N' K' z' sl' h'
    refine nm_r (nI_1 r) (ih (r + 1) kc' kn' S' Y' L' R' N' K' z' sl' (zp_E A (12 * r + 0) (12 * r + 12)) (by omega) ho h' ?_ m (by omega))
    intro u' h''
    refine hp u' ?_
    rw [← zp_E_E (show 12 * r ≤ 12 * (r + 1) by omega) (show 12 * (r + 1) ≤ 12 * e by omega)]
    exact h''
theorem zx_emptyRows {u : SX} {post : SX → Prop} {f e : Nat} (h : zr_X D u t A B) (hD : D t) (ho : A.1 8 < 2) (hf : f ≤ e) (he : e ≤ 6) (hp : ∀ u', zr_X D u' t (zp_E A (12 * f) (12 * e)) B → post u') : wpX_emptyRows post u (nI f) (nI e) := by
  obtain ⟨ht, kc, kn, S, Y, L, R, N, K, z, sl, rfl, h⟩ := h
  exact ⟨e - f + 1, zx_emptyRows_2 ht hD he (e - f) f kc kn S Y L R N K z sl A (by omega) ho h hp _ (by omega)⟩
theorem zx_moveTo {u : SX} {post : SX → Prop} {r c : Nat} (h : zr_X D u t A B) (hr : r < 6) (hc : c < 12) (hp : ∀ u', zr_X D u' t (zp_mv A r c) B → post u') : wpX_moveTo post u (nI r) (nI c) := by
  obtain ⟨ht, kc, kn, S, Y, L, R, N, K, z, sl, rfl, h⟩ := h
  refine And.intro (zn_in ht) (nm_r (e' := upd (R 0) t (nI r)) (by rw [zn_cl ht, zn_bb (by omega)]) ⟨zn_in ht, nm_r (e' := upd (R 1) t (nI c)) (by rw [zn_cl ht, zn_bb (by omega)]) ?_⟩)
  exact hp _ (zr_mk ht (zr_st (j := 1) (zr_st (j := 0) h (by decide)) (by decide)))
theorem zx_wholeRegion {u : SX} {post : SX → Prop} (h : zr_X D u t A B) (hp : ∀ u', zr_X D u' t (zp_rg A 0 5) B → post u') : wpX_wholeRegion post u := by
  obtain ⟨ht, kc, kn, S, Y, L, R, N, K, z, sl, rfl, h⟩ := h
  refine And.intro (zn_in ht) (nm_r (e' := upd (R 4) t (nI 0)) (by rw [zn_cl ht]; exact congrArg _ (zn_b (v := 0) (by decide))) ⟨zn_in ht, nm_r (e' := upd (R 5) t (nI 5)) (by rw [zn_cl ht]; exact congrArg _ (zn_b (v := 5) (by decide))) ?_⟩)
  exact hp _ (zr_mk ht (zr_st (j := 5) (zr_st (j := 4) h (by decide)) (by decide)))
theorem zx_copyCell {post : SX → Prop} {q f g : Nat} (h : zr_B D kc kn S Y L R N K z sl (zz_sel t A B)) (ht : t < 2) (hD : D t) (hq : q < 12) (hf : f < 12) (hg : g < 12) (hk : A.2.1 (12 * q + f) < 1024)
    (hp : ∀ S' Y' z', zr_B D kc kn S' Y' L R N K z' sl (zz_sel t (zp_sc A (zp_wF A.2.1 (12 * q + g) (A.2.1 (12 * q + f)))) B) → post (zx_S (nI t) kc kn S' Y' L R N K)) :
    wpX_copyCell post (zx_S (nI t) kc kn S Y L R N K) (nI (144 * t + 12 * sl t q)) (nI f) (nI g) := by
  have hs := (zr_sl h ht hD hq).2
  obtain ⟨r1, r2⟩ := zr_rc h ht hD hq hf
  have i1 : vp_in (nI (144 * t + 12 * sl t q) + nI f) 288 := by
    rw [nI_add]
    exact vp_in_nI (by omega) (by decide)
  have i2 : vp_in (nI (144 * t + 12 * sl t q) + nI g) 288 := by
    rw [nI_add]
    exact vp_in_nI (by omega) (by decide)
  have c1 : (nI (144 * t + 12 * sl t q) + nI f).toNatClampNeg = 144 * t + 12 * sl t q + f := by
    rw [nI_add]
    exact nI_clamp (by omega)
  have c2 : (nI (144 * t + 12 * sl t q) + nI g).toNatClampNeg = 144 * t + 12 * sl t q + g := by
    rw [nI_add]
    exact nI_clamp (by omega)
  refine And.intro i1 ⟨i2, nm_r (e' := upd S (144 * t + 12 * sl t q + g) (nI (A.2.1 (12 * q + f) % 128))) ?_ ⟨i1, ⟨i2, nm_r (e' := upd Y (144 * t + 12 * sl t q + g) (nI (A.2.1 (12 * q + f) / 128))) ?_ ?_⟩⟩⟩
  · rw [c1, c2, r1, zn_b (by omega)]
  · rw [c1, c2, r2, zn_b (by omega)]
  · exact hp _ _ _ (zr_wc h ht hD (A.2.1 (12 * q + f)) hq hg)
end
end
section
/-! the component: rows are turned around -/
def zp_ru (f e q : Nat) : Nat := if f ≤ q ∧ q < e then q + 1 else if q = e then f else q
def zp_rd0 (f e q : Nat) : Nat := if f < q ∧ q ≤ e then q - 1 else if q = f then e else q
section
variable {D : Nat → Prop} {kc kn : Int32} {S Y L : zz_A} {R : Nat → zz_A} {N K : zz_A} {z : Nat → Nat} {sl : Nat → Nat → Nat} {t : Nat} {A B : zz_T}
theorem zx_turnUp_21 {post : SX → Prop} {b f e s : Nat} (hb : b + 6 ≤ 24) (hfe : f ≤ e) (he : e < 6) (hs : s < 12) (hL : ∀ i, b ≤ i → i < b + 6 → vp_nar .byte (L i) = L i)
    (hp : ∀ L' : zz_A, (∀ i, L' i = if b + f ≤ i ∧ i < b + e then L (i + 1) else if i = b + e then nI s else L i) → wpX_emptyCells post (zx_S (nI t) kc kn S Y L' R N K) (nI e) (nI 0) (nI 12)) :
    ∀ (d r : Nat) (L' : zz_A), r + d = e → f ≤ r → (∀ i, L' i = if b + f ≤ i ∧ i < b + r then L (i + 1) else L i) → ∀ n, d < n → wX_turnUp_21 post (nI e) (nI b) (nI s) (nI t) kc kn n (nI r) S Y L' (R 0) (R 1) (R 2) (R 3) (R 4) (R 5) (R 6) (R 7) (R 8) (R 9) (R 10) (R 11) (R 12) (R 13) (R 14) (R 15) (R 16) (R 17) (R 18) N K := by
  intro d
  induction d with
  | zero =>
    intro r L' hr hfr hL' n hn
    obtain ⟨m, rfl⟩ : ∃ m, n = m + 1 := ⟨n - 1, by omega⟩
    refine br_t (nI_le (by omega) (by omega)) ⟨?_, nm_r (e' := upd L' (b + e) (nI s)) ?_ ?_⟩
    · rw [nI_add]
      exact vp_in_nI (by omega) (by decide)
    · rw [nI_add, nI_clamp (by omega), zn_b (by omega)]
    · refine hp _ (fun i => ?_)
      unfold upd
      rw [hL' i]
      (repeat' split) <;> first | rfl | omega
  | succ d ih =>
    intro r L' hr hfr hL' n hn
    obtain ⟨m, rfl⟩ : ∃ m, n = m + 1 := ⟨n - 1, by omega⟩
    have e1 : L' (b + r + 1) = L (b + r + 1) := by
      rw [hL', if_neg (by omega)]
    refine br_f (nI_ge (by omega) (by omega)) ⟨?_, ⟨?_, nm_r (e' := upd L' (b + r) (L (b + r + 1))) ?_ (nm_r (nI_1 r) ?_)⟩⟩
    · rw [nI_add, nI_1]
      exact vp_in_nI (by omega) (by decide)
    · rw [nI_add]
      exact vp_in_nI (by omega) (by decide)
    · rw [nI_add, nI_1, nI_clamp (by omega), nI_clamp (by omega), e1, hL _ (by omega) (by omega)]
    · refine ih (r + 1) _ (by omega) (by omega) (fun i => ?_) m (by omega)
      unfold upd
      by_cases ci : i = b + r
      · rw [if_pos ci, if_pos (by omega), ci]
      · rw [if_neg ci, hL' i]
        (repeat' split) <;> first | rfl | omega
theorem zx_turnDown_21 {post : SX → Prop} {b f e s : Nat} (hb : b + 6 ≤ 24) (hfe : f ≤ e) (he : e < 6) (hs : s < 12) (hL : ∀ i, b ≤ i → i < b + 6 → vp_nar .byte (L i) = L i)
    (hp : ∀ L' : zz_A, (∀ i, L' i = if b + f < i ∧ i ≤ b + e then L (i - 1) else if i = b + f then nI s else L i) → wpX_emptyCells post (zx_S (nI t) kc kn S Y L' R N K) (nI f) (nI 0) (nI 12)) :
    ∀ (d r : Nat) (L' : zz_A), r = f + d → r ≤ e → (∀ i, L' i = if b + r < i ∧ i ≤ b + e then L (i - 1) else L i) → ∀ n, d < n → wX_turnDown_21 post (nI f) (nI b) (nI s) (nI t) kc kn n (nI r) S Y L' (R 0) (R 1) (R 2) (R 3) (R 4) (R 5) (R 6) (R 7) (R 8) (R 9) (R 10) (R 11) (R 12) (R 13) (R 14) (R 15) (R 16) (R 17) (R 18) N K := by
  intro d
  induction d with
  | zero =>
    intro r L' hr hfr hL' n hn
    obtain ⟨m, rfl⟩ : ∃ m, n = m + 1 := ⟨n - 1, by omega⟩
    refine br_t (nI_le (by omega) (by omega)) ⟨?_, nm_r (e' := upd L' (b + f) (nI s)) ?_ ?_⟩
    · rw [nI_add]
      exact vp_in_nI (by omega) (by decide)
    · rw [nI_add, nI_clamp (by omega), zn_b (by omega)]
    · refine hp _ (fun i => ?_)
      unfold upd
      rw [hL' i]
      (repeat' split) <;> first | rfl | omega
  | succ d ih =>
    intro r L' hr hfr hL' n hn
    obtain ⟨m, rfl⟩ : ∃ m, n = m + 1 := ⟨n - 1, by omega⟩
    have e0 : nI b + nI r - 1 = nI (b + r - 1) := by
      rw [nI_add]
      exact pk_sub (a := b + r) (b := 1) (by omega)
    have e1 : L' (b + r - 1) = L (b + r - 1) := by
      rw [hL', if_neg (by omega)]
    have e2 : nI r + (-1) = nI (r - 1) := by
      rw [show r = (r - 1) + 1 by omega, pk_m1]
      rfl
    refine br_f (nI_ge (by omega) (by omega)) ⟨?_, ⟨?_, nm_r (e' := upd L' (b + r) (L (b + r - 1))) ?_ (nm_r e2 ?_)⟩⟩
    · rw [e0]
      exact vp_in_nI (by omega) (by decide)
    · rw [nI_add]
      exact vp_in_nI (by omega) (by decide)
    · rw [e0, nI_add, nI_clamp (by omega), nI_clamp (by omega), e1, hL _ (by omega) (by omega)]
    · refine ih (r - 1) _ (by omega) (by omega) (fun i => ?_) m (by omega)
      unfold upd
      by_cases ci : i = b + r
      · rw [if_pos ci, if_pos (by omega), ci]
      · rw [if_neg ci, hL' i]
        (repeat' split) <;> first | rfl | omega
theorem zn_base (t o : Nat) : (nI t * 2 + nI o) * 6 = nI (12 * t + 6 * o) := by
  have e : (nI t * nI 2 + nI o) * nI 6 = nI (12 * t + 6 * o) := by
    rw [pk_mul, nI_add, pk_mul]
    exact congrArg nI (by omega)
  exact e
theorem zp_up_eq (T : zz_T) {f e : Nat} (h : f ≤ e) : zp_E (zp_sc T (fun i => T.2.1 (12 * zp_ru (6 * T.1 8 + f) (6 * T.1 8 + e) (i / 12) + i % 12))) (12 * e + 0) (12 * e + 12) = zp_U T (12 * f) (12 * e + 12) 12 := by
  refine congrArg (zp_sc T) ?_
  funext i
  show zp_eF (fun i => T.2.1 (12 * zp_ru (6 * T.1 8 + f) (6 * T.1 8 + e) (i / 12) + i % 12)) (72 * T.1 8 + (12 * e + 0)) (72 * T.1 8 + (12 * e + 12)) i = _
  simp only [zp_eF, zp_uF, zp_ru]
  (repeat' split) <;> first | rfl | omega | exact congrArg T.2.1 (by omega)
theorem zp_dn_eq (T : zz_T) {f e : Nat} (h : f ≤ e) : zp_E (zp_sc T (fun i => T.2.1 (12 * zp_rd0 (6 * T.1 8 + f) (6 * T.1 8 + e) (i / 12) + i % 12))) (12 * f + 0) (12 * f + 12) = zp_D T (12 * f) (12 * e + 12) 12 := by
  refine congrArg (zp_sc T) ?_
  funext i
  show zp_eF (fun i => T.2.1 (12 * zp_rd0 (6 * T.1 8 + f) (6 * T.1 8 + e) (i / 12) + i % 12)) (72 * T.1 8 + (12 * f + 0)) (72 * T.1 8 + (12 * f + 12)) i = _
  simp only [zp_eF, zp_dF, zp_rd0]
  (repeat' split) <;> first | rfl | omega | exact congrArg T.2.1 (by omega)
theorem zx_turnUp {u : SX} {post : SX → Prop} {f e : Nat} (h : zr_X D u t A B) (hD : D t) (hz : A.1 99 = 0) (ho : A.1 8 < 2) (hf : f ≤ e) (he : e < 6) (hp : ∀ u', zr_X D u' t (zp_U A (12 * f) (12 * e + 12) 12) B → post u') : wpX_turnUp post u (nI f) (nI e) := by
  obtain ⟨ht, kc, kn, S, Y, L, R, N, K, z, sl, rfl, h⟩ := h
  have e8 := zr_g h ht (j := 8) (by decide)
  have hsl := fun q hq => zr_sl h ht hD (q := q) hq
  have e0 := hsl (6 * A.1 8 + f) (by omega)
  have eb : (nI t * 2 + R 8 (nI t).toNatClampNeg) * 6 = nI (12 * t + 6 * A.1 8) := by
    rw [zn_cl ht, e8, zn_base]
  refine And.intro (zn_in ht) (nm_r eb ⟨?_, nm_r (e' := nI (sl t (6 * A.1 8 + f))) ?_ ⟨e - f + 1, ?_⟩⟩)
  · rw [nI_add]
    exact vp_in_nI (by omega) (by decide)
  · rw [nI_add, nI_clamp (by omega), Nat.add_assoc, e0.1]
  · refine zx_turnUp_21 (L := L) (b := 12 * t + 6 * A.1 8) (f := f) (by omega) hf he e0.2 ?_ ?_ (e - f) f L (by omega) (by omega) (fun i => (if_neg (by omega)).symm) _ (by omega)
    · intro i h1 h2
      have e1 := hsl (i - 12 * t) (by omega)
      rw [show i = 12 * t + (i - 12 * t) by omega, e1.1]
      exact zn_b (by omega)
    · intro L' hL'
      have h2 := zr_rot h ht hD hz L' (zp_ru (6 * A.1 8 + f) (6 * A.1 8 + e)) ?_ ?_ ?_ ?_
      · refine zx_emptyCells (r := e) (f := 0) (e := 12) (zr_mk ht h2) hD ho he (by omega) (by omega) ?_
        rw [zp_up_eq A hf]
        exact hp
      · intro q hq
        unfold zp_ru
        (repeat' split) <;> omega
      · intro p q hp hq
        unfold zp_ru
        (repeat' split) <;> omega
      · intro q hq
        rw [hL']
        unfold zp_ru
        by_cases c1 : 6 * A.1 8 + f ≤ q ∧ q < 6 * A.1 8 + e
        · rw [if_pos c1, if_pos (by omega)]
          exact congrArg L (by omega)
        · rw [if_neg c1, if_neg (by omega)]
          by_cases c2 : q = 6 * A.1 8 + e
          · rw [if_pos c2, if_pos (by omega), e0.1]
          · rw [if_neg c2, if_neg (by omega)]
      · intro s q hs hq hst
        rw [hL', if_neg (by omega), if_neg (by omega)]
theorem zx_turnDown {u : SX} {post : SX → Prop} {f e : Nat} (h : zr_X D u t A B) (hD : D t) (hz : A.1 99 = 0) (ho : A.1 8 < 2) (hf : f ≤ e) (he : e < 6) (hp : ∀ u', zr_X D u' t (zp_D A (12 * f) (12 * e + 12) 12) B → post u') : wpX_turnDown post u (nI f) (nI e) := by
  obtain ⟨ht, kc, kn, S, Y, L, R, N, K, z, sl, rfl, h⟩ := h
  have e8 := zr_g h ht (j := 8) (by decide)
  have hsl := fun q hq => zr_sl h ht hD (q := q) hq
  have e0 := hsl (6 * A.1 8 + e) (by omega)
  have eb : (nI t * 2 + R 8 (nI t).toNatClampNeg) * 6 = nI (12 * t + 6 * A.1 8) := by
    rw [zn_cl ht, e8, zn_base]
  refine And.intro (zn_in ht) (nm_r eb ⟨?_, nm_r (e' := nI (sl t (6 * A.1 8 + e))) ?_ ⟨e - f + 1, ?_⟩⟩)
  · rw [nI_add]
    exact vp_in_nI (by omega) (by decide)
  · rw [nI_add, nI_clamp (by omega), Nat.add_assoc, e0.1]
  · refine zx_turnDown_21 (L := L) (b := 12 * t + 6 * A.1 8) (f := f) (e := e) (by omega) hf he e0.2 ?_ ?_ (e - f) e L (by omega) (by omega) (fun i => (if_neg (by omega)).symm) _ (by omega)
    · intro i h1 h2
      have e1 := hsl (i - 12 * t) (by omega)
      rw [show i = 12 * t + (i - 12 * t) by omega, e1.1]
      exact zn_b (by omega)
    · intro L' hL'
      have h2 := zr_rot h ht hD hz L' (zp_rd0 (6 * A.1 8 + f) (6 * A.1 8 + e)) ?_ ?_ ?_ ?_
      · refine zx_emptyCells (r := f) (f := 0) (e := 12) (zr_mk ht h2) hD ho (by omega) (by omega) (by omega) ?_
        rw [zp_dn_eq A hf]
        exact hp
      · intro q hq
        unfold zp_rd0
        (repeat' split) <;> omega
      · intro p q hp hq
        unfold zp_rd0
        (repeat' split) <;> omega
      · intro q hq
        rw [hL']
        unfold zp_rd0
        by_cases c1 : 6 * A.1 8 + f < q ∧ q ≤ 6 * A.1 8 + e
        · rw [if_pos c1, if_pos (by omega)]
          exact congrArg L (by omega)
        · rw [if_neg c1, if_neg (by omega)]
          by_cases c2 : q = 6 * A.1 8 + f
          · rw [if_pos c2, if_pos (by omega), e0.1]
          · rw [if_neg c2, if_neg (by omega)]
      · intro s q hs hq hst
        rw [hL', if_neg (by omega), if_neg (by omega)]
end
end
section
/-! the component: scrolling -/
section
variable {D : Nat → Prop} {kc kn : Int32} {S Y L : zz_A} {R : Nat → zz_A} {N K : zz_A} {z : Nat → Nat} {sl : Nat → Nat → Nat} {t : Nat} {A B : zz_T}
theorem zr_keep {kc' kn' : Int32} {K' : zz_A} (h : zr_B D kc kn S Y L R N K z sl (zz_sel 0 A B)) (hk : zr_K kc' kn' K' (zp_keep A)) : zr_B D kc' kn' S Y L R N K' z sl (zz_sel 0 (zp_keep A) B) := by
  obtain ⟨h1, h2, h3, h4, h5⟩ := h
  have e1 : ∀ s i, i ≠ 24 → (zz_sel 0 (zp_keep A) B s).1 i = (zz_sel 0 A B s).1 i := by
    intro s i hi
    unfold zz_sel
    split
    · exact zp_kpn A hi
    · rfl
  have e2 : ∀ s, (zz_sel 0 (zp_keep A) B s).2.1 = (zz_sel 0 A B s).2.1 := by
    intro s
    unfold zz_sel
    split <;> rfl
  refine ⟨?_, h2, ?_, ?_, hk⟩
  · intro s j hs hj
    rw [e1 s j (by omega)]
    exact h1 s j hs hj
  · intro s hs hd
    exact zr_Vc (h3 s hs hd) (e2 s) (fun i hi => e1 s i (by omega))
  · intro s i hs hi
    rw [e1 s 18 (by decide), e1 s (20 + i) (by omega)]
    exact h4 s i hs hi
theorem zr_cg1 {A' : zz_T} (h : zr_B D kc kn S Y L R N K z sl (zz_sel t A B)) (ht : t ≠ 0) (e1 : ∀ j, j ≠ 24 → A'.1 j = A.1 j) (e2 : A'.2.1 = A.2.1) : zr_B D kc kn S Y L R N K z sl (zz_sel t A' B) := by
  obtain ⟨h1, h2, h3, h4, h5⟩ := h
  have f1 : ∀ s i, i ≠ 24 → (zz_sel t A' B s).1 i = (zz_sel t A B s).1 i := by
    intro s i hi
    unfold zz_sel
    split
    · exact e1 i hi
    · rfl
  have f2 : ∀ s, (zz_sel t A' B s).2.1 = (zz_sel t A B s).2.1 := by
    intro s
    unfold zz_sel
    split
    · exact e2
    · rfl
  refine ⟨?_, h2, ?_, ?_, ?_⟩
  · intro s j hs hj
    rw [f1 s j (by omega)]
    exact h1 s j hs hj
  · intro s hs hd
    exact zr_Vc (h3 s hs hd) (f2 s) (fun i hi => f1 s i (by omega))
  · intro s i hs hi
    rw [f1 s 18 (by decide), f1 s (20 + i) (by omega)]
    exact h4 s i hs hi
  · rw [zz_seln A B (Ne.symm ht)] at h5
    rw [zz_seln A' B (Ne.symm ht)]
    exact h5
theorem zx_keepRow_8 {post : SX → Prop} {k p : Nat} (hk : k < 8) (hpp : p + 12 ≤ 288) (hS : ∀ c, c < 12 → vp_nar .byte (S (p + c)) = S (p + c))
    (hp : ∀ K' : zz_A, (∀ i, K' i = if k * 12 ≤ i ∧ i < k * 12 + 12 then S (p + (i - k * 12)) else K i) → (8 ≤ kc → post (zx_S (nI t) 8 (nI ((k + 1) % 8)) S Y L R N K')) ∧ (¬ 8 ≤ kc → post (zx_S (nI t) (kc + 1) (nI ((k + 1) % 8)) S Y L R N K'))) :
    ∀ (d c : Nat) (K' : zz_A), c + d = 12 → (∀ i, K' i = if k * 12 ≤ i ∧ i < k * 12 + c then S (p + (i - k * 12)) else K i) → ∀ n, d < n → wX_keepRow_8 post (nI p) (nI t) kc (nI k) n (nI c) S Y L (R 0) (R 1) (R 2) (R 3) (R 4) (R 5) (R 6) (R 7) (R 8) (R 9) (R 10) (R 11) (R 12) (R 13) (R 14) (R 15) (R 16) (R 17) (R 18) N K' := by
  intro d
  induction d with
  | zero =>
    intro c K' hc hK' n hn
    obtain ⟨m, rfl⟩ : ∃ m, n = m + 1 := ⟨n - 1, by omega⟩
    have ek : (nI k + 1) - (nI k + 1) / 8 * 8 = nI ((k + 1) % 8) := by
      rw [nI_1]
      exact pk_rem (a := k + 1) (d := 8) (by omega) (by decide) (by decide)
    rw [show c = 12 by omega] at hK'
    obtain ⟨p1, p2⟩ := hp K' hK'
    exact br_t (nI_le (a := 12) (by omega) (by omega)) ⟨by decide, nm_r ek ⟨p1, fun q => nm_e (p2 q)⟩⟩
  | succ d ih =>
    intro c K' hc hK' n hn
    obtain ⟨m, rfl⟩ : ∃ m, n = m + 1 := ⟨n - 1, by omega⟩
    have ec : nI k * 12 + nI c = nI (k * 12 + c) := by
      have e : nI k * nI 12 + nI c = nI (k * 12 + c) := by rw [pk_mul, nI_add]
      exact e
    refine br_f (nI_ge (b := 12) (by omega) (by decide)) ⟨?_, ⟨?_, nm_r (e' := upd K' (k * 12 + c) (S (p + c))) ?_ (nm_r (nI_1 c) ?_)⟩⟩
    · rw [nI_add]
      exact vp_in_nI (by omega) (by decide)
    · rw [ec]
      exact vp_in_nI (by omega) (by decide)
    · rw [ec, nI_add, nI_clamp (by omega), nI_clamp (by omega), hS c (by omega)]
    · refine ih (c + 1) _ (by omega) (fun i => ?_) m (by omega)
      unfold upd
      by_cases ci : i = k * 12 + c
      · rw [if_pos ci, if_pos (by omega)]
        exact congrArg S (by omega)
      · rw [if_neg ci, hK' i]
        (repeat' split) <;> first | rfl | omega
theorem zx_keepRow {u : SX} {post : SX → Prop} (h : zr_X D u 0 A B) (hD : D 0) (ho : A.1 8 = 0) (hc : A.1 24 ≤ 8) (hp : ∀ u', zr_X D u' 0 (zp_keep A) B → post u') : wpX_keepRow post u := by
  obtain ⟨ht, kc, kn, S, Y, L, R, N, K, z, sl, rfl, h⟩ := h
  have hk := h.2.2.2.2
  rw [zz_selp] at hk
  obtain ⟨rfl, k, rfl, k8, hK⟩ := hk
  have hs := (zr_sl h ht hD (q := 6 * A.1 8 + 0) (by omega)).2
  refine zx_lineAt (r := 0) (post := fun r_1 => ∃ n8 : Nat, wX_keepRow_8 post r_1 (nI 0) (nI (A.1 24)) (nI k) n8 0 S Y L (R 0) (R 1) (R 2) (R 3) (R 4) (R 5) (R 6) (R 7) (R 8) (R 9) (R 10) (R 11) (R 12) (R 13) (R 14) (R 15) (R 16) (R 17) (R 18) N K) h ht hD (by decide) (by omega) ⟨13, ?_⟩
  have hr : ∀ c, c < 12 → S (144 * 0 + 12 * sl 0 (6 * A.1 8 + 0) + c) = nI (A.2.1 c % 128) := by
    intro c hc
    have e := (zr_rc h ht hD (q := 6 * A.1 8 + 0) (c := c) (by omega) hc).1
    rw [e, show 12 * (6 * A.1 8 + 0) + c = c by omega]
  refine zx_keepRow_8 (K := K) (k := k) k8 (by omega) ?_ ?_ 12 0 K (by decide) (fun i => (if_neg (by omega)).symm) 13 (by decide)
  · intro c hc
    rw [hr c hc]
    exact zn_b (by omega)
  · intro K' hK'
    have e24 : (zp_keep A).1 24 = if A.1 24 < 8 then A.1 24 + 1 else 8 := rfl
    have key : ∀ kc', kc' = nI ((zp_keep A).1 24) → zr_K kc' (nI ((k + 1) % 8)) K' (zp_keep A) := by
      intro kc' ek
      refine ⟨ek, (k + 1) % 8, rfl, by omega, ?_⟩
      intro i c hi h8 hc
      rw [hK']
      show _ = nI (if 12 * i + c < 12 then A.2.1 (12 * i + c) % 128 else A.2.2 (12 * i + c - 12))
      by_cases c0 : i = 0
      · subst c0
        rw [if_pos (by omega), if_pos (by omega), show ((k + 1) % 8 + 7 - 0) % 8 * 12 + c - k * 12 = c by omega, hr c hc, show 12 * 0 + c = c by omega]
      · rw [if_neg (by omega), if_neg (by omega), show ((k + 1) % 8 + 7 - i) % 8 = (k + 7 - (i - 1)) % 8 by omega]
        have e := hK (i - 1) c (by rw [e24] at hi; split at hi <;> omega) (by omega) hc
        rw [e, show 12 * i + c - 12 = 12 * (i - 1) + c by omega]
    by_cases c8 : A.1 24 < 8
    · refine br_f (nI_ge (b := 8) c8 (by decide)) (hp _ (zr_mk ht (zr_keep h (key _ ?_))))
      rw [e24, if_pos c8, nI_1]
    · refine br_t (nI_le (a := 8) (by omega) (by omega)) (hp _ (zr_mk ht (zr_keep h (key _ ?_))))
      rw [e24, if_neg c8]
      rfl
theorem zx_scrollUp_42 {post : SX → Prop} {J : Int32 → Int32 → Int32 → Int32 → zz_A → zz_A → zz_A → zz_A → zz_A → zz_A → zz_A → zz_A → zz_A → zz_A → zz_A → zz_A → zz_A → zz_A → zz_A → zz_A → zz_A → zz_A → zz_A → zz_A → zz_A → zz_A → zz_A → zz_A → Prop} {x1 : Int32} {k : Nat} (h : zr_B D kc kn S Y L R N K z sl (zz_sel t A B)) (ht : t < 2) (hD : D t) (hok : zp_ok A)
    (hp : ∀ kc kn S Y L R N K z sl, zr_B D kc kn S Y L R N K z sl (zz_sel t (zp_U A (12 * A.1 4) (12 * A.1 5 + 12) 12) B) → J (nI (k + 1)) (nI t) kc kn S Y L (R 0) (R 1) (R 2) (R 3) (R 4) (R 5) (R 6) (R 7) (R 8) (R 9) (R 10) (R 11) (R 12) (R 13) (R 14) (R 15) (R 16) (R 17) (R 18) N K) : wX_scrollUp_42 post J x1 (nI k) (nI t) kc kn S Y L (R 0) (R 1) (R 2) (R 3) (R 4) (R 5) (R 6) (R 7) (R 8) (R 9) (R 10) (R 11) (R 12) (R 13) (R 14) (R 15) (R 16) (R 17) (R 18) N K := by
  have e4 := zr_g h ht (j := 4) (by decide)
  have e5 := zr_g h ht (j := 5) (by decide)
  unfold wX_scrollUp_42
  rw [zn_cl ht, e4, e5]
  refine ⟨zn_in ht, zn_in ht, zx_turnUp (zr_mk ht h) hD (zp_b99 hok) (zp_b8 hok) (zp_btb hok) (zp_b5 hok) (zx_k ?_)⟩
  intro _ kc' kn' S' Y' L' R' N' K' z' sl' h'
  exact nm_r (nI_1 k) (hp kc' kn' S' Y' L' R' N' K' z' sl' h')
theorem zp_K1_r (T : zz_T) {i : Nat} (h : i ≠ 24) : (zp_K1 T).1 i = T.1 i := by
  unfold zp_K1
  (repeat' split) <;> first | rfl | exact zp_kpn T h
theorem zp_K1_c (T : zz_T) : (zp_K1 T).2.1 = T.2.1 := by
  unfold zp_K1
  (repeat' split) <;> rfl
theorem zx_scrollUp_2 {post : SX → Prop} {e : Nat} (ht : t < 2) (hD : D t) (he : e < 1000) : ∀ (d k : Nat) (kc kn : Int32) (S Y L : zz_A) (R : Nat → zz_A) (N K : zz_A) (z : Nat → Nat) (sl : Nat → Nat → Nat) (A : zz_T), k + d = e → zp_ok A → zr_B D kc kn S Y L R N K z sl (zz_sel t A B) →
    (∀ u', zr_X D u' t (zp_SU d A) B → post u') → ∀ n, d < n → wX_scrollUp_2 post (nI e) n (nI k) (nI t) kc kn S Y L (R 0) (R 1) (R 2) (R 3) (R 4) (R 5) (R 6) (R 7) (R 8) (R 9) (R 10) (R 11) (R 12) (R 13) (R 14) (R 15) (R 16) (R 17) (R 18) N K := by
  intro d
  induction d with
  | zero =>
    intro k kc kn S Y L R N K z sl A hk hok h hp n hn
    obtain ⟨m, rfl⟩ : ∃ m, n = m + 1 := ⟨n - 1, by omega⟩
    exact br_t (nI_le (by omega) (by omega)) (hp _ (zr_mk ht h))
  | succ d ih =>
    intro k kc kn S Y L R N K z sl A hk hok h hp n hn
    obtain ⟨m, rfl⟩ : ∃ m, n = m + 1 := ⟨n - 1, by omega⟩
    have key : ∀ (kc kn : Int32) (S Y L : zz_A) (R : Nat → zz_A) (N K : zz_A) (z : Nat → Nat) (sl : Nat → Nat → Nat), zr_B D kc kn S Y L R N K z sl (zz_sel t (zp_K1 A) B) → wX_scrollUp_42 post (wX_scrollUp_2 post (nI e) m) (nI e) (nI k) (nI t) kc kn S Y L (R 0) (R 1) (R 2) (R 3) (R 4) (R 5) (R 6) (R 7) (R 8) (R 9) (R 10) (R 11) (R 12) (R 13) (R 14) (R 15) (R 16) (R 17) (R 18) N K := by
      intro kc kn S Y L R N K z sl h
      refine zx_scrollUp_42 h ht hD (zp_ok_K1 hok) ?_
      rw [zp_K1_r A (by decide : 4 ≠ 24), zp_K1_r A (by decide : 5 ≠ 24)]
      intro kc kn S Y L R N K z sl h
      exact ih (k + 1) kc kn S Y L R N K z sl _ (by omega) (zp_ok_S1 hok) h hp m (by omega)
    have e4 := zr_g h ht (j := 4) (by decide)
    have e8 := zr_g h ht (j := 8) (by decide)
    have b4 := zp_b4 hok
    have b8 := zp_b8 hok
    refine br_f (nI_ge (by omega) (by omega)) ?_
    by_cases t0 : t = 0
    · subst t0
      rw [zn_cl ht, e8, e4]
      refine br_t rfl ⟨zn_in ht, ?_⟩
      by_cases o0 : A.1 8 = 0
      · rw [o0]
        refine br_t rfl ⟨zn_in ht, ?_⟩
        by_cases p0 : A.1 4 = 0
        · rw [p0]
          refine br_t rfl (zx_keepRow (zr_mk ht h) hD o0 (zp_b24 hok) (zx_k ?_))
          intro _ kc' kn' S' Y' L' R' N' K' z' sl' h'
          refine key kc' kn' S' Y' L' R' N' K' z' sl' ?_
          rw [zp_K1, if_pos o0, if_pos p0]
          exact h'
        · refine br_f (nI_ne0 (by omega) (by omega)) (key kc kn S Y L R N K z sl ?_)
          rw [zp_K1, if_pos o0, if_neg p0]
          exact h
      · refine br_f (nI_ne0 (by omega) (by omega)) (key kc kn S Y L R N K z sl ?_)
        rw [zp_K1, if_neg o0]
        exact h
    · refine br_f (nI_ne0 (by omega) (by omega)) (key kc kn S Y L R N K z sl ?_)
      exact zr_cg1 h t0 (fun j hj => zp_K1_r A hj) (zp_K1_c A)
theorem zx_scrollUp {u : SX} {post : SX → Prop} {e : Nat} (h : zr_X D u t A B) (hD : D t) (hok : zp_ok A) (he : e < 1000) (hp : ∀ u', zr_X D u' t (zp_SU e A) B → post u') : wpX_scrollUp post u (nI e) := by
  obtain ⟨ht, kc, kn, S, Y, L, R, N, K, z, sl, rfl, h⟩ := h
  exact ⟨e + 1, zx_scrollUp_2 ht hD he e 0 kc kn S Y L R N K z sl A (by omega) hok h hp _ (by omega)⟩
theorem zx_scrollDown_2 {post : SX → Prop} {e : Nat} (ht : t < 2) (hD : D t) (he : e < 1000) : ∀ (d k : Nat) (kc kn : Int32) (S Y L : zz_A) (R : Nat → zz_A) (N K : zz_A) (z : Nat → Nat) (sl : Nat → Nat → Nat) (A : zz_T), k + d = e → zp_ok A → zr_B D kc kn S Y L R N K z sl (zz_sel t A B) →
    (∀ u', zr_X D u' t (zp_SD d A) B → post u') → ∀ n, d < n → wX_scrollDown_2 post (nI e) n (nI k) (nI t) kc kn S Y L (R 0) (R 1) (R 2) (R 3) (R 4) (R 5) (R 6) (R 7) (R 8) (R 9) (R 10) (R 11) (R 12) (R 13) (R 14) (R 15) (R 16) (R 17) (R 18) N K := by
  intro d
  induction d with
  | zero =>
    intro k kc kn S Y L R N K z sl A hk hok h hp n hn
    obtain ⟨m, rfl⟩ : ∃ m, n = m + 1 := ⟨n - 1, by omega⟩
    exact br_t (nI_le (by omega) (by omega)) (hp _ (zr_mk ht h))
  | succ d ih =>
    intro k kc kn S Y L R N K z sl A hk hok h hp n hn
    obtain ⟨m, rfl⟩ : ∃ m, n = m + 1 := ⟨n - 1, by omega⟩
    have e4 := zr_g h ht (j := 4) (by decide)
    have e5 := zr_g h ht (j := 5) (by decide)
    refine br_f (nI_ge (by omega) (by omega)) ?_
    rw [zn_cl ht, e4, e5]
    refine ⟨zn_in ht, zn_in ht, zx_turnDown (zr_mk ht h) hD (zp_b99 hok) (zp_b8 hok) (zp_btb hok) (zp_b5 hok) (zx_k ?_)⟩
    intro _ kc' kn' S' Y' L' R' N' K' z' sl' h'
    exact nm_r (nI_1 k) (ih (k + 1) kc' kn' S' Y' L' R' N' K' z' sl' _ (by omega) (zp_ok_D1 hok) h' hp m (by omega))
theorem zx_scrollDown {u : SX} {post : SX → Prop} {e : Nat} (h : zr_X D u t A B) (hD : D t) (hok : zp_ok A) (he : e < 1000) (hp : ∀ u', zr_X D u' t (zp_SD e A) B → post u') : wpX_scrollDown post u (nI e) := by
  obtain ⟨ht, kc, kn, S, Y, L, R, N, K, z, sl, rfl, h⟩ := h
  exact ⟨e + 1, zx_scrollDown_2 ht hD he e 0 kc kn S Y L R N K z sl A (by omega) hok h hp _ (by omega)⟩
theorem zx_lineFeed {u : SX} {post : SX → Prop} (h : zr_X D u t A B) (hD : D t) (hok : zp_ok A) (hp : ∀ u', zr_X D u' t (zp_LF A) B → post u') : wpX_lineFeed post u := by
  obtain ⟨ht, kc, kn, S, Y, L, R, N, K, z, sl, rfl, h⟩ := h
  have e0 := zr_g h ht (j := 0) (by decide)
  have e5 := zr_g h ht (j := 5) (by decide)
  have b0 := zp_b0 hok
  have b5 := zp_b5 hok
  unfold wpX_lineFeed zx_S
  dsimp only
  rw [zn_cl ht, e0, e5]
  unfold zp_LF at hp
  refine ⟨zn_in ht, zn_in ht, ?_⟩
  by_cases c0 : A.1 0 = A.1 5
  · rw [if_pos c0] at hp
    refine br_t (congrArg nI c0) (zx_scrollUp (e := 1) (zr_mk ht h) hD hok (by decide) (zx_k ?_))
    intro _ kc' kn' S' Y' L' R' N' K' z' sl' h'
    exact hp _ (zr_mk ht h')
  · rw [if_neg c0] at hp
    refine br_f (fun q => c0 ((nI_eq (by omega) (by omega)).mp q)) ⟨zn_in ht, ?_⟩
    by_cases c5 : 5 ≤ A.1 0
    · rw [if_pos c5] at hp
      exact br_t (nI_le (a := 5) c5 (by omega)) (hp _ (zr_mk ht h))
    · rw [if_neg c5] at hp
      refine br_f (nI_ge (b := 5) (by omega) (by decide)) ⟨zn_in ht, zn_in ht, nm_r (e' := upd (R 0) t (nI (A.1 0 + 1))) ?_ (hp _ (zr_mk ht (zr_st (j := 0) h (by decide))))⟩
      rw [nI_1, zn_bb (by omega)]
theorem zx_goUp {u : SX} {post : SX → Prop} (h : zr_X D u t A B) (hD : D t) (hok : zp_ok A) (hp : ∀ u', zr_X D u' t (zp_GU A) B → post u') : wpX_goUp post u := by
  obtain ⟨ht, kc, kn, S, Y, L, R, N, K, z, sl, rfl, h⟩ := h
  have e0 := zr_g h ht (j := 0) (by decide)
  have e4 := zr_g h ht (j := 4) (by decide)
  have b0 := zp_b0 hok
  have b4 := zp_b4 hok
  unfold wpX_goUp zx_S
  dsimp only
  rw [zn_cl ht, e0, e4]
  unfold zp_GU at hp
  refine ⟨zn_in ht, zn_in ht, ?_⟩
  by_cases c0 : A.1 0 = A.1 4
  · rw [if_pos c0] at hp
    refine br_t (congrArg nI c0) (zx_scrollDown (e := 1) (zr_mk ht h) hD hok (by decide) (zx_k ?_))
    intro _ kc' kn' S' Y' L' R' N' K' z' sl' h'
    exact hp _ (zr_mk ht h')
  · rw [if_neg c0] at hp
    refine br_f (fun q => c0 ((nI_eq (by omega) (by omega)).mp q)) ⟨zn_in ht, ?_⟩
    by_cases c5 : A.1 0 ≤ 0
    · rw [if_pos c5] at hp
      exact br_t (nI_le (b := 0) c5 (by omega)) (hp _ (zr_mk ht h))
    · rw [if_neg c5] at hp
      refine br_f (nI_nle (by omega) (by omega)) ⟨zn_in ht, zn_in ht, nm_r (e' := upd (R 0) t (nI (A.1 0 - 1))) ?_ (hp _ (zr_mk ht (zr_st (j := 0) h (by decide))))⟩
      have e : nI (A.1 0) - 1 = nI (A.1 0 - 1) := pk_sub (b := 1) (by omega)
      rw [e, zn_bb (by omega)]
end
end
section
/-! the component: all becomes as at first; the other screen -/
theorem zr_D {D D' : Nat → Prop} {u : SX} {t : Nat} {A B : zz_T} (h : zr_X D u t A B) (hd : ∀ s, s < 2 → D' s → D s) : zr_X D' u t A B := by
  obtain ⟨ht, kc, kn, S, Y, L, R, N, K, z, sl, rfl, h1, h2, h3, h4⟩ := h
  exact zr_mk ht (z := z) (sl := sl) ⟨h1, h2, fun s hs q => h3 s hs (hd s hs q), h4⟩
theorem zn_v0 : vp_nar .byte 0 = nI 0 := zn_b (v := 0) (by decide)
theorem zn_v1 : vp_nar .byte 1 = nI 1 := zn_b (v := 1) (by decide)
theorem zn_z0 : vp_nar .boolean 0 = nI 0 := zn_z (v := 0) (by decide)
theorem zn_z1 : vp_nar .boolean 1 = nI 1 := zn_z (v := 1) (by decide)
section
variable {D : Nat → Prop} {kc kn : Int32} {S Y L : zz_A} {R : Nat → zz_A} {N K : zz_A} {z : Nat → Nat} {sl : Nat → Nat → Nat} {t : Nat} {A B : zz_T}
theorem zr_k0 (h : zr_B D kc kn S Y L R N K z sl (zz_sel 0 A B)) : zr_B D 0 0 S Y L R N K z sl (zz_sel 0 (zp_sg A 24 0) B) := by
  obtain ⟨h1, h2, h3, h4, h5⟩ := h
  refine ⟨?_, h2, ?_, ?_, ?_⟩
  · intro s j hs hj
    rw [zz_sgn (by omega : j ≠ 24)]
    exact h1 s j hs hj
  · intro s hs hd
    exact zr_Vc (h3 s hs hd) (congrArg Prod.fst (zz_sg2 0 24 0 s A B)) (fun i hi => zz_sgn (by omega) 0 0 s A B)
  · intro s i hs hi
    rw [zz_sgn (by decide : 18 ≠ 24), zz_sgn (by omega : 20 + i ≠ 24)]
    exact h4 s i hs hi
  · rw [zz_selp]
    refine ⟨?_, 0, rfl, by decide, ?_⟩
    · rw [zp_sg1]
      rfl
    · intro i c hi
      rw [zp_sg1] at hi
      exact absurd hi (by omega)
theorem zx_clearAll_9 {post : SX → Prop} {J : Int32 → zz_A → zz_A → zz_A → zz_A → zz_A → zz_A → zz_A → zz_A → zz_A → zz_A → zz_A → zz_A → zz_A → zz_A → zz_A → zz_A → zz_A → zz_A → zz_A → zz_A → zz_A → zz_A → zz_A → zz_A → Prop} {k : Nat} (hk : k < 2) (ht : t < 2)
    (hp : ∀ L' : zz_A, (∀ i, L' i = if 12 * t + 6 * k ≤ i ∧ i < 12 * t + 6 * k + 6 then nI (i - 12 * t) else L i) → J (nI (k + 1)) S Y L' (R 0) (R 1) (R 2) (R 3) (R 4) (R 5) (R 6) (R 7) (R 8) (R 9) (R 10) (R 11) (R 12) (R 13) (R 14) (R 15) (R 16) (R 17) (R 18) N K) :
    ∀ (d r : Nat) (L' : zz_A), r + d = 6 → (∀ i, L' i = if 12 * t + 6 * k ≤ i ∧ i < 12 * t + 6 * k + r then nI (i - 12 * t) else L i) → ∀ n, d < n → wX_clearAll_9 post J (nI k) (nI t) kc kn n (nI r) S Y L' (R 0) (R 1) (R 2) (R 3) (R 4) (R 5) (R 6) (R 7) (R 8) (R 9) (R 10) (R 11) (R 12) (R 13) (R 14) (R 15) (R 16) (R 17) (R 18) N K := by
  intro d
  induction d with
  | zero =>
    intro r L' hr hL' n hn
    obtain ⟨m, rfl⟩ : ∃ m, n = m + 1 := ⟨n - 1, by omega⟩
    refine br_t (nI_le (a := 6) (by omega) (by omega)) (nm_r (nI_1 k) (hp L' ?_))
    rw [show r = 6 by omega] at hL'
    exact hL'
  | succ d ih =>
    intro r L' hr hL' n hn
    obtain ⟨m, rfl⟩ : ∃ m, n = m + 1 := ⟨n - 1, by omega⟩
    have ev : nI k * 6 + nI r = nI (6 * k + r) := by
      have e : nI k * nI 6 + nI r = nI (6 * k + r) := by
        rw [pk_mul, nI_add]
        exact congrArg nI (by omega)
      exact e
    refine br_f (nI_ge (b := 6) (by omega) (by decide)) ⟨?_, nm_r (e' := upd L' (12 * t + (6 * k + r)) (nI (6 * k + r))) ?_ (nm_r (nI_1 r) ?_)⟩
    · rw [zn_line]
      exact vp_in_nI (by omega) (by decide)
    · rw [zn_line, ev, nI_clamp (by omega), zn_bb (by omega)]
    · refine ih (r + 1) _ (by omega) (fun i => ?_) m (by omega)
      unfold upd
      by_cases ci : i = 12 * t + (6 * k + r)
      · rw [if_pos ci, if_pos (by omega)]
        exact congrArg nI (by omega)
      · rw [if_neg ci, hL' i]
        (repeat' split) <;> first | rfl | omega
theorem zx_clearAll_e {post : SX → Prop} {m : Nat} (h : zr_B D kc kn S Y L R N K z sl (zz_sel t A B)) (ht : t < 2) (hD : D t) (hp : ∀ u', zr_X D u' t (zp_clr A) B → post u') : wX_clearAll_2 post (nI t) kc kn (m + 1) (nI 2) S Y L (R 0) (R 1) (R 2) (R 3) (R 4) (R 5) (R 6) (R 7) (R 8) (R 9) (R 10) (R 11) (R 12) (R 13) (R 14) (R 15) (R 16) (R 17) (R 18) N K := by
  refine br_t (nI_le (a := 2) (by decide) (by decide)) ⟨zn_in ht, nm_r (e' := upd (R 8) t (nI 1)) (by rw [zn_cl ht, zn_v1]) ?_⟩
  refine zx_emptyRows (f := 0) (e := 6) (zr_mk ht (zr_st (j := 8) (v := 1) h (by decide))) hD (show 1 < 2 by decide) (by decide) (by decide) (zx_k ?_)
  clear h
  intro _ kc kn S Y L R N K z sl h
  refine ⟨zn_in ht, nm_r (e' := upd (R 8) t (nI 0)) (by rw [zn_cl ht, zn_v0]) ?_⟩
  refine zx_emptyRows (f := 0) (e := 6) (zr_mk ht (zr_st (j := 8) (v := 0) h (by decide))) hD (show 0 < 2 by decide) (by decide) (by decide) (zx_k ?_)
  clear h
  intro _ kc kn S Y L R N K z sl h
  refine zx_moveTo (r := 0) (c := 0) (zr_mk ht h) (by decide) (by decide) (zx_k ?_)
  clear h
  intro _ kc kn S Y L R N K z sl h
  refine zx_wholeRegion (zr_mk ht h) (zx_k ?_)
  clear h
  intro _ kc kn S Y L R N K z sl h
  refine ⟨zn_in ht, nm_r (e' := upd (R 2) t (nI 0)) (by rw [zn_cl ht, zn_z0]) ⟨zn_in ht, nm_r (e' := upd (R 3) t (nI 0)) (by rw [zn_cl ht, zn_v0]) ⟨zn_in ht, nm_r (e' := upd (R 6) t (nI 0)) (by rw [zn_cl ht, zn_z0]) ⟨zn_in ht, nm_r (e' := upd (R 7) t (nI 1)) (by rw [zn_cl ht, zn_z1]) ⟨zn_in ht, nm_r (e' := upd (R 9) t (nI 0)) (by rw [zn_cl ht, zn_v0]) ⟨zn_in ht, nm_r (e' := upd (R 10) t (nI 0)) (by rw [zn_cl ht, zn_v0]) ⟨zn_in ht, nm_r (e' := upd (R 11) t (nI 0)) (by rw [zn_cl ht, zn_v0]) ⟨zn_in ht, nm_r (e' := upd (R 16) t (nI 0)) (by rw [zn_cl ht, zn_v0]) ?_⟩⟩⟩⟩⟩⟩⟩⟩
  have h8 := zr_st (j := 16) (v := 0) (zr_st (j := 11) (v := 0) (zr_st (j := 10) (v := 0) (zr_st (j := 9) (v := 0) (zr_st (j := 7) (v := 1) (zr_st (j := 6) (v := 0) (zr_st (j := 3) (v := 0) (zr_st (j := 2) (v := 0) h (by decide)) (by decide)) (by decide)) (by decide)) (by decide)) (by decide)) (by decide)) (by decide)
  by_cases t0 : t = 0
  · subst t0
    exact br_t rfl (hp _ (zr_mk ht (zr_k0 h8)))
  · exact br_f (nI_ne0 (by omega) (by omega)) (hp _ (zr_mk ht (zr_cg1 h8 t0 (fun j hj => zp_sgn _ 0 hj) rfl)))
theorem zp_cl1_g (A : zz_T) (g : Nat → Nat) (hg : ∀ i, 144 ≤ i → g i = A.2.1 i) : zp_cl1 (zp_sc A g) = zp_cl1 A := by
  have e : zp_E (zp_sg (zp_E (zp_sg (zp_sc A g) 8 1) 0 72) 8 0) 0 72 = zp_E (zp_sg (zp_E (zp_sg A 8 1) 0 72) 8 0) 0 72 := by
    refine Prod.ext rfl (Prod.ext (funext fun i => ?_) rfl)
    show zp_eF (zp_eF g (72 * 1 + 0) (72 * 1 + 72)) (72 * 0 + 0) (72 * 0 + 72) i = zp_eF (zp_eF A.2.1 (72 * 1 + 0) (72 * 1 + 72)) (72 * 0 + 0) (72 * 0 + 72) i
    simp only [zp_eF]
    (repeat' split) <;> first | rfl | omega | exact hg i (by omega)
  unfold zp_cl1
  rw [e]
theorem zx_clearAll {u : SX} {post : SX → Prop} (h : zr_X D u t A B) (hz : A.1 99 = 0) (hp : ∀ u', zr_X (fun s => s = t ∨ D s) u' t (zp_clr A) B → post u') : wpX_clearAll post u := by
  obtain ⟨ht, kc, kn, S, Y, L, R, N, K, z, sl, rfl, h⟩ := h
  refine ⟨3, br_f (nI_ge (b := 2) (a := 0) (by decide) (by decide)) ⟨7, ?_⟩⟩
  refine zx_clearAll_9 (k := 0) (L := L) (by decide) ht ?_ 6 0 L (by decide) (fun i => (if_neg (by omega)).symm) 7 (by decide)
  intro L1 h1
  refine br_f (nI_ge (b := 2) (a := 1) (by decide) (by decide)) ⟨7, ?_⟩
  refine zx_clearAll_9 (k := 1) (L := L1) (by decide) ht ?_ 6 0 L1 (by decide) (fun i => (if_neg (by omega)).symm) 7 (by decide)
  intro L2 h2
  have hn := zr_new h hz L2 ?_ ?_
  · refine zx_clearAll_e (m := 0) hn ht (Or.inl rfl) ?_
    unfold zp_clr
    rw [zp_cl1_g A _ (fun i hi => if_neg (by omega))]
    exact hp
  · intro q hq
    rw [h2, h1]
    by_cases c : q < 6
    · rw [if_neg (by omega), if_pos (by omega)]
      exact congrArg nI (by omega)
    · rw [if_pos (by omega)]
      exact congrArg nI (by omega)
  · intro s q hs hq hst
    rw [h2, h1, if_neg (by omega), if_neg (by omega)]
theorem zx_switchOther_19 {post : SX → Prop} {on : Nat} (h : zr_B D kc kn S Y L R N K z sl (zz_sel t A B)) (ht : t < 2) (hD : D t) (hok : zp_ok A) (ho : on < 2) (hp : ∀ u', zr_X D u' t (zp_swi A on) B → post u') : wX_switchOther_19 post (nI on) (nI (A.1 8)) (nI on) (nI t) kc kn S Y L (R 0) (R 1) (R 2) (R 3) (R 4) (R 5) (R 6) (R 7) (R 8) (R 9) (R 10) (R 11) (R 12) (R 13) (R 14) (R 15) (R 16) (R 17) (R 18) N K := by
  have e0 := zr_g h ht (j := 0) (by decide)
  have e1 := zr_g h ht (j := 1) (by decide)
  have e4 := zr_g h ht (j := 4) (by decide)
  have e5 := zr_g h ht (j := 5) (by decide)
  have e12 := zr_g h ht (j := 12) (by decide)
  have e13 := zr_g h ht (j := 13) (by decide)
  have b0 := zp_b0 hok
  have b1 := zp_b1 hok
  have b4 := zp_b4 hok
  have b5 := zp_b5 hok
  have b8 := zp_b8 hok
  have b12 := zp_b12 hok
  have b13 := zp_b13 hok
  have b14 := zp_b14 hok
  have b15 := zp_b15 hok
  unfold zp_swi at hp
  unfold wX_switchOther_19
  by_cases c : on = A.1 8
  · rw [if_pos c] at hp
    exact br_t (congrArg nI c) (hp _ (zr_mk ht h))
  · rw [if_neg c] at hp
    refine br_f (fun q => c ((nI_eq (by omega) (by omega)).mp q)) ⟨zn_in ht, nm_r (e' := upd (R 2) t (nI 0)) (by rw [zn_cl ht, zn_z0]) ?_⟩
    have h2 := zr_st (j := 2) (v := 0) h (by decide)
    by_cases c0 : on = 0
    · rw [if_pos c0] at hp
      rw [c0]
      refine br_t rfl ⟨zn_in ht, nm_r (e' := upd (R 8) t (nI 0)) (by rw [zn_cl ht, zn_v0]) ⟨zn_in ht, zn_in ht, ?_⟩⟩
      rw [zn_cl ht, e12, e13]
      refine zx_moveTo (zr_mk ht (zr_st (j := 8) (v := 0) h2 (by decide))) b12 b13 (zx_k ?_)
      intro _ kc' kn' S' Y' L' R' N' K' z' sl' h'
      have f14 : R' 14 t = nI (A.1 14) := zr_g h' ht (j := 14) (by decide)
      have f15 : R' 15 t = nI (A.1 15) := zr_g h' ht (j := 15) (by decide)
      refine ⟨zn_in ht, zn_in ht, nm_r (e' := upd (R' 4) t (nI (A.1 14))) (by rw [zn_cl ht, f14, zn_b (by omega)]) ⟨zn_in ht, zn_in ht, nm_r (e' := upd (R' 5) t (nI (A.1 15))) (by rw [zn_cl ht, f15, zn_b (by omega)]) ?_⟩⟩
      exact hp _ (zr_mk ht (zr_st (j := 5) (zr_st (j := 4) h' (by decide)) (by decide)))
    · rw [if_neg c0] at hp
      refine br_f (nI_ne0 (by omega) (by omega)) ⟨zn_in ht, zn_in ht, nm_r (e' := upd (R 12) t (nI (A.1 0))) (by rw [zn_cl ht, e0, zn_b (by omega)]) ⟨zn_in ht, zn_in ht, nm_r (e' := upd (R 13) t (nI (A.1 1))) (by rw [zn_cl ht, e1, zn_b (by omega)]) ⟨zn_in ht, zn_in ht, nm_r (e' := upd (R 14) t (nI (A.1 4))) (by rw [zn_cl ht, e4, zn_b (by omega)]) ⟨zn_in ht, zn_in ht, nm_r (e' := upd (R 15) t (nI (A.1 5))) (by rw [zn_cl ht, e5, zn_b (by omega)]) ⟨zn_in ht, nm_r (e' := upd (R 8) t (nI 1)) (by rw [zn_cl ht, zn_v1]) ?_⟩⟩⟩⟩⟩
      have h8 := zr_st (j := 8) (v := 1) (zr_st (j := 15) (v := A.1 5) (zr_st (j := 14) (v := A.1 4) (zr_st (j := 13) (v := A.1 1) (zr_st (j := 12) (v := A.1 0) h2 (by decide)) (by decide)) (by decide)) (by decide)) (by decide)
      refine zx_emptyRows (f := 0) (e := 6) (zr_mk ht h8) hD (show 1 < 2 by decide) (by decide) (by decide) (zx_k ?_)
      clear h8 h2
      intro _ kc kn S Y L R N K z sl h
      refine zx_moveTo (r := 0) (c := 0) (zr_mk ht h) (by decide) (by decide) (zx_k ?_)
      clear h
      intro _ kc kn S Y L R N K z sl h
      refine zx_wholeRegion (zr_mk ht h) (zx_k ?_)
      clear h
      intro _ kc kn S Y L R N K z sl h
      exact hp _ (zr_mk ht h)
theorem zx_switchOther {u : SX} {post : SX → Prop} {on : Nat} (h : zr_X D u t A B) (hD : D t) (hok : zp_ok A) (ho : on < 2) (hp : ∀ u', zr_X D u' t (zp_swi A on) B → post u') : wpX_switchOther post u (nI on) := by
  obtain ⟨ht, kc, kn, S, Y, L, R, N, K, z, sl, rfl, h⟩ := h
  have e8 := zr_g h ht (j := 8) (by decide)
  have b8 := zp_b8 hok
  have key := zx_switchOther_19 h ht hD hok ho hp
  unfold wpX_switchOther zx_S
  dsimp only
  rw [zn_cl ht, e8]
  refine ⟨zn_in ht, ?_⟩
  rcases (by omega : A.1 8 = 0 ∨ A.1 8 = 1) with c | c
  · rw [c] at key ⊢
    exact br_f (by decide) key
  · rw [c] at key ⊢
    exact br_t rfl key
end
end
section
/-! the component: signs, control bytes, short sequences -/
section
variable {D : Nat → Prop} {kc kn : Int32} {S Y L : zz_A} {R : Nat → zz_A} {N K : zz_A} {z : Nat → Nat} {sl : Nat → Nat → Nat} {t : Nat} {A B : zz_T}
theorem zx_putSign_99 {post : SX → Prop} {b q : Nat} (h : zr_B D kc kn S Y L R N K z sl (zz_sel t A B)) (ht : t < 2) (hD : D t) (hq : q < 12) (hb : b < 128) (b1 : A.1 1 < 12) (b3 : A.1 3 < 8) (b7 : A.1 7 < 2)
    (hp : ∀ u', zr_X D u' t (zp_adv (zp_sc A (zp_wF A.2.1 (12 * q + A.1 1) (b + 128 * A.1 3)))) B → post u') : wX_putSign_99 post (nI b) (nI (144 * t + 12 * sl t q)) (nI (A.1 1)) (nI t) kc kn S Y L (R 0) (R 1) (R 2) (R 3) (R 4) (R 5) (R 6) (R 7) (R 8) (R 9) (R 10) (R 11) (R 12) (R 13) (R 14) (R 15) (R 16) (R 17) (R 18) N K := by
  have hs := (zr_sl h ht hD hq).2
  have e1 := zr_g h ht (j := 1) (by decide)
  have e3 := zr_g h ht (j := 3) (by decide)
  have e7 := zr_g h ht (j := 7) (by decide)
  have ei : vp_in (nI (144 * t + 12 * sl t q) + nI (A.1 1)) 288 := by
    rw [nI_add]
    exact vp_in_nI (by omega) (by decide)
  have ec : (nI (144 * t + 12 * sl t q) + nI (A.1 1)).toNatClampNeg = 144 * t + 12 * sl t q + A.1 1 := by
    rw [nI_add]
    exact nI_clamp (by omega)
  have hw := zr_wc h ht hD (b + 128 * A.1 3) hq b1
  have m1 : (b + 128 * A.1 3) % 128 = b := by omega
  have m2 : (b + 128 * A.1 3) / 128 = A.1 3 := by omega
  rw [m1, m2] at hw
  unfold zp_adv at hp
  unfold wX_putSign_99
  refine ⟨ei, nm_r (e' := upd S (144 * t + 12 * sl t q + A.1 1) (nI b)) (by rw [ec, zn_bb hb]) ⟨zn_in ht, ei, nm_r (e' := upd Y (144 * t + 12 * sl t q + A.1 1) (nI (A.1 3))) (by rw [ec, zn_cl ht, e3, zn_b (by omega)]) ?_⟩⟩
  by_cases c : 11 ≤ A.1 1
  · rw [if_pos (show 11 ≤ (zp_sc A (zp_wF A.2.1 (12 * q + A.1 1) (b + 128 * A.1 3))).1 1 from c)] at hp
    refine br_t (nI_le (a := 11) c (by omega)) ⟨zn_in ht, zn_in ht, nm_r (e' := upd (R 2) t (nI (A.1 7))) (by rw [zn_cl ht, e7, zn_z b7]) ?_⟩
    exact hp _ (zr_mk ht (zr_st (j := 2) hw (by decide)))
  · rw [if_neg (show ¬ 11 ≤ (zp_sc A (zp_wF A.2.1 (12 * q + A.1 1) (b + 128 * A.1 3))).1 1 from c)] at hp
    refine br_f (nI_ge (b := 11) (by omega) (by decide)) ⟨zn_in ht, zn_in ht, nm_r (e' := upd (R 1) t (nI (A.1 1 + 1))) (by rw [zn_cl ht, e1, nI_1, zn_bb (by omega)]) ?_⟩
    exact hp _ (zr_mk ht (zr_st (j := 1) hw (by decide)))
def zp_gF (a : Nat → Nat) (l e : Nat) : Nat → Nat := fun i => if l < i ∧ i < e then a (i - 1) else a i
theorem zx_putSign_76 {post : SX → Prop} {x1 : Int32} {q c : Nat} (ht : t < 2) (hD : D t) (hq : q < 12) (hc : c < 12) (hk : ∀ i, i < 144 → A.2.1 i < 1024)
    (hp : ∀ S Y z, zr_B D kc kn S Y L R N K z sl (zz_sel t (zp_sc A (zp_gF A.2.1 (12 * q + c) (12 * q + 12))) B) → wX_putSign_99 post x1 (nI (144 * t + 12 * sl t q)) (nI c) (nI t) kc kn S Y L (R 0) (R 1) (R 2) (R 3) (R 4) (R 5) (R 6) (R 7) (R 8) (R 9) (R 10) (R 11) (R 12) (R 13) (R 14) (R 15) (R 16) (R 17) (R 18) N K) :
    ∀ (d x : Nat) (S Y : zz_A) (z : Nat → Nat), x = c + d → x ≤ 11 → zr_B D kc kn S Y L R N K z sl (zz_sel t (zp_sc A (zp_gF A.2.1 (12 * q + x) (12 * q + 12))) B) → ∀ n, d < n → wX_putSign_76 post x1 (nI (144 * t + 12 * sl t q)) (nI c) n (nI x) (nI t) kc kn S Y L (R 0) (R 1) (R 2) (R 3) (R 4) (R 5) (R 6) (R 7) (R 8) (R 9) (R 10) (R 11) (R 12) (R 13) (R 14) (R 15) (R 16) (R 17) (R 18) N K := by
  intro d
  induction d with
  | zero =>
    intro x S Y z hx hx1 h n hn
    obtain ⟨m, rfl⟩ : ∃ m, n = m + 1 := ⟨n - 1, by omega⟩
    rw [show x = c by omega] at h ⊢
    exact br_t (nI_le (by omega) (by omega)) (hp S Y z h)
  | succ d ih =>
    intro x S Y z hx hx1 h n hn
    obtain ⟨m, rfl⟩ : ∃ m, n = m + 1 := ⟨n - 1, by omega⟩
    have e1 : nI x - 1 = nI (x - 1) := pk_sub (b := 1) (by omega)
    have e2 : nI x + (-1) = nI (x - 1) := by
      rw [show x = (x - 1) + 1 by omega, pk_m1]
      rfl
    have eg : zp_gF A.2.1 (12 * q + x) (12 * q + 12) (12 * q + (x - 1)) = A.2.1 (12 * q + (x - 1)) := if_neg (by omega)
    refine br_f (nI_ge (by omega) (by omega)) ?_
    rw [e1]
    refine zx_copyCell h ht hD hq (by omega) (by omega) ?_ ?_
    · show zp_gF A.2.1 (12 * q + x) (12 * q + 12) (12 * q + (x - 1)) < 1024
      rw [eg]
      exact hk _ (by omega)
    · intro S' Y' z' h'
      refine nm_r e2 (ih (x - 1) S' Y' z' (by omega) (by omega) ?_ m (by omega))
      have ef : zp_wF (zp_gF A.2.1 (12 * q + x) (12 * q + 12)) (12 * q + x) (zp_gF A.2.1 (12 * q + x) (12 * q + 12) (12 * q + (x - 1))) = zp_gF A.2.1 (12 * q + (x - 1)) (12 * q + 12) := by
        rw [eg]
        funext i
        simp only [zp_wF, zp_gF]
        (repeat' split) <;> first | rfl | omega | exact congrArg A.2.1 (by omega)
      rw [← ef]
      exact h'
theorem zx_putSign_36 {post : SX → Prop} {b : Nat} (h : zr_B D kc kn S Y L R N K z sl (zz_sel t A B)) (ht : t < 2) (hD : D t) (hok : zp_ok A) (hb : b < 128) (hp : ∀ u', zr_X D u' t (zp_put2 A b) B → post u') : wX_putSign_36 post (nI b) (nI t) kc kn S Y L (R 0) (R 1) (R 2) (R 3) (R 4) (R 5) (R 6) (R 7) (R 8) (R 9) (R 10) (R 11) (R 12) (R 13) (R 14) (R 15) (R 16) (R 17) (R 18) N K := by
  have e0 := zr_g h ht (j := 0) (by decide)
  have e1 := zr_g h ht (j := 1) (by decide)
  have e6 := zr_g h ht (j := 6) (by decide)
  have b0 := zp_b0 hok
  have b1 := zp_b1 hok
  have b6 := zp_b6 hok
  have b8 := zp_b8 hok
  have b3 := zp_b3 hok
  have b7 := zp_b7 hok
  unfold wX_putSign_36
  rw [zn_cl ht, e0, e1, e6]
  refine ⟨zn_in ht, zx_lineAt h ht hD b0 b8 ⟨zn_in ht, nm_e ⟨zn_in ht, ?_⟩⟩⟩
  have eq : 12 * (6 * A.1 8 + A.1 0) + A.1 1 = 72 * A.1 8 + (12 * A.1 0 + A.1 1) := by omega
  unfold zp_put2 at hp
  by_cases c : A.1 6 = 0
  · rw [c]
    refine br_t rfl (zx_putSign_99 h ht hD (by omega) hb b1 (zp_b3 hok) (zp_b7 hok) ?_)
    rw [eq]
    rw [zp_ins, if_pos c] at hp
    exact hp
  · refine br_f (nI_ne0 (by omega) (by omega)) ⟨12, ?_⟩
    refine zx_putSign_76 (A := A) (B := B) ht hD (by omega) b1 (fun i hi => (zp_bc hok i hi).2.2) ?_ (11 - A.1 1) 11 S Y z (by omega) (by omega) ?_ 12 (by omega)
    · intro S' Y' z' h'
      refine zx_putSign_99 (A := zp_sc A (zp_gF A.2.1 (12 * (6 * A.1 8 + A.1 0) + A.1 1) (12 * (6 * A.1 8 + A.1 0) + 12))) h' ht hD (by omega) hb b1 b3 b7 ?_
      rw [zp_ins, if_neg c] at hp
      have ef : zp_wF (zp_gF A.2.1 (12 * (6 * A.1 8 + A.1 0) + A.1 1) (12 * (6 * A.1 8 + A.1 0) + 12)) (12 * (6 * A.1 8 + A.1 0) + A.1 1) (b + 128 * A.1 3) = zp_wF (zp_dF A.2.1 (72 * A.1 8 + (12 * A.1 0 + A.1 1)) (72 * A.1 8 + (12 * A.1 0 + 12)) 1) (72 * A.1 8 + (12 * A.1 0 + A.1 1)) (b + 128 * A.1 3) := by
        funext i
        simp only [zp_wF, zp_gF, zp_dF]
        (repeat' split) <;> first | rfl | omega | exact congrArg A.2.1 (by omega)
      intro u' h''
      refine hp u' ?_
      have eA : zp_wr (zp_D A (12 * A.1 0 + A.1 1) (12 * A.1 0 + 12) 1) b = zp_sc A (zp_wF (zp_dF A.2.1 (72 * A.1 8 + (12 * A.1 0 + A.1 1)) (72 * A.1 8 + (12 * A.1 0 + 12)) 1) (72 * A.1 8 + (12 * A.1 0 + A.1 1)) (b + 128 * A.1 3)) := rfl
      rw [eA, ← ef]
      exact h''
    · have ef : zp_gF A.2.1 (12 * (6 * A.1 8 + A.1 0) + 11) (12 * (6 * A.1 8 + A.1 0) + 12) = A.2.1 := by
        funext i
        simp only [zp_gF]
        (repeat' split) <;> first | rfl | omega
      rw [ef]
      exact h
theorem zx_putSign {u : SX} {post : SX → Prop} {b : Nat} (h : zr_X D u t A B) (hD : D t) (hok : zp_ok A) (hb : b < 128) (hp : ∀ u', zr_X D u' t (zp_put A b) B → post u') : wpX_putSign post u (nI b) := by
  obtain ⟨ht, kc, kn, S, Y, L, R, N, K, z, sl, rfl, h⟩ := h
  have e2 := zr_g h ht (j := 2) (by decide)
  have b2 := zp_b2 hok
  unfold wpX_putSign zx_S
  dsimp only
  rw [zn_cl ht, e2]
  unfold zp_put at hp
  refine ⟨zn_in ht, ?_⟩
  by_cases c : A.1 2 = 0
  · rw [if_pos c] at hp
    rw [c]
    exact br_t rfl (zx_putSign_36 h ht hD hok hb hp)
  · rw [if_neg c] at hp
    refine br_f (nI_ne0 (by omega) (by omega)) ⟨zn_in ht, nm_r (e' := upd (R 2) t (nI 0)) (by rw [zn_z0]) ⟨zn_in ht, nm_r (e' := upd (R 1) t (nI 0)) (by rw [zn_v0]) ?_⟩⟩
    refine zx_lineFeed (zr_mk ht (zr_st (j := 1) (v := 0) (zr_st (j := 2) (v := 0) h (by decide)) (by decide))) hD (zp_ok_10 (zp_ok_20 hok)) (zx_k ?_)
    intro _ kc' kn' S' Y' L' R' N' K' z' sl' h'
    exact zx_putSign_36 h' ht hD (zp_ok_LF (zp_ok_10 (zp_ok_20 hok))) hb hp
theorem zx_control {u : SX} {post : SX → Prop} {b : Nat} (h : zr_X D u t A B) (hD : D t) (hok : zp_ok A) (hb : b < 128) (hp : ∀ u', zr_X D u' t (zp_ctl A b) B → post u') : wpX_control post u (nI b) := by
  obtain ⟨ht, kc, kn, S, Y, L, R, N, K, z, sl, rfl, h⟩ := h
  have e1 := zr_g h ht (j := 1) (by decide)
  have b1 := zp_b1 hok
  have h2 := zr_st (j := 2) (v := 0) h (by decide)
  unfold wpX_control zx_S
  dsimp only
  rw [zn_cl ht, e1]
  unfold zp_ctl at hp
  refine pk_eq b 11 (fun c => ?_) (fun c => ?_)
  · rw [if_pos c] at hp
    exact hp _ (zr_mk ht h)
  rw [if_neg c] at hp
  refine pk_eq b 12 (fun c => ?_) (fun c => ?_)
  · rw [if_pos c] at hp
    exact hp _ (zr_mk ht h)
  rw [if_neg c] at hp
  unfold zp_ct2 at hp
  refine ⟨zn_in ht, nm_r (e' := upd (R 2) t (nI 0)) (by rw [zn_z0]) ⟨zn_in ht, nm_e ?_⟩⟩
  refine pk_eq b 8 (fun c => ?_) (fun c => ?_)
  · rw [if_pos c] at hp
    refine pk_le (A.1 1) 0 (fun c => ?_) (fun c => ?_)
    · refine ⟨zn_in ht, nm_r (e' := upd (R 1) t (nI (A.1 1 - 1))) ?_ (hp _ (zr_mk ht (zr_st (j := 1) h2 (by decide))))⟩
      rw [show A.1 1 - 1 = 0 by omega]
      exact congrArg _ (zn_bb (v := 0) (by decide))
    · refine ⟨zn_in ht, nm_r (e' := upd (R 1) t (nI (A.1 1 - 1))) ?_ (hp _ (zr_mk ht (zr_st (j := 1) h2 (by decide))))⟩
      have e : nI (A.1 1) - 1 = nI (A.1 1 - 1) := pk_sub (b := 1) (by omega)
      rw [e, zn_bb (by omega)]
  rw [if_neg c] at hp
  refine pk_eq b 9 (fun c => ?_) (fun c => ?_)
  · rw [if_pos c] at hp
    have e : (nI (A.1 1) / 4 + 1) * 4 = nI ((A.1 1 / 4 + 1) * 4) := by
      have e' : (nI (A.1 1) / nI 4 + nI 1) * nI 4 = nI ((A.1 1 / 4 + 1) * 4) := by
        rw [pk_div (by omega) (by decide) (by decide), nI_add, pk_mul]
      exact e'
    refine ⟨by decide, nm_r e ?_⟩
    have hp' := fun v (hv : (if 12 ≤ (A.1 1 / 4 + 1) * 4 then 11 else (A.1 1 / 4 + 1) * 4) = v) => hv ▸ hp
    refine pk_le 12 ((A.1 1 / 4 + 1) * 4) (fun c => ?_) (fun c => ?_)
    · refine ⟨zn_in ht, nm_r (e' := upd (R 1) t (nI 11)) (congrArg _ (zn_bb (v := 11) (by decide))) ?_⟩
      exact hp' 11 (if_pos c) _ (zr_mk ht (zr_st (j := 1) h2 (by decide)))
    · refine ⟨zn_in ht, nm_r (e' := upd (R 1) t (nI ((A.1 1 / 4 + 1) * 4))) (congrArg _ (zn_bb (by omega))) ?_⟩
      exact hp' _ (if_neg (by omega)) _ (zr_mk ht (zr_st (j := 1) h2 (by decide)))
  rw [if_neg c] at hp
  refine pk_eq b 10 (fun c => ?_) (fun c => ?_)
  · rw [if_pos c] at hp
    refine zx_lineFeed (zr_mk ht h2) hD (zp_ok_20 hok) (zx_k ?_)
    intro _ kc' kn' S' Y' L' R' N' K' z' sl' h'
    exact hp _ (zr_mk ht h')
  rw [if_neg c] at hp
  exact ⟨zn_in ht, nm_r (e' := upd (R 1) t (nI 0)) (by rw [zn_v0]) (hp _ (zr_mk ht (zr_st (j := 1) h2 (by decide))))⟩
theorem zx_shortSequence_126 {post : SX → Prop} {b w : Nat} (h : zr_B (fun _ => True) kc kn S Y L R N K z sl (zz_sel t A B)) (ht : t < 2) (hok : zp_ok A) (hb : b < 128) (hw : w < 2) (hp : ∀ u', zr_X (fun _ => True) u' t (zp_sh2 (zp_sg A 2 w) b) B → post u') : wX_shortSequence_126 post (nI b) (nI w) (nI t) (nI t) kc kn S Y L (R 0) (R 1) (R 2) (R 3) (R 4) (R 5) (R 6) (R 7) (R 8) (R 9) (R 10) (R 11) (R 12) (R 13) (R 14) (R 15) (R 16) (R 17) (R 18) N K := by
  have e9 := zr_g h ht (j := 9) (by decide)
  have e10 := zr_g h ht (j := 10) (by decide)
  have h2 := zr_st (j := 2) (v := w) h (by decide)
  have ok2 : zp_ok (zp_sg A 2 w) := zp_ok_sg hok (show w < 2 from hw) (by decide)
  have b9 := zp_b9 hok
  have b10 := zp_b10 hok
  have b11 := zp_b11 hok
  unfold wX_shortSequence_126
  rw [zn_cl ht, e9, e10]
  unfold zp_sh2 at hp
  refine ⟨zn_in ht, nm_r (e' := upd (R 2) t (nI w)) (by rw [zn_z hw]) ?_⟩
  refine pk_eq b 56 (fun c => ?_) (fun c => ?_)
  · rw [if_pos c] at hp
    refine ⟨zn_in ht, zn_in ht, zx_moveTo (zr_mk ht h2) b9 b10 (zx_k ?_)⟩
    intro _ kc' kn' S' Y' L' R' N' K' z' sl' h'
    have f11 : R' 11 t = nI (A.1 11) := zr_g h' ht (j := 11) (by decide)
    exact ⟨zn_in ht, zn_in ht, nm_r (e' := upd (R' 3) t (nI (A.1 11))) (by rw [zn_cl ht, f11, zn_b (by omega)]) (hp _ (zr_mk ht (zr_st (j := 3) h' (by decide))))⟩
  rw [if_neg c] at hp
  refine pk_eq b 68 (fun c => ?_) (fun c => ?_)
  · rw [if_pos c] at hp
    refine zx_lineFeed (zr_mk ht h2) trivial ok2 (zx_k ?_)
    intro _ kc' kn' S' Y' L' R' N' K' z' sl' h'
    exact hp _ (zr_mk ht h')
  rw [if_neg c] at hp
  refine pk_eq b 69 (fun c => ?_) (fun c => ?_)
  · rw [if_pos c] at hp
    refine ⟨zn_in ht, nm_r (e' := upd (R 1) t (nI 0)) (by rw [zn_v0]) ?_⟩
    refine zx_lineFeed (zr_mk ht (zr_st (j := 1) (v := 0) h2 (by decide))) trivial (zp_ok_10 ok2) (zx_k ?_)
    intro _ kc' kn' S' Y' L' R' N' K' z' sl' h'
    exact hp _ (zr_mk ht h')
  rw [if_neg c] at hp
  refine pk_eq b 77 (fun c => ?_) (fun c => ?_)
  · rw [if_pos c] at hp
    refine zx_goUp (zr_mk ht h2) trivial ok2 (zx_k ?_)
    intro _ kc' kn' S' Y' L' R' N' K' z' sl' h'
    exact hp _ (zr_mk ht h')
  rw [if_neg c] at hp
  refine pk_eq b 99 (fun c => ?_) (fun c => ?_)
  · rw [if_pos c] at hp
    refine zx_clearAll (zr_mk ht h2) (zp_b99 ok2) (zx_k ?_)
    intro _ kc' kn' S' Y' L' R' N' K' z' sl' h'
    exact hp _ (zr_D (zr_mk ht h') (fun s _ _ => Or.inr trivial))
  rw [if_neg c] at hp
  exact hp _ (zr_mk ht h2)
theorem zx_shortSequence_96 {post : SX → Prop} {b k : Nat} (h : zr_B (fun _ => True) kc kn S Y L R N K z sl (zz_sel t A B)) (ht : t < 2) (hok : zp_ok A) (hb : b < 128) (hk : k < 2) (hp : ∀ u', zr_X (fun _ => True) u' t (zp_sh2 (zp_sg A 2 (if k = 1 then 0 else A.1 2)) b) B → post u') : wX_shortSequence_96 post (nI b) (nI k) (nI t) kc kn S Y L (R 0) (R 1) (R 2) (R 3) (R 4) (R 5) (R 6) (R 7) (R 8) (R 9) (R 10) (R 11) (R 12) (R 13) (R 14) (R 15) (R 16) (R 17) (R 18) N K := by
  have e2 := zr_g h ht (j := 2) (by decide)
  have b2 := zp_b2 hok
  unfold wX_shortSequence_96
  rw [zn_cl ht, e2]
  refine ⟨zn_in ht, ?_⟩
  rcases (by omega : A.1 2 = 0 ∨ A.1 2 = 1) with c | c
  · rw [c] at hp ⊢
    rw [show (if k = 1 then 0 else 0) = 0 by split <;> rfl] at hp
    exact br_t rfl (zx_shortSequence_126 (w := 0) h ht hok hb (by decide) hp)
  · rw [c] at hp ⊢
    refine br_f (by decide) ?_
    rcases (by omega : k = 0 ∨ k = 1) with c1 | c1
    · subst c1
      exact br_t rfl (zx_shortSequence_126 (w := 1) h ht hok hb (by decide) hp)
    · subst c1
      exact br_f (by decide) (zx_shortSequence_126 (w := 0) h ht hok hb (by decide) hp)
theorem zx_shortSequence {u : SX} {post : SX → Prop} {b : Nat} (h : zr_X (fun _ => True) u t A B) (hok : zp_ok A) (hb : b < 128) (hp : ∀ u', zr_X (fun _ => True) u' t (zp_sht A b) B → post u') : wpX_shortSequence post u (nI b) := by
  obtain ⟨ht, kc, kn, S, Y, L, R, N, K, z, sl, rfl, h⟩ := h
  have e0 := zr_g h ht (j := 0) (by decide)
  have e1 := zr_g h ht (j := 1) (by decide)
  have e3 := zr_g h ht (j := 3) (by decide)
  have b0 := zp_b0 hok
  have b1 := zp_b1 hok
  have b3 := zp_b3 hok
  unfold wpX_shortSequence zx_S
  dsimp only
  rw [zn_cl ht, e0, e1, e3]
  unfold zp_sht at hp
  refine pk_eq b 55 (fun c => ?_) (fun c => ?_)
  · rw [if_pos c] at hp
    exact ⟨zn_in ht, zn_in ht, nm_r (e' := upd (R 9) t (nI (A.1 0))) (by rw [zn_b (by omega)]) ⟨zn_in ht, zn_in ht, nm_r (e' := upd (R 10) t (nI (A.1 1))) (by rw [zn_b (by omega)]) ⟨zn_in ht, zn_in ht, nm_r (e' := upd (R 11) t (nI (A.1 3))) (by rw [zn_b (by omega)]) (hp _ (zr_mk ht (zr_st (j := 11) (zr_st (j := 10) (zr_st (j := 9) h (by decide)) (by decide)) (by decide))))⟩⟩⟩
  rw [if_neg c] at hp
  have k1 : zp_kb b = 1 → wX_shortSequence_91 post (nI b) (nI t) kc kn S Y L (R 0) (R 1) (R 2) (R 3) (R 4) (R 5) (R 6) (R 7) (R 8) (R 9) (R 10) (R 11) (R 12) (R 13) (R 14) (R 15) (R 16) (R 17) (R 18) N K := by
    intro k
    rw [k] at hp
    exact zx_shortSequence_96 (k := 1) h ht hok hb (by decide) hp
  refine pk_eq b 56 (fun c => k1 ?_) (fun c56 => ?_)
  · rw [zp_kb, if_pos c]
  refine pk_eq b 68 (fun c => k1 ?_) (fun c68 => ?_)
  · rw [zp_kb, if_neg c56, if_pos c]
  refine pk_eq b 69 (fun c => k1 ?_) (fun c69 => ?_)
  · rw [zp_kb, if_neg c56, if_neg c68, if_pos c]
  refine pk_eq b 77 (fun c => k1 ?_) (fun c77 => ?_)
  · rw [zp_kb, if_neg c56, if_neg c68, if_neg c69, if_pos c]
  refine pk_eq b 99 (fun c => k1 ?_) (fun c99 => ?_)
  · rw [zp_kb, if_neg c56, if_neg c68, if_neg c69, if_neg c77, if_pos c]
  have k0 : zp_kb b = 0 := by rw [zp_kb, if_neg c56, if_neg c68, if_neg c69, if_neg c77, if_neg c99]
  rw [k0] at hp
  exact zx_shortSequence_96 (k := 0) h ht hok hb (by decide) hp
end
end
section
/-! the component: numbers, pens, moves -/
section
variable {D : Nat → Prop} {kc kn : Int32} {S Y L : zz_A} {R : Nat → zz_A} {N K : zz_A} {z : Nat → Nat} {sl : Nat → Nat → Nat} {t : Nat} {A B : zz_T}
theorem zr_nu (h : zr_B D kc kn S Y L R N K z sl (zz_sel t A B)) {j v : Nat} (hj : j < 4) : zr_B D kc kn S Y L R (upd N (4 * t + j) (nI v)) K z sl (zz_sel t (zp_sg A (20 + j) v) B) := by
  obtain ⟨h1, h2, h3, h4, h5⟩ := h
  refine ⟨?_, h2, ?_, ?_, zr_K_sg h5 (by omega)⟩
  · intro s i hs hi
    rw [zz_sgn (by omega : i ≠ 20 + j)]
    exact h1 s i hs hi
  · intro s hs hd
    exact zr_Vc (h3 s hs hd) (congrArg Prod.fst (zz_sg2 t (20 + j) v s A B)) (fun i hi => zz_sgn (by omega) t v s A B)
  · intro s i hs hi hc
    rw [zz_sgn (by omega : 18 ≠ 20 + j)] at hc
    have e := h4 s i hs hi hc
    by_cases cs : s = t
    · subst cs
      by_cases ci : i = j
      · subst ci
        rw [pk_us, zz_selp, zp_sg1]
      · rw [pk_un (by omega), e, zz_sgn (by omega : 20 + i ≠ 20 + j)]
    · rw [pk_un (by omega), e, zz_seln A B cs, zz_seln _ B cs]
theorem zr_ct (h : zr_B D kc kn S Y L R N K z sl (zz_sel t A B)) {v : Nat} (hv : ∀ i, i < 4 → i < v → N (4 * t + i) = nI (A.1 (20 + i))) : zr_B D kc kn S Y L (zx_st R 18 t v) N K z sl (zz_sel t (zp_sg A 18 v) B) := by
  refine ⟨zr_st0 h.1, h.2.1, ?_, ?_, zr_K_sg h.2.2.2.2 (by decide)⟩
  · intro s hs hd
    exact zr_Vc (h.2.2.1 s hs hd) (congrArg Prod.fst (zz_sg2 t 18 v s A B)) (fun i hi => zz_sgn (by omega) t v s A B)
  · intro s i hs hi hc
    rw [zz_sgn (by omega : 20 + i ≠ 18)]
    by_cases cs : s = t
    · subst cs
      rw [zz_selp, zp_sg1] at hc
      rw [zz_selp]
      exact hv i hi hc
    · rw [zz_seln _ B cs] at hc
      have e := h.2.2.2.1 s i hs hi (by rw [zz_seln A B cs]; exact hc)
      exact e
theorem zr_lis (h : zr_B D kc kn S Y L R N K z sl (zz_sel t A B)) : zr_B D kc kn S Y L (zx_st (zx_st R 17 t 0) 18 t 1) (upd N (4 * t) (nI 0)) K z sl (zz_sel t (zp_lis A) B) := by
  obtain ⟨h1, h2, h3, h4, h5⟩ := h
  unfold zp_lis
  refine ⟨?_, h2, ?_, ?_, zr_K_sg (zr_K_sg (zr_K_sg (zr_K_sg (zr_K_sg (zr_K_sg h5 (by decide)) (by decide)) (by decide)) (by decide)) (by decide)) (by decide)⟩
  · intro s i hs hi
    rw [zz_sgn (by omega : i ≠ 23), zz_sgn (by omega : i ≠ 22), zz_sgn (by omega : i ≠ 21), zz_sgn (by omega : i ≠ 20)]
    exact zr_st0 (zr_st0 h1) s i hs hi
  · intro s hs hd
    refine zr_Vc (h3 s hs hd) ?_ ?_
    · rw [zz_sg2, zz_sg2, zz_sg2, zz_sg2, zz_sg2, zz_sg2]
    · intro i hi
      rw [zz_sgn (by omega : i ≠ 23), zz_sgn (by omega : i ≠ 22), zz_sgn (by omega : i ≠ 21), zz_sgn (by omega : i ≠ 20), zz_sgn (by omega : i ≠ 18), zz_sgn (by omega : i ≠ 17)]
  · intro s i hs hi hc
    by_cases cs : s = t
    · subst cs
      rw [zz_selp] at hc ⊢
      have hc' : i < 1 := hc
      have ei : i = 0 := by omega
      subst ei
      exact pk_us
    · rw [zz_seln _ B cs] at hc ⊢
      rw [pk_un (by omega)]
      have e := h4 s i hs hi (by rw [zz_seln A B cs]; exact hc)
      rw [zz_seln A B cs] at e
      exact e
theorem zn_4 (t i : Nat) : nI t * 4 + nI i = nI (4 * t + i) := by
  have e : nI t * nI 4 + nI i = nI (4 * t + i) := by
    rw [pk_mul, nI_add]
    exact congrArg nI (by omega)
  exact e
theorem zx_number (h : zr_B D kc kn S Y L R N K z sl (zz_sel t A B)) (ht : t < 2) (hok : zp_ok A) {i : Nat} (hi : i < 4) {post : Int32 → Prop} (hp : post (nI (A.1 (20 + i)))) : wpX_number post (zx_S (nI t) kc kn S Y L R N K) (nI i) := by
  have e18 := zr_g h ht (j := 18) (by decide)
  have b18 := zp_b18 hok
  unfold wpX_number zx_S
  dsimp only
  rw [zn_cl ht, e18]
  refine ⟨zn_in ht, pk_le (A.1 18) i (fun c => ?_) (fun c => ?_)⟩
  · rw [(hok.2.1 i hi).2 c] at hp
    exact hp
  · have e := h.2.2.2.1 t i ht hi (by rw [zz_selp]; exact c)
    rw [zz_selp] at e
    rw [zn_4, nI_clamp (by omega), e]
    exact ⟨vp_in_nI (by omega) (by decide), hp⟩
theorem zx_addDigit {u : SX} {post : SX → Prop} {d : Nat} (h : zr_X D u t A B) (hok : zp_ok A) (h1 : 1 ≤ A.1 18) (hd : d < 10) (hp : ∀ u', zr_X D u' t (zp_dig A d) B → post u') : wpX_addDigit post u (nI d) := by
  obtain ⟨ht, kc, kn, S, Y, L, R, N, K, z, sl, rfl, h⟩ := h
  have e18 := zr_g h ht (j := 18) (by decide)
  have b18 := zp_b18 hok
  unfold zp_dig at hp
  unfold wpX_addDigit zx_S
  dsimp only
  rw [zn_cl ht, e18]
  refine ⟨zn_in ht, nm_e (pk_lt 4 (A.1 18) (fun c => ?_) (fun c => ?_))⟩
  · rw [if_pos c] at hp
    exact hp _ (zr_mk ht h)
  · rw [if_neg (by omega)] at hp
    have ej : 19 + A.1 18 = 20 + (A.1 18 - 1) := by omega
    rw [ej] at hp
    have ex : nI t * 4 + nI (A.1 18) - 1 = nI (4 * t + (A.1 18 - 1)) := by
      rw [zn_4, show 4 * t + (A.1 18 - 1) = 4 * t + A.1 18 - 1 by omega]
      exact pk_sub (b := 1) (by omega)
    have ec : (nI (4 * t + (A.1 18 - 1))).toNatClampNeg = 4 * t + (A.1 18 - 1) := nI_clamp (by omega)
    have ei : vp_in (nI (4 * t + (A.1 18 - 1))) 8 := vp_in_nI (by omega) (by decide)
    have en := h.2.2.2.1 t (A.1 18 - 1) ht (by omega) (by rw [zz_selp]; omega)
    rw [zz_selp] at en
    have b99 := (hok.2.1 (A.1 18 - 1) (by omega)).1
    have ev : 10 * nI (A.1 (20 + (A.1 18 - 1))) + nI d = nI (10 * A.1 (20 + (A.1 18 - 1)) + d) := by
      have e : nI 10 * nI (A.1 (20 + (A.1 18 - 1))) + nI d = nI (10 * A.1 (20 + (A.1 18 - 1)) + d) := by rw [pk_mul, nI_add]
      exact e
    refine nm_r ex ⟨ei, ?_⟩
    rw [ec, en]
    refine nm_r ev (pk_le (10 * A.1 (20 + (A.1 18 - 1)) + d) 99 (fun c9 => ?_) (fun c9 => ?_))
    · rw [if_pos c9] at hp
      refine ⟨ei, nm_r (e' := upd N (4 * t + (A.1 18 - 1)) (nI (10 * A.1 (20 + (A.1 18 - 1)) + d))) ?_ (hp _ (zr_mk ht (zr_nu h (by omega))))⟩
      rw [zn_bb (by omega)]
    · rw [if_neg (by omega)] at hp
      refine ⟨ei, nm_r (e' := upd N (4 * t + (A.1 18 - 1)) (nI 99)) ?_ (hp _ (zr_mk ht (zr_nu h (by omega))))⟩
      exact congrArg _ (zn_bb (v := 99) (by decide))
theorem zx_nextNumber_29 {post : SX → Prop} (h : zr_B D kc kn S Y L R N K z sl (zz_sel t A B)) (ht : t < 2) (b18 : A.1 18 < 6) (hv : ∀ i, i < 4 → i < A.1 18 + 1 → N (4 * t + i) = nI (A.1 (20 + i))) (hp : ∀ u', zr_X D u' t (zp_num A) B → post u') : wX_nextNumber_29 post (nI (A.1 18)) (nI t) kc kn S Y L (R 0) (R 1) (R 2) (R 3) (R 4) (R 5) (R 6) (R 7) (R 8) (R 9) (R 10) (R 11) (R 12) (R 13) (R 14) (R 15) (R 16) (R 17) (R 18) N K := by
  unfold zp_num at hp
  unfold wX_nextNumber_29
  refine pk_le 5 (A.1 18) (fun c => ?_) (fun c => ?_)
  · rw [if_pos c] at hp
    refine ⟨zn_in ht, nm_r (e' := upd (R 18) t (nI 5)) ?_ (hp _ (zr_mk ht (zr_ct h (fun i hi hc => hv i hi (by omega)))))⟩
    rw [zn_cl ht]
    exact congrArg _ (zn_bb (v := 5) (by decide))
  · rw [if_neg (by omega)] at hp
    refine ⟨zn_in ht, nm_r (e' := upd (R 18) t (nI (A.1 18 + 1))) ?_ (hp _ (zr_mk ht (zr_ct h hv)))⟩
    rw [zn_cl ht, nI_1, zn_bb (by omega)]
theorem zx_nextNumber {u : SX} {post : SX → Prop} (h : zr_X D u t A B) (hok : zp_ok A) (hp : ∀ u', zr_X D u' t (zp_num A) B → post u') : wpX_nextNumber post u := by
  obtain ⟨ht, kc, kn, S, Y, L, R, N, K, z, sl, rfl, h⟩ := h
  have e18 := zr_g h ht (j := 18) (by decide)
  have b18 := zp_b18 hok
  have hn : ∀ i, i < 4 → i < A.1 18 → N (4 * t + i) = nI (A.1 (20 + i)) := by
    intro i hi hc
    have e := h.2.2.2.1 t i ht hi (by rw [zz_selp]; exact hc)
    rw [zz_selp] at e
    exact e
  unfold wpX_nextNumber zx_S
  dsimp only
  rw [zn_cl ht, e18]
  refine ⟨zn_in ht, nm_e (pk_le 4 (A.1 18) (fun c => ?_) (fun c => ?_))⟩
  · exact zx_nextNumber_29 h ht b18 (fun i hi _ => hn i hi (by omega)) hp
  · rw [zn_4]
    refine ⟨vp_in_nI (by omega) (by decide), nm_r (e' := upd N (4 * t + A.1 18) (nI 0)) (by rw [nI_clamp (by omega), zn_v0]) ?_⟩
    have z0 : A.1 (20 + A.1 18) = 0 := (hok.2.1 (A.1 18) c).2 (Nat.le_refl _)
    have h' := zr_nu h (v := 0) c
    rw [zp_sgs A z0] at h'
    refine zx_nextNumber_29 h' ht b18 ?_ hp
    intro i hi hc
    by_cases ci : i = A.1 18
    · subst ci
      rw [pk_us, z0]
    · rw [pk_un (by omega)]
      exact hn i hi (by omega)
theorem zx_switchMode {u : SX} {post : SX → Prop} {on : Nat} (h : zr_X D u t A B) (hD : D t) (hok : zp_ok A) (ho : on < 2) (hp : ∀ u', zr_X D u' t (zp_mode A on) B → post u') : wpX_switchMode post u (nI on) := by
  obtain ⟨ht, kc, kn, S, Y, L, R, N, K, z, sl, rfl, h⟩ := h
  have b20 := zp_b20 hok
  unfold zp_mode at hp
  unfold wpX_switchMode zx_S
  dsimp only
  refine zx_number (i := 0) h ht hok (by decide) ?_
  refine pk_eq (A.1 20) 7 (fun c => ?_) (fun c => ?_)
  · rw [if_pos c] at hp
    exact ⟨zn_in ht, nm_r (e' := upd (R 7) t (nI on)) (by rw [zn_cl ht, zn_z ho]) (hp _ (zr_mk ht (zr_st (j := 7) h (by decide))))⟩
  rw [if_neg c] at hp
  refine pk_eq (A.1 20) 49 (fun c => ?_) (fun c => ?_)
  · rw [if_pos c] at hp
    refine zx_switchOther (zr_mk ht h) hD hok ho (zx_k ?_)
    intro _ kc' kn' S' Y' L' R' N' K' z' sl' h'
    exact hp _ (zr_mk ht h')
  rw [if_neg c] at hp
  exact hp _ (zr_mk ht h)
theorem zn_pens : ∀ p, p < 8 → (nI p ||| ((1 : Int32) <<< ((nI 1 / 3) &&& 31))) = nI (p ||| 1) ∧ (nI p ||| ((1 : Int32) <<< ((nI 4 / 3) &&& 31))) = nI (p ||| 2) ∧ (nI p ||| ((1 : Int32) <<< ((nI 7 / 3) &&& 31))) = nI (p ||| 4) := by decide +kernel
theorem zn_pens2 : ∀ p, p < 8 → (nI p &&& (((1 : Int32) <<< (((nI 22 - 21) / 3) &&& 31)) ^^^ (-1))) = nI (p &&& 6) ∧ (nI p &&& (((1 : Int32) <<< (((nI 24 - 21) / 3) &&& 31)) ^^^ (-1))) = nI (p &&& 5) ∧ (nI p &&& (((1 : Int32) <<< (((nI 27 - 21) / 3) &&& 31)) ^^^ (-1))) = nI (p &&& 3) := by decide +kernel
theorem zx_changePen_2 {post : SX → Prop} {e : Nat} (ht : t < 2) : ∀ (d i : Nat) (R : Nat → zz_A) (A : zz_T), i + d = (if A.1 18 < 4 then A.1 18 else 4) → zp_ok A → zr_B D kc kn S Y L R N K z sl (zz_sel t A B) →
    (∀ u', zr_X D u' t (zp_cp d i A) B → post u') → ∀ n, d < n → wX_changePen_2 post (nI t) kc kn n (nI i) S Y L (R 0) (R 1) (R 2) (R 3) (R 4) (R 5) (R 6) (R 7) (R 8) (R 9) (R 10) (R 11) (R 12) (R 13) (R 14) (R 15) (R 16) (R 17) (R 18) N K := by
  intro d
  induction d with
  | zero =>
    intro i R A hi hok h hp n hn
    obtain ⟨m, rfl⟩ : ∃ m, n = m + 1 := ⟨n - 1, by omega⟩
    have e18 := zr_g h ht (j := 18) (by decide)
    have b18 := zp_b18 hok
    unfold wX_changePen_2
    rw [zn_cl ht, e18]
    refine ⟨zn_in ht, pk_le (A.1 18) i (fun c => hp _ (zr_mk ht h)) (fun c => ?_) rfl rfl (by omega) (by split at hi <;> omega)⟩
    refine br_t (nI_le (a := 4) (by split at hi <;> omega) (by split at hi <;> omega)) (hp _ (zr_mk ht h))
  | succ d ih =>
    intro i R A hi hok h hp n hn
    obtain ⟨m, rfl⟩ : ∃ m, n = m + 1 := ⟨n - 1, by omega⟩
    have e18 := zr_g h ht (j := 18) (by decide)
    have e3 := zr_g h ht (j := 3) (by decide)
    have b18 := zp_b18 hok
    have b3 := zp_b3 hok
    have i4 : i < 4 := by split at hi <;> omega
    have ic : i < A.1 18 := by split at hi <;> omega
    have b99 := (hok.2.1 i i4).1
    have key : ∀ x3, x3 = nI (zp_pn (A.1 3) (A.1 (20 + i))) → wX_changePen_103 post (wX_changePen_2 post (nI t) kc kn m) (nI i) x3 (nI t) kc kn S Y L (R 0) (R 1) (R 2) (R 3) (R 4) (R 5) (R 6) (R 7) (R 8) (R 9) (R 10) (R 11) (R 12) (R 13) (R 14) (R 15) (R 16) (R 17) (R 18) N K := by
      intro x3 e
      have p8 := zp_pn8 (v := A.1 (20 + i)) b3
      refine ⟨zn_in ht, nm_r (e' := upd (R 3) t (nI (zp_pn (A.1 3) (A.1 (20 + i))))) (by rw [zn_cl ht, e, zn_bb (by omega)]) (nm_r (nI_1 i) ?_)⟩
      exact ih (i + 1) (zx_st R 3 t (zp_pn (A.1 3) (A.1 (20 + i)))) (zp_sg A 3 (zp_pn (A.1 3) (A.1 (20 + i)))) (by rw [show (zp_sg A 3 (zp_pn (A.1 3) (A.1 (20 + i)))).1 18 = A.1 18 from rfl]; omega) (zp_ok_sg hok (show _ < 8 from p8) (by decide)) (zr_st (j := 3) h (by decide)) hp m (by omega)
    obtain ⟨q1, q2, q3⟩ := zn_pens (A.1 3) b3
    obtain ⟨q4, q5, q6⟩ := zn_pens2 (A.1 3) b3
    generalize hv : A.1 (20 + i) = v at *
    unfold wX_changePen_2
    rw [zn_cl ht, e18, e3]
    refine ⟨zn_in ht, br_f (nI_ge ic (by omega)) (br_f (nI_ge (b := 4) i4 (by decide)) (zx_number h ht hok i4 ?_))⟩
    rw [hv]
    refine ⟨zn_in ht, nm_e ?_⟩
    unfold zp_pn at key
    refine pk_eq v 0 (fun c => ?_) (fun c => ?_)
    · rw [if_pos c] at key
      exact key _ rfl
    rw [if_neg c] at key
    refine pk_eq v 1 (fun c => ?_) (fun c => ?_)
    · rw [if_pos c] at key
      exact ⟨by decide, nm_e (key _ (by rw [c]; exact q1))⟩
    rw [if_neg c] at key
    refine pk_eq v 4 (fun c => ?_) (fun c => ?_)
    · rw [if_pos c] at key
      exact ⟨by decide, nm_e (key _ (by rw [c]; exact q2))⟩
    rw [if_neg c] at key
    refine pk_eq v 7 (fun c => ?_) (fun c => ?_)
    · rw [if_pos c] at key
      exact ⟨by decide, nm_e (key _ (by rw [c]; exact q3))⟩
    rw [if_neg c] at key
    refine pk_eq v 22 (fun c => ?_) (fun c => ?_)
    · rw [if_pos c] at key
      exact ⟨by decide, nm_e (key _ (by rw [c]; exact q4))⟩
    rw [if_neg c] at key
    refine pk_eq v 24 (fun c => ?_) (fun c => ?_)
    · rw [if_pos c] at key
      exact ⟨by decide, nm_e (key _ (by rw [c]; exact q5))⟩
    rw [if_neg c] at key
    refine pk_eq v 27 (fun c => ?_) (fun c => ?_)
    · rw [if_pos c] at key
      exact ⟨by decide, nm_e (key _ (by rw [c]; exact q6))⟩
    rw [if_neg c] at key
    exact key _ rfl
theorem zx_changePen {u : SX} {post : SX → Prop} (h : zr_X D u t A B) (hok : zp_ok A) (hp : ∀ u', zr_X D u' t (zp_pens A) B → post u') : wpX_changePen post u := by
  obtain ⟨ht, kc, kn, S, Y, L, R, N, K, z, sl, rfl, h⟩ := h
  exact ⟨_, zx_changePen_2 (e := 0) ht _ 0 R A (Nat.zero_add _) hok h hp _ (Nat.lt_succ_self _)⟩
theorem zx_lesser {post : Int32 → Prop} {a b : Nat} (ha : a < 2 ^ 31) (hb : b < 2 ^ 31) (hp : post (nI (zp_mn a b))) : wpX_lesser post (nI a) (nI b) := by
  unfold zp_mn at hp
  unfold wpX_lesser
  refine pk_le b a (fun c => ?_) (fun c => ?_)
  · rw [if_pos c] at hp
    exact hp
  · rw [if_neg (by omega)] at hp
    exact hp
theorem zx_greater {post : Int32 → Prop} {a n b : Nat} (ha : a < 2 ^ 30) (hn : n < 2 ^ 30) (hb : b < 2 ^ 30) (hp : post (nI (zp_mx (a - n) b))) : wpX_greater post (nI a - nI n) (nI b) := by
  unfold zp_mx at hp
  unfold wpX_greater
  by_cases c : n ≤ a
  · rw [pk_sub c]
    refine pk_le (a - n) b (fun c => ?_) (fun c => ?_)
    · rw [if_pos c] at hp
      exact hp
    · rw [if_neg (by omega)] at hp
      exact hp
  · rw [if_pos (by omega)] at hp
    refine br_t ?_ hp
    rw [Int32.le_iff_toInt_le, pk_sub_toInt ha hn, nI_toInt (by omega)]
    omega
end
end
section
/-! the component: sequences with numbers -/
theorem zp_mx0 (a : Nat) : zp_mx a 0 = a := by
  unfold zp_mx
  split <;> omega
section
variable {D : Nat → Prop} {kc kn : Int32} {S Y L : zz_A} {R : Nat → zz_A} {N K : zz_A} {z : Nat → Nat} {sl : Nat → Nat → Nat} {t : Nat} {A B : zz_T}
theorem zx_travel_229 {post : SX → Prop} {r c : Nat} (h : zr_B D kc kn S Y L R N K z sl (zz_sel t A B)) (ht : t < 2) (hr : r < 6) (hc : c < 12) (hp : ∀ u', zr_X D u' t (zp_mv A r c) B → post u') : wX_travel_229 post (nI r) (nI c) (nI t) kc kn S Y L (R 0) (R 1) (R 2) (R 3) (R 4) (R 5) (R 6) (R 7) (R 8) (R 9) (R 10) (R 11) (R 12) (R 13) (R 14) (R 15) (R 16) (R 17) (R 18) N K := by
  refine zx_moveTo (zr_mk ht h) hr hc (zx_k ?_)
  intro _ kc' kn' S' Y' L' R' N' K' z' sl' h'
  exact hp _ (zr_mk ht h')
theorem zx_travel {u : SX} {post : SX → Prop} {b n : Nat} (h : zr_X D u t A B) (hok : zp_ok A) (hb : b < 128) (hn : 1 ≤ n) (hn' : n ≤ 99) (hp : ∀ u', zr_X D u' t (zp_trv A b n) B → post u') : wpX_travel post u (nI b) (nI n) := by
  obtain ⟨ht, kc, kn, S, Y, L, R, N, K, z, sl, rfl, h⟩ := h
  have e0 := zr_g h ht (j := 0) (by decide)
  have e1 := zr_g h ht (j := 1) (by decide)
  have e4 := zr_g h ht (j := 4) (by decide)
  have e5 := zr_g h ht (j := 5) (by decide)
  have b0 := zp_b0 hok
  have b1 := zp_b1 hok
  have b4 := zp_b4 hok
  have b5 := zp_b5 hok
  have b21 := zp_b21 hok
  have en : nI n - 1 = nI (n - 1) := pk_sub (b := 1) hn
  unfold zp_trv at hp
  unfold wpX_travel zx_S
  dsimp only
  rw [zn_cl ht, e0, e1, e4, e5]
  refine ⟨zn_in ht, nm_e ⟨zn_in ht, nm_e ?_⟩⟩
  refine pk_eq b 65 (fun c => ?_) (fun c => ?_)
  · rw [if_pos c] at hp
    refine ⟨zn_in ht, pk_lt (A.1 0) (A.1 4) (fun c => ?_) (fun c => ?_)⟩
    · rw [if_pos c] at hp
      refine zx_greater (b := 0) (by omega) (by omega) (by omega) (zx_travel_229 h ht ?_ b1 hp)
      unfold zp_mx
      split <;> omega
    · rw [if_neg (by omega)] at hp
      refine ⟨zn_in ht, zx_greater (by omega) (by omega) (by omega) (zx_travel_229 h ht ?_ b1 hp)⟩
      unfold zp_mx
      split <;> omega
  rw [if_neg c] at hp
  refine pk_eq b 66 (fun c => ?_) (fun c => ?_)
  · rw [if_pos c] at hp
    refine ⟨zn_in ht, pk_lt (A.1 5) (A.1 0) (fun c => ?_) (fun c => ?_)⟩
    · rw [if_pos c] at hp
      unfold wX_travel_99
      rw [nI_add]
      exact zx_lesser (b := 5) (by omega) (by omega) (zx_travel_229 h ht (zp_mn_lt (by omega)) b1 hp)
    · rw [if_neg (by omega)] at hp
      unfold wX_travel_99
      rw [nI_add]
      exact ⟨zn_in ht, zx_lesser (by omega) (by omega) (zx_travel_229 h ht (zp_mn_lt (by omega)) b1 hp)⟩
  rw [if_neg c] at hp
  refine pk_eq b 67 (fun c => ?_) (fun c => ?_)
  · rw [if_pos c] at hp
    rw [nI_add]
    exact zx_lesser (b := 11) (by omega) (by omega) (zx_travel_229 h ht b0 (zp_mn_lt (by omega)) hp)
  rw [if_neg c] at hp
  refine pk_eq b 68 (fun c => ?_) (fun c => ?_)
  · rw [if_pos c] at hp
    refine zx_greater (b := 0) (by omega) (by omega) (by omega) ?_
    rw [zp_mx0]
    exact zx_travel_229 h ht b0 (by omega) hp
  rw [if_neg c] at hp
  rw [en]
  refine pk_eq b 71 (fun c => ?_) (fun c => ?_)
  · rw [if_pos c] at hp
    exact zx_lesser (b := 11) (by omega) (by omega) (zx_travel_229 h ht b0 (zp_mn_lt (by omega)) hp)
  rw [if_neg c] at hp
  refine pk_eq b 100 (fun c => ?_) (fun c => ?_)
  · rw [if_pos c] at hp
    exact zx_lesser (b := 5) (by omega) (by omega) (zx_travel_229 h ht (zp_mn_lt (by omega)) b1 hp)
  rw [if_neg c] at hp
  refine pk_eq b 72 (fun c => ?_) (fun c => ?_)
  · rw [if_pos c] at hp
    refine zx_number (i := 1) h ht hok (by decide) (zx_lesser (b := 5) (by omega) (by omega) (pk_eq (A.1 21) 0 (fun c => ?_) (fun c => ?_)))
    · rw [if_pos c] at hp
      exact zx_travel_229 (c := 0) h ht (zp_mn_lt (by omega)) (by decide) hp
    · rw [if_neg c] at hp
      have eq : nI (A.1 21) - 1 = nI (A.1 21 - 1) := pk_sub (b := 1) (by omega)
      show wpX_lesser _ (nI (A.1 21) - 1) 11
      rw [eq]
      exact zx_lesser (b := 11) (by omega) (by omega) (zx_travel_229 h ht (zp_mn_lt (by omega)) (zp_mn_lt (by omega)) hp)
  rw [if_neg c] at hp
  exact zx_travel_229 h ht b0 b1 hp
theorem zx_erase_115 {post : SX → Prop} {b p r : Nat} (h : zr_B D kc kn S Y L R N K z sl (zz_sel t A B)) (ht : t < 2) (hD : D t) (ho : A.1 8 < 2) (hb : b < 128) (hpp : p ≤ 2) (hr : r < 6) (hp : ∀ u', zr_X D u' t (zp_er3 A b p r) B → post u') : wX_erase_115 post (nI b) (nI p) (nI r) (nI t) kc kn S Y L (R 0) (R 1) (R 2) (R 3) (R 4) (R 5) (R 6) (R 7) (R 8) (R 9) (R 10) (R 11) (R 12) (R 13) (R 14) (R 15) (R 16) (R 17) (R 18) N K := by
  unfold zp_er3 at hp
  unfold wX_erase_115
  refine pk_eq b 74 (fun c => ?_) (fun c => ?_)
  · rw [if_pos c] at hp
    refine pk_eq p 0 (fun c => ?_) (fun c => ?_)
    · rw [if_pos c] at hp
      exact hp _ (zr_mk ht h)
    · rw [if_neg c] at hp
      refine zx_emptyRows (f := 0) (zr_mk ht h) hD ho (by omega) (by omega) (zx_k ?_)
      intro _ kc' kn' S' Y' L' R' N' K' z' sl' h'
      exact hp _ (zr_mk ht h')
  · rw [if_neg c] at hp
    exact hp _ (zr_mk ht h)
theorem zx_erase_82 {post : SX → Prop} {b p r f e : Nat} (h : zr_B D kc kn S Y L R N K z sl (zz_sel t A B)) (ht : t < 2) (hD : D t) (ho : A.1 8 < 2) (hb : b < 128) (hpp : p ≤ 2) (hr : r < 6) (hf : f ≤ e) (he : e ≤ 12) (hp : ∀ u', zr_X D u' t (zp_er2 (zp_E A (12 * r + f) (12 * r + e)) b p r) B → post u') : wX_erase_82 post (nI b) (nI p) (nI r) (nI f) (nI e) (nI t) kc kn S Y L (R 0) (R 1) (R 2) (R 3) (R 4) (R 5) (R 6) (R 7) (R 8) (R 9) (R 10) (R 11) (R 12) (R 13) (R 14) (R 15) (R 16) (R 17) (R 18) N K := by
  unfold zp_er2 at hp
  unfold wX_erase_82
  refine zx_emptyCells (zr_mk ht h) hD ho hr hf he (zx_k ?_)
  intro _ kc' kn' S' Y' L' R' N' K' z' sl' h'
  refine pk_eq b 74 (fun c => ?_) (fun c => ?_)
  · rw [if_pos c] at hp
    refine pk_eq p 1 (fun c => ?_) (fun c => ?_)
    · rw [if_pos c] at hp
      exact zx_erase_115 h' ht hD ho hb hpp hr hp
    · rw [if_neg c] at hp
      rw [nI_1]
      refine zx_emptyRows (e := 6) (zr_mk ht h') hD ho (by omega) (by omega) (zx_k ?_)
      intro _ kc' kn' S' Y' L' R' N' K' z' sl' h''
      exact zx_erase_115 h'' ht hD ho hb hpp hr hp
  · rw [if_neg c] at hp
    exact zx_erase_115 h' ht hD ho hb hpp hr hp
theorem zx_erase {u : SX} {post : SX → Prop} {b p n : Nat} (h : zr_X D u t A B) (hD : D t) (hok : zp_ok A) (hb : b < 128) (hpp : p ≤ 99) (hn : n ≤ 99) (hp : ∀ u', zr_X D u' t (zp_era A b p n) B → post u') : wpX_erase post u (nI b) (nI p) (nI n) := by
  obtain ⟨ht, kc, kn, S, Y, L, R, N, K, z, sl, rfl, h⟩ := h
  have e0 := zr_g h ht (j := 0) (by decide)
  have e1 := zr_g h ht (j := 1) (by decide)
  have b0 := zp_b0 hok
  have b1 := zp_b1 hok
  have b8 := zp_b8 hok
  unfold zp_era at hp
  unfold wpX_erase zx_S
  dsimp only
  rw [zn_cl ht, e0, e1]
  refine ⟨zn_in ht, nm_e ⟨zn_in ht, nm_e ?_⟩⟩
  refine pk_eq b 88 (fun c => ?_) (fun c => ?_)
  · rw [if_pos c] at hp
    rw [nI_add]
    refine zx_lesser (b := 12) (by omega) (by omega) (zx_emptyCells (zr_mk ht h) hD b8 b0 ?_ ?_ (zx_k ?_))
    · unfold zp_mn
      split <;> omega
    · unfold zp_mn
      split <;> omega
    · intro _ kc' kn' S' Y' L' R' N' K' z' sl' h'
      exact hp _ (zr_mk ht h')
  rw [if_neg c] at hp
  refine pk_le p 2 (fun c => ?_) (fun c => ?_)
  · rw [if_pos c] at hp
    unfold zp_er1 at hp
    have key : ∀ f, (if p = 0 then A.1 1 else 0) = f → wX_erase_66 post (nI b) (nI p) (nI (A.1 0)) (nI (A.1 1)) (nI f) (nI t) kc kn S Y L (R 0) (R 1) (R 2) (R 3) (R 4) (R 5) (R 6) (R 7) (R 8) (R 9) (R 10) (R 11) (R 12) (R 13) (R 14) (R 15) (R 16) (R 17) (R 18) N K := by
      intro f ef
      rw [ef] at hp
      have hf : f ≤ A.1 1 := by
        rw [← ef]
        split <;> omega
      refine pk_eq p 1 (fun c1 => ?_) (fun c1 => ?_)
      · rw [if_pos c1] at hp
        rw [nI_1]
        exact zx_erase_82 h ht hD b8 hb c b0 (by omega) (by omega) hp
      · rw [if_neg c1] at hp
        exact zx_erase_82 (e := 12) h ht hD b8 hb c b0 (by omega) (by omega) hp
    refine pk_eq p 0 (fun c => ?_) (fun c => ?_)
    · exact key _ (if_pos c)
    · exact key 0 (if_neg c)
  · rw [if_neg (by omega)] at hp
    exact hp _ (zr_mk ht h)
/-- cells that came from the right so far -/
def zp_hF (a : Nat → Nat) (l e m : Nat) : Nat → Nat := fun i => if l ≤ i ∧ i < e then a (i + m) else a i
def zp_kF (a : Nat → Nat) (l e m : Nat) : Nat → Nat := fun i => if l ≤ i ∧ i < e then a (i - m) else a i
theorem zx_shiftCells_95 {post : SX → Prop} {r q c m : Nat} (ht : t < 2) (hD : D t) (ho : A.1 8 < 2) (hr : r < 6) (hq : q = 6 * A.1 8 + r) (hm : 1 ≤ m) (hc : c + m ≤ 12) (hk : ∀ i, i < 144 → A.2.1 i < 1024)
    (hp : ∀ u', zr_X D u' t (zp_U A (12 * r + c) (12 * r + 12) m) B → post u') :
    ∀ (d x : Nat) (S Y : zz_A) (z : Nat → Nat), x + m + d = 12 → c ≤ x → zr_B D kc kn S Y L R N K z sl (zz_sel t (zp_sc A (zp_hF A.2.1 (12 * q + c) (12 * q + x) m)) B) → ∀ n, d < n → wX_shiftCells_95 post (nI r) (nI (144 * t + 12 * sl t q)) (nI m) n (nI x) (nI t) kc kn S Y L (R 0) (R 1) (R 2) (R 3) (R 4) (R 5) (R 6) (R 7) (R 8) (R 9) (R 10) (R 11) (R 12) (R 13) (R 14) (R 15) (R 16) (R 17) (R 18) N K := by
  intro d
  induction d with
  | zero =>
    intro x S Y z hx hx1 h n hn
    obtain ⟨m', rfl⟩ : ∃ m, n = m + 1 := ⟨n - 1, by omega⟩
    unfold wX_shiftCells_95
    rw [nI_add, show (12 : Int32) - nI m = nI (12 - m) from pk_sub (a := 12) (by omega)]
    refine br_t (nI_le (a := 12) (by omega) (by omega)) (zx_emptyCells (f := 12 - m) (e := 12) (zr_mk ht h) hD ho hr (by omega) (by omega) (zx_k ?_))
    intro _ kc' kn' S' Y' L' R' N' K' z' sl' h'
    refine hp _ (zr_mk ht (z := z') (sl := sl') ?_)
    have ef : zp_E (zp_sc A (zp_hF A.2.1 (12 * q + c) (12 * q + x) m)) (12 * r + (12 - m)) (12 * r + 12) = zp_U A (12 * r + c) (12 * r + 12) m := by
      refine congrArg (zp_sc A) ?_
      funext i
      show zp_eF (zp_hF A.2.1 (12 * q + c) (12 * q + x) m) (72 * A.1 8 + (12 * r + (12 - m))) (72 * A.1 8 + (12 * r + 12)) i = _
      simp only [zp_eF, zp_hF, zp_uF]
      (repeat' split) <;> first | rfl | omega | exact congrArg A.2.1 (by omega)
    rw [← ef]
    exact h'
  | succ d ih =>
    intro x S Y z hx hx1 h n hn
    obtain ⟨m', rfl⟩ : ∃ m, n = m + 1 := ⟨n - 1, by omega⟩
    have eg : zp_hF A.2.1 (12 * q + c) (12 * q + x) m (12 * q + (x + m)) = A.2.1 (12 * q + (x + m)) := if_neg (by omega)
    unfold wX_shiftCells_95
    rw [nI_add]
    refine br_f (nI_ge (b := 12) (by omega) (by decide)) (zx_copyCell h ht hD (by omega) (by omega) (by omega) ?_ ?_)
    · show zp_hF A.2.1 (12 * q + c) (12 * q + x) m (12 * q + (x + m)) < 1024
      rw [eg]
      exact hk _ (by omega)
    · intro S' Y' z' h'
      refine nm_r (nI_1 x) (ih (x + 1) S' Y' z' (by omega) (by omega) ?_ m' (by omega))
      have ef : zp_wF (zp_hF A.2.1 (12 * q + c) (12 * q + x) m) (12 * q + x) (zp_hF A.2.1 (12 * q + c) (12 * q + x) m (12 * q + (x + m))) = zp_hF A.2.1 (12 * q + c) (12 * q + (x + 1)) m := by
        rw [eg]
        funext i
        simp only [zp_wF, zp_hF]
        (repeat' split) <;> first | rfl | omega | exact congrArg A.2.1 (by omega)
      rw [← ef]
      exact h'
theorem zx_shiftCells_47 {post : SX → Prop} {r q c m : Nat} (ht : t < 2) (hD : D t) (ho : A.1 8 < 2) (hr : r < 6) (hq : q = 6 * A.1 8 + r) (hm : 1 ≤ m) (hc : c + m ≤ 12) (hk : ∀ i, i < 144 → A.2.1 i < 1024)
    (hp : ∀ u', zr_X D u' t (zp_D A (12 * r + c) (12 * r + 12) m) B → post u') :
    ∀ (d x : Nat) (S Y : zz_A) (z : Nat → Nat), x + 1 = c + m + d → x ≤ 11 → zr_B D kc kn S Y L R N K z sl (zz_sel t (zp_sc A (zp_kF A.2.1 (12 * q + (x + 1)) (12 * q + 12) m)) B) → ∀ n, d < n → wX_shiftCells_47 post (nI r) (nI (144 * t + 12 * sl t q)) (nI c) (nI m) n (nI x) (nI t) kc kn S Y L (R 0) (R 1) (R 2) (R 3) (R 4) (R 5) (R 6) (R 7) (R 8) (R 9) (R 10) (R 11) (R 12) (R 13) (R 14) (R 15) (R 16) (R 17) (R 18) N K := by
  intro d
  induction d with
  | zero =>
    intro x S Y z hx hx1 h n hn
    obtain ⟨m', rfl⟩ : ∃ m, n = m + 1 := ⟨n - 1, by omega⟩
    unfold wX_shiftCells_47
    rw [nI_add]
    refine br_t (nI_lt (by omega) (by omega)) (zx_emptyCells (zr_mk ht h) hD ho hr (by omega) (by omega) (zx_k ?_))
    intro _ kc' kn' S' Y' L' R' N' K' z' sl' h'
    refine hp _ (zr_mk ht (z := z') (sl := sl') ?_)
    have ef : zp_E (zp_sc A (zp_kF A.2.1 (12 * q + (x + 1)) (12 * q + 12) m)) (12 * r + c) (12 * r + (c + m)) = zp_D A (12 * r + c) (12 * r + 12) m := by
      refine congrArg (zp_sc A) ?_
      funext i
      show zp_eF (zp_kF A.2.1 (12 * q + (x + 1)) (12 * q + 12) m) (72 * A.1 8 + (12 * r + c)) (72 * A.1 8 + (12 * r + (c + m))) i = _
      simp only [zp_eF, zp_kF, zp_dF]
      (repeat' split) <;> first | rfl | omega | exact congrArg A.2.1 (by omega)
    rw [← ef]
    exact h'
  | succ d ih =>
    intro x S Y z hx hx1 h n hn
    obtain ⟨m', rfl⟩ : ∃ m, n = m + 1 := ⟨n - 1, by omega⟩
    have eg : zp_kF A.2.1 (12 * q + (x + 1)) (12 * q + 12) m (12 * q + (x - m)) = A.2.1 (12 * q + (x - m)) := if_neg (by omega)
    have e1 : nI x - nI m = nI (x - m) := pk_sub (by omega)
    have e2 : nI x + (-1) = nI (x - 1) := by
      rw [show x = (x - 1) + 1 by omega, pk_m1]
      rfl
    unfold wX_shiftCells_47
    rw [nI_add, e1]
    refine br_f (nI_nlt (by omega) (by omega)) (zx_copyCell h ht hD (by omega) (by omega) (by omega) ?_ ?_)
    · show zp_kF A.2.1 (12 * q + (x + 1)) (12 * q + 12) m (12 * q + (x - m)) < 1024
      rw [eg]
      exact hk _ (by omega)
    · intro S' Y' z' h'
      refine nm_r e2 (ih (x - 1) S' Y' z' (by omega) (by omega) ?_ m' (by omega))
      have ef : zp_wF (zp_kF A.2.1 (12 * q + (x + 1)) (12 * q + 12) m) (12 * q + x) (zp_kF A.2.1 (12 * q + (x + 1)) (12 * q + 12) m (12 * q + (x - m))) = zp_kF A.2.1 (12 * q + (x - 1 + 1)) (12 * q + 12) m := by
        rw [eg]
        funext i
        simp only [zp_wF, zp_kF]
        (repeat' split) <;> first | rfl | omega | exact congrArg A.2.1 (by omega)
      rw [← ef]
      exact h'
theorem zx_shiftCells {u : SX} {post : SX → Prop} {i n : Nat} (h : zr_X D u t A B) (hD : D t) (hok : zp_ok A) (hi : i < 2) (hn : 1 ≤ n) (hn' : n ≤ 99) (hp : ∀ u', zr_X D u' t (zp_shc A i n) B → post u') : wpX_shiftCells post u (nI i) (nI n) := by
  obtain ⟨ht, kc, kn, S, Y, L, R, N, K, z, sl, rfl, h⟩ := h
  have e0 := zr_g h ht (j := 0) (by decide)
  have e1 := zr_g h ht (j := 1) (by decide)
  have b0 := zp_b0 hok
  have b1 := zp_b1 hok
  have b8 := zp_b8 hok
  unfold zp_shc at hp
  unfold wpX_shiftCells zx_S
  dsimp only
  rw [zn_cl ht, e0, e1]
  refine ⟨zn_in ht, nm_e (zx_lineAt h ht hD b0 b8 ⟨zn_in ht, nm_e ?_⟩)⟩
  rw [show (12 : Int32) - nI (A.1 1) = nI (12 - A.1 1) from pk_sub (a := 12) (by omega)]
  refine zx_lesser (by omega) (by omega) ?_
  have m1 : 1 ≤ zp_mn n (12 - A.1 1) := by
    unfold zp_mn
    split <;> omega
  have m2 : A.1 1 + zp_mn n (12 - A.1 1) ≤ 12 := by
    unfold zp_mn
    split <;> omega
  have mm : zp_mn n (12 - A.1 1) = n ∨ (12 ≤ A.1 1 + n ∧ 12 ≤ A.1 1 + zp_mn n (12 - A.1 1)) := by
    unfold zp_mn
    split <;> omega
  have hk : ∀ i, i < 144 → A.2.1 i < 1024 := fun i hi => (zp_bc hok i hi).2.2
  generalize zp_mn n (12 - A.1 1) = m at *
  refine pk_eq i 0 (fun c => ?_) (fun c => ?_)
  · rw [if_pos c] at hp
    refine ⟨13, zx_shiftCells_95 (A := A) (B := B) ht hD b8 b0 rfl m1 m2 hk ?_ (12 - (A.1 1 + m)) (A.1 1) S Y z (by omega) (by omega) ?_ 13 (by omega)⟩
    · rcases mm with e | e
      · rw [e]
        exact hp
      · rw [zp_U_big A (k := n) (by omega) (by omega)]
        exact hp
    · have ef : zp_hF A.2.1 (12 * (6 * A.1 8 + A.1 0) + A.1 1) (12 * (6 * A.1 8 + A.1 0) + A.1 1) m = A.2.1 := by
        funext i
        simp only [zp_hF]
        (repeat' split) <;> first | rfl | omega
      rw [ef]
      exact h
  · rw [if_neg c] at hp
    refine ⟨13, zx_shiftCells_47 (A := A) (B := B) ht hD b8 b0 rfl m1 m2 hk ?_ (12 - (A.1 1 + m)) 11 S Y z (by omega) (by omega) ?_ 13 (by omega)⟩
    · rcases mm with e | e
      · rw [e]
        exact hp
      · rw [zp_D_big A (k := n) (by omega) (by omega)]
        exact hp
    · have ef : zp_kF A.2.1 (12 * (6 * A.1 8 + A.1 0) + (11 + 1)) (12 * (6 * A.1 8 + A.1 0) + 12) m = A.2.1 := by
        funext i
        simp only [zp_kF]
        (repeat' split) <;> first | rfl | omega
      rw [ef]
      exact h
theorem zx_shiftRows_66 {post : SX → Prop} {i r b m : Nat} (ht : t < 2) (hD : D t) (hz : A.1 99 = 0) (ho : A.1 8 < 2) (hi : i < 2) (hrb : r ≤ b) (hb : b < 6) (hm : m < 1000)
    (hp : ∀ u', zr_X D u' t (if i = 0 then zp_U A (12 * r) (12 * b + 12) (12 * m) else zp_D A (12 * r) (12 * b + 12) (12 * m)) B → post u') :
    ∀ (d k : Nat) (kc kn : Int32) (S Y L : zz_A) (R : Nat → zz_A) (N K : zz_A) (z : Nat → Nat) (sl : Nat → Nat → Nat), k + d = m → zr_B D kc kn S Y L R N K z sl (zz_sel t (if i = 0 then zp_U A (12 * r) (12 * b + 12) (12 * k) else zp_D A (12 * r) (12 * b + 12) (12 * k)) B) → ∀ n, d < n → wX_shiftRows_66 post (nI i) (nI r) (nI b) (nI m) n (nI k) (nI t) kc kn S Y L (R 0) (R 1) (R 2) (R 3) (R 4) (R 5) (R 6) (R 7) (R 8) (R 9) (R 10) (R 11) (R 12) (R 13) (R 14) (R 15) (R 16) (R 17) (R 18) N K := by
  intro d
  induction d with
  | zero =>
    intro k kc kn S Y L R N K z sl hk h n hn
    obtain ⟨m', rfl⟩ : ∃ m, n = m + 1 := ⟨n - 1, by omega⟩
    rw [show m = k by omega] at hp ⊢
    exact br_t (nI_le (by omega) (by omega)) (hp _ (zr_mk ht h))
  | succ d ih =>
    intro k kc kn S Y L R N K z sl hk h n hn
    obtain ⟨m', rfl⟩ : ∃ m, n = m + 1 := ⟨n - 1, by omega⟩
    refine br_f (nI_ge (by omega) (by omega)) (pk_eq i 0 (fun c => ?_) (fun c => ?_))
    · rw [if_pos c] at h
      refine zx_turnUp (zr_mk ht h) hD hz ho hrb hb (zx_k ?_)
      intro _ kc' kn' S' Y' L' R' N' K' z' sl' h'
      refine nm_r (nI_1 k) (ih (k + 1) kc' kn' S' Y' L' R' N' K' z' sl' (by omega) ?_ m' (by omega))
      rw [if_pos c, show 12 * (k + 1) = 12 * k + 12 by omega, ← zp_U_add]
      exact h'
    · rw [if_neg c] at h
      refine zx_turnDown (zr_mk ht h) hD hz ho hrb hb (zx_k ?_)
      intro _ kc' kn' S' Y' L' R' N' K' z' sl' h'
      refine nm_r (nI_1 k) (ih (k + 1) kc' kn' S' Y' L' R' N' K' z' sl' (by omega) ?_ m' (by omega))
      rw [if_neg c, show 12 * (k + 1) = 12 * k + 12 by omega, ← zp_D_add]
      exact h'
theorem zx_shiftRows {u : SX} {post : SX → Prop} {i n : Nat} (h : zr_X D u t A B) (hD : D t) (hok : zp_ok A) (hi : i < 2) (hn : 1 ≤ n) (hn' : n ≤ 99) (hp : ∀ u', zr_X D u' t (zp_shr A i n) B → post u') : wpX_shiftRows post u (nI i) (nI n) := by
  obtain ⟨ht, kc, kn, S, Y, L, R, N, K, z, sl, rfl, h⟩ := h
  have e0 := zr_g h ht (j := 0) (by decide)
  have e4 := zr_g h ht (j := 4) (by decide)
  have e5 := zr_g h ht (j := 5) (by decide)
  have b0 := zp_b0 hok
  have b4 := zp_b4 hok
  have b5 := zp_b5 hok
  have b8 := zp_b8 hok
  unfold zp_shr at hp
  unfold wpX_shiftRows zx_S
  dsimp only
  rw [zn_cl ht, e0, e4, e5]
  refine ⟨zn_in ht, nm_e ⟨zn_in ht, nm_e ⟨zn_in ht, pk_lt (A.1 0) (A.1 4) (fun c => ?_) (fun c => ?_)⟩⟩⟩
  · rw [if_pos c] at hp
    exact hp _ (zr_mk ht h)
  rw [if_neg (by omega)] at hp
  refine pk_le (A.1 0) (A.1 5) (fun c => ?_) (fun c => ?_)
  · rw [if_pos c] at hp
    refine ⟨zn_in ht, nm_r (e' := upd (R 1) t (nI 0)) (by rw [zn_v0]) ?_⟩
    have ee : nI (A.1 5) - nI (A.1 0) + 1 = nI (A.1 5 - A.1 0 + 1) := by rw [pk_sub c, nI_1]
    rw [ee]
    refine zx_lesser (by omega) (by omega) ?_
    have h1 := zr_st (j := 1) (v := 0) h (by decide)
    have mm : zp_mn n (A.1 5 - A.1 0 + 1) = n ∨ (12 * A.1 5 + 12 ≤ 12 * A.1 0 + 12 * n ∧ 12 * A.1 5 + 12 ≤ 12 * A.1 0 + 12 * zp_mn n (A.1 5 - A.1 0 + 1)) := by
      unfold zp_mn
      split <;> omega
    have ml : zp_mn n (A.1 5 - A.1 0 + 1) < 1000 := by
      unfold zp_mn
      split <;> omega
    generalize zp_mn n (A.1 5 - A.1 0 + 1) = m at *
    refine ⟨m + 1, zx_shiftRows_66 (A := zp_sg A 1 0) (B := B) ht hD (zp_b99 (zp_ok_10 hok)) b8 hi c b5 ml ?_ m 0 kc kn S Y L (zx_st R 1 t 0) N K z sl (by omega) ?_ _ (by omega)⟩
    · rcases mm with e | e
      · rw [e]
        exact hp
      · rw [zp_U_big (zp_sg A 1 0) (k := 12 * n) (by omega) (by omega), zp_D_big (zp_sg A 1 0) (k := 12 * n) (by omega) (by omega)]
        exact hp
    · rw [Nat.mul_zero, zp_U_0, zp_D_0, ite_self]
      exact h1
  · rw [if_neg (by omega)] at hp
    exact hp _ (zr_mk ht h)
theorem zx_setRegion_26 {post : SX → Prop} {n q : Nat} (h : zr_B D kc kn S Y L R N K z sl (zz_sel t A B)) (ht : t < 2) (hn : 1 ≤ n) (hn' : n ≤ 99) (hq : q ≤ 99) (hp : ∀ u', zr_X D u' t (zp_reg A n q) B → post u') : wX_setRegion_26 post (nI n) (nI q) (nI t) kc kn S Y L (R 0) (R 1) (R 2) (R 3) (R 4) (R 5) (R 6) (R 7) (R 8) (R 9) (R 10) (R 11) (R 12) (R 13) (R 14) (R 15) (R 16) (R 17) (R 18) N K := by
  unfold zp_reg at hp
  unfold wX_setRegion_26
  refine pk_le q n (fun c => ?_) (fun c => ?_)
  · rw [if_pos c] at hp
    exact hp _ (zr_mk ht h)
  rw [if_neg (by omega)] at hp
  refine pk_lt 6 q (fun c => ?_) (fun c => ?_)
  · rw [if_pos c] at hp
    exact hp _ (zr_mk ht h)
  rw [if_neg (by omega)] at hp
  have en : nI n - 1 = nI (n - 1) := pk_sub (b := 1) (by omega)
  have eq : nI q - 1 = nI (q - 1) := pk_sub (b := 1) (by omega)
  refine ⟨zn_in ht, nm_r (e' := upd (R 4) t (nI (n - 1))) (by rw [zn_cl ht, en, zn_bb (by omega)]) ⟨zn_in ht, nm_r (e' := upd (R 5) t (nI (q - 1))) (by rw [zn_cl ht, eq, zn_bb (by omega)]) ?_⟩⟩
  refine zx_moveTo (r := 0) (c := 0) (zr_mk ht (zr_st (j := 5) (zr_st (j := 4) h (by decide)) (by decide))) (by decide) (by decide) (zx_k ?_)
  intro _ kc' kn' S' Y' L' R' N' K' z' sl' h'
  exact hp _ (zr_mk ht h')
theorem zx_setRegion {u : SX} {post : SX → Prop} {p : Nat} (h : zr_X D u t A B) (hok : zp_ok A) (hpp : p ≤ 99) (hp : ∀ u', zr_X D u' t (zp_reg A (if p = 0 then 1 else p) (if A.1 21 = 0 then 6 else A.1 21)) B → post u') : wpX_setRegion post u (nI p) := by
  obtain ⟨ht, kc, kn, S, Y, L, R, N, K, z, sl, rfl, h⟩ := h
  have b21 := zp_b21 hok
  have key : ∀ n, (if p = 0 then 1 else p) = n → 1 ≤ n → n ≤ 99 → wX_setRegion_9 post (nI n) (nI t) kc kn S Y L (R 0) (R 1) (R 2) (R 3) (R 4) (R 5) (R 6) (R 7) (R 8) (R 9) (R 10) (R 11) (R 12) (R 13) (R 14) (R 15) (R 16) (R 17) (R 18) N K := by
    intro n en n1 n2
    rw [en] at hp
    unfold wX_setRegion_9
    refine zx_number (i := 1) h ht hok (by decide) (pk_eq (A.1 21) 0 (fun c => ?_) (fun c => ?_))
    · rw [if_pos c] at hp
      exact zx_setRegion_26 (q := 6) h ht n1 n2 (by decide) hp
    · rw [if_neg c] at hp
      exact zx_setRegion_26 h ht n1 n2 b21 hp
  unfold wpX_setRegion zx_S
  dsimp only
  refine pk_eq p 0 (fun c => ?_) (fun c => ?_)
  · exact key 1 (if_pos c) (by decide) (by decide)
  · exact key p (if_neg c) (by omega) hpp
end
end
section
/-! the component: the parser -/
section
variable {D : Nat → Prop} {kc kn : Int32} {S Y L : zz_A} {R : Nat → zz_A} {N K : zz_A} {z : Nat → Nat} {sl : Nat → Nat → Nat} {t : Nat} {A B : zz_T}
theorem zx_lastByte_252 {post : SX → Prop} {b n : Nat} (h : zr_B D kc kn S Y L R N K z sl (zz_sel t A B)) (ht : t < 2) (hok : zp_ok A) (hb : b < 128) (hn : 1 ≤ n) (hn' : n ≤ 99) (hp : ∀ u', zr_X D u' t (zp_trv A b n) B → post u') : wX_lastByte_252 post (nI b) (nI n) (nI t) kc kn S Y L (R 0) (R 1) (R 2) (R 3) (R 4) (R 5) (R 6) (R 7) (R 8) (R 9) (R 10) (R 11) (R 12) (R 13) (R 14) (R 15) (R 16) (R 17) (R 18) N K := by
  refine zx_travel (zr_mk ht h) hok hb hn hn' (zx_k ?_)
  intro _ kc' kn' S' Y' L' R' N' K' z' sl' h'
  exact hp _ (zr_mk ht h')
theorem zx_lastByte_280 {post : SX → Prop} {b p n : Nat} (h : zr_B D kc kn S Y L R N K z sl (zz_sel t A B)) (ht : t < 2) (hD : D t) (hok : zp_ok A) (hb : b < 128) (hpp : p ≤ 99) (hn' : n ≤ 99) (hp : ∀ u', zr_X D u' t (zp_era A b p n) B → post u') : wX_lastByte_280 post (nI b) (nI p) (nI n) (nI t) kc kn S Y L (R 0) (R 1) (R 2) (R 3) (R 4) (R 5) (R 6) (R 7) (R 8) (R 9) (R 10) (R 11) (R 12) (R 13) (R 14) (R 15) (R 16) (R 17) (R 18) N K := by
  refine zx_erase (zr_mk ht h) hD hok hb hpp hn' (zx_k ?_)
  intro _ kc' kn' S' Y' L' R' N' K' z' sl' h'
  exact hp _ (zr_mk ht h')
theorem zx_lastByte_316 {post : SX → Prop} {i n : Nat} (h : zr_B D kc kn S Y L R N K z sl (zz_sel t A B)) (ht : t < 2) (hD : D t) (hok : zp_ok A) (hi : i < 2) (hn : 1 ≤ n) (hn' : n ≤ 99) (hp : ∀ u', zr_X D u' t (zp_shc A i n) B → post u') : wX_lastByte_316 post (nI n) (nI i) (nI t) kc kn S Y L (R 0) (R 1) (R 2) (R 3) (R 4) (R 5) (R 6) (R 7) (R 8) (R 9) (R 10) (R 11) (R 12) (R 13) (R 14) (R 15) (R 16) (R 17) (R 18) N K := by
  refine zx_shiftCells (zr_mk ht h) hD hok hi hn hn' (zx_k ?_)
  intro _ kc' kn' S' Y' L' R' N' K' z' sl' h'
  exact hp _ (zr_mk ht h')
theorem zx_lastByte_348 {post : SX → Prop} {i n : Nat} (h : zr_B D kc kn S Y L R N K z sl (zz_sel t A B)) (ht : t < 2) (hD : D t) (hok : zp_ok A) (hi : i < 2) (hn : 1 ≤ n) (hn' : n ≤ 99) (hp : ∀ u', zr_X D u' t (zp_shr A i n) B → post u') : wX_lastByte_348 post (nI n) (nI i) (nI t) kc kn S Y L (R 0) (R 1) (R 2) (R 3) (R 4) (R 5) (R 6) (R 7) (R 8) (R 9) (R 10) (R 11) (R 12) (R 13) (R 14) (R 15) (R 16) (R 17) (R 18) N K := by
  refine zx_shiftRows (zr_mk ht h) hD hok hi hn hn' (zx_k ?_)
  intro _ kc' kn' S' Y' L' R' N' K' z' sl' h'
  exact hp _ (zr_mk ht h')
theorem zx_lastByte_246 {post : SX → Prop} {b p n : Nat} (h : zr_B D kc kn S Y L R N K z sl (zz_sel t A B)) (ht : t < 2) (hD : D t) (hok : zp_ok A) (hb : b < 128) (hpp : p ≤ 99) (en : (if p = 0 then 1 else p) = n) (hp : ∀ u', zr_X D u' t (zp_kn2 A b p n) B → post u') : wX_lastByte_246 post (nI b) (nI p) (nI n) (nI t) kc kn S Y L (R 0) (R 1) (R 2) (R 3) (R 4) (R 5) (R 6) (R 7) (R 8) (R 9) (R 10) (R 11) (R 12) (R 13) (R 14) (R 15) (R 16) (R 17) (R 18) N K := by
  have hn : 1 ≤ n := by
    rw [← en]
    split <;> omega
  have hn' : n ≤ 99 := by
    rw [← en]
    split <;> omega
  unfold zp_kn2 at hp
  unfold wX_lastByte_246
  refine pk_eq b 100 (fun c => ?_) (fun c => ?_)
  · rw [if_pos c] at hp
    exact zx_lastByte_252 h ht hok hb hn hn' hp
  rw [if_neg c] at hp
  refine pk_eq b 74 (fun c => ?_) (fun c => ?_)
  · rw [if_pos c] at hp
    exact zx_lastByte_280 h ht hD hok hb hpp hn' hp
  rw [if_neg c] at hp
  refine pk_eq b 75 (fun c => ?_) (fun c => ?_)
  · rw [if_pos c] at hp
    exact zx_lastByte_280 h ht hD hok hb hpp hn' hp
  rw [if_neg c] at hp
  refine pk_eq b 88 (fun c => ?_) (fun c => ?_)
  · rw [if_pos c] at hp
    exact zx_lastByte_280 h ht hD hok hb hpp hn' hp
  rw [if_neg c] at hp
  refine pk_eq b 64 (fun c => ?_) (fun c64 => ?_)
  · rw [if_pos c] at hp
    rw [c]
    exact br_t rfl (zx_lastByte_316 (i := 1) h ht hD hok (by decide) hn hn' hp)
  rw [if_neg c64] at hp
  refine pk_eq b 80 (fun c => ?_) (fun c => ?_)
  · rw [if_pos c] at hp
    rw [c]
    exact br_f (by decide) (zx_lastByte_316 (i := 0) h ht hD hok (by decide) hn hn' hp)
  rw [if_neg c] at hp
  refine pk_eq b 76 (fun c => ?_) (fun c => ?_)
  · rw [if_pos c] at hp
    rw [c]
    exact br_t rfl (zx_lastByte_348 (i := 1) h ht hD hok (by decide) hn hn' hp)
  rw [if_neg c] at hp
  refine pk_eq b 77 (fun c => ?_) (fun c => ?_)
  · rw [if_pos c] at hp
    rw [c]
    exact br_f (by decide) (zx_lastByte_348 (i := 0) h ht hD hok (by decide) hn hn' hp)
  rw [if_neg c] at hp
  refine pk_eq b 83 (fun c => ?_) (fun c => ?_)
  · rw [if_pos c] at hp
    refine zx_scrollUp (zr_mk ht h) hD hok (by omega) (zx_k ?_)
    intro _ kc' kn' S' Y' L' R' N' K' z' sl' h'
    exact hp _ (zr_mk ht h')
  rw [if_neg c] at hp
  refine pk_eq b 84 (fun c => ?_) (fun c => ?_)
  · rw [if_pos c] at hp
    refine zx_scrollDown (zr_mk ht h) hD hok (by omega) (zx_k ?_)
    intro _ kc' kn' S' Y' L' R' N' K' z' sl' h'
    exact hp _ (zr_mk ht h')
  rw [if_neg c] at hp
  refine zx_setRegion (zr_mk ht h) hok hpp (zx_k ?_)
  intro _ kc' kn' S' Y' L' R' N' K' z' sl' h'
  rw [en] at h'
  exact hp _ (zr_mk ht h')
theorem zx_lastByte_232 {post : SX → Prop} {b p n : Nat} (h : zr_B D kc kn S Y L R N K z sl (zz_sel t A B)) (ht : t < 2) (hD : D t) (hok : zp_ok A) (hb : b < 128) (hpp : p ≤ 99) (en : (if p = 0 then 1 else p) = n) (hp : ∀ u', zr_X D u' t (zp_kn1 A b p n) B → post u') : wX_lastByte_232 post (nI b) (nI p) (nI n) (nI t) kc kn S Y L (R 0) (R 1) (R 2) (R 3) (R 4) (R 5) (R 6) (R 7) (R 8) (R 9) (R 10) (R 11) (R 12) (R 13) (R 14) (R 15) (R 16) (R 17) (R 18) N K := by
  have hn : 1 ≤ n := by
    rw [← en]
    split <;> omega
  have hn' : n ≤ 99 := by
    rw [← en]
    split <;> omega
  unfold zp_kn1 at hp
  unfold wX_lastByte_232
  refine pk_lt b 65 (fun c => ?_) (fun c => ?_)
  · rw [if_pos c] at hp
    exact zx_lastByte_246 h ht hD hok hb hpp en hp
  rw [if_neg (by omega)] at hp
  refine pk_le b 72 (fun c => ?_) (fun c => ?_)
  · rw [if_pos c] at hp
    exact zx_lastByte_252 h ht hok hb hn hn' hp
  rw [if_neg (by omega)] at hp
  exact zx_lastByte_246 h ht hD hok hb hpp en hp
theorem zx_lastByte_193 {post : SX → Prop} {b : Nat} (h : zr_B D kc kn S Y L R N K z sl (zz_sel t A B)) (ht : t < 2) (hD : D t) (hok : zp_ok A) (hb : b < 128) (hp : ∀ u', zr_X D u' t (zp_kno A b) B → post u') : wX_lastByte_193 post (nI b) (nI t) kc kn S Y L (R 0) (R 1) (R 2) (R 3) (R 4) (R 5) (R 6) (R 7) (R 8) (R 9) (R 10) (R 11) (R 12) (R 13) (R 14) (R 15) (R 16) (R 17) (R 18) N K := by
  have h2 := zr_st (j := 2) (v := 0) h (by decide)
  have ok2 := zp_ok_20 hok
  have b20 := zp_b20 hok
  unfold zp_kno at hp
  unfold wX_lastByte_193 wX_lastByte_198
  refine br_f (by decide) ⟨zn_in ht, nm_r (e' := upd (R 2) t (nI 0)) (by rw [zn_cl ht, zn_z0]) (zx_number (i := 0) h2 ht ok2 (by decide) ?_)⟩
  refine pk_eq (A.1 20) 0 (fun c => ?_) (fun c => ?_)
  · exact zx_lastByte_232 (R := zx_st R 2 t 0) (p := A.1 20) (n := 1) h2 ht hD ok2 hb b20 (if_pos c) (by rw [if_pos c] at hp; exact hp)
  · exact zx_lastByte_232 (R := zx_st R 2 t 0) (p := A.1 20) (n := A.1 20) h2 ht hD ok2 hb b20 (if_neg c) (by rw [if_neg c] at hp; exact hp)
theorem zx_lastByte_63 {post : SX → Prop} {b on : Nat} (h : zr_B D kc kn S Y L R N K z sl (zz_sel t A B)) (ht : t < 2) (hok : zp_ok A) (hb : b = 104 ∧ on = 1 ∨ b = 108 ∧ on = 0) (hp : ∀ u', zr_X D u' t (zp_im A on) B → post u') : wX_lastByte_63 post (nI b) (nI t) kc kn S Y L (R 0) (R 1) (R 2) (R 3) (R 4) (R 5) (R 6) (R 7) (R 8) (R 9) (R 10) (R 11) (R 12) (R 13) (R 14) (R 15) (R 16) (R 17) (R 18) N K := by
  have e6 := zr_g h ht (j := 6) (by decide)
  have b6 := zp_b6 hok
  have b20 := zp_b20 hok
  unfold zp_im at hp
  unfold wX_lastByte_63
  refine zx_number (i := 0) h ht hok (by decide) (pk_eq (A.1 20) 4 (fun c => ?_) (fun c => ?_))
  · rw [if_pos c] at hp
    rcases hb with ⟨e1, e2⟩ | ⟨e1, e2⟩
    · subst e1 e2
      exact br_t rfl ⟨zn_in ht, nm_r (e' := upd (R 6) t (nI 1)) (by rw [zn_cl ht, zn_z1]) (hp _ (zr_mk ht (zr_st (j := 6) h (by decide))))⟩
    · subst e1 e2
      exact br_f (by decide) ⟨zn_in ht, nm_r (e' := upd (R 6) t (nI 0)) (by rw [zn_cl ht, zn_z0]) (hp _ (zr_mk ht (zr_st (j := 6) h (by decide))))⟩
  · rw [if_neg c] at hp
    exact ⟨zn_in ht, zn_in ht, nm_r (e' := upd (R 6) t (nI (A.1 6))) (by rw [zn_cl ht, e6, zn_z b6]) (hp _ (zr_mk ht (zr_st (j := 6) h (by decide))))⟩
theorem zx_lastByte_36 {post : SX → Prop} {on : Nat} (h : zr_B D kc kn S Y L R N K z sl (zz_sel t A B)) (ht : t < 2) (hD : D t) (hok : zp_ok A) (ho : on < 2) (hp : ∀ u', zr_X D u' t (zp_mode A on) B → post u') : wX_lastByte_36 post (nI on) (nI t) kc kn S Y L (R 0) (R 1) (R 2) (R 3) (R 4) (R 5) (R 6) (R 7) (R 8) (R 9) (R 10) (R 11) (R 12) (R 13) (R 14) (R 15) (R 16) (R 17) (R 18) N K := by
  refine zx_switchMode (zr_mk ht h) hD hok ho (zx_k ?_)
  intro _ kc' kn' S' Y' L' R' N' K' z' sl' h'
  exact hp _ (zr_mk ht h')
theorem zx_lastByte {u : SX} {post : SX → Prop} {b : Nat} (h : zr_X D u t A B) (hD : D t) (hok : zp_ok A) (hb : b < 128) (hp : ∀ u', zr_X D u' t (zp_lst A b) B → post u') : wpX_lastByte post u (nI b) := by
  obtain ⟨ht, kc, kn, S, Y, L, R, N, K, z, sl, rfl, h⟩ := h
  have e17 := zr_g h ht (j := 17) (by decide)
  have b17 := zp_b17 hok
  unfold zp_lst at hp
  unfold wpX_lastByte zx_S
  dsimp only
  rw [zn_cl ht, e17]
  refine ⟨zn_in ht, pk_eq (A.1 17) 0 (fun c => ?_) (fun c => ?_)⟩
  · rw [if_pos c] at hp
    refine pk_eq b 109 (fun c => ?_) (fun c109 => ?_)
    · rw [if_pos c] at hp
      refine zx_changePen (zr_mk ht h) hok (zx_k ?_)
      intro _ kc' kn' S' Y' L' R' N' K' z' sl' h'
      exact hp _ (zr_mk ht h')
    rw [if_neg c109] at hp
    refine pk_eq b 104 (fun c => ?_) (fun c104 => ?_)
    · rw [if_pos c] at hp
      exact zx_lastByte_63 h ht hok (Or.inl ⟨c, rfl⟩) hp
    rw [if_neg c104] at hp
    refine pk_eq b 108 (fun c => ?_) (fun c108 => ?_)
    · rw [if_pos c] at hp
      exact zx_lastByte_63 h ht hok (Or.inr ⟨c, rfl⟩) hp
    rw [if_neg c108] at hp
    have k1 : zp_kk b = 1 → wX_lastByte_193 post (nI b) (nI t) kc kn S Y L (R 0) (R 1) (R 2) (R 3) (R 4) (R 5) (R 6) (R 7) (R 8) (R 9) (R 10) (R 11) (R 12) (R 13) (R 14) (R 15) (R 16) (R 17) (R 18) N K := by
      intro k
      rw [if_pos k] at hp
      exact zx_lastByte_193 h ht hD hok hb hp
    have k147 : zp_kk b = 1 → wX_lastByte_147 post (nI b) (nI t) kc kn S Y L (R 0) (R 1) (R 2) (R 3) (R 4) (R 5) (R 6) (R 7) (R 8) (R 9) (R 10) (R 11) (R 12) (R 13) (R 14) (R 15) (R 16) (R 17) (R 18) N K := fun k => br_f (by decide) (k1 k)
    have k0 : zp_kk b = 0 → wX_lastByte_198 post (nI b) 0 (nI t) kc kn S Y L (R 0) (R 1) (R 2) (R 3) (R 4) (R 5) (R 6) (R 7) (R 8) (R 9) (R 10) (R 11) (R 12) (R 13) (R 14) (R 15) (R 16) (R 17) (R 18) N K := by
      intro k
      rw [if_neg (by omega)] at hp
      exact br_t rfl (hp _ (zr_mk ht h))
    have k123 : 68 < b ∨ b < 64 → wX_lastByte_123 post (nI b) (nI t) kc kn S Y L (R 0) (R 1) (R 2) (R 3) (R 4) (R 5) (R 6) (R 7) (R 8) (R 9) (R 10) (R 11) (R 12) (R 13) (R 14) (R 15) (R 16) (R 17) (R 18) N K := by
      intro hr
      have k151 : b < 71 ∨ 77 < b ∨ b = 73 → wX_lastByte_151 post (nI b) (nI t) kc kn S Y L (R 0) (R 1) (R 2) (R 3) (R 4) (R 5) (R 6) (R 7) (R 8) (R 9) (R 10) (R 11) (R 12) (R 13) (R 14) (R 15) (R 16) (R 17) (R 18) N K := by
        intro hr2
        refine br_t rfl ?_
        refine pk_eq b 80 (fun c => k1 ?_) (fun d1 => ?_)
        · unfold zp_kk
          (repeat' split) <;> first | rfl | omega
        refine pk_eq b 83 (fun c => k1 ?_) (fun d2 => ?_)
        · unfold zp_kk
          (repeat' split) <;> first | rfl | omega
        refine pk_eq b 84 (fun c => k1 ?_) (fun d3 => ?_)
        · unfold zp_kk
          (repeat' split) <;> first | rfl | omega
        refine pk_eq b 88 (fun c => k1 ?_) (fun d4 => ?_)
        · unfold zp_kk
          (repeat' split) <;> first | rfl | omega
        refine pk_eq b 100 (fun c => k1 ?_) (fun d5 => ?_)
        · unfold zp_kk
          (repeat' split) <;> first | rfl | omega
        refine pk_eq b 114 (fun c => k1 ?_) (fun d6 => k0 ?_)
        · unfold zp_kk
          (repeat' split) <;> first | rfl | omega
        · unfold zp_kk
          (repeat' split) <;> first | rfl | omega
      unfold wX_lastByte_123
      refine pk_eq b 71 (fun c => k147 ?_) (fun d1 => ?_)
      · unfold zp_kk
        (repeat' split) <;> first | rfl | omega
      refine pk_eq b 72 (fun c => k147 ?_) (fun d2 => ?_)
      · unfold zp_kk
        (repeat' split) <;> first | rfl | omega
      refine pk_lt b 74 (fun c => k151 (by omega)) (fun d3 => ?_)
      refine pk_lt 77 b (fun c => k151 (by omega)) (fun d4 => k147 ?_)
      unfold zp_kk
      (repeat' split) <;> first | rfl | omega
    refine pk_eq b 64 (fun c => k147 ?_) (fun c64 => ?_)
    · unfold zp_kk
      (repeat' split) <;> first | rfl | omega
    refine pk_lt b 65 (fun c => k123 (by omega)) (fun c65 => ?_)
    refine pk_le b 68 (fun c => k147 ?_) (fun c68 => k123 (by omega))
    unfold zp_kk
    (repeat' split) <;> first | rfl | omega
  · rw [if_neg c] at hp
    refine pk_eq b 104 (fun c => ?_) (fun c => ?_)
    · rw [if_pos c] at hp
      rw [c]
      exact br_t rfl (zx_lastByte_36 (on := 1) h ht hD hok (by decide) hp)
    rw [if_neg c] at hp
    refine pk_eq b 108 (fun c => ?_) (fun c => ?_)
    · rw [if_pos c] at hp
      rw [c]
      exact br_f (by decide) (zx_lastByte_36 (on := 0) h ht hD hok (by decide) hp)
    rw [if_neg c] at hp
    exact hp _ (zr_mk ht h)
theorem zx_meaning {post : Int32 → Prop} {u : SX} {st b : Nat} (hs : st < 4) (hb : b < 128) (hp : post (nI (zp_mean st b))) : wpX_meaning post u (nI st) (nI b) := by
  have key : ∀ k, zp_mean st b = k → post (nI k) := fun k e => e ▸ hp
  obtain ⟨f1, f2, f3, a1, a2, a3, a4, a5, a6, a7, a8, a9, a10, a11, a12, a13, a14, a15, a16, a17, a18, a19, a20, a21, a22, a23, a24⟩ := u
  unfold wpX_meaning
  dsimp only
  refine pk_eq b 27 (fun c => key 3 ?_) (fun c27 => ?_)
  · unfold zp_mean
    (repeat' split) <;> first | rfl | omega
  refine pk_eq st 0 (fun cs => ?_) (fun cs0 => ?_)
  · have k26 : b < 32 ∨ 127 ≤ b → wX_meaning_26 post (nI b) f1 f2 f3 a1 a2 a3 a4 a5 a6 a7 a8 a9 a10 a11 a12 a13 a14 a15 a16 a17 a18 a19 a20 a21 a22 a23 a24 := by
      intro hr
      refine pk_lt b 8 (fun c => key 0 ?_) (fun c => ?_)
      · unfold zp_mean
        (repeat' split) <;> first | rfl | omega
      refine pk_lt 13 b (fun c => key 0 ?_) (fun c => key 2 ?_)
      · unfold zp_mean
        (repeat' split) <;> first | rfl | omega
      · unfold zp_mean
        (repeat' split) <;> first | rfl | omega
    refine pk_lt b 32 (fun c => k26 (by omega)) (fun c => ?_)
    refine pk_le 127 b (fun c => k26 (by omega)) (fun c => key 1 ?_)
    unfold zp_mean
    (repeat' split) <;> first | rfl | omega
  refine pk_eq st 1 (fun cs => ?_) (fun cs1 => ?_)
  · refine pk_eq b 91 (fun c => key 4 ?_) (fun c => key 5 ?_)
    · unfold zp_mean
      (repeat' split) <;> first | rfl | omega
    · unfold zp_mean
      (repeat' split) <;> first | rfl | omega
  have k76 : b < 48 ∨ 57 < b → wX_meaning_76 post (nI st) (nI b) f1 f2 f3 a1 a2 a3 a4 a5 a6 a7 a8 a9 a10 a11 a12 a13 a14 a15 a16 a17 a18 a19 a20 a21 a22 a23 a24 := by
    intro hr
    refine pk_eq b 59 (fun c => key 8 ?_) (fun c59 => ?_)
    · unfold zp_mean
      (repeat' split) <;> first | rfl | omega
    have k100 : b < 64 ∨ 127 ≤ b → wX_meaning_100 post (nI st) (nI b) f1 f2 f3 a1 a2 a3 a4 a5 a6 a7 a8 a9 a10 a11 a12 a13 a14 a15 a16 a17 a18 a19 a20 a21 a22 a23 a24 := by
      intro hr2
      refine pk_eq b 63 (fun c => ?_) (fun c63 => key 10 ?_)
      · refine pk_eq st 2 (fun c2 => key 6 ?_) (fun c2 => key 10 ?_)
        · unfold zp_mean
          (repeat' split) <;> first | rfl | omega
        · unfold zp_mean
          (repeat' split) <;> first | rfl | omega
      · unfold zp_mean
        (repeat' split) <;> first | rfl | omega
    refine pk_lt b 64 (fun c => k100 (by omega)) (fun c => ?_)
    refine pk_le 127 b (fun c => k100 (by omega)) (fun c => key 9 ?_)
    unfold zp_mean
    (repeat' split) <;> first | rfl | omega
  refine pk_lt b 48 (fun c => k76 (by omega)) (fun c => ?_)
  refine pk_lt 57 b (fun c => k76 (by omega)) (fun c => key 7 ?_)
  unfold zp_mean
  (repeat' split) <;> first | rfl | omega
theorem zx_nextState {post : Int32 → Prop} {m : Nat} (hm : m < 128) (hp : post (nI (zp_nx m))) : wpX_nextState post (nI m) := by
  have key : ∀ k, zp_nx m = k → post (nI k) := fun k e => e ▸ hp
  refine pk_eq m 3 (fun c => key 1 (if_pos c)) (fun c3 => ?_)
  refine pk_eq m 4 (fun c => key 2 ?_) (fun c4 => ?_)
  · rw [zp_nx, if_neg c3, if_pos c]
  refine pk_lt m 6 (fun c => key 0 ?_) (fun c6 => ?_)
  · rw [zp_nx, if_neg c3, if_neg c4, if_pos c]
  refine pk_lt 8 m (fun c => key 0 ?_) (fun c8 => key 3 ?_)
  · rw [zp_nx, if_neg c3, if_neg c4, if_neg (by omega), if_pos c]
  · rw [zp_nx, if_neg c3, if_neg c4, if_neg (by omega), if_neg (by omega)]
theorem zr_cg {W W' : Nat → zz_T} (h : zr_B D kc kn S Y L R N K z sl W) (e : ∀ s, s < 2 → W' s = W s) : zr_B D kc kn S Y L R N K z sl W' := by
  obtain ⟨h1, h2, h3, h4, h5⟩ := h
  refine ⟨?_, h2, ?_, ?_, ?_⟩
  · intro s j hs hj
    rw [e s hs]
    exact h1 s j hs hj
  · intro s hs hd
    rw [e s hs]
    exact h3 s hs hd
  · intro s i hs hi
    rw [e s hs]
    exact h4 s i hs hi
  · rw [e 0 (by decide)]
    exact h5
theorem zp_mean_b (st b : Nat) : zp_mean st b ≤ 10 := by
  unfold zp_mean
  (repeat' split) <;> omega
theorem zp_mean_1 {st b : Nat} (h : zp_mean st b = 1) : 32 ≤ b ∧ b < 127 := by
  revert h
  unfold zp_mean
  (repeat' split) <;> omega
theorem zp_mean_7 {st b : Nat} (h : zp_mean st b = 7) : 2 ≤ st ∧ 48 ≤ b ∧ b ≤ 57 := by
  revert h
  unfold zp_mean
  (repeat' split) <;> omega
theorem zp_mean_8 {st b : Nat} (h : zp_mean st b = 8) : 2 ≤ st := by
  revert h
  unfold zp_mean
  (repeat' split) <;> omega
theorem zp_nx4 (m : Nat) : zp_nx m < 4 := by
  unfold zp_nx
  (repeat' split) <;> omega
theorem zp_ok_nx {T : zz_T} {b : Nat} (h : zp_ok T) (h4 : zp_mean (T.1 16) b ≠ 4) : zp_ok (zp_sg T 16 (zp_nx (zp_mean (T.1 16) b))) := by
  refine zp_ok_st h (zp_nx4 _) ?_
  intro q
  apply zp_bli h
  revert q h4
  unfold zp_nx zp_mean
  (repeat' split) <;> omega
/-- terminal s reads a byte -/
theorem zx_read {u : SX} {post : SX → Prop} {s b : Nat} (h : zr_X (fun _ => True) u t A B) (hs : s < 2) (hb : b < 128) (hok : zp_ok (zz_sel t A B s)) (hp : ∀ u', zr_X (fun _ => True) u' s (zp_rd (zz_sel t A B s) b) (zz_sel t A B (1 - s)) → post u') : wpX_read post u (nI s) (nI b) := by
  obtain ⟨ht, kc, kn, S, Y, L, R, N, K, z, sl, rfl, h⟩ := h
  have h' : zr_B (fun _ => True) kc kn S Y L R N K z sl (zz_sel s (zz_sel t A B s) (zz_sel t A B (1 - s))) := by
    refine zr_cg h (fun r hr => ?_)
    by_cases c : r = s
    · rw [c, zz_selp]
    · rw [zz_seln _ _ c, show r = 1 - s by omega]
  clear h
  generalize zz_sel t A B s = C at *
  generalize zz_sel t A B (1 - s) = E at *
  have e16 := zr_g h' hs (j := 16) (by decide)
  have b16 := zp_b16 hok
  have hm4 := zp_ok_nx (b := b) hok
  have h1 := zr_st (j := 16) (v := zp_nx (zp_mean (C.1 16) b)) h' (by decide)
  have mb := zp_mean_b (C.1 16) b
  have m1 := @zp_mean_1 (C.1 16) b
  have m7 := @zp_mean_7 (C.1 16) b
  have m8 := @zp_mean_8 (C.1 16) b
  have n4 := zp_nx4 (zp_mean (C.1 16) b)
  have hl := zp_bli hok
  unfold zp_rd at hp
  unfold wpX_read zx_S
  dsimp only
  rw [zn_cl hs, e16]
  refine ⟨zn_in hs, nm_e (zx_meaning b16 hb (zx_nextState (by omega) ?_))⟩
  generalize zp_mean (C.1 16) b = m at *
  generalize zp_nx m = x at *
  unfold zp_do at hp
  refine ⟨zn_in hs, nm_r (e' := upd (R 16) s (nI x)) (by rw [zn_bb (by omega)]) ?_⟩
  refine pk_eq m 1 (fun c => ?_) (fun c => ?_)
  · rw [if_pos c] at hp
    refine zx_putSign (zr_mk hs h1) trivial (hm4 (by omega)) hb (zx_k ?_)
    intro _ kc' kn' S' Y' L' R' N' K' z' sl' h''
    exact hp _ (zr_mk hs h'')
  rw [if_neg c] at hp
  refine pk_eq m 2 (fun c => ?_) (fun c => ?_)
  · rw [if_pos c] at hp
    refine zx_control (zr_mk hs h1) trivial (hm4 (by omega)) hb (zx_k ?_)
    intro _ kc' kn' S' Y' L' R' N' K' z' sl' h''
    exact hp _ (zr_mk hs h'')
  rw [if_neg c] at hp
  refine pk_eq m 4 (fun c => ?_) (fun c4 => ?_)
  · rw [if_pos c] at hp
    have e4 : nI s * 4 = nI (4 * s) := by
      have e : nI s * nI 4 = nI (4 * s) := by
        rw [pk_mul]
        exact congrArg nI (by omega)
      exact e
    rw [e4]
    refine ⟨zn_in hs, nm_r (e' := upd (R 17) s (nI 0)) (by rw [zn_z0]) ⟨zn_in hs, nm_r (e' := upd (R 18) s (nI 1)) (by rw [zn_v1]) ⟨vp_in_nI (by omega) (by decide), nm_r (e' := upd N (4 * s) (nI 0)) (by rw [nI_clamp (by omega), zn_v0]) ?_⟩⟩⟩
    exact hp _ (zr_mk hs (zr_lis h1))
  rw [if_neg c4] at hp
  refine pk_eq m 6 (fun c => ?_) (fun c => ?_)
  · rw [if_pos c] at hp
    exact ⟨zn_in hs, nm_r (e' := upd (R 17) s (nI 1)) (by rw [zn_z1]) (hp _ (zr_mk hs (zr_st (j := 17) h1 (by decide))))⟩
  rw [if_neg c] at hp
  refine pk_eq m 7 (fun c => ?_) (fun c => ?_)
  · rw [if_pos c] at hp
    have m7' := m7 c
    rw [show nI b - 48 = nI (b - 48) from pk_sub (b := 48) (by omega)]
    refine zx_addDigit (zr_mk hs h1) (hm4 c4) (hl m7'.1) (by omega) (zx_k ?_)
    intro _ kc' kn' S' Y' L' R' N' K' z' sl' h''
    exact hp _ (zr_mk hs h'')
  rw [if_neg c] at hp
  refine pk_eq m 8 (fun c => ?_) (fun c => ?_)
  · rw [if_pos c] at hp
    refine zx_nextNumber (zr_mk hs h1) (hm4 c4) (zx_k ?_)
    intro _ kc' kn' S' Y' L' R' N' K' z' sl' h''
    exact hp _ (zr_mk hs h'')
  rw [if_neg c] at hp
  refine pk_eq m 5 (fun c => ?_) (fun c => ?_)
  · rw [if_pos c] at hp
    refine zx_shortSequence (zr_mk hs h1) (hm4 c4) hb (zx_k ?_)
    intro _ kc' kn' S' Y' L' R' N' K' z' sl' h''
    exact hp _ (zr_mk hs h'')
  rw [if_neg c] at hp
  refine pk_eq m 9 (fun c => ?_) (fun c => ?_)
  · rw [if_pos c] at hp
    refine zx_lastByte (zr_mk hs h1) trivial (hm4 c4) hb (zx_k ?_)
    intro _ kc' kn' S' Y' L' R' N' K' z' sl' h''
    exact hp _ (zr_mk hs h'')
  rw [if_neg c] at hp
  exact hp _ (zr_mk hs h1)
end
end
section
/-! the reference's state against the picture of the first terminal and the shown cells -/
def zy_st (T : zz_T) : Nat := if T.1 16 < 2 then T.1 16 else 2
def zy_S (T : zz_T) (bg mk my : Int32) (C Q AC KS NU : zz_A) : SY := (nI (T.1 0), nI (T.1 1), nI (T.1 3), nI (T.1 4), nI (T.1 5), nI (T.1 6), nI (T.1 7), nI (T.1 8), nI (T.1 2), nI (T.1 9), nI (T.1 10), nI (T.1 11), nI (T.1 12), nI (T.1 13), nI (T.1 14), nI (T.1 15), nI (T.1 24), nI (zy_st T), bg, mk, my, C, Q, AC, KS, NU)
def zr_P (p : Prop) (T : zz_T) (bg mk my : Int32) (NU : zz_A) : Prop :=
  (2 ≤ T.1 16 → bg = nI (T.1 16 - 2)) ∧ (p → mk = nI (T.1 17) ∧ my = nI (T.1 18) ∧ ∀ i, i < 4 → NU i = nI (T.1 (20 + i)))
def zr_C (T : zz_T) (G : Nat → Nat) (C Q AC KS : zz_A) : Prop :=
  (∀ i, i < 72 → C i = nI (T.2.1 (72 * T.1 8 + i))) ∧ (∀ i, i < 72 → Q i = nI (G i)) ∧ (T.1 8 = 1 → ∀ i, i < 72 → AC i = nI (T.2.1 i)) ∧ (∀ j, j < 96 → j < 12 * T.1 24 → KS j = nI (T.2.2 j))
def zr_Y (p : Prop) (v : SY) (T : zz_T) (G : Nat → Nat) : Prop :=
  ∃ bg mk my C Q AC KS NU, v = zy_S T bg mk my C Q AC KS NU ∧ zr_P p T bg mk my NU ∧ zr_C T G C Q AC KS
theorem zy_mk {p : Prop} {T : zz_T} {G : Nat → Nat} {bg mk my : Int32} {C Q AC KS NU : zz_A} (h1 : zr_P p T bg mk my NU) (h2 : zr_C T G C Q AC KS) : zr_Y p (zy_S T bg mk my C Q AC KS NU) T G := ⟨bg, mk, my, C, Q, AC, KS, NU, rfl, h1, h2⟩
theorem zy_k {p : Prop} {T : zz_T} {G : Nat → Nat} {P : SY → Prop} (H : ∀ bg mk my C Q AC KS NU, zr_P p T bg mk my NU → zr_C T G C Q AC KS → P (zy_S T bg mk my C Q AC KS NU)) : ∀ v', zr_Y p v' T G → P v' := by
  intro v' h
  obtain ⟨bg, mk, my, C, Q, AC, KS, NU, rfl, h1, h2⟩ := h
  exact H bg mk my C Q AC KS NU h1 h2
section
variable {p : Prop} {T : zz_T} {G : Nat → Nat} {bg mk my : Int32} {C Q AC KS NU : zz_A}
theorem zy_Psg (h : zr_P p T bg mk my NU) {j v : Nat} (hj : j < 16) : zr_P p (zp_sg T j v) bg mk my NU := by
  unfold zr_P at h ⊢
  rw [zp_sgn T v (by omega : 16 ≠ j), zp_sgn T v (by omega : 17 ≠ j), zp_sgn T v (by omega : 18 ≠ j)]
  refine ⟨h.1, fun q => ⟨(h.2 q).1, (h.2 q).2.1, fun i hi => ?_⟩⟩
  rw [zp_sgn T v (by omega : 20 + i ≠ j)]
  exact (h.2 q).2.2 i hi
theorem zy_Csg (h : zr_C T G C Q AC KS) {j v : Nat} (h8 : 8 ≠ j) (h24 : 24 ≠ j) : zr_C (zp_sg T j v) G C Q AC KS := by
  unfold zr_C at h ⊢
  rw [zp_sgn T v h8, zp_sgn T v h24]
  exact h
theorem zy_Csc {a : Nat → Nat} {C' : zz_A} (h : zr_C T G C Q AC KS) (hC : ∀ i, i < 72 → C' i = nI (a (72 * T.1 8 + i))) (ha : ∀ i, i < 72 * T.1 8 → a i = T.2.1 i) : zr_C (zp_sc T a) G C' Q AC KS := by
  obtain ⟨h1, h2, h3, h4⟩ := h
  refine ⟨hC, h2, ?_, h4⟩
  intro q i hi
  have q' : T.1 8 = 1 := q
  rw [h3 q' i hi]
  exact congrArg nI (ha i (by omega)).symm
theorem zy_empty_2 {post : SY → Prop} {f e : Nat} (he : e < 72) (hp : ∀ C', (∀ i, C' i = if f ≤ i ∧ i < e + 1 then nI 32 else C i) → post (zy_S T bg mk my C' Q AC KS NU)) :
    ∀ (d k : Nat) (C' : zz_A), k + d = e + 1 → f ≤ k → (∀ i, C' i = if f ≤ i ∧ i < k then nI 32 else C i) → ∀ n, d < n → wY_empty_2 post (nI e) (nI (T.1 0)) (nI (T.1 1)) (nI (T.1 3)) (nI (T.1 4)) (nI (T.1 5)) (nI (T.1 6)) (nI (T.1 7)) (nI (T.1 8)) (nI (T.1 2)) (nI (T.1 9)) (nI (T.1 10)) (nI (T.1 11)) (nI (T.1 12)) (nI (T.1 13)) (nI (T.1 14)) (nI (T.1 15)) (nI (T.1 24)) (nI (zy_st T)) bg mk my n (nI k) C' Q AC KS NU := by
  intro d
  induction d with
  | zero =>
    intro k C' hk hf hC n hn
    obtain ⟨m, rfl⟩ : ∃ m, n = m + 1 := ⟨n - 1, by omega⟩
    refine br_t (nI_lt (by omega) (by omega)) (hp C' ?_)
    rw [show e + 1 = k by omega]
    exact hC
  | succ d ih =>
    intro k C' hk hf hC n hn
    obtain ⟨m, rfl⟩ : ∃ m, n = m + 1 := ⟨n - 1, by omega⟩
    refine br_f (nI_nlt (by omega) (by omega)) ⟨vp_in_nI (by omega) (by decide), nm_r (e' := upd C' k (nI 32)) (by rw [nI_clamp (by omega)]; rfl) (nm_r (nI_1 k) ?_)⟩
    refine ih (k + 1) _ (by omega) (by omega) (fun i => ?_) m (by omega)
    unfold upd
    rw [hC i]
    (repeat' split) <;> first | rfl | omega
theorem zy_empty {v : SY} {post : SY → Prop} {f e : Nat} (h : zr_Y p v T G) (hf : f ≤ e + 1) (he : e < 72) (hp : ∀ v', zr_Y p v' (zp_E T f (e + 1)) G → post v') : wpY_empty post v (nI f) (nI e) := by
  obtain ⟨bg, mk, my, C, Q, AC, KS, NU, rfl, h1, h2⟩ := h
  refine ⟨e + 1 - f + 1, zy_empty_2 (C := C) (f := f) he ?_ (e + 1 - f) f C (by omega) (by omega) (fun i => (if_neg (by omega)).symm) _ (by omega)⟩
  intro C' hC
  refine hp _ (zy_mk (T := zp_E T f (e + 1)) h1 (zy_Csc h2 ?_ ?_))
  · intro i hi
    rw [hC i, h2.1 i hi]
    simp only [zp_eF]
    (repeat' split) <;> first | rfl | omega
  · intro i hi
    simp only [zp_eF]
    (repeat' split) <;> first | rfl | omega
theorem zn_12 (x c : Nat) : 12 * nI x + nI c = nI (12 * x + c) := by
  have e : nI 12 * nI x + nI c = nI (12 * x + c) := by rw [pk_mul, nI_add]
  exact e
theorem zn_12' (x : Nat) : 12 * nI x = nI (12 * x) := by
  have e : nI 12 * nI x = nI (12 * x) := by rw [pk_mul]
  exact e
theorem zy_copyRow_2 {post : SY → Prop} {f g : Nat} (hf : f < 6) (hg : g < 6) (hfg : f ≠ g) (hp : ∀ C', (∀ i, C' i = if 12 * g ≤ i ∧ i < 12 * g + 12 then C (i + 12 * f - 12 * g) else C i) → post (zy_S T bg mk my C' Q AC KS NU)) :
    ∀ (d c : Nat) (C' : zz_A), c + d = 12 → (∀ i, C' i = if 12 * g ≤ i ∧ i < 12 * g + c then C (i + 12 * f - 12 * g) else C i) → ∀ n, d < n → wY_copyRow_2 post (nI f) (nI g) (nI (T.1 0)) (nI (T.1 1)) (nI (T.1 3)) (nI (T.1 4)) (nI (T.1 5)) (nI (T.1 6)) (nI (T.1 7)) (nI (T.1 8)) (nI (T.1 2)) (nI (T.1 9)) (nI (T.1 10)) (nI (T.1 11)) (nI (T.1 12)) (nI (T.1 13)) (nI (T.1 14)) (nI (T.1 15)) (nI (T.1 24)) (nI (zy_st T)) bg mk my n (nI c) C' Q AC KS NU := by
  intro d
  induction d with
  | zero =>
    intro c C' hc hC n hn
    obtain ⟨m, rfl⟩ : ∃ m, n = m + 1 := ⟨n - 1, by omega⟩
    refine br_t (nI_le (a := 12) (by omega) (by omega)) (hp C' ?_)
    rw [show c = 12 by omega] at hC
    exact hC
  | succ d ih =>
    intro c C' hc hC n hn
    obtain ⟨m, rfl⟩ : ∃ m, n = m + 1 := ⟨n - 1, by omega⟩
    have e1 : C' (12 * f + c) = C (12 * f + c) := by
      rw [hC, if_neg (by omega)]
    refine br_f (nI_ge (b := 12) (by omega) (by decide)) ⟨?_, ?_, nm_r (e' := upd C' (12 * g + c) (C (12 * f + c))) ?_ (nm_r (nI_1 c) ?_)⟩
    · rw [zn_12]
      exact vp_in_nI (by omega) (by decide)
    · rw [zn_12]
      exact vp_in_nI (by omega) (by decide)
    · rw [zn_12, zn_12, nI_clamp (by omega), nI_clamp (by omega), e1]
    · refine ih (c + 1) _ (by omega) (fun i => ?_) m (by omega)
      unfold upd
      by_cases ci : i = 12 * g + c
      · rw [if_pos ci, if_pos (by omega)]
        exact congrArg C (by omega)
      · rw [if_neg ci, hC i]
        (repeat' split) <;> first | rfl | omega
def zp_cr (T : zz_T) (f g : Nat) : zz_T := zp_sc T (fun i => if 72 * T.1 8 + 12 * g ≤ i ∧ i < 72 * T.1 8 + 12 * g + 12 then T.2.1 (i + 12 * f - 12 * g) else T.2.1 i)
theorem zy_copyRow {v : SY} {post : SY → Prop} {f g : Nat} (h : zr_Y p v T G) (hf : f < 6) (hg : g < 6) (hfg : f ≠ g) (hp : ∀ v', zr_Y p v' (zp_cr T f g) G → post v') : wpY_copyRow post v (nI f) (nI g) := by
  obtain ⟨bg, mk, my, C, Q, AC, KS, NU, rfl, h1, h2⟩ := h
  refine ⟨13, zy_copyRow_2 (C := C) hf hg hfg ?_ 12 0 C (by decide) (fun i => (if_neg (by omega)).symm) 13 (by decide)⟩
  intro C' hC
  refine hp _ (zy_mk (T := zp_cr T f g) h1 (zy_Csc h2 ?_ ?_))
  · intro i hi
    rw [hC i]
    show _ = nI (if 72 * T.1 8 + 12 * g ≤ 72 * T.1 8 + i ∧ 72 * T.1 8 + i < 72 * T.1 8 + 12 * g + 12 then T.2.1 (72 * T.1 8 + i + 12 * f - 12 * g) else T.2.1 (72 * T.1 8 + i))
    by_cases ci : 12 * g ≤ i ∧ i < 12 * g + 12
    · rw [if_pos ci, if_pos (by omega), h2.1 _ (by omega)]
      exact congrArg (fun j => nI (T.2.1 j)) (by omega)
    · rw [if_neg ci, if_neg (by omega), h2.1 _ hi]
  · intro i hi
    exact if_neg (by omega)
theorem zy_rowsUp_2 {post : SY → Prop} {f e : Nat} (he : e < 6) (hp : ∀ v', zr_Y p v' (zp_U T (12 * f) (12 * e + 12) 12) G → post v') :
    ∀ (d r : Nat) (bg mk my : Int32) (C Q AC KS NU : zz_A), r + d = e → f ≤ r → zr_P p T bg mk my NU → zr_C (zp_sc T (zp_hF T.2.1 (72 * T.1 8 + 12 * f) (72 * T.1 8 + 12 * r) 12)) G C Q AC KS → ∀ n, d < n → wY_rowsUp_2 post (nI e) n (nI r) (nI (T.1 0)) (nI (T.1 1)) (nI (T.1 3)) (nI (T.1 4)) (nI (T.1 5)) (nI (T.1 6)) (nI (T.1 7)) (nI (T.1 8)) (nI (T.1 2)) (nI (T.1 9)) (nI (T.1 10)) (nI (T.1 11)) (nI (T.1 12)) (nI (T.1 13)) (nI (T.1 14)) (nI (T.1 15)) (nI (T.1 24)) (nI (zy_st T)) bg mk my C Q AC KS NU := by
  intro d
  induction d with
  | zero =>
    intro r bg mk my C Q AC KS NU hr hf h1 h2 n hn
    obtain ⟨m, rfl⟩ : ∃ m, n = m + 1 := ⟨n - 1, by omega⟩
    have re : r = e := by omega
    subst re
    refine br_t (nI_le (Nat.le_refl _) (by omega)) ?_
    rw [zn_12', show nI (12 * r) + 11 = nI (12 * r + 11) from nI_add (12 * r) 11]
    refine zy_empty (zy_mk (T := zp_sc T (zp_hF T.2.1 (72 * T.1 8 + 12 * f) (72 * T.1 8 + 12 * r) 12)) h1 h2) (by omega) (by omega) (zy_k ?_)
    intro bg mk my C Q AC KS NU h1 h2
    have ef : zp_E (zp_sc T (zp_hF T.2.1 (72 * T.1 8 + 12 * f) (72 * T.1 8 + 12 * r) 12)) (12 * r) (12 * r + 11 + 1) = zp_U T (12 * f) (12 * r + 12) 12 := by
      refine congrArg (zp_sc T) ?_
      funext i
      show zp_eF (zp_hF T.2.1 (72 * T.1 8 + 12 * f) (72 * T.1 8 + 12 * r) 12) (72 * T.1 8 + 12 * r) (72 * T.1 8 + (12 * r + 11 + 1)) i = _
      simp only [zp_eF, zp_hF, zp_uF]
      (repeat' split) <;> first | rfl | omega
    refine hp _ (zy_mk (T := zp_U T (12 * f) (12 * r + 12) 12) h1 ?_)
    rw [← ef]
    exact h2
  | succ d ih =>
    intro r bg mk my C Q AC KS NU hr hf h1 h2 n hn
    obtain ⟨m, rfl⟩ : ∃ m, n = m + 1 := ⟨n - 1, by omega⟩
    refine br_f (nI_ge (by omega) (by omega)) ?_
    rw [nI_1]
    refine zy_copyRow (zy_mk (T := zp_sc T (zp_hF T.2.1 (72 * T.1 8 + 12 * f) (72 * T.1 8 + 12 * r) 12)) h1 h2) (by omega) (by omega) (by omega) (zy_k ?_)
    intro bg mk my C Q AC KS NU h1 h2
    refine nm_e (ih (r + 1) bg mk my C Q AC KS NU (by omega) (by omega) h1 ?_ m (by omega))
    have ef : zp_cr (zp_sc T (zp_hF T.2.1 (72 * T.1 8 + 12 * f) (72 * T.1 8 + 12 * r) 12)) (r + 1) r = zp_sc T (zp_hF T.2.1 (72 * T.1 8 + 12 * f) (72 * T.1 8 + 12 * (r + 1)) 12) := by
      refine congrArg (zp_sc T) ?_
      funext i
      show (if 72 * T.1 8 + 12 * r ≤ i ∧ i < 72 * T.1 8 + 12 * r + 12 then zp_hF T.2.1 (72 * T.1 8 + 12 * f) (72 * T.1 8 + 12 * r) 12 (i + 12 * (r + 1) - 12 * r) else zp_hF T.2.1 (72 * T.1 8 + 12 * f) (72 * T.1 8 + 12 * r) 12 i) = _
      simp only [zp_hF]
      (repeat' split) <;> first | rfl | omega | exact congrArg T.2.1 (by omega)
    rw [← ef]
    exact h2
theorem zy_rowsUp {v : SY} {post : SY → Prop} {f e : Nat} (h : zr_Y p v T G) (hf : f ≤ e) (he : e < 6) (hp : ∀ v', zr_Y p v' (zp_U T (12 * f) (12 * e + 12) 12) G → post v') : wpY_rowsUp post v (nI f) (nI e) := by
  obtain ⟨bg, mk, my, C, Q, AC, KS, NU, rfl, h1, h2⟩ := h
  refine ⟨e - f + 1, zy_rowsUp_2 he hp (e - f) f bg mk my C Q AC KS NU (by omega) (by omega) h1 ?_ _ (by omega)⟩
  have ef : zp_hF T.2.1 (72 * T.1 8 + 12 * f) (72 * T.1 8 + 12 * f) 12 = T.2.1 := by
    funext i
    simp only [zp_hF]
    (repeat' split) <;> first | rfl | omega
  rw [ef]
  exact h2
theorem zy_rowsDown_2 {post : SY → Prop} {f e : Nat} (he : e < 6) (hp : ∀ v', zr_Y p v' (zp_D T (12 * f) (12 * e + 12) 12) G → post v') :
    ∀ (d r : Nat) (bg mk my : Int32) (C Q AC KS NU : zz_A), r = f + d → r ≤ e → zr_P p T bg mk my NU → zr_C (zp_sc T (zp_kF T.2.1 (72 * T.1 8 + 12 * r + 12) (72 * T.1 8 + 12 * e + 12) 12)) G C Q AC KS → ∀ n, d < n → wY_rowsDown_2 post (nI f) n (nI r) (nI (T.1 0)) (nI (T.1 1)) (nI (T.1 3)) (nI (T.1 4)) (nI (T.1 5)) (nI (T.1 6)) (nI (T.1 7)) (nI (T.1 8)) (nI (T.1 2)) (nI (T.1 9)) (nI (T.1 10)) (nI (T.1 11)) (nI (T.1 12)) (nI (T.1 13)) (nI (T.1 14)) (nI (T.1 15)) (nI (T.1 24)) (nI (zy_st T)) bg mk my C Q AC KS NU := by
  intro d
  induction d with
  | zero =>
    intro r bg mk my C Q AC KS NU hr hf h1 h2 n hn
    obtain ⟨m, rfl⟩ : ∃ m, n = m + 1 := ⟨n - 1, by omega⟩
    have re : r = f := by omega
    subst re
    refine br_t (nI_le (Nat.le_refl _) (by omega)) ?_
    rw [zn_12', show nI (12 * r) + 11 = nI (12 * r + 11) from nI_add (12 * r) 11]
    refine zy_empty (zy_mk (T := zp_sc T (zp_kF T.2.1 (72 * T.1 8 + 12 * r + 12) (72 * T.1 8 + 12 * e + 12) 12)) h1 h2) (by omega) (by omega) (zy_k ?_)
    intro bg mk my C Q AC KS NU h1 h2
    have ef : zp_E (zp_sc T (zp_kF T.2.1 (72 * T.1 8 + 12 * r + 12) (72 * T.1 8 + 12 * e + 12) 12)) (12 * r) (12 * r + 11 + 1) = zp_D T (12 * r) (12 * e + 12) 12 := by
      refine congrArg (zp_sc T) ?_
      funext i
      show zp_eF (zp_kF T.2.1 (72 * T.1 8 + 12 * r + 12) (72 * T.1 8 + 12 * e + 12) 12) (72 * T.1 8 + 12 * r) (72 * T.1 8 + (12 * r + 11 + 1)) i = _
      simp only [zp_eF, zp_kF, zp_dF]
      (repeat' split) <;> first | rfl | omega
    refine hp _ (zy_mk (T := zp_D T (12 * r) (12 * e + 12) 12) h1 ?_)
    rw [← ef]
    exact h2
  | succ d ih =>
    intro r bg mk my C Q AC KS NU hr hf h1 h2 n hn
    obtain ⟨m, rfl⟩ : ∃ m, n = m + 1 := ⟨n - 1, by omega⟩
    refine br_f (nI_ge (by omega) (by omega)) ?_
    rw [show nI r - 1 = nI (r - 1) from pk_sub (b := 1) (by omega)]
    have e2 : nI r + (-1) = nI (r - 1) := by
      rw [show r = (r - 1) + 1 by omega, pk_m1]
      rfl
    refine zy_copyRow (zy_mk (T := zp_sc T (zp_kF T.2.1 (72 * T.1 8 + 12 * r + 12) (72 * T.1 8 + 12 * e + 12) 12)) h1 h2) (by omega) (by omega) (by omega) (zy_k ?_)
    intro bg mk my C Q AC KS NU h1 h2
    refine nm_r e2 (ih (r - 1) bg mk my C Q AC KS NU (by omega) (by omega) h1 ?_ m (by omega))
    have ef : zp_cr (zp_sc T (zp_kF T.2.1 (72 * T.1 8 + 12 * r + 12) (72 * T.1 8 + 12 * e + 12) 12)) (r - 1) r = zp_sc T (zp_kF T.2.1 (72 * T.1 8 + 12 * (r - 1) + 12) (72 * T.1 8 + 12 * e + 12) 12) := by
      refine congrArg (zp_sc T) ?_
      funext i
      show (if 72 * T.1 8 + 12 * r ≤ i ∧ i < 72 * T.1 8 + 12 * r + 12 then zp_kF T.2.1 (72 * T.1 8 + 12 * r + 12) (72 * T.1 8 + 12 * e + 12) 12 (i + 12 * (r - 1) - 12 * r) else zp_kF T.2.1 (72 * T.1 8 + 12 * r + 12) (72 * T.1 8 + 12 * e + 12) 12 i) = _
      simp only [zp_kF]
      (repeat' split) <;> first | rfl | omega | exact congrArg T.2.1 (by omega)
    rw [← ef]
    exact h2
theorem zy_rowsDown {v : SY} {post : SY → Prop} {f e : Nat} (h : zr_Y p v T G) (hf : f ≤ e) (he : e < 6) (hp : ∀ v', zr_Y p v' (zp_D T (12 * f) (12 * e + 12) 12) G → post v') : wpY_rowsDown post v (nI f) (nI e) := by
  obtain ⟨bg, mk, my, C, Q, AC, KS, NU, rfl, h1, h2⟩ := h
  refine ⟨e - f + 1, zy_rowsDown_2 (f := f) he hp (e - f) e bg mk my C Q AC KS NU (by omega) (by omega) h1 ?_ _ (by omega)⟩
  have ef : zp_kF T.2.1 (72 * T.1 8 + 12 * e + 12) (72 * T.1 8 + 12 * e + 12) 12 = T.2.1 := by
    funext i
    simp only [zp_kF]
    (repeat' split) <;> first | rfl | omega
  rw [ef]
  exact h2
end
end
section
/-! the reference: scrolling, signs, plain bytes -/
section
variable {p : Prop} {T : zz_T} {G : Nat → Nat} {bg mk my : Int32} {C Q AC KS NU : zz_A}
theorem zy_Pkeep (h : zr_P p T bg mk my NU) : zr_P p (zp_keep T) bg mk my NU := by
  unfold zr_P at h ⊢
  rw [zp_kpn T (by decide : 16 ≠ 24), zp_kpn T (by decide : 17 ≠ 24), zp_kpn T (by decide : 18 ≠ 24)]
  refine ⟨h.1, fun q => ⟨(h.2 q).1, (h.2 q).2.1, fun i hi => ?_⟩⟩
  rw [zp_kpn T (by omega : 20 + i ≠ 24)]
  exact (h.2 q).2.2 i hi
theorem zy_keepRow_32 {post : SY → Prop} (hp : ∀ KS', (∀ i, KS' i = if i < 12 then C i - C i / 128 * 128 else KS i) → (8 ≤ nI (T.1 24) → post (nI (T.1 0), nI (T.1 1), nI (T.1 3), nI (T.1 4), nI (T.1 5), nI (T.1 6), nI (T.1 7), nI (T.1 8), nI (T.1 2), nI (T.1 9), nI (T.1 10), nI (T.1 11), nI (T.1 12), nI (T.1 13), nI (T.1 14), nI (T.1 15), 8, nI (zy_st T), bg, mk, my, C, Q, AC, KS', NU)) ∧ (¬ 8 ≤ nI (T.1 24) → post (nI (T.1 0), nI (T.1 1), nI (T.1 3), nI (T.1 4), nI (T.1 5), nI (T.1 6), nI (T.1 7), nI (T.1 8), nI (T.1 2), nI (T.1 9), nI (T.1 10), nI (T.1 11), nI (T.1 12), nI (T.1 13), nI (T.1 14), nI (T.1 15), nI (T.1 24) + 1, nI (zy_st T), bg, mk, my, C, Q, AC, KS', NU))) :
    ∀ (d c : Nat) (KS' : zz_A), c + d = 12 → (∀ i, KS' i = if i < c then C i - C i / 128 * 128 else KS i) → ∀ n, d < n → wY_keepRow_32 post (nI 0) (nI (T.1 0)) (nI (T.1 1)) (nI (T.1 3)) (nI (T.1 4)) (nI (T.1 5)) (nI (T.1 6)) (nI (T.1 7)) (nI (T.1 8)) (nI (T.1 2)) (nI (T.1 9)) (nI (T.1 10)) (nI (T.1 11)) (nI (T.1 12)) (nI (T.1 13)) (nI (T.1 14)) (nI (T.1 15)) (nI (T.1 24)) (nI (zy_st T)) bg mk my n (nI c) C Q AC KS' NU := by
  intro d
  induction d with
  | zero =>
    intro c KS' hc hK n hn
    obtain ⟨m, rfl⟩ : ∃ m, n = m + 1 := ⟨n - 1, by omega⟩
    rw [show c = 12 by omega] at hK
    obtain ⟨p1, p2⟩ := hp KS' hK
    exact br_t (nI_le (a := 12) (by omega) (by omega)) ⟨p1, fun q => nm_e (p2 q)⟩
  | succ d ih =>
    intro c KS' hc hK n hn
    obtain ⟨m, rfl⟩ : ∃ m, n = m + 1 := ⟨n - 1, by omega⟩
    refine br_f (nI_ge (b := 12) (by omega) (by decide)) ⟨?_, by decide, vp_in_nI (by omega) (by decide), nm_r (e' := upd KS' c (C c - C c / 128 * 128)) ?_ (nm_r (nI_1 c) ?_)⟩
    · rw [zn_12]
      exact vp_in_nI (by omega) (by decide)
    · rw [zn_12, nI_clamp (by omega), nI_clamp (by omega), show 12 * 0 + c = c by omega]
    · refine ih (c + 1) _ (by omega) (fun i => ?_) m (by omega)
      unfold upd
      by_cases ci : i = c
      · rw [if_pos ci, if_pos (by omega), ci]
      · rw [if_neg ci, hK i]
        (repeat' split) <;> first | rfl | omega
theorem zy_keepRow_3 {post : SY → Prop} (hp : ∀ KS', (∀ i, KS' i = if 11 < i ∧ i ≤ 95 then KS (i - 12) else KS i) → ∃ n, wY_keepRow_32 post (nI 0) (nI (T.1 0)) (nI (T.1 1)) (nI (T.1 3)) (nI (T.1 4)) (nI (T.1 5)) (nI (T.1 6)) (nI (T.1 7)) (nI (T.1 8)) (nI (T.1 2)) (nI (T.1 9)) (nI (T.1 10)) (nI (T.1 11)) (nI (T.1 12)) (nI (T.1 13)) (nI (T.1 14)) (nI (T.1 15)) (nI (T.1 24)) (nI (zy_st T)) bg mk my n (nI 0) C Q AC KS' NU) :
    ∀ (d k : Nat) (KS' : zz_A), k = 11 + d → k ≤ 95 → (∀ i, KS' i = if k < i ∧ i ≤ 95 then KS (i - 12) else KS i) → ∀ n, d < n → wY_keepRow_3 post (nI 0) (nI (T.1 0)) (nI (T.1 1)) (nI (T.1 3)) (nI (T.1 4)) (nI (T.1 5)) (nI (T.1 6)) (nI (T.1 7)) (nI (T.1 8)) (nI (T.1 2)) (nI (T.1 9)) (nI (T.1 10)) (nI (T.1 11)) (nI (T.1 12)) (nI (T.1 13)) (nI (T.1 14)) (nI (T.1 15)) (nI (T.1 24)) (nI (zy_st T)) bg mk my n (nI k) C Q AC KS' NU := by
  intro d
  induction d with
  | zero =>
    intro k KS' hk hk1 hK n hn
    obtain ⟨m, rfl⟩ : ∃ m, n = m + 1 := ⟨n - 1, by omega⟩
    rw [show k = 11 by omega] at hK
    exact br_t (nI_lt (b := 12) (by omega) (by decide)) (hp KS' hK)
  | succ d ih =>
    intro k KS' hk hk1 hK n hn
    obtain ⟨m, rfl⟩ : ∃ m, n = m + 1 := ⟨n - 1, by omega⟩
    have e1 : nI k - 12 = nI (k - 12) := pk_sub (b := 12) (by omega)
    have e2 : nI k + (-1) = nI (k - 1) := by
      rw [show k = (k - 1) + 1 by omega, pk_m1]
      rfl
    have e3 : KS' (k - 12) = KS (k - 12) := by
      rw [hK, if_neg (by omega)]
    refine br_f (nI_nlt (b := 12) (by omega) (by omega)) ⟨?_, vp_in_nI (by omega) (by decide), nm_r (e' := upd KS' k (KS (k - 12))) ?_ (nm_r e2 ?_)⟩
    · rw [e1]
      exact vp_in_nI (by omega) (by decide)
    · rw [e1, nI_clamp (by omega), nI_clamp (by omega), e3]
    · refine ih (k - 1) _ (by omega) (by omega) (fun i => ?_) m (by omega)
      unfold upd
      by_cases ci : i = k
      · rw [if_pos ci, if_pos (by omega), ci]
      · rw [if_neg ci, hK i]
        (repeat' split) <;> first | rfl | omega
theorem zy_keepRow {v : SY} {post : SY → Prop} (h : zr_Y p v T G) (hok : zp_ok T) (ho : T.1 8 = 0) (hp : ∀ v', zr_Y p v' (zp_keep T) G → post v') : wpY_keepRow post v (nI 0) := by
  obtain ⟨bg, mk, my, C, Q, AC, KS, NU, rfl, h1, h2⟩ := h
  have b24 := zp_b24 hok
  refine ⟨85, zy_keepRow_3 (KS := KS) ?_ 84 95 KS (by decide) (by decide) (fun i => (if_neg (by omega)).symm) 85 (by decide)⟩
  intro KS1 hK1
  refine ⟨13, zy_keepRow_32 (KS := KS1) ?_ 12 0 KS1 (by decide) (fun i => (if_neg (by omega)).symm) 13 (by decide)⟩
  intro KS' hK'
  have e24 : (zp_keep T).1 24 = if T.1 24 < 8 then T.1 24 + 1 else 8 := rfl
  have key : zr_C (zp_keep T) G C Q AC KS' := by
    refine ⟨h2.1, h2.2.1, h2.2.2.1, ?_⟩
    intro j hj hl
    rw [hK' j, hK1 j]
    show _ = nI (if j < 12 then T.2.1 j % 128 else T.2.2 (j - 12))
    by_cases c : j < 12
    · have e := h2.1 j (by omega)
      rw [ho, show 72 * 0 + j = j by omega] at e
      have hb := (zp_bc hok j (by omega)).2.2
      rw [if_pos c, if_pos c, e]
      exact pk_rem (d := 128) (by omega) (by decide) (by decide)
    · rw [if_neg c, if_neg c, if_pos (by omega)]
      rw [e24] at hl
      exact h2.2.2.2 (j - 12) (by omega) (by split at hl <;> omega)
  by_cases c8 : T.1 24 < 8
  · refine br_f (nI_ge (b := 8) c8 (by decide)) ?_
    rw [nI_1, show T.1 24 + 1 = (zp_keep T).1 24 by rw [e24, if_pos c8]]
    exact hp _ (zy_mk (T := zp_keep T) (zy_Pkeep h1) key)
  · refine br_t (nI_le (a := 8) (by omega) (by omega)) ?_
    rw [show (8 : Int32) = nI ((zp_keep T).1 24) by rw [e24, if_neg c8]; rfl]
    exact hp _ (zy_mk (T := zp_keep T) (zy_Pkeep h1) key)
theorem zy_scrollUp {v : SY} {post : SY → Prop} (h : zr_Y p v T G) (hok : zp_ok T) (hp : ∀ v', zr_Y p v' (zp_S1 T) G → post v') : wpY_scrollUp post v := by
  obtain ⟨bg, mk, my, C, Q, AC, KS, NU, rfl, h1, h2⟩ := h
  have b8 := zp_b8 hok
  have b4 := zp_b4 hok
  have b5 := zp_b5 hok
  have btb := zp_btb hok
  unfold zp_S1 at hp
  have key : ∀ bg mk my C Q AC KS NU, zr_P p (zp_K1 T) bg mk my NU → zr_C (zp_K1 T) G C Q AC KS → wY_scrollUp_19 post (nI ((zp_K1 T).1 0)) (nI ((zp_K1 T).1 1)) (nI ((zp_K1 T).1 3)) (nI ((zp_K1 T).1 4)) (nI ((zp_K1 T).1 5)) (nI ((zp_K1 T).1 6)) (nI ((zp_K1 T).1 7)) (nI ((zp_K1 T).1 8)) (nI ((zp_K1 T).1 2)) (nI ((zp_K1 T).1 9)) (nI ((zp_K1 T).1 10)) (nI ((zp_K1 T).1 11)) (nI ((zp_K1 T).1 12)) (nI ((zp_K1 T).1 13)) (nI ((zp_K1 T).1 14)) (nI ((zp_K1 T).1 15)) (nI ((zp_K1 T).1 24)) (nI (zy_st (zp_K1 T))) bg mk my C Q AC KS NU := by
    intro bg mk my C Q AC KS NU h1 h2
    have e4 := zp_K1_r T (by decide : 4 ≠ 24)
    have e5 := zp_K1_r T (by decide : 5 ≠ 24)
    have hh := zy_mk h1 h2
    unfold wY_scrollUp_19
    refine zy_rowsUp hh (by omega) (by omega) ?_
    rw [e4, e5]
    refine zy_k ?_
    intro bg mk my C Q AC KS NU h1 h2
    exact hp _ (zy_mk h1 h2)
  refine pk_eq (T.1 8) 0 (fun c8 => ?_) (fun c8 => ?_)
  · refine pk_eq (T.1 4) 0 (fun c4 => ?_) (fun c4 => ?_)
    · rw [show zp_K1 T = zp_keep T by rw [zp_K1, if_pos c8, if_pos c4]] at key
      refine zy_keepRow (zy_mk h1 h2) hok c8 (zy_k ?_)
      intro bg mk my C Q AC KS NU h1 h2
      exact key bg mk my C Q AC KS NU h1 h2
    · rw [show zp_K1 T = T by rw [zp_K1, if_pos c8, if_neg c4]] at key
      exact key bg mk my C Q AC KS NU h1 h2
  · rw [show zp_K1 T = T by rw [zp_K1, if_neg c8]] at key
    exact key bg mk my C Q AC KS NU h1 h2
theorem zy_lineFeed {v : SY} {post : SY → Prop} (h : zr_Y p v T G) (hok : zp_ok T) (hp : ∀ v', zr_Y p v' (zp_LF T) G → post v') : wpY_lineFeed post v := by
  obtain ⟨bg, mk, my, C, Q, AC, KS, NU, rfl, h1, h2⟩ := h
  have b0 := zp_b0 hok
  have b5 := zp_b5 hok
  unfold zp_LF at hp
  refine pk_eq (T.1 0) (T.1 5) (fun c => ?_) (fun c => ?_)
  · rw [if_pos c] at hp
    refine zy_scrollUp (zy_mk h1 h2) hok (zy_k ?_)
    intro bg mk my C Q AC KS NU h1 h2
    exact hp _ (zy_mk h1 h2)
  rw [if_neg c] at hp
  refine pk_le 5 (T.1 0) (fun c => ?_) (fun c => ?_)
  · rw [if_pos c] at hp
    exact hp _ (zy_mk h1 h2)
  · rw [if_neg (by omega)] at hp
    exact nm_r (nI_1 (T.1 0)) (hp _ (zy_mk (T := zp_sg T 0 (T.1 0 + 1)) (zy_Psg (j := 0) h1 (by decide)) (zy_Csg (j := 0) h2 (by decide) (by decide))))
theorem zy_putIn_16 {post : SY → Prop} {J : Int32 → zz_A → zz_A → zz_A → zz_A → zz_A → Prop} {x1 : Int32} {k : Nat} (b0 : T.1 0 < 6) (b1 : T.1 1 < 12)
    (hp : ∀ C', (∀ i, C' i = if 12 * T.1 0 + T.1 1 ≤ i ∧ i < 12 * T.1 0 + 12 then (if 12 * T.1 0 + T.1 1 + 1 ≤ i then C (i - 1) else nI 32) else C i) → J (nI (k + 1)) C' Q AC KS NU) :
    ∀ (d x : Nat) (C' : zz_A), x = T.1 1 + d → x ≤ 11 → (∀ i, C' i = if 12 * T.1 0 + x < i ∧ i < 12 * T.1 0 + 12 then C (i - 1) else C i) → ∀ n, d < n → wY_putIn_16 post J x1 (nI k) (nI (T.1 0)) (nI (T.1 1)) (nI (T.1 3)) (nI (T.1 4)) (nI (T.1 5)) (nI (T.1 6)) (nI (T.1 7)) (nI (T.1 8)) (nI (T.1 2)) (nI (T.1 9)) (nI (T.1 10)) (nI (T.1 11)) (nI (T.1 12)) (nI (T.1 13)) (nI (T.1 14)) (nI (T.1 15)) (nI (T.1 24)) (nI (zy_st T)) bg mk my n (nI x) C' Q AC KS NU := by
  intro d
  induction d with
  | zero =>
    intro x C' hx hx1 hC n hn
    obtain ⟨m, rfl⟩ : ∃ m, n = m + 1 := ⟨n - 1, by omega⟩
    refine br_t (nI_le (by omega) (by omega)) ⟨?_, nm_r (e' := upd C' (12 * T.1 0 + T.1 1) (nI 32)) ?_ (nm_r (nI_1 k) (hp _ (fun i => ?_)))⟩
    · rw [zn_12]
      exact vp_in_nI (by omega) (by decide)
    · rw [zn_12, nI_clamp (by omega)]
      rfl
    · unfold upd
      rw [hC i]
      (repeat' split) <;> first | rfl | omega
  | succ d ih =>
    intro x C' hx hx1 hC n hn
    obtain ⟨m, rfl⟩ : ∃ m, n = m + 1 := ⟨n - 1, by omega⟩
    have e1 : 12 * nI (T.1 0) + nI x - 1 = nI (12 * T.1 0 + x - 1) := by
      rw [zn_12]
      exact pk_sub (b := 1) (by omega)
    have e2 : nI x + (-1) = nI (x - 1) := by
      rw [show x = (x - 1) + 1 by omega, pk_m1]
      rfl
    have e3 : C' (12 * T.1 0 + x - 1) = C (12 * T.1 0 + x - 1) := by
      rw [hC, if_neg (by omega)]
    refine br_f (nI_ge (by omega) (by omega)) ⟨?_, ?_, nm_r (e' := upd C' (12 * T.1 0 + x) (C (12 * T.1 0 + x - 1))) ?_ (nm_r e2 ?_)⟩
    · rw [e1]
      exact vp_in_nI (by omega) (by decide)
    · rw [zn_12]
      exact vp_in_nI (by omega) (by decide)
    · rw [e1, zn_12, nI_clamp (by omega), nI_clamp (by omega), e3]
    · refine ih (x - 1) _ (by omega) (by omega) (fun i => ?_) m (by omega)
      unfold upd
      by_cases ci : i = 12 * T.1 0 + x
      · rw [if_pos ci, if_pos (by omega), ci]
      · rw [if_neg ci, hC i]
        (repeat' split) <;> first | rfl | omega
theorem zy_putIn_2 {post : SY → Prop} {n0 : Nat} (hn0 : n0 < 1000) (b0 : T.1 0 < 6) (b1 : T.1 1 < 12) (h1 : zr_P p T bg mk my NU) (hp : ∀ v', zr_Y p v' (zp_D T (12 * T.1 0 + T.1 1) (12 * T.1 0 + 12) n0) G → post v') :
    ∀ (d k : Nat) (C : zz_A), k + d = zp_mn n0 12 → zr_C (zp_D T (12 * T.1 0 + T.1 1) (12 * T.1 0 + 12) k) G C Q AC KS → ∀ n, d < n → wY_putIn_2 post (nI n0) (nI (T.1 0)) (nI (T.1 1)) (nI (T.1 3)) (nI (T.1 4)) (nI (T.1 5)) (nI (T.1 6)) (nI (T.1 7)) (nI (T.1 8)) (nI (T.1 2)) (nI (T.1 9)) (nI (T.1 10)) (nI (T.1 11)) (nI (T.1 12)) (nI (T.1 13)) (nI (T.1 14)) (nI (T.1 15)) (nI (T.1 24)) (nI (zy_st T)) bg mk my n (nI k) C Q AC KS NU := by
  intro d
  induction d with
  | zero =>
    intro k C hk h2 n hn
    obtain ⟨m, rfl⟩ : ∃ m, n = m + 1 := ⟨n - 1, by omega⟩
    unfold zp_mn at hk
    have hv : zr_Y p (zy_S T bg mk my C Q AC KS NU) (zp_D T (12 * T.1 0 + T.1 1) (12 * T.1 0 + 12) n0) G := by
      by_cases c : k = n0
      · rw [← c]
        exact zy_mk (T := zp_D T (12 * T.1 0 + T.1 1) (12 * T.1 0 + 12) k) h1 h2
      · rw [zp_D_big T (m := n0) (k := k) (by split at hk <;> omega) (by split at hk <;> omega)]
        exact zy_mk (T := zp_D T (12 * T.1 0 + T.1 1) (12 * T.1 0 + 12) k) h1 h2
    refine pk_le n0 k (fun c => hp _ hv) (fun c => ?_) rfl rfl (by omega) (by split at hk <;> omega)
    exact br_t (nI_le (a := 12) (by split at hk <;> omega) (by split at hk <;> omega)) (hp _ hv)
  | succ d ih =>
    intro k C hk h2 n hn
    obtain ⟨m, rfl⟩ : ∃ m, n = m + 1 := ⟨n - 1, by omega⟩
    have k1 : k < n0 := by
      unfold zp_mn at hk
      split at hk <;> omega
    have k2 : k < 12 := by
      unfold zp_mn at hk
      split at hk <;> omega
    refine br_f (nI_ge k1 (by omega)) (br_f (nI_ge (b := 12) k2 (by decide)) ⟨13, ?_⟩)
    refine zy_putIn_16 (C := C) b0 b1 ?_ (11 - T.1 1) 11 C (by omega) (by omega) (fun i => (if_neg (by omega)).symm) 13 (by omega)
    intro C' hC'
    refine ih (k + 1) C' (by omega) ?_ m (by omega)
    rw [← zp_D_add]
    refine zy_Csc h2 ?_ ?_
    · intro i hi
      rw [hC' i]
      show _ = nI (zp_dF _ (72 * T.1 8 + (12 * T.1 0 + T.1 1)) (72 * T.1 8 + (12 * T.1 0 + 12)) 1 (72 * T.1 8 + i))
      have q1 := h2.1 i hi
      have q2 := h2.1 (i - 1) (by omega)
      have q3 : (zp_D T (12 * T.1 0 + T.1 1) (12 * T.1 0 + 12) k).1 8 = T.1 8 := rfl
      rw [q3] at q1 q2
      generalize (zp_D T (12 * T.1 0 + T.1 1) (12 * T.1 0 + 12) k).2.1 = a at *
      simp only [zp_dF]
      by_cases c1 : 12 * T.1 0 + T.1 1 ≤ i ∧ i < 12 * T.1 0 + 12
      · by_cases c2 : 12 * T.1 0 + T.1 1 + 1 ≤ i
        · rw [if_pos c1, if_pos c2, q2, if_pos (by omega), if_pos (by omega)]
          exact congrArg (fun j => nI (a j)) (by omega)
        · rw [if_pos c1, if_neg c2, if_pos (by omega), if_neg (by omega)]
      · rw [if_neg c1, if_neg (by omega), q1]
    · intro i hi
      show zp_dF _ (72 * T.1 8 + (12 * T.1 0 + T.1 1)) (72 * T.1 8 + (12 * T.1 0 + 12)) 1 i = _
      have hi' : i < 72 * T.1 8 := hi
      unfold zp_dF
      rw [if_neg (by omega)]
theorem zy_putIn {v : SY} {post : SY → Prop} {n0 : Nat} (h : zr_Y p v T G) (hn0 : n0 < 1000) (b0 : T.1 0 < 6) (b1 : T.1 1 < 12) (hp : ∀ v', zr_Y p v' (zp_D T (12 * T.1 0 + T.1 1) (12 * T.1 0 + 12) n0) G → post v') : wpY_putIn post v (nI n0) := by
  obtain ⟨bg, mk, my, C, Q, AC, KS, NU, rfl, h1, h2⟩ := h
  refine ⟨_, zy_putIn_2 hn0 b0 b1 h1 hp (zp_mn n0 12) 0 C (by omega) ?_ _ (Nat.lt_succ_self _)⟩
  rw [zp_D_0]
  exact h2
theorem zy_takeOut_18 {post : SY → Prop} {J : Int32 → zz_A → zz_A → zz_A → zz_A → zz_A → Prop} {x1 : Int32} {k : Nat} (b0 : T.1 0 < 6) (b1 : T.1 1 < 12)
    (hp : ∀ C', (∀ i, C' i = if 12 * T.1 0 + T.1 1 ≤ i ∧ i < 12 * T.1 0 + 12 then (if i + 1 < 12 * T.1 0 + 12 then C (i + 1) else nI 32) else C i) → J (nI (k + 1)) C' Q AC KS NU) :
    ∀ (d x : Nat) (C' : zz_A), x + d = 11 → T.1 1 ≤ x → (∀ i, C' i = if 12 * T.1 0 + T.1 1 ≤ i ∧ i < 12 * T.1 0 + x then C (i + 1) else C i) → ∀ n, d < n → wY_takeOut_18 post J x1 (nI k) (nI (T.1 0)) (nI (T.1 1)) (nI (T.1 3)) (nI (T.1 4)) (nI (T.1 5)) (nI (T.1 6)) (nI (T.1 7)) (nI (T.1 8)) (nI (T.1 2)) (nI (T.1 9)) (nI (T.1 10)) (nI (T.1 11)) (nI (T.1 12)) (nI (T.1 13)) (nI (T.1 14)) (nI (T.1 15)) (nI (T.1 24)) (nI (zy_st T)) bg mk my n (nI x) C' Q AC KS NU := by
  intro d
  induction d with
  | zero =>
    intro x C' hx hx1 hC n hn
    obtain ⟨m, rfl⟩ : ∃ m, n = m + 1 := ⟨n - 1, by omega⟩
    have e11 : 12 * nI (T.1 0) + 11 = nI (12 * T.1 0 + 11) := zn_12 (T.1 0) 11
    refine br_t (nI_le (a := 11) (by omega) (by omega)) ⟨?_, nm_r (e' := upd C' (12 * T.1 0 + 11) (nI 32)) ?_ (nm_r (nI_1 k) (hp _ (fun i => ?_)))⟩
    · rw [e11]
      exact vp_in_nI (by omega) (by decide)
    · rw [e11, nI_clamp (by omega)]
      rfl
    · unfold upd
      rw [hC i]
      (repeat' split) <;> first | rfl | omega
  | succ d ih =>
    intro x C' hx hx1 hC n hn
    obtain ⟨m, rfl⟩ : ∃ m, n = m + 1 := ⟨n - 1, by omega⟩
    have e1 : 12 * nI (T.1 0) + nI x + 1 = nI (12 * T.1 0 + x + 1) := by
      rw [zn_12, nI_1]
    have e3 : C' (12 * T.1 0 + x + 1) = C (12 * T.1 0 + x + 1) := by
      rw [hC, if_neg (by omega)]
    refine br_f (nI_ge (b := 11) (by omega) (by decide)) ⟨?_, ?_, nm_r (e' := upd C' (12 * T.1 0 + x) (C (12 * T.1 0 + x + 1))) ?_ (nm_r (nI_1 x) ?_)⟩
    · rw [e1]
      exact vp_in_nI (by omega) (by decide)
    · rw [zn_12]
      exact vp_in_nI (by omega) (by decide)
    · rw [e1, zn_12, nI_clamp (by omega), nI_clamp (by omega), e3]
    · refine ih (x + 1) _ (by omega) (by omega) (fun i => ?_) m (by omega)
      unfold upd
      by_cases ci : i = 12 * T.1 0 + x
      · rw [if_pos ci, if_pos (by omega), ci]
      · rw [if_neg ci, hC i]
        (repeat' split) <;> first | rfl | omega
theorem zy_takeOut_2 {post : SY → Prop} {n0 : Nat} (hn0 : n0 < 1000) (b0 : T.1 0 < 6) (b1 : T.1 1 < 12) (h1 : zr_P p T bg mk my NU) (hp : ∀ v', zr_Y p v' (zp_U T (12 * T.1 0 + T.1 1) (12 * T.1 0 + 12) n0) G → post v') :
    ∀ (d k : Nat) (C : zz_A), k + d = zp_mn n0 12 → zr_C (zp_U T (12 * T.1 0 + T.1 1) (12 * T.1 0 + 12) k) G C Q AC KS → ∀ n, d < n → wY_takeOut_2 post (nI n0) (nI (T.1 0)) (nI (T.1 1)) (nI (T.1 3)) (nI (T.1 4)) (nI (T.1 5)) (nI (T.1 6)) (nI (T.1 7)) (nI (T.1 8)) (nI (T.1 2)) (nI (T.1 9)) (nI (T.1 10)) (nI (T.1 11)) (nI (T.1 12)) (nI (T.1 13)) (nI (T.1 14)) (nI (T.1 15)) (nI (T.1 24)) (nI (zy_st T)) bg mk my n (nI k) C Q AC KS NU := by
  intro d
  induction d with
  | zero =>
    intro k C hk h2 n hn
    obtain ⟨m, rfl⟩ : ∃ m, n = m + 1 := ⟨n - 1, by omega⟩
    unfold zp_mn at hk
    have hv : zr_Y p (zy_S T bg mk my C Q AC KS NU) (zp_U T (12 * T.1 0 + T.1 1) (12 * T.1 0 + 12) n0) G := by
      by_cases c : k = n0
      · rw [← c]
        exact zy_mk (T := zp_U T (12 * T.1 0 + T.1 1) (12 * T.1 0 + 12) k) h1 h2
      · rw [zp_U_big T (m := n0) (k := k) (by split at hk <;> omega) (by split at hk <;> omega)]
        exact zy_mk (T := zp_U T (12 * T.1 0 + T.1 1) (12 * T.1 0 + 12) k) h1 h2
    refine pk_le n0 k (fun c => hp _ hv) (fun c => ?_) rfl rfl (by omega) (by split at hk <;> omega)
    exact br_t (nI_le (a := 12) (by split at hk <;> omega) (by split at hk <;> omega)) (hp _ hv)
  | succ d ih =>
    intro k C hk h2 n hn
    obtain ⟨m, rfl⟩ : ∃ m, n = m + 1 := ⟨n - 1, by omega⟩
    have k1 : k < n0 := by
      unfold zp_mn at hk
      split at hk <;> omega
    have k2 : k < 12 := by
      unfold zp_mn at hk
      split at hk <;> omega
    refine br_f (nI_ge k1 (by omega)) (br_f (nI_ge (b := 12) k2 (by decide)) ⟨13, ?_⟩)
    refine zy_takeOut_18 (C := C) b0 b1 ?_ (11 - T.1 1) (T.1 1) C (by omega) (by omega) (fun i => (if_neg (by omega)).symm) 13 (by omega)
    intro C' hC'
    refine ih (k + 1) C' (by omega) ?_ m (by omega)
    rw [← zp_U_add]
    refine zy_Csc h2 ?_ ?_
    · intro i hi
      rw [hC' i]
      show _ = nI (zp_uF _ (72 * T.1 8 + (12 * T.1 0 + T.1 1)) (72 * T.1 8 + (12 * T.1 0 + 12)) 1 (72 * T.1 8 + i))
      have q1 := h2.1 i hi
      have q2 := h2.1 (i + 1)
      have q3 : (zp_U T (12 * T.1 0 + T.1 1) (12 * T.1 0 + 12) k).1 8 = T.1 8 := rfl
      rw [q3] at q1 q2
      generalize (zp_U T (12 * T.1 0 + T.1 1) (12 * T.1 0 + 12) k).2.1 = a at *
      simp only [zp_uF]
      by_cases c1 : 12 * T.1 0 + T.1 1 ≤ i ∧ i < 12 * T.1 0 + 12
      · by_cases c2 : i + 1 < 12 * T.1 0 + 12
        · rw [if_pos c1, if_pos c2, q2 (by omega), if_pos (by omega), if_pos (by omega)]
          exact congrArg (fun j => nI (a j)) (by omega)
        · rw [if_pos c1, if_neg c2, if_pos (by omega), if_neg (by omega)]
      · rw [if_neg c1, if_neg (by omega), q1]
    · intro i hi
      show zp_uF _ (72 * T.1 8 + (12 * T.1 0 + T.1 1)) (72 * T.1 8 + (12 * T.1 0 + 12)) 1 i = _
      have hi' : i < 72 * T.1 8 := hi
      unfold zp_uF
      rw [if_neg (by omega)]
theorem zy_takeOut {v : SY} {post : SY → Prop} {n0 : Nat} (h : zr_Y p v T G) (hn0 : n0 < 1000) (b0 : T.1 0 < 6) (b1 : T.1 1 < 12) (hp : ∀ v', zr_Y p v' (zp_U T (12 * T.1 0 + T.1 1) (12 * T.1 0 + 12) n0) G → post v') : wpY_takeOut post v (nI n0) := by
  obtain ⟨bg, mk, my, C, Q, AC, KS, NU, rfl, h1, h2⟩ := h
  refine ⟨_, zy_takeOut_2 hn0 b0 b1 h1 hp (zp_mn n0 12) 0 C (by omega) ?_ _ (Nat.lt_succ_self _)⟩
  rw [zp_U_0]
  exact h2
end
end
section
/-! the reference: writing, plain bytes, short sequences -/
theorem zp_sgc (T : zz_T) {i j : Nat} (a b : Nat) (h : i ≠ j) : zp_sg (zp_sg T i a) j b = zp_sg (zp_sg T j b) i a := by
  refine Prod.ext (funext fun k => ?_) rfl
  show (if k = j then b else if k = i then a else T.1 k) = (if k = i then a else if k = j then b else T.1 k)
  by_cases c : k = j
  · rw [if_pos c, if_neg (by omega), if_pos c]
  · rw [if_neg c]
    by_cases d : k = i
    · rw [if_pos d, if_pos d]
    · rw [if_neg d, if_neg d, if_neg c]
theorem zp_sgg (T : zz_T) (j a b : Nat) : zp_sg (zp_sg T j a) j b = zp_sg T j b := by
  refine Prod.ext (funext fun k => ?_) rfl
  show (if k = j then b else if k = j then a else T.1 k) = (if k = j then b else T.1 k)
  by_cases c : k = j
  · rw [if_pos c, if_pos c]
  · rw [if_neg c, if_neg c, if_neg c]
theorem zp_kp2 (T : zz_T) (v : Nat) : zp_keep (zp_sg T 2 v) = zp_sg (zp_keep T) 2 v := by
  refine Prod.ext (funext fun k => ?_) rfl
  show (if k = 24 then (if T.1 24 < 8 then T.1 24 + 1 else 8) else if k = 2 then v else T.1 k) = (if k = 2 then v else if k = 24 then (if T.1 24 < 8 then T.1 24 + 1 else 8) else T.1 k)
  by_cases c : k = 24
  · rw [if_pos c, if_neg (show ¬ k = 2 by omega), if_pos c]
  · rw [if_neg c]
    by_cases d : k = 2
    · rw [if_pos d, if_pos d]
    · rw [if_neg d, if_neg d, if_neg c]
theorem zp_K12 (T : zz_T) (v : Nat) : zp_K1 (zp_sg T 2 v) = zp_sg (zp_K1 T) 2 v := by
  unfold zp_K1
  rw [zp_kp2]
  show (if T.1 8 = 0 then (if T.1 4 = 0 then zp_sg (zp_keep T) 2 v else zp_sg T 2 v) else zp_sg T 2 v) = _
  (repeat' split) <;> rfl
theorem zp_S12 (T : zz_T) (v : Nat) : zp_S1 (zp_sg T 2 v) = zp_sg (zp_S1 T) 2 v := by
  unfold zp_S1
  rw [zp_K12]
  rfl
theorem zp_LF2 (T : zz_T) (v : Nat) : zp_LF (zp_sg T 2 v) = zp_sg (zp_LF T) 2 v := by
  unfold zp_LF
  rw [zp_S12]
  show (if T.1 0 = T.1 5 then zp_sg (zp_S1 T) 2 v else if 5 ≤ T.1 0 then zp_sg T 2 v else zp_sg (zp_sg T 2 v) 0 (T.1 0 + 1)) = _
  rw [zp_sgc T v (T.1 0 + 1) (by decide : 2 ≠ 0)]
  (repeat' split) <;> rfl
def zp_avy (T : zz_T) : zz_T := if 11 ≤ T.1 1 then zp_sg T 2 (T.1 7) else zp_sg (zp_sg T 1 (T.1 1 + 1)) 2 0
theorem zp_ins2 (T : zz_T) (v : Nat) : zp_ins (zp_sg T 2 v) = zp_sg (zp_ins T) 2 v := by
  unfold zp_ins
  show (if T.1 6 = 0 then zp_sg T 2 v else zp_sg (zp_D T (12 * T.1 0 + T.1 1) (12 * T.1 0 + 12) 1) 2 v) = _
  (repeat' split) <;> rfl
theorem zp_avy_eq (T : zz_T) : zp_adv (zp_sg T 2 0) = zp_avy T := by
  unfold zp_adv zp_avy
  show (if 11 ≤ T.1 1 then zp_sg (zp_sg T 2 0) 2 (T.1 7) else zp_sg (zp_sg T 2 0) 1 (T.1 1 + 1)) = _
  rw [zp_sgg, zp_sgc T 0 (T.1 1 + 1) (by decide : 2 ≠ 1)]
theorem zp_pty (T : zz_T) (b : Nat) : zp_put2 (zp_sg T 2 0) b = zp_avy (zp_wr (zp_ins T) b) := by
  unfold zp_put2
  rw [zp_ins2, ← zp_avy_eq]
  rfl
theorem zp_put_y (T : zz_T) (b : Nat) (h2 : T.1 2 < 2) : zp_put T b = if T.1 2 = 0 then zp_avy (zp_wr (zp_ins T) b) else zp_avy (zp_wr (zp_ins (zp_LF (zp_sg T 1 0))) b) := by
  unfold zp_put
  by_cases c : T.1 2 = 0
  · rw [if_pos c, if_pos c, ← zp_pty, zp_sgs T c]
  · rw [if_neg c, if_neg c, zp_sgc T 0 0 (by decide : 2 ≠ 1), zp_LF2, zp_pty]
section
variable {p : Prop} {T : zz_T} {G : Nat → Nat} {bg mk my : Int32} {C Q AC KS NU : zz_A}
theorem zy_p {p' : Prop} {v : SY} (h : zr_Y p v T G) (hp : p' → p) : zr_Y p' v T G := by
  obtain ⟨bg, mk, my, C, Q, AC, KS, NU, rfl, h1, h2⟩ := h
  exact zy_mk ⟨h1.1, fun q => h1.2 (hp q)⟩ h2
theorem zy_write_28 {post : SY → Prop} {b : Nat} (h1 : zr_P p T bg mk my NU) (h2 : zr_C T G C Q AC KS) (hok : zp_ok T) (hb : b < 128) (hp : ∀ v', zr_Y p v' (zp_avy (zp_wr T b)) G → post v') : wY_write_28 post (nI b) (nI (T.1 0)) (nI (T.1 1)) (nI (T.1 3)) (nI (T.1 4)) (nI (T.1 5)) (nI (T.1 6)) (nI (T.1 7)) (nI (T.1 8)) (nI (T.1 2)) (nI (T.1 9)) (nI (T.1 10)) (nI (T.1 11)) (nI (T.1 12)) (nI (T.1 13)) (nI (T.1 14)) (nI (T.1 15)) (nI (T.1 24)) (nI (zy_st T)) bg mk my C Q AC KS NU := by
  have b0 := zp_b0 hok
  have b1 := zp_b1 hok
  have b3 := zp_b3 hok
  have b7 := zp_b7 hok
  have ev : nI b + 128 * nI (T.1 3) = nI (b + 128 * T.1 3) := by
    have e : nI b + nI 128 * nI (T.1 3) = nI (b + 128 * T.1 3) := by rw [pk_mul, nI_add]
    exact e
  have hC : ∀ C', C' = upd C (12 * T.1 0 + T.1 1) (nI (b + 128 * T.1 3)) → zr_C (zp_wr T b) G C' Q AC KS := by
    intro C' e
    subst e
    refine zy_Csc h2 ?_ ?_
    · intro i hi
      unfold upd zp_wF
      by_cases c : i = 12 * T.1 0 + T.1 1
      · rw [if_pos c, if_pos (by omega)]
      · rw [if_neg c, if_neg (by omega)]
        exact h2.1 i hi
    · intro i hi
      exact if_neg (by omega)
  unfold zp_avy at hp
  unfold wY_write_28
  rw [zn_12, ev]
  refine ⟨vp_in_nI (by omega) (by decide), nm_r (e' := upd C (12 * T.1 0 + T.1 1) (nI (b + 128 * T.1 3))) (by rw [nI_clamp (by omega)]) ?_⟩
  have h2' := hC _ rfl
  generalize upd C (12 * T.1 0 + T.1 1) (nI (b + 128 * T.1 3)) = C' at *
  refine pk_eq (T.1 1) 11 (fun c => ?_) (fun c => ?_)
  · rw [if_pos (show 11 ≤ (zp_wr T b).1 1 from by show 11 ≤ T.1 1; omega)] at hp
    have hf := hp _ (zy_mk (T := zp_sg (zp_wr T b) 2 (T.1 7)) (zy_Psg (j := 2) (T := zp_wr T b) h1 (by decide)) (zy_Csg (j := 2) h2' (by decide) (by decide)))
    refine pk_eq (T.1 7) 0 (fun c7 => ?_) (fun c7 => ?_)
    · refine ⟨rfl, rfl, br_t (nI_le (a := 11) (by omega) (by omega)) ?_⟩
      have e : (zy_S (zp_sg (zp_wr T b) 2 (T.1 7)) bg mk my C' Q AC KS NU) = (nI (T.1 0), nI (T.1 1), nI (T.1 3), nI (T.1 4), nI (T.1 5), nI (T.1 6), nI (T.1 7), nI (T.1 8), nI (T.1 7), nI (T.1 9), nI (T.1 10), nI (T.1 11), nI (T.1 12), nI (T.1 13), nI (T.1 14), nI (T.1 15), nI (T.1 24), nI (zy_st T), bg, mk, my, C', Q, AC, KS, NU) := rfl
      rw [e, c, c7] at hf
      rw [c7]
      exact hf
    · refine ⟨rfl, rfl, br_t (nI_le (a := 11) (by omega) (by omega)) ?_⟩
      have e : (zy_S (zp_sg (zp_wr T b) 2 (T.1 7)) bg mk my C' Q AC KS NU) = (nI (T.1 0), nI (T.1 1), nI (T.1 3), nI (T.1 4), nI (T.1 5), nI (T.1 6), nI (T.1 7), nI (T.1 8), nI (T.1 7), nI (T.1 9), nI (T.1 10), nI (T.1 11), nI (T.1 12), nI (T.1 13), nI (T.1 14), nI (T.1 15), nI (T.1 24), nI (zy_st T), bg, mk, my, C', Q, AC, KS, NU) := rfl
      have c7' : T.1 7 = 1 := by omega
      rw [e, c, c7'] at hf
      rw [c7']
      exact hf
  · rw [if_neg (show ¬ 11 ≤ (zp_wr T b).1 1 from by show ¬ 11 ≤ T.1 1; omega)] at hp
    have hf := hp _ (zy_mk (T := zp_sg (zp_sg (zp_wr T b) 1 (T.1 1 + 1)) 2 0) (zy_Psg (j := 2) (zy_Psg (j := 1) (T := zp_wr T b) h1 (by decide)) (by decide)) (zy_Csg (j := 2) (zy_Csg (j := 1) h2' (by decide) (by decide)) (by decide) (by decide)))
    exact ⟨rfl, rfl, br_f (nI_ge (b := 11) (by omega) (by decide)) (nm_r (nI_1 (T.1 1)) hf)⟩
theorem zy_write_16 {post : SY → Prop} {b : Nat} (h1 : zr_P p T bg mk my NU) (h2 : zr_C T G C Q AC KS) (hok : zp_ok T) (hb : b < 128) (hp : ∀ v', zr_Y p v' (zp_avy (zp_wr (zp_ins T) b)) G → post v') : wY_write_16 post (nI b) (nI (T.1 0)) (nI (T.1 1)) (nI (T.1 3)) (nI (T.1 4)) (nI (T.1 5)) (nI (T.1 6)) (nI (T.1 7)) (nI (T.1 8)) (nI (T.1 2)) (nI (T.1 9)) (nI (T.1 10)) (nI (T.1 11)) (nI (T.1 12)) (nI (T.1 13)) (nI (T.1 14)) (nI (T.1 15)) (nI (T.1 24)) (nI (zy_st T)) bg mk my C Q AC KS NU := by
  have b6 := zp_b6 hok
  have oki := zp_ok_ins hok
  unfold zp_ins at hp oki
  refine pk_eq (T.1 6) 0 (fun c => ?_) (fun c => ?_)
  · rw [if_pos c] at hp
    exact zy_write_28 h1 h2 hok hb hp
  · rw [if_neg c] at hp oki
    refine zy_putIn (n0 := 1) (zy_mk h1 h2) (by decide) (zp_b0 hok) (zp_b1 hok) (zy_k ?_)
    intro bg mk my C Q AC KS NU h1 h2
    exact zy_write_28 h1 h2 oki hb hp
theorem zy_write {v : SY} {post : SY → Prop} {b : Nat} (h : zr_Y p v T G) (hok : zp_ok T) (hb : b < 128) (hp : ∀ v', zr_Y p v' (zp_put T b) G → post v') : wpY_write post v (nI b) := by
  obtain ⟨bg, mk, my, C, Q, AC, KS, NU, rfl, h1, h2⟩ := h
  have b2 := zp_b2 hok
  rw [zp_put_y T b b2] at hp
  refine pk_eq (T.1 2) 0 (fun c => ?_) (fun c => ?_)
  · rw [if_pos c] at hp
    exact zy_write_16 h1 h2 hok hb hp
  · rw [if_neg c] at hp
    refine zy_lineFeed (zy_mk (T := zp_sg T 1 0) (zy_Psg (j := 1) h1 (by decide)) (zy_Csg (j := 1) h2 (by decide) (by decide))) (zp_ok_10 hok) (zy_k ?_)
    intro bg mk my C Q AC KS NU h1 h2
    exact zy_write_16 h1 h2 (zp_ok_LF (zp_ok_10 hok)) hb hp
theorem zy_plain_58 {post : SY → Prop} {b : Nat} (h1 : zr_P p T bg mk my NU) (h2 : zr_C T G C Q AC KS) (hok : zp_ok T) (hb : b = 8 ∨ b = 9 ∨ b = 10 ∨ b = 13) (hp : ∀ v', zr_Y p v' (zp_ct2 (zp_sg T 2 0) b) G → post v') : wY_plain_58 post (nI b) (nI (T.1 0)) (nI (T.1 1)) (nI (T.1 3)) (nI (T.1 4)) (nI (T.1 5)) (nI (T.1 6)) (nI (T.1 7)) (nI (T.1 8)) (nI (T.1 2)) (nI (T.1 9)) (nI (T.1 10)) (nI (T.1 11)) (nI (T.1 12)) (nI (T.1 13)) (nI (T.1 14)) (nI (T.1 15)) (nI (T.1 24)) (nI (zy_st T)) bg mk my C Q AC KS NU := by
  have b1 := zp_b1 hok
  have h1' : zr_P p (zp_sg T 2 0) bg mk my NU := zy_Psg (j := 2) h1 (by decide)
  have h2' : zr_C (zp_sg T 2 0) G C Q AC KS := zy_Csg (j := 2) h2 (by decide) (by decide)
  have hf : ∀ v, ∀ T', T' = zp_sg (zp_sg T 2 0) 1 v → (∀ v', zr_Y p v' T' G → post v') → post (zy_S (zp_sg (zp_sg T 2 0) 1 v) bg mk my C Q AC KS NU) := by
    intro v T' e hp
    subst e
    exact hp _ (zy_mk (zy_Psg (j := 1) h1' (by decide)) (zy_Csg (j := 1) h2' (by decide) (by decide)))
  unfold zp_ct2 at hp
  unfold wY_plain_58
  refine pk_eq b 10 (fun c => ?_) (fun c10 => ?_)
  · rw [if_neg (by omega), if_neg (by omega), if_pos c] at hp
    refine zy_lineFeed (zy_mk (T := zp_sg T 2 0) h1' h2') (zp_ok_20 hok) (zy_k ?_)
    intro bg mk my C Q AC KS NU h1 h2
    exact hp _ (zy_mk h1 h2)
  have en : nI (T.1 1) / 4 * 4 + 4 = nI (T.1 1 / 4 * 4 + 4) := by
    have e : nI (T.1 1) / nI 4 * nI 4 + nI 4 = nI (T.1 1 / 4 * 4 + 4) := by
      rw [pk_div (by omega) (by decide) (by decide), pk_mul, nI_add]
    exact e
  refine ⟨by decide, nm_r en ?_⟩
  refine pk_eq b 8 (fun c => ?_) (fun c8 => ?_)
  · rw [if_pos c] at hp
    refine pk_le (T.1 1) 0 (fun c0 => ?_) (fun c0 => ?_)
    · refine hf 0 _ ?_ hp
      show zp_sg (zp_sg T 2 0) 1 (T.1 1 - 1) = _
      rw [show T.1 1 - 1 = 0 by omega]
    · exact nm_r (show nI (T.1 1) - 1 = nI (T.1 1 - 1) from pk_sub (b := 1) (by omega)) (hf (T.1 1 - 1) _ rfl hp)
  rw [if_neg c8] at hp
  refine pk_eq b 13 (fun c => ?_) (fun c13 => ?_)
  · rw [if_neg (by omega), if_neg (by omega)] at hp
    exact hf 0 _ rfl hp
  rw [if_pos (by omega)] at hp
  have ee : (T.1 1 / 4 + 1) * 4 = T.1 1 / 4 * 4 + 4 := by omega
  refine pk_le (T.1 1 / 4 * 4 + 4) 11 (fun c => ?_) (fun c => ?_)
  · refine hf _ _ ?_ hp
    show zp_sg (zp_sg T 2 0) 1 (if 12 ≤ (T.1 1 / 4 + 1) * 4 then 11 else (T.1 1 / 4 + 1) * 4) = _
    rw [if_neg (by omega), ee]
  · refine hf 11 _ ?_ hp
    show zp_sg (zp_sg T 2 0) 1 (if 12 ≤ (T.1 1 / 4 + 1) * 4 then 11 else (T.1 1 / 4 + 1) * 4) = _
    rw [if_pos (by omega)]
/-- what a byte does in the plain state -/
def zp_pl (T : zz_T) (b : Nat) : zz_T := if b = 27 then zp_sg T 16 1 else if 32 ≤ b ∧ b < 127 then zp_put T b else if 8 ≤ b ∧ b ≤ 13 then zp_ctl T b else T
theorem zp_rdp {T : zz_T} (h : T.1 16 = 0) (b : Nat) : zp_rd T b = zp_pl T b := by
  unfold zp_rd zp_pl zp_mean
  rw [h]
  by_cases c : b = 27
  · rw [if_pos c, if_pos c]
    rfl
  · rw [if_neg c, if_neg c, if_pos rfl]
    by_cases c1 : 32 ≤ b ∧ b < 127
    · rw [if_pos c1, if_pos c1]
      show zp_put (zp_sg T 16 0) b = _
      rw [zp_sgs T h]
    · rw [if_neg c1, if_neg c1]
      by_cases c2 : 8 ≤ b ∧ b ≤ 13
      · rw [if_pos c2, if_pos c2]
        show zp_ctl (zp_sg T 16 0) b = _
        rw [zp_sgs T h]
      · rw [if_neg c2, if_neg c2]
        show zp_sg T 16 0 = _
        rw [zp_sgs T h]
theorem zy_plain {v : SY} {post : SY → Prop} {b : Nat} (h : zr_Y False v T G) (h16 : T.1 16 = 0) (hok : zp_ok T) (hb : b < 128) (hp : ∀ v', zr_Y False v' (zp_pl T b) G → post v') : wpY_plain post v (nI b) := by
  obtain ⟨bg, mk, my, C, Q, AC, KS, NU, rfl, h1, h2⟩ := h
  unfold zp_pl at hp
  have k20 : ¬ (32 ≤ b ∧ b < 127) → wY_plain_20 post (nI b) (nI (T.1 0)) (nI (T.1 1)) (nI (T.1 3)) (nI (T.1 4)) (nI (T.1 5)) (nI (T.1 6)) (nI (T.1 7)) (nI (T.1 8)) (nI (T.1 2)) (nI (T.1 9)) (nI (T.1 10)) (nI (T.1 11)) (nI (T.1 12)) (nI (T.1 13)) (nI (T.1 14)) (nI (T.1 15)) (nI (T.1 24)) (nI (zy_st T)) bg mk my C Q AC KS NU := by
    intro hn
    unfold wY_plain_20
    refine pk_eq b 27 (fun c => ?_) (fun c27 => ?_)
    · rw [if_pos c] at hp
      exact hp _ (zy_mk (T := zp_sg T 16 1) ⟨fun q => absurd q (by rw [zp_sg1]; decide), fun q => q.elim⟩ (zy_Csg (j := 16) h2 (by decide) (by decide)))
    rw [if_neg c27, if_neg hn] at hp
    have k : b = 8 ∨ b = 9 ∨ b = 10 ∨ b = 13 → wY_plain_58 post (nI b) (nI (T.1 0)) (nI (T.1 1)) (nI (T.1 3)) (nI (T.1 4)) (nI (T.1 5)) (nI (T.1 6)) (nI (T.1 7)) (nI (T.1 8)) (nI (T.1 2)) (nI (T.1 9)) (nI (T.1 10)) (nI (T.1 11)) (nI (T.1 12)) (nI (T.1 13)) (nI (T.1 14)) (nI (T.1 15)) (nI (T.1 24)) (nI (zy_st T)) bg mk my C Q AC KS NU := by
      intro hb
      rw [if_pos (by omega), zp_ctl, if_neg (by omega), if_neg (by omega)] at hp
      exact zy_plain_58 h1 h2 hok hb hp
    refine pk_eq b 8 (fun c => k (by omega)) (fun c8 => ?_)
    refine pk_eq b 9 (fun c => k (by omega)) (fun c9 => ?_)
    refine pk_eq b 10 (fun c => k (by omega)) (fun c10 => ?_)
    refine pk_eq b 13 (fun c => k (by omega)) (fun c13 => ?_)
    have e : (if 8 ≤ b ∧ b ≤ 13 then zp_ctl T b else T) = T := by
      by_cases c : 8 ≤ b ∧ b ≤ 13
      · rw [if_pos c, zp_ctl]
        by_cases c11 : b = 11
        · rw [if_pos c11]
        · rw [if_neg c11, if_pos (by omega)]
      · rw [if_neg c]
    rw [e] at hp
    exact hp _ (zy_mk h1 h2)
  unfold wpY_plain zy_S
  dsimp only
  refine pk_lt b 32 (fun c => k20 (by omega)) (fun c => ?_)
  refine pk_lt 126 b (fun c => k20 (by omega)) (fun c' => ?_)
  rw [if_neg (by omega), if_pos (by omega)] at hp
  refine zy_write (zy_mk h1 h2) hok hb (zy_k ?_)
  intro bg mk my C Q AC KS NU h1 h2
  exact hp _ (zy_mk h1 h2)
end
end
section
/-! the reference: short sequences, the other screen -/
section
variable {p : Prop} {T : zz_T} {G : Nat → Nat} {bg mk my : Int32} {C Q AC KS NU : zz_A}
theorem zy_renew {v : SY} {post : SY → Prop} (h : zr_Y False v T G) (h16 : T.1 16 = 0) (hp : ∀ v', zr_Y False v' (zp_clr T) G → post v') : wpY_renew post v := by
  obtain ⟨bg, mk, my, C, Q, AC, KS, NU, rfl, h1, h2⟩ := h
  refine zy_empty (f := 0) (e := 71) (zy_mk h1 h2) (by decide) (by decide) (zy_k ?_)
  clear h1 h2
  intro bg mk my C Q AC KS NU h1 h2
  have h2' : zr_C (zp_clr T) G C Q AC KS := by
    refine ⟨?_, h2.2.1, fun q => absurd q (by show ¬ (0 : Nat) = 1; decide), fun j _ q => absurd q (by show ¬ j < 12 * 0; omega)⟩
    intro i hi
    rw [h2.1 i hi]
    refine congrArg nI ?_
    show zp_eF T.2.1 (72 * T.1 8 + 0) (72 * T.1 8 + (71 + 1)) (72 * T.1 8 + i) = zp_eF (zp_eF T.2.1 (72 * 1 + 0) (72 * 1 + 72)) (72 * 0 + 0) (72 * 0 + 72) (72 * 0 + i)
    simp only [zp_eF]
    rw [if_pos (by omega), if_pos (by omega)]
  have e : zy_st T = 0 := by
    unfold zy_st
    rw [h16]
    rfl
  have hf := hp _ (zy_mk (bg := bg) (mk := mk) (my := my) (NU := NU) (T := zp_clr T) ⟨fun q => absurd q (by show ¬ 2 ≤ 0; decide), fun q => q.elim⟩ h2')
  show post (0, 0, 0, 0, 5, 0, 1, 0, 0, 0, 0, 0, nI (T.1 12), nI (T.1 13), nI (T.1 14), nI (T.1 15), 0, nI (zy_st T), bg, mk, my, C, Q, AC, KS, NU)
  rw [e]
  exact hf
theorem zy_moveShort {v : SY} {post : SY → Prop} {b : Nat} (h : zr_Y False v T G) (h16 : T.1 16 = 0) (hok : zp_ok T) (hb : b = 56 ∨ b = 68 ∨ b = 69 ∨ b = 77 ∨ b = 99) (hp : ∀ v', zr_Y False v' (zp_sh2 T b) G → post v') : wpY_moveShort post v (nI b) := by
  obtain ⟨bg, mk, my, C, Q, AC, KS, NU, rfl, h1, h2⟩ := h
  have b0 := zp_b0 hok
  have b4 := zp_b4 hok
  have b5 := zp_b5 hok
  unfold zp_sh2 at hp
  unfold wpY_moveShort zy_S
  dsimp only
  refine pk_eq b 56 (fun c => ?_) (fun c56 => ?_)
  · rw [if_pos c] at hp
    exact hp _ (zy_mk (T := zp_sg (zp_mv T (T.1 9) (T.1 10)) 3 (T.1 11)) (zy_Psg (j := 3) (zy_Psg (j := 1) (zy_Psg (j := 0) h1 (by decide)) (by decide)) (by decide)) (zy_Csg (j := 3) (zy_Csg (j := 1) (zy_Csg (j := 0) h2 (by decide) (by decide)) (by decide) (by decide)) (by decide) (by decide)))
  rw [if_neg c56] at hp
  refine pk_eq b 77 (fun c => ?_) (fun c77 => ?_)
  · rw [if_neg (by omega), if_neg (by omega), if_pos c] at hp
    unfold zp_GU at hp
    refine pk_eq (T.1 0) (T.1 4) (fun c => ?_) (fun c => ?_)
    · rw [if_pos c] at hp
      refine zy_rowsDown (zy_mk h1 h2) (zp_btb hok) b5 (zy_k ?_)
      intro bg mk my C Q AC KS NU h1 h2
      exact hp _ (zy_mk h1 h2)
    rw [if_neg c] at hp
    refine pk_le (T.1 0) 0 (fun c => ?_) (fun c => ?_)
    · rw [if_pos c] at hp
      have hf := hp _ (zy_mk h1 h2)
      unfold zy_S at hf
      rw [show T.1 0 = 0 by omega] at hf
      exact hf
    · rw [if_neg (by omega)] at hp
      exact nm_r (show nI (T.1 0) - 1 = nI (T.1 0 - 1) from pk_sub (b := 1) (by omega)) (hp _ (zy_mk (T := zp_sg T 0 (T.1 0 - 1)) (zy_Psg (j := 0) h1 (by decide)) (zy_Csg (j := 0) h2 (by decide) (by decide))))
  refine pk_eq b 99 (fun c => ?_) (fun c99 => ?_)
  · rw [if_neg (by omega), if_neg (by omega), if_neg (by omega), if_pos c] at hp
    refine zy_renew (zy_mk h1 h2) h16 (zy_k ?_)
    intro bg mk my C Q AC KS NU h1 h2
    exact hp _ (zy_mk h1 h2)
  refine pk_eq b 69 (fun c => ?_) (fun c69 => ?_)
  · rw [if_neg (by omega), if_pos c] at hp
    refine zy_lineFeed (zy_mk (T := zp_sg T 1 0) (zy_Psg (j := 1) h1 (by decide)) (zy_Csg (j := 1) h2 (by decide) (by decide))) (zp_ok_10 hok) (zy_k ?_)
    intro bg mk my C Q AC KS NU h1 h2
    exact hp _ (zy_mk h1 h2)
  · rw [if_pos (by omega)] at hp
    refine zy_lineFeed (zy_mk h1 h2) hok (zy_k ?_)
    intro bg mk my C Q AC KS NU h1 h2
    exact hp _ (zy_mk h1 h2)
def zp_s1 (T : zz_T) (b : Nat) : zz_T := if b = 27 then zp_sg T 16 1 else if b = 91 then zp_lis (zp_sg T 16 2) else zp_sht (zp_sg T 16 0) b
theorem zp_rd1 {T : zz_T} (h : T.1 16 = 1) (b : Nat) : zp_rd T b = zp_s1 T b := by
  unfold zp_rd zp_s1 zp_mean
  rw [h]
  by_cases c : b = 27
  · rw [if_pos c, if_pos c]
    rfl
  · rw [if_neg c, if_neg c, if_neg (by decide), if_pos rfl]
    by_cases c1 : b = 91
    · rw [if_pos c1, if_pos c1]
      rfl
    · rw [if_neg c1, if_neg c1]
      rfl
theorem zy_short_42 {post : SY → Prop} {x1 z0 x3 x4 x5 : Int32} (hp : ∀ m NU', (∀ i, i < 4 → NU' i = nI 0) → wY_shortSequence_42 post x1 (nI (T.1 0)) (nI (T.1 1)) (nI (T.1 3)) (nI (T.1 4)) (nI (T.1 5)) (nI (T.1 6)) (nI (T.1 7)) (nI (T.1 8)) (nI (T.1 2)) (nI (T.1 9)) (nI (T.1 10)) (nI (T.1 11)) (nI (T.1 12)) (nI (T.1 13)) (nI (T.1 14)) (nI (T.1 15)) (nI (T.1 24)) z0 x3 x4 x5 (m + 1) (nI 4) C Q AC KS NU') :
    ∀ (d k : Nat) (NU' : zz_A), k + d = 4 → (∀ i, i < k → NU' i = nI 0) → ∀ n, d < n → wY_shortSequence_42 post x1 (nI (T.1 0)) (nI (T.1 1)) (nI (T.1 3)) (nI (T.1 4)) (nI (T.1 5)) (nI (T.1 6)) (nI (T.1 7)) (nI (T.1 8)) (nI (T.1 2)) (nI (T.1 9)) (nI (T.1 10)) (nI (T.1 11)) (nI (T.1 12)) (nI (T.1 13)) (nI (T.1 14)) (nI (T.1 15)) (nI (T.1 24)) z0 x3 x4 x5 n (nI k) C Q AC KS NU' := by
  intro d
  induction d with
  | zero =>
    intro k NU' hk hN n hn
    obtain ⟨m, rfl⟩ : ∃ m, n = m + 1 := ⟨n - 1, by omega⟩
    rw [show k = 4 by omega] at hN ⊢
    exact hp m NU' hN
  | succ d ih =>
    intro k NU' hk hN n hn
    obtain ⟨m, rfl⟩ : ∃ m, n = m + 1 := ⟨n - 1, by omega⟩
    refine br_f (nI_ge (b := 4) (by omega) (by decide)) ⟨vp_in_nI (by omega) (by decide), nm_r (e' := upd NU' k (nI 0)) (by rw [nI_clamp (by omega)]; rfl) (nm_r (nI_1 k) ?_)⟩
    refine ih (k + 1) _ (by omega) (fun i hi => ?_) m (by omega)
    by_cases c : i = k
    · rw [c, pk_us]
    · rw [pk_un c]
      exact hN i (by omega)
theorem zy_short_123 {post : SY → Prop} {b : Nat} (h1 : zr_P False T bg mk my NU) (h2 : zr_C T G C Q AC KS) (h16 : T.1 16 = 0) (hok : zp_ok T) (hb : b = 56 ∨ b = 68 ∨ b = 69 ∨ b = 77 ∨ b = 99) (hp : ∀ v', zr_Y False v' (zp_sh2 (zp_sg T 2 0) b) G → post v') : wY_shortSequence_123 post (nI b) (nI (T.1 0)) (nI (T.1 1)) (nI (T.1 3)) (nI (T.1 4)) (nI (T.1 5)) (nI (T.1 6)) (nI (T.1 7)) (nI (T.1 8)) (nI (T.1 2)) (nI (T.1 9)) (nI (T.1 10)) (nI (T.1 11)) (nI (T.1 12)) (nI (T.1 13)) (nI (T.1 14)) (nI (T.1 15)) (nI (T.1 24)) (nI (zy_st T)) bg mk my C Q AC KS NU := by
  refine zy_moveShort (T := zp_sg T 2 0) (zy_mk (zy_Psg (j := 2) h1 (by decide)) (zy_Csg (j := 2) h2 (by decide) (by decide))) h16 (zp_ok_20 hok) hb (zy_k ?_)
  intro bg mk my C Q AC KS NU h1 h2
  exact hp _ (zy_mk h1 h2)
theorem zy_shortSequence {v : SY} {post : SY → Prop} {b : Nat} (h : zr_Y False v T G) (h16 : T.1 16 = 1) (hok : zp_ok T) (hb : b < 128) (hp : ∀ v', zr_Y (b = 91) v' (zp_s1 T b) G → post v') : wpY_shortSequence post v (nI b) := by
  obtain ⟨bg, mk, my, C, Q, AC, KS, NU, rfl, h1, h2⟩ := h
  unfold zp_s1 at hp
  unfold wpY_shortSequence zy_S
  dsimp only
  refine pk_eq b 91 (fun c => ?_) (fun c91 => ?_)
  · rw [if_neg (by omega), if_pos c] at hp
    refine ⟨5, zy_short_42 ?_ 4 0 NU (by decide) (fun i hi => absurd hi (by omega)) 5 (by decide)⟩
    intro m NU' hN
    refine br_t (nI_le (a := 4) (by decide) (by decide)) ?_
    rw [c]
    refine br_f (by decide) (br_f (by decide) (br_f (by decide) (br_f (by decide) (br_f (by decide) (br_f (by decide) ?_)))))
    have hT : ∀ i, (zp_lis (zp_sg T 16 2)).1 i = if i = 23 then 0 else if i = 22 then 0 else if i = 21 then 0 else if i = 20 then 0 else if i = 18 then 1 else if i = 17 then 0 else if i = 16 then 2 else T.1 i := fun i => rfl
    refine hp _ (zy_mk (T := zp_lis (zp_sg T 16 2)) ⟨fun _ => rfl, fun _ => ⟨rfl, rfl, fun i hi => ?_⟩⟩ ?_)
    · rw [hN i hi]
      rcases (by omega : i = 0 ∨ i = 1 ∨ i = 2 ∨ i = 3) with c | c | c | c <;> subst c <;> rfl
    · exact h2
  refine pk_eq b 27 (fun c => ?_) (fun c27 => ?_)
  · rw [if_pos c, zp_sgs T h16] at hp
    refine ⟨5, zy_short_42 ?_ 4 0 NU (by decide) (fun i hi => absurd hi (by omega)) 5 (by decide)⟩
    intro m NU' hN
    refine br_t (nI_le (a := 4) (by decide) (by decide)) ?_
    have e : zy_st T = 1 := by
      unfold zy_st
      rw [h16]
      rfl
    have hf := hp _ (zy_mk (bg := 0) (mk := 0) (my := 1) (NU := NU') ⟨fun q => absurd q (by omega), fun q => absurd q (by omega)⟩ h2)
    unfold zy_S at hf
    rw [e] at hf
    rw [c]
    exact br_f (by decide) (br_f (by decide) (br_f (by decide) (br_f (by decide) (br_f (by decide) (br_f (by decide) hf)))))
  rw [if_neg c27, if_neg c91] at hp
  have h16' : (zp_sg T 16 0).1 16 = 0 := rfl
  have hok' : zp_ok (zp_sg T 16 0) := zp_ok_st hok (by decide) (fun q => absurd q (by decide))
  have hC' : zr_C (zp_sg T 16 0) G C Q AC KS := zy_Csg (j := 16) h2 (by decide) (by decide)
  refine ⟨5, zy_short_42 ?_ 4 0 NU (by decide) (fun i hi => absurd hi (by omega)) 5 (by decide)⟩
  intro m NU' hN
  have hP' : zr_P False (zp_sg T 16 0) 0 0 1 NU' := ⟨fun q => absurd q (by show ¬ 2 ≤ 0; decide), fun q => q.elim⟩
  have hp' : ∀ v', zr_Y False v' (zp_sht (zp_sg T 16 0) b) G → post v' := fun v' hv => hp v' (zy_p hv (fun q => absurd q c91))
  unfold zp_sht at hp'
  refine br_t (nI_le (a := 4) (by decide) (by decide)) ?_
  refine pk_eq b 55 (fun c => ?_) (fun c55 => ?_)
  · rw [if_pos c] at hp'
    exact hp' _ (zy_mk (T := zp_sg (zp_sg (zp_sg (zp_sg T 16 0) 9 (T.1 0)) 10 (T.1 1)) 11 (T.1 3)) (zy_Psg (j := 11) (zy_Psg (j := 10) (zy_Psg (j := 9) hP' (by decide)) (by decide)) (by decide)) (zy_Csg (j := 11) (zy_Csg (j := 10) (zy_Csg (j := 9) hC' (by decide) (by decide)) (by decide) (by decide)) (by decide) (by decide)))
  rw [if_neg c55] at hp'
  have key : b = 56 ∨ b = 68 ∨ b = 69 ∨ b = 77 ∨ b = 99 → wY_shortSequence_123 post (nI b) (nI (T.1 0)) (nI (T.1 1)) (nI (T.1 3)) (nI (T.1 4)) (nI (T.1 5)) (nI (T.1 6)) (nI (T.1 7)) (nI (T.1 8)) (nI (T.1 2)) (nI (T.1 9)) (nI (T.1 10)) (nI (T.1 11)) (nI (T.1 12)) (nI (T.1 13)) (nI (T.1 14)) (nI (T.1 15)) (nI (T.1 24)) 0 0 0 1 C Q AC KS NU' := by
    intro hk
    have e : zp_kb b = 1 := by
      unfold zp_kb
      (repeat' split) <;> first | rfl | omega
    rw [if_pos e] at hp'
    exact zy_short_123 (T := zp_sg T 16 0) hP' hC' h16' hok' hk hp'
  refine pk_eq b 56 (fun c => key (by omega)) (fun c1 => ?_)
  refine pk_eq b 68 (fun c => key (by omega)) (fun c2 => ?_)
  refine pk_eq b 69 (fun c => key (by omega)) (fun c3 => ?_)
  refine pk_eq b 77 (fun c => key (by omega)) (fun c4 => ?_)
  refine pk_eq b 99 (fun c => key (by omega)) (fun c5 => ?_)
  have e : zp_kb b ≠ 1 := by
    unfold zp_kb
    rw [if_neg c1, if_neg c2, if_neg c3, if_neg c4, if_neg c5]
    decide
  rw [if_neg e, zp_sgs _ rfl, zp_sh2, if_neg c1, if_neg c2, if_neg c3, if_neg c4, if_neg c5] at hp'
  exact hp' _ (zy_mk (T := zp_sg T 16 0) hP' hC')
theorem zy_exchange_7 {post : SY → Prop} {on : Nat} (ho : on < 2)
    (hp : ∀ m C' AC', (∀ i, i < 72 → C' i = if on = 0 then AC i else nI 32) → (∀ i, i < 72 → AC' i = C i) → wY_exchange_7 post (nI on) (nI (T.1 0)) (nI (T.1 1)) (nI (T.1 3)) (nI (T.1 4)) (nI (T.1 5)) (nI (T.1 6)) (nI (T.1 7)) (nI (T.1 8)) (nI (T.1 2)) (nI (T.1 9)) (nI (T.1 10)) (nI (T.1 11)) (nI (T.1 12)) (nI (T.1 13)) (nI (T.1 14)) (nI (T.1 15)) (nI (T.1 24)) (nI (zy_st T)) bg mk my (m + 1) (nI 72) C' Q AC' KS NU) :
    ∀ (d k : Nat) (C' AC' : zz_A), k + d = 72 → (∀ i, C' i = if i < k then (if on = 0 then AC i else nI 32) else C i) → (∀ i, AC' i = if i < k then C i else AC i) → ∀ n, d < n → wY_exchange_7 post (nI on) (nI (T.1 0)) (nI (T.1 1)) (nI (T.1 3)) (nI (T.1 4)) (nI (T.1 5)) (nI (T.1 6)) (nI (T.1 7)) (nI (T.1 8)) (nI (T.1 2)) (nI (T.1 9)) (nI (T.1 10)) (nI (T.1 11)) (nI (T.1 12)) (nI (T.1 13)) (nI (T.1 14)) (nI (T.1 15)) (nI (T.1 24)) (nI (zy_st T)) bg mk my n (nI k) C' Q AC' KS NU := by
  intro d
  induction d with
  | zero =>
    intro k C' AC' hk hC hA n hn
    obtain ⟨m, rfl⟩ : ∃ m, n = m + 1 := ⟨n - 1, by omega⟩
    rw [show k = 72 by omega] at hC hA ⊢
    exact hp m C' AC' (fun i hi => by rw [hC i, if_pos hi]) (fun i hi => by rw [hA i, if_pos hi])
  | succ d ih =>
    intro k C' AC' hk hC hA n hn
    obtain ⟨m, rfl⟩ : ∃ m, n = m + 1 := ⟨n - 1, by omega⟩
    have eC : C' k = C k := by rw [hC, if_neg (by omega)]
    have eA : AC' k = AC k := by rw [hA, if_neg (by omega)]
    have hin : vp_in (nI k) 72 := vp_in_nI (by omega) (by decide)
    have hcl : (nI k).toNatClampNeg = k := nI_clamp (by omega)
    have key : ∀ w, w = (if on = 0 then AC k else nI 32) → wY_exchange_28 post (wY_exchange_7 post (nI on) (nI (T.1 0)) (nI (T.1 1)) (nI (T.1 3)) (nI (T.1 4)) (nI (T.1 5)) (nI (T.1 6)) (nI (T.1 7)) (nI (T.1 8)) (nI (T.1 2)) (nI (T.1 9)) (nI (T.1 10)) (nI (T.1 11)) (nI (T.1 12)) (nI (T.1 13)) (nI (T.1 14)) (nI (T.1 15)) (nI (T.1 24)) (nI (zy_st T)) bg mk my m) (nI on) (nI k) w (nI (T.1 0)) (nI (T.1 1)) (nI (T.1 3)) (nI (T.1 4)) (nI (T.1 5)) (nI (T.1 6)) (nI (T.1 7)) (nI (T.1 8)) (nI (T.1 2)) (nI (T.1 9)) (nI (T.1 10)) (nI (T.1 11)) (nI (T.1 12)) (nI (T.1 13)) (nI (T.1 14)) (nI (T.1 15)) (nI (T.1 24)) (nI (zy_st T)) bg mk my C' Q AC' KS NU := by
      intro w ew
      refine ⟨hin, hin, nm_r (e' := upd AC' k (C k)) (by rw [hcl, eC]) ⟨hin, nm_r (e' := upd C' k w) (by rw [hcl]) (nm_r (nI_1 k) ?_)⟩⟩
      refine ih (k + 1) _ _ (by omega) (fun i => ?_) (fun i => ?_) m (by omega)
      · unfold upd
        by_cases c : i = k
        · rw [if_pos c, if_pos (by omega), ew, c]
        · rw [if_neg c, hC i]
          by_cases c2 : i < k
          · rw [if_pos c2, if_pos (show i < k + 1 by omega)]
          · rw [if_neg c2, if_neg (show ¬ i < k + 1 by omega)]
      · unfold upd
        by_cases c : i = k
        · rw [if_pos c, if_pos (by omega), c]
        · rw [if_neg c, hA i]
          by_cases c2 : i < k
          · rw [if_pos c2, if_pos (by omega)]
          · rw [if_neg c2, if_neg (by omega)]
    refine br_f (nI_ge (b := 72) (by omega) (by decide)) (pk_eq on 0 (fun c => ?_) (fun c => ?_))
    · refine ⟨hin, ?_⟩
      rw [hcl, eA]
      exact key _ (by rw [if_pos c])
    · exact key _ (by rw [if_neg c]; rfl)
theorem zy_exchange {v : SY} {post : SY → Prop} {on : Nat} (h : zr_Y p v (zp_sg T 2 0) G) (ho : on < 2) (h8 : T.1 8 < 2) (hn : on ≠ T.1 8) (hp : ∀ v', zr_Y p v' (zp_swi T on) G → post v') : wpY_exchange post v (nI on) := by
  obtain ⟨bg, mk, my, C, Q, AC, KS, NU, rfl, h1, h2⟩ := h
  refine And.intro (zn_nb ho) (And.intro (zn_fb ho) ⟨73, ?_⟩)
  refine zy_exchange_7 (T := zp_sg (zp_sg T 2 0) 8 on) (C := C) (AC := AC) ho ?_ 72 0 C AC (by decide) (fun i => (if_neg (by omega)).symm) (fun i => (if_neg (by omega)).symm) 73 (by decide)
  intro m C' AC' hC hA
  unfold zp_swi at hp
  rw [if_neg hn] at hp
  refine br_t (nI_le (a := 72) (by decide) (by decide)) ?_
  rcases (by omega : on = 0 ∨ on = 1) with c | c
  · subst c
    rw [if_pos rfl] at hp
    refine br_t rfl (br_t rfl (br_t rfl (br_t rfl (br_t rfl ?_))))
    have e8 : T.1 8 = 1 := by omega
    refine hp _ (zy_mk (T := zp_rg (zp_mv (zp_sg (zp_sg T 2 0) 8 0) (T.1 12) (T.1 13)) (T.1 14) (T.1 15)) (zy_Psg (j := 5) (zy_Psg (j := 4) (zy_Psg (j := 1) (zy_Psg (j := 0) (zy_Psg (j := 8) h1 (by decide)) (by decide)) (by decide)) (by decide)) (by decide)) ?_)
    refine ⟨?_, h2.2.1, fun q => absurd q (by show ¬ (0 : Nat) = 1; decide), h2.2.2.2⟩
    intro i hi
    rw [hC i hi, if_pos rfl, h2.2.2.1 e8 i hi]
    show nI (T.2.1 i) = nI (T.2.1 (72 * 0 + i))
    rw [show 72 * 0 + i = i by omega]
  · subst c
    rw [if_neg (by decide)] at hp
    refine br_f (by decide) (br_f (by decide) (br_f (by decide) (br_f (by decide) (br_f (by decide) ?_))))
    have e8 : T.1 8 = 0 := by omega
    refine hp _ (zy_mk (T := zp_rg (zp_mv (zp_E (zp_sg (zp_sg (zp_sg (zp_sg (zp_sg (zp_sg T 2 0) 12 (T.1 0)) 13 (T.1 1)) 14 (T.1 4)) 15 (T.1 5)) 8 1) 0 72) 0 0) 0 5) ?_ ?_)
    · refine zy_Psg (j := 5) (zy_Psg (j := 4) (zy_Psg (j := 1) (zy_Psg (j := 0) (T := zp_E (zp_sg (zp_sg (zp_sg (zp_sg (zp_sg (zp_sg T 2 0) 12 (T.1 0)) 13 (T.1 1)) 14 (T.1 4)) 15 (T.1 5)) 8 1) 0 72) ?_ (by decide)) (by decide)) (by decide)) (by decide)
      exact zy_Psg (j := 8) (zy_Psg (j := 15) (zy_Psg (j := 14) (zy_Psg (j := 13) (zy_Psg (j := 12) h1 (by decide)) (by decide)) (by decide)) (by decide)) (by decide)
    · refine ⟨?_, h2.2.1, ?_, h2.2.2.2⟩
      · intro i hi
        rw [hC i hi, if_neg (by decide)]
        show nI 32 = nI (zp_eF T.2.1 (72 * 1 + 0) (72 * 1 + 72) (72 * 1 + i))
        unfold zp_eF
        rw [if_pos (by omega)]
      · intro _ i hi
        rw [hA i hi, h2.1 i hi]
        show nI (T.2.1 (72 * T.1 8 + i)) = nI (zp_eF T.2.1 (72 * 1 + 0) (72 * 1 + 72) i)
        unfold zp_eF
        rw [if_neg (by omega), e8, show 72 * 0 + i = i by omega]
end
end
section
/-! the reference: sequences with numbers -/
theorem zn_pnt : ∀ q, q < 8 → (nI q ||| 1 = nI (q ||| 1) ∧ nI q ||| 2 = nI (q ||| 2) ∧ nI q ||| 4 = nI (q ||| 4)) ∧ (nI q &&& 6 = nI (q &&& 6) ∧ nI q &&& 5 = nI (q &&& 5) ∧ nI q &&& 3 = nI (q &&& 3)) := by decide +kernel
theorem zp_E_E' {T : zz_T} {f g e : Nat} (h1 : f ≤ g) (h2 : g ≤ e) : zp_E (zp_E T g e) f g = zp_E T f e := by
  refine congrArg (zp_sc T) ?_
  funext i
  show zp_eF (zp_eF T.2.1 (72 * T.1 8 + g) (72 * T.1 8 + e)) (72 * T.1 8 + f) (72 * T.1 8 + g) i = _
  simp only [zp_eF]
  (repeat' split) <;> first | rfl | omega
section
variable {p : Prop} {T : zz_T} {G : Nat → Nat} {bg mk my : Int32} {C Q AC KS NU : zz_A}
theorem zy_paint {v : SY} {post : SY → Prop} {x : Nat} (h : zr_Y p v T G) (b3 : T.1 3 < 8) (hx : x ≤ 99) (hp : ∀ v', zr_Y p v' (zp_sg T 3 (zp_pn (T.1 3) x)) G → post v') : wpY_paint post v (nI x) := by
  obtain ⟨bg, mk, my, C, Q, AC, KS, NU, rfl, h1, h2⟩ := h
  obtain ⟨⟨q1, q2, q3⟩, q4, q5, q6⟩ := zn_pnt (T.1 3) b3
  have hf : ∀ w, zp_pn (T.1 3) x = w → post (zy_S (zp_sg T 3 w) bg mk my C Q AC KS NU) := by
    intro w e
    rw [e] at hp
    exact hp _ (zy_mk (zy_Psg (j := 3) h1 (by decide)) (zy_Csg (j := 3) h2 (by decide) (by decide)))
  unfold zp_pn at hf
  refine pk_eq x 0 (fun c => hf 0 (if_pos c)) (fun c => ?_)
  rw [if_neg c] at hf
  refine pk_eq x 1 (fun c => nm_r q1 (hf _ (if_pos c))) (fun c => ?_)
  rw [if_neg c] at hf
  refine pk_eq x 4 (fun c => nm_r q2 (hf _ (if_pos c))) (fun c => ?_)
  rw [if_neg c] at hf
  refine pk_eq x 7 (fun c => nm_r q3 (hf _ (if_pos c))) (fun c => ?_)
  rw [if_neg c] at hf
  refine pk_eq x 22 (fun c => nm_r q4 (hf _ (if_pos c))) (fun c => ?_)
  rw [if_neg c] at hf
  refine pk_eq x 24 (fun c => nm_r q5 (hf _ (if_pos c))) (fun c => ?_)
  rw [if_neg c] at hf
  refine pk_eq x 27 (fun c => nm_r q6 (hf _ (if_pos c))) (fun c => ?_)
  rw [if_neg c] at hf
  exact hf _ rfl
theorem zy_last_130 {post : SY → Prop} : ∀ (d i : Nat) (T : zz_T) (bg mk my : Int32) (C Q AC KS NU : zz_A), i + d = (if T.1 18 < 4 then T.1 18 else 4) → zp_ok T → zr_P True T bg mk my NU → zr_C T G C Q AC KS → (∀ v', zr_Y True v' (zp_cp d i T) G → post v') → ∀ n, d < n → wY_last_130 post n (nI i) (nI (T.1 0)) (nI (T.1 1)) (nI (T.1 3)) (nI (T.1 4)) (nI (T.1 5)) (nI (T.1 6)) (nI (T.1 7)) (nI (T.1 8)) (nI (T.1 2)) (nI (T.1 9)) (nI (T.1 10)) (nI (T.1 11)) (nI (T.1 12)) (nI (T.1 13)) (nI (T.1 14)) (nI (T.1 15)) (nI (T.1 24)) (nI (zy_st T)) bg mk my C Q AC KS NU := by
  intro d
  induction d with
  | zero =>
    intro i T bg mk my C Q AC KS NU hi hok h1 h2 hp n hn
    obtain ⟨m, rfl⟩ : ∃ m, n = m + 1 := ⟨n - 1, by omega⟩
    have b18 := zp_b18 hok
    obtain ⟨_, rfl, _⟩ := h1.2 trivial
    have hf := hp _ (zy_mk h1 h2)
    refine pk_le (T.1 18) i (fun c => hf) (fun c => ?_) rfl rfl (by omega) (by split at hi <;> omega)
    exact br_t (nI_le (a := 4) (by split at hi <;> omega) (by split at hi <;> omega)) hf
  | succ d ih =>
    intro i T bg mk my C Q AC KS NU hi hok h1 h2 hp n hn
    obtain ⟨m, rfl⟩ : ∃ m, n = m + 1 := ⟨n - 1, by omega⟩
    have b18 := zp_b18 hok
    have b3 := zp_b3 hok
    have i4 : i < 4 := by split at hi <;> omega
    have ic : i < T.1 18 := by split at hi <;> omega
    have b99 := (hok.2.1 i i4).1
    obtain ⟨_, rfl, hN⟩ := h1.2 trivial
    refine br_f (nI_ge ic (by omega)) (br_f (nI_ge (b := 4) i4 (by decide)) ⟨vp_in_nI i4 (by decide), ?_⟩)
    rw [nI_clamp (by omega), hN i i4]
    refine zy_paint (zy_mk h1 h2) b3 b99 (zy_k ?_)
    intro bg mk my C Q AC KS NU h1 h2
    exact nm_r (nI_1 i) (ih (i + 1) (zp_sg T 3 (zp_pn (T.1 3) (T.1 (20 + i)))) bg mk my C Q AC KS NU (by rw [show (zp_sg T 3 (zp_pn (T.1 3) (T.1 (20 + i)))).1 18 = T.1 18 from rfl]; omega) (zp_ok_sg hok (show _ < 8 from zp_pn8 b3) (by decide)) h1 h2 hp m (by omega))
theorem zy_least {post : Int32 → Prop} {v : SY} {a b : Nat} (ha : a < 2 ^ 31) (hb : b < 2 ^ 31) (hp : post (nI (zp_mn a b))) : wpY_least post v (nI a) (nI b) := by
  unfold zp_mn at hp
  refine pk_le b a (fun c => ?_) (fun c => ?_)
  · rw [if_pos c] at hp
    exact hp
  · rw [if_neg (by omega)] at hp
    exact hp
theorem zy_mv {post : SY → Prop} {r c : Nat} (h1 : zr_P p T bg mk my NU) (h2 : zr_C T G C Q AC KS) (hp : ∀ v', zr_Y p v' (zp_mv T r c) G → post v') : post (zy_S (zp_mv T r c) bg mk my C Q AC KS NU) :=
  hp _ (zy_mk (zy_Psg (j := 1) (zy_Psg (j := 0) h1 (by decide)) (by decide)) (zy_Csg (j := 1) (zy_Csg (j := 0) h2 (by decide) (by decide)) (by decide) (by decide)))
theorem zy_move_25 {post : SY → Prop} {n l : Nat} (h1 : zr_P p T bg mk my NU) (h2 : zr_C T G C Q AC KS) (b0 : T.1 0 < 6) (hn : n ≤ 99) (hl : l < 6) (hp : ∀ v', zr_Y p v' (zp_mv T (zp_mx (T.1 0 - n) l) (T.1 1)) G → post v') : wY_move_25 post (nI n) (nI l) (nI (T.1 0)) (nI (T.1 1)) (nI (T.1 3)) (nI (T.1 4)) (nI (T.1 5)) (nI (T.1 6)) (nI (T.1 7)) (nI (T.1 8)) (nI (T.1 2)) (nI (T.1 9)) (nI (T.1 10)) (nI (T.1 11)) (nI (T.1 12)) (nI (T.1 13)) (nI (T.1 14)) (nI (T.1 15)) (nI (T.1 24)) (nI (zy_st T)) bg mk my C Q AC KS NU := by
  have hf := zy_mv h1 h2 hp
  unfold zp_mx at hf
  unfold wY_move_25
  by_cases c : n ≤ T.1 0
  · rw [pk_sub c]
    refine pk_le l (T.1 0 - n) (fun c2 => nm_e ?_) (fun c2 => ?_)
    · by_cases c3 : T.1 0 - n ≤ l
      · rw [if_pos c3] at hf
        rw [show T.1 0 - n = l by omega]
        exact hf
      · rw [if_neg c3] at hf
        exact hf
    · rw [if_pos (by omega)] at hf
      exact hf
  · rw [if_pos (by omega)] at hf
    refine br_f ?_ hf
    rw [Int32.le_iff_toInt_le, pk_sub_toInt (by omega) (by omega), nI_toInt (by omega)]
    omega
theorem zy_move {v : SY} {post : SY → Prop} {b n q : Nat} (h : zr_Y p v T G) (hok : zp_ok T) (hb : (65 ≤ b ∧ b ≤ 68) ∨ b = 71 ∨ b = 72 ∨ b = 100) (hn : 1 ≤ n) (hn' : n ≤ 99) (hq : (if T.1 21 = 0 then 1 else T.1 21) = q) (hp : ∀ v', zr_Y p v' (zp_trv T b n) G → post v') : wpY_move post v (nI b) (nI n) (nI q) := by
  obtain ⟨bg, mk, my, C, Q, AC, KS, NU, rfl, h1, h2⟩ := h
  have b0 := zp_b0 hok
  have b1 := zp_b1 hok
  have b4 := zp_b4 hok
  have b5 := zp_b5 hok
  have b21 := zp_b21 hok
  have q1 : 1 ≤ q ∧ q ≤ 99 := by
    rw [← hq]
    split <;> omega
  have en : nI n - 1 = nI (n - 1) := pk_sub (b := 1) hn
  have eq : nI q - 1 = nI (q - 1) := pk_sub (b := 1) q1.1
  unfold zp_trv at hp
  unfold wpY_move zy_S
  dsimp only
  refine pk_eq b 65 (fun c => ?_) (fun c => ?_)
  · rw [if_pos c] at hp
    refine pk_lt (T.1 0) (T.1 4) (fun c => ?_) (fun c => ?_)
    · rw [if_pos c] at hp
      exact zy_move_25 (l := 0) h1 h2 b0 hn' (by decide) hp
    · rw [if_neg (by omega)] at hp
      exact zy_move_25 h1 h2 b0 hn' b4 hp
  rw [if_neg c] at hp
  rw [nI_add]
  refine pk_eq b 66 (fun c => ?_) (fun c => ?_)
  · rw [if_pos c] at hp
    refine pk_lt (T.1 5) (T.1 0) (fun c => ?_) (fun c => ?_)
    · rw [if_pos c] at hp
      exact zy_least (b := 5) (by omega) (by omega) (zy_mv h1 h2 hp)
    · rw [if_neg (by omega)] at hp
      exact zy_least (by omega) (by omega) (zy_mv h1 h2 hp)
  rw [if_neg c] at hp
  rw [nI_add]
  refine pk_eq b 67 (fun c => ?_) (fun c => ?_)
  · rw [if_pos c] at hp
    exact zy_least (b := 11) (by omega) (by omega) (zy_mv h1 h2 hp)
  rw [if_neg c] at hp
  refine pk_eq b 68 (fun c => ?_) (fun c => ?_)
  · rw [if_pos c] at hp
    have hf := zy_mv h1 h2 hp
    by_cases c2 : n ≤ T.1 1
    · rw [pk_sub c2]
      exact br_t (nI_pos' (by omega)) (nm_e hf)
    · refine br_f ?_ ?_
      · rw [Int32.le_iff_toInt_le, pk_sub_toInt (by omega) (by omega), show (0 : Int32).toInt = 0 from by decide]
        omega
      · rw [show T.1 1 - n = 0 by omega] at hf
        exact hf
  rw [if_neg c] at hp
  refine pk_eq b 71 (fun c => ?_) (fun c71 => ?_)
  · rw [if_pos c] at hp
    rw [c]
    refine br_f (by decide) (br_t rfl ?_)
    unfold wY_move_210
    rw [en]
    exact zy_least (b := 11) (by omega) (by omega) (zy_mv h1 h2 hp)
  rw [if_neg c71] at hp
  rw [en]
  refine zy_least (b := 5) (by omega) (by omega) ?_
  unfold wY_move_177
  refine pk_eq b 100 (fun c => ?_) (fun c100 => ?_)
  · rw [if_pos c] at hp
    exact zy_mv h1 h2 hp
  rw [if_neg c100, if_pos (by omega)] at hp
  refine br_f (fun e => c71 ((nI_eq (b := 71) (by omega) (by decide)).mp e)) ?_
  unfold wY_move_210
  rw [eq]
  refine zy_least (b := 11) (by omega) (by omega) ?_
  have e : (if T.1 21 = 0 then 0 else zp_mn (T.1 21 - 1) 11) = zp_mn (q - 1) 11 := by
    by_cases c0 : T.1 21 = 0
    · rw [if_pos c0] at hq ⊢
      rw [← hq]
      rfl
    · rw [if_neg c0] at hq ⊢
      rw [← hq]
  rw [e] at hp
  exact zy_mv h1 h2 hp
theorem zy_cut_97 {post : SY → Prop} {f e : Nat} (h1 : zr_P p T bg mk my NU) (h2 : zr_C T G C Q AC KS) (hf : f ≤ e + 1) (he : e < 72) (hp : ∀ v', zr_Y p v' (zp_E T f (e + 1)) G → post v') : wY_cut_97 post (nI e) (nI f) (nI (T.1 0)) (nI (T.1 1)) (nI (T.1 3)) (nI (T.1 4)) (nI (T.1 5)) (nI (T.1 6)) (nI (T.1 7)) (nI (T.1 8)) (nI (T.1 2)) (nI (T.1 9)) (nI (T.1 10)) (nI (T.1 11)) (nI (T.1 12)) (nI (T.1 13)) (nI (T.1 14)) (nI (T.1 15)) (nI (T.1 24)) (nI (zy_st T)) bg mk my C Q AC KS NU := by
  refine zy_empty (zy_mk h1 h2) hf he (zy_k ?_)
  intro bg mk my C Q AC KS NU h1 h2
  exact hp _ (zy_mk h1 h2)
theorem zp_er_eq (T : zz_T) (b q : Nat) (hq : q ≤ 2) (hb : b = 74 ∨ b = 75) (b0 : T.1 0 < 6) (b1 : T.1 1 < 12) : zp_er1 T b q = zp_E T (if q = 0 then 12 * T.1 0 + T.1 1 else if b = 74 then 0 else 12 * T.1 0) ((if q = 1 then 12 * T.1 0 + T.1 1 else if b = 74 then 71 else 12 * T.1 0 + 11) + 1) := by
  unfold zp_er1 zp_er2 zp_er3
  rcases (by omega : q = 0 ∨ q = 1 ∨ q = 2) with c | c | c
  · subst c
    rcases hb with c | c
    · subst c
      exact zp_E_E (f := 12 * T.1 0 + T.1 1) (g := 12 * T.1 0 + 12) (e := 72) (by omega) (by omega)
    · subst c
      rfl
  · subst c
    rcases hb with c | c
    · subst c
      exact zp_E_E' (f := 0) (g := 12 * T.1 0) (e := 12 * T.1 0 + T.1 1 + 1) (by omega) (by omega)
    · subst c
      rfl
  · subst c
    rcases hb with c | c
    · subst c
      show zp_E (zp_E (zp_E T (12 * T.1 0 + 0) (12 * T.1 0 + 12)) (12 * (T.1 0 + 1)) 72) 0 (12 * T.1 0) = zp_E T 0 (71 + 1)
      rw [show zp_E (zp_E T (12 * T.1 0 + 0) (12 * T.1 0 + 12)) (12 * (T.1 0 + 1)) 72 = zp_E T (12 * T.1 0) 72 from zp_E_E (f := 12 * T.1 0) (g := 12 * T.1 0 + 12) (e := 72) (by omega) (by omega)]
      exact zp_E_E' (f := 0) (g := 12 * T.1 0) (e := 72) (by omega) (by omega)
    · subst c
      rfl
/-- what the reference cuts -/
def zp_cut (T : zz_T) (b q n : Nat) : zz_T := if b = 80 then zp_shc T 0 n else if b = 64 then zp_shc T 1 n else zp_era T b q n
theorem zy_cut {v : SY} {post : SY → Prop} {b q n : Nat} (h : zr_Y p v T G) (hok : zp_ok T) (hb : b = 74 ∨ b = 75 ∨ b = 88 ∨ b = 80 ∨ b = 64) (hq : q ≤ 99) (hn : 1 ≤ n) (hn' : n ≤ 99) (hp : ∀ v', zr_Y p v' (zp_cut T b q n) G → post v') : wpY_cut post v (nI b) (nI q) (nI n) := by
  obtain ⟨bg, mk, my, C, Q, AC, KS, NU, rfl, h1, h2⟩ := h
  have b0 := zp_b0 hok
  have b1 := zp_b1 hok
  have e11 : 12 * nI (T.1 0) + 11 = nI (12 * T.1 0 + 11) := zn_12 (T.1 0) 11
  unfold zp_cut zp_era at hp
  have k68 : b = 74 ∨ b = 75 → ∀ f e, f = (if b = 74 then 0 else 12 * T.1 0) → e = (if b = 74 then 71 else 12 * T.1 0 + 11) → wY_cut_68 post (nI q) (nI (12 * T.1 0 + T.1 1)) (nI f) (nI e) (nI (T.1 0)) (nI (T.1 1)) (nI (T.1 3)) (nI (T.1 4)) (nI (T.1 5)) (nI (T.1 6)) (nI (T.1 7)) (nI (T.1 8)) (nI (T.1 2)) (nI (T.1 9)) (nI (T.1 10)) (nI (T.1 11)) (nI (T.1 12)) (nI (T.1 13)) (nI (T.1 14)) (nI (T.1 15)) (nI (T.1 24)) (nI (zy_st T)) bg mk my C Q AC KS NU := by
    intro hb f e ef ee
    rw [if_neg (by omega), if_neg (by omega), if_neg (by omega)] at hp
    unfold wY_cut_68
    refine pk_lt 2 q (fun c => ?_) (fun c => ?_)
    · rw [if_neg (by omega)] at hp
      exact hp _ (zy_mk h1 h2)
    · rw [if_pos c, zp_er_eq T b q c hb b0 b1, ← ef, ← ee] at hp
      have hff : f ≤ 12 * T.1 0 := by
        rw [ef]
        split <;> omega
      have hee : 12 * T.1 0 + 11 ≤ e ∧ e < 72 := by
        rw [ee]
        split <;> omega
      refine pk_eq q 0 (fun c0 => ?_) (fun c0 => ?_)
      · rw [if_pos c0] at hp
        refine pk_eq q 1 (fun c1 => absurd c1 (by omega)) (fun c1 => ?_)
        rw [if_neg c1] at hp
        exact zy_cut_97 h1 h2 (by omega) (by omega) hp
      · rw [if_neg c0] at hp
        refine pk_eq q 1 (fun c1 => ?_) (fun c1 => ?_)
        · rw [if_pos c1] at hp
          exact zy_cut_97 h1 h2 (by omega) (by omega) hp
        · rw [if_neg c1] at hp
          exact zy_cut_97 h1 h2 (by omega) (by omega) hp
  have k54 : b = 88 ∨ b = 80 ∨ b = 64 → ∀ x5 z0, wY_cut_54 post (nI b) (nI q) (nI n) (nI (12 * T.1 0 + T.1 1)) x5 z0 (nI (T.1 0)) (nI (T.1 1)) (nI (T.1 3)) (nI (T.1 4)) (nI (T.1 5)) (nI (T.1 6)) (nI (T.1 7)) (nI (T.1 8)) (nI (T.1 2)) (nI (T.1 9)) (nI (T.1 10)) (nI (T.1 11)) (nI (T.1 12)) (nI (T.1 13)) (nI (T.1 14)) (nI (T.1 15)) (nI (T.1 24)) (nI (zy_st T)) bg mk my C Q AC KS NU := by
    intro hb x5 z0
    unfold wY_cut_54
    rw [e11, nI_add, show nI (12 * T.1 0 + T.1 1 + n) - 1 = nI (12 * T.1 0 + T.1 1 + n - 1) from pk_sub (b := 1) (by omega)]
    refine pk_eq b 74 (fun c => absurd c (by omega)) (fun c74 => ?_)
    refine pk_eq b 75 (fun c => absurd c (by omega)) (fun c75 => ?_)
    refine pk_eq b 88 (fun c => ?_) (fun c88 => ?_)
    · rw [if_neg (by omega), if_neg (by omega), if_pos c] at hp
      have em : 12 * T.1 0 + zp_mn (T.1 1 + n) 12 = zp_mn (12 * T.1 0 + T.1 1 + n - 1) (12 * T.1 0 + 11) + 1 := by
        unfold zp_mn
        (repeat' split) <;> omega
      rw [em] at hp
      have em2 : zp_mn (12 * T.1 0 + T.1 1 + n - 1) (12 * T.1 0 + 11) < 72 := zp_mn_lt (by omega)
      have em3 : 12 * T.1 0 + T.1 1 ≤ zp_mn (12 * T.1 0 + T.1 1 + n - 1) (12 * T.1 0 + 11) := by
        unfold zp_mn
        split <;> omega
      refine zy_least (by omega) (by omega) (zy_empty (zy_mk h1 h2) (by omega) em2 (zy_k ?_))
      intro bg mk my C Q AC KS NU h1 h2
      exact hp _ (zy_mk h1 h2)
    refine pk_eq b 80 (fun c => ?_) (fun c80 => ?_)
    · rw [if_pos c] at hp
      refine zy_takeOut (zy_mk h1 h2) (by omega) b0 b1 (zy_k ?_)
      intro bg mk my C Q AC KS NU h1 h2
      exact hp _ (zy_mk h1 h2)
    · rw [if_neg c80, if_pos (by omega)] at hp
      refine zy_putIn (zy_mk h1 h2) (by omega) b0 b1 (zy_k ?_)
      intro bg mk my C Q AC KS NU h1 h2
      exact hp _ (zy_mk h1 h2)
  unfold wpY_cut zy_S
  dsimp only
  rw [zn_12, zn_12']
  refine nm_e (pk_eq b 74 (fun c => ?_) (fun c74 => ?_))
  · refine pk_eq b 74 (fun _ => ?_) (fun c' => absurd c c')
    refine pk_eq b 74 (fun _ => ?_) (fun c' => absurd c c')
    exact k68 (Or.inl c) 0 71 (if_pos c).symm (if_pos c).symm
  · refine pk_eq b 74 (fun c' => absurd c' c74) (fun _ => ?_)
    rw [e11]
    by_cases c75 : b = 75
    · refine pk_eq b 74 (fun c' => absurd c' c74) (fun _ => ?_)
      refine pk_eq b 75 (fun _ => ?_) (fun c' => absurd c75 c')
      exact k68 (Or.inr c75) _ _ (if_neg c74).symm (if_neg c74).symm
    · exact k54 (by omega) _ _
end
end
section
/-! the reference: rows, known sequences -/
section
variable {p : Prop} {T : zz_T} {G : Nat → Nat} {bg mk my : Int32} {C Q AC KS NU : zz_A}
theorem zy_mr83 {post : SY → Prop} {e : Nat} {x3 x4 : Int32} (he : e < 1000) : ∀ (d k : Nat) (T : zz_T) (bg mk my : Int32) (C Q AC KS NU : zz_A), k + d = e → zp_ok T → zr_P p T bg mk my NU → zr_C T G C Q AC KS → (∀ v', zr_Y p v' (zp_SU d T) G → post v') → ∀ n, d < n → wY_moveRows_37 post (nI 83) (nI e) x3 x4 n (nI k) (nI (T.1 0)) (nI (T.1 1)) (nI (T.1 3)) (nI (T.1 4)) (nI (T.1 5)) (nI (T.1 6)) (nI (T.1 7)) (nI (T.1 8)) (nI (T.1 2)) (nI (T.1 9)) (nI (T.1 10)) (nI (T.1 11)) (nI (T.1 12)) (nI (T.1 13)) (nI (T.1 14)) (nI (T.1 15)) (nI (T.1 24)) (nI (zy_st T)) bg mk my C Q AC KS NU := by
  intro d
  induction d with
  | zero =>
    intro k T bg mk my C Q AC KS NU hk hok h1 h2 hp n hn
    obtain ⟨m, rfl⟩ : ∃ m, n = m + 1 := ⟨n - 1, by omega⟩
    have hf := hp _ (zy_mk h1 h2)
    exact br_t (nI_le (by omega) (by omega)) (br_c (fun _ => hf) (fun _ => br_f (by decide) (br_f (by decide) hf)))
  | succ d ih =>
    intro k T bg mk my C Q AC KS NU hk hok h1 h2 hp n hn
    obtain ⟨m, rfl⟩ : ∃ m, n = m + 1 := ⟨n - 1, by omega⟩
    refine br_f (nI_ge (by omega) (by omega)) (br_t rfl (zy_scrollUp (zy_mk h1 h2) hok (zy_k ?_)))
    intro bg mk my C Q AC KS NU h1 h2
    exact nm_r (nI_1 k) (ih (k + 1) (zp_S1 T) bg mk my C Q AC KS NU (by omega) (zp_ok_S1 hok) h1 h2 hp m (by omega))
theorem zy_mr84 {post : SY → Prop} {e : Nat} {x3 x4 : Int32} (he : e < 1000) : ∀ (d k : Nat) (T : zz_T) (bg mk my : Int32) (C Q AC KS NU : zz_A), k + d = e → zp_ok T → zr_P p T bg mk my NU → zr_C T G C Q AC KS → (∀ v', zr_Y p v' (zp_SD d T) G → post v') → ∀ n, d < n → wY_moveRows_37 post (nI 84) (nI e) x3 x4 n (nI k) (nI (T.1 0)) (nI (T.1 1)) (nI (T.1 3)) (nI (T.1 4)) (nI (T.1 5)) (nI (T.1 6)) (nI (T.1 7)) (nI (T.1 8)) (nI (T.1 2)) (nI (T.1 9)) (nI (T.1 10)) (nI (T.1 11)) (nI (T.1 12)) (nI (T.1 13)) (nI (T.1 14)) (nI (T.1 15)) (nI (T.1 24)) (nI (zy_st T)) bg mk my C Q AC KS NU := by
  intro d
  induction d with
  | zero =>
    intro k T bg mk my C Q AC KS NU hk hok h1 h2 hp n hn
    obtain ⟨m, rfl⟩ : ∃ m, n = m + 1 := ⟨n - 1, by omega⟩
    have hf := hp _ (zy_mk h1 h2)
    exact br_t (nI_le (by omega) (by omega)) (br_c (fun _ => hf) (fun _ => br_f (by decide) (br_f (by decide) hf)))
  | succ d ih =>
    intro k T bg mk my C Q AC KS NU hk hok h1 h2 hp n hn
    obtain ⟨m, rfl⟩ : ∃ m, n = m + 1 := ⟨n - 1, by omega⟩
    refine br_f (nI_ge (by omega) (by omega)) (br_f (by decide) (br_t rfl (zy_rowsDown (zy_mk h1 h2) (zp_btb hok) (zp_b5 hok) (zy_k ?_))))
    intro bg mk my C Q AC KS NU h1 h2
    exact nm_r (nI_1 k) (ih (k + 1) (zp_D1 T) bg mk my C Q AC KS NU (by omega) (zp_ok_D1 hok) h1 h2 hp m (by omega))
theorem zy_mrout {post : SY → Prop} {b e : Nat} {x4 : Int32} (he : e < 1000) (hb : b = 76 ∨ b = 77) (hp : post (zy_S T bg mk my C Q AC KS NU)) : ∀ (d k : Nat), k + d = e → ∀ n, d < n → wY_moveRows_37 post (nI b) (nI e) 0 x4 n (nI k) (nI (T.1 0)) (nI (T.1 1)) (nI (T.1 3)) (nI (T.1 4)) (nI (T.1 5)) (nI (T.1 6)) (nI (T.1 7)) (nI (T.1 8)) (nI (T.1 2)) (nI (T.1 9)) (nI (T.1 10)) (nI (T.1 11)) (nI (T.1 12)) (nI (T.1 13)) (nI (T.1 14)) (nI (T.1 15)) (nI (T.1 24)) (nI (zy_st T)) bg mk my C Q AC KS NU := by
  intro d
  induction d with
  | zero =>
    intro k hk n hn
    obtain ⟨m, rfl⟩ : ∃ m, n = m + 1 := ⟨n - 1, by omega⟩
    exact br_t (nI_le (by omega) (by omega)) (br_t rfl hp)
  | succ d ih =>
    intro k hk n hn
    obtain ⟨m, rfl⟩ : ∃ m, n = m + 1 := ⟨n - 1, by omega⟩
    refine br_f (nI_ge (by omega) (by omega)) (pk_eq b 83 (fun c => absurd c (by omega)) (fun _ => pk_eq b 84 (fun c => absurd c (by omega)) (fun _ => br_t rfl (br_t rfl (nm_r (nI_1 k) (ih (k + 1) (by omega) m (by omega)))))))
theorem zy_mrin {post : SY → Prop} {i r e : Nat} (he : e < 1000) (hi : i < 2) (hr : r ≤ T.1 5) (hb5 : T.1 5 < 6)
    (hp : ∀ v', zr_Y p v' (zp_sg (if i = 0 then zp_U T (12 * r) (12 * T.1 5 + 12) (12 * e) else zp_D T (12 * r) (12 * T.1 5 + 12) (12 * e)) 1 0) G → post v') :
    ∀ (d k : Nat) (bg mk my : Int32) (C Q AC KS NU : zz_A), k + d = e → zr_P p T bg mk my NU → zr_C (if i = 0 then zp_U T (12 * r) (12 * T.1 5 + 12) (12 * k) else zp_D T (12 * r) (12 * T.1 5 + 12) (12 * k)) G C Q AC KS → ∀ n, d < n → wY_moveRows_37 post (nI (if i = 0 then 77 else 76)) (nI e) 1 (nI r) n (nI k) (nI (T.1 0)) (nI (T.1 1)) (nI (T.1 3)) (nI (T.1 4)) (nI (T.1 5)) (nI (T.1 6)) (nI (T.1 7)) (nI (T.1 8)) (nI (T.1 2)) (nI (T.1 9)) (nI (T.1 10)) (nI (T.1 11)) (nI (T.1 12)) (nI (T.1 13)) (nI (T.1 14)) (nI (T.1 15)) (nI (T.1 24)) (nI (zy_st T)) bg mk my C Q AC KS NU := by
  intro d
  induction d with
  | zero =>
    intro k bg mk my C Q AC KS NU hk h1 h2 n hn
    obtain ⟨m, rfl⟩ : ∃ m, n = m + 1 := ⟨n - 1, by omega⟩
    have ke : k = e := by omega
    subst ke
    refine br_t (nI_le (by omega) (by omega)) (br_f (by decide) ?_)
    by_cases c : i = 0
    · rw [if_pos c] at hp h2 ⊢
      have hf := hp _ (zy_mk (bg := bg) (mk := mk) (my := my) (NU := NU) (zy_Psg (j := 1) (T := zp_U T (12 * r) (12 * T.1 5 + 12) (12 * k)) h1 (by decide)) (zy_Csg (j := 1) h2 (by decide) (by decide)))
      exact br_f (by decide) (br_t rfl hf)
    · rw [if_neg c] at hp h2 ⊢
      have hf := hp _ (zy_mk (bg := bg) (mk := mk) (my := my) (NU := NU) (zy_Psg (j := 1) (T := zp_D T (12 * r) (12 * T.1 5 + 12) (12 * k)) h1 (by decide)) (zy_Csg (j := 1) h2 (by decide) (by decide)))
      exact br_t rfl hf
  | succ d ih =>
    intro k bg mk my C Q AC KS NU hk h1 h2 n hn
    obtain ⟨m, rfl⟩ : ∃ m, n = m + 1 := ⟨n - 1, by omega⟩
    refine br_f (nI_ge (by omega) (by omega)) ?_
    by_cases c : i = 0
    · have ih' := ih (k + 1)
      rw [if_pos c] at h2 ⊢
      rw [if_pos c, if_pos c] at ih'
      refine br_f (by decide) (br_f (by decide) (br_f (by decide) (br_f (by decide) (br_f (by decide) ?_))))
      refine zy_rowsUp (zy_mk (T := zp_U T (12 * r) (12 * T.1 5 + 12) (12 * k)) h1 h2) hr hb5 (zy_k ?_)
      intro bg mk my C Q AC KS NU h1 h2
      refine nm_r (nI_1 k) (ih' bg mk my C Q AC KS NU (by omega) h1 ?_ m (by omega))
      rw [show 12 * (k + 1) = 12 * k + 12 by omega, ← zp_U_add]
      exact h2
    · have ih' := ih (k + 1)
      rw [if_neg c] at h2 ⊢
      rw [if_neg c, if_neg c] at ih'
      refine br_f (by decide) (br_f (by decide) (br_f (by decide) (br_t rfl ?_)))
      refine zy_rowsDown (zy_mk (T := zp_D T (12 * r) (12 * T.1 5 + 12) (12 * k)) h1 h2) hr hb5 (zy_k ?_)
      intro bg mk my C Q AC KS NU h1 h2
      refine nm_r (nI_1 k) (ih' bg mk my C Q AC KS NU (by omega) h1 ?_ m (by omega))
      rw [show 12 * (k + 1) = 12 * k + 12 by omega, ← zp_D_add]
      exact h2
def zp_mr (T : zz_T) (b n : Nat) : zz_T := if b = 76 then zp_shr T 1 n else if b = 77 then zp_shr T 0 n else if b = 83 then zp_SU n T else zp_SD n T
theorem zy_moveRows {v : SY} {post : SY → Prop} {b n : Nat} (h : zr_Y p v T G) (hok : zp_ok T) (hb : b = 76 ∨ b = 77 ∨ b = 83 ∨ b = 84) (hn : n ≤ 99) (hp : ∀ v', zr_Y p v' (zp_mr T b n) G → post v') : wpY_moveRows post v (nI b) (nI n) := by
  obtain ⟨bg, mk, my, C, Q, AC, KS, NU, rfl, h1, h2⟩ := h
  have b0 := zp_b0 hok
  have b4 := zp_b4 hok
  have b5 := zp_b5 hok
  unfold zp_mr at hp
  have k8 : b = 83 ∨ b = 84 → ∀ x3 x4, ∃ m, wY_moveRows_37 post (nI b) (nI n) x3 x4 m (nI 0) (nI (T.1 0)) (nI (T.1 1)) (nI (T.1 3)) (nI (T.1 4)) (nI (T.1 5)) (nI (T.1 6)) (nI (T.1 7)) (nI (T.1 8)) (nI (T.1 2)) (nI (T.1 9)) (nI (T.1 10)) (nI (T.1 11)) (nI (T.1 12)) (nI (T.1 13)) (nI (T.1 14)) (nI (T.1 15)) (nI (T.1 24)) (nI (zy_st T)) bg mk my C Q AC KS NU := by
    intro hb x3 x4
    rw [if_neg (by omega), if_neg (by omega)] at hp
    rcases hb with c | c
    · subst c
      exact ⟨n + 1, zy_mr83 (by omega) n 0 T bg mk my C Q AC KS NU (by omega) hok h1 h2 hp _ (by omega)⟩
    · subst c
      exact ⟨n + 1, zy_mr84 (by omega) n 0 T bg mk my C Q AC KS NU (by omega) hok h1 h2 hp _ (by omega)⟩
  by_cases c8 : b = 83 ∨ b = 84
  · unfold wpY_moveRows zy_S
    dsimp only
    exact br_c (fun _ => k8 c8 _ _) (fun _ => br_c (fun _ => k8 c8 _ _) (fun _ => k8 c8 _ _))
  · have hb' : ∃ i, i < 2 ∧ b = (if i = 0 then 77 else 76) := by
      rcases (by omega : b = 76 ∨ b = 77) with c | c
      · exact ⟨1, by decide, c⟩
      · exact ⟨0, by decide, c⟩
    obtain ⟨i, hi, rfl⟩ := hb'
    have ep : (if (if i = 0 then 77 else 76) = 76 then zp_shr T 1 n else if (if i = 0 then 77 else 76) = 77 then zp_shr T 0 n else if (if i = 0 then 77 else 76) = 83 then zp_SU n T else zp_SD n T) = zp_shr T i n := by
      rcases (by omega : i = 0 ∨ i = 1) with c | c <;> subst c <;> rfl
    rw [ep] at hp
    unfold zp_shr at hp
    have h76 : (if i = 0 then 77 else 76) = 76 ∨ (if i = 0 then 77 else 76) = 77 := by
      split <;> omega
    unfold wpY_moveRows zy_S
    dsimp only
    refine pk_lt (T.1 0) (T.1 4) (fun c => ?_) (fun c => ?_)
    · rw [if_pos c] at hp
      exact ⟨n + 1, zy_mrout (by omega) h76 (hp _ (zy_mk h1 h2)) n 0 (by omega) _ (by omega)⟩
    rw [if_neg (by omega)] at hp
    refine pk_lt (T.1 5) (T.1 0) (fun c => ?_) (fun c => ?_)
    · rw [if_neg (by omega)] at hp
      exact ⟨n + 1, zy_mrout (by omega) h76 (hp _ (zy_mk h1 h2)) n 0 (by omega) _ (by omega)⟩
    · rw [if_pos c] at hp
      refine ⟨n + 1, zy_mrin (p := p) (G := G) (by omega) hi c b5 ?_ n 0 bg mk my C Q AC KS NU (by omega) h1 ?_ _ (by omega)⟩
      · intro v' hv
        refine hp v' ?_
        by_cases c0 : i = 0
        · rw [if_pos c0] at hv ⊢
          exact hv
        · rw [if_neg c0] at hv ⊢
          exact hv
      · rw [Nat.mul_zero, zp_U_0, zp_D_0, ite_self]
        exact h2
def zp_fm (b : Nat) : Nat := if 65 ≤ b ∧ b ≤ 68 then 1 else if b = 71 then 1 else if b = 72 then 1 else if b = 100 then 1 else 0
def zp_fc (b : Nat) : Nat := if b = 74 then 1 else if b = 75 then 1 else if b = 88 then 1 else if b = 80 then 1 else if b = 64 then 1 else 0
def zp_fr (b : Nat) : Nat := if b = 76 then 1 else if b = 77 then 1 else if b = 83 then 1 else if b = 84 then 1 else if b = 114 then 1 else 0
theorem zp_flags1 : ∀ b, b < 128 → (zp_fm b = 0 ∨ zp_fm b = 1) ∧ (zp_fc b = 0 ∨ zp_fc b = 1) ∧ (zp_fr b = 0 ∨ zp_fr b = 1) := by decide +kernel
theorem zp_flags2 : ∀ b, b < 128 → (zp_fm b = 1 → (65 ≤ b ∧ b ≤ 68) ∨ b = 71 ∨ b = 72 ∨ b = 100) ∧ (zp_fc b = 1 → b = 74 ∨ b = 75 ∨ b = 88 ∨ b = 80 ∨ b = 64) ∧ (zp_fr b = 1 → b = 76 ∨ b = 77 ∨ b = 83 ∨ b = 84 ∨ b = 114) := by decide +kernel
theorem zp_flags3 : ∀ b, b < 128 → (zp_fm b = 0 → zp_fc b = 0 → zp_fr b = 0 → zp_kk b = 0 ∧ b ≠ 114) ∧ (zp_fm b = 1 ∨ zp_fc b = 1 ∨ zp_fr b = 1 → zp_kk b = 1) := by decide +kernel
theorem zp_flags (b : Nat) (hb : b < 128) : (zp_fm b = 0 ∨ zp_fm b = 1) ∧ (zp_fc b = 0 ∨ zp_fc b = 1) ∧ (zp_fr b = 0 ∨ zp_fr b = 1) ∧ (zp_fm b = 1 → (65 ≤ b ∧ b ≤ 68) ∨ b = 71 ∨ b = 72 ∨ b = 100) ∧ (zp_fc b = 1 → b = 74 ∨ b = 75 ∨ b = 88 ∨ b = 80 ∨ b = 64) ∧ (zp_fr b = 1 → b = 76 ∨ b = 77 ∨ b = 83 ∨ b = 84 ∨ b = 114) ∧ (zp_fm b = 0 → zp_fc b = 0 → zp_fr b = 0 → zp_kk b = 0 ∧ b ≠ 114) ∧ (zp_fm b = 1 ∨ zp_fc b = 1 ∨ zp_fr b = 1 → zp_kk b = 1) :=
  ⟨(zp_flags1 b hb).1, (zp_flags1 b hb).2.1, (zp_flags1 b hb).2.2, (zp_flags2 b hb).1, (zp_flags2 b hb).2.1, (zp_flags2 b hb).2.2, (zp_flags3 b hb).1, (zp_flags3 b hb).2⟩
theorem zy_known_c {post : SY → Prop} {b : Nat} {x2 x3 x4 : Int32} (hb : b < 128) (H : wY_known_109 post (nI b) x2 x3 x4 (nI (zp_fm b)) (nI (zp_fc b)) (nI (zp_fr b)) (nI (T.1 0)) (nI (T.1 1)) (nI (T.1 3)) (nI (T.1 4)) (nI (T.1 5)) (nI (T.1 6)) (nI (T.1 7)) (nI (T.1 8)) (nI (T.1 2)) (nI (T.1 9)) (nI (T.1 10)) (nI (T.1 11)) (nI (T.1 12)) (nI (T.1 13)) (nI (T.1 14)) (nI (T.1 15)) (nI (T.1 24)) (nI (zy_st T)) bg mk my C Q AC KS NU) : wpY_known post (zy_S T bg mk my C Q AC KS NU) (nI b) x2 x3 x4 := by
  have k72 : wY_known_72 post (nI b) x2 x3 x4 (nI (zp_fm b)) (nI (zp_fc b)) (nI (T.1 0)) (nI (T.1 1)) (nI (T.1 3)) (nI (T.1 4)) (nI (T.1 5)) (nI (T.1 6)) (nI (T.1 7)) (nI (T.1 8)) (nI (T.1 2)) (nI (T.1 9)) (nI (T.1 10)) (nI (T.1 11)) (nI (T.1 12)) (nI (T.1 13)) (nI (T.1 14)) (nI (T.1 15)) (nI (T.1 24)) (nI (zy_st T)) bg mk my C Q AC KS NU := by
    have k1 : zp_fr b = 1 → wY_known_104 post (nI b) x2 x3 x4 (nI (zp_fm b)) (nI (zp_fc b)) (nI (T.1 0)) (nI (T.1 1)) (nI (T.1 3)) (nI (T.1 4)) (nI (T.1 5)) (nI (T.1 6)) (nI (T.1 7)) (nI (T.1 8)) (nI (T.1 2)) (nI (T.1 9)) (nI (T.1 10)) (nI (T.1 11)) (nI (T.1 12)) (nI (T.1 13)) (nI (T.1 14)) (nI (T.1 15)) (nI (T.1 24)) (nI (zy_st T)) bg mk my C Q AC KS NU := by
      intro e
      rw [e] at H
      exact H
    unfold wY_known_72
    refine pk_eq b 76 (fun c => k1 ?_) (fun c1 => ?_)
    · rw [zp_fr, if_pos c]
    refine pk_eq b 77 (fun c => k1 ?_) (fun c2 => ?_)
    · rw [zp_fr, if_neg c1, if_pos c]
    refine pk_eq b 83 (fun c => k1 ?_) (fun c3 => ?_)
    · rw [zp_fr, if_neg c1, if_neg c2, if_pos c]
    refine pk_eq b 84 (fun c => k1 ?_) (fun c4 => ?_)
    · rw [zp_fr, if_neg c1, if_neg c2, if_neg c3, if_pos c]
    refine pk_eq b 114 (fun c => k1 ?_) (fun c5 => ?_)
    · rw [zp_fr, if_neg c1, if_neg c2, if_neg c3, if_neg c4, if_pos c]
    have e : zp_fr b = 0 := by rw [zp_fr, if_neg c1, if_neg c2, if_neg c3, if_neg c4, if_neg c5]
    rw [e] at H
    exact H
  have k35 : wY_known_35 post (nI b) x2 x3 x4 (nI (zp_fm b)) (nI (T.1 0)) (nI (T.1 1)) (nI (T.1 3)) (nI (T.1 4)) (nI (T.1 5)) (nI (T.1 6)) (nI (T.1 7)) (nI (T.1 8)) (nI (T.1 2)) (nI (T.1 9)) (nI (T.1 10)) (nI (T.1 11)) (nI (T.1 12)) (nI (T.1 13)) (nI (T.1 14)) (nI (T.1 15)) (nI (T.1 24)) (nI (zy_st T)) bg mk my C Q AC KS NU := by
    have k1 : zp_fc b = 1 → wY_known_67 post (nI b) x2 x3 x4 (nI (zp_fm b)) (nI (T.1 0)) (nI (T.1 1)) (nI (T.1 3)) (nI (T.1 4)) (nI (T.1 5)) (nI (T.1 6)) (nI (T.1 7)) (nI (T.1 8)) (nI (T.1 2)) (nI (T.1 9)) (nI (T.1 10)) (nI (T.1 11)) (nI (T.1 12)) (nI (T.1 13)) (nI (T.1 14)) (nI (T.1 15)) (nI (T.1 24)) (nI (zy_st T)) bg mk my C Q AC KS NU := by
      intro e
      rw [e] at k72
      exact k72
    unfold wY_known_35
    refine pk_eq b 74 (fun c => k1 ?_) (fun c1 => ?_)
    · rw [zp_fc, if_pos c]
    refine pk_eq b 75 (fun c => k1 ?_) (fun c2 => ?_)
    · rw [zp_fc, if_neg c1, if_pos c]
    refine pk_eq b 88 (fun c => k1 ?_) (fun c3 => ?_)
    · rw [zp_fc, if_neg c1, if_neg c2, if_pos c]
    refine pk_eq b 80 (fun c => k1 ?_) (fun c4 => ?_)
    · rw [zp_fc, if_neg c1, if_neg c2, if_neg c3, if_pos c]
    refine pk_eq b 64 (fun c => k1 ?_) (fun c5 => ?_)
    · rw [zp_fc, if_neg c1, if_neg c2, if_neg c3, if_neg c4, if_pos c]
    have e : zp_fc b = 0 := by rw [zp_fc, if_neg c1, if_neg c2, if_neg c3, if_neg c4, if_neg c5]
    rw [e] at k72
    exact k72
  have k1 : zp_fm b = 1 → wY_known_30 post (nI b) x2 x3 x4 (nI (T.1 0)) (nI (T.1 1)) (nI (T.1 3)) (nI (T.1 4)) (nI (T.1 5)) (nI (T.1 6)) (nI (T.1 7)) (nI (T.1 8)) (nI (T.1 2)) (nI (T.1 9)) (nI (T.1 10)) (nI (T.1 11)) (nI (T.1 12)) (nI (T.1 13)) (nI (T.1 14)) (nI (T.1 15)) (nI (T.1 24)) (nI (zy_st T)) bg mk my C Q AC KS NU := by
    intro e
    rw [e] at k35
    exact k35
  have k12 : ¬ (65 ≤ b ∧ b ≤ 68) → wY_known_12 post (nI b) x2 x3 x4 (nI (T.1 0)) (nI (T.1 1)) (nI (T.1 3)) (nI (T.1 4)) (nI (T.1 5)) (nI (T.1 6)) (nI (T.1 7)) (nI (T.1 8)) (nI (T.1 2)) (nI (T.1 9)) (nI (T.1 10)) (nI (T.1 11)) (nI (T.1 12)) (nI (T.1 13)) (nI (T.1 14)) (nI (T.1 15)) (nI (T.1 24)) (nI (zy_st T)) bg mk my C Q AC KS NU := by
    intro c0
    unfold wY_known_12
    refine pk_eq b 71 (fun c => k1 ?_) (fun c1 => ?_)
    · rw [zp_fm, if_neg c0, if_pos c]
    refine pk_eq b 72 (fun c => k1 ?_) (fun c2 => ?_)
    · rw [zp_fm, if_neg c0, if_neg c1, if_pos c]
    refine pk_eq b 100 (fun c => k1 ?_) (fun c3 => ?_)
    · rw [zp_fm, if_neg c0, if_neg c1, if_neg c2, if_pos c]
    have e : zp_fm b = 0 := by rw [zp_fm, if_neg c0, if_neg c1, if_neg c2, if_neg c3]
    rw [e] at k35
    exact k35
  unfold wpY_known zy_S
  dsimp only
  refine pk_lt b 65 (fun c => k12 (by omega)) (fun c => ?_)
  refine pk_le b 68 (fun c' => k1 ?_) (fun c' => k12 (by omega))
  rw [zp_fm, if_pos ⟨c, c'⟩]
theorem zy_known {v : SY} {post : SY → Prop} {b q0 q n : Nat} (h : zr_Y p v T G) (hok : zp_ok T) (hb : b < 128) (hq0 : T.1 20 = q0) (hq : T.1 21 = q) (hn : (if q0 = 0 then 1 else q0) = n) (hp : ∀ v', zr_Y p v' (if zp_kk b = 1 then zp_kno T b else T) G → post v') : wpY_known post v (nI b) (nI q0) (nI q) (nI n) := by
  obtain ⟨bg, mk, my, C, Q, AC, KS, NU, rfl, h1, h2⟩ := h
  have b2 := zp_b2 hok
  have b20 := zp_b20 hok
  have b21 := zp_b21 hok
  have hn1 : 1 ≤ n ∧ n ≤ 99 := by
    rw [← hn]
    split <;> omega
  have ok2 := zp_ok_20 hok
  have h1' : zr_P p (zp_sg T 2 0) bg mk my NU := zy_Psg (j := 2) h1 (by decide)
  have h2' : zr_C (zp_sg T 2 0) G C Q AC KS := zy_Csg (j := 2) h2 (by decide) (by decide)
  obtain ⟨f5, f6, f7, m5, m6, m7, m0, mkk⟩ := zp_flags b hb
  refine zy_known_c hb ?_
  have main : zp_fm b = 1 ∨ zp_fc b = 1 ∨ zp_fr b = 1 → wY_known_139 post (nI b) (nI q0) (nI q) (nI n) (nI (zp_fm b)) (nI (zp_fc b)) (nI (zp_fr b)) 0 (nI (T.1 0)) (nI (T.1 1)) (nI (T.1 3)) (nI (T.1 4)) (nI (T.1 5)) (nI (T.1 6)) (nI (T.1 7)) (nI (T.1 8)) (nI (T.1 2)) (nI (T.1 9)) (nI (T.1 10)) (nI (T.1 11)) (nI (T.1 12)) (nI (T.1 13)) (nI (T.1 14)) (nI (T.1 15)) (nI (T.1 24)) (nI (zy_st T)) bg mk my C Q AC KS NU := by
    intro hk
    rw [if_pos (mkk hk)] at hp
    unfold zp_kno at hp
    rw [hq0, hn] at hp
    refine ⟨rfl, rfl, ?_⟩
    rcases f5 with e5 | e5
    · rw [e5]
      refine br_t rfl ?_
      rcases f6 with e6 | e6
      · rw [e6]
        refine br_t rfl ?_
        have e7 : zp_fr b = 1 := by omega
        have m7' := m7 e7
        rw [e7]
        refine pk_eq b 114 (fun c => ?_) (fun c => ?_)
        · have e : zp_kn1 (zp_sg T 2 0) b q0 n = zp_reg (zp_sg T 2 0) n (if (zp_sg T 2 0).1 21 = 0 then 6 else (zp_sg T 2 0).1 21) := by
            rw [c]
            rfl
          rw [e, show (zp_sg T 2 0).1 21 = q from hq] at hp
          have k198 : ∀ w, (if q = 0 then 6 else q) = w → wY_known_198 post (nI n) (nI w) (nI (T.1 0)) (nI (T.1 1)) (nI (T.1 3)) (nI (T.1 4)) (nI (T.1 5)) (nI (T.1 6)) (nI (T.1 7)) (nI (T.1 8)) 0 (nI (T.1 9)) (nI (T.1 10)) (nI (T.1 11)) (nI (T.1 12)) (nI (T.1 13)) (nI (T.1 14)) (nI (T.1 15)) (nI (T.1 24)) (nI (zy_st T)) bg mk my C Q AC KS NU := by
            intro w ew
            have hw : w ≤ 99 := by
              rw [← ew]
              split <;> omega
            rw [ew] at hp
            unfold zp_reg at hp
            unfold wY_known_198
            refine pk_le w n (fun c => ?_) (fun c => ?_)
            · rw [if_pos c] at hp
              exact hp _ (zy_mk h1' h2')
            rw [if_neg (by omega)] at hp
            refine pk_lt 6 w (fun c => ?_) (fun c => ?_)
            · rw [if_pos c] at hp
              exact hp _ (zy_mk h1' h2')
            rw [if_neg (by omega)] at hp
            refine nm_r (show nI n - 1 = nI (n - 1) from pk_sub (b := 1) (by omega)) (nm_r (show nI w - 1 = nI (w - 1) from pk_sub (b := 1) (by omega)) ?_)
            exact hp _ (zy_mk (T := zp_mv (zp_rg (zp_sg T 2 0) (n - 1) (w - 1)) 0 0) (zy_Psg (j := 1) (zy_Psg (j := 0) (zy_Psg (j := 5) (zy_Psg (j := 4) h1' (by decide)) (by decide)) (by decide)) (by decide)) (zy_Csg (j := 1) (zy_Csg (j := 0) (zy_Csg (j := 5) (zy_Csg (j := 4) h2' (by decide) (by decide)) (by decide) (by decide)) (by decide) (by decide)) (by decide) (by decide)))
          refine pk_eq q 0 (fun c => ?_) (fun c => ?_)
          · exact k198 6 (if_pos c)
          · exact k198 q (if_neg c)
        · refine br_f (by decide) ?_
          have e : zp_kn1 (zp_sg T 2 0) b q0 n = zp_mr (zp_sg T 2 0) b n := by
            rcases (by omega : b = 76 ∨ b = 77 ∨ b = 83 ∨ b = 84) with c | c | c | c <;> subst c <;> rfl
          rw [e] at hp
          refine zy_moveRows (zy_mk (T := zp_sg T 2 0) h1' h2') ok2 (by omega) hn1.2 (zy_k ?_)
          intro bg mk my C Q AC KS NU h1 h2
          exact hp _ (zy_mk h1 h2)
      · rw [e6]
        refine br_f (by decide) ?_
        have m6' := m6 e6
        have e : zp_kn1 (zp_sg T 2 0) b q0 n = zp_cut (zp_sg T 2 0) b q0 n := by
          rcases m6' with c | c | c | c | c <;> subst c <;> rfl
        rw [e] at hp
        refine zy_cut (zy_mk (T := zp_sg T 2 0) h1' h2') ok2 m6' (by omega) hn1.1 hn1.2 (zy_k ?_)
        intro bg mk my C Q AC KS NU h1 h2
        exact hp _ (zy_mk h1 h2)
    · rw [e5]
      refine br_f (by decide) ?_
      have m5' := m5 e5
      have e : zp_kn1 (zp_sg T 2 0) b q0 n = zp_trv (zp_sg T 2 0) b n := by
        rcases (by omega : b = 65 ∨ b = 66 ∨ b = 67 ∨ b = 68 ∨ b = 71 ∨ b = 72 ∨ b = 100) with c | c | c | c | c | c | c <;> subst c <;> rfl
      rw [e] at hp
      have k160 : ∀ w, (if T.1 21 = 0 then 1 else T.1 21) = w → wY_known_160 post (nI w) (nI n) (nI b) (nI (T.1 0)) (nI (T.1 1)) (nI (T.1 3)) (nI (T.1 4)) (nI (T.1 5)) (nI (T.1 6)) (nI (T.1 7)) (nI (T.1 8)) 0 (nI (T.1 9)) (nI (T.1 10)) (nI (T.1 11)) (nI (T.1 12)) (nI (T.1 13)) (nI (T.1 14)) (nI (T.1 15)) (nI (T.1 24)) (nI (zy_st T)) bg mk my C Q AC KS NU := by
        intro w ew
        refine zy_move (zy_mk (T := zp_sg T 2 0) h1' h2') ok2 m5' hn1.1 hn1.2 ew (zy_k ?_)
        intro bg mk my C Q AC KS NU h1 h2
        exact hp _ (zy_mk h1 h2)
      refine pk_eq q 0 (fun c => ?_) (fun c => ?_)
      · exact k160 1 (by rw [hq]; exact if_pos c)
      · exact k160 q (by rw [hq]; exact if_neg c)
  by_cases hk : zp_fm b = 1 ∨ zp_fc b = 1 ∨ zp_fr b = 1
  · have m := main hk
    unfold wY_known_109
    refine br_c (fun _ => m) (fun _ => ?_)
    rcases f5 with e5 | e5
    · rw [e5] at m ⊢
      refine br_t rfl ?_
      rcases f6 with e6 | e6
      · rw [e6] at m ⊢
        refine br_t rfl ?_
        have e7 : zp_fr b = 1 := by omega
        rw [e7] at m ⊢
        exact br_f (by decide) m
      · rw [e6] at m ⊢
        exact br_f (by decide) m
    · rw [e5] at m ⊢
      exact br_f (by decide) m
  · have e5 : zp_fm b = 0 := by omega
    have e6 : zp_fc b = 0 := by omega
    have e7 : zp_fr b = 0 := by omega
    have m0' := m0 e5 e6 e7
    rw [if_neg (by omega)] at hp
    rw [e5, e6, e7]
    have hf := hp _ (zy_mk h1 h2)
    unfold zy_S at hf
    unfold wY_known_109
    refine pk_eq (T.1 2) 0 (fun c => ?_) (fun c => ?_)
    · refine ⟨rfl, rfl, br_t rfl (br_t rfl (pk_eq b 114 (fun c' => absurd c' m0'.2) (fun _ => br_t rfl ?_)))⟩
      rw [c] at hf
      exact hf
    · refine br_t rfl (br_t rfl (br_t rfl ⟨rfl, rfl, br_t rfl (br_t rfl (pk_eq b 114 (fun c' => absurd c' m0'.2) (fun _ => br_t rfl ?_)))⟩))
      rw [show T.1 2 = 1 by omega] at hf
      exact hf
end
end
section
/-! the reference: the last byte, lists, feed -/
theorem zp_S1_r (T : zz_T) {i : Nat} (h : i ≠ 24) : (zp_S1 T).1 i = T.1 i := zp_K1_r T h
theorem zp_SU_r : ∀ (n : Nat) (T : zz_T) {i : Nat}, i ≠ 24 → (zp_SU n T).1 i = T.1 i
  | 0, _, _, _ => rfl
  | n + 1, T, _, h => (zp_SU_r n (zp_S1 T) h).trans (zp_S1_r T h)
theorem zp_SD_r : ∀ (n : Nat) (T : zz_T) (i : Nat), (zp_SD n T).1 i = T.1 i
  | 0, _, _ => rfl
  | n + 1, T, i => zp_SD_r n (zp_D1 T) i
theorem zp_LF_r (T : zz_T) {i : Nat} (h : i ≠ 24) (h0 : i ≠ 0) : (zp_LF T).1 i = T.1 i := by
  unfold zp_LF
  (repeat' split) <;> first | rfl | exact zp_S1_r T h | exact zp_sgn T _ h0
theorem zp_ins_r (T : zz_T) (i : Nat) : (zp_ins T).1 i = T.1 i := by
  unfold zp_ins
  (repeat' split) <;> rfl
theorem zp_put2_r (T : zz_T) (b : Nat) {i : Nat} (h1 : i ≠ 1) (h2 : i ≠ 2) : (zp_put2 T b).1 i = T.1 i := by
  have e : (zp_wr (zp_ins T) b).1 i = T.1 i := zp_ins_r T i
  unfold zp_put2 zp_adv
  split
  · rw [zp_sgn _ _ h2, e]
  · rw [zp_sgn _ _ h1, e]
theorem zp_put16 (T : zz_T) (b : Nat) : (zp_put T b).1 16 = T.1 16 := by
  unfold zp_put
  split
  · exact zp_put2_r T b (by decide) (by decide)
  · rw [zp_put2_r _ b (by decide) (by decide), zp_LF_r _ (by decide) (by decide)]
    rfl
theorem zp_ctl16 (T : zz_T) (b : Nat) : (zp_ctl T b).1 16 = T.1 16 := by
  unfold zp_ctl zp_ct2
  (repeat' split) <;> first | rfl | (rw [zp_LF_r _ (by decide) (by decide)]; rfl)
theorem zp_GU16 (T : zz_T) : (zp_GU T).1 16 = T.1 16 := by
  unfold zp_GU
  (repeat' split) <;> rfl
theorem zp_sh216 (T : zz_T) (b : Nat) (h : T.1 16 = 0) : (zp_sh2 T b).1 16 = 0 := by
  unfold zp_sh2
  split
  · exact h
  · split
    · rw [zp_LF_r _ (by decide) (by decide), h]
    · split
      · rw [zp_LF_r _ (by decide) (by decide)]
        exact h
      · split
        · rw [zp_GU16, h]
        · split
          · rfl
          · exact h
theorem zp_sht16 (T : zz_T) (b : Nat) (h : T.1 16 = 0) : (zp_sht T b).1 16 = 0 := by
  unfold zp_sht
  split
  · exact h
  · exact zp_sh216 _ b h
theorem zp_cp_r : ∀ (k i : Nat) (T : zz_T) {j : Nat}, j ≠ 3 → (zp_cp k i T).1 j = T.1 j
  | 0, _, _, _, _ => rfl
  | k + 1, i, T, _, h => (zp_cp_r k (i + 1) _ h).trans (zp_sgn T _ h)
theorem zp_swi16 (T : zz_T) (on : Nat) : (zp_swi T on).1 16 = T.1 16 := by
  unfold zp_swi
  (repeat' split) <;> rfl
theorem zp_mode16 (T : zz_T) (on : Nat) : (zp_mode T on).1 16 = T.1 16 := by
  unfold zp_mode
  (repeat' split) <;> first | rfl | exact zp_swi16 T on
theorem zp_trv_r (T : zz_T) (b n : Nat) {i : Nat} (h0 : i ≠ 0) (h1 : i ≠ 1) : (zp_trv T b n).1 i = T.1 i := by
  have e : ∀ r c, (zp_mv T r c).1 i = T.1 i := fun r c => (zp_sgn _ c h1).trans (zp_sgn T r h0)
  unfold zp_trv
  (repeat' split) <;> exact e _ _
theorem zp_era_r (T : zz_T) (b q n i : Nat) : (zp_era T b q n).1 i = T.1 i := by
  unfold zp_era zp_er1 zp_er2 zp_er3
  (repeat' split) <;> rfl
theorem zp_shr_r (T : zz_T) (k n : Nat) {i : Nat} (h1 : i ≠ 1) : (zp_shr T k n).1 i = T.1 i := by
  unfold zp_shr
  (repeat' split) <;> first | rfl | exact zp_sgn T 0 h1
theorem zp_shc_r (T : zz_T) (k n i : Nat) : (zp_shc T k n).1 i = T.1 i := by
  unfold zp_shc
  (repeat' split) <;> rfl
theorem zp_reg_r (T : zz_T) (n q : Nat) {i : Nat} (h0 : i ≠ 0) (h1 : i ≠ 1) (h4 : i ≠ 4) (h5 : i ≠ 5) : (zp_reg T n q).1 i = T.1 i := by
  have e : (zp_mv (zp_rg T (n - 1) (q - 1)) 0 0).1 i = T.1 i := (zp_sgn _ 0 h1).trans ((zp_sgn _ 0 h0).trans ((zp_sgn _ _ h5).trans (zp_sgn T _ h4)))
  unfold zp_reg
  (repeat' split) <;> first | rfl | exact e
theorem zp_kn216 (T : zz_T) (b q n : Nat) : (zp_kn2 T b q n).1 16 = T.1 16 := by
  unfold zp_kn2
  (repeat' split) <;> first | exact zp_trv_r T b n (by decide) (by decide) | exact zp_era_r T b q n 16 | exact zp_shc_r T _ n 16 | exact zp_shr_r T _ n (by decide) | exact zp_SU_r n T (by decide) | exact zp_SD_r n T 16 | exact zp_reg_r T n _ (by decide) (by decide) (by decide) (by decide)
theorem zp_kno16 (T : zz_T) (b : Nat) : (zp_kno T b).1 16 = T.1 16 := by
  unfold zp_kno zp_kn1
  (repeat' split) <;> first | exact zp_kn216 _ b _ _ | exact zp_trv_r _ b _ (by decide) (by decide)
theorem zp_lst16 (T : zz_T) (b : Nat) : (zp_lst T b).1 16 = T.1 16 := by
  unfold zp_lst
  split
  · split
    · exact zp_cp_r _ _ T (by decide)
    · split
      · unfold zp_im
        (repeat' split) <;> rfl
      · split
        · unfold zp_im
          (repeat' split) <;> rfl
        · split
          · exact zp_kno16 T b
          · rfl
  · split
    · exact zp_mode16 T 1
    · split
      · exact zp_mode16 T 0
      · rfl
section
variable {p : Prop} {T : zz_T} {G : Nat → Nat} {bg mk my : Int32} {C Q AC KS NU : zz_A}
theorem zy_last_31 {post : SY → Prop} {on : Nat} (h1 : zr_P True T bg (nI (T.1 17)) my NU) (h2 : zr_C T G C Q AC KS) (hok : zp_ok T) (ho : on < 2) (hp : ∀ v', zr_Y True v' (if T.1 17 = 0 then zp_im T on else zp_mode T on) G → post v') : wY_last_31 post (nI (T.1 20)) (nI on) (nI (T.1 0)) (nI (T.1 1)) (nI (T.1 3)) (nI (T.1 4)) (nI (T.1 5)) (nI (T.1 6)) (nI (T.1 7)) (nI (T.1 8)) (nI (T.1 2)) (nI (T.1 9)) (nI (T.1 10)) (nI (T.1 11)) (nI (T.1 12)) (nI (T.1 13)) (nI (T.1 14)) (nI (T.1 15)) (nI (T.1 24)) (nI (zy_st T)) bg (nI (T.1 17)) my C Q AC KS NU := by
  have b6 := zp_b6 hok
  have b7 := zp_b7 hok
  have b8 := zp_b8 hok
  have b17 := zp_b17 hok
  have b20 := zp_b20 hok
  unfold wY_last_31
  refine pk_eq (T.1 17) 0 (fun c => ?_) (fun c => ?_)
  · rw [if_pos c] at hp
    unfold zp_im at hp
    have key : ∀ w, w < 2 → (∀ v', zr_Y True v' (zp_sg T 6 w) G → post v') → wY_last_52 post (nI (T.1 20)) (nI on) (nI w) (nI (T.1 0)) (nI (T.1 1)) (nI (T.1 3)) (nI (T.1 4)) (nI (T.1 5)) (nI (T.1 6)) (nI (T.1 7)) (nI (T.1 8)) (nI (T.1 2)) (nI (T.1 9)) (nI (T.1 10)) (nI (T.1 11)) (nI (T.1 12)) (nI (T.1 13)) (nI (T.1 14)) (nI (T.1 15)) (nI (T.1 24)) (nI (zy_st T)) bg (nI (T.1 17)) my C Q AC KS NU := by
      intro w hw hp
      have hf := hp _ (zy_mk (zy_Psg (j := 6) h1 (by decide)) (zy_Csg (j := 6) h2 (by decide) (by decide)))
      refine ⟨zn_nb hw, zn_fb hw, ?_⟩
      have e : nI (T.1 17) = 0 := by rw [c]; rfl
      exact br_t e ⟨zn_nb b7, zn_fb b7, br_t e hf⟩
    refine pk_eq (T.1 20) 4 (fun c4 => ?_) (fun c4 => ?_)
    · rw [if_pos c4] at hp
      exact key on ho hp
    · rw [if_neg c4] at hp
      exact key (T.1 6) b6 hp
  · rw [if_neg c] at hp
    unfold zp_mode at hp
    have e : ¬ nI (T.1 17) = 0 := nI_ne0 (by omega) (by omega)
    refine ⟨zn_nb b6, zn_fb b6, br_f e ?_⟩
    refine pk_eq (T.1 20) 7 (fun c7 => ?_) (fun c7 => ?_)
    · rw [if_pos c7] at hp
      have hf := hp _ (zy_mk (zy_Psg (j := 7) h1 (by decide)) (zy_Csg (j := 7) h2 (by decide) (by decide)))
      exact ⟨zn_nb ho, zn_fb ho, br_f e (pk_eq (T.1 20) 49 (fun c => absurd c (by omega)) (fun _ => hf))⟩
    rw [if_neg c7] at hp
    refine ⟨zn_nb b7, zn_fb b7, br_f e (pk_eq (T.1 20) 49 (fun c49 => ?_) (fun c49 => ?_))⟩
    · rw [if_pos c49] at hp
      refine pk_eq on (T.1 8) (fun co => ?_) (fun co => ?_)
      · rw [zp_swi, if_pos co] at hp
        exact hp _ (zy_mk h1 h2)
      · refine zy_exchange (T := T) (zy_mk (T := zp_sg T 2 0) (zy_Psg (j := 2) h1 (by decide)) (zy_Csg (j := 2) h2 (by decide) (by decide))) ho b8 co (zy_k ?_)
        intro bg mk my C Q AC KS NU h1 h2
        exact hp _ (zy_mk h1 h2)
    · rw [if_neg c49] at hp
      exact hp _ (zy_mk h1 h2)
theorem zy_last {v : SY} {post : SY → Prop} {b : Nat} (h : zr_Y True v T G) (hok : zp_ok T) (hb : b < 128) (hp : ∀ v', zr_Y True v' (zp_lst T b) G → post v') : wpY_last post v (nI b) := by
  obtain ⟨bg, mk, my, C, Q, AC, KS, NU, rfl, h1, h2⟩ := h
  obtain ⟨rfl, rfl, hN⟩ := h1.2 trivial
  have b17 := zp_b17 hok
  have b18 := zp_b18 hok
  have b20 := zp_b20 hok
  have e0 : NU 0 = nI (T.1 20) := hN 0 (by decide)
  have e1 : NU 1 = nI (T.1 21) := hN 1 (by decide)
  unfold zp_lst at hp
  unfold wpY_last zy_S
  dsimp only
  rw [e0]
  refine nm_e ?_
  by_cases c104 : b = 104
  · refine pk_eq b 104 (fun _ => ?_) (fun c => absurd c104 c)
    refine pk_eq b 104 (fun _ => ?_) (fun c => absurd c104 c)
    refine zy_last_31 (on := 1) h1 h2 hok (by decide) ?_
    rw [if_neg (show ¬ b = 109 by omega), if_pos c104, if_pos c104] at hp
    exact hp
  refine pk_eq b 104 (fun c => absurd c c104) (fun _ => ?_)
  refine pk_eq b 104 (fun c => absurd c c104) (fun _ => ?_)
  by_cases c108 : b = 108
  · refine pk_eq b 108 (fun _ => ?_) (fun c => absurd c108 c)
    refine zy_last_31 (on := 0) h1 h2 hok (by decide) ?_
    rw [if_neg (show ¬ b = 109 by omega), if_neg c104, if_pos c108, if_neg c104, if_pos c108] at hp
    exact hp
  refine pk_eq b 108 (fun c => absurd c c108) (fun _ => ?_)
  rw [if_neg c104, if_neg c108, if_neg c104, if_neg c108] at hp
  by_cases c17 : T.1 17 = 0
  · rw [if_pos c17] at hp
    have e17 : nI (T.1 17) = 0 := by rw [c17]; rfl
    refine pk_eq b 109 (fun c => ?_) (fun c => ?_)
    · rw [if_pos c] at hp
      refine br_t e17 ⟨_, zy_last_130 _ 0 T bg (nI (T.1 17)) (nI (T.1 18)) C Q AC KS NU (Nat.zero_add _) hok h1 h2 hp _ (Nat.lt_succ_self _)⟩
    · rw [if_neg c] at hp
      refine br_t e17 ?_
      rw [e1]
      have k190 : ∀ n, (if T.1 20 = 0 then 1 else T.1 20) = n → wY_last_190 post (nI n) (nI (T.1 21)) (nI (T.1 20)) (nI b) (nI (T.1 0)) (nI (T.1 1)) (nI (T.1 3)) (nI (T.1 4)) (nI (T.1 5)) (nI (T.1 6)) (nI (T.1 7)) (nI (T.1 8)) (nI (T.1 2)) (nI (T.1 9)) (nI (T.1 10)) (nI (T.1 11)) (nI (T.1 12)) (nI (T.1 13)) (nI (T.1 14)) (nI (T.1 15)) (nI (T.1 24)) (nI (zy_st T)) bg (nI (T.1 17)) (nI (T.1 18)) C Q AC KS NU := by
        intro n en
        refine zy_known (zy_mk h1 h2) hok hb rfl rfl en (zy_k ?_)
        intro bg mk my C Q AC KS NU h1 h2
        exact hp _ (zy_mk h1 h2)
      refine pk_eq (T.1 20) 0 (fun c0 => ?_) (fun c0 => ?_)
      · exact k190 1 (if_pos c0)
      · exact k190 _ (if_neg c0)
  · rw [if_neg c17] at hp
    have e17 : ¬ nI (T.1 17) = 0 := nI_ne0 (by omega) (by omega)
    have hf := hp _ (zy_mk h1 h2)
    exact pk_eq b 109 (fun _ => br_f e17 (br_f e17 hf)) (fun _ => br_f e17 hf)
def zp_l2 (T : zz_T) (b : Nat) : zz_T := if b = 27 then zp_sg T 16 1 else if 48 ≤ b ∧ b ≤ 57 then zp_dig (zp_sg T 16 3) (b - 48) else if b = 59 then zp_num (zp_sg T 16 3) else if 64 ≤ b ∧ b < 127 then zp_lst (zp_sg T 16 0) b else if b = 63 ∧ T.1 16 = 2 then zp_sg (zp_sg T 16 3) 17 1 else zp_sg T 16 0
theorem zp_rd2 {T : zz_T} (h : 2 ≤ T.1 16) (b : Nat) : zp_rd T b = zp_l2 T b := by
  unfold zp_rd zp_l2 zp_mean
  by_cases c : b = 27
  · rw [if_pos c, if_pos c]
    rfl
  rw [if_neg c, if_neg c, if_neg (by omega), if_neg (by omega)]
  by_cases c1 : 48 ≤ b ∧ b ≤ 57
  · rw [if_pos c1, if_pos c1]
    rfl
  rw [if_neg c1, if_neg c1]
  by_cases c2 : b = 59
  · rw [if_pos c2, if_pos c2]
    rfl
  rw [if_neg c2, if_neg c2]
  by_cases c3 : 64 ≤ b ∧ b < 127
  · rw [if_pos c3, if_pos c3]
    rfl
  rw [if_neg c3, if_neg c3]
  by_cases c4 : b = 63 ∧ T.1 16 = 2
  · rw [if_pos c4, if_pos c4]
    rfl
  rw [if_neg c4, if_neg c4]
  rfl
theorem zy_P16 {v : Nat} {mk my : Int32} (h : zr_P True T bg mk my NU) : zr_P True (zp_sg T 16 v) (nI (v - 2)) mk my NU := by
  obtain ⟨_, h2⟩ := h
  obtain ⟨q1, q2, q3⟩ := h2 trivial
  refine ⟨fun _ => rfl, fun _ => ⟨q1, q2, fun i hi => ?_⟩⟩
  rw [zp_sgn T v (by omega : 20 + i ≠ 16)]
  exact q3 i hi
theorem zy_P0 {v : Nat} {bg' : Int32} {mk my : Int32} (hv : v < 2) : zr_P False (zp_sg T 16 v) bg' mk my NU :=
  ⟨fun q => absurd q (by rw [zp_sg1]; omega), fun q => q.elim⟩
theorem zy_longSequence {v : SY} {post : SY → Prop} {b : Nat} (h : zr_Y True v T G) (h16 : 2 ≤ T.1 16) (hok : zp_ok T) (hb : b < 128) (hp : ∀ v', zr_Y (2 ≤ (zp_l2 T b).1 16) v' (zp_l2 T b) G → post v') : wpY_longSequence post v (nI b) := by
  obtain ⟨bg, mk, my, C, Q, AC, KS, NU, rfl, h1, h2⟩ := h
  obtain ⟨rfl, rfl, hN⟩ := h1.2 trivial
  have eb := h1.1 h16
  have b16 := zp_b16 hok
  have b18 := zp_b18 hok
  have l18 := zp_bli hok h16
  subst eb
  have h3 : zr_P True (zp_sg T 16 3) 1 (nI (T.1 17)) (nI (T.1 18)) NU := zy_P16 (v := 3) h1
  have hC : ∀ w, zr_C (zp_sg T 16 w) G C Q AC KS := fun w => zy_Csg (j := 16) h2 (by decide) (by decide)
  have est : zy_st T = 2 := by
    unfold zy_st
    rw [if_neg (by omega)]
  unfold zp_l2 at hp
  unfold wpY_longSequence zy_S
  dsimp only
  rw [est]
  by_cases cd : 48 ≤ b ∧ b ≤ 57
  · rw [if_neg (by omega), if_pos cd] at hp
    refine pk_lt b 48 (fun c => absurd c (by omega)) (fun _ => ?_)
    refine pk_lt 57 b (fun c => absurd c (by omega)) (fun _ => ?_)
    refine br_f (by decide) ?_
    unfold zp_dig at hp
    have e18 : (zp_sg T 16 3).1 18 = T.1 18 := rfl
    rw [e18] at hp
    refine pk_lt 4 (T.1 18) (fun c => ?_) (fun c => ?_)
    · rw [if_pos c] at hp
      exact hp _ (zy_p (zy_mk (T := zp_sg T 16 3) h3 (hC 3)) (fun _ => trivial))
    rw [if_neg (by omega), show 19 + T.1 18 = 20 + (T.1 18 - 1) by omega, zp_sgn T 3 (by omega : 20 + (T.1 18 - 1) ≠ 16)] at hp
    have ei : nI (T.1 18) - 1 = nI (T.1 18 - 1) := pk_sub (b := 1) (by omega)
    have hin : vp_in (nI (T.1 18 - 1)) 4 := vp_in_nI (by omega) (by decide)
    have b99 := (hok.2.1 (T.1 18 - 1) (by omega)).1
    rw [ei, nI_clamp (by omega), hN _ (by omega)]
    have ev : 10 * nI (T.1 (20 + (T.1 18 - 1))) + nI b - 48 = nI (10 * T.1 (20 + (T.1 18 - 1)) + (b - 48)) := by
      have e : nI 10 * nI (T.1 (20 + (T.1 18 - 1))) + nI b - nI 48 = nI (10 * T.1 (20 + (T.1 18 - 1)) + (b - 48)) := by
        rw [pk_mul, nI_add, pk_sub (by omega)]
        exact congrArg nI (by omega)
      exact e
    have fin : ∀ w, (∀ v', zr_Y (2 ≤ (zp_sg (zp_sg T 16 3) (20 + (T.1 18 - 1)) w).1 16) v' (zp_sg (zp_sg T 16 3) (20 + (T.1 18 - 1)) w) G → post v') → post (nI (T.1 0), nI (T.1 1), nI (T.1 3), nI (T.1 4), nI (T.1 5), nI (T.1 6), nI (T.1 7), nI (T.1 8), nI (T.1 2), nI (T.1 9), nI (T.1 10), nI (T.1 11), nI (T.1 12), nI (T.1 13), nI (T.1 14), nI (T.1 15), nI (T.1 24), nI 2, 1, nI (T.1 17), nI (T.1 18), C, Q, AC, KS, upd NU (T.1 18 - 1) (nI w)) := by
      intro w hp
      have g : ∀ i, i < 20 ∨ i = 24 → (zp_sg (zp_sg T 16 3) (20 + (T.1 18 - 1)) w).1 i = (zp_sg T 16 3).1 i := fun i hi => zp_sgn _ w (by omega)
      have hf := hp (zy_S (zp_sg (zp_sg T 16 3) (20 + (T.1 18 - 1)) w) 1 (nI (T.1 17)) (nI (T.1 18)) C Q AC KS (upd NU (T.1 18 - 1) (nI w))) ?_
      · have e : zy_S (zp_sg (zp_sg T 16 3) (20 + (T.1 18 - 1)) w) 1 (nI (T.1 17)) (nI (T.1 18)) C Q AC KS (upd NU (T.1 18 - 1) (nI w)) = zy_S (zp_sg T 16 3) 1 (nI (T.1 17)) (nI (T.1 18)) C Q AC KS (upd NU (T.1 18 - 1) (nI w)) := by
          unfold zy_S zy_st
          rw [g 0 (by decide), g 1 (by decide), g 2 (by decide), g 3 (by decide), g 4 (by decide), g 5 (by decide), g 6 (by decide), g 7 (by decide), g 8 (by decide), g 9 (by decide), g 10 (by decide), g 11 (by decide), g 12 (by decide), g 13 (by decide), g 14 (by decide), g 15 (by decide), g 16 (by decide), g 24 (by decide)]
        rw [e] at hf
        exact hf
      · refine zy_p (p := True) (zy_mk ⟨?_, fun _ => ⟨?_, ?_, ?_⟩⟩ (zy_Csg (hC 3) (by omega) (by omega))) (fun _ => trivial)
        · rw [g 16 (by decide)]
          exact fun _ => rfl
        · rw [g 17 (by decide)]
          rfl
        · rw [g 18 (by decide)]
          rfl
        · intro i hi
          by_cases ci : i = T.1 18 - 1
          · rw [ci, pk_us, zp_sg1]
          · rw [pk_un ci, zp_sgn _ w (by omega : 20 + i ≠ 20 + (T.1 18 - 1)), hN i hi, zp_sgn T 3 (by omega : 20 + i ≠ 16)]
    refine ⟨hin, nm_r ev (pk_le _ 99 (fun c9 => ?_) (fun c9 => ?_))⟩
    · rw [if_pos c9] at hp
      exact ⟨hin, nm_e (fin _ hp)⟩
    · rw [if_neg (by omega)] at hp
      exact ⟨hin, nm_e (fin 99 hp)⟩
  have k17 : wY_longSequence_16 post (nI b) (nI (T.1 0)) (nI (T.1 1)) (nI (T.1 3)) (nI (T.1 4)) (nI (T.1 5)) (nI (T.1 6)) (nI (T.1 7)) (nI (T.1 8)) (nI (T.1 2)) (nI (T.1 9)) (nI (T.1 10)) (nI (T.1 11)) (nI (T.1 12)) (nI (T.1 13)) (nI (T.1 14)) (nI (T.1 15)) (nI (T.1 24)) (nI 2) (nI (T.1 16 - 2)) (nI (T.1 17)) (nI (T.1 18)) C Q AC KS NU := by
    refine br_t rfl ?_
    refine pk_eq b 59 (fun c => ?_) (fun c59 => ?_)
    · rw [if_neg (by omega), if_neg cd, if_pos c] at hp
      unfold zp_num at hp
      have e18 : (zp_sg T 16 3).1 18 = T.1 18 := rfl
      rw [e18] at hp
      have fin : ∀ w, (∀ v', zr_Y (2 ≤ (zp_sg (zp_sg T 16 3) 18 w).1 16) v' (zp_sg (zp_sg T 16 3) 18 w) G → post v') → post (zy_S (zp_sg (zp_sg T 16 3) 18 w) 1 (nI (T.1 17)) (nI w) C Q AC KS NU) := by
        intro w hp
        refine hp _ (zy_p (p := True) (zy_mk ⟨fun _ => rfl, fun _ => ⟨rfl, rfl, fun i hi => ?_⟩⟩ (zy_Csg (hC 3) (by decide) (by decide))) (fun _ => trivial))
        rw [zp_sgn _ w (by omega : 20 + i ≠ 18), zp_sgn T 3 (by omega : 20 + i ≠ 16), hN i hi]
      refine pk_le 5 (T.1 18) (fun c5 => ?_) (fun c5 => ?_)
      · rw [if_pos c5] at hp
        exact fin 5 hp
      · rw [if_neg (by omega)] at hp
        exact nm_r (nI_1 (T.1 18)) (fin _ hp)
    have k140 : ∀ w, w < 2 → (b < 64 ∨ 126 < b) → (∀ v', zr_Y (2 ≤ (zp_sg T 16 w).1 16) v' (zp_sg T 16 w) G → post v') → wY_longSequence_140 post (nI b) (nI w) (nI (T.1 0)) (nI (T.1 1)) (nI (T.1 3)) (nI (T.1 4)) (nI (T.1 5)) (nI (T.1 6)) (nI (T.1 7)) (nI (T.1 8)) (nI (T.1 2)) (nI (T.1 9)) (nI (T.1 10)) (nI (T.1 11)) (nI (T.1 12)) (nI (T.1 13)) (nI (T.1 14)) (nI (T.1 15)) (nI (T.1 24)) (nI 2) (nI (T.1 16 - 2)) (nI (T.1 17)) (nI (T.1 18)) C Q AC KS NU := by
      intro w hw hr hp
      have hf := hp (zy_S (zp_sg T 16 w) 1 (nI (T.1 17)) (nI (T.1 18)) C Q AC KS NU) (zy_p (zy_mk (zy_P0 hw) (hC w)) (fun q => absurd q (by rw [zp_sg1]; omega)))
      have e : zy_st (zp_sg T 16 w) = w := by
        unfold zy_st
        rw [zp_sg1, if_pos hw]
      unfold zy_S at hf
      rw [e] at hf
      unfold wY_longSequence_140
      refine pk_lt b 64 (fun _ => hf) (fun c64 => ?_)
      refine pk_lt 126 b (fun _ => hf) (fun c => absurd hr (by omega))
    have k128 : ¬ (b = 63 ∧ T.1 16 = 2) → wY_longSequence_128 post (nI b) (nI (T.1 0)) (nI (T.1 1)) (nI (T.1 3)) (nI (T.1 4)) (nI (T.1 5)) (nI (T.1 6)) (nI (T.1 7)) (nI (T.1 8)) (nI (T.1 2)) (nI (T.1 9)) (nI (T.1 10)) (nI (T.1 11)) (nI (T.1 12)) (nI (T.1 13)) (nI (T.1 14)) (nI (T.1 15)) (nI (T.1 24)) (nI 2) (nI (T.1 16 - 2)) (nI (T.1 17)) (nI (T.1 18)) C Q AC KS NU := by
      intro hn
      unfold wY_longSequence_128
      refine pk_eq b 27 (fun c27 => ?_) (fun c27 => ?_)
      · rw [if_pos c27] at hp
        exact k140 1 (by decide) (by omega) hp
      rw [if_neg c27, if_neg cd, if_neg c59] at hp
      by_cases cl : 64 ≤ b ∧ b < 127
      · rw [if_pos cl] at hp
        refine pk_lt b 64 (fun c => absurd c (by omega)) (fun _ => ?_)
        refine pk_lt 126 b (fun c => absurd c (by omega)) (fun _ => ?_)
        have h0 : zr_P True (zp_sg T 16 0) (nI (T.1 16 - 2)) (nI (T.1 17)) (nI (T.1 18)) NU := by
          refine ⟨fun q => absurd q (by rw [zp_sg1]; omega), fun _ => ⟨rfl, rfl, fun i hi => ?_⟩⟩
          rw [zp_sgn T 0 (by omega : 20 + i ≠ 16)]
          exact hN i hi
        refine zy_last (T := zp_sg T 16 0) (zy_mk h0 (hC 0)) (zp_ok_st hok (by decide) (fun q => absurd q (by decide))) hb (zy_k ?_)
        intro bg mk my C Q AC KS NU h1 h2
        have e0 : (zp_lst (zp_sg T 16 0) b).1 16 = 0 := zp_lst16 _ b
        exact hp (zy_S (zp_lst (zp_sg T 16 0) b) 1 mk my C Q AC KS NU) (zy_p (p := True) (zy_mk ⟨fun q => absurd q (by rw [e0]; omega), h1.2⟩ h2) (fun _ => trivial))
      · rw [if_neg cl, if_neg hn] at hp
        exact k140 0 (by decide) (by omega) hp
    refine pk_eq b 63 (fun c63 => ?_) (fun c63 => k128 (by omega))
    refine pk_eq (T.1 16 - 2) 0 (fun c => ?_) (fun c => k128 (by omega))
    rw [if_neg (by omega), if_neg cd, if_neg c59, if_neg (by omega), if_pos (by omega)] at hp
    refine hp (zy_S (zp_sg (zp_sg T 16 3) 17 1) 1 1 (nI (T.1 18)) C Q AC KS NU) (zy_p (p := True) (zy_mk ⟨fun _ => rfl, fun _ => ⟨rfl, rfl, fun i hi => ?_⟩⟩ (zy_Csg (hC 3) (by decide) (by decide))) (fun _ => trivial))
    rw [zp_sgn _ 1 (by omega : 20 + i ≠ 17), zp_sgn T 3 (by omega : 20 + i ≠ 16), hN i hi]
  refine pk_lt b 48 (fun _ => k17) (fun c => ?_)
  exact pk_lt 57 b (fun _ => k17) (fun c' => absurd ⟨c, c'⟩ cd)
theorem zp_pl16 (T : zz_T) (b : Nat) (h : T.1 16 = 0) : (zp_pl T b).1 16 < 2 := by
  unfold zp_pl
  split
  · exact (by decide : 1 < 2)
  · split
    · rw [zp_put16, h]
      decide
    · split
      · rw [zp_ctl16, h]
        decide
      · rw [h]
        decide
/-- the reference reads a byte -/
theorem zy_feed {v : SY} {post : Int32 → SY → Prop} {b : Nat} (h : zr_Y (2 ≤ T.1 16) v T G) (hok : zp_ok T) (hb : b < 128) (hp : ∀ v', zr_Y (2 ≤ (zp_rd T b).1 16) v' (zp_rd T b) G → post 1 v') : wpY_feed post v (nI b) := by
  have b16 := zp_b16 hok
  obtain ⟨bg, mk, my, C, Q, AC, KS, NU, rfl, h1, h2⟩ := h
  have hh := zy_mk h1 h2
  unfold wpY_feed zy_S
  dsimp only
  refine pk_lt b 0 (fun c => absurd c (by omega)) (fun _ => ?_)
  refine pk_le b 127 (fun _ => ?_) (fun c => absurd c (by omega))
  by_cases c0 : T.1 16 = 0
  · have est : zy_st T = 0 := by
      unfold zy_st
      rw [c0]
      rfl
    rw [zp_rdp c0] at hp
    refine br_t (by rw [est]; rfl) (zy_plain (zy_p hh (fun q => q.elim)) c0 hok hb (zy_k ?_))
    intro bg mk my C Q AC KS NU h1 h2
    exact hp _ (zy_p (zy_mk h1 h2) (fun q => absurd q (by have := zp_pl16 T b c0; omega)))
  by_cases c1 : T.1 16 = 1
  · have est : zy_st T = 1 := by
      unfold zy_st
      rw [c1]
      rfl
    rw [zp_rd1 c1] at hp
    refine br_f (by rw [est]; decide) (br_t (by rw [est]; rfl) (zy_shortSequence (zy_p hh (fun q => q.elim)) c1 hok hb (zy_k ?_)))
    intro bg mk my C Q AC KS NU h1 h2
    refine hp _ (zy_p (zy_mk h1 h2) (fun q => ?_))
    by_cases c91 : b = 91
    · exact c91
    · refine absurd q ?_
      unfold zp_s1
      by_cases c27 : b = 27
      · rw [if_pos c27, zp_sg1]
        decide
      · rw [if_neg c27, if_neg c91, zp_sht16 _ b (zp_sg1 T 16 0)]
        decide
  · have est : zy_st T = 2 := by
      unfold zy_st
      rw [if_neg (by omega)]
    rw [zp_rd2 (by omega)] at hp
    refine br_f (by rw [est]; decide) (br_f (by rw [est]; decide) (zy_longSequence (zy_p hh (fun _ => by omega)) (by omega) hok hb (zy_k ?_)))
    intro bg mk my C Q AC KS NU h1 h2
    exact hp _ (zy_mk h1 h2)
end
end
section
/-! what is shown: reading and comparing -/
/-- the picture with its slots kept -/
def zp_fz (T : zz_T) (l : Nat → Nat) : zz_T := (fun i => if i = 99 then 1 else if 100 ≤ i then l (i - 100) else T.1 i, T.2)
def zr_Z (l : Nat → Nat) (u : SX) (F G : zz_T) : Prop :=
  ∃ t, t < 2 ∧ ∃ kc kn S Y L R N K z sl, u = zx_S (nI t) kc kn S Y L R N K ∧ zr_B (fun _ => True) kc kn S Y L R N K z sl (zz_sel 0 (zp_fz F l) G)
theorem zz_k {l : Nat → Nat} {F G : zz_T} {P : SX → Prop} (H : ∀ t, t < 2 → ∀ kc kn S Y L R N K z sl, zr_B (fun _ => True) kc kn S Y L R N K z sl (zz_sel 0 (zp_fz F l) G) → P (zx_S (nI t) kc kn S Y L R N K)) : ∀ u', zr_Z l u' F G → P u' := by
  intro u' h
  obtain ⟨t, ht, kc, kn, S, Y, L, R, N, K, z, sl, rfl, h⟩ := h
  exact H t ht kc kn S Y L R N K z sl h
theorem zz_mk {l : Nat → Nat} {F G : zz_T} {kc kn : Int32} {S Y L : zz_A} {R : Nat → zz_A} {N K : zz_A} {z : Nat → Nat} {sl : Nat → Nat → Nat} {t : Nat} (ht : t < 2) (h : zr_B (fun _ => True) kc kn S Y L R N K z sl (zz_sel 0 (zp_fz F l) G)) : zr_Z l (zx_S (nI t) kc kn S Y L R N K) F G :=
  ⟨t, ht, kc, kn, S, Y, L, R, N, K, z, sl, rfl, h⟩
theorem zp_fzn (T : zz_T) (l : Nat → Nat) {i : Nat} (h : i < 99) : (zp_fz T l).1 i = T.1 i := by
  show (if i = 99 then 1 else if 100 ≤ i then l (i - 100) else T.1 i) = _
  rw [if_neg (by omega), if_neg (by omega)]
/-- the slots of terminal s are kept from now on -/
theorem zr_fz {D : Nat → Prop} {kc kn : Int32} {S Y L : zz_A} {R : Nat → zz_A} {N K : zz_A} {z : Nat → Nat} {sl : Nat → Nat → Nat} {W W' : Nat → zz_T} {s0 : Nat} (h : zr_B D kc kn S Y L R N K z sl W) (e0 : W' s0 = zp_fz (W s0) (sl s0)) (e1 : ∀ s, s ≠ s0 → W' s = W s) : zr_B D kc kn S Y L R N K z sl W' := by
  obtain ⟨h1, h2, h3, h4, h5⟩ := h
  have f1 : ∀ s i, i < 99 → (W' s).1 i = (W s).1 i := by
    intro s i hi
    by_cases c : s = s0
    · rw [c, e0, zp_fzn _ _ hi]
    · rw [e1 s c]
  have f2 : ∀ s, (W' s).2 = (W s).2 := by
    intro s
    by_cases c : s = s0
    · rw [c, e0]
      rfl
    · rw [e1 s c]
  refine ⟨?_, h2, ?_, ?_, ?_⟩
  · intro s j hs hj
    rw [f1 s j (by omega)]
    exact h1 s j hs hj
  · intro s hs hd
    obtain ⟨v1, v2, v3, v4⟩ := h3 s hs hd
    refine ⟨v1, v2, ?_, ?_⟩
    · rw [f2]
      exact v3
    · by_cases c : s = s0
      · intro _ q hq
        rw [c, e0]
        show sl s0 q = (if 100 + q = 99 then 1 else if 100 ≤ 100 + q then sl s0 (100 + q - 100) else (W s0).1 (100 + q))
        rw [if_neg (by omega), if_pos (by omega), show 100 + q - 100 = q by omega]
      · rw [e1 s c]
        exact v4
  · intro s i hs hi
    rw [f1 s 18 (by decide), f1 s (20 + i) (by omega)]
    exact h4 s i hs hi
  · unfold zr_K at h5 ⊢
    rw [f1 0 24 (by decide), f2]
    exact h5
/-- .. and no more -/
theorem zr_uf {D : Nat → Prop} {kc kn : Int32} {S Y L : zz_A} {R : Nat → zz_A} {N K : zz_A} {z : Nat → Nat} {sl : Nat → Nat → Nat} {W W' : Nat → zz_T} {s0 : Nat} {l : Nat → Nat} (h : zr_B D kc kn S Y L R N K z sl W) (e0 : W s0 = zp_fz (W' s0) l) (hz : (W' s0).1 99 = 0) (e1 : ∀ s, s ≠ s0 → W' s = W s) : zr_B D kc kn S Y L R N K z sl W' := by
  obtain ⟨h1, h2, h3, h4, h5⟩ := h
  have f1 : ∀ s i, i < 99 → (W' s).1 i = (W s).1 i := by
    intro s i hi
    by_cases c : s = s0
    · rw [c, e0, zp_fzn _ _ hi]
    · rw [e1 s c]
  have f2 : ∀ s, (W' s).2 = (W s).2 := by
    intro s
    by_cases c : s = s0
    · rw [c, e0]
      rfl
    · rw [e1 s c]
  refine ⟨?_, h2, ?_, ?_, ?_⟩
  · intro s j hs hj
    rw [f1 s j (by omega)]
    exact h1 s j hs hj
  · intro s hs hd
    obtain ⟨v1, v2, v3, v4⟩ := h3 s hs hd
    refine ⟨v1, v2, ?_, ?_⟩
    · rw [f2]
      exact v3
    · by_cases c : s = s0
      · intro q
        rw [c, hz] at q
        exact absurd q (by decide)
      · rw [e1 s c]
        exact v4
  · intro s i hs hi
    rw [f1 s 18 (by decide), f1 s (20 + i) (by omega)]
    exact h4 s i hs hi
  · unfold zr_K at h5 ⊢
    rw [f1 0 24 (by decide), f2]
    exact h5
theorem zz_of0 {u : SX} {F G : zz_T} (h : zr_X (fun _ => True) u 0 F G) : ∃ l, zr_Z l u F G := by
  obtain ⟨ht, kc, kn, S, Y, L, R, N, K, z, sl, rfl, h⟩ := h
  exact ⟨sl 0, zz_mk (by decide) (zr_fz (s0 := 0) h rfl (fun s hs => by rw [zz_seln _ _ hs, zz_seln _ _ hs]))⟩
theorem zx_send {l : Nat → Nat} {u : SX} {post : SX → Prop} {F G : zz_T} {b : Nat} (h : zr_Z l u F G) (hok : zp_ok G) (hb : b < 128) (hp : ∀ u', zr_Z l u' F (zp_rd G b) → post u') : wpX_send post u (nI b) := by
  obtain ⟨t, ht, kc, kn, S, Y, L, R, N, K, z, sl, rfl, h⟩ := h
  have hx : zr_X (fun _ => True) (zx_S (nI t) kc kn S Y L R N K) t (zz_sel 0 (zp_fz F l) G t) (zz_sel 0 (zp_fz F l) G (1 - t)) := by
    refine zr_mk ht (z := z) (sl := sl) (zr_cg h (fun s hs => ?_))
    by_cases c : s = t
    · rw [c, zz_selp]
    · rw [zz_seln _ _ c, show s = 1 - t by omega]
  have e1 : zz_sel t (zz_sel 0 (zp_fz F l) G t) (zz_sel 0 (zp_fz F l) G (1 - t)) 1 = G := by
    rcases (by omega : t = 0 ∨ t = 1) with c | c <;> subst c <;> rfl
  have e0 : zz_sel t (zz_sel 0 (zp_fz F l) G t) (zz_sel 0 (zp_fz F l) G (1 - t)) (1 - 1) = zp_fz F l := by
    rcases (by omega : t = 0 ∨ t = 1) with c | c <;> subst c <;> rfl
  refine zx_read (s := 1) hx (by decide) hb (by rw [e1]; exact hok) ?_
  rw [e1, e0]
  refine zx_k ?_
  intro _ kc' kn' S' Y' L' R' N' K' z' sl' h'
  refine hp _ (zz_mk (by decide) (zr_cg h' (fun s hs => ?_)))
  rcases (by omega : s = 0 ∨ s = 1) with c | c <;> subst c <;> rfl
def zp_v (T : zz_T) (i : Nat) : Nat := T.2.1 (72 * T.1 8 + i)
theorem zp_vlt {T : zz_T} (h : zp_ok T) {i : Nat} (hi : i < 72) : zp_v T i < 1024 := (zp_bc h _ (by have := zp_b8 h; omega)).2.2
section
variable {a kc kn : Int32} {S Y L : zz_A} {R : Nat → zz_A} {N K : zz_A} {z : Nat → Nat} {sl : Nat → Nat → Nat} {F G : zz_T} {W : Nat → zz_T} {l : Nat → Nat}
theorem zr_slW (h : zr_B (fun _ => True) kc kn S Y L R N K z sl W) {s q : Nat} (hs : s < 2) (hq : q < 12) : L (12 * s + q) = nI (sl s q) ∧ sl s q < 12 := (h.2.2.1 s hs trivial).1 q hq
theorem zr_slF (h : zr_B (fun _ => True) kc kn S Y L R N K z sl (zz_sel 0 (zp_fz F l) G)) {q : Nat} (hq : q < 12) : sl 0 q = l q := by
  have e : sl 0 q = (zp_fz F l).1 (100 + q) := (h.2.2.1 0 (by decide) trivial).2.2.2 rfl q hq
  rw [e]
  show (if 100 + q = 99 then 1 else if 100 ≤ 100 + q then l (100 + q - 100) else F.1 (100 + q)) = _
  rw [if_neg (by omega), if_pos (by omega), show 100 + q - 100 = q by omega]
theorem zr_rcW (h : zr_B (fun _ => True) kc kn S Y L R N K z sl W) {s r c : Nat} (hs : s < 2) (ho : (W s).1 8 < 2) (hr : r < 6) (hc : c < 12) :
    S (144 * s + 12 * sl s (6 * (W s).1 8 + r) + c) = nI (zp_v (W s) (12 * r + c) % 128) ∧ Y (144 * s + 12 * sl s (6 * (W s).1 8 + r) + c) = nI (zp_v (W s) (12 * r + c) / 128) := by
  obtain ⟨v1, v2, v3, v4⟩ := h.2.2.1 s hs trivial
  have hsq := (v1 (6 * (W s).1 8 + r) (by omega)).2
  unfold zp_v
  rw [show 72 * (W s).1 8 + (12 * r + c) = 12 * (6 * (W s).1 8 + r) + c by omega, v3 _ c (by omega) hc]
  exact h.2.1 _ (by omega)
theorem zx_lineOf (h : zr_B (fun _ => True) kc kn S Y L R N K z sl W) {s r : Nat} (hs : s < 2) (ho : (W s).1 8 < 2) (hr : r < 6) {post : Int32 → Prop} (hp : post (nI (144 * s + 12 * sl s (6 * (W s).1 8 + r)))) : wpX_lineOf post (zx_S a kc kn S Y L R N K) (nI s) (nI r) := by
  have e := zr_slW h hs (q := 6 * (W s).1 8 + r) (by omega)
  have e8 := h.1 s 8 hs (by decide)
  refine And.intro (zn_in hs) (nm_e ?_)
  show vp_in ((nI s * 2 + R 8 (nI s).toNatClampNeg) * 6 + nI r) 24 ∧ post ((nI s * 12 + L ((nI s * 2 + R 8 (nI s).toNatClampNeg) * 6 + nI r).toNatClampNeg) * 12)
  rw [zn_cl hs, e8, zn_line, nI_clamp (by omega), e.1, zn_pos]
  exact ⟨vp_in_nI (by omega) (by decide), hp⟩
theorem zx_ix (h : zr_B (fun _ => True) kc kn S Y L R N K z sl W) {s r c : Nat} (hs : s < 2) (ho : (W s).1 8 < 2) (hr : r < 6) (hc : c < 12) :
    vp_in (nI (144 * s + 12 * sl s (6 * (W s).1 8 + r)) + nI c) 288 ∧ (nI (144 * s + 12 * sl s (6 * (W s).1 8 + r)) + nI c).toNatClampNeg = 144 * s + 12 * sl s (6 * (W s).1 8 + r) + c := by
  have e := (zr_slW h hs (q := 6 * (W s).1 8 + r) (by omega)).2
  rw [nI_add]
  exact ⟨vp_in_nI (by omega) (by decide), nI_clamp (by omega)⟩
theorem zx_same (h : zr_B (fun _ => True) kc kn S Y L R N K z sl (zz_sel 0 (zp_fz F l) G)) (okF : zp_ok F) (okG : zp_ok G) {r c r' c' : Nat} (hr : r < 6) (hc : c < 12) (hr' : r' < 6) (hc' : c' < 12) {post : Int32 → Prop}
    (hp : post (if zp_v F (12 * r + c) = zp_v G (12 * r' + c') then 1 else 0)) : wpX_sameCells post (zx_S a kc kn S Y L R N K) (nI (144 * 0 + 12 * sl 0 (6 * F.1 8 + r)) + nI c) (nI (144 * 1 + 12 * sl 1 (6 * G.1 8 + r')) + nI c') := by
  have oF := zp_b8 okF
  have oG := zp_b8 okG
  obtain ⟨i1, c1⟩ := zx_ix h (s := 0) (by decide) oF hr hc
  obtain ⟨i2, c2⟩ := zx_ix h (s := 1) (by decide) oG hr' hc'
  obtain ⟨s1, y1⟩ := zr_rcW h (s := 0) (by decide) oF hr hc
  obtain ⟨s2, y2⟩ := zr_rcW h (s := 1) (by decide) oG hr' hc'
  have l1 := zp_vlt okF (i := 12 * r + c) (by omega)
  have l2 := zp_vlt okG (i := 12 * r' + c') (by omega)
  change vp_in (nI (144 * 0 + 12 * sl 0 (6 * F.1 8 + r)) + nI c) 288 at i1
  change vp_in (nI (144 * 1 + 12 * sl 1 (6 * G.1 8 + r')) + nI c') 288 at i2
  change (nI (144 * 0 + 12 * sl 0 (6 * F.1 8 + r)) + nI c).toNatClampNeg = 144 * 0 + 12 * sl 0 (6 * F.1 8 + r) + c at c1
  change (nI (144 * 1 + 12 * sl 1 (6 * G.1 8 + r')) + nI c').toNatClampNeg = 144 * 1 + 12 * sl 1 (6 * G.1 8 + r') + c' at c2
  change S (144 * 0 + 12 * sl 0 (6 * F.1 8 + r) + c) = nI (zp_v F (12 * r + c) % 128) at s1
  change Y (144 * 0 + 12 * sl 0 (6 * F.1 8 + r) + c) = nI (zp_v F (12 * r + c) / 128) at y1
  change S (144 * 1 + 12 * sl 1 (6 * G.1 8 + r') + c') = nI (zp_v G (12 * r' + c') % 128) at s2
  change Y (144 * 1 + 12 * sl 1 (6 * G.1 8 + r') + c') = nI (zp_v G (12 * r' + c') / 128) at y2
  unfold wpX_sameCells zx_S
  dsimp only
  rw [c1, c2, s1, s2, y1, y2]
  refine ⟨i1, i2, pk_eq _ _ (fun q1 => ⟨i1, i2, pk_eq _ _ (fun q2 => ?_) (fun q2 => ?_)⟩) (fun q1 => ?_)⟩
  · rw [if_pos (by omega)] at hp
    exact hp
  · rw [if_neg (by omega)] at hp
    exact hp
  · rw [if_neg (by omega)] at hp
    exact hp
theorem zx_isEmpty (h : zr_B (fun _ => True) kc kn S Y L R N K z sl W) {s r c : Nat} (hs : s < 2) (o : (W s).1 8 < 2) (l1 : zp_v (W s) (12 * r + c) < 1024) (hr : r < 6) (hc : c < 12) {x : Int32} (ex : x = nI (144 * s + 12 * sl s (6 * (W s).1 8 + r)) + nI c) {post : Int32 → Prop}
    (hp : post (if zp_v (W s) (12 * r + c) = 32 then 1 else 0)) : wpX_isEmpty post (zx_S a kc kn S Y L R N K) x := by
  obtain ⟨i1, c1⟩ := zx_ix h hs o hr hc
  obtain ⟨s1, y1⟩ := zr_rcW h hs o hr hc
  rw [ex]
  unfold wpX_isEmpty zx_S
  dsimp only
  rw [c1, s1, y1]
  refine ⟨i1, pk_eq _ 32 (fun q1 => ⟨i1, pk_eq _ 0 (fun q2 => ?_) (fun q2 => ?_)⟩) (fun q1 => ?_)⟩
  · rw [if_pos (by omega)] at hp
    exact hp
  · rw [if_neg (by omega)] at hp
    exact hp
  · rw [if_neg (by omega)] at hp
    exact hp
/-- how many of n cells from b on differ -/
def zp_nd (f g : Nat → Nat) (b : Nat) : Nat → Nat
  | 0 => 0
  | n + 1 => zp_nd f g b n + (if f (b + n) = g (b + n) then 0 else 1)
theorem zp_nd_le (f g : Nat → Nat) (b : Nat) : ∀ n, zp_nd f g b n ≤ n
  | 0 => Nat.le_refl _
  | n + 1 => by
    have := zp_nd_le f g b n
    unfold zp_nd
    split <;> omega
theorem zp_nd_add (f g : Nat → Nat) (b m : Nat) : ∀ n, zp_nd f g b (m + n) = zp_nd f g b m + zp_nd f g (b + m) n
  | 0 => rfl
  | n + 1 => by
    show zp_nd f g b (m + n) + (if f (b + (m + n)) = g (b + (m + n)) then 0 else 1) = zp_nd f g b m + (zp_nd f g (b + m) n + (if f (b + m + n) = g (b + m + n) then 0 else 1))
    rw [zp_nd_add f g b m n, Nat.add_assoc, Nat.add_assoc b m n]
theorem zx_staleIn_20 (h : zr_B (fun _ => True) kc kn S Y L R N K z sl (zz_sel 0 (zp_fz F l) G)) (okF : zp_ok F) (okG : zp_ok G) {t r : Nat} (hr : r < 6) {post : Int32 → Prop} (hp : post (nI (zp_nd (zp_v F) (zp_v G) (12 * r) 12))) :
    ∀ (d c : Nat), c + d = 12 → ∀ n, d < n → wX_staleIn_20 post (nI (144 * 0 + 12 * sl 0 (6 * F.1 8 + r))) (nI (144 * 1 + 12 * sl 1 (6 * G.1 8 + r))) (nI t) kc kn S Y L (R 0) (R 1) (R 2) (R 3) (R 4) (R 5) (R 6) (R 7) (R 8) (R 9) (R 10) (R 11) (R 12) (R 13) (R 14) (R 15) (R 16) (R 17) (R 18) N K n (nI (zp_nd (zp_v F) (zp_v G) (12 * r) c)) (nI c) := by
  intro d
  induction d with
  | zero =>
    intro c hc n hn
    obtain ⟨m, rfl⟩ : ∃ m, n = m + 1 := ⟨n - 1, by omega⟩
    rw [show c = 12 by omega]
    exact br_t (nI_le (a := 12) (by omega) (by omega)) hp
  | succ d ih =>
    intro c hc n hn
    obtain ⟨m, rfl⟩ : ∃ m, n = m + 1 := ⟨n - 1, by omega⟩
    refine br_f (nI_ge (b := 12) (by omega) (by decide)) (zx_same h okF okG hr (by omega) hr (by omega) ?_)
    have ih' := ih (c + 1) (by omega) m (by omega)
    unfold zp_nd at ih'
    by_cases e : zp_v F (12 * r + c) = zp_v G (12 * r + c)
    · rw [if_pos e] at ih' ⊢
      exact br_f (by decide) (nm_r (e' := nI (zp_nd (zp_v F) (zp_v G) (12 * r) c + 0)) (nI_add _ 0) (nm_r (nI_1 c) ih'))
    · rw [if_neg e] at ih' ⊢
      exact br_t rfl (nm_r (nI_1 _) (nm_r (nI_1 c) ih'))
theorem zx_staleIn (h : zr_B (fun _ => True) kc kn S Y L R N K z sl (zz_sel 0 (zp_fz F l) G)) (okF : zp_ok F) (okG : zp_ok G) {t r : Nat} (hr : r < 6) {post : Int32 → Prop} (hp : post (nI (zp_nd (zp_v F) (zp_v G) (12 * r) 12))) : wpX_staleIn post (zx_S (nI t) kc kn S Y L R N K) (nI r) := by
  unfold wpX_staleIn zx_S
  dsimp only
  exact zx_lineOf (s := 0) h (by decide) (show F.1 8 < 2 from zp_b8 okF) hr (zx_lineOf (s := 1) h (by decide) (zp_b8 okG) hr ⟨13, zx_staleIn_20 h okF okG hr hp 12 0 (by decide) 13 (by decide)⟩)
theorem zx_stale_4 (h : zr_B (fun _ => True) kc kn S Y L R N K z sl (zz_sel 0 (zp_fz F l) G)) (okF : zp_ok F) (okG : zp_ok G) {t : Nat} {post : Int32 → Prop} (hp : post (nI (zp_nd (zp_v F) (zp_v G) 0 72))) :
    ∀ (d r : Nat), r + d = 6 → ∀ n, d < n → wX_stale_4 post (nI t) kc kn S Y L (R 0) (R 1) (R 2) (R 3) (R 4) (R 5) (R 6) (R 7) (R 8) (R 9) (R 10) (R 11) (R 12) (R 13) (R 14) (R 15) (R 16) (R 17) (R 18) N K n (nI (zp_nd (zp_v F) (zp_v G) 0 (12 * r))) (nI r) := by
  intro d
  induction d with
  | zero =>
    intro r hr n hn
    obtain ⟨m, rfl⟩ : ∃ m, n = m + 1 := ⟨n - 1, by omega⟩
    rw [show r = 6 by omega]
    exact br_t (nI_le (a := 6) (by omega) (by omega)) hp
  | succ d ih =>
    intro r hr n hn
    obtain ⟨m, rfl⟩ : ∃ m, n = m + 1 := ⟨n - 1, by omega⟩
    refine br_f (nI_ge (b := 6) (by omega) (by decide)) (zx_staleIn h okF okG (by omega) ?_)
    have ih' := ih (r + 1) (by omega) m (by omega)
    rw [show 12 * (r + 1) = 12 * r + 12 by omega, zp_nd_add, Nat.zero_add] at ih'
    exact nm_r (nI_add _ _) (nm_r (nI_1 r) ih')
theorem zx_stale {u : SX} (h : zr_Z l u F G) (okF : zp_ok F) (okG : zp_ok G) {post : Int32 → Prop} (hp : post (nI (zp_nd (zp_v F) (zp_v G) 0 72))) : wpX_stale post u := by
  obtain ⟨t, ht, kc, kn, S, Y, L, R, N, K, z, sl, rfl, h⟩ := h
  exact ⟨7, zx_stale_4 h okF okG hp 6 0 (by decide) 7 (by decide)⟩
theorem zx_rightAfter_50 (h : zr_B (fun _ => True) kc kn S Y L R N K z sl (zz_sel 0 (zp_fz F l) G)) (okF : zp_ok F) (okG : zp_ok G) {t r r' : Nat} (hr : r < 6) (hr' : r' < 6) {post : Int32 → Prop} {J : Int32 → Int32 → Prop} {x1 x2 : Int32} (hp : ∀ y, J y (nI (r + 1))) :
    ∀ (d c : Nat) (x7 : Int32), c + d = 12 → ∀ n, d < n → wX_rightAfter_50 post J x1 x2 (nI r) (nI (144 * 0 + 12 * sl 0 (6 * F.1 8 + r))) (nI (144 * 1 + 12 * sl 1 (6 * G.1 8 + r'))) (nI t) kc kn S Y L (R 0) (R 1) (R 2) (R 3) (R 4) (R 5) (R 6) (R 7) (R 8) (R 9) (R 10) (R 11) (R 12) (R 13) (R 14) (R 15) (R 16) (R 17) (R 18) N K n x7 (nI c) := by
  have k84 : ∀ x7, wX_rightAfter_84 post J x1 x2 (nI r) x7 (nI t) kc kn S Y L (R 0) (R 1) (R 2) (R 3) (R 4) (R 5) (R 6) (R 7) (R 8) (R 9) (R 10) (R 11) (R 12) (R 13) (R 14) (R 15) (R 16) (R 17) (R 18) N K := fun x7 => br_c (fun _ => nm_e (nm_r (nI_1 r) (hp _))) (fun _ => nm_e (nm_r (nI_1 r) (hp _)))
  intro d
  induction d with
  | zero =>
    intro c x7 hc n hn
    obtain ⟨m, rfl⟩ : ∃ m, n = m + 1 := ⟨n - 1, by omega⟩
    exact br_t (nI_le (a := 12) (by omega) (by omega)) (k84 x7)
  | succ d ih =>
    intro c x7 hc n hn
    obtain ⟨m, rfl⟩ : ∃ m, n = m + 1 := ⟨n - 1, by omega⟩
    exact br_f (nI_ge (b := 12) (by omega) (by decide)) (br_c (fun _ => k84 x7) (fun _ => zx_same h okF okG hr (by omega) hr' (by omega) (nm_r (nI_1 c) (ih (c + 1) _ (by omega) m (by omega)))))
theorem zx_rightAfter_4 (h : zr_B (fun _ => True) kc kn S Y L R N K z sl (zz_sel 0 (zp_fz F l) G)) (okF : zp_ok F) (okG : zp_ok G) {t : Nat} {post : Int32 → Prop} {x1 : Int32} (hp : ∀ y, post y) :
    ∀ (d r : Nat) (x2 : Int32), r + d = 6 → ∀ n, d < n → wX_rightAfter_4 post x1 (nI t) kc kn S Y L (R 0) (R 1) (R 2) (R 3) (R 4) (R 5) (R 6) (R 7) (R 8) (R 9) (R 10) (R 11) (R 12) (R 13) (R 14) (R 15) (R 16) (R 17) (R 18) N K n x2 (nI r) := by
  intro d
  induction d with
  | zero =>
    intro r x2 hr n hn
    obtain ⟨m, rfl⟩ : ∃ m, n = m + 1 := ⟨n - 1, by omega⟩
    exact br_t (nI_le (a := 6) (by omega) (by omega)) (hp _)
  | succ d ih =>
    intro r x2 hr n hn
    obtain ⟨m, rfl⟩ : ∃ m, n = m + 1 := ⟨n - 1, by omega⟩
    refine br_f (nI_ge (b := 6) (by omega) (by decide)) (nm_e (br_c (fun _ => nm_r (nI_1 r) (ih (r + 1) x2 (by omega) m (by omega))) (fun q1 => br_c (fun _ => nm_r (nI_1 r) (ih (r + 1) x2 (by omega) m (by omega))) (fun q2 => ?_))))
    rcases pk_ix (nI r + x1) (n := 6) (by decide) with c | c | ⟨j, hj, e⟩
    · exact absurd c q1
    · exact absurd c q2
    · rw [e]
      exact zx_lineOf (s := 0) h (by decide) (show F.1 8 < 2 from zp_b8 okF) (by omega) (zx_lineOf (s := 1) h (by decide) (zp_b8 okG) hj ⟨13, zx_rightAfter_50 h okF okG (by omega) hj (fun y => ih (r + 1) y (by omega) m (by omega)) 12 0 1 (by decide) 13 (by decide)⟩)
theorem zx_rightAfter (h : zr_B (fun _ => True) kc kn S Y L R N K z sl (zz_sel 0 (zp_fz F l) G)) (okF : zp_ok F) (okG : zp_ok G) {t : Nat} {post : Int32 → Prop} {x1 : Int32} (hp : ∀ y, post y) : wpX_rightAfter post (zx_S (nI t) kc kn S Y L R N K) x1 :=
  ⟨7, zx_rightAfter_4 h okF okG hp 6 0 0 (by decide) 7 (by decide)⟩
theorem zx_rightCells_22 (h : zr_B (fun _ => True) kc kn S Y L R N K z sl (zz_sel 0 (zp_fz F l) G)) (okF : zp_ok F) (okG : zp_ok G) {t r f : Nat} (hr : r < 6) (hf : f ≤ 12) {post : Int32 → Prop} {x3 : Int32} (hp : ∀ y, post y) :
    ∀ (d c : Nat) (x6 : Int32), c + d = 12 → ∀ n, d < n → wX_rightCells_22 post (nI f) x3 (nI (144 * 0 + 12 * sl 0 (6 * F.1 8 + r))) (nI (144 * 1 + 12 * sl 1 (6 * G.1 8 + r))) (nI t) kc kn S Y L (R 0) (R 1) (R 2) (R 3) (R 4) (R 5) (R 6) (R 7) (R 8) (R 9) (R 10) (R 11) (R 12) (R 13) (R 14) (R 15) (R 16) (R 17) (R 18) N K n x6 (nI c) := by
  intro d
  induction d with
  | zero =>
    intro c x6 hc n hn
    obtain ⟨m, rfl⟩ : ∃ m, n = m + 1 := ⟨n - 1, by omega⟩
    exact br_t (nI_le (a := 12) (by omega) (by omega)) (hp _)
  | succ d ih =>
    intro c x6 hc n hn
    obtain ⟨m, rfl⟩ : ∃ m, n = m + 1 := ⟨n - 1, by omega⟩
    have ih' := fun y => ih (c + 1) y (by omega) m (by omega)
    have k52 : ∀ x8, wX_rightCells_52 post (wX_rightCells_22 post (nI f) x3 (nI (144 * 0 + 12 * sl 0 (6 * F.1 8 + r))) (nI (144 * 1 + 12 * sl 1 (6 * G.1 8 + r))) (nI t) kc kn S Y L (R 0) (R 1) (R 2) (R 3) (R 4) (R 5) (R 6) (R 7) (R 8) (R 9) (R 10) (R 11) (R 12) (R 13) (R 14) (R 15) (R 16) (R 17) (R 18) N K m) (nI f) x3 (nI (144 * 0 + 12 * sl 0 (6 * F.1 8 + r))) (nI (144 * 1 + 12 * sl 1 (6 * G.1 8 + r))) x6 (nI c) x8 (nI t) kc kn S Y L (R 0) (R 1) (R 2) (R 3) (R 4) (R 5) (R 6) (R 7) (R 8) (R 9) (R 10) (R 11) (R 12) (R 13) (R 14) (R 15) (R 16) (R 17) (R 18) N K := fun x8 => br_t rfl (nm_e (nm_r (nI_1 c) (ih' _)))
    refine br_f (nI_ge (b := 12) (by omega) (by decide)) (nm_e (br_c (fun _ => k52 _) (fun q1 => br_c (fun _ => k52 _) (fun q2 => ?_))))
    have hx : ∃ j, j < 12 ∧ nI c + x3 = nI j := by
      rcases pk_ix (nI c + x3) (n := 12) (by decide) with e | e | ⟨j, hj, e⟩
      · exact absurd (Int32.lt_of_lt_of_le e (nI_pos' (by omega))) q1
      · exact absurd e q2
      · exact ⟨j, hj, e⟩
    obtain ⟨j, hj, e⟩ := hx
    rw [e]
    exact br_f (by decide) (zx_same h okF okG hr (by omega) hr hj (br_c (fun _ => nm_e (nm_r (nI_1 c) (ih' _))) (fun _ => nm_e (nm_r (nI_1 c) (ih' _)))))
theorem zx_rightCells (h : zr_B (fun _ => True) kc kn S Y L R N K z sl (zz_sel 0 (zp_fz F l) G)) (okF : zp_ok F) (okG : zp_ok G) {t r f : Nat} (hr : r < 6) (hf : f ≤ 12) {post : Int32 → Prop} {x3 : Int32} (hp : ∀ y, post y) : wpX_rightCells post (zx_S (nI t) kc kn S Y L R N K) (nI r) (nI f) x3 := by
  unfold wpX_rightCells zx_S
  dsimp only
  exact zx_lineOf (s := 0) h (by decide) (show F.1 8 < 2 from zp_b8 okF) hr (zx_lineOf (s := 1) h (by decide) (zp_b8 okG) hr ⟨13, zx_rightCells_22 h okF okG hr hf hp (12 - f) f 0 (by omega) 13 (by omega)⟩)
theorem zx_firstStale_17 (h : zr_B (fun _ => True) kc kn S Y L R N K z sl (zz_sel 0 (zp_fz F l) G)) (okF : zp_ok F) (okG : zp_ok G) {t r : Nat} (hr : r < 6) {post : Int32 → Prop} (hp : ∀ c, c ≤ 12 → (∀ i, i < c → zp_v F (12 * r + i) = zp_v G (12 * r + i)) → post (nI c)) :
    ∀ (d c : Nat), c + d = 12 → (∀ i, i < c → zp_v F (12 * r + i) = zp_v G (12 * r + i)) → ∀ n, d < n → wX_firstStale_17 post (nI (144 * 0 + 12 * sl 0 (6 * F.1 8 + r))) (nI (144 * 1 + 12 * sl 1 (6 * G.1 8 + r))) (nI t) kc kn S Y L (R 0) (R 1) (R 2) (R 3) (R 4) (R 5) (R 6) (R 7) (R 8) (R 9) (R 10) (R 11) (R 12) (R 13) (R 14) (R 15) (R 16) (R 17) (R 18) N K n (nI c) := by
  intro d
  induction d with
  | zero =>
    intro c hc hs n hn
    obtain ⟨m, rfl⟩ : ∃ m, n = m + 1 := ⟨n - 1, by omega⟩
    exact br_t (nI_le (a := 12) (by omega) (by omega)) (hp c (by omega) hs)
  | succ d ih =>
    intro c hc hs n hn
    obtain ⟨m, rfl⟩ : ∃ m, n = m + 1 := ⟨n - 1, by omega⟩
    refine br_f (nI_ge (b := 12) (by omega) (by decide)) (zx_same h okF okG hr (by omega) hr (by omega) ?_)
    by_cases e : zp_v F (12 * r + c) = zp_v G (12 * r + c)
    · rw [if_pos e]
      refine br_f (by decide) (nm_r (nI_1 c) (ih (c + 1) (by omega) (fun i hi => ?_) m (by omega)))
      by_cases ci : i = c
      · rw [ci]
        exact e
      · exact hs i (by omega)
    · rw [if_neg e]
      exact br_t rfl (hp c (by omega) hs)
theorem zx_firstStale (h : zr_B (fun _ => True) kc kn S Y L R N K z sl (zz_sel 0 (zp_fz F l) G)) (okF : zp_ok F) (okG : zp_ok G) {t r : Nat} (hr : r < 6) {post : Int32 → Prop} (hp : ∀ c, c ≤ 12 → (∀ i, i < c → zp_v F (12 * r + i) = zp_v G (12 * r + i)) → post (nI c)) : wpX_firstStale post (zx_S (nI t) kc kn S Y L R N K) (nI r) := by
  unfold wpX_firstStale zx_S
  dsimp only
  exact zx_lineOf (s := 0) h (by decide) (show F.1 8 < 2 from zp_b8 okF) hr (zx_lineOf (s := 1) h (by decide) (zp_b8 okG) hr ⟨13, zx_firstStale_17 h okF okG hr hp 12 0 (by decide) (fun i hi => absurd hi (by omega)) 13 (by decide)⟩)
end
end
section
/-! what is shown: short sequences are sent -/
def zp_rdy (G : zz_T) : Prop := zp_ok G ∧ G.1 16 = 0 ∧ G.1 4 = 0 ∧ G.1 5 = 5 ∧ G.1 6 = 0 ∧ G.1 7 = 1 ∧ G.1 8 = 0
/-- a list of numbers is under way: registers and cells are as in G -/
def zp_sq (G T : zz_T) (c : Nat) (a : Nat → Nat) : Prop :=
  (∀ i, i < 16 → T.1 i = G.1 i) ∧ T.2.1 = G.2.1 ∧ zp_ok T ∧ 2 ≤ T.1 16 ∧ T.1 17 = 0 ∧ T.1 18 = c ∧ (∀ i, i < 4 → T.1 (20 + i) = a i)
theorem zp_sq0 {G : zz_T} (h : zp_rdy G) : zp_sq G (zp_rd (zp_rd G 27) 91) 1 (fun _ => 0) := by
  have e1 : zp_rd G 27 = zp_sg G 16 1 := zp_rdp h.2.1 27
  have ok2 := zp_ok_rd (b := 91) (zp_ok_rd (b := 27) h.1)
  rw [e1] at ok2 ⊢
  have e2 : zp_rd (zp_sg G 16 1) 91 = zp_lis (zp_sg (zp_sg G 16 1) 16 2) := zp_rd1 (zp_sg1 G 16 1) 91
  rw [e2] at ok2 ⊢
  refine ⟨?_, rfl, ok2, (by decide : 2 ≤ 2), rfl, rfl, ?_⟩
  · intro i hi
    unfold zp_lis
    rw [zp_sgn _ _ (by omega : i ≠ 23), zp_sgn _ _ (by omega : i ≠ 22), zp_sgn _ _ (by omega : i ≠ 21), zp_sgn _ _ (by omega : i ≠ 20), zp_sgn _ _ (by omega : i ≠ 18), zp_sgn _ _ (by omega : i ≠ 17), zp_sgn _ _ (by omega : i ≠ 16), zp_sgn _ _ (by omega : i ≠ 16)]
  · intro i hi
    rcases (by omega : i = 0 ∨ i = 1 ∨ i = 2 ∨ i = 3) with c | c | c | c <;> subst c <;> rfl
theorem zp_sqd {G T : zz_T} {c d : Nat} {a : Nat → Nat} (h : zp_sq G T c a) (h1 : 1 ≤ c) (h4 : c ≤ 4) (hd : d < 10) (h9 : 10 * a (c - 1) + d ≤ 99) : zp_sq G (zp_rd T (48 + d)) c (fun i => if i = c - 1 then 10 * a (c - 1) + d else a i) := by
  obtain ⟨q1, q2, q3, q4, q5, q6, q7⟩ := h
  have okr := zp_ok_rd (b := 48 + d) q3
  have e : zp_rd T (48 + d) = zp_sg (zp_sg T 16 3) (20 + (c - 1)) (10 * a (c - 1) + d) := by
    rw [zp_rd2 q4, zp_l2, if_neg (by omega), if_pos (by omega), zp_dig]
    have e18 : (zp_sg T 16 3).1 18 = c := q6
    rw [e18, if_neg (by omega), show 19 + c = 20 + (c - 1) by omega, zp_sgn T 3 (by omega : 20 + (c - 1) ≠ 16), q7 (c - 1) (by omega), show 48 + d - 48 = d by omega, if_pos h9]
  rw [e] at okr ⊢
  refine ⟨?_, q2, okr, ?_, ?_, ?_, ?_⟩
  · intro i hi
    rw [zp_sgn _ _ (by omega : i ≠ 20 + (c - 1)), zp_sgn _ _ (by omega : i ≠ 16)]
    exact q1 i hi
  · rw [zp_sgn _ _ (by omega : 16 ≠ 20 + (c - 1)), zp_sg1]
    decide
  · rw [zp_sgn _ _ (by omega : 17 ≠ 20 + (c - 1)), zp_sgn _ _ (by decide : 17 ≠ 16)]
    exact q5
  · rw [zp_sgn _ _ (by omega : 18 ≠ 20 + (c - 1)), zp_sgn _ _ (by decide : 18 ≠ 16)]
    exact q6
  · intro i hi
    dsimp only
    by_cases ci : i = c - 1
    · rw [if_pos ci, ci, zp_sg1]
    · rw [if_neg ci, zp_sgn _ _ (by omega : 20 + i ≠ 20 + (c - 1)), zp_sgn _ _ (by omega : 20 + i ≠ 16)]
      exact q7 i hi
theorem zp_sqn {G T : zz_T} {c : Nat} {a : Nat → Nat} (h : zp_sq G T c a) (h4 : c ≤ 4) : zp_sq G (zp_rd T 59) (c + 1) a := by
  obtain ⟨q1, q2, q3, q4, q5, q6, q7⟩ := h
  have okr := zp_ok_rd (b := 59) q3
  have e : zp_rd T 59 = zp_sg (zp_sg T 16 3) 18 (c + 1) := by
    have e18 : (zp_sg T 16 3).1 18 = c := q6
    rw [zp_rd2 q4]
    show zp_num (zp_sg T 16 3) = _
    rw [zp_num, e18, if_neg (by omega)]
  rw [e] at okr ⊢
  refine ⟨?_, q2, okr, (by decide : 2 ≤ 3), q5, rfl, ?_⟩
  · intro i hi
    rw [zp_sgn _ _ (by omega : i ≠ 18), zp_sgn _ _ (by omega : i ≠ 16)]
    exact q1 i hi
  · intro i hi
    rw [zp_sgn _ _ (by omega : 20 + i ≠ 18), zp_sgn _ _ (by omega : 20 + i ≠ 16)]
    exact q7 i hi
theorem zp_sqx {G T : zz_T} {c : Nat} {a b : Nat → Nat} (h : zp_sq G T c a) (e : ∀ i, i < 4 → a i = b i) : zp_sq G T c b := by
  obtain ⟨q1, q2, q3, q4, q5, q6, q7⟩ := h
  exact ⟨q1, q2, q3, q4, q5, q6, fun i hi => (q7 i hi).trans (e i hi)⟩
/-- behind a list: X is as G, but waits for nothing -/
def zp_bs (G X : zz_T) : Prop := (∀ i, i < 16 → i ≠ 2 → X.1 i = G.1 i) ∧ X.1 2 = 0 ∧ X.1 16 = 0 ∧ X.2.1 = G.2.1 ∧ zp_ok X
theorem zp_sql {G T : zz_T} {c b : Nat} {a : Nat → Nat} (h : zp_sq G T c a) (hb : 64 ≤ b) (hb' : b < 127) : zp_rd T b = zp_lst (zp_sg T 16 0) b := by
  obtain ⟨q1, q2, q3, q4, q5, q6, q7⟩ := h
  rw [zp_rd2 q4, zp_l2, if_neg (by omega), if_neg (by omega), if_neg (by omega), if_pos ⟨hb, hb'⟩]
theorem zp_sqk {G T : zz_T} {c b : Nat} {a : Nat → Nat} (h : zp_sq G T c a) (hb : 64 ≤ b) (hb' : b < 127) (hk : zp_kk b = 1) (h9 : b ≠ 109 ∧ b ≠ 104 ∧ b ≠ 108) :
    zp_rd T b = zp_kn1 (zp_sg (zp_sg T 16 0) 2 0) b (a 0) (if a 0 = 0 then 1 else a 0) ∧ zp_bs G (zp_sg (zp_sg T 16 0) 2 0) ∧ (zp_sg (zp_sg T 16 0) 2 0).1 21 = a 1 := by
  have e := zp_sql h hb hb'
  obtain ⟨q1, q2, q3, q4, q5, q6, q7⟩ := h
  have e17 : (zp_sg T 16 0).1 17 = 0 := q5
  have e20 : (zp_sg T 16 0).1 20 = a 0 := q7 0 (by decide)
  refine ⟨?_, ⟨?_, rfl, rfl, q2, zp_ok_20 (zp_ok_st q3 (by decide) (fun q => absurd q (by decide)))⟩, q7 1 (by decide)⟩
  · rw [e, zp_lst, if_pos e17, if_neg h9.1, if_neg h9.2.1, if_neg h9.2.2, if_pos hk, zp_kno, e20]
  · intro i hi h2
    rw [zp_sgn _ _ h2, zp_sgn _ _ (by omega : i ≠ 16)]
    exact q1 i hi
theorem zp_bs_rdy {G X : zz_T} (h : zp_bs G X) (r : zp_rdy G) : zp_rdy X := by
  obtain ⟨q1, q2, q3, q4, q5⟩ := h
  obtain ⟨r1, r2, r3, r4, r5, r6, r7⟩ := r
  refine ⟨q5, q3, ?_, ?_, ?_, ?_, ?_⟩
  · rw [q1 4 (by decide) (by decide), r3]
  · rw [q1 5 (by decide) (by decide), r4]
  · rw [q1 6 (by decide) (by decide), r5]
  · rw [q1 7 (by decide) (by decide), r6]
  · rw [q1 8 (by decide) (by decide), r7]
theorem zp_rdy_mv {X : zz_T} (h : zp_rdy X) {r c : Nat} (hr : r < 6) (hc : c < 12) : zp_rdy (zp_mv X r c) := ⟨zp_ok_mv h.1 hr hc, h.2⟩
section
variable {kc kn : Int32} {S Y L : zz_A} {R : Nat → zz_A} {N K : zz_A} {z : Nat → Nat} {sl : Nat → Nat → Nat} {t : Nat} {F G T : zz_T} {l : Nat → Nat}
theorem zx_sendNumber_17 {post : SX → Prop} {n : Nat} (h : zr_B (fun _ => True) kc kn S Y L R N K z sl (zz_sel 0 (zp_fz F l) T)) (ht : t < 2) (ok : zp_ok T) (hn : n ≤ 99) (hp : ∀ u', zr_Z l u' F (zp_rd T (48 + n % 10)) → post u') : wX_sendNumber_17 post (nI n) (nI t) kc kn S Y L (R 0) (R 1) (R 2) (R 3) (R 4) (R 5) (R 6) (R 7) (R 8) (R 9) (R 10) (R 11) (R 12) (R 13) (R 14) (R 15) (R 16) (R 17) (R 18) N K := by
  have e : 48 + (nI n - nI n / 10 * 10) = nI (48 + n % 10) := by
    have e1 : nI n - nI n / nI 10 * nI 10 = nI (n % 10) := pk_rem (by omega) (by decide) (by decide)
    have e2 : nI 48 + (nI n - nI n / nI 10 * nI 10) = nI (48 + n % 10) := by rw [e1, nI_add]
    exact e2
  unfold wX_sendNumber_17
  rw [e]
  refine ⟨by decide, zx_send (zz_mk ht h) ok (by omega) (zz_k ?_)⟩
  intro t ht kc kn S Y L R N K z sl h
  exact hp _ (zz_mk ht h)
theorem zx_sendNumber {u : SX} {post : SX → Prop} {n c : Nat} {a : Nat → Nat} (h : zr_Z l u F T) (sq : zp_sq G T c a) (h1 : 1 ≤ c) (h4 : c ≤ 4) (h0 : a (c - 1) = 0) (hn : n ≤ 99) (hp : ∀ u' T', zr_Z l u' F T' → zp_sq G T' c (fun i => if i = c - 1 then n else a i) → post u') : wpX_sendNumber post u (nI n) := by
  obtain ⟨t, ht, kc, kn, S, Y, L, R, N, K, z, sl, rfl, h⟩ := h
  unfold wpX_sendNumber zx_S
  dsimp only
  refine pk_lt n 10 (fun c10 => ?_) (fun c10 => ?_)
  · refine zx_sendNumber_17 h ht sq.2.2.1 hn (fun u' h' => hp u' _ h' ?_)
    refine zp_sqx (zp_sqd (d := n % 10) sq h1 h4 (by omega) (by rw [h0]; omega)) (fun i _ => ?_)
    by_cases ci : i = c - 1
    · rw [if_pos ci, if_pos ci, h0]
      omega
    · rw [if_neg ci, if_neg ci]
  · have e : 48 + nI n / 10 = nI (48 + n / 10) := by
      have e1 : nI 48 + nI n / nI 10 = nI (48 + n / 10) := by rw [pk_div (by omega) (by decide) (by decide), nI_add]
      exact e1
    rw [e]
    have sq1 := zp_sqd (d := n / 10) sq h1 h4 (by omega) (by rw [h0]; omega)
    refine ⟨by decide, zx_send (zz_mk ht h) sq.2.2.1 (by omega) (zz_k ?_)⟩
    intro t ht kc kn S Y L R N K z sl h
    have sq2 := zp_sqd (d := n % 10) sq1 h1 h4 (by omega) (by rw [if_pos rfl, h0]; omega)
    refine zx_sendNumber_17 h ht sq1.2.2.1 hn (fun u' h' => hp u' _ h' (zp_sqx sq2 (fun i _ => ?_)))
    by_cases ci : i = c - 1
    · rw [if_pos ci, if_pos ci, if_pos rfl, h0]
      omega
    · rw [if_neg ci, if_neg ci, if_neg ci]
/-- ESC [ n last: n is the count, 1 when it is left out -/
theorem zx_sendOne {u : SX} {post : SX → Prop} {n b : Nat} (h : zr_Z l u F G) (rd : zp_rdy G) (hn : 1 ≤ n) (hn' : n ≤ 99) (hb : 64 ≤ b) (hb' : b < 127) (hk : zp_kk b = 1) (h9 : b ≠ 109 ∧ b ≠ 104 ∧ b ≠ 108)
    (hp : ∀ u' X p, zp_bs G X → zr_Z l u' F (zp_kn1 X b p n) → post u') : wpX_sendOne post u (nI n) (nI b) := by
  obtain ⟨t, ht, kc, kn, S, Y, L, R, N, K, z, sl, rfl, h⟩ := h
  unfold wpX_sendOne zx_S
  dsimp only
  have ok1 := zp_ok_rd (b := 27) rd.1
  have sq := zp_sq0 rd
  refine zx_send (b := 27) (zz_mk ht h) rd.1 (by decide) (zz_k ?_)
  intro t ht kc kn S Y L R N K z sl h
  refine zx_send (b := 91) (zz_mk ht h) ok1 (by decide) (zz_k ?_)
  intro t ht kc kn S Y L R N K z sl h
  have key : ∀ T a t, t < 2 → ∀ kc kn S Y L R N K z sl, zr_B (fun _ => True) kc kn S Y L R N K z sl (zz_sel 0 (zp_fz F l) T) → zp_sq G T 1 a → (if a 0 = 0 then 1 else a 0) = n → wX_sendOne_22 post (nI b) (nI t) kc kn S Y L (R 0) (R 1) (R 2) (R 3) (R 4) (R 5) (R 6) (R 7) (R 8) (R 9) (R 10) (R 11) (R 12) (R 13) (R 14) (R 15) (R 16) (R 17) (R 18) N K := by
    intro T a t ht kc kn S Y L R N K z sl h sq ea
    obtain ⟨e1, e2, _⟩ := zp_sqk sq hb hb' hk h9
    refine zx_send (zz_mk ht h) sq.2.2.1 (by omega) (zz_k ?_)
    intro t ht kc kn S Y L R N K z sl h
    rw [e1, ea] at h
    exact hp _ _ _ e2 (zz_mk ht h)
  refine pk_eq n 1 (fun c => ?_) (fun c => ?_)
  · exact key _ _ t ht kc kn S Y L R N K z sl h sq (by rw [if_pos rfl, c])
  · refine zx_sendNumber (zz_mk ht h) sq (by decide) (by decide) rfl hn' (fun u' T' h' sq' => ?_)
    obtain ⟨t, ht, kc, kn, S, Y, L, R, N, K, z, sl, rfl, h⟩ := h'
    exact key _ _ t ht kc kn S Y L R N K z sl h sq' (by rw [if_pos rfl, if_neg (by omega)])
/-- the shown cursor goes somewhere -/
theorem zx_sendMove {u : SX} {post : SX → Prop} {r c : Nat} (h : zr_Z l u F G) (rd : zp_rdy G) (hr : r < 6) (hc : c < 12)
    (hp : ∀ u' G', zr_Z l u' F G' → zp_rdy G' → G'.1 0 = r → G'.1 1 = c → G'.1 2 = 0 → G'.1 3 = G.1 3 → G'.2.1 = G.2.1 → post u') : wpX_sendMove post u (nI r) (nI c) := by
  obtain ⟨t, ht, kc, kn, S, Y, L, R, N, K, z, sl, rfl, h⟩ := h
  have b0 := zp_b0 rd.1
  have b1 := zp_b1 rd.1
  have b2 := zp_b2 rd.1
  have e0 : R 0 1 = nI (G.1 0) := h.1 1 0 (by decide) (by decide)
  have e1 : R 1 1 = nI (G.1 1) := h.1 1 1 (by decide) (by decide)
  have e2 : R 2 1 = nI (G.1 2) := h.1 1 2 (by decide) (by decide)
  have kmv : ∀ u' X r' c', zp_bs G X → zr_Z l u' F (zp_mv X r' c') → r' = r → c' = c → post u' := by
    intro u' X r' c' bs h' er ec
    subst er ec
    exact hp u' _ h' (zp_rdy_mv (zp_bs_rdy bs rd) hr hc) rfl rfl bs.2.1 (bs.1 3 (by decide) (by decide)) bs.2.2.2.1
  have k30 : ∀ x3, wX_sendMove_30 post (nI r) (nI c) x3 (nI t) kc kn S Y L (R 0) (R 1) (R 2) (R 3) (R 4) (R 5) (R 6) (R 7) (R 8) (R 9) (R 10) (R 11) (R 12) (R 13) (R 14) (R 15) (R 16) (R 17) (R 18) N K := by
    intro x3
    refine br_t rfl (br_t rfl (br_t rfl (br_t rfl (br_t rfl ?_))))
    have ok1 := zp_ok_rd (b := 27) rd.1
    have sq := zp_sq0 rd
    refine zx_send (b := 27) (zz_mk ht h) rd.1 (by decide) (zz_k ?_)
    intro t ht kc kn S Y L R N K z sl h
    refine zx_send (b := 91) (zz_mk ht h) ok1 (by decide) (zz_k ?_)
    intro t ht kc kn S Y L R N K z sl h
    show wpX_sendNumber _ _ (nI r + 1)
    rw [nI_1 r]
    refine zx_sendNumber (zz_mk ht h) sq (by decide) (by decide) rfl (by omega) (fun u' T' h' sq' => ?_)
    obtain ⟨t, ht, kc, kn, S, Y, L, R, N, K, z, sl, rfl, h⟩ := h'
    have sq2 := zp_sqn sq' (by decide)
    refine zx_send (b := 59) (zz_mk ht h) sq'.2.2.1 (by decide) (zz_k ?_)
    intro t ht kc kn S Y L R N K z sl h
    show wpX_sendNumber _ _ (nI c + 1)
    rw [nI_1 c]
    refine zx_sendNumber (zz_mk ht h) sq2 (by decide) (by decide) rfl (by omega) (fun u' T' h' sq3 => ?_)
    obtain ⟨t, ht, kc, kn, S, Y, L, R, N, K, z, sl, rfl, h⟩ := h'
    obtain ⟨x1, x2, x3⟩ := zp_sqk (b := 72) sq3 (by decide) (by decide) (by decide) (by decide)
    refine zx_send (b := 72) (zz_mk ht h) sq3.2.2.1 (by decide) (zz_k ?_)
    intro t ht kc kn S Y L R N K z sl h
    rw [x1] at h
    have x3' : (zp_sg (zp_sg T' 16 0) 2 0).1 21 = c + 1 := x3
    have em : zp_kn1 (zp_sg (zp_sg T' 16 0) 2 0) 72 ((fun i => if i = 2 - 1 then c + 1 else (fun i => if i = 1 - 1 then r + 1 else (fun _ => 0) i) i) 0) (if (fun i => if i = 2 - 1 then c + 1 else (fun i => if i = 1 - 1 then r + 1 else (fun _ => 0) i) i) 0 = 0 then 1 else (fun i => if i = 2 - 1 then c + 1 else (fun i => if i = 1 - 1 then r + 1 else (fun _ => 0) i) i) 0) = zp_mv (zp_sg (zp_sg T' 16 0) 2 0) (zp_mn (r + 1 - 1) 5) (if (zp_sg (zp_sg T' 16 0) 2 0).1 21 = 0 then 0 else zp_mn ((zp_sg (zp_sg T' 16 0) 2 0).1 21 - 1) 11) := rfl
    have h' := zz_mk ht h
    refine kmv _ _ _ _ x2 (em ▸ h') ?_ ?_
    · unfold zp_mn
      split <;> omega
    · rw [x3', if_neg (by omega)]
      unfold zp_mn
      split <;> omega
  have k31 : G.1 0 = r → G.1 2 = 0 → wX_sendMove_31 post (nI r) (nI c) (nI (G.1 1)) 1 (nI t) kc kn S Y L (R 0) (R 1) (R 2) (R 3) (R 4) (R 5) (R 6) (R 7) (R 8) (R 9) (R 10) (R 11) (R 12) (R 13) (R 14) (R 15) (R 16) (R 17) (R 18) N K := by
    intro er ew
    refine br_f (by decide) (pk_eq (G.1 1) c (fun ec => hp _ G (zz_mk ht h) rd er ec ew rfl rfl) (fun nc => ?_))
    have rd2 : zp_rdy (zp_sg G 2 0) := ⟨zp_ok_20 rd.1, rd.2⟩
    have kc1 : ∀ u' v, v = c → zr_Z l u' F (zp_sg (zp_sg G 2 0) 1 v) → post u' := by
      intro u' v ev h'
      subst ev
      exact hp u' _ h' ⟨zp_ok_sg rd2.1 (show v < 12 from hc) (by decide), rd2.2⟩ er rfl rfl rfl rfl
    refine br_f (by decide) (pk_eq c 0 (fun c0 => ?_) (fun c0 => ?_))
    · have e13 : zp_rd G 13 = zp_sg (zp_sg G 2 0) 1 0 := zp_rdp rd.2.1 13
      refine zx_send (b := 13) (zz_mk ht h) rd.1 (by decide) (zz_k ?_)
      intro t ht kc kn S Y L R N K z sl h
      rw [e13] at h
      exact kc1 _ 0 c0.symm (zz_mk ht h)
    refine br_f (by decide) ?_
    have km : wX_sendMove_83 post (nI r) (nI c) (nI (G.1 1)) 1 (nI t) kc kn S Y L (R 0) (R 1) (R 2) (R 3) (R 4) (R 5) (R 6) (R 7) (R 8) (R 9) (R 10) (R 11) (R 12) (R 13) (R 14) (R 15) (R 16) (R 17) (R 18) N K := by
      refine br_f (by decide) (pk_le c (G.1 1) (fun q => ?_) (fun q => ?_))
      · refine br_f (by decide) ?_
        rw [pk_sub q]
        refine zx_sendOne (b := 68) (zz_mk ht h) rd (by omega) (by omega) (by decide) (by decide) (by decide) (by decide) (fun u' X p bs h' => ?_)
        obtain ⟨t, ht, kc, kn, S, Y, L, R, N, K, z, sl, rfl, h⟩ := h'
        refine kmv _ X _ _ bs (zz_mk ht h : zr_Z l _ F (zp_mv X (X.1 0) (X.1 1 - (G.1 1 - c)))) ?_ ?_
        · rw [bs.1 0 (by decide) (by decide), er]
        · rw [bs.1 1 (by decide) (by decide)]
          omega
      · rw [pk_sub (by omega)]
        refine zx_sendOne (b := 67) (zz_mk ht h) rd (by omega) (by omega) (by decide) (by decide) (by decide) (by decide) (fun u' X p bs h' => ?_)
        obtain ⟨t, ht, kc, kn, S, Y, L, R, N, K, z, sl, rfl, h⟩ := h'
        refine kmv _ X _ _ bs (zz_mk ht h : zr_Z l _ F (zp_mv X (X.1 0) (zp_mn (X.1 1 + (c - G.1 1)) 11))) ?_ ?_
        · rw [bs.1 0 (by decide) (by decide), er]
        · rw [bs.1 1 (by decide) (by decide)]
          unfold zp_mn
          split <;> omega
    by_cases g0 : G.1 1 = 0
    · refine br_f ?_ km
      rw [g0]
      intro q
      have q2 := congrArg Int32.toInt q
      rw [nI_toInt (by omega), show (nI 0 - 1 : Int32).toInt = -1 from by decide] at q2
      omega
    · rw [show nI (G.1 1) - 1 = nI (G.1 1 - 1) from pk_sub (b := 1) (by omega)]
      refine pk_eq c (G.1 1 - 1) (fun q => ?_) (fun q => km)
      have e8 : zp_rd G 8 = zp_sg (zp_sg G 2 0) 1 (G.1 1 - 1) := zp_rdp rd.2.1 8
      refine zx_send (b := 8) (zz_mk ht h) rd.1 (by decide) (zz_k ?_)
      intro t ht kc kn S Y L R N K z sl h
      rw [e8] at h
      exact kc1 _ _ q.symm (zz_mk ht h)
  unfold wpX_sendMove zx_S
  dsimp only
  rw [e0, e1, e2]
  refine nm_e (pk_eq (G.1 0) r (fun er => pk_eq (G.1 2) 0 (fun ew => k31 er ew) (fun _ => k30 _)) (fun _ => k30 _))
end
end
section
/-! what is shown: pens and signs -/
theorem zn_d1 : ∀ i, i < 3 → ∀ x, x < 8 → ∀ y, y < 8 → (((nI x ^^^ nI y) &&& ((1 : Int32) <<< (nI i &&& 31))) = 0 ↔ x / 2 ^ i % 2 = y / 2 ^ i % 2) := by decide +kernel
theorem zn_d2 : ∀ i, i < 3 → ∀ y, y < 8 → ((nI y &&& ((1 : Int32) <<< (nI i &&& 31))) = 0 ↔ y / 2 ^ i % 2 = 0) := by decide +kernel
def zp_pm (h p i : Nat) : Nat := p % 2 ^ i + h / 2 ^ i * 2 ^ i
/-- the number that sets, or takes away, a bit of the pen -/
def zp_pno (p i : Nat) : Nat := if p / 2 ^ i % 2 = 0 then (if i = 0 then 22 else if i = 1 then 24 else 27) else 1 + 3 * i
theorem zp_pm1 : ∀ i, i < 3 → ∀ x, x < 8 → ∀ y, y < 8 → (x / 2 ^ i % 2 = y / 2 ^ i % 2 → zp_pm x y (i + 1) = zp_pm x y i) ∧ (¬ x / 2 ^ i % 2 = y / 2 ^ i % 2 → zp_pn (zp_pm x y i) (zp_pno y i) = zp_pm x y (i + 1)) := by decide +kernel
theorem zp_pm3 : ∀ x, x < 8 → ∀ y, y < 8 → zp_pm x y 3 = y ∧ zp_pm x y 0 = x := by decide +kernel
def zp_pf (a : Nat → Nat) : Nat → Nat → Nat → Nat
  | 0, _, s => s
  | k + 1, i, s => zp_pf a k (i + 1) (zp_pn s (a i))
theorem zp_pf_s (a : Nat → Nat) : ∀ k i s, zp_pf a (k + 1) i s = zp_pn (zp_pf a k i s) (a (i + k))
  | 0, _, _ => rfl
  | k + 1, i, s => by
    show zp_pf a (k + 1) (i + 1) (zp_pn s (a i)) = zp_pn (zp_pf a k (i + 1) (zp_pn s (a i))) (a (i + (k + 1)))
    rw [zp_pf_s a k (i + 1), show i + 1 + k = i + (k + 1) by omega]
theorem zp_pf_c (a b : Nat → Nat) : ∀ k i s, (∀ j, i ≤ j → j < i + k → a j = b j) → zp_pf a k i s = zp_pf b k i s
  | 0, _, _, _ => rfl
  | k + 1, i, s, h => by
    show zp_pf a k (i + 1) (zp_pn s (a i)) = zp_pf b k (i + 1) (zp_pn s (b i))
    rw [h i (by omega) (by omega), zp_pf_c a b k (i + 1) _ (fun j h1 h2 => h j (by omega) (by omega))]
theorem zp_cp3 : ∀ (k i : Nat) (T : zz_T), (zp_cp k i T).1 3 = zp_pf (fun j => T.1 (20 + j)) k i (T.1 3)
  | 0, _, _ => rfl
  | k + 1, i, T => by
    show (zp_cp k (i + 1) (zp_sg T 3 (zp_pn (T.1 3) (T.1 (20 + i))))).1 3 = zp_pf (fun j => T.1 (20 + j)) k (i + 1) (zp_pn (T.1 3) (T.1 (20 + i)))
    rw [zp_cp3 k (i + 1)]
    rw [zp_sg1]
    exact zp_pf_c _ _ k (i + 1) _ (fun j _ _ => zp_sgn T _ (by omega))
theorem zp_cp_2 : ∀ (k i : Nat) (T : zz_T), (zp_cp k i T).2 = T.2
  | 0, _, _ => rfl
  | k + 1, i, T => zp_cp_2 k (i + 1) (zp_sg T 3 (zp_pn (T.1 3) (T.1 (20 + i))))
section
variable {kc kn : Int32} {S Y L : zz_A} {R : Nat → zz_A} {N K : zz_A} {z : Nat → Nat} {sl : Nat → Nat → Nat} {t : Nat} {F G T : zz_T} {l : Nat → Nat}
/-- m ends the list of pens -/
theorem zx_sendPen_115 {post : SX → Prop} {c q : Nat} {a : Nat → Nat} (h : zr_B (fun _ => True) kc kn S Y L R N K z sl (zz_sel 0 (zp_fz F l) T)) (ht : t < 2) (rd : zp_rdy G) (sq : zp_sq G T c a) (hc : c ≤ 4) (hq : zp_pf a c 0 (G.1 3) = q)
    (hp : ∀ u' G', zr_Z l u' F G' → zp_rdy G' → G'.1 0 = G.1 0 → G'.1 1 = G.1 1 → G'.1 2 = G.1 2 → G'.1 3 = q → G'.2.1 = G.2.1 → post u') : wX_sendPen_115 post (nI t) kc kn S Y L (R 0) (R 1) (R 2) (R 3) (R 4) (R 5) (R 6) (R 7) (R 8) (R 9) (R 10) (R 11) (R 12) (R 13) (R 14) (R 15) (R 16) (R 17) (R 18) N K := by
  have e1 := zp_sql (b := 109) sq (by decide) (by decide)
  obtain ⟨q1, q2, q3, q4, q5, q6, q7⟩ := sq
  have e17 : (zp_sg T 16 0).1 17 = 0 := q5
  have e18 : (zp_sg T 16 0).1 18 = c := q6
  have e2 : zp_rd T 109 = zp_cp c 0 (zp_sg T 16 0) := by
    rw [e1, zp_lst, if_pos e17, if_pos rfl, zp_pens, e18]
    by_cases c4 : c < 4
    · rw [if_pos c4]
    · rw [if_neg c4, show c = 4 by omega]
  have okr := zp_ok_rd (b := 109) q3
  rw [e2] at okr
  have g : ∀ i, i < 16 → i ≠ 3 → (zp_cp c 0 (zp_sg T 16 0)).1 i = G.1 i := by
    intro i hi h3
    rw [zp_cp_r _ _ _ h3, zp_sgn _ _ (by omega : i ≠ 16), q1 i hi]
  refine zx_send (b := 109) (zz_mk ht h) q3 (by decide) (zz_k ?_)
  intro t ht kc kn S Y L R N K z sl h
  rw [e2] at h
  refine hp _ _ (zz_mk ht h) ⟨okr, ?_, ?_, ?_, ?_, ?_, ?_⟩ (g 0 (by decide) (by decide)) (g 1 (by decide) (by decide)) (g 2 (by decide) (by decide)) ?_ ?_
  · rw [zp_cp_r _ _ _ (by decide)]
    rfl
  · rw [g 4 (by decide) (by decide)]
    exact rd.2.2.1
  · rw [g 5 (by decide) (by decide)]
    exact rd.2.2.2.1
  · rw [g 6 (by decide) (by decide)]
    exact rd.2.2.2.2.1
  · rw [g 7 (by decide) (by decide)]
    exact rd.2.2.2.2.2.1
  · rw [g 8 (by decide) (by decide)]
    exact rd.2.2.2.2.2.2
  · rw [zp_cp3, ← hq, ← q1 3 (by decide)]
    refine zp_pf_c _ _ c 0 _ (fun j _ hj => ?_)
    rw [zp_sgn T _ (by omega : 20 + j ≠ 16)]
    exact q7 j (by omega)
  · rw [zp_cp_2]
    exact q2
theorem zx_sendPen_30 {post : SX → Prop} {q : Nat} (rd : zp_rdy G) (hq : q < 8) (hne : G.1 3 ≠ q) (hq0 : q ≠ 0)
    (hp : ∀ u' G', zr_Z l u' F G' → zp_rdy G' → G'.1 0 = G.1 0 → G'.1 1 = G.1 1 → G'.1 2 = G.1 2 → G'.1 3 = q → G'.2.1 = G.2.1 → post u') :
    ∀ (d i w c : Nat) (a : Nat → Nat) (T : zz_T) (t : Nat) (kc kn : Int32) (S Y L : zz_A) (R : Nat → zz_A) (N K : zz_A) (z : Nat → Nat) (sl : Nat → Nat → Nat), i + d = 3 → t < 2 → zr_B (fun _ => True) kc kn S Y L R N K z sl (zz_sel 0 (zp_fz F l) T) → zp_sq G T c a →
      (w = 0 ∧ c = 1 ∧ (∀ j, a j = 0) ∧ zp_pm (G.1 3) q i = G.1 3 ∨ w = 1 ∧ 1 ≤ c ∧ c ≤ i ∧ (∀ j, c ≤ j → a j = 0) ∧ zp_pf a c 0 (G.1 3) = zp_pm (G.1 3) q i) → ∀ n, d < n → wX_sendPen_30 post (nI q) (nI (G.1 3)) n (nI w) (nI i) (nI t) kc kn S Y L (R 0) (R 1) (R 2) (R 3) (R 4) (R 5) (R 6) (R 7) (R 8) (R 9) (R 10) (R 11) (R 12) (R 13) (R 14) (R 15) (R 16) (R 17) (R 18) N K := by
  have b3 := zp_b3 rd.1
  obtain ⟨p3, p0⟩ := zp_pm3 (G.1 3) b3 q hq
  intro d
  induction d with
  | zero =>
    intro i w c a T t kc kn S Y L R N K z sl hi ht h sq hw n hn
    obtain ⟨m, rfl⟩ : ∃ m, n = m + 1 := ⟨n - 1, by omega⟩
    have i3 : i = 3 := by omega
    subst i3
    refine br_t (nI_le (a := 3) (by decide) (by decide)) ?_
    rcases hw with ⟨_, _, _, e⟩ | ⟨_, _, hc, _, e⟩
    · rw [p3] at e
      exact absurd e.symm hne
    · rw [p3] at e
      exact zx_sendPen_115 h ht rd sq (by omega) e hp
  | succ d ih =>
    intro i w c a T t kc kn S Y L R N K z sl hi ht h sq hw n hn
    obtain ⟨m, rfl⟩ : ∃ m, n = m + 1 := ⟨n - 1, by omega⟩
    obtain ⟨m1, m2⟩ := zp_pm1 i (by omega) (G.1 3) b3 q hq
    have d1 := zn_d1 i (by omega) (G.1 3) b3 q hq
    have d2 := zn_d2 i (by omega) q hq
    refine br_f (nI_ge (b := 3) (by omega) (by decide)) (br_f (nI_ne0 (by omega) (by omega)) (nm_e ?_))
    by_cases cd : G.1 3 / 2 ^ i % 2 = q / 2 ^ i % 2
    · refine br_t (d1.mpr cd) (nm_r (nI_1 i) (ih (i + 1) w c a T t kc kn S Y L R N K z sl (by omega) ht h sq ?_ m (by omega)))
      rw [m1 cd]
      rcases hw with ⟨x1, x2, x3, x4⟩ | ⟨x1, x2, x3, x4, x5⟩
      · exact Or.inl ⟨x1, x2, x3, x4⟩
      · exact Or.inr ⟨x1, x2, by omega, x4, x5⟩
    · refine br_f (fun e => cd (d1.mp e)) ?_
      have key : ∀ (c : Nat) (a : Nat → Nat) (T : zz_T) (t : Nat), t < 2 → ∀ (kc kn : Int32) (S Y L : zz_A) (R : Nat → zz_A) (N K : zz_A) (z : Nat → Nat) (sl : Nat → Nat → Nat), zr_B (fun _ => True) kc kn S Y L R N K z sl (zz_sel 0 (zp_fz F l) T) → zp_sq G T c a → 1 ≤ c → c ≤ i + 1 → (∀ j, c - 1 ≤ j → a j = 0) → zp_pf a (c - 1) 0 (G.1 3) = zp_pm (G.1 3) q i →
          wX_sendPen_65 post (wX_sendPen_30 post (nI q) (nI (G.1 3)) m) (nI q) (nI (G.1 3)) (nI i) ((1 : Int32) <<< (nI i &&& 31)) (nI t) kc kn S Y L (R 0) (R 1) (R 2) (R 3) (R 4) (R 5) (R 6) (R 7) (R 8) (R 9) (R 10) (R 11) (R 12) (R 13) (R 14) (R 15) (R 16) (R 17) (R 18) N K := by
        intro c a T t ht kc kn S Y L R N K z sl h sq c1 c2 ha hf
        have k99 : ∀ w, w = zp_pno q i → wX_sendPen_99 post (wX_sendPen_30 post (nI q) (nI (G.1 3)) m) (nI q) (nI (G.1 3)) (nI i) (nI w) (nI t) kc kn S Y L (R 0) (R 1) (R 2) (R 3) (R 4) (R 5) (R 6) (R 7) (R 8) (R 9) (R 10) (R 11) (R 12) (R 13) (R 14) (R 15) (R 16) (R 17) (R 18) N K := by
          intro w ew
          have hw : w ≤ 99 := by
            rw [ew]
            unfold zp_pno
            (repeat' split) <;> omega
          refine zx_sendNumber (zz_mk ht h) sq c1 (by omega) (ha _ (Nat.le_refl _)) hw (fun u' T' h' sq' => ?_)
          obtain ⟨t, ht, kc, kn, S, Y, L, R, N, K, z, sl, rfl, h⟩ := h'
          refine nm_r (nI_1 i) (ih (i + 1) 1 c _ T' t kc kn S Y L R N K z sl (by omega) ht h sq' (Or.inr ⟨rfl, c1, c2, ?_, ?_⟩) m (by omega))
          · intro j hj
            rw [if_neg (by omega)]
            exact ha j (by omega)
          · rw [← m2 cd, ← hf, show c = (c - 1) + 1 by omega, zp_pf_s]
            rw [if_pos (by omega), ew]
            refine congrArg (fun s => zp_pn s (zp_pno q i)) (zp_pf_c _ _ (c - 1) 0 _ (fun j _ hj => ?_))
            rw [if_neg (by omega)]
        have k21 : ∀ r v : Nat, wX_sendPen_98 post (wX_sendPen_30 post (nI q) (nI (G.1 3)) m) (nI q) (nI (G.1 3)) (nI i) (nI v) (nI (r + v)) (nI t) kc kn S Y L (R 0) (R 1) (R 2) (R 3) (R 4) (R 5) (R 6) (R 7) (R 8) (R 9) (R 10) (R 11) (R 12) (R 13) (R 14) (R 15) (R 16) (R 17) (R 18) N K → True := fun _ _ _ => trivial
        unfold wX_sendPen_65
        by_cases cp : q / 2 ^ i % 2 = 0
        · refine br_t (d2.mpr cp) ?_
          show ((nI i = 0 → wX_sendPen_98 post (wX_sendPen_30 post (nI q) (nI (G.1 3)) m) (nI q) (nI (G.1 3)) (nI i) 0 (21 + (1 + 3 * nI i)) (nI t) kc kn S Y L (R 0) (R 1) (R 2) (R 3) (R 4) (R 5) (R 6) (R 7) (R 8) (R 9) (R 10) (R 11) (R 12) (R 13) (R 14) (R 15) (R 16) (R 17) (R 18) N K) ∧ (¬ nI i = 0 → wX_sendPen_98 post (wX_sendPen_30 post (nI q) (nI (G.1 3)) m) (nI q) (nI (G.1 3)) (nI i) 1 (21 + (1 + 3 * nI i)) (nI t) kc kn S Y L (R 0) (R 1) (R 2) (R 3) (R 4) (R 5) (R 6) (R 7) (R 8) (R 9) (R 10) (R 11) (R 12) (R 13) (R 14) (R 15) (R 16) (R 17) (R 18) N K))
          rcases (by omega : i = 0 ∨ i = 1 ∨ i = 2) with ci | ci | ci
          · subst ci
            exact br_t rfl (k99 22 (by unfold zp_pno; rw [if_pos cp]; rfl))
          · subst ci
            exact br_f (by decide) (k99 24 (by unfold zp_pno; rw [if_pos cp]; rfl))
          · subst ci
            exact br_f (by decide) (k99 27 (by unfold zp_pno; rw [if_pos cp]; rfl))
        · refine br_f (fun e => cp (d2.mp e)) ?_
          have en : 1 + 3 * nI i = nI (1 + 3 * i) := by
            have e : nI 1 + nI 3 * nI i = nI (1 + 3 * i) := by rw [pk_mul, nI_add]
            exact e
          show wX_sendPen_99 post (wX_sendPen_30 post (nI q) (nI (G.1 3)) m) (nI q) (nI (G.1 3)) (nI i) (1 + 3 * nI i) (nI t) kc kn S Y L (R 0) (R 1) (R 2) (R 3) (R 4) (R 5) (R 6) (R 7) (R 8) (R 9) (R 10) (R 11) (R 12) (R 13) (R 14) (R 15) (R 16) (R 17) (R 18) N K
          rw [en]
          exact k99 _ (by unfold zp_pno; rw [if_neg cp])
      rcases hw with ⟨x1, x2, x3, x4⟩ | ⟨x1, x2, x3, x4, x5⟩
      · subst x1 x2
        exact br_t rfl (key 1 a T t ht kc kn S Y L R N K z sl h sq (by decide) (by omega) (fun j _ => x3 j) x4.symm)
      · subst x1
        refine br_f (by decide) (zx_send (b := 59) (zz_mk ht h) sq.2.2.1 (by decide) (zz_k ?_))
        intro t ht kc kn S Y L R N K z sl h
        exact key (c + 1) a (zp_rd T 59) t ht kc kn S Y L R N K z sl h (zp_sqn sq (by omega)) (by omega) (by omega) (fun j hj => x4 j (by omega)) (by rw [show c + 1 - 1 = c by omega]; exact x5)
theorem zx_sendPen {u : SX} {post : SX → Prop} {q : Nat} (h : zr_Z l u F G) (rd : zp_rdy G) (hq : q < 8)
    (hp : ∀ u' G', zr_Z l u' F G' → zp_rdy G' → G'.1 0 = G.1 0 → G'.1 1 = G.1 1 → G'.1 2 = G.1 2 → G'.1 3 = q → G'.2.1 = G.2.1 → post u') : wpX_sendPen post u (nI q) := by
  obtain ⟨t, ht, kc, kn, S, Y, L, R, N, K, z, sl, rfl, h⟩ := h
  have b3 := zp_b3 rd.1
  have e3 : R 3 1 = nI (G.1 3) := h.1 1 3 (by decide) (by decide)
  unfold wpX_sendPen zx_S
  dsimp only
  rw [e3]
  refine nm_e (pk_eq (G.1 3) q (fun c => hp _ G (zz_mk ht h) rd rfl rfl rfl c rfl) (fun cn => ?_))
  have ok1 := zp_ok_rd (b := 27) rd.1
  have sq := zp_sq0 rd
  refine zx_send (b := 27) (zz_mk ht h) rd.1 (by decide) (zz_k ?_)
  intro t ht kc kn S Y L R N K z sl h
  refine zx_send (b := 91) (zz_mk ht h) ok1 (by decide) (zz_k ?_)
  intro t ht kc kn S Y L R N K z sl h
  by_cases c0 : q = 0
  · subst c0
    exact ⟨1, br_f (by decide) (br_t rfl (zx_sendPen_115 h ht rd sq (by decide) rfl hp))⟩
  · exact ⟨4, zx_sendPen_30 rd hq cn c0 hp 3 0 0 1 _ _ t kc kn S Y L R N K z sl (by decide) ht h sq (Or.inl ⟨rfl, rfl, fun _ => rfl, (zp_pm3 (G.1 3) b3 q hq).2⟩) 4 (by decide)⟩
/-- a sign is written at the shown cursor -/
theorem zx_sendSign {u : SX} {post : SX → Prop} {b : Nat} (h : zr_Z l u F G) (rd : zp_rdy G) (h2 : G.1 2 = 0) (hb : 32 ≤ b) (hb' : b < 127)
    (hp : ∀ u' G', zr_Z l u' F G' → zp_rdy G' → G'.1 0 = G.1 0 → G'.1 3 = G.1 3 → (G.1 1 < 11 → G'.1 1 = G.1 1 + 1 ∧ G'.1 2 = 0) → (∀ i, zp_v G' i = if i = 12 * G.1 0 + G.1 1 then b + 128 * G.1 3 else zp_v G i) → post u') : wpX_send post u (nI b) := by
  obtain ⟨r1, r2, r3, r4, r5, r6, r7⟩ := rd
  have okr := zp_ok_rd (b := b) r1
  have e : zp_rd G b = zp_adv (zp_wr G b) := by
    rw [zp_rdp r2, zp_pl, if_neg (by omega), if_pos ⟨hb, hb'⟩, zp_put, if_pos h2, zp_put2, zp_ins, if_pos r5]
  rw [e] at okr
  have hv : ∀ i, (zp_wr G b).2.1 (72 * 0 + i) = if i = 12 * G.1 0 + G.1 1 then b + 128 * G.1 3 else zp_v G i := by
    intro i
    show (if 72 * 0 + i = 72 * G.1 8 + (12 * G.1 0 + G.1 1) then b + 128 * G.1 3 else G.2.1 (72 * 0 + i)) = _
    unfold zp_v
    rw [r7]
    by_cases c : i = 12 * G.1 0 + G.1 1
    · rw [if_pos c, if_pos (by omega)]
    · rw [if_neg c, if_neg (by omega)]
  refine zx_send h r1 (by omega) (fun u' h' => ?_)
  rw [e] at h'
  unfold zp_adv at h' okr
  by_cases c : 11 ≤ G.1 1
  · rw [if_pos (show 11 ≤ (zp_wr G b).1 1 from c)] at h' okr
    refine hp u' _ h' ⟨okr, r2, r3, r4, r5, r6, r7⟩ rfl rfl (fun q => absurd q (by omega)) (fun i => ?_)
    have e8 : (zp_sg (zp_wr G b) 2 ((zp_wr G b).1 7)).1 8 = 0 := r7
    unfold zp_v
    rw [e8]
    exact hv i
  · rw [if_neg (show ¬ 11 ≤ (zp_wr G b).1 1 from c)] at h' okr
    refine hp u' _ h' ⟨okr, r2, r3, r4, r5, r6, r7⟩ rfl rfl (fun q => ⟨rfl, h2⟩) (fun i => ?_)
    have e8 : (zp_sg (zp_wr G b) 1 ((zp_wr G b).1 1 + 1)).1 8 = 0 := r7
    unfold zp_v
    rw [e8]
    exact hv i
end
end
section
/-! what is shown: row by row -/
theorem zn_sh (k : Nat) (m : Int32) : nI k - m + 1 = nI (k + 1) - m := by
  rw [← nI_1]
  grind
theorem zn_neg (a b : Int32) : -(a - b) = b - a := by grind
theorem zn_ti {k m : Nat} (hk : k < 100) (hm : m < 100) : (nI k - nI m).toInt = (k : Int) - m := pk_sub_toInt (by omega) (by omega)
theorem zp_v_eq {G G' : zz_T} (r : zp_rdy G) (r' : zp_rdy G') (e : G'.2.1 = G.2.1) (i : Nat) : zp_v G' i = zp_v G i := by
  unfold zp_v
  rw [r.2.2.2.2.2.2, r'.2.2.2.2.2.2, e]
def zp_ok1 (F G G' : zz_T) (r : Nat) : Prop := ∀ i, i < 72 → zp_v G' i = zp_v G i ∨ (12 * r ≤ i ∧ i < 12 * r + 12 ∧ zp_v G' i = zp_v F i)
theorem zp_ok1_t {F G G' G'' : zz_T} {r : Nat} (h : zp_ok1 F G G' r) (h' : zp_ok1 F G' G'' r) : zp_ok1 F G G'' r := by
  intro i hi
  rcases h' i hi with e | e
  · rcases h i hi with f | f
    · exact Or.inl (e.trans f)
    · exact Or.inr ⟨f.1, f.2.1, e.trans f.2.2⟩
  · exact Or.inr e
section
variable {kc kn : Int32} {S Y L : zz_A} {R : Nat → zz_A} {N K : zz_A} {z : Nat → Nat} {sl : Nat → Nat → Nat} {t : Nat} {F G : zz_T} {l : Nat → Nat}
theorem zx_sendScroll_13 {post : SX → Prop} (h : zr_B (fun _ => True) kc kn S Y L R N K z sl (zz_sel 0 (zp_fz F l) G)) (ht : t < 2) (okF : zp_ok F) (rd : zp_rdy G) (hp : ∀ u' G', zr_Z l u' F G' → zp_rdy G' → post u') :
    ∀ (d k : Nat) (x1 x2 : Int32), k + d = 11 → (∃ j, j ≤ 10 ∧ x1 = nI j - nI 5) → ∀ n, d < n → wX_sendScroll_13 post (nI t) kc kn S Y L (R 0) (R 1) (R 2) (R 3) (R 4) (R 5) (R 6) (R 7) (R 8) (R 9) (R 10) (R 11) (R 12) (R 13) (R 14) (R 15) (R 16) (R 17) (R 18) N K n x1 x2 (nI k - nI 5) := by
  intro d
  induction d with
  | zero =>
    intro k x1 x2 hk hx n hn
    obtain ⟨m, rfl⟩ : ∃ m, n = m + 1 := ⟨n - 1, by omega⟩
    obtain ⟨j, hj, rfl⟩ := hx
    have tj := zn_ti (k := j) (m := 5) (by omega) (by decide)
    have z0 : (0 : Int32).toInt = 0 := by decide
    rw [show k = 11 by omega]
    refine br_t (by decide) ?_
    by_cases c : j ≤ 5
    · refine br_t (by rw [Int32.le_iff_toInt_le, tj, z0]; omega) ?_
      by_cases c5 : j = 5
      · subst c5
        exact br_t (by decide) (hp _ G (zz_mk ht h) rd)
      · refine br_f (by rw [Int32.le_iff_toInt_le, tj, z0]; omega) ?_
        rw [zn_neg, pk_sub c]
        refine zx_sendOne (b := 84) (zz_mk ht h) rd (by omega) (by omega) (by decide) (by decide) (by decide) (by decide) (fun u' X p bs h' => ?_)
        obtain ⟨t, ht, kc, kn, S, Y, L, R, N, K, z, sl, rfl, h⟩ := h'
        have rx := zp_bs_rdy bs rd
        refine hp _ (zp_SD (5 - j) X) (zz_mk ht h) ⟨zp_ok_SD _ rx.1, ?_, ?_, ?_, ?_, ?_, ?_⟩
        · rw [zp_SD_r]; exact rx.2.1
        · rw [zp_SD_r]; exact rx.2.2.1
        · rw [zp_SD_r]; exact rx.2.2.2.1
        · rw [zp_SD_r]; exact rx.2.2.2.2.1
        · rw [zp_SD_r]; exact rx.2.2.2.2.2.1
        · rw [zp_SD_r]; exact rx.2.2.2.2.2.2
    · refine br_f (by rw [Int32.le_iff_toInt_le, tj, z0]; omega) ?_
      rw [pk_sub (by omega)]
      refine zx_sendOne (b := 83) (zz_mk ht h) rd (by omega) (by omega) (by decide) (by decide) (by decide) (by decide) (fun u' X p bs h' => ?_)
      obtain ⟨t, ht, kc, kn, S, Y, L, R, N, K, z, sl, rfl, h⟩ := h'
      have rx := zp_bs_rdy bs rd
      refine hp _ (zp_SU (j - 5) X) (zz_mk ht h) ⟨zp_ok_SU _ rx.1, ?_, ?_, ?_, ?_, ?_, ?_⟩
      · rw [zp_SU_r _ _ (by decide)]; exact rx.2.1
      · rw [zp_SU_r _ _ (by decide)]; exact rx.2.2.1
      · rw [zp_SU_r _ _ (by decide)]; exact rx.2.2.2.1
      · rw [zp_SU_r _ _ (by decide)]; exact rx.2.2.2.2.1
      · rw [zp_SU_r _ _ (by decide)]; exact rx.2.2.2.2.2.1
      · rw [zp_SU_r _ _ (by decide)]; exact rx.2.2.2.2.2.2
  | succ d ih =>
    intro k x1 x2 hk hx n hn
    obtain ⟨m, rfl⟩ : ∃ m, n = m + 1 := ⟨n - 1, by omega⟩
    have tk := zn_ti (k := k) (m := 5) (by omega) (by decide)
    refine br_f (by rw [Int32.le_iff_toInt_le, tk, show (6 : Int32).toInt = 6 from by decide]; omega) (zx_rightAfter h okF rd.1 (fun y => ?_))
    exact br_c (fun _ => nm_r (zn_sh k _) (ih (k + 1) x1 x2 (by omega) hx m (by omega))) (fun _ => nm_r (zn_sh k _) (ih (k + 1) _ y (by omega) ⟨k, by omega, rfl⟩ m (by omega)))
theorem zx_sendScroll {u : SX} {post : SX → Prop} (h : zr_Z l u F G) (okF : zp_ok F) (rd : zp_rdy G) (hp : ∀ u' G', zr_Z l u' F G' → zp_rdy G' → post u') : wpX_sendScroll post u := by
  obtain ⟨t, ht, kc, kn, S, Y, L, R, N, K, z, sl, rfl, h⟩ := h
  unfold wpX_sendScroll zx_S
  dsimp only
  refine zx_rightAfter h okF rd.1 (fun y => nm_e ⟨12, ?_⟩)
  exact zx_sendScroll_13 h ht okF rd hp 11 0 0 _ (by decide) ⟨5, by decide, by decide⟩ 12 (by decide)
theorem zx_sendShift_17 {post : SX → Prop} {r f : Nat} (h : zr_B (fun _ => True) kc kn S Y L R N K z sl (zz_sel 0 (zp_fz F l) G)) (ht : t < 2) (okF : zp_ok F) (rd : zp_rdy G) (hr : r < 6) (hf : f < 12)
    (hp : ∀ u' G', zr_Z l u' F G' → zp_rdy G' → (∀ i, i < 72 → i < 12 * r + f ∨ 12 * r + 12 ≤ i → zp_v G' i = zp_v G i) → post u') :
    ∀ (d k : Nat) (x3 x4 : Int32), k + d = 23 → (∃ j, j ≤ 22 ∧ x3 = nI j - nI 11) → ∀ n, d < n → wX_sendShift_17 post (nI r) (nI f) (nI t) kc kn S Y L (R 0) (R 1) (R 2) (R 3) (R 4) (R 5) (R 6) (R 7) (R 8) (R 9) (R 10) (R 11) (R 12) (R 13) (R 14) (R 15) (R 16) (R 17) (R 18) N K n x3 x4 (nI k - nI 11) := by
  intro d
  induction d with
  | zero =>
    intro k x3 x4 hk hx n hn
    obtain ⟨m, rfl⟩ : ∃ m, n = m + 1 := ⟨n - 1, by omega⟩
    obtain ⟨j, hj, rfl⟩ := hx
    have tj := zn_ti (k := j) (m := 11) (by omega) (by decide)
    have z0 : (0 : Int32).toInt = 0 := by decide
    rw [show k = 23 by omega]
    refine br_t (by decide) ?_
    by_cases c11 : j = 11
    · subst c11
      exact br_t (by decide) (hp _ G (zz_mk ht h) rd (fun _ _ _ => rfl))
    refine br_f (fun q => c11 ?_) ?_
    · have q2 := congrArg Int32.toInt q
      rw [tj, z0] at q2
      omega
    refine zx_sendMove (zz_mk ht h) rd hr hf (fun u1 G1 h1 rd1 g0 g1 g2 g3 gc => ?_)
    obtain ⟨t, ht, kc, kn, S, Y, L, R, N, K, z, sl, rfl, h⟩ := h1
    have fin : ∀ u' X (k n : Nat), zp_bs G1 X → zr_Z l u' F (zp_shc X k n) → post u' := by
      intro u' X k n bs h'
      have rx := zp_bs_rdy bs rd1
      have x0 : X.1 0 = r := by rw [bs.1 0 (by decide) (by decide), g0]
      have x1 : X.1 1 = f := by rw [bs.1 1 (by decide) (by decide), g1]
      have rs : zp_rdy (zp_shc X k n) := by
        refine ⟨zp_ok_shc rx.1, ?_, ?_, ?_, ?_, ?_, ?_⟩
        · rw [zp_shc_r]; exact rx.2.1
        · rw [zp_shc_r]; exact rx.2.2.1
        · rw [zp_shc_r]; exact rx.2.2.2.1
        · rw [zp_shc_r]; exact rx.2.2.2.2.1
        · rw [zp_shc_r]; exact rx.2.2.2.2.2.1
        · rw [zp_shc_r]; exact rx.2.2.2.2.2.2
      refine hp u' _ h' rs (fun i hi ho => ?_)
      rw [← zp_v_eq rd rx (bs.2.2.2.1.trans gc) i]
      unfold zp_v
      rw [zp_shc_r, rx.2.2.2.2.2.2]
      unfold zp_shc
      split
      · show zp_uF X.2.1 (72 * X.1 8 + (12 * X.1 0 + X.1 1)) (72 * X.1 8 + (12 * X.1 0 + 12)) n (72 * 0 + i) = _
        unfold zp_uF
        rw [if_neg (by rw [rx.2.2.2.2.2.2, x0, x1]; omega)]
      · show zp_dF X.2.1 (72 * X.1 8 + (12 * X.1 0 + X.1 1)) (72 * X.1 8 + (12 * X.1 0 + 12)) n (72 * 0 + i) = _
        unfold zp_dF
        rw [if_neg (by rw [rx.2.2.2.2.2.2, x0, x1]; omega)]
    by_cases c : j ≤ 11
    · refine br_t (by rw [Int32.le_iff_toInt_le, tj, z0]; omega) ?_
      rw [zn_neg, pk_sub c]
      refine zx_sendOne (b := 64) (zz_mk ht h) rd1 (by omega) (by omega) (by decide) (by decide) (by decide) (by decide) (fun u' X p bs h' => ?_)
      obtain ⟨t, ht, kc, kn, S, Y, L, R, N, K, z, sl, rfl, h⟩ := h'
      exact fin _ X 1 (11 - j) bs (zz_mk ht h)
    · refine br_f (by rw [Int32.le_iff_toInt_le, tj, z0]; omega) ?_
      rw [pk_sub (by omega)]
      refine zx_sendOne (b := 80) (zz_mk ht h) rd1 (by omega) (by omega) (by decide) (by decide) (by decide) (by decide) (fun u' X p bs h' => ?_)
      obtain ⟨t, ht, kc, kn, S, Y, L, R, N, K, z, sl, rfl, h⟩ := h'
      exact fin _ X 0 (j - 11) bs (zz_mk ht h)
  | succ d ih =>
    intro k x3 x4 hk hx n hn
    obtain ⟨m, rfl⟩ : ∃ m, n = m + 1 := ⟨n - 1, by omega⟩
    have tk := zn_ti (k := k) (m := 11) (by omega) (by decide)
    refine br_f (by rw [Int32.le_iff_toInt_le, tk, show (12 : Int32).toInt = 12 from by decide]; omega) (zx_rightCells h okF rd.1 hr (by omega) (fun y => ?_))
    exact br_c (fun _ => nm_r (zn_sh k _) (ih (k + 1) x3 x4 (by omega) hx m (by omega))) (fun _ => nm_r (zn_sh k _) (ih (k + 1) _ y (by omega) ⟨k, by omega, rfl⟩ m (by omega)))
theorem zx_sendShift {u : SX} {post : SX → Prop} {r f : Nat} (h : zr_Z l u F G) (okF : zp_ok F) (rd : zp_rdy G) (hr : r < 6) (hf : f < 12)
    (hp : ∀ u' G', zr_Z l u' F G' → zp_rdy G' → (∀ i, i < 72 → i < 12 * r + f ∨ 12 * r + 12 ≤ i → zp_v G' i = zp_v G i) → post u') : wpX_sendShift post u (nI r) (nI f) := by
  obtain ⟨t, ht, kc, kn, S, Y, L, R, N, K, z, sl, rfl, h⟩ := h
  unfold wpX_sendShift zx_S
  dsimp only
  refine zx_rightCells h okF rd.1 hr (by omega) (fun y => nm_e ⟨24, ?_⟩)
  exact zx_sendShift_17 h ht okF rd hr hf hp 23 0 0 _ (by decide) ⟨11, by decide, by decide⟩ 24 (by decide)
theorem zx_sendEnd_66 {post : SX → Prop} {r f w : Nat} (h : zr_B (fun _ => True) kc kn S Y L R N K z sl (zz_sel 0 (zp_fz F l) G)) (ht : t < 2) (rd : zp_rdy G) (hr : r < 6) (hw : w + f ≤ 12) (hF : ∀ j, f ≤ j → j < 12 → zp_v F (12 * r + j) = 32)
    (hp : ∀ u' G', zr_Z l u' F G' → zp_rdy G' → zp_ok1 F G G' r → post u') : wX_sendEnd_66 post (nI r) (nI f) (nI w) (nI t) kc kn S Y L (R 0) (R 1) (R 2) (R 3) (R 4) (R 5) (R 6) (R 7) (R 8) (R 9) (R 10) (R 11) (R 12) (R 13) (R 14) (R 15) (R 16) (R 17) (R 18) N K := by
  unfold wX_sendEnd_66
  refine pk_lt w 3 (fun _ => hp _ G (zz_mk ht h) rd (fun i _ => Or.inl rfl)) (fun c => ?_)
  refine zx_sendMove (zz_mk ht h) rd hr (by omega) (fun u1 G1 h1 rd1 g0 g1 g2 g3 gc => ?_)
  obtain ⟨t, ht, kc, kn, S, Y, L, R, N, K, z, sl, rfl, h⟩ := h1
  have ok1 := zp_ok_rd (b := 27) rd1.1
  have sq := zp_sq0 rd1
  refine zx_send (b := 27) (zz_mk ht h) rd1.1 (by decide) (zz_k ?_)
  intro t ht kc kn S Y L R N K z sl h
  refine zx_send (b := 91) (zz_mk ht h) ok1 (by decide) (zz_k ?_)
  intro t ht kc kn S Y L R N K z sl h
  obtain ⟨x1, bs, _⟩ := zp_sqk (b := 75) sq (by decide) (by decide) (by decide) (by decide)
  refine zx_send (b := 75) (zz_mk ht h) sq.2.2.1 (by decide) (zz_k ?_)
  intro t ht kc kn S Y L R N K z sl h
  rw [x1] at h
  generalize zp_sg (zp_sg (zp_rd (zp_rd G1 27) 91) 16 0) 2 0 = X at *
  have rx := zp_bs_rdy bs rd1
  have e0 : X.1 0 = r := by rw [bs.1 0 (by decide) (by decide), g0]
  have e1 : X.1 1 = f := by rw [bs.1 1 (by decide) (by decide), g1]
  refine hp _ (zp_E X (12 * X.1 0 + X.1 1) (12 * X.1 0 + 12)) (zz_mk ht h) ⟨zp_ok_E rx.1 _ _, rx.2⟩ (fun i hi => ?_)
  have ev : zp_v (zp_E X (12 * X.1 0 + X.1 1) (12 * X.1 0 + 12)) i = if 12 * r + f ≤ i ∧ i < 12 * r + 12 then 32 else zp_v G i := by
    rw [← zp_v_eq rd rx (bs.2.2.2.1.trans gc) i]
    show zp_eF X.2.1 (72 * X.1 8 + (12 * X.1 0 + X.1 1)) (72 * X.1 8 + (12 * X.1 0 + 12)) (72 * X.1 8 + i) = _
    unfold zp_eF zp_v
    rw [e0, e1]
    by_cases ci : 12 * r + f ≤ i ∧ i < 12 * r + 12
    · rw [if_pos ci, if_pos (by omega)]
    · rw [if_neg ci, if_neg (by omega)]
  by_cases ci : 12 * r + f ≤ i ∧ i < 12 * r + 12
  · rw [ev, if_pos ci]
    refine Or.inr ⟨by omega, by omega, ?_⟩
    have e := hF (i - 12 * r) (by omega) (by omega)
    rw [show 12 * r + (i - 12 * r) = i by omega] at e
    exact e.symm
  · rw [ev, if_neg ci]
    exact Or.inl rfl
theorem zx_sendEnd_21 {post : SX → Prop} {r : Nat} (h : zr_B (fun _ => True) kc kn S Y L R N K z sl (zz_sel 0 (zp_fz F l) G)) (ht : t < 2) (okF : zp_ok F) (rd : zp_rdy G) (hr : r < 6)
    (hp : ∀ u' G', zr_Z l u' F G' → zp_rdy G' → zp_ok1 F G G' r → post u') :
    ∀ (f w : Nat), w + f ≤ 12 → (∀ j, f ≤ j → j < 12 → zp_v F (12 * r + j) = 32) → ∀ n, f < n → wX_sendEnd_21 post (nI r) (nI (144 * 0 + 12 * sl 0 (6 * F.1 8 + r))) (nI (144 * 1 + 12 * sl 1 (6 * G.1 8 + r))) (nI t) kc kn S Y L (R 0) (R 1) (R 2) (R 3) (R 4) (R 5) (R 6) (R 7) (R 8) (R 9) (R 10) (R 11) (R 12) (R 13) (R 14) (R 15) (R 16) (R 17) (R 18) N K n (nI f) (nI w) := by
  intro f
  induction f with
  | zero =>
    intro w hw hF n hn
    obtain ⟨m, rfl⟩ : ∃ m, n = m + 1 := ⟨n - 1, by omega⟩
    exact br_t (by decide) (zx_sendEnd_66 h ht rd hr hw hF hp)
  | succ f ih =>
    intro w hw hF n hn
    obtain ⟨m, rfl⟩ : ∃ m, n = m + 1 := ⟨n - 1, by omega⟩
    refine br_f (nI_nle (by omega) (by omega)) ?_
    have ex : nI (144 * 0 + 12 * sl 0 (6 * F.1 8 + r)) + nI (f + 1) - 1 = nI (144 * 0 + 12 * sl 0 (6 * F.1 8 + r)) + nI f := by
      rw [nI_add, nI_add]
      exact pk_sub (b := 1) (by omega)
    rw [ex]
    have k66 := zx_sendEnd_66 h ht rd hr hw hF hp
    have yes : zp_v F (12 * r + f) = 32 → ∀ x4, x4 = nI (f + 1) + (-1) → wpX_isEmpty (fun r_201 => (((r_201 = 0 → (∀ x5, x5 = nI w + 1 → (wX_sendEnd_21 post (nI r) (nI (144 * 0 + 12 * sl 0 (6 * F.1 8 + r))) (nI (144 * 1 + 12 * sl 1 (6 * G.1 8 + r))) (nI t) kc kn S Y L (R 0) (R 1) (R 2) (R 3) (R 4) (R 5) (R 6) (R 7) (R 8) (R 9) (R 10) (R 11) (R 12) (R 13) (R 14) (R 15) (R 16) (R 17) (R 18) N K m x4 x5))) ∧ (¬ r_201 = 0 → (∀ x5, x5 = nI w + 0 → (wX_sendEnd_21 post (nI r) (nI (144 * 0 + 12 * sl 0 (6 * F.1 8 + r))) (nI (144 * 1 + 12 * sl 1 (6 * G.1 8 + r))) (nI t) kc kn S Y L (R 0) (R 1) (R 2) (R 3) (R 4) (R 5) (R 6) (R 7) (R 8) (R 9) (R 10) (R 11) (R 12) (R 13) (R 14) (R 15) (R 16) (R 17) (R 18) N K m x4 x5)))))) (zx_S (nI t) kc kn S Y L R N K) (nI (144 * 1 + 12 * sl 1 (6 * G.1 8 + r)) + x4) := by
      intro e32 x4 e4
      rw [pk_m1] at e4
      subst e4
      have hF' : ∀ j, f ≤ j → j < 12 → zp_v F (12 * r + j) = 32 := by
        intro j h1 h2
        by_cases cj : j = f
        · rw [cj]
          exact e32
        · exact hF j (by omega) h2
      refine zx_isEmpty h (s := 1) (r := r) (c := f) (by decide) (show G.1 8 < 2 from zp_b8 rd.1) (show zp_v G (12 * r + f) < 1024 from zp_vlt rd.1 (by omega)) hr (by omega) rfl ?_
      refine br_c (fun _ => nm_r (nI_1 w) (ih (w + 1) (by omega) hF' m (by omega))) (fun _ => nm_r (nI_add w 0) (ih (w + 0) (by omega) hF' m (by omega)))
    refine zx_isEmpty h (s := 0) (r := r) (c := f) (by decide) (show F.1 8 < 2 from zp_b8 okF) (show zp_v F (12 * r + f) < 1024 from zp_vlt okF (by omega)) hr (by omega) rfl ?_
    have ez : zp_v (zz_sel 0 (zp_fz F l) G 0) (12 * r + f) = zp_v F (12 * r + f) := rfl
    rw [ez]
    by_cases q1 : zp_v F (12 * r + f) = 32
    · rw [if_pos q1]
      exact br_f (by decide) (yes q1)
    · rw [if_neg q1]
      exact br_t rfl k66
theorem zx_sendEnd {u : SX} {post : SX → Prop} {r : Nat} (h : zr_Z l u F G) (okF : zp_ok F) (rd : zp_rdy G) (hr : r < 6) (hp : ∀ u' G', zr_Z l u' F G' → zp_rdy G' → zp_ok1 F G G' r → post u') : wpX_sendEnd post u (nI r) := by
  obtain ⟨t, ht, kc, kn, S, Y, L, R, N, K, z, sl, rfl, h⟩ := h
  unfold wpX_sendEnd zx_S
  dsimp only
  exact zx_lineOf (s := 0) h (by decide) (show F.1 8 < 2 from zp_b8 okF) hr (zx_lineOf (s := 1) h (by decide) (zp_b8 rd.1) hr ⟨13, zx_sendEnd_21 h ht okF rd hr hp 12 0 (by decide) (fun j h1 h2 => absurd h2 (by omega)) 13 (by decide)⟩)
end
end
section
/-! what is shown: bridges, rows, refresh -/
section
variable {kc kn : Int32} {S Y L : zz_A} {R : Nat → zz_A} {N K : zz_A} {z : Nat → Nat} {sl : Nat → Nat → Nat} {t : Nat} {F G : zz_T} {l : Nat → Nat}
theorem zr_rcF (h : zr_B (fun _ => True) kc kn S Y L R N K z sl (zz_sel 0 (zp_fz F l) G)) (okF : zp_ok F) {r c : Nat} (hr : r < 6) (hc : c < 12) :
    S (144 * 0 + 12 * l (6 * F.1 8 + r) + c) = nI (zp_v F (12 * r + c) % 128) ∧ Y (144 * 0 + 12 * l (6 * F.1 8 + r) + c) = nI (zp_v F (12 * r + c) / 128) ∧ vp_in (nI (144 * 0 + 12 * l (6 * F.1 8 + r)) + nI c) 288 ∧ (nI (144 * 0 + 12 * l (6 * F.1 8 + r)) + nI c).toNatClampNeg = 144 * 0 + 12 * l (6 * F.1 8 + r) + c := by
  have o := zp_b8 okF
  rw [← zr_slF h (q := 6 * F.1 8 + r) (by omega)]
  obtain ⟨i1, c1⟩ := zx_ix h (s := 0) (by decide) (show F.1 8 < 2 from o) hr hc
  obtain ⟨s1, y1⟩ := zr_rcW h (s := 0) (by decide) (show F.1 8 < 2 from o) hr hc
  exact ⟨s1, y1, i1, c1⟩
theorem zp_vok {T : zz_T} (h : zp_ok T) {i : Nat} (hi : i < 72) : 32 ≤ zp_v T i % 128 ∧ zp_v T i % 128 < 127 ∧ zp_v T i < 1024 := zp_bc h _ (by have := zp_b8 h; omega)
theorem zx_sendBridge_105 {post : SX → Prop} {r c k0 p : Nat} {G0 : zz_T} (okF : zp_ok F) (hr : r < 6) (hc : c < 12) (hs : ∀ j, k0 ≤ j → j < c → zp_v F (12 * r + j) / 128 = p)
    (hp : ∀ u' G', zr_Z l u' F G' → zp_rdy G' → zp_ok1 F G0 G' r → post u') :
    ∀ (d k : Nat) (G : zz_T) (t : Nat) (kc kn : Int32) (S Y L : zz_A) (R : Nat → zz_A) (N K : zz_A) (z : Nat → Nat) (sl : Nat → Nat → Nat), k + d = c → k0 ≤ k → t < 2 → zr_B (fun _ => True) kc kn S Y L R N K z sl (zz_sel 0 (zp_fz F l) G) → zp_rdy G → G.1 0 = r → G.1 1 = k → G.1 2 = 0 → G.1 3 = p → zp_ok1 F G0 G r →
      ∀ n, d < n → wX_sendBridge_105 post (nI c) (nI (144 * 0 + 12 * l (6 * F.1 8 + r))) 1 n (nI k) (nI t) kc kn S Y L (R 0) (R 1) (R 2) (R 3) (R 4) (R 5) (R 6) (R 7) (R 8) (R 9) (R 10) (R 11) (R 12) (R 13) (R 14) (R 15) (R 16) (R 17) (R 18) N K := by
  intro d
  induction d with
  | zero =>
    intro k G t kc kn S Y L R N K z sl hk hk0 ht h rd g0 g1 g2 g3 o1 n hn
    obtain ⟨m, rfl⟩ : ∃ m, n = m + 1 := ⟨n - 1, by omega⟩
    exact br_t (nI_le (by omega) (by omega)) (hp _ G (zz_mk ht h) rd o1)
  | succ d ih =>
    intro k G t kc kn S Y L R N K z sl hk hk0 ht h rd g0 g1 g2 g3 o1 n hn
    obtain ⟨m, rfl⟩ : ∃ m, n = m + 1 := ⟨n - 1, by omega⟩
    obtain ⟨s1, y1, i1, c1⟩ := zr_rcF h okF hr (c := k) (by omega)
    obtain ⟨v1, v2, v3⟩ := zp_vok okF (i := 12 * r + k) (by omega)
    have hk1 := hs k hk0 (by omega)
    refine br_f (nI_ge (by omega) (by omega)) (br_f (by decide) ⟨i1, ?_⟩)
    rw [c1, s1]
    refine zx_sendSign (zz_mk ht h) rd g2 v1 v2 (fun u' G' h' rd' e0 e3 e1 ev => ?_)
    obtain ⟨t, ht, kc, kn, S, Y, L, R, N, K, z, sl, rfl, h⟩ := h'
    obtain ⟨e1', e2'⟩ := e1 (by omega)
    refine nm_r (nI_1 k) (ih (k + 1) G' t kc kn S Y L R N K z sl (by omega) (by omega) ht h rd' (e0.trans g0) (by omega) e2' (e3.trans g3) (zp_ok1_t o1 (fun i hi => ?_)) m (by omega))
    rw [ev i, g0, g1, g3]
    by_cases ci : i = 12 * r + k
    · rw [if_pos ci]
      refine Or.inr ⟨by omega, by omega, ?_⟩
      rw [ci]
      omega
    · rw [if_neg ci]
      exact Or.inl rfl
theorem zx_sendBridge_59n {post : SX → Prop} {x2 x3 x4 x6 : Int32} {m : Nat} (hp : post (zx_S (nI t) kc kn S Y L R N K)) : wX_sendBridge_59 post x2 x3 x4 (nI t) kc kn S Y L (R 0) (R 1) (R 2) (R 3) (R 4) (R 5) (R 6) (R 7) (R 8) (R 9) (R 10) (R 11) (R 12) (R 13) (R 14) (R 15) (R 16) (R 17) (R 18) N K (m + 1) 0 x6 := by
  have k : ∃ n, wX_sendBridge_105 post x2 x3 0 n x4 (nI t) kc kn S Y L (R 0) (R 1) (R 2) (R 3) (R 4) (R 5) (R 6) (R 7) (R 8) (R 9) (R 10) (R 11) (R 12) (R 13) (R 14) (R 15) (R 16) (R 17) (R 18) N K := ⟨1, br_c (fun _ => hp) (fun _ => br_t rfl hp)⟩
  exact br_c (fun _ => k) (fun _ => br_t rfl k)
theorem zx_sendBridge_59 {post : SX → Prop} {r c k0 p : Nat} (h : zr_B (fun _ => True) kc kn S Y L R N K z sl (zz_sel 0 (zp_fz F l) G)) (ht : t < 2) (okF : zp_ok F) (rd : zp_rdy G) (hr : r < 6) (hc : c < 12) (g0 : G.1 0 = r) (g1 : G.1 1 = k0) (g2 : G.1 2 = 0) (g3 : G.1 3 = p)
    (hp : ∀ u' G', zr_Z l u' F G' → zp_rdy G' → zp_ok1 F G G' r → post u') :
    ∀ (d k : Nat), k + d = c → k0 ≤ k → (∀ j, k0 ≤ j → j < k → zp_v F (12 * r + j) / 128 = p) → ∀ n, d < n → wX_sendBridge_59 post (nI c) (nI (144 * 0 + 12 * l (6 * F.1 8 + r))) (nI k0) (nI t) kc kn S Y L (R 0) (R 1) (R 2) (R 3) (R 4) (R 5) (R 6) (R 7) (R 8) (R 9) (R 10) (R 11) (R 12) (R 13) (R 14) (R 15) (R 16) (R 17) (R 18) N K n 1 (nI k) := by
  have b3 := zp_b3 rd.1
  have e3 : R 3 1 = nI p := by
    have e := h.1 1 3 (by decide) (by decide)
    rw [← g3]
    exact e
  intro d
  induction d with
  | zero =>
    intro k hk hk0 hs n hn
    obtain ⟨m, rfl⟩ : ∃ m, n = m + 1 := ⟨n - 1, by omega⟩
    rw [show k = c by omega] at hs ⊢
    exact br_t (nI_le (Nat.le_refl _) (by omega)) ⟨13, zx_sendBridge_105 (G0 := G) okF hr hc hs hp (c - k0) k0 G t kc kn S Y L R N K z sl (by omega) (Nat.le_refl _) ht h rd g0 g1 g2 g3 (fun i _ => Or.inl rfl) 13 (by omega)⟩
  | succ d ih =>
    intro k hk hk0 hs n hn
    obtain ⟨m, rfl⟩ : ∃ m, n = m + 1 := ⟨n - 1, by omega⟩
    obtain ⟨m', rfl⟩ : ∃ m', m = m' + 1 := ⟨m - 1, by omega⟩
    obtain ⟨s1, y1, i1, c1⟩ := zr_rcF h okF hr (c := k) (by omega)
    obtain ⟨v1, v2, v3⟩ := zp_vok okF (i := 12 * r + k) (by omega)
    refine br_f (nI_ge (by omega) (by omega)) (br_f (by decide) ⟨i1, ?_⟩)
    rw [c1, y1, e3]
    refine pk_eq _ p (fun q => nm_r (nI_1 k) (ih (k + 1) (by omega) (by omega) (fun j h1 h2 => ?_) (m' + 1) (by omega))) (fun q => nm_e (zx_sendBridge_59n (hp _ G (zz_mk ht h) rd (fun i _ => Or.inl rfl))))
    by_cases cj : j = k
    · rw [cj]
      exact q
    · exact hs j h1 (by omega)
theorem zx_sendBridge {u : SX} {post : SX → Prop} {r c : Nat} (h : zr_Z l u F G) (okF : zp_ok F) (rd : zp_rdy G) (hr : r < 6) (hc : c < 12) (hp : ∀ u' G', zr_Z l u' F G' → zp_rdy G' → zp_ok1 F G G' r → post u') : wpX_sendBridge post u (nI r) (nI c) := by
  obtain ⟨t, ht, kc, kn, S, Y, L, R, N, K, z, sl, rfl, h⟩ := h
  have b0 := zp_b0 rd.1
  have b1 := zp_b1 rd.1
  have b2 := zp_b2 rd.1
  have o := zp_b8 okF
  have e0 : R 0 1 = nI (G.1 0) := h.1 1 0 (by decide) (by decide)
  have e1 : R 1 1 = nI (G.1 1) := h.1 1 1 (by decide) (by decide)
  have e2 : R 2 1 = nI (G.1 2) := h.1 1 2 (by decide) (by decide)
  have hf := hp _ G (zz_mk ht h) rd (fun i _ => Or.inl rfl)
  unfold wpX_sendBridge zx_S
  dsimp only
  rw [e0, e1, e2]
  refine zx_lineOf (s := 0) h (by decide) (show F.1 8 < 2 from o) hr (nm_e ?_)
  show _ ∧ _
  refine pk_eq (G.1 0) r (fun g0 => ?_) (fun _ => ⟨1, zx_sendBridge_59n hf⟩)
  refine pk_eq (G.1 2) 0 (fun g2 => ?_) (fun _ => ⟨1, zx_sendBridge_59n hf⟩)
  refine pk_le c (G.1 1) (fun _ => ⟨1, zx_sendBridge_59n hf⟩) (fun gc => ?_)
  rw [pk_sub (by omega)]
  refine pk_lt 3 (c - G.1 1) (fun _ => ⟨1, zx_sendBridge_59n hf⟩) (fun _ => ⟨13, ?_⟩)
  have k := zx_sendBridge_59 h ht okF rd hr hc g0 rfl g2 rfl hp (c - G.1 1) (G.1 1) (by omega) (Nat.le_refl _) (fun j h1 h2 => absurd h2 (by omega)) 13 (by omega)
  rw [← zr_slF h (q := 6 * F.1 8 + r) (by omega)] at k
  exact k
theorem zx_sendRow_34 {post : SX → Prop} {r : Nat} {G0 : zz_T} (okF : zp_ok F) (hr : r < 6)
    (hp : ∀ u' G', zr_Z l u' F G' → zp_rdy G' → (∀ i, i < 72 → (12 * r ≤ i → i < 12 * r + 12 → zp_v G' i = zp_v F i) ∧ (¬ (12 * r ≤ i ∧ i < 12 * r + 12) → zp_v G' i = zp_v G0 i)) → post u') :
    ∀ (d c : Nat) (G : zz_T) (t : Nat) (kc kn : Int32) (S Y L : zz_A) (R : Nat → zz_A) (N K : zz_A) (z : Nat → Nat) (sl : Nat → Nat → Nat), c + d = 12 → t < 2 → zr_B (fun _ => True) kc kn S Y L R N K z sl (zz_sel 0 (zp_fz F l) G) → zp_rdy G →
      (∀ i, i < 72 → (12 * r ≤ i → i < 12 * r + c → zp_v G i = zp_v F i) ∧ (¬ (12 * r ≤ i ∧ i < 12 * r + 12) → zp_v G i = zp_v G0 i)) → ∀ n, d < n → wX_sendRow_34 post (nI r) (nI (144 * 0 + 12 * l (6 * F.1 8 + r))) n (nI c) (nI t) kc kn S Y L (R 0) (R 1) (R 2) (R 3) (R 4) (R 5) (R 6) (R 7) (R 8) (R 9) (R 10) (R 11) (R 12) (R 13) (R 14) (R 15) (R 16) (R 17) (R 18) N K := by
  intro d
  induction d with
  | zero =>
    intro c G t kc kn S Y L R N K z sl hc ht h rd hi n hn
    obtain ⟨m, rfl⟩ : ∃ m, n = m + 1 := ⟨n - 1, by omega⟩
    rw [show c = 12 by omega] at hi ⊢
    exact br_t (nI_le (a := 12) (by decide) (by decide)) (hp _ G (zz_mk ht h) rd hi)
  | succ d ih =>
    intro c G t kc kn S Y L R N K z sl hc ht h rd hi n hn
    obtain ⟨m, rfl⟩ : ∃ m, n = m + 1 := ⟨n - 1, by omega⟩
    have o := zp_b8 okF
    refine br_f (nI_ge (b := 12) (by omega) (by decide)) (zx_lineOf (s := 1) h (by decide) (show G.1 8 < 2 from zp_b8 rd.1) hr ?_)
    have es := zr_slF h (q := 6 * F.1 8 + r) (by omega)
    have same := @zx_same (nI t) kc kn S Y L R N K z sl F G l h okF rd.1 r c r c hr (by omega) hr (by omega)
    rw [es] at same
    refine same ?_
    by_cases e : zp_v F (12 * r + c) = zp_v G (12 * r + c)
    · rw [if_pos e]
      refine br_f (by decide) (nm_r (nI_1 c) (ih (c + 1) G t kc kn S Y L R N K z sl (by omega) ht h rd (fun i hi' => ⟨fun h1 h2 => ?_, (hi i hi').2⟩) m (by omega)))
      by_cases ci : i = 12 * r + c
      · rw [ci]
        exact e.symm
      · exact (hi i hi').1 h1 (by omega)
    · rw [if_neg e]
      refine br_t rfl (zx_sendBridge (zz_mk ht h) okF rd hr (by omega) (fun u1 G1 h1 rd1 o1 => ?_))
      obtain ⟨t, ht, kc, kn, S, Y, L, R, N, K, z, sl, rfl, h⟩ := h1
      refine zx_sendMove (zz_mk ht h) rd1 hr (by omega) (fun u2 G2 h2 rd2 g0 g1 g2 g3 gc => ?_)
      obtain ⟨t, ht, kc, kn, S, Y, L, R, N, K, z, sl, rfl, h⟩ := h2
      obtain ⟨s1, y1, i1, c1⟩ := zr_rcF h okF hr (c := c) (by omega)
      obtain ⟨v1, v2, v3⟩ := zp_vok okF (i := 12 * r + c) (by omega)
      refine ⟨i1, ?_⟩
      rw [c1, y1]
      refine zx_sendPen (zz_mk ht h) rd2 (by omega) (fun u3 G3 h3 rd3 f0 f1 f2 f3 fc => ?_)
      obtain ⟨t, ht, kc, kn, S, Y, L, R, N, K, z, sl, rfl, h⟩ := h3
      obtain ⟨s1, y1, i1, c1⟩ := zr_rcF h okF hr (c := c) (by omega)
      refine ⟨i1, ?_⟩
      rw [s1]
      refine zx_sendSign (zz_mk ht h) rd3 (f2.trans g2) v1 v2 (fun u4 G4 h4 rd4 q0 q3 q1 qv => ?_)
      obtain ⟨t, ht, kc, kn, S, Y, L, R, N, K, z, sl, rfl, h⟩ := h4
      refine nm_r (nI_1 c) (ih (c + 1) G4 t kc kn S Y L R N K z sl (by omega) ht h rd4 (fun i hi' => ?_) m (by omega))
      have w : zp_v G4 i = if i = 12 * r + c then zp_v F i else zp_v G1 i := by
        rw [qv i, f0, g0, f1, g1, f3]
        by_cases ci : i = 12 * r + c
        · rw [if_pos ci, if_pos ci, ci]
          omega
        · rw [if_neg ci, if_neg ci, zp_v_eq rd2 rd3 fc, zp_v_eq rd1 rd2 gc]
      rw [w]
      by_cases ci : i = 12 * r + c
      · rw [if_pos ci]
        exact ⟨fun _ _ => rfl, fun q => absurd q (by omega)⟩
      · rw [if_neg ci]
        refine ⟨fun h1 h2 => ?_, fun q => ?_⟩
        · rcases o1 i hi' with x | x
          · rw [x]
            exact (hi i hi').1 h1 (by omega)
          · exact x.2.2
        · rcases o1 i hi' with x | x
          · rw [x]
            exact (hi i hi').2 q
          · exact absurd ⟨x.1, x.2.1⟩ q
theorem zx_sendRow {u : SX} {post : SX → Prop} {r : Nat} (h : zr_Z l u F G) (okF : zp_ok F) (rd : zp_rdy G) (hr : r < 6)
    (hp : ∀ u' G', zr_Z l u' F G' → zp_rdy G' → (∀ i, i < 72 → (12 * r ≤ i → i < 12 * r + 12 → zp_v G' i = zp_v F i) ∧ (¬ (12 * r ≤ i ∧ i < 12 * r + 12) → zp_v G' i = zp_v G i)) → post u') : wpX_sendRow post u (nI r) := by
  obtain ⟨t, ht, kc, kn, S, Y, L, R, N, K, z, sl, rfl, h⟩ := h
  unfold wpX_sendRow zx_S
  dsimp only
  refine zx_firstStale h okF rd.1 hr (fun c hc hs => pk_eq c 12 (fun c12 => ?_) (fun c12 => ?_))
  · refine hp _ G (zz_mk ht h) rd (fun i hi => ⟨fun h1 h2 => ?_, fun _ => rfl⟩)
    have e := hs (i - 12 * r) (by omega)
    rw [show 12 * r + (i - 12 * r) = i by omega] at e
    exact e.symm
  · refine zx_sendShift (zz_mk ht h) okF rd hr (by omega) (fun u1 G1 h1 rd1 k1 => ?_)
    obtain ⟨t, ht, kc, kn, S, Y, L, R, N, K, z, sl, rfl, h⟩ := h1
    refine zx_sendEnd (zz_mk ht h) okF rd1 hr (fun u2 G2 h2 rd2 k2 => ?_)
    obtain ⟨t, ht, kc, kn, S, Y, L, R, N, K, z, sl, rfl, h⟩ := h2
    have o := zp_b8 okF
    refine zx_lineOf (s := 0) h (by decide) (show F.1 8 < 2 from o) hr ⟨13, ?_⟩
    have k := zx_sendRow_34 (G0 := G) okF hr hp (12 - c) c G2 t kc kn S Y L R N K z sl (by omega) ht h rd2 (fun i hi => ?_) 13 (by omega)
    · rw [← zr_slF h (q := 6 * F.1 8 + r) (by omega)] at k
      exact k
    · refine ⟨fun h1 h2 => ?_, fun q => ?_⟩
      · rcases k2 i hi with x | x
        · rw [x, k1 i hi (by omega)]
          have e := hs (i - 12 * r) (by omega)
          rw [show 12 * r + (i - 12 * r) = i by omega] at e
          exact e.symm
        · exact x.2.2
      · rcases k2 i hi with x | x
        · rw [x, k1 i hi (by omega)]
        · exact absurd ⟨x.1, x.2.1⟩ q
theorem zx_refresh_15 {post : Int32 → SX → Prop} {x1 : Int32} (okF : zp_ok F) (hp : ∀ u' G', zr_X (fun _ => True) u' 0 F G' → zp_rdy G' → (∀ i, i < 72 → zp_v G' i = zp_v F i) → post x1 u') :
    ∀ (d r : Nat) (G : zz_T) (t : Nat) (kc kn : Int32) (S Y L : zz_A) (R : Nat → zz_A) (N K : zz_A) (z : Nat → Nat) (sl : Nat → Nat → Nat), r + d = 6 → t < 2 → zr_B (fun _ => True) kc kn S Y L R N K z sl (zz_sel 0 (zp_fz F l) G) → zp_rdy G →
      (∀ i, i < 12 * r → zp_v G i = zp_v F i) → ∀ n, d < n → wX_refresh_15 post x1 n (nI r) (nI t) kc kn S Y L (R 0) (R 1) (R 2) (R 3) (R 4) (R 5) (R 6) (R 7) (R 8) (R 9) (R 10) (R 11) (R 12) (R 13) (R 14) (R 15) (R 16) (R 17) (R 18) N K := by
  intro d
  induction d with
  | zero =>
    intro r G t kc kn S Y L R N K z sl hr ht h rd hi n hn
    obtain ⟨m, rfl⟩ : ∃ m, n = m + 1 := ⟨n - 1, by omega⟩
    refine br_t (nI_le (a := 6) (by omega) (by omega)) ?_
    refine hp _ G (zr_mk (t := 0) (by decide) (zr_uf (s0 := 0) (l := l) h rfl (zp_b99 okF) (fun s hs => by rw [zz_seln _ _ hs, zz_seln _ _ hs]))) rd (fun i hi' => hi i (by omega))
  | succ d ih =>
    intro r G t kc kn S Y L R N K z sl hr ht h rd hi n hn
    obtain ⟨m, rfl⟩ : ∃ m, n = m + 1 := ⟨n - 1, by omega⟩
    refine br_f (nI_ge (b := 6) (by omega) (by decide)) (zx_sendRow (zz_mk ht h) okF rd (by omega) (fun u' G' h' rd' k => ?_))
    obtain ⟨t, ht, kc, kn, S, Y, L, R, N, K, z, sl, rfl, h⟩ := h'
    refine nm_r (nI_1 r) (ih (r + 1) G' t kc kn S Y L R N K z sl (by omega) ht h rd' (fun i hi' => ?_) m (by omega))
    by_cases c : 12 * r ≤ i
    · exact (k i (by omega)).1 c (by omega)
    · rw [(k i (by omega)).2 (by omega)]
      exact hi i (by omega)
theorem zx_refresh {u : SX} {post : Int32 → SX → Prop} (h : zr_Z l u F G) (okF : zp_ok F) (rd : zp_rdy G) (hp : ∀ u' G', zr_X (fun _ => True) u' 0 F G' → zp_rdy G' → (∀ i, i < 72 → zp_v G' i = zp_v F i) → post (nI (zp_nd (zp_v F) (zp_v G) 0 72)) u') : wpX_refresh post u := by
  obtain ⟨t, ht, kc, kn, S, Y, L, R, N, K, z, sl, rfl, h⟩ := h
  unfold wpX_refresh zx_S
  dsimp only
  refine zx_stale (zz_mk ht h) okF rd.1 (br_c (fun _ => ⟨7, ?_⟩) (fun _ => ?_))
  · exact zx_refresh_15 okF hp 6 0 G t kc kn S Y L R N K z sl (by decide) ht h rd (fun i hi => absurd hi (by omega)) 7 (by decide)
  · refine zx_sendScroll (zz_mk ht h) okF rd (fun u' G' h' rd' => ?_)
    obtain ⟨t, ht, kc, kn, S, Y, L, R, N, K, z, sl, rfl, h⟩ := h'
    exact ⟨7, zx_refresh_15 okF hp 6 0 G' t kc kn S Y L R N K z sl (by decide) ht h rd' (fun i hi => absurd hi (by omega)) 7 (by decide)⟩
end
end
section
/-! questions to both sides -/
theorem zq_isX0 {post : Int32 → Prop} {x y : Int32} (h : x < 0 ∨ nI 6 ≤ x ∨ y < 0 ∨ nI 12 ≤ y) (hp : post 0) : wpX_isCell post x y := by
  refine br_c (fun _ => hp) (fun a => br_c (fun _ => hp) (fun b => br_c (fun _ => hp) (fun c => br_c (fun _ => hp) (fun d => ?_))))
  rcases h with h | h | h | h
  · exact absurd h a
  · exact absurd h b
  · exact absurd h c
  · exact absurd h d
theorem zq_isX1 {post : Int32 → Prop} {r c : Nat} (hr : r < 6) (hc : c < 12) (hp : post 1) : wpX_isCell post (nI r) (nI c) :=
  br_f (nI_pos (by omega)) (br_f (nI_ge (b := 6) hr (by decide)) (br_f (nI_pos (by omega)) (br_f (nI_ge (b := 12) hc (by decide)) hp)))
theorem zq_lt {x : Int32} {a : Nat} (ha : a < 1000) (h : nI (a + 1) ≤ x) : nI a < x := by
  rw [Int32.le_iff_toInt_le, nI_toInt (by omega)] at h
  rw [Int32.lt_iff_toInt_lt, nI_toInt (by omega)]
  omega
theorem zq_isY0 {post : Int32 → Prop} {v : SY} {x y : Int32} (h : x < 0 ∨ nI 6 ≤ x ∨ y < 0 ∨ nI 12 ≤ y) (hp : post 0) : wpY_is post v x y := by
  refine br_c (fun _ => hp) (fun a => br_c (fun _ => hp) (fun b => br_c (fun _ => hp) (fun c => br_c (fun _ => hp) (fun d => ?_))))
  rcases h with h | h | h | h
  · exact absurd h a
  · exact absurd (zq_lt (a := 5) (by decide) h) b
  · exact absurd h c
  · exact absurd (zq_lt (a := 11) (by decide) h) d
theorem zq_isY1 {post : Int32 → Prop} {v : SY} {r c : Nat} (hr : r < 6) (hc : c < 12) (hp : post 1) : wpY_is post v (nI r) (nI c) :=
  br_f (nI_pos (by omega)) (br_f (nI_nlt (a := 5) (b := r) (by omega) (by decide)) (br_f (nI_pos (by omega)) (br_f (nI_nlt (a := 11) (b := c) (by omega) (by decide)) hp)))
theorem zq_cell (x y : Int32) : (x < 0 ∨ nI 6 ≤ x ∨ y < 0 ∨ nI 12 ≤ y) ∨ ∃ r c, r < 6 ∧ c < 12 ∧ x = nI r ∧ y = nI c := by
  rcases pk_ix x (n := 6) (by decide) with h | h | ⟨r, hr, h⟩
  · exact Or.inl (Or.inl h)
  · exact Or.inl (Or.inr (Or.inl h))
  · rcases pk_ix y (n := 12) (by decide) with k | k | ⟨c, hc, k⟩
    · exact Or.inl (Or.inr (Or.inr (Or.inl k)))
    · exact Or.inl (Or.inr (Or.inr (Or.inr k)))
    · exact Or.inr ⟨r, c, hr, hc, h, k⟩
section
variable {kc kn : Int32} {S Y L : zz_A} {R : Nat → zz_A} {N K : zz_A} {z : Nat → Nat} {sl : Nat → Nat → Nat} {F G : zz_T} {p : Prop}
theorem zq_signX {u : SX} {post : Int32 → Prop} {r c : Nat} (h : zr_X (fun _ => True) u 0 F G) (okF : zp_ok F) (hr : r < 6) (hc : c < 12) (hp : post (nI (zp_v F (12 * r + c) % 128))) : wpX_sign post u (nI r) (nI c) := by
  obtain ⟨ht, kc, kn, S, Y, L, R, N, K, z, sl, rfl, h⟩ := h
  have o := zp_b8 okF
  obtain ⟨i1, c1⟩ := zx_ix h (s := 0) (by decide) (show F.1 8 < 2 from o) hr hc
  obtain ⟨s1, y1⟩ := zr_rcW h (s := 0) (by decide) (show F.1 8 < 2 from o) hr hc
  unfold wpX_sign zx_S
  dsimp only
  refine zq_isX1 hr hc (br_f (by decide) (zx_lineOf (s := 0) h (by decide) (show F.1 8 < 2 from o) hr ⟨i1, ?_⟩))
  rw [c1, s1]
  exact hp
theorem zq_styleX {u : SX} {post : Int32 → Prop} {r c : Nat} (h : zr_X (fun _ => True) u 0 F G) (okF : zp_ok F) (hr : r < 6) (hc : c < 12) (hp : post (nI (zp_v F (12 * r + c) / 128))) : wpX_style post u (nI r) (nI c) := by
  obtain ⟨ht, kc, kn, S, Y, L, R, N, K, z, sl, rfl, h⟩ := h
  have o := zp_b8 okF
  obtain ⟨i1, c1⟩ := zx_ix h (s := 0) (by decide) (show F.1 8 < 2 from o) hr hc
  obtain ⟨s1, y1⟩ := zr_rcW h (s := 0) (by decide) (show F.1 8 < 2 from o) hr hc
  unfold wpX_style zx_S
  dsimp only
  refine zq_isX1 hr hc (br_f (by decide) (zx_lineOf (s := 0) h (by decide) (show F.1 8 < 2 from o) hr ⟨i1, ?_⟩))
  rw [c1, y1]
  exact hp
theorem zq_shownX {u : SX} {post : Int32 → Prop} {r c : Nat} (h : zr_X (fun _ => True) u 0 F G) (okG : zp_ok G) (hr : r < 6) (hc : c < 12) (hp : post (nI (zp_v G (12 * r + c)))) : wpX_shown post u (nI r) (nI c) := by
  obtain ⟨ht, kc, kn, S, Y, L, R, N, K, z, sl, rfl, h⟩ := h
  have o := zp_b8 okG
  obtain ⟨i1, c1⟩ := zx_ix h (s := 1) (by decide) (show G.1 8 < 2 from o) hr hc
  obtain ⟨s1, y1⟩ := zr_rcW h (s := 1) (by decide) (show G.1 8 < 2 from o) hr hc
  unfold wpX_shown zx_S
  dsimp only
  refine zq_isX1 hr hc (br_f (by decide) (zx_lineOf (s := 1) h (by decide) (show G.1 8 < 2 from o) hr ⟨i1, i1, ?_⟩))
  rw [c1, s1, y1]
  have e : nI (zp_v G (12 * r + c) % 128) + nI 128 * nI (zp_v G (12 * r + c) / 128) = nI (zp_v G (12 * r + c)) := by
    rw [pk_mul, nI_add]
    exact congrArg nI (by omega)
  have hp' : post (nI (zp_v G (12 * r + c) % 128) + nI 128 * nI (zp_v G (12 * r + c) / 128)) := by
    rw [e]
    exact hp
  exact hp'
theorem zq_signY {v : SY} {g : Nat → Nat} {post : Int32 → Prop} {r c : Nat} (h : zr_Y p v F g) (okF : zp_ok F) (hr : r < 6) (hc : c < 12) (hp : post (nI (zp_v F (12 * r + c) % 128))) : wpY_sign post v (nI r) (nI c) := by
  obtain ⟨bg, mk, my, C, Q, AC, KS, NU, rfl, h1, h2⟩ := h
  have l1 := zp_vlt okF (i := 12 * r + c) (by omega)
  unfold wpY_sign zy_S
  dsimp only
  refine zq_isY1 hr hc (br_f (by decide) ?_)
  rw [zn_12, nI_clamp (by omega), h2.1 _ (by omega)]
  refine ⟨vp_in_nI (by omega) (by decide), by decide, ?_⟩
  have e : nI (zp_v F (12 * r + c)) - nI (zp_v F (12 * r + c)) / nI 128 * nI 128 = nI (zp_v F (12 * r + c) % 128) := pk_rem (by omega) (by decide) (by decide)
  have hp' : post (nI (zp_v F (12 * r + c)) - nI (zp_v F (12 * r + c)) / nI 128 * nI 128) := by
    rw [e]
    exact hp
  exact hp'
theorem zq_styleY {v : SY} {g : Nat → Nat} {post : Int32 → Prop} {r c : Nat} (h : zr_Y p v F g) (okF : zp_ok F) (hr : r < 6) (hc : c < 12) (hp : post (nI (zp_v F (12 * r + c) / 128))) : wpY_style post v (nI r) (nI c) := by
  obtain ⟨bg, mk, my, C, Q, AC, KS, NU, rfl, h1, h2⟩ := h
  have l1 := zp_vlt okF (i := 12 * r + c) (by omega)
  unfold wpY_style zy_S
  dsimp only
  refine zq_isY1 hr hc (br_f (by decide) ?_)
  rw [zn_12, nI_clamp (by omega), h2.1 _ (by omega)]
  refine ⟨vp_in_nI (by omega) (by decide), by decide, ?_⟩
  have e : nI (zp_v F (12 * r + c)) / nI 128 = nI (zp_v F (12 * r + c) / 128) := pk_div (by omega) (by decide) (by decide)
  have hp' : post (nI (zp_v F (12 * r + c)) / nI 128) := by
    rw [e]
    exact hp
  exact hp'
theorem zq_shownY {v : SY} {g : Nat → Nat} {post : Int32 → Prop} {r c : Nat} (h : zr_Y p v F g) (hr : r < 6) (hc : c < 12) (hp : post (nI (g (12 * r + c)))) : wpY_shown post v (nI r) (nI c) := by
  obtain ⟨bg, mk, my, C, Q, AC, KS, NU, rfl, h1, h2⟩ := h
  unfold wpY_shown zy_S
  dsimp only
  refine zq_isY1 hr hc (br_f (by decide) ?_)
  rw [zn_12, nI_clamp (by omega), h2.2.1 _ (by omega)]
  exact ⟨vp_in_nI (by omega) (by decide), hp⟩
theorem zq_stale_4 {g : Nat → Nat} {bg mk my : Int32} {C Q AC KS NU : zz_A} {T : zz_T} {post : Int32 → Prop} (h2 : zr_C T g C Q AC KS) (okT : zp_ok T) (hg : ∀ i, i < 72 → g i < 1024) (hp : post (nI (zp_nd (zp_v T) g 0 72))) :
    ∀ (d k : Nat), k + d = 72 → ∀ n, d < n → wY_stale_4 post (nI (T.1 0)) (nI (T.1 1)) (nI (T.1 3)) (nI (T.1 4)) (nI (T.1 5)) (nI (T.1 6)) (nI (T.1 7)) (nI (T.1 8)) (nI (T.1 2)) (nI (T.1 9)) (nI (T.1 10)) (nI (T.1 11)) (nI (T.1 12)) (nI (T.1 13)) (nI (T.1 14)) (nI (T.1 15)) (nI (T.1 24)) (nI (zy_st T)) bg mk my C Q AC KS NU n (nI (zp_nd (zp_v T) g 0 k)) (nI k) := by
  intro d
  induction d with
  | zero =>
    intro k hk n hn
    obtain ⟨m, rfl⟩ : ∃ m, n = m + 1 := ⟨n - 1, by omega⟩
    rw [show k = 72 by omega]
    exact br_t (nI_le (a := 72) (by decide) (by decide)) hp
  | succ d ih =>
    intro k hk n hn
    obtain ⟨m, rfl⟩ : ∃ m, n = m + 1 := ⟨n - 1, by omega⟩
    have hin : vp_in (nI k) 72 := vp_in_nI (by omega) (by decide)
    have l1 := zp_vlt okT (i := k) (by omega)
    have l2 := hg k (by omega)
    have ih' := ih (k + 1) (by omega) m (by omega)
    unfold zp_nd at ih'
    rw [Nat.zero_add] at ih'
    refine br_f (nI_ge (b := 72) (by omega) (by decide)) ⟨hin, hin, ?_⟩
    rw [nI_clamp (by omega), h2.1 k (by omega), h2.2.1 k (by omega)]
    refine pk_eq (zp_v T k) (g k) (fun e => ?_) (fun e => ?_)
    · rw [if_pos e] at ih'
      exact nm_r (nI_1 k) ih'
    · rw [if_neg e] at ih'
      exact nm_r (nI_1 _) (nm_r (nI_1 k) ih')
theorem zq_staleY {v : SY} {g : Nat → Nat} {post : Int32 → Prop} (h : zr_Y p v F g) (okF : zp_ok F) (hg : ∀ i, i < 72 → g i < 1024) (hp : post (nI (zp_nd (zp_v F) g 0 72))) : wpY_stale post v := by
  obtain ⟨bg, mk, my, C, Q, AC, KS, NU, rfl, h1, h2⟩ := h
  exact ⟨73, zq_stale_4 h2 okF hg hp 72 0 (by decide) 73 (by decide)⟩
theorem zq_refresh_7 {bg mk my : Int32} {C AC KS NU : zz_A} {T : zz_T} {post : Int32 → SY → Prop} {x1 : Int32} (hp : ∀ Q', (∀ i, i < 72 → Q' i = C i) → post x1 (zy_S T bg mk my C Q' AC KS NU)) :
    ∀ (d k : Nat) (Q' : zz_A), k + d = 72 → (∀ i, i < k → Q' i = C i) → ∀ n, d < n → wY_refresh_7 post x1 (nI (T.1 0)) (nI (T.1 1)) (nI (T.1 3)) (nI (T.1 4)) (nI (T.1 5)) (nI (T.1 6)) (nI (T.1 7)) (nI (T.1 8)) (nI (T.1 2)) (nI (T.1 9)) (nI (T.1 10)) (nI (T.1 11)) (nI (T.1 12)) (nI (T.1 13)) (nI (T.1 14)) (nI (T.1 15)) (nI (T.1 24)) (nI (zy_st T)) bg mk my n (nI k) C Q' AC KS NU := by
  intro d
  induction d with
  | zero =>
    intro k Q' hk hQ n hn
    obtain ⟨m, rfl⟩ : ∃ m, n = m + 1 := ⟨n - 1, by omega⟩
    rw [show k = 72 by omega] at hQ ⊢
    exact br_t (nI_le (a := 72) (by decide) (by decide)) (hp Q' hQ)
  | succ d ih =>
    intro k Q' hk hQ n hn
    obtain ⟨m, rfl⟩ : ∃ m, n = m + 1 := ⟨n - 1, by omega⟩
    have hin : vp_in (nI k) 72 := vp_in_nI (by omega) (by decide)
    refine br_f (nI_ge (b := 72) (by omega) (by decide)) ⟨hin, hin, nm_r (e' := upd Q' k (C k)) (by rw [nI_clamp (by omega)]) (nm_r (nI_1 k) (ih (k + 1) _ (by omega) (fun i hi => ?_) m (by omega)))⟩
    by_cases c : i = k
    · rw [c, pk_us]
    · rw [pk_un c]
      exact hQ i (by omega)
theorem zq_refreshY {v : SY} {g : Nat → Nat} {post : Int32 → SY → Prop} (h : zr_Y p v F g) (okF : zp_ok F) (hg : ∀ i, i < 72 → g i < 1024) (hp : ∀ v' g', (∀ i, i < 72 → g' i = zp_v F i) → zr_Y p v' F g' → post (nI (zp_nd (zp_v F) g 0 72)) v') : wpY_refresh post v := by
  obtain ⟨bg, mk, my, C, Q, AC, KS, NU, rfl, h1, h2⟩ := h
  unfold wpY_refresh zy_S
  dsimp only
  refine zq_staleY (zy_mk h1 h2) okF hg ⟨73, zq_refresh_7 (T := F) ?_ 72 0 Q (by decide) (fun i hi => absurd hi (by omega)) 73 (by decide)⟩
  intro Q' hQ
  refine hp _ (zp_v F) (fun _ _ => rfl) (zy_mk h1 ⟨h2.1, fun i hi => ?_, h2.2.2⟩)
  rw [hQ i hi]
  exact h2.1 i hi
theorem zy_g {v : SY} {g g' : Nat → Nat} (h : zr_Y p v F g) (e : ∀ i, i < 72 → g' i = g i) : zr_Y p v F g' := by
  obtain ⟨bg, mk, my, C, Q, AC, KS, NU, rfl, h1, h2⟩ := h
  exact zy_mk h1 ⟨h2.1, fun i hi => by rw [e i hi]; exact h2.2.1 i hi, h2.2.2⟩
end
end
section
/-! the relation, and what is owed -/
def i_Rel (k : Nat) (u : SX) (v : SY) : Prop := ∃ F G, zr_X (fun _ => True) u 0 F G ∧ zr_Y (2 ≤ F.1 16) v F (zp_v G) ∧ zp_ok F ∧ zp_rdy G ∧ k = k
theorem i_up {k : Nat} {u : SX} {v : SY} (h : i_Rel k u v) : i_Rel (k + 3) u v := by
  obtain ⟨F, G, h1, h2, h3, h4, _⟩ := h
  exact ⟨F, G, h1, h2, h3, h4, rfl⟩
def zz_Z : zz_T := (fun _ => 0, fun _ => 0, fun _ => 0)
theorem zz_okc : zp_ok (zp_clr zz_Z) := by
  have e : ∀ j, j < 112 → (zp_clr zz_Z).1 j = if j = 5 then 5 else if j = 7 then 1 else 0 := by decide
  refine ⟨?_, ?_, ?_, ?_, ?_, ?_⟩
  · decide
  · decide
  · decide
  · decide
  · decide
  · intro i hi
    have e2 : (zp_clr zz_Z).2.1 i = 32 := by
      show zp_eF (zp_eF (fun _ => 0) (72 * 1 + 0) (72 * 1 + 72)) (72 * 0 + 0) (72 * 0 + 72) i = 32
      simp only [zp_eF]
      (repeat' split) <;> first | rfl | omega
    rw [e2]
    exact zp_okc32
theorem zz_rdyc : zp_rdy (zp_clr zz_Z) := ⟨zz_okc, rfl, rfl, rfl, rfl, rfl, rfl⟩
theorem zz_v32 {i : Nat} (hi : i < 72) : zp_v (zp_clr zz_Z) i = 32 := by
  show zp_eF (zp_eF (fun _ => 0) (72 * 1 + 0) (72 * 1 + 72)) (72 * 0 + 0) (72 * 0 + 72) (72 * 0 + i) = 32
  simp only [zp_eF]
  (repeat' split) <;> first | rfl | omega
theorem zz_B0 : zr_B (fun _ => False) 0 0 (fun _ => 0) (fun _ => 0) (fun _ => 0) (fun _ _ => 0) (fun _ => 0) (fun _ => 0) (fun _ => 0) (fun _ _ => 0) (zz_sel 1 zz_Z zz_Z) := by
  have e : ∀ s, zz_sel 1 zz_Z zz_Z s = zz_Z := by
    intro s
    unfold zz_sel
    split <;> rfl
  refine ⟨?_, ?_, ?_, ?_, ?_⟩
  · intro s j _ _
    rw [e]
    rfl
  · intro i _
    exact ⟨(by decide : (0 : Int32) = nI (0 % 128)), (by decide : (0 : Int32) = nI (0 / 128))⟩
  · intro s _ q
    exact q.elim
  · intro s i _ _ hc
    rw [e] at hc
    exact absurd hc (by show ¬ i < 0; omega)
  · rw [e]
    refine ⟨rfl, 0, rfl, by decide, fun i c hi => ?_⟩
    exact absurd hi (by show ¬ i < 0; omega)
theorem zz_init49 {post : SY → Prop} {bg mk my : Int32} {C AC KS NU : zz_A} {T : zz_T} (hp : ∀ Q', (∀ i, i < 72 → Q' i = nI 32) → post (zy_S T bg mk my C Q' AC KS NU)) :
    ∀ (d k : Nat) (Q' : zz_A), k + d = 72 → (∀ i, i < k → Q' i = nI 32) → ∀ n, d < n → wY_init_49 post (nI (T.1 0)) (nI (T.1 1)) (nI (T.1 3)) (nI (T.1 4)) (nI (T.1 5)) (nI (T.1 6)) (nI (T.1 7)) (nI (T.1 8)) (nI (T.1 2)) (nI (T.1 9)) (nI (T.1 10)) (nI (T.1 11)) (nI (T.1 12)) (nI (T.1 13)) (nI (T.1 14)) (nI (T.1 15)) (nI (T.1 24)) (nI (zy_st T)) bg mk my n (nI k) C Q' AC KS NU := by
  intro d
  induction d with
  | zero =>
    intro k Q' hk hQ n hn
    obtain ⟨m, rfl⟩ : ∃ m, n = m + 1 := ⟨n - 1, by omega⟩
    rw [show k = 72 by omega] at hQ ⊢
    exact br_t (nI_le (a := 72) (by decide) (by decide)) (hp Q' hQ)
  | succ d ih =>
    intro k Q' hk hQ n hn
    obtain ⟨m, rfl⟩ : ∃ m, n = m + 1 := ⟨n - 1, by omega⟩
    have hin : vp_in (nI k) 72 := vp_in_nI (by omega) (by decide)
    refine br_f (nI_ge (b := 72) (by omega) (by decide)) ⟨hin, nm_r (e' := upd Q' k (nI 32)) (by rw [nI_clamp (by omega)]; rfl) (nm_r (nI_1 k) (ih (k + 1) _ (by omega) (fun i hi => ?_) m (by omega)))⟩
    by_cases c : i = k
    · rw [c, pk_us]
    · rw [pk_un c]
      exact hQ i (by omega)
theorem i_vc0 : wpX_init (fun u => wpY_init (fun v => i_Rel 0 u v)) := by
  unfold wpX_init
  refine zx_clearAll (zr_mk (t := 1) (by decide) zz_B0) rfl (zx_k ?_)
  intro _ kc kn S Y L R N K z sl h
  have h0 : zr_B (fun s => s = 1 ∨ False) kc kn S Y L R N K z sl (zz_sel 0 zz_Z (zp_clr zz_Z)) := by
    refine zr_cg h (fun s hs => ?_)
    rcases (by omega : s = 0 ∨ s = 1) with c | c <;> subst c <;> rfl
  refine zx_clearAll (zr_mk (t := 0) (by decide) h0) rfl (zx_k ?_)
  intro _ kc kn S Y L R N K z sl h
  have hX := zr_D (D' := fun _ => True) (zr_mk (t := 0) (by decide) h) (fun s hs _ => by omega)
  show wpY_init (fun v => i_Rel 0 (zx_S (nI 0) kc kn S Y L R N K) v)
  unfold wpY_init
  have hY0 : zr_Y False (zy_S zz_Z 0 0 0 (fun _ => 0) (fun _ => 0) (fun _ => 0) (fun _ => 0) (fun _ => 0)) zz_Z (fun _ => 0) :=
    zy_mk ⟨fun q => absurd q (by show ¬ 2 ≤ 0; decide), fun q => q.elim⟩ ⟨fun _ _ => rfl, fun _ _ => rfl, fun q => absurd q (by show ¬ (0 : Nat) = 1; decide), fun j _ q => absurd q (by show ¬ j < 12 * 0; omega)⟩
  refine zy_renew hY0 rfl (zy_k ?_)
  intro bg mk my C Q AC KS NU h1 h2
  refine ⟨73, zz_init49 (T := zp_clr zz_Z) ?_ 72 0 Q (by decide) (fun i hi => absurd hi (by omega)) 73 (by decide)⟩
  intro Q' hQ
  refine ⟨zp_clr zz_Z, zp_clr zz_Z, hX, zy_p (p := False) (zy_mk h1 ⟨h2.1, fun i hi => ?_, h2.2.2⟩) (fun q => absurd q (by show ¬ 2 ≤ 0; decide)), zz_okc, zz_rdyc, rfl⟩
  rw [hQ i hi, zz_v32 hi]
section
variable {k : Nat} {u : SX} {v : SY}
/-- one byte on both sides -/
theorem zz_byte {F G : zz_T} {post : SX → Prop} {b : Nat} (h : zr_X (fun _ => True) u 0 F G) (okF : zp_ok F) (hb : b < 128) (hp : ∀ u', zr_X (fun _ => True) u' 0 (zp_rd F b) G → post u') : wpX_read post u (nI 0) (nI b) :=
  zx_read (s := 0) h (by decide) hb okF hp
theorem i_vc_feed {k : Nat} {u : SX} {v : SY} (I : i_Rel k u v) (hk : k + 3 ≤ 1536) (v1 : Int32) : wpX_feed (fun r u' => wpY_feed (fun r' v' => r' = r ∧ i_Rel (k + 3) u' v') v v1) u v1 := by
  obtain ⟨F, G, hX, hY, okF, rdG, _⟩ := I
  have hX' := hX
  have hY' := hY
  obtain ⟨ht, kc, kn, S, Y, L, R, N, K, z, sl, rfl, h⟩ := hX
  obtain ⟨bg, mk, my, C, Q, AC, KS, NU, rfl, h1, h2⟩ := hY
  have I' : i_Rel (k + 3) (zx_S (nI 0) kc kn S Y L R N K) (zy_S F bg mk my C Q AC KS NU) := ⟨F, G, hX', hY', okF, rdG, rfl⟩
  rcases pk_ix v1 (n := 128) (by decide) with c | c | ⟨b, hb, rfl⟩
  · exact br_t c (br_t c ⟨rfl, I'⟩)
  · have n0 : ¬ v1 < 0 := by
      rw [Int32.le_iff_toInt_le, nI_toInt (by decide)] at c
      rw [Int32.lt_iff_toInt_lt, show (0 : Int32).toInt = 0 from by decide]
      omega
    have n1 : ¬ v1 ≤ 127 := by
      rw [Int32.le_iff_toInt_le, nI_toInt (by decide)] at c
      rw [Int32.le_iff_toInt_le, show (127 : Int32).toInt = 127 from by decide]
      omega
    exact br_f n0 (br_f n1 (br_f n0 (br_f n1 ⟨rfl, I'⟩)))
  · refine br_f (nI_pos (by omega)) (br_t (nI_le (b := 127) (by omega) (by decide)) (zz_byte hX' okF hb (zx_k ?_)))
    intro _ kc kn S Y L R N K z sl h
    refine zy_feed hY' okF hb (fun v' hv => ?_)
    exact ⟨rfl, zp_rd F b, G, zr_mk (by decide) h, hv, zp_ok_rd okF, rdG, rfl⟩
theorem i_vc_feedThree {k : Nat} {u : SX} {v : SY} (I : i_Rel k u v) (hk : k + 3 ≤ 1536) (v1 : Int32) : wpX_feedThree (fun r u' => wpY_feedThree (fun r' v' => r' = r ∧ i_Rel (k + 3) u' v') v v1) u v1 := by
  obtain ⟨F, G, hX, hY, okF, rdG, _⟩ := I
  have hX' := hX
  have hY' := hY
  obtain ⟨ht, kc, kn, S, Y, L, R, N, K, z, sl, rfl, h⟩ := hX
  obtain ⟨bg, mk, my, C, Q, AC, KS, NU, rfl, h1, h2⟩ := hY
  have I' : i_Rel (k + 3) (zx_S (nI 0) kc kn S Y L R N K) (zy_S F bg mk my C Q AC KS NU) := ⟨F, G, hX', hY', okF, rdG, rfl⟩
  rcases pk_ix v1 (n := 2097152) (by decide) with c | c | ⟨b, hb, rfl⟩
  · exact br_t c (br_t c ⟨rfl, I'⟩)
  · have n0 : ¬ v1 < 0 := by
      rw [Int32.le_iff_toInt_le, nI_toInt (by decide)] at c
      rw [Int32.lt_iff_toInt_lt, show (0 : Int32).toInt = 0 from by decide]
      omega
    have n1 : ¬ v1 ≤ 2097151 := by
      rw [Int32.le_iff_toInt_le, nI_toInt (by decide)] at c
      rw [Int32.le_iff_toInt_le, show (2097151 : Int32).toInt = 2097151 from by decide]
      omega
    exact br_f n0 (br_f n1 (br_f n0 (br_f n1 ⟨rfl, I'⟩)))
  · have a1 : nI b &&& 127 = nI (b % 128) := pk_andN (m := 127) (by omega) 7 (by decide)
    have a2 : (nI b >>> ((7 : Int32) &&& 31)) &&& 127 = nI (b / 128 % 128) := by
      rw [pk_shrN (by omega) ((7 : Int32) &&& 31) 7 (by decide), pk_andN (m := 127) (by omega) 7 (by decide)]
    have a3 : nI b >>> ((14 : Int32) &&& 31) = nI (b / 16384) := pk_shrN (by omega) ((14 : Int32) &&& 31) 14 (by decide)
    have d1 : nI b - nI b / 128 * 128 = nI (b % 128) := pk_rem (d := 128) (by omega) (by decide) (by decide)
    have d0 : nI b / 128 = nI (b / 128) := pk_div (d := 128) (by omega) (by decide) (by decide)
    have d2 : (nI b / 128) - (nI b / 128) / 128 * 128 = nI (b / 128 % 128) := by
      rw [d0]
      exact pk_rem (d := 128) (by omega) (by decide) (by decide)
    have d3 : nI b / 16384 = nI (b / 16384) := pk_div (d := 16384) (by omega) (by decide) (by decide)
    unfold wpX_feedThree wpY_feedThree zx_S zy_S
    dsimp only
    rw [a1, a2, a3, d1, d2, d3]
    have ok1 := zp_ok_rd (b := b % 128) okF
    have ok2 := zp_ok_rd (b := b / 128 % 128) ok1
    have ok3 := zp_ok_rd (b := b / 16384) ok2
    refine br_f (nI_pos (by omega)) (br_t (nI_le (b := 2097151) (by omega) (by decide)) (zz_byte hX' okF (by omega) (zx_k ?_)))
    intro _ kc kn S Y L R N K z sl h
    refine zz_byte (zr_mk (by decide) h) ok1 (by omega) (zx_k ?_)
    clear h
    intro _ kc kn S Y L R N K z sl h
    refine zz_byte (zr_mk (by decide) h) ok2 (by omega) (zx_k ?_)
    clear h
    intro _ kc kn S Y L R N K z sl h
    refine br_f (nI_pos (by omega)) (br_t (nI_le (b := 2097151) (by omega) (by decide)) ⟨by decide, zy_feed hY' okF (by omega) (zy_k ?_)⟩)
    intro bg mk my C Q AC KS NU h1 h2
    refine ⟨by decide, by decide, zy_feed (zy_mk h1 h2) ok1 (by omega) (zy_k ?_)⟩
    clear h1 h2
    intro bg mk my C Q AC KS NU h1 h2
    refine ⟨by decide, zy_feed (zy_mk h1 h2) ok2 (by omega) (zy_k ?_)⟩
    clear h1 h2
    intro bg mk my C Q AC KS NU h1 h2
    exact ⟨rfl, _, G, zr_mk (by decide) h, zy_mk h1 h2, ok3, rdG, rfl⟩
theorem i_vc_sign {k : Nat} {u : SX} {v : SY} (I : i_Rel k u v) (hk : k + 3 ≤ 1536) (v1 : Int32) (v2 : Int32) : wpX_sign (fun r => wpY_sign (fun r' => r' = r ∧ i_Rel (k + 3) u v) v v1 v2) u v1 v2 := by
  have I' := i_up I
  obtain ⟨F, G, hX, hY, okF, rdG, _⟩ := I
  rcases zq_cell v1 v2 with c | ⟨r, c, hr, hc, rfl, rfl⟩
  · obtain ⟨ht, kc, kn, S, Y, L, R, N, K, z, sl, rfl, h⟩ := hX
    obtain ⟨bg, mk, my, C, Q, AC, KS, NU, rfl, h1, h2⟩ := hY
    unfold wpX_sign zx_S
    dsimp only
    refine zq_isX0 c (br_t rfl ?_)
    unfold wpY_sign zy_S
    dsimp only
    exact zq_isY0 c (br_t rfl ⟨rfl, I'⟩)
  · exact zq_signX hX okF hr hc (zq_signY hY okF hr hc ⟨rfl, I'⟩)
theorem i_vc_style {k : Nat} {u : SX} {v : SY} (I : i_Rel k u v) (hk : k + 3 ≤ 1536) (v1 : Int32) (v2 : Int32) : wpX_style (fun r => wpY_style (fun r' => r' = r ∧ i_Rel (k + 3) u v) v v1 v2) u v1 v2 := by
  have I' := i_up I
  obtain ⟨F, G, hX, hY, okF, rdG, _⟩ := I
  rcases zq_cell v1 v2 with c | ⟨r, c, hr, hc, rfl, rfl⟩
  · obtain ⟨ht, kc, kn, S, Y, L, R, N, K, z, sl, rfl, h⟩ := hX
    obtain ⟨bg, mk, my, C, Q, AC, KS, NU, rfl, h1, h2⟩ := hY
    unfold wpX_style zx_S
    dsimp only
    refine zq_isX0 c (br_t rfl ?_)
    unfold wpY_style zy_S
    dsimp only
    exact zq_isY0 c (br_t rfl ⟨rfl, I'⟩)
  · exact zq_styleX hX okF hr hc (zq_styleY hY okF hr hc ⟨rfl, I'⟩)
theorem i_vc_row {k : Nat} {u : SX} {v : SY} (I : i_Rel k u v) (hk : k + 3 ≤ 1536) : wpX_row (fun r => wpY_row (fun r' => r' = r ∧ i_Rel (k + 3) u v) v) u := by
  have I' := i_up I
  obtain ⟨F, G, hX, hY, okF, rdG, _⟩ := I
  obtain ⟨ht, kc, kn, S, Y, L, R, N, K, z, sl, rfl, h⟩ := hX
  obtain ⟨bg, mk, my, C, Q, AC, KS, NU, rfl, h1, h2⟩ := hY
  exact ⟨(zr_g h ht (j := 0) (by decide)).symm, I'⟩
theorem i_vc_column {k : Nat} {u : SX} {v : SY} (I : i_Rel k u v) (hk : k + 3 ≤ 1536) : wpX_column (fun r => wpY_column (fun r' => r' = r ∧ i_Rel (k + 3) u v) v) u := by
  have I' := i_up I
  obtain ⟨F, G, hX, hY, okF, rdG, _⟩ := I
  obtain ⟨ht, kc, kn, S, Y, L, R, N, K, z, sl, rfl, h⟩ := hX
  obtain ⟨bg, mk, my, C, Q, AC, KS, NU, rfl, h1, h2⟩ := hY
  exact ⟨(zr_g h ht (j := 1) (by decide)).symm, I'⟩
theorem i_vc_waits {k : Nat} {u : SX} {v : SY} (I : i_Rel k u v) (hk : k + 3 ≤ 1536) : wpX_waits (fun r => wpY_waits (fun r' => r' = r ∧ i_Rel (k + 3) u v) v) u := by
  have I' := i_up I
  obtain ⟨F, G, hX, hY, okF, rdG, _⟩ := I
  obtain ⟨ht, kc, kn, S, Y, L, R, N, K, z, sl, rfl, h⟩ := hX
  obtain ⟨bg, mk, my, C, Q, AC, KS, NU, rfl, h1, h2⟩ := hY
  have e := zr_g h ht (j := 2) (by decide)
  have b2 := zp_b2 okF
  refine And.intro ?_ (And.intro (zn_nb b2) ⟨e.symm, I'⟩)
  rw [e]
  exact zn_nb b2
theorem i_vc_pen {k : Nat} {u : SX} {v : SY} (I : i_Rel k u v) (hk : k + 3 ≤ 1536) : wpX_pen (fun r => wpY_pen (fun r' => r' = r ∧ i_Rel (k + 3) u v) v) u := by
  have I' := i_up I
  obtain ⟨F, G, hX, hY, okF, rdG, _⟩ := I
  obtain ⟨ht, kc, kn, S, Y, L, R, N, K, z, sl, rfl, h⟩ := hX
  obtain ⟨bg, mk, my, C, Q, AC, KS, NU, rfl, h1, h2⟩ := hY
  exact ⟨(zr_g h ht (j := 3) (by decide)).symm, I'⟩
theorem i_vc_region {k : Nat} {u : SX} {v : SY} (I : i_Rel k u v) (hk : k + 3 ≤ 1536) : wpX_region (fun r => wpY_region (fun r' => r' = r ∧ i_Rel (k + 3) u v) v) u := by
  have I' := i_up I
  obtain ⟨F, G, hX, hY, okF, rdG, _⟩ := I
  obtain ⟨ht, kc, kn, S, Y, L, R, N, K, z, sl, rfl, h⟩ := hX
  obtain ⟨bg, mk, my, C, Q, AC, KS, NU, rfl, h1, h2⟩ := hY
  have e4 := zr_g h ht (j := 4) (by decide)
  have e5 := zr_g h ht (j := 5) (by decide)
  refine ⟨?_, I'⟩
  show nI (F.1 4) + 10 * nI (F.1 5) = R 4 0 + 10 * R 5 0
  rw [e4, e5]
theorem i_vc_modes {k : Nat} {u : SX} {v : SY} (I : i_Rel k u v) (hk : k + 3 ≤ 1536) : wpX_modes (fun r => wpY_modes (fun r' => r' = r ∧ i_Rel (k + 3) u v) v) u := by
  have I' := i_up I
  obtain ⟨F, G, hX, hY, okF, rdG, _⟩ := I
  obtain ⟨ht, kc, kn, S, Y, L, R, N, K, z, sl, rfl, h⟩ := hX
  obtain ⟨bg, mk, my, C, Q, AC, KS, NU, rfl, h1, h2⟩ := hY
  have e6 := zr_g h ht (j := 6) (by decide)
  have e7 := zr_g h ht (j := 7) (by decide)
  have e8 := zr_g h ht (j := 8) (by decide)
  have b6 := zp_b6 okF
  have b7 := zp_b7 okF
  have b8 := zp_b8 okF
  have fin : ∀ a b : Int32, wY_modes_24 (fun r' => r' = (b + a) + 4 * nI (F.1 8) ∧ i_Rel (k + 3) (zx_S (nI 0) kc kn S Y L R N K) (zy_S F bg mk my C Q AC KS NU)) a b (nI (F.1 0)) (nI (F.1 1)) (nI (F.1 3)) (nI (F.1 4)) (nI (F.1 5)) (nI (F.1 6)) (nI (F.1 7)) (nI (F.1 8)) (nI (F.1 2)) (nI (F.1 9)) (nI (F.1 10)) (nI (F.1 11)) (nI (F.1 12)) (nI (F.1 13)) (nI (F.1 14)) (nI (F.1 15)) (nI (F.1 24)) (nI (zy_st F)) bg mk my C Q AC KS NU := by
    intro a b
    refine pk_eq (F.1 8) 0 (fun c => ?_) (fun c => ?_)
    · rw [c]
      exact ⟨rfl, I'⟩
    · rw [show F.1 8 = 1 by omega]
      exact ⟨rfl, I'⟩
  have sec : ∀ a : Int32, wX_modes_14 (fun r => wY_modes_12 (fun r' => r' = r ∧ i_Rel (k + 3) (zx_S (nI 0) kc kn S Y L R N K) (zy_S F bg mk my C Q AC KS NU)) a (nI (F.1 0)) (nI (F.1 1)) (nI (F.1 3)) (nI (F.1 4)) (nI (F.1 5)) (nI (F.1 6)) (nI (F.1 7)) (nI (F.1 8)) (nI (F.1 2)) (nI (F.1 9)) (nI (F.1 10)) (nI (F.1 11)) (nI (F.1 12)) (nI (F.1 13)) (nI (F.1 14)) (nI (F.1 15)) (nI (F.1 24)) (nI (zy_st F)) bg mk my C Q AC KS NU) a (nI 0) kc kn S Y L (R 0) (R 1) (R 2) (R 3) (R 4) (R 5) (R 6) (R 7) (R 8) (R 9) (R 10) (R 11) (R 12) (R 13) (R 14) (R 15) (R 16) (R 17) (R 18) N K := by
    intro a
    unfold wX_modes_14
    rw [e7]
    refine pk_eq (F.1 7) 0 (fun c => ?_) (fun c => ?_)
    · unfold wX_modes_28
      rw [e8]
      exact br_t (by rw [c]; rfl) (fin 0 a)
    · unfold wX_modes_28
      rw [e8]
      exact br_f (nI_ne0 (by omega) (by omega)) (fin 2 a)
  unfold wpX_modes wpY_modes
  show ((R 6 0 = 0 → _) ∧ (¬ R 6 0 = 0 → _))
  rw [e6]
  refine pk_eq (F.1 6) 0 (fun c => ?_) (fun c => ?_)
  · have s := sec 0
    unfold wX_modes_14 wX_modes_28 at s ⊢
    refine ⟨fun q => br_t (by rw [c]; rfl) (s.1 q), fun q => br_t (by rw [c]; rfl) (s.2 q)⟩
  · have s := sec 1
    have c' : ¬ nI (F.1 6) = 0 := nI_ne0 (by omega) (by omega)
    unfold wX_modes_14 wX_modes_28 at s ⊢
    refine ⟨fun q => br_f c' (s.1 q), fun q => br_f c' (s.2 q)⟩
theorem i_vc_sequence {k : Nat} {u : SX} {v : SY} (I : i_Rel k u v) (hk : k + 3 ≤ 1536) : wpX_sequence (fun r => wpY_sequence (fun r' => r' = r ∧ i_Rel (k + 3) u v) v) u := by
  have I' := i_up I
  obtain ⟨F, G, hX, hY, okF, rdG, _⟩ := I
  obtain ⟨ht, kc, kn, S, Y, L, R, N, K, z, sl, rfl, h⟩ := hX
  obtain ⟨bg, mk, my, C, Q, AC, KS, NU, rfl, h1, h2⟩ := hY
  have e := zr_g h ht (j := 16) (by decide)
  have b16 := zp_b16 okF
  unfold wpX_sequence
  show ((R 16 0 ≤ 2 → _) ∧ (¬ R 16 0 ≤ 2 → _))
  rw [e]
  refine pk_le (F.1 16) 2 (fun c => ⟨?_, I'⟩) (fun c => ⟨?_, I'⟩)
  · show nI (zy_st F) = nI (F.1 16)
    unfold zy_st
    by_cases c2 : F.1 16 < 2
    · rw [if_pos c2]
    · rw [if_neg c2, show F.1 16 = 2 by omega]
  · show nI (zy_st F) = nI 2
    unfold zy_st
    rw [if_neg (by omega)]
theorem i_vc_keptRows {k : Nat} {u : SX} {v : SY} (I : i_Rel k u v) (hk : k + 3 ≤ 1536) : wpX_keptRows (fun r => wpY_keptRows (fun r' => r' = r ∧ i_Rel (k + 3) u v) v) u := by
  have I' := i_up I
  obtain ⟨F, G, hX, hY, okF, rdG, _⟩ := I
  obtain ⟨ht, kc, kn, S, Y, L, R, N, K, z, sl, rfl, h⟩ := hX
  obtain ⟨bg, mk, my, C, Q, AC, KS, NU, rfl, h1, h2⟩ := hY
  have e : kc = nI (F.1 24) := h.2.2.2.2.1
  exact ⟨e.symm, I'⟩
theorem i_vc_kept {k : Nat} {u : SX} {v : SY} (I : i_Rel k u v) (hk : k + 3 ≤ 1536) (v1 : Int32) (v2 : Int32) : wpX_kept (fun r => wpY_kept (fun r' => r' = r ∧ i_Rel (k + 3) u v) v v1 v2) u v1 v2 := by
  have I' := i_up I
  obtain ⟨F, G, hX, hY, okF, rdG, _⟩ := I
  obtain ⟨ht, kc, kn, S, Y, L, R, N, K, z, sl, rfl, h⟩ := hX
  obtain ⟨bg, mk, my, C, Q, AC, KS, NU, rfl, h1, h2⟩ := hY
  have b24 := zp_b24 okF
  obtain ⟨e, j, ej, hj, hK⟩ := h.2.2.2.2
  have e' : kc = nI (F.1 24) := e
  have hK' : ∀ i c, i < F.1 24 → i < 8 → c < 12 → K ((j + 7 - i) % 8 * 12 + c) = nI (F.2.2 (12 * i + c)) := hK
  clear e
  subst e' ej
  unfold wpX_kept wpY_kept zx_S zy_S
  dsimp only
  rcases pk_ix v1 (n := F.1 24) (by omega) with c | c | ⟨i, hi, rfl⟩
  · exact br_t c (br_t c ⟨rfl, I'⟩)
  · have n0 : ¬ v1 < 0 := by
      rw [Int32.le_iff_toInt_le, nI_toInt (by omega)] at c
      rw [Int32.lt_iff_toInt_lt, show (0 : Int32).toInt = 0 from by decide]
      omega
    exact br_f n0 (br_t c (br_f n0 (br_t c ⟨rfl, I'⟩)))
  · have p0 : ¬ nI i < 0 := nI_pos (by omega)
    have p1 : ¬ nI (F.1 24) ≤ nI i := nI_ge hi (by omega)
    rcases pk_ix v2 (n := 12) (by decide) with c | c | ⟨m, hm, rfl⟩
    · exact br_f p0 (br_f p1 (br_t c (br_f p0 (br_f p1 (br_t c ⟨rfl, I'⟩)))))
    · have n0 : ¬ v2 < 0 := by
        rw [Int32.le_iff_toInt_le, nI_toInt (by decide)] at c
        rw [Int32.lt_iff_toInt_lt, show (0 : Int32).toInt = 0 from by decide]
        omega
      have n1 : ¬ v2 < 12 := by
        rw [Int32.le_iff_toInt_le, nI_toInt (by decide)] at c
        rw [Int32.lt_iff_toInt_lt, show (12 : Int32).toInt = 12 from by decide]
        omega
      exact br_f p0 (br_f p1 (br_f n0 (br_f n1 (br_f p0 (br_f p1 (br_f n0 (br_t (zq_lt (a := 11) (by decide) c) ⟨rfl, I'⟩)))))))
    · have q0 : ¬ nI m < 0 := nI_pos (by omega)
      have q1 : nI m < 12 := nI_lt (b := 12) hm (by decide)
      have q2 : ¬ 11 < nI m := nI_nlt (a := 11) (by omega) (by decide)
      have a1 : nI j + 8 - 1 - nI i = nI (j + 7 - i) := by
        have e : nI j + nI 8 - nI 1 - nI i = nI (j + 7 - i) := by
          rw [nI_add, pk_sub (by omega), pk_sub (by omega)]
          exact congrArg nI (by omega)
        exact e
      have a2 : nI (j + 7 - i) - nI (j + 7 - i) / 8 * 8 = nI ((j + 7 - i) % 8) := pk_rem (d := 8) (by omega) (by decide) (by decide)
      have a3 : nI ((j + 7 - i) % 8) * 12 + nI m = nI ((j + 7 - i) % 8 * 12 + m) := by
        have e : nI ((j + 7 - i) % 8) * nI 12 + nI m = nI ((j + 7 - i) % 8 * 12 + m) := by rw [pk_mul, nI_add]
        exact e
      have kY := h2.2.2.2 (12 * i + m) (by omega) (by omega)
      rw [a1]
      refine br_f p0 (br_f p1 (br_f q0 (br_t q1 ⟨by decide, nm_r a2 ?_⟩)))
      rw [a3]
      refine ⟨vp_in_nI (by omega) (by decide), ?_⟩
      rw [nI_clamp (by omega), hK' i m hi (by omega) hm]
      refine br_f p0 (br_f p1 (br_f q0 (br_f q2 ?_)))
      rw [zn_12, nI_clamp (by omega), kY]
      exact ⟨vp_in_nI (by omega) (by decide), rfl, I'⟩
theorem i_vc_refresh {k : Nat} {u : SX} {v : SY} (I : i_Rel k u v) (hk : k + 3 ≤ 1536) : wpX_refresh (fun r u' => wpY_refresh (fun r' v' => r' = r ∧ i_Rel (k + 3) u' v') v) u := by
  obtain ⟨F, G, hX, hY, okF, rdG, _⟩ := I
  obtain ⟨l, hZ⟩ := zz_of0 hX
  refine zx_refresh hZ okF rdG (fun u' G' hX' rd' e => ?_)
  refine zq_refreshY hY okF (fun i hi => zp_vlt rdG.1 hi) (fun v' g' eg hv => ⟨rfl, F, G', hX', zy_g hv (fun i hi => ?_), okF, rd', rfl⟩)
  rw [e i hi, eg i hi]
theorem i_vc_shown {k : Nat} {u : SX} {v : SY} (I : i_Rel k u v) (hk : k + 3 ≤ 1536) (v1 : Int32) (v2 : Int32) : wpX_shown (fun r => wpY_shown (fun r' => r' = r ∧ i_Rel (k + 3) u v) v v1 v2) u v1 v2 := by
  have I' := i_up I
  obtain ⟨F, G, hX, hY, okF, rdG, _⟩ := I
  rcases zq_cell v1 v2 with c | ⟨r, c, hr, hc, rfl, rfl⟩
  · obtain ⟨ht, kc, kn, S, Y, L, R, N, K, z, sl, rfl, h⟩ := hX
    obtain ⟨bg, mk, my, C, Q, AC, KS, NU, rfl, h1, h2⟩ := hY
    unfold wpX_shown zx_S
    dsimp only
    refine zq_isX0 c (br_t rfl ?_)
    unfold wpY_shown zy_S
    dsimp only
    exact zq_isY0 c (br_t rfl ⟨rfl, I'⟩)
  · exact zq_shownX hX rdG.1 hr hc (zq_shownY hY hr hc ⟨rfl, I'⟩)
theorem i_vc_stale {k : Nat} {u : SX} {v : SY} (I : i_Rel k u v) (hk : k + 3 ≤ 1536) : wpX_stale (fun r => wpY_stale (fun r' => r' = r ∧ i_Rel (k + 3) u v) v) u := by
  have I' := i_up I
  obtain ⟨F, G, hX, hY, okF, rdG, _⟩ := I
  obtain ⟨l, hZ⟩ := zz_of0 hX
  exact zx_stale hZ okF rdG.1 (zq_staleY hY okF (fun i hi => zp_vlt rdG.1 hi) ⟨rfl, I'⟩)
end
end
