section
/-! pure rows to paste: stores, nI and lN arithmetic, masks, shifts, narrowing, branches by naturals (pk_le, pk_lt, pk_eq), loops (lp1 .. lp16: the measure of the state; rp1 ..: recursion), negatives. Take what you need -/
theorem pk_us {f : Nat → Int32} {k : Nat} {x : Int32} : upd f k x k = x := if_pos rfl
theorem pk_un {f : Nat → Int32} {k j : Nat} {x : Int32} (h : j ≠ k) : upd f k x j = f j := if_neg h
theorem pk_uLs {f : Nat → Int64} {k : Nat} {x : Int64} : vp_updL f k x k = x := if_pos rfl
theorem pk_uLn {f : Nat → Int64} {k j : Nat} {x : Int64} (h : j ≠ k) : vp_updL f k x j = f j := if_neg h
theorem pk_sub {a b : Nat} (h : b ≤ a) : nI a - nI b = nI (a - b) := by
  obtain ⟨c, rfl⟩ : ∃ c, a = c + b := ⟨a - b, by omega⟩
  rw [← nI_add, Int32.add_sub_cancel, Nat.add_sub_cancel]
theorem pk_m1 (n : Nat) : nI (n + 1) + (-1) = nI n := by
  rw [← nI_1, Int32.add_assoc, show (1 : Int32) + (-1) = 0 from rfl, Int32.add_zero]
theorem pk_mul (a b : Nat) : nI a * nI b = nI (a * b) := (Int32.ofNat_mul a b).symm
theorem pk_div {a d : Nat} (ha : a < 2 ^ 31) (h0 : 0 < d) (hd : d < 2 ^ 31) : nI a / nI d = nI (a / d) := by
  apply Int32.toInt_inj.mp
  rw [lg_idiv_nonneg (by rw [nI_toInt ha]; omega) (by rw [nI_toInt hd]; omega), nI_toInt ha, nI_toInt hd, nI_toInt (Nat.lt_of_le_of_lt (Nat.div_le_self a d) ha)]
  first | rfl | exact (Int.natCast_ediv _ _).symm
theorem pk_rem {a d : Nat} (ha : a < 2 ^ 31) (h0 : 0 < d) (hd : d < 2 ^ 31) : nI a - nI a / nI d * nI d = nI (a % d) := by
  rw [pk_div ha h0 hd, pk_mul, pk_sub (Nat.div_mul_le_self a d)]
  exact congrArg nI (by have := Nat.div_add_mod' a d; omega)
theorem pk_sub_toInt {a b : Nat} (ha : a < 2 ^ 30) (hb : b < 2 ^ 30) : (nI a - nI b).toInt = (a : Int) - b := by
  rw [Int32.toInt_sub, nI_toInt (by omega), nI_toInt (by omega)]
  exact Int.bmod_eq_of_le (by omega) (by omega)
theorem pk_sneg {a b : Nat} (hb : b < 2 ^ 30) (h : a < b) : nI a - nI b < 0 := by
  rw [Int32.lt_iff_toInt_lt, pk_sub_toInt (by omega) hb, show (0 : Int32).toInt = 0 from by decide]
  omega
theorem pk_ix (x : Int32) {n : Nat} (hn : n < 2 ^ 31) : x < 0 ∨ nI n ≤ x ∨ ∃ j : Nat, j < n ∧ x = nI j := by
  by_cases h : x < 0
  · exact Or.inl h
  · obtain ⟨j, hj, rfl⟩ := nI_of h
    by_cases h2 : j < n
    · exact Or.inr (Or.inr ⟨j, h2, rfl⟩)
    · exact Or.inr (Or.inl (nI_le (by omega) hj))
theorem pk_le {x y : Int32} {A B : Prop} (a b : Nat) (f : a ≤ b → A) (g : b < a → B) (hx : x = nI a := by rfl) (hy : y = nI b := by rfl) (ha : a < 2 ^ 31 := by omega) (hb : b < 2 ^ 31 := by omega) : (x ≤ y → A) ∧ (¬ x ≤ y → B) := by
  subst hx hy
  rw [nI_leI ha hb]
  exact ⟨f, fun z => g (by omega)⟩
theorem pk_lt {x y : Int32} {A B : Prop} (a b : Nat) (f : a < b → A) (g : b ≤ a → B) (hx : x = nI a := by rfl) (hy : y = nI b := by rfl) (ha : a < 2 ^ 31 := by omega) (hb : b < 2 ^ 31 := by omega) : (x < y → A) ∧ (¬ x < y → B) := by
  subst hx hy
  rw [nI_ltI ha hb]
  exact ⟨f, fun z => g (by omega)⟩
theorem pk_eq {x y : Int32} {A B : Prop} (a b : Nat) (f : a = b → A) (g : a ≠ b → B) (hx : x = nI a := by rfl) (hy : y = nI b := by rfl) (ha : a < 2 ^ 31 := by omega) (hb : b < 2 ^ 31 := by omega) : (x = y → A) ∧ (¬ x = y → B) := by
  subst hx hy
  rw [nI_eq ha hb]
  exact ⟨f, g⟩
theorem pk_in {x : Int32} (n N : Nat) (h : n < N) (hx : x = nI n := by rfl) (hN : N < 2 ^ 31 := by omega) : vp_in x N := by
  subst hx
  exact vp_in_nI h hN
theorem pk_cl {x : Int32} (n : Nat) (hx : x = nI n := by rfl) (h : n < 2 ^ 31 := by omega) : x.toNatClampNeg = n := by
  subst hx
  exact nI_clamp h
theorem pk_tn {n : Nat} (h : n < 2 ^ 32) : (nI n).toBitVec.toNat = n := Nat.mod_eq_of_lt h
theorem pk_and (x : Int32) {m : Int32} (k : Nat) (hm : m.toBitVec.toNat = 2 ^ k - 1) : x &&& m = nI (x.toBitVec.toNat % 2 ^ k) := by
  apply Int32.toBitVec_inj.mp
  apply BitVec.eq_of_toNat_eq
  rw [Int32.toBitVec_and, BitVec.toNat_and, hm, Nat.and_two_pow_sub_one_eq_mod]
  show _ = (BitVec.ofNat 32 _).toNat
  rw [BitVec.toNat_ofNat]
  exact (Nat.mod_eq_of_lt (Nat.lt_of_le_of_lt (Nat.mod_le _ _) x.toBitVec.isLt)).symm
theorem pk_andN {n : Nat} (h : n < 2 ^ 32) {m : Int32} (k : Nat) (hm : m.toBitVec.toNat = 2 ^ k - 1) : nI n &&& m = nI (n % 2 ^ k) := by
  rw [pk_and _ k hm, pk_tn h]
theorem pk_andE (x : Int32) {m : Int32} (k : Nat) (hm : m.toBitVec.toNat = 2 ^ k - 1) : ∃ j : Nat, j < 2 ^ k ∧ x &&& m = nI j := ⟨_, Nat.mod_lt _ (Nat.two_pow_pos k), pk_and x k hm⟩
theorem pk_andIn (x : Int32) {m : Int32} (k : Nat) (hm : m.toBitVec.toNat = 2 ^ k - 1) (hk : k ≤ 30) : vp_in (x &&& m) (2 ^ k) := by
  obtain ⟨j, hj, e⟩ := pk_andE x k hm
  rw [e]
  exact vp_in_nI hj (Nat.lt_of_le_of_lt (Nat.pow_le_pow_right (by decide) hk) (by decide))
theorem pk_shl (a s : Int32) (k : Nat) (hs : (s.toBitVec.smod 32).toNat = k) : (a <<< s).toBitVec.toNat = a.toBitVec.toNat * 2 ^ k % 2 ^ 32 := by
  show (a.toBitVec <<< (s.toBitVec.smod 32).toNat).toNat = _
  rw [hs, BitVec.toNat_shiftLeft, Nat.shiftLeft_eq]
theorem pk_shlN {n : Nat} (s : Int32) (k : Nat) (hs : (s.toBitVec.smod 32).toNat = k) (h : n * 2 ^ k < 2 ^ 32) : nI n <<< s = nI (n * 2 ^ k) := by
  apply Int32.toBitVec_inj.mp
  apply BitVec.eq_of_toNat_eq
  have hn : n < 2 ^ 32 := Nat.lt_of_le_of_lt (Nat.le_mul_of_pos_right n (Nat.two_pow_pos k)) h
  rw [pk_shl _ _ k hs, pk_tn hn, pk_tn h, Nat.mod_eq_of_lt h]
theorem pk_shr (a s : Int32) (k : Nat) (hs : (s.toBitVec.smod 32).toNat = k) : (a >>> s).toInt = a.toInt >>> k := by
  show (a.toBitVec.sshiftRight (s.toBitVec.smod 32).toNat).toInt = _
  rw [hs, BitVec.toInt_sshiftRight]
  rfl
theorem pk_shrN {n : Nat} (h : n < 2 ^ 31) (s : Int32) (k : Nat) (hs : (s.toBitVec.smod 32).toNat = k) : nI n >>> s = nI (n / 2 ^ k) := by
  apply Int32.toInt_inj.mp
  have h2 : n / 2 ^ k ≤ n := Nat.div_le_self _ _
  rw [pk_shr _ _ k hs, nI_toInt h, nI_toInt (by omega), Int.shiftRight_eq_div_pow]
  rfl
theorem pk_ushr (x s : Int32) (k : Nat) (hs : ((s.toUInt32 &&& Int32.toUInt32 31).toBitVec % 32).toNat = k) : (x.toUInt32 >>> (s.toUInt32 &&& Int32.toUInt32 31)).toInt32.toBitVec.toNat = x.toBitVec.toNat / 2 ^ k := by
  have e : (x.toUInt32 >>> (s.toUInt32 &&& Int32.toUInt32 31)).toInt32.toBitVec = x.toBitVec >>> k := by
    rw [← hs]
    exact UInt32.toBitVec_shiftRight _ _
  rw [e, BitVec.toNat_ushiftRight, Nat.shiftRight_eq_div_pow]
theorem pk_ushrN {n : Nat} (hn : n < 2 ^ 32) (s : Int32) (k : Nat) (hs : ((s.toUInt32 &&& Int32.toUInt32 31).toBitVec % 32).toNat = k) : ((nI n).toUInt32 >>> (s.toUInt32 &&& Int32.toUInt32 31)).toInt32 = nI (n / 2 ^ k) := by
  apply Int32.toBitVec_inj.mp
  apply BitVec.eq_of_toNat_eq
  rw [pk_ushr _ s k hs, pk_tn hn, pk_tn (Nat.lt_of_le_of_lt (Nat.div_le_self _ _) hn)]
theorem pk_nb (z : Int32) : narrow .byte (.int z.toInt8.toInt32) = .int z.toInt8.toInt32 := congrArg Value.int (by simp)
theorem pk_ns (z : Int32) : narrow .short (.int z.toInt16.toInt32) = .int z.toInt16.toInt32 := congrArg Value.int (by simp)
theorem pk_fb (r : Int32) : fits .byte (.int r.toInt8.toInt32) = true := by
  have ⟨a, b⟩ := lg_i2b_range r
  have h1 : (-128 : Int32).toInt = -128 := by decide
  have h2 : (127 : Int32).toInt = 127 := by decide
  simp only [fits, Bool.and_eq_true, decide_eq_true_eq, Int32.le_iff_toInt_le, h1, h2]
  omega
theorem pk_fs (r : Int32) : fits .short (.int r.toInt16.toInt32) = true := by
  have ⟨a, b⟩ := lg_i2s_range r
  have h1 : (-32768 : Int32).toInt = -32768 := by decide
  have h2 : (32767 : Int32).toInt = 32767 := by decide
  simp only [fits, Bool.and_eq_true, decide_eq_true_eq, Int32.le_iff_toInt_le, h1, h2]
  omega
theorem pk_charN {q : Nat} (hq : q < 65536) : narrow .char (.int (nI q)) = .int (nI q) ∧ fits .char (.int (nI q)) = true := by
  constructor
  · have e : (nI q).toUInt32.toUInt16.toUInt32.toInt32 = nI q := by
      apply Int32.toBitVec_inj.mp
      apply BitVec.eq_of_toNat_eq
      show (nI q).toUInt32.toUInt16.toUInt32.toNat = q % 2 ^ 32
      rw [UInt16.toNat_toUInt32, UInt32.toNat_toUInt16, show (nI q).toUInt32.toNat = q % 2 ^ 32 from rfl]
      omega
    exact congrArg Value.int e
  · have a : (0 : Int32) ≤ nI q := nI_pos' (by omega)
    have b : nI q ≤ 65535 := nI_le (b := 65535) (by omega) (by decide)
    show (decide ((0 : Int32) ≤ nI q) && decide (nI q ≤ 65535)) = true
    rw [decide_eq_true a, decide_eq_true b]
    rfl
theorem pk_char (x : Int32) : (x.toUInt32 % 65536).toInt32 = nI (x.toBitVec.toNat % 65536) := by
  apply Int32.toBitVec_inj.mp
  apply BitVec.eq_of_toNat_eq
  rw [pk_tn (by omega)]
  show (x.toUInt32 % 65536).toNat = _
  rw [UInt32.toNat_mod]
  rfl
theorem pk_nc (x : Int32) : narrow .char (.int (x.toUInt32 % 65536).toInt32) = .int (x.toUInt32 % 65536).toInt32 := by
  rw [pk_char]
  exact (pk_charN (Nat.mod_lt _ (by decide))).1
theorem pk_fc (x : Int32) : fits .char (.int (x.toUInt32 % 65536).toInt32) = true := by
  rw [pk_char]
  exact (pk_charN (Nat.mod_lt _ (by decide))).2
theorem pk_vb (z : Int32) : vp_nar .byte z.toInt8.toInt32 = z.toInt8.toInt32 := by rw [vp_nar_byte]; simp
theorem pk_vs (z : Int32) : vp_nar .short z.toInt16.toInt32 = z.toInt16.toInt32 := by rw [vp_nar_short]; simp
theorem pk_vc (z : Int32) : vp_nar .char (z.toUInt32 % 65536).toInt32 = (z.toUInt32 % 65536).toInt32 := Value.int.inj (pk_nc z)
theorem pk_lT {n : Nat} (h : n < 2 ^ 63) : (lN n).toInt = (n : Int) := lg_ofNat_toInt h
theorem pk_lLT {a b : Nat} (ha : a < 2 ^ 63) (hb : b < 2 ^ 63) : lN a < lN b ↔ a < b := by
  rw [Int64.lt_iff_toInt_lt, pk_lT ha, pk_lT hb]; omega
theorem pk_lLE {a b : Nat} (ha : a < 2 ^ 63) (hb : b < 2 ^ 63) : lN a ≤ lN b ↔ a ≤ b := by
  rw [Int64.le_iff_toInt_le, pk_lT ha, pk_lT hb]; omega
theorem pk_lEQ {a b : Nat} (ha : a < 2 ^ 63) (hb : b < 2 ^ 63) : lN a = lN b ↔ a = b := by
  rw [← Int64.toInt_inj, pk_lT ha, pk_lT hb]; omega
theorem pk_lOf {x : Int64} (h : ¬ x < 0) : ∃ k : Nat, k < 2 ^ 63 ∧ x = lN k := by
  rw [Int64.lt_iff_toInt_lt] at h
  have h0 : (0 : Int64).toInt = 0 := by decide
  have hx := Int64.toInt_lt x
  refine ⟨x.toInt.toNat, by omega, Int64.toInt_inj.mp ?_⟩
  rw [pk_lT (by omega)]
  omega
theorem pk_lDiv {a b : Nat} (ha : a < 2 ^ 63) (h0 : 0 < b) (hb : b < 2 ^ 63) : lN a / lN b = lN (a / b) := by
  apply Int64.toInt_inj.mp
  rw [lg_ldiv_nonneg (by rw [pk_lT ha]; omega) (by rw [pk_lT hb]; omega), pk_lT ha, pk_lT hb, pk_lT (Nat.lt_of_le_of_lt (Nat.div_le_self a b) ha)]
  rfl
theorem pk_lRem {a b : Nat} (ha : a < 2 ^ 63) (h0 : 0 < b) (hb : b < 2 ^ 63) : lN a - lN a / lN b * lN b = lN (a % b) := by
  rw [pk_lDiv ha h0 hb, lN_mul, lN_sub (Nat.div_mul_le_self a b)]
  exact congrArg lN (by have := Nat.div_add_mod' a b; omega)
theorem pk_loop {σ : Type} (W : Nat → Nat → σ → Prop) (I : Nat → σ → Prop) (e i0 : Nat) (s : σ) (hi : i0 ≤ e) (h0 : I i0 s) (hx : ∀ n s, I e s → W (n + 1) e s)
    (hs : ∀ n i s, i < e → I i s → (∀ s', I (i + 1) s' → W n (i + 1) s') → W (n + 1) i s) : ∃ n, W n i0 s :=
  ⟨e + 1, loop_i W I e hx hs (e + 1) i0 s hi (by omega) h0⟩
theorem pk_loopD {σ : Type} (W : Nat → Nat → σ → Prop) (I : Nat → σ → Prop) (hx : ∀ n s, I 0 s → W (n + 1) 0 s)
    (hs : ∀ n i s, I (i + 1) s → (∀ s', I i s' → W n i s') → W (n + 1) (i + 1) s) : ∀ (e : Nat) (s : σ), I e s → W (e + 1) e s := by
  intro e
  induction e with
  | zero => exact fun s h => hx 0 s h
  | succ e ih => exact fun s h => hs (e + 1) e s h (fun s' h' => ih s' h')
theorem lp1 {A1 : Type} (W : Nat → A1 → Prop) (I : A1 → Prop) (μ : A1 → Nat) (hs : ∀ (n : Nat) (a1 : A1), I a1 → (∀ (b1 : A1), I b1 → μ b1 < μ a1 → W n b1) → W (n + 1) a1) (a1 : A1) (h : I a1) : ∃ n, W n a1 :=
  loop_m (σ := A1) (fun n s => W n s) (fun s => I s) (fun s => μ s) (fun n s hI hk => hs n s hI (fun b1 h9 hm => hk b1 h9 hm)) a1 h
theorem lp2 {A1 A2 : Type} (W : Nat → A1 → A2 → Prop) (I : A1 → A2 → Prop) (μ : A1 → A2 → Nat) (hs : ∀ (n : Nat) (a1 : A1) (a2 : A2), I a1 a2 → (∀ (b1 : A1) (b2 : A2), I b1 b2 → μ b1 b2 < μ a1 a2 → W n b1 b2) → W (n + 1) a1 a2) (a1 : A1) (a2 : A2) (h : I a1 a2) : ∃ n, W n a1 a2 :=
  loop_m (σ := A1 × A2) (fun n s => W n s.1 s.2) (fun s => I s.1 s.2) (fun s => μ s.1 s.2) (fun n s hI hk => hs n s.1 s.2 hI (fun b1 b2 h9 hm => hk (b1, b2) h9 hm)) (a1, a2) h
theorem lp3 {A1 A2 A3 : Type} (W : Nat → A1 → A2 → A3 → Prop) (I : A1 → A2 → A3 → Prop) (μ : A1 → A2 → A3 → Nat) (hs : ∀ (n : Nat) (a1 : A1) (a2 : A2) (a3 : A3), I a1 a2 a3 → (∀ (b1 : A1) (b2 : A2) (b3 : A3), I b1 b2 b3 → μ b1 b2 b3 < μ a1 a2 a3 → W n b1 b2 b3) → W (n + 1) a1 a2 a3) (a1 : A1) (a2 : A2) (a3 : A3) (h : I a1 a2 a3) : ∃ n, W n a1 a2 a3 :=
  loop_m (σ := A1 × A2 × A3) (fun n s => W n s.1 s.2.1 s.2.2) (fun s => I s.1 s.2.1 s.2.2) (fun s => μ s.1 s.2.1 s.2.2) (fun n s hI hk => hs n s.1 s.2.1 s.2.2 hI (fun b1 b2 b3 h9 hm => hk (b1, b2, b3) h9 hm)) (a1, a2, a3) h
theorem lp4 {A1 A2 A3 A4 : Type} (W : Nat → A1 → A2 → A3 → A4 → Prop) (I : A1 → A2 → A3 → A4 → Prop) (μ : A1 → A2 → A3 → A4 → Nat) (hs : ∀ (n : Nat) (a1 : A1) (a2 : A2) (a3 : A3) (a4 : A4), I a1 a2 a3 a4 → (∀ (b1 : A1) (b2 : A2) (b3 : A3) (b4 : A4), I b1 b2 b3 b4 → μ b1 b2 b3 b4 < μ a1 a2 a3 a4 → W n b1 b2 b3 b4) → W (n + 1) a1 a2 a3 a4) (a1 : A1) (a2 : A2) (a3 : A3) (a4 : A4) (h : I a1 a2 a3 a4) : ∃ n, W n a1 a2 a3 a4 :=
  loop_m (σ := A1 × A2 × A3 × A4) (fun n s => W n s.1 s.2.1 s.2.2.1 s.2.2.2) (fun s => I s.1 s.2.1 s.2.2.1 s.2.2.2) (fun s => μ s.1 s.2.1 s.2.2.1 s.2.2.2) (fun n s hI hk => hs n s.1 s.2.1 s.2.2.1 s.2.2.2 hI (fun b1 b2 b3 b4 h9 hm => hk (b1, b2, b3, b4) h9 hm)) (a1, a2, a3, a4) h
theorem lp5 {A1 A2 A3 A4 A5 : Type} (W : Nat → A1 → A2 → A3 → A4 → A5 → Prop) (I : A1 → A2 → A3 → A4 → A5 → Prop) (μ : A1 → A2 → A3 → A4 → A5 → Nat) (hs : ∀ (n : Nat) (a1 : A1) (a2 : A2) (a3 : A3) (a4 : A4) (a5 : A5), I a1 a2 a3 a4 a5 → (∀ (b1 : A1) (b2 : A2) (b3 : A3) (b4 : A4) (b5 : A5), I b1 b2 b3 b4 b5 → μ b1 b2 b3 b4 b5 < μ a1 a2 a3 a4 a5 → W n b1 b2 b3 b4 b5) → W (n + 1) a1 a2 a3 a4 a5) (a1 : A1) (a2 : A2) (a3 : A3) (a4 : A4) (a5 : A5) (h : I a1 a2 a3 a4 a5) : ∃ n, W n a1 a2 a3 a4 a5 :=
  loop_m (σ := A1 × A2 × A3 × A4 × A5) (fun n s => W n s.1 s.2.1 s.2.2.1 s.2.2.2.1 s.2.2.2.2) (fun s => I s.1 s.2.1 s.2.2.1 s.2.2.2.1 s.2.2.2.2) (fun s => μ s.1 s.2.1 s.2.2.1 s.2.2.2.1 s.2.2.2.2) (fun n s hI hk => hs n s.1 s.2.1 s.2.2.1 s.2.2.2.1 s.2.2.2.2 hI (fun b1 b2 b3 b4 b5 h9 hm => hk (b1, b2, b3, b4, b5) h9 hm)) (a1, a2, a3, a4, a5) h
theorem lp6 {A1 A2 A3 A4 A5 A6 : Type} (W : Nat → A1 → A2 → A3 → A4 → A5 → A6 → Prop) (I : A1 → A2 → A3 → A4 → A5 → A6 → Prop) (μ : A1 → A2 → A3 → A4 → A5 → A6 → Nat) (hs : ∀ (n : Nat) (a1 : A1) (a2 : A2) (a3 : A3) (a4 : A4) (a5 : A5) (a6 : A6), I a1 a2 a3 a4 a5 a6 → (∀ (b1 : A1) (b2 : A2) (b3 : A3) (b4 : A4) (b5 : A5) (b6 : A6), I b1 b2 b3 b4 b5 b6 → μ b1 b2 b3 b4 b5 b6 < μ a1 a2 a3 a4 a5 a6 → W n b1 b2 b3 b4 b5 b6) → W (n + 1) a1 a2 a3 a4 a5 a6) (a1 : A1) (a2 : A2) (a3 : A3) (a4 : A4) (a5 : A5) (a6 : A6) (h : I a1 a2 a3 a4 a5 a6) : ∃ n, W n a1 a2 a3 a4 a5 a6 :=
  loop_m (σ := A1 × A2 × A3 × A4 × A5 × A6) (fun n s => W n s.1 s.2.1 s.2.2.1 s.2.2.2.1 s.2.2.2.2.1 s.2.2.2.2.2) (fun s => I s.1 s.2.1 s.2.2.1 s.2.2.2.1 s.2.2.2.2.1 s.2.2.2.2.2) (fun s => μ s.1 s.2.1 s.2.2.1 s.2.2.2.1 s.2.2.2.2.1 s.2.2.2.2.2) (fun n s hI hk => hs n s.1 s.2.1 s.2.2.1 s.2.2.2.1 s.2.2.2.2.1 s.2.2.2.2.2 hI (fun b1 b2 b3 b4 b5 b6 h9 hm => hk (b1, b2, b3, b4, b5, b6) h9 hm)) (a1, a2, a3, a4, a5, a6) h
theorem lp7 {A1 A2 A3 A4 A5 A6 A7 : Type} (W : Nat → A1 → A2 → A3 → A4 → A5 → A6 → A7 → Prop) (I : A1 → A2 → A3 → A4 → A5 → A6 → A7 → Prop) (μ : A1 → A2 → A3 → A4 → A5 → A6 → A7 → Nat) (hs : ∀ (n : Nat) (a1 : A1) (a2 : A2) (a3 : A3) (a4 : A4) (a5 : A5) (a6 : A6) (a7 : A7), I a1 a2 a3 a4 a5 a6 a7 → (∀ (b1 : A1) (b2 : A2) (b3 : A3) (b4 : A4) (b5 : A5) (b6 : A6) (b7 : A7), I b1 b2 b3 b4 b5 b6 b7 → μ b1 b2 b3 b4 b5 b6 b7 < μ a1 a2 a3 a4 a5 a6 a7 → W n b1 b2 b3 b4 b5 b6 b7) → W (n + 1) a1 a2 a3 a4 a5 a6 a7) (a1 : A1) (a2 : A2) (a3 : A3) (a4 : A4) (a5 : A5) (a6 : A6) (a7 : A7) (h : I a1 a2 a3 a4 a5 a6 a7) : ∃ n, W n a1 a2 a3 a4 a5 a6 a7 :=
  loop_m (σ := A1 × A2 × A3 × A4 × A5 × A6 × A7) (fun n s => W n s.1 s.2.1 s.2.2.1 s.2.2.2.1 s.2.2.2.2.1 s.2.2.2.2.2.1 s.2.2.2.2.2.2) (fun s => I s.1 s.2.1 s.2.2.1 s.2.2.2.1 s.2.2.2.2.1 s.2.2.2.2.2.1 s.2.2.2.2.2.2) (fun s => μ s.1 s.2.1 s.2.2.1 s.2.2.2.1 s.2.2.2.2.1 s.2.2.2.2.2.1 s.2.2.2.2.2.2) (fun n s hI hk => hs n s.1 s.2.1 s.2.2.1 s.2.2.2.1 s.2.2.2.2.1 s.2.2.2.2.2.1 s.2.2.2.2.2.2 hI (fun b1 b2 b3 b4 b5 b6 b7 h9 hm => hk (b1, b2, b3, b4, b5, b6, b7) h9 hm)) (a1, a2, a3, a4, a5, a6, a7) h
theorem lp8 {A1 A2 A3 A4 A5 A6 A7 A8 : Type} (W : Nat → A1 → A2 → A3 → A4 → A5 → A6 → A7 → A8 → Prop) (I : A1 → A2 → A3 → A4 → A5 → A6 → A7 → A8 → Prop) (μ : A1 → A2 → A3 → A4 → A5 → A6 → A7 → A8 → Nat) (hs : ∀ (n : Nat) (a1 : A1) (a2 : A2) (a3 : A3) (a4 : A4) (a5 : A5) (a6 : A6) (a7 : A7) (a8 : A8), I a1 a2 a3 a4 a5 a6 a7 a8 → (∀ (b1 : A1) (b2 : A2) (b3 : A3) (b4 : A4) (b5 : A5) (b6 : A6) (b7 : A7) (b8 : A8), I b1 b2 b3 b4 b5 b6 b7 b8 → μ b1 b2 b3 b4 b5 b6 b7 b8 < μ a1 a2 a3 a4 a5 a6 a7 a8 → W n b1 b2 b3 b4 b5 b6 b7 b8) → W (n + 1) a1 a2 a3 a4 a5 a6 a7 a8) (a1 : A1) (a2 : A2) (a3 : A3) (a4 : A4) (a5 : A5) (a6 : A6) (a7 : A7) (a8 : A8) (h : I a1 a2 a3 a4 a5 a6 a7 a8) : ∃ n, W n a1 a2 a3 a4 a5 a6 a7 a8 :=
  loop_m (σ := A1 × A2 × A3 × A4 × A5 × A6 × A7 × A8) (fun n s => W n s.1 s.2.1 s.2.2.1 s.2.2.2.1 s.2.2.2.2.1 s.2.2.2.2.2.1 s.2.2.2.2.2.2.1 s.2.2.2.2.2.2.2) (fun s => I s.1 s.2.1 s.2.2.1 s.2.2.2.1 s.2.2.2.2.1 s.2.2.2.2.2.1 s.2.2.2.2.2.2.1 s.2.2.2.2.2.2.2) (fun s => μ s.1 s.2.1 s.2.2.1 s.2.2.2.1 s.2.2.2.2.1 s.2.2.2.2.2.1 s.2.2.2.2.2.2.1 s.2.2.2.2.2.2.2) (fun n s hI hk => hs n s.1 s.2.1 s.2.2.1 s.2.2.2.1 s.2.2.2.2.1 s.2.2.2.2.2.1 s.2.2.2.2.2.2.1 s.2.2.2.2.2.2.2 hI (fun b1 b2 b3 b4 b5 b6 b7 b8 h9 hm => hk (b1, b2, b3, b4, b5, b6, b7, b8) h9 hm)) (a1, a2, a3, a4, a5, a6, a7, a8) h
theorem lp9 {A1 A2 A3 A4 A5 A6 A7 A8 A9 : Type} (W : Nat → A1 → A2 → A3 → A4 → A5 → A6 → A7 → A8 → A9 → Prop) (I : A1 → A2 → A3 → A4 → A5 → A6 → A7 → A8 → A9 → Prop) (μ : A1 → A2 → A3 → A4 → A5 → A6 → A7 → A8 → A9 → Nat) (hs : ∀ (n : Nat) (a1 : A1) (a2 : A2) (a3 : A3) (a4 : A4) (a5 : A5) (a6 : A6) (a7 : A7) (a8 : A8) (a9 : A9), I a1 a2 a3 a4 a5 a6 a7 a8 a9 → (∀ (b1 : A1) (b2 : A2) (b3 : A3) (b4 : A4) (b5 : A5) (b6 : A6) (b7 : A7) (b8 : A8) (b9 : A9), I b1 b2 b3 b4 b5 b6 b7 b8 b9 → μ b1 b2 b3 b4 b5 b6 b7 b8 b9 < μ a1 a2 a3 a4 a5 a6 a7 a8 a9 → W n b1 b2 b3 b4 b5 b6 b7 b8 b9) → W (n + 1) a1 a2 a3 a4 a5 a6 a7 a8 a9) (a1 : A1) (a2 : A2) (a3 : A3) (a4 : A4) (a5 : A5) (a6 : A6) (a7 : A7) (a8 : A8) (a9 : A9) (h : I a1 a2 a3 a4 a5 a6 a7 a8 a9) : ∃ n, W n a1 a2 a3 a4 a5 a6 a7 a8 a9 :=
  loop_m (σ := A1 × A2 × A3 × A4 × A5 × A6 × A7 × A8 × A9) (fun n s => W n s.1 s.2.1 s.2.2.1 s.2.2.2.1 s.2.2.2.2.1 s.2.2.2.2.2.1 s.2.2.2.2.2.2.1 s.2.2.2.2.2.2.2.1 s.2.2.2.2.2.2.2.2) (fun s => I s.1 s.2.1 s.2.2.1 s.2.2.2.1 s.2.2.2.2.1 s.2.2.2.2.2.1 s.2.2.2.2.2.2.1 s.2.2.2.2.2.2.2.1 s.2.2.2.2.2.2.2.2) (fun s => μ s.1 s.2.1 s.2.2.1 s.2.2.2.1 s.2.2.2.2.1 s.2.2.2.2.2.1 s.2.2.2.2.2.2.1 s.2.2.2.2.2.2.2.1 s.2.2.2.2.2.2.2.2) (fun n s hI hk => hs n s.1 s.2.1 s.2.2.1 s.2.2.2.1 s.2.2.2.2.1 s.2.2.2.2.2.1 s.2.2.2.2.2.2.1 s.2.2.2.2.2.2.2.1 s.2.2.2.2.2.2.2.2 hI (fun b1 b2 b3 b4 b5 b6 b7 b8 b9 h9 hm => hk (b1, b2, b3, b4, b5, b6, b7, b8, b9) h9 hm)) (a1, a2, a3, a4, a5, a6, a7, a8, a9) h
theorem lp10 {A1 A2 A3 A4 A5 A6 A7 A8 A9 A10 : Type} (W : Nat → A1 → A2 → A3 → A4 → A5 → A6 → A7 → A8 → A9 → A10 → Prop) (I : A1 → A2 → A3 → A4 → A5 → A6 → A7 → A8 → A9 → A10 → Prop) (μ : A1 → A2 → A3 → A4 → A5 → A6 → A7 → A8 → A9 → A10 → Nat) (hs : ∀ (n : Nat) (a1 : A1) (a2 : A2) (a3 : A3) (a4 : A4) (a5 : A5) (a6 : A6) (a7 : A7) (a8 : A8) (a9 : A9) (a10 : A10), I a1 a2 a3 a4 a5 a6 a7 a8 a9 a10 → (∀ (b1 : A1) (b2 : A2) (b3 : A3) (b4 : A4) (b5 : A5) (b6 : A6) (b7 : A7) (b8 : A8) (b9 : A9) (b10 : A10), I b1 b2 b3 b4 b5 b6 b7 b8 b9 b10 → μ b1 b2 b3 b4 b5 b6 b7 b8 b9 b10 < μ a1 a2 a3 a4 a5 a6 a7 a8 a9 a10 → W n b1 b2 b3 b4 b5 b6 b7 b8 b9 b10) → W (n + 1) a1 a2 a3 a4 a5 a6 a7 a8 a9 a10) (a1 : A1) (a2 : A2) (a3 : A3) (a4 : A4) (a5 : A5) (a6 : A6) (a7 : A7) (a8 : A8) (a9 : A9) (a10 : A10) (h : I a1 a2 a3 a4 a5 a6 a7 a8 a9 a10) : ∃ n, W n a1 a2 a3 a4 a5 a6 a7 a8 a9 a10 :=
  loop_m (σ := A1 × A2 × A3 × A4 × A5 × A6 × A7 × A8 × A9 × A10) (fun n s => W n s.1 s.2.1 s.2.2.1 s.2.2.2.1 s.2.2.2.2.1 s.2.2.2.2.2.1 s.2.2.2.2.2.2.1 s.2.2.2.2.2.2.2.1 s.2.2.2.2.2.2.2.2.1 s.2.2.2.2.2.2.2.2.2) (fun s => I s.1 s.2.1 s.2.2.1 s.2.2.2.1 s.2.2.2.2.1 s.2.2.2.2.2.1 s.2.2.2.2.2.2.1 s.2.2.2.2.2.2.2.1 s.2.2.2.2.2.2.2.2.1 s.2.2.2.2.2.2.2.2.2) (fun s => μ s.1 s.2.1 s.2.2.1 s.2.2.2.1 s.2.2.2.2.1 s.2.2.2.2.2.1 s.2.2.2.2.2.2.1 s.2.2.2.2.2.2.2.1 s.2.2.2.2.2.2.2.2.1 s.2.2.2.2.2.2.2.2.2) (fun n s hI hk => hs n s.1 s.2.1 s.2.2.1 s.2.2.2.1 s.2.2.2.2.1 s.2.2.2.2.2.1 s.2.2.2.2.2.2.1 s.2.2.2.2.2.2.2.1 s.2.2.2.2.2.2.2.2.1 s.2.2.2.2.2.2.2.2.2 hI (fun b1 b2 b3 b4 b5 b6 b7 b8 b9 b10 h9 hm => hk (b1, b2, b3, b4, b5, b6, b7, b8, b9, b10) h9 hm)) (a1, a2, a3, a4, a5, a6, a7, a8, a9, a10) h
theorem lp11 {A1 A2 A3 A4 A5 A6 A7 A8 A9 A10 A11 : Type} (W : Nat → A1 → A2 → A3 → A4 → A5 → A6 → A7 → A8 → A9 → A10 → A11 → Prop) (I : A1 → A2 → A3 → A4 → A5 → A6 → A7 → A8 → A9 → A10 → A11 → Prop) (μ : A1 → A2 → A3 → A4 → A5 → A6 → A7 → A8 → A9 → A10 → A11 → Nat) (hs : ∀ (n : Nat) (a1 : A1) (a2 : A2) (a3 : A3) (a4 : A4) (a5 : A5) (a6 : A6) (a7 : A7) (a8 : A8) (a9 : A9) (a10 : A10) (a11 : A11), I a1 a2 a3 a4 a5 a6 a7 a8 a9 a10 a11 → (∀ (b1 : A1) (b2 : A2) (b3 : A3) (b4 : A4) (b5 : A5) (b6 : A6) (b7 : A7) (b8 : A8) (b9 : A9) (b10 : A10) (b11 : A11), I b1 b2 b3 b4 b5 b6 b7 b8 b9 b10 b11 → μ b1 b2 b3 b4 b5 b6 b7 b8 b9 b10 b11 < μ a1 a2 a3 a4 a5 a6 a7 a8 a9 a10 a11 → W n b1 b2 b3 b4 b5 b6 b7 b8 b9 b10 b11) → W (n + 1) a1 a2 a3 a4 a5 a6 a7 a8 a9 a10 a11) (a1 : A1) (a2 : A2) (a3 : A3) (a4 : A4) (a5 : A5) (a6 : A6) (a7 : A7) (a8 : A8) (a9 : A9) (a10 : A10) (a11 : A11) (h : I a1 a2 a3 a4 a5 a6 a7 a8 a9 a10 a11) : ∃ n, W n a1 a2 a3 a4 a5 a6 a7 a8 a9 a10 a11 :=
  loop_m (σ := A1 × A2 × A3 × A4 × A5 × A6 × A7 × A8 × A9 × A10 × A11) (fun n s => W n s.1 s.2.1 s.2.2.1 s.2.2.2.1 s.2.2.2.2.1 s.2.2.2.2.2.1 s.2.2.2.2.2.2.1 s.2.2.2.2.2.2.2.1 s.2.2.2.2.2.2.2.2.1 s.2.2.2.2.2.2.2.2.2.1 s.2.2.2.2.2.2.2.2.2.2) (fun s => I s.1 s.2.1 s.2.2.1 s.2.2.2.1 s.2.2.2.2.1 s.2.2.2.2.2.1 s.2.2.2.2.2.2.1 s.2.2.2.2.2.2.2.1 s.2.2.2.2.2.2.2.2.1 s.2.2.2.2.2.2.2.2.2.1 s.2.2.2.2.2.2.2.2.2.2) (fun s => μ s.1 s.2.1 s.2.2.1 s.2.2.2.1 s.2.2.2.2.1 s.2.2.2.2.2.1 s.2.2.2.2.2.2.1 s.2.2.2.2.2.2.2.1 s.2.2.2.2.2.2.2.2.1 s.2.2.2.2.2.2.2.2.2.1 s.2.2.2.2.2.2.2.2.2.2) (fun n s hI hk => hs n s.1 s.2.1 s.2.2.1 s.2.2.2.1 s.2.2.2.2.1 s.2.2.2.2.2.1 s.2.2.2.2.2.2.1 s.2.2.2.2.2.2.2.1 s.2.2.2.2.2.2.2.2.1 s.2.2.2.2.2.2.2.2.2.1 s.2.2.2.2.2.2.2.2.2.2 hI (fun b1 b2 b3 b4 b5 b6 b7 b8 b9 b10 b11 h9 hm => hk (b1, b2, b3, b4, b5, b6, b7, b8, b9, b10, b11) h9 hm)) (a1, a2, a3, a4, a5, a6, a7, a8, a9, a10, a11) h
theorem lp12 {A1 A2 A3 A4 A5 A6 A7 A8 A9 A10 A11 A12 : Type} (W : Nat → A1 → A2 → A3 → A4 → A5 → A6 → A7 → A8 → A9 → A10 → A11 → A12 → Prop) (I : A1 → A2 → A3 → A4 → A5 → A6 → A7 → A8 → A9 → A10 → A11 → A12 → Prop) (μ : A1 → A2 → A3 → A4 → A5 → A6 → A7 → A8 → A9 → A10 → A11 → A12 → Nat) (hs : ∀ (n : Nat) (a1 : A1) (a2 : A2) (a3 : A3) (a4 : A4) (a5 : A5) (a6 : A6) (a7 : A7) (a8 : A8) (a9 : A9) (a10 : A10) (a11 : A11) (a12 : A12), I a1 a2 a3 a4 a5 a6 a7 a8 a9 a10 a11 a12 → (∀ (b1 : A1) (b2 : A2) (b3 : A3) (b4 : A4) (b5 : A5) (b6 : A6) (b7 : A7) (b8 : A8) (b9 : A9) (b10 : A10) (b11 : A11) (b12 : A12), I b1 b2 b3 b4 b5 b6 b7 b8 b9 b10 b11 b12 → μ b1 b2 b3 b4 b5 b6 b7 b8 b9 b10 b11 b12 < μ a1 a2 a3 a4 a5 a6 a7 a8 a9 a10 a11 a12 → W n b1 b2 b3 b4 b5 b6 b7 b8 b9 b10 b11 b12) → W (n + 1) a1 a2 a3 a4 a5 a6 a7 a8 a9 a10 a11 a12) (a1 : A1) (a2 : A2) (a3 : A3) (a4 : A4) (a5 : A5) (a6 : A6) (a7 : A7) (a8 : A8) (a9 : A9) (a10 : A10) (a11 : A11) (a12 : A12) (h : I a1 a2 a3 a4 a5 a6 a7 a8 a9 a10 a11 a12) : ∃ n, W n a1 a2 a3 a4 a5 a6 a7 a8 a9 a10 a11 a12 :=
  loop_m (σ := A1 × A2 × A3 × A4 × A5 × A6 × A7 × A8 × A9 × A10 × A11 × A12) (fun n s => W n s.1 s.2.1 s.2.2.1 s.2.2.2.1 s.2.2.2.2.1 s.2.2.2.2.2.1 s.2.2.2.2.2.2.1 s.2.2.2.2.2.2.2.1 s.2.2.2.2.2.2.2.2.1 s.2.2.2.2.2.2.2.2.2.1 s.2.2.2.2.2.2.2.2.2.2.1 s.2.2.2.2.2.2.2.2.2.2.2) (fun s => I s.1 s.2.1 s.2.2.1 s.2.2.2.1 s.2.2.2.2.1 s.2.2.2.2.2.1 s.2.2.2.2.2.2.1 s.2.2.2.2.2.2.2.1 s.2.2.2.2.2.2.2.2.1 s.2.2.2.2.2.2.2.2.2.1 s.2.2.2.2.2.2.2.2.2.2.1 s.2.2.2.2.2.2.2.2.2.2.2) (fun s => μ s.1 s.2.1 s.2.2.1 s.2.2.2.1 s.2.2.2.2.1 s.2.2.2.2.2.1 s.2.2.2.2.2.2.1 s.2.2.2.2.2.2.2.1 s.2.2.2.2.2.2.2.2.1 s.2.2.2.2.2.2.2.2.2.1 s.2.2.2.2.2.2.2.2.2.2.1 s.2.2.2.2.2.2.2.2.2.2.2) (fun n s hI hk => hs n s.1 s.2.1 s.2.2.1 s.2.2.2.1 s.2.2.2.2.1 s.2.2.2.2.2.1 s.2.2.2.2.2.2.1 s.2.2.2.2.2.2.2.1 s.2.2.2.2.2.2.2.2.1 s.2.2.2.2.2.2.2.2.2.1 s.2.2.2.2.2.2.2.2.2.2.1 s.2.2.2.2.2.2.2.2.2.2.2 hI (fun b1 b2 b3 b4 b5 b6 b7 b8 b9 b10 b11 b12 h9 hm => hk (b1, b2, b3, b4, b5, b6, b7, b8, b9, b10, b11, b12) h9 hm)) (a1, a2, a3, a4, a5, a6, a7, a8, a9, a10, a11, a12) h
theorem lp13 {A1 A2 A3 A4 A5 A6 A7 A8 A9 A10 A11 A12 A13 : Type} (W : Nat → A1 → A2 → A3 → A4 → A5 → A6 → A7 → A8 → A9 → A10 → A11 → A12 → A13 → Prop) (I : A1 → A2 → A3 → A4 → A5 → A6 → A7 → A8 → A9 → A10 → A11 → A12 → A13 → Prop) (μ : A1 → A2 → A3 → A4 → A5 → A6 → A7 → A8 → A9 → A10 → A11 → A12 → A13 → Nat) (hs : ∀ (n : Nat) (a1 : A1) (a2 : A2) (a3 : A3) (a4 : A4) (a5 : A5) (a6 : A6) (a7 : A7) (a8 : A8) (a9 : A9) (a10 : A10) (a11 : A11) (a12 : A12) (a13 : A13), I a1 a2 a3 a4 a5 a6 a7 a8 a9 a10 a11 a12 a13 → (∀ (b1 : A1) (b2 : A2) (b3 : A3) (b4 : A4) (b5 : A5) (b6 : A6) (b7 : A7) (b8 : A8) (b9 : A9) (b10 : A10) (b11 : A11) (b12 : A12) (b13 : A13), I b1 b2 b3 b4 b5 b6 b7 b8 b9 b10 b11 b12 b13 → μ b1 b2 b3 b4 b5 b6 b7 b8 b9 b10 b11 b12 b13 < μ a1 a2 a3 a4 a5 a6 a7 a8 a9 a10 a11 a12 a13 → W n b1 b2 b3 b4 b5 b6 b7 b8 b9 b10 b11 b12 b13) → W (n + 1) a1 a2 a3 a4 a5 a6 a7 a8 a9 a10 a11 a12 a13) (a1 : A1) (a2 : A2) (a3 : A3) (a4 : A4) (a5 : A5) (a6 : A6) (a7 : A7) (a8 : A8) (a9 : A9) (a10 : A10) (a11 : A11) (a12 : A12) (a13 : A13) (h : I a1 a2 a3 a4 a5 a6 a7 a8 a9 a10 a11 a12 a13) : ∃ n, W n a1 a2 a3 a4 a5 a6 a7 a8 a9 a10 a11 a12 a13 :=
  loop_m (σ := A1 × A2 × A3 × A4 × A5 × A6 × A7 × A8 × A9 × A10 × A11 × A12 × A13) (fun n s => W n s.1 s.2.1 s.2.2.1 s.2.2.2.1 s.2.2.2.2.1 s.2.2.2.2.2.1 s.2.2.2.2.2.2.1 s.2.2.2.2.2.2.2.1 s.2.2.2.2.2.2.2.2.1 s.2.2.2.2.2.2.2.2.2.1 s.2.2.2.2.2.2.2.2.2.2.1 s.2.2.2.2.2.2.2.2.2.2.2.1 s.2.2.2.2.2.2.2.2.2.2.2.2) (fun s => I s.1 s.2.1 s.2.2.1 s.2.2.2.1 s.2.2.2.2.1 s.2.2.2.2.2.1 s.2.2.2.2.2.2.1 s.2.2.2.2.2.2.2.1 s.2.2.2.2.2.2.2.2.1 s.2.2.2.2.2.2.2.2.2.1 s.2.2.2.2.2.2.2.2.2.2.1 s.2.2.2.2.2.2.2.2.2.2.2.1 s.2.2.2.2.2.2.2.2.2.2.2.2) (fun s => μ s.1 s.2.1 s.2.2.1 s.2.2.2.1 s.2.2.2.2.1 s.2.2.2.2.2.1 s.2.2.2.2.2.2.1 s.2.2.2.2.2.2.2.1 s.2.2.2.2.2.2.2.2.1 s.2.2.2.2.2.2.2.2.2.1 s.2.2.2.2.2.2.2.2.2.2.1 s.2.2.2.2.2.2.2.2.2.2.2.1 s.2.2.2.2.2.2.2.2.2.2.2.2) (fun n s hI hk => hs n s.1 s.2.1 s.2.2.1 s.2.2.2.1 s.2.2.2.2.1 s.2.2.2.2.2.1 s.2.2.2.2.2.2.1 s.2.2.2.2.2.2.2.1 s.2.2.2.2.2.2.2.2.1 s.2.2.2.2.2.2.2.2.2.1 s.2.2.2.2.2.2.2.2.2.2.1 s.2.2.2.2.2.2.2.2.2.2.2.1 s.2.2.2.2.2.2.2.2.2.2.2.2 hI (fun b1 b2 b3 b4 b5 b6 b7 b8 b9 b10 b11 b12 b13 h9 hm => hk (b1, b2, b3, b4, b5, b6, b7, b8, b9, b10, b11, b12, b13) h9 hm)) (a1, a2, a3, a4, a5, a6, a7, a8, a9, a10, a11, a12, a13) h
theorem lp14 {A1 A2 A3 A4 A5 A6 A7 A8 A9 A10 A11 A12 A13 A14 : Type} (W : Nat → A1 → A2 → A3 → A4 → A5 → A6 → A7 → A8 → A9 → A10 → A11 → A12 → A13 → A14 → Prop) (I : A1 → A2 → A3 → A4 → A5 → A6 → A7 → A8 → A9 → A10 → A11 → A12 → A13 → A14 → Prop) (μ : A1 → A2 → A3 → A4 → A5 → A6 → A7 → A8 → A9 → A10 → A11 → A12 → A13 → A14 → Nat) (hs : ∀ (n : Nat) (a1 : A1) (a2 : A2) (a3 : A3) (a4 : A4) (a5 : A5) (a6 : A6) (a7 : A7) (a8 : A8) (a9 : A9) (a10 : A10) (a11 : A11) (a12 : A12) (a13 : A13) (a14 : A14), I a1 a2 a3 a4 a5 a6 a7 a8 a9 a10 a11 a12 a13 a14 → (∀ (b1 : A1) (b2 : A2) (b3 : A3) (b4 : A4) (b5 : A5) (b6 : A6) (b7 : A7) (b8 : A8) (b9 : A9) (b10 : A10) (b11 : A11) (b12 : A12) (b13 : A13) (b14 : A14), I b1 b2 b3 b4 b5 b6 b7 b8 b9 b10 b11 b12 b13 b14 → μ b1 b2 b3 b4 b5 b6 b7 b8 b9 b10 b11 b12 b13 b14 < μ a1 a2 a3 a4 a5 a6 a7 a8 a9 a10 a11 a12 a13 a14 → W n b1 b2 b3 b4 b5 b6 b7 b8 b9 b10 b11 b12 b13 b14) → W (n + 1) a1 a2 a3 a4 a5 a6 a7 a8 a9 a10 a11 a12 a13 a14) (a1 : A1) (a2 : A2) (a3 : A3) (a4 : A4) (a5 : A5) (a6 : A6) (a7 : A7) (a8 : A8) (a9 : A9) (a10 : A10) (a11 : A11) (a12 : A12) (a13 : A13) (a14 : A14) (h : I a1 a2 a3 a4 a5 a6 a7 a8 a9 a10 a11 a12 a13 a14) : ∃ n, W n a1 a2 a3 a4 a5 a6 a7 a8 a9 a10 a11 a12 a13 a14 :=
  loop_m (σ := A1 × A2 × A3 × A4 × A5 × A6 × A7 × A8 × A9 × A10 × A11 × A12 × A13 × A14) (fun n s => W n s.1 s.2.1 s.2.2.1 s.2.2.2.1 s.2.2.2.2.1 s.2.2.2.2.2.1 s.2.2.2.2.2.2.1 s.2.2.2.2.2.2.2.1 s.2.2.2.2.2.2.2.2.1 s.2.2.2.2.2.2.2.2.2.1 s.2.2.2.2.2.2.2.2.2.2.1 s.2.2.2.2.2.2.2.2.2.2.2.1 s.2.2.2.2.2.2.2.2.2.2.2.2.1 s.2.2.2.2.2.2.2.2.2.2.2.2.2) (fun s => I s.1 s.2.1 s.2.2.1 s.2.2.2.1 s.2.2.2.2.1 s.2.2.2.2.2.1 s.2.2.2.2.2.2.1 s.2.2.2.2.2.2.2.1 s.2.2.2.2.2.2.2.2.1 s.2.2.2.2.2.2.2.2.2.1 s.2.2.2.2.2.2.2.2.2.2.1 s.2.2.2.2.2.2.2.2.2.2.2.1 s.2.2.2.2.2.2.2.2.2.2.2.2.1 s.2.2.2.2.2.2.2.2.2.2.2.2.2) (fun s => μ s.1 s.2.1 s.2.2.1 s.2.2.2.1 s.2.2.2.2.1 s.2.2.2.2.2.1 s.2.2.2.2.2.2.1 s.2.2.2.2.2.2.2.1 s.2.2.2.2.2.2.2.2.1 s.2.2.2.2.2.2.2.2.2.1 s.2.2.2.2.2.2.2.2.2.2.1 s.2.2.2.2.2.2.2.2.2.2.2.1 s.2.2.2.2.2.2.2.2.2.2.2.2.1 s.2.2.2.2.2.2.2.2.2.2.2.2.2) (fun n s hI hk => hs n s.1 s.2.1 s.2.2.1 s.2.2.2.1 s.2.2.2.2.1 s.2.2.2.2.2.1 s.2.2.2.2.2.2.1 s.2.2.2.2.2.2.2.1 s.2.2.2.2.2.2.2.2.1 s.2.2.2.2.2.2.2.2.2.1 s.2.2.2.2.2.2.2.2.2.2.1 s.2.2.2.2.2.2.2.2.2.2.2.1 s.2.2.2.2.2.2.2.2.2.2.2.2.1 s.2.2.2.2.2.2.2.2.2.2.2.2.2 hI (fun b1 b2 b3 b4 b5 b6 b7 b8 b9 b10 b11 b12 b13 b14 h9 hm => hk (b1, b2, b3, b4, b5, b6, b7, b8, b9, b10, b11, b12, b13, b14) h9 hm)) (a1, a2, a3, a4, a5, a6, a7, a8, a9, a10, a11, a12, a13, a14) h
theorem lp15 {A1 A2 A3 A4 A5 A6 A7 A8 A9 A10 A11 A12 A13 A14 A15 : Type} (W : Nat → A1 → A2 → A3 → A4 → A5 → A6 → A7 → A8 → A9 → A10 → A11 → A12 → A13 → A14 → A15 → Prop) (I : A1 → A2 → A3 → A4 → A5 → A6 → A7 → A8 → A9 → A10 → A11 → A12 → A13 → A14 → A15 → Prop) (μ : A1 → A2 → A3 → A4 → A5 → A6 → A7 → A8 → A9 → A10 → A11 → A12 → A13 → A14 → A15 → Nat) (hs : ∀ (n : Nat) (a1 : A1) (a2 : A2) (a3 : A3) (a4 : A4) (a5 : A5) (a6 : A6) (a7 : A7) (a8 : A8) (a9 : A9) (a10 : A10) (a11 : A11) (a12 : A12) (a13 : A13) (a14 : A14) (a15 : A15), I a1 a2 a3 a4 a5 a6 a7 a8 a9 a10 a11 a12 a13 a14 a15 → (∀ (b1 : A1) (b2 : A2) (b3 : A3) (b4 : A4) (b5 : A5) (b6 : A6) (b7 : A7) (b8 : A8) (b9 : A9) (b10 : A10) (b11 : A11) (b12 : A12) (b13 : A13) (b14 : A14) (b15 : A15), I b1 b2 b3 b4 b5 b6 b7 b8 b9 b10 b11 b12 b13 b14 b15 → μ b1 b2 b3 b4 b5 b6 b7 b8 b9 b10 b11 b12 b13 b14 b15 < μ a1 a2 a3 a4 a5 a6 a7 a8 a9 a10 a11 a12 a13 a14 a15 → W n b1 b2 b3 b4 b5 b6 b7 b8 b9 b10 b11 b12 b13 b14 b15) → W (n + 1) a1 a2 a3 a4 a5 a6 a7 a8 a9 a10 a11 a12 a13 a14 a15) (a1 : A1) (a2 : A2) (a3 : A3) (a4 : A4) (a5 : A5) (a6 : A6) (a7 : A7) (a8 : A8) (a9 : A9) (a10 : A10) (a11 : A11) (a12 : A12) (a13 : A13) (a14 : A14) (a15 : A15) (h : I a1 a2 a3 a4 a5 a6 a7 a8 a9 a10 a11 a12 a13 a14 a15) : ∃ n, W n a1 a2 a3 a4 a5 a6 a7 a8 a9 a10 a11 a12 a13 a14 a15 :=
  loop_m (σ := A1 × A2 × A3 × A4 × A5 × A6 × A7 × A8 × A9 × A10 × A11 × A12 × A13 × A14 × A15) (fun n s => W n s.1 s.2.1 s.2.2.1 s.2.2.2.1 s.2.2.2.2.1 s.2.2.2.2.2.1 s.2.2.2.2.2.2.1 s.2.2.2.2.2.2.2.1 s.2.2.2.2.2.2.2.2.1 s.2.2.2.2.2.2.2.2.2.1 s.2.2.2.2.2.2.2.2.2.2.1 s.2.2.2.2.2.2.2.2.2.2.2.1 s.2.2.2.2.2.2.2.2.2.2.2.2.1 s.2.2.2.2.2.2.2.2.2.2.2.2.2.1 s.2.2.2.2.2.2.2.2.2.2.2.2.2.2) (fun s => I s.1 s.2.1 s.2.2.1 s.2.2.2.1 s.2.2.2.2.1 s.2.2.2.2.2.1 s.2.2.2.2.2.2.1 s.2.2.2.2.2.2.2.1 s.2.2.2.2.2.2.2.2.1 s.2.2.2.2.2.2.2.2.2.1 s.2.2.2.2.2.2.2.2.2.2.1 s.2.2.2.2.2.2.2.2.2.2.2.1 s.2.2.2.2.2.2.2.2.2.2.2.2.1 s.2.2.2.2.2.2.2.2.2.2.2.2.2.1 s.2.2.2.2.2.2.2.2.2.2.2.2.2.2) (fun s => μ s.1 s.2.1 s.2.2.1 s.2.2.2.1 s.2.2.2.2.1 s.2.2.2.2.2.1 s.2.2.2.2.2.2.1 s.2.2.2.2.2.2.2.1 s.2.2.2.2.2.2.2.2.1 s.2.2.2.2.2.2.2.2.2.1 s.2.2.2.2.2.2.2.2.2.2.1 s.2.2.2.2.2.2.2.2.2.2.2.1 s.2.2.2.2.2.2.2.2.2.2.2.2.1 s.2.2.2.2.2.2.2.2.2.2.2.2.2.1 s.2.2.2.2.2.2.2.2.2.2.2.2.2.2) (fun n s hI hk => hs n s.1 s.2.1 s.2.2.1 s.2.2.2.1 s.2.2.2.2.1 s.2.2.2.2.2.1 s.2.2.2.2.2.2.1 s.2.2.2.2.2.2.2.1 s.2.2.2.2.2.2.2.2.1 s.2.2.2.2.2.2.2.2.2.1 s.2.2.2.2.2.2.2.2.2.2.1 s.2.2.2.2.2.2.2.2.2.2.2.1 s.2.2.2.2.2.2.2.2.2.2.2.2.1 s.2.2.2.2.2.2.2.2.2.2.2.2.2.1 s.2.2.2.2.2.2.2.2.2.2.2.2.2.2 hI (fun b1 b2 b3 b4 b5 b6 b7 b8 b9 b10 b11 b12 b13 b14 b15 h9 hm => hk (b1, b2, b3, b4, b5, b6, b7, b8, b9, b10, b11, b12, b13, b14, b15) h9 hm)) (a1, a2, a3, a4, a5, a6, a7, a8, a9, a10, a11, a12, a13, a14, a15) h
theorem lp16 {A1 A2 A3 A4 A5 A6 A7 A8 A9 A10 A11 A12 A13 A14 A15 A16 : Type} (W : Nat → A1 → A2 → A3 → A4 → A5 → A6 → A7 → A8 → A9 → A10 → A11 → A12 → A13 → A14 → A15 → A16 → Prop) (I : A1 → A2 → A3 → A4 → A5 → A6 → A7 → A8 → A9 → A10 → A11 → A12 → A13 → A14 → A15 → A16 → Prop) (μ : A1 → A2 → A3 → A4 → A5 → A6 → A7 → A8 → A9 → A10 → A11 → A12 → A13 → A14 → A15 → A16 → Nat) (hs : ∀ (n : Nat) (a1 : A1) (a2 : A2) (a3 : A3) (a4 : A4) (a5 : A5) (a6 : A6) (a7 : A7) (a8 : A8) (a9 : A9) (a10 : A10) (a11 : A11) (a12 : A12) (a13 : A13) (a14 : A14) (a15 : A15) (a16 : A16), I a1 a2 a3 a4 a5 a6 a7 a8 a9 a10 a11 a12 a13 a14 a15 a16 → (∀ (b1 : A1) (b2 : A2) (b3 : A3) (b4 : A4) (b5 : A5) (b6 : A6) (b7 : A7) (b8 : A8) (b9 : A9) (b10 : A10) (b11 : A11) (b12 : A12) (b13 : A13) (b14 : A14) (b15 : A15) (b16 : A16), I b1 b2 b3 b4 b5 b6 b7 b8 b9 b10 b11 b12 b13 b14 b15 b16 → μ b1 b2 b3 b4 b5 b6 b7 b8 b9 b10 b11 b12 b13 b14 b15 b16 < μ a1 a2 a3 a4 a5 a6 a7 a8 a9 a10 a11 a12 a13 a14 a15 a16 → W n b1 b2 b3 b4 b5 b6 b7 b8 b9 b10 b11 b12 b13 b14 b15 b16) → W (n + 1) a1 a2 a3 a4 a5 a6 a7 a8 a9 a10 a11 a12 a13 a14 a15 a16) (a1 : A1) (a2 : A2) (a3 : A3) (a4 : A4) (a5 : A5) (a6 : A6) (a7 : A7) (a8 : A8) (a9 : A9) (a10 : A10) (a11 : A11) (a12 : A12) (a13 : A13) (a14 : A14) (a15 : A15) (a16 : A16) (h : I a1 a2 a3 a4 a5 a6 a7 a8 a9 a10 a11 a12 a13 a14 a15 a16) : ∃ n, W n a1 a2 a3 a4 a5 a6 a7 a8 a9 a10 a11 a12 a13 a14 a15 a16 :=
  loop_m (σ := A1 × A2 × A3 × A4 × A5 × A6 × A7 × A8 × A9 × A10 × A11 × A12 × A13 × A14 × A15 × A16) (fun n s => W n s.1 s.2.1 s.2.2.1 s.2.2.2.1 s.2.2.2.2.1 s.2.2.2.2.2.1 s.2.2.2.2.2.2.1 s.2.2.2.2.2.2.2.1 s.2.2.2.2.2.2.2.2.1 s.2.2.2.2.2.2.2.2.2.1 s.2.2.2.2.2.2.2.2.2.2.1 s.2.2.2.2.2.2.2.2.2.2.2.1 s.2.2.2.2.2.2.2.2.2.2.2.2.1 s.2.2.2.2.2.2.2.2.2.2.2.2.2.1 s.2.2.2.2.2.2.2.2.2.2.2.2.2.2.1 s.2.2.2.2.2.2.2.2.2.2.2.2.2.2.2) (fun s => I s.1 s.2.1 s.2.2.1 s.2.2.2.1 s.2.2.2.2.1 s.2.2.2.2.2.1 s.2.2.2.2.2.2.1 s.2.2.2.2.2.2.2.1 s.2.2.2.2.2.2.2.2.1 s.2.2.2.2.2.2.2.2.2.1 s.2.2.2.2.2.2.2.2.2.2.1 s.2.2.2.2.2.2.2.2.2.2.2.1 s.2.2.2.2.2.2.2.2.2.2.2.2.1 s.2.2.2.2.2.2.2.2.2.2.2.2.2.1 s.2.2.2.2.2.2.2.2.2.2.2.2.2.2.1 s.2.2.2.2.2.2.2.2.2.2.2.2.2.2.2) (fun s => μ s.1 s.2.1 s.2.2.1 s.2.2.2.1 s.2.2.2.2.1 s.2.2.2.2.2.1 s.2.2.2.2.2.2.1 s.2.2.2.2.2.2.2.1 s.2.2.2.2.2.2.2.2.1 s.2.2.2.2.2.2.2.2.2.1 s.2.2.2.2.2.2.2.2.2.2.1 s.2.2.2.2.2.2.2.2.2.2.2.1 s.2.2.2.2.2.2.2.2.2.2.2.2.1 s.2.2.2.2.2.2.2.2.2.2.2.2.2.1 s.2.2.2.2.2.2.2.2.2.2.2.2.2.2.1 s.2.2.2.2.2.2.2.2.2.2.2.2.2.2.2) (fun n s hI hk => hs n s.1 s.2.1 s.2.2.1 s.2.2.2.1 s.2.2.2.2.1 s.2.2.2.2.2.1 s.2.2.2.2.2.2.1 s.2.2.2.2.2.2.2.1 s.2.2.2.2.2.2.2.2.1 s.2.2.2.2.2.2.2.2.2.1 s.2.2.2.2.2.2.2.2.2.2.1 s.2.2.2.2.2.2.2.2.2.2.2.1 s.2.2.2.2.2.2.2.2.2.2.2.2.1 s.2.2.2.2.2.2.2.2.2.2.2.2.2.1 s.2.2.2.2.2.2.2.2.2.2.2.2.2.2.1 s.2.2.2.2.2.2.2.2.2.2.2.2.2.2.2 hI (fun b1 b2 b3 b4 b5 b6 b7 b8 b9 b10 b11 b12 b13 b14 b15 b16 h9 hm => hk (b1, b2, b3, b4, b5, b6, b7, b8, b9, b10, b11, b12, b13, b14, b15, b16) h9 hm)) (a1, a2, a3, a4, a5, a6, a7, a8, a9, a10, a11, a12, a13, a14, a15, a16) h
theorem pk_least (P : Nat → Prop) (h : ∃ k, P k) : ∃ k, P k ∧ ∀ j, j < k → ¬ P j := by
  obtain ⟨k, hk⟩ := h
  induction k using Nat.strongRecOn with
  | ind k ih =>
    by_cases e : ∃ j, j < k ∧ P j
    · obtain ⟨j, hj, pj⟩ := e
      exact ih j hj pj
    · exact ⟨k, hk, fun j hj pj => e ⟨j, hj, pj⟩⟩
theorem rp1 {ρ A1 : Type} (W : Nat → (ρ → Prop) → A1 → Prop) (ok : A1 → Prop) (μ : A1 → Nat) (val : A1 → ρ)
    (hs : ∀ (d : Nat) (post : ρ → Prop) (a1 : A1), ok a1 → post (val a1) → (∀ (post' : ρ → Prop) (b1 : A1), ok b1 → μ b1 < μ a1 → post' (val b1) → W d post' b1) → W (d + 1) post a1) :
    ∀ (d : Nat) (post : ρ → Prop) (a1 : A1), ok a1 → μ a1 < d → post (val a1) → W d post a1 := by
  intro d
  induction d with
  | zero => intro post a1 _ h; omega
  | succ d ih =>
    intro post a1 ho hm hp
    exact hs d post a1 ho hp (fun post' b1 ho' hm' hp' => ih post' b1 ho' (by omega) hp')
theorem rp2 {ρ A1 A2 : Type} (W : Nat → (ρ → Prop) → A1 → A2 → Prop) (ok : A1 → A2 → Prop) (μ : A1 → A2 → Nat) (val : A1 → A2 → ρ)
    (hs : ∀ (d : Nat) (post : ρ → Prop) (a1 : A1) (a2 : A2), ok a1 a2 → post (val a1 a2) → (∀ (post' : ρ → Prop) (b1 : A1) (b2 : A2), ok b1 b2 → μ b1 b2 < μ a1 a2 → post' (val b1 b2) → W d post' b1 b2) → W (d + 1) post a1 a2) :
    ∀ (d : Nat) (post : ρ → Prop) (a1 : A1) (a2 : A2), ok a1 a2 → μ a1 a2 < d → post (val a1 a2) → W d post a1 a2 := by
  intro d
  induction d with
  | zero => intro post a1 a2 _ h; omega
  | succ d ih =>
    intro post a1 a2 ho hm hp
    exact hs d post a1 a2 ho hp (fun post' b1 b2 ho' hm' hp' => ih post' b1 b2 ho' (by omega) hp')
theorem rp3 {ρ A1 A2 A3 : Type} (W : Nat → (ρ → Prop) → A1 → A2 → A3 → Prop) (ok : A1 → A2 → A3 → Prop) (μ : A1 → A2 → A3 → Nat) (val : A1 → A2 → A3 → ρ)
    (hs : ∀ (d : Nat) (post : ρ → Prop) (a1 : A1) (a2 : A2) (a3 : A3), ok a1 a2 a3 → post (val a1 a2 a3) → (∀ (post' : ρ → Prop) (b1 : A1) (b2 : A2) (b3 : A3), ok b1 b2 b3 → μ b1 b2 b3 < μ a1 a2 a3 → post' (val b1 b2 b3) → W d post' b1 b2 b3) → W (d + 1) post a1 a2 a3) :
    ∀ (d : Nat) (post : ρ → Prop) (a1 : A1) (a2 : A2) (a3 : A3), ok a1 a2 a3 → μ a1 a2 a3 < d → post (val a1 a2 a3) → W d post a1 a2 a3 := by
  intro d
  induction d with
  | zero => intro post a1 a2 a3 _ h; omega
  | succ d ih =>
    intro post a1 a2 a3 ho hm hp
    exact hs d post a1 a2 a3 ho hp (fun post' b1 b2 b3 ho' hm' hp' => ih post' b1 b2 b3 ho' (by omega) hp')
theorem rp4 {ρ A1 A2 A3 A4 : Type} (W : Nat → (ρ → Prop) → A1 → A2 → A3 → A4 → Prop) (ok : A1 → A2 → A3 → A4 → Prop) (μ : A1 → A2 → A3 → A4 → Nat) (val : A1 → A2 → A3 → A4 → ρ)
    (hs : ∀ (d : Nat) (post : ρ → Prop) (a1 : A1) (a2 : A2) (a3 : A3) (a4 : A4), ok a1 a2 a3 a4 → post (val a1 a2 a3 a4) → (∀ (post' : ρ → Prop) (b1 : A1) (b2 : A2) (b3 : A3) (b4 : A4), ok b1 b2 b3 b4 → μ b1 b2 b3 b4 < μ a1 a2 a3 a4 → post' (val b1 b2 b3 b4) → W d post' b1 b2 b3 b4) → W (d + 1) post a1 a2 a3 a4) :
    ∀ (d : Nat) (post : ρ → Prop) (a1 : A1) (a2 : A2) (a3 : A3) (a4 : A4), ok a1 a2 a3 a4 → μ a1 a2 a3 a4 < d → post (val a1 a2 a3 a4) → W d post a1 a2 a3 a4 := by
  intro d
  induction d with
  | zero => intro post a1 a2 a3 a4 _ h; omega
  | succ d ih =>
    intro post a1 a2 a3 a4 ho hm hp
    exact hs d post a1 a2 a3 a4 ho hp (fun post' b1 b2 b3 b4 ho' hm' hp' => ih post' b1 b2 b3 b4 ho' (by omega) hp')
theorem rp5 {ρ A1 A2 A3 A4 A5 : Type} (W : Nat → (ρ → Prop) → A1 → A2 → A3 → A4 → A5 → Prop) (ok : A1 → A2 → A3 → A4 → A5 → Prop) (μ : A1 → A2 → A3 → A4 → A5 → Nat) (val : A1 → A2 → A3 → A4 → A5 → ρ)
    (hs : ∀ (d : Nat) (post : ρ → Prop) (a1 : A1) (a2 : A2) (a3 : A3) (a4 : A4) (a5 : A5), ok a1 a2 a3 a4 a5 → post (val a1 a2 a3 a4 a5) → (∀ (post' : ρ → Prop) (b1 : A1) (b2 : A2) (b3 : A3) (b4 : A4) (b5 : A5), ok b1 b2 b3 b4 b5 → μ b1 b2 b3 b4 b5 < μ a1 a2 a3 a4 a5 → post' (val b1 b2 b3 b4 b5) → W d post' b1 b2 b3 b4 b5) → W (d + 1) post a1 a2 a3 a4 a5) :
    ∀ (d : Nat) (post : ρ → Prop) (a1 : A1) (a2 : A2) (a3 : A3) (a4 : A4) (a5 : A5), ok a1 a2 a3 a4 a5 → μ a1 a2 a3 a4 a5 < d → post (val a1 a2 a3 a4 a5) → W d post a1 a2 a3 a4 a5 := by
  intro d
  induction d with
  | zero => intro post a1 a2 a3 a4 a5 _ h; omega
  | succ d ih =>
    intro post a1 a2 a3 a4 a5 ho hm hp
    exact hs d post a1 a2 a3 a4 a5 ho hp (fun post' b1 b2 b3 b4 b5 ho' hm' hp' => ih post' b1 b2 b3 b4 b5 ho' (by omega) hp')
theorem rp6 {ρ A1 A2 A3 A4 A5 A6 : Type} (W : Nat → (ρ → Prop) → A1 → A2 → A3 → A4 → A5 → A6 → Prop) (ok : A1 → A2 → A3 → A4 → A5 → A6 → Prop) (μ : A1 → A2 → A3 → A4 → A5 → A6 → Nat) (val : A1 → A2 → A3 → A4 → A5 → A6 → ρ)
    (hs : ∀ (d : Nat) (post : ρ → Prop) (a1 : A1) (a2 : A2) (a3 : A3) (a4 : A4) (a5 : A5) (a6 : A6), ok a1 a2 a3 a4 a5 a6 → post (val a1 a2 a3 a4 a5 a6) → (∀ (post' : ρ → Prop) (b1 : A1) (b2 : A2) (b3 : A3) (b4 : A4) (b5 : A5) (b6 : A6), ok b1 b2 b3 b4 b5 b6 → μ b1 b2 b3 b4 b5 b6 < μ a1 a2 a3 a4 a5 a6 → post' (val b1 b2 b3 b4 b5 b6) → W d post' b1 b2 b3 b4 b5 b6) → W (d + 1) post a1 a2 a3 a4 a5 a6) :
    ∀ (d : Nat) (post : ρ → Prop) (a1 : A1) (a2 : A2) (a3 : A3) (a4 : A4) (a5 : A5) (a6 : A6), ok a1 a2 a3 a4 a5 a6 → μ a1 a2 a3 a4 a5 a6 < d → post (val a1 a2 a3 a4 a5 a6) → W d post a1 a2 a3 a4 a5 a6 := by
  intro d
  induction d with
  | zero => intro post a1 a2 a3 a4 a5 a6 _ h; omega
  | succ d ih =>
    intro post a1 a2 a3 a4 a5 a6 ho hm hp
    exact hs d post a1 a2 a3 a4 a5 a6 ho hp (fun post' b1 b2 b3 b4 b5 b6 ho' hm' hp' => ih post' b1 b2 b3 b4 b5 b6 ho' (by omega) hp')
theorem rec_p {σ ρ : Type} (W : Nat → (ρ → Prop) → σ → Prop) (ok : σ → Prop) (μ : σ → Nat) (val : σ → ρ)
    (hs : ∀ d s post, ok s → post (val s) → (∀ s' post', ok s' → μ s' < μ s → post' (val s') → W d post' s') → W (d + 1) post s) :
    ∀ d s post, ok s → μ s < d → post (val s) → W d post s := by
  intro d
  induction d with
  | zero => intro s post _ h; omega
  | succ d ih =>
    intro s post ho hm hp
    exact hs d s post ho hp (fun s' post' ho' hm' hp' => ih s' post' ho' (by omega) hp')
theorem rec_q {σ ρ : Type} (W : Nat → (ρ → Prop) → σ → Prop) (ok : σ → Prop) (μ : σ → Nat) (Q : σ → ρ → Prop)
    (hs : ∀ d s post, ok s → (∀ r, Q s r → post r) → (∀ s' post', ok s' → μ s' < μ s → (∀ r, Q s' r → post' r) → W d post' s') → W (d + 1) post s) :
    ∀ d s post, ok s → μ s < d → (∀ r, Q s r → post r) → W d post s := by
  intro d
  induction d with
  | zero => intro s post _ h; omega
  | succ d ih =>
    intro s post ho hm hp
    exact hs d s post ho hp (fun s' post' ho' hm' hp' => ih s' post' ho' (by omega) hp')
def bx_sum (f : Nat → Int32) : Nat → Int32
  | 0 => 0
  | n + 1 => bx_sum f n + f n
theorem ek_u {A : Prop} {B : Nat → Prop} {k N : Nat} (hk : k < N) (h : B k) : (some k = none → A) ∧ (∀ y : Nat, some k = some y → (y < N ∧ B y)) :=
  ⟨fun z => absurd z (Option.some_ne_none k), fun _ e => (by cases e; exact ⟨hk, h⟩)⟩
theorem ek_nu {A : Prop} {B : Nat → Prop} (h : A) : ((none : Option Nat) = none → A) ∧ (∀ y : Nat, (none : Option Nat) = some y → B y) :=
  ⟨fun _ => h, fun _ e => (by cases e)⟩
theorem ek_if {c d A B : Prop} (e : c ↔ d) (f : d → A) (g : ¬ d → B) : (c → A) ∧ (¬ c → B) :=
  ⟨fun z => f (e.mp z), fun z => g (fun y => z (e.mpr y))⟩
theorem ek_v {α : Sort _} {P : α → Prop} {a b : α} (e : a = b) (h : P b) : P a := e ▸ h
theorem co_some {x : Option Nat} {A : Prop} {B : Nat → Prop} (i : Nat) (h : B i) (hx : x = some i := by rfl) : (x = none → A) ∧ (∀ y : Nat, x = some y → B y) := by
  subst hx
  exact ⟨fun e => (nomatch e), fun y e => Option.some.inj e ▸ h⟩
theorem co_none {x : Option Nat} {A : Prop} {B : Nat → Prop} (h : A) (hx : x = none := by rfl) : (x = none → A) ∧ (∀ y : Nat, x = some y → B y) := by
  subst hx
  exact ⟨fun _ => h, fun y e => (nomatch e)⟩
theorem co_any {x : Option Nat} {A : Prop} {B : Nat → Prop} (hn : x = none → A) (hs : ∀ i : Nat, x = some i → B i) : (x = none → A) ∧ (∀ y : Nat, x = some y → B y) := ⟨hn, hs⟩
theorem co_2 {P : Nat → Prop} (h0 : P 0) (h1 : P 1) {i : Nat} (hi : i < 2) : P i :=
  match i, hi with
  | 0, _ => h0
  | 1, _ => h1
theorem co_3 {P : Nat → Prop} (h0 : P 0) (h1 : P 1) (h2 : P 2) {i : Nat} (hi : i < 3) : P i :=
  match i, hi with
  | 0, _ => h0
  | 1, _ => h1
  | 2, _ => h2
theorem co_4 {P : Nat → Prop} (h0 : P 0) (h1 : P 1) (h2 : P 2) (h3 : P 3) {i : Nat} (hi : i < 4) : P i :=
  match i, hi with
  | 0, _ => h0
  | 1, _ => h1
  | 2, _ => h2
  | 3, _ => h3
theorem co_dec {N : Nat} {P : Nat → Prop} [DecidablePred P] (h : (List.range N).all (fun i => decide (P i)) = true) {i : Nat} (hi : i < N) : P i := by
  have := List.all_eq_true.mp h i (List.mem_range.mpr hi)
  exact of_decide_eq_true this
theorem co_tab {α : Type} {l : List α} {d : α} {P : α → Prop} (h : ∀ a, a ∈ l → P a) {i : Nat} (hi : i < l.length) : P (l.getD i d) := by
  rw [List.getD_eq_getElem?_getD, List.getElem?_eq_getElem hi]
  exact h _ (List.getElem_mem hi)
theorem pk_mu {x : Int32} {L : Nat} (h0 : ¬ x < 0) (h : ¬ nI L ≤ x) (hL : L < 2 ^ 31) : ∃ j : Nat, j < L ∧ x = nI j ∧ x + 1 = nI (j + 1) ∧ x.toNatClampNeg = j ∧ L - (x + 1).toNatClampNeg < L - x.toNatClampNeg := by
  obtain ⟨j, hj, rfl⟩ := nI_of h0
  have hl : j < L := Nat.not_le.mp fun q => h (nI_le q hj)
  refine ⟨j, hl, rfl, nI_1 j, nI_clamp hj, ?_⟩
  rw [nI_1, nI_clamp (by omega), nI_clamp hj]
  omega
theorem op_s {α : Type} {r : Option α} {A : Prop} {B : α → Prop} {y : α} (h : r = some y) (b : B y) : (r = none → A) ∧ ∀ z, r = some z → B z :=
  ⟨fun e => (by rw [h] at e; cases e), fun z e => (by rw [h] at e; cases e; exact b)⟩
def l_holds {α : Type} (a : Nat → Option Nat) (LP : List Nat) (p : Nat → α) (c : Nat) (b : Nat → α) : Prop :=
  ∀ j, j < c → ∃ y, a j = some y ∧ y ∈ LP ∧ p y = b j
theorem l_holds_0 {α : Type} {a : Nat → Option Nat} {LP : List Nat} {p b : Nat → α} : l_holds a LP p 0 b := fun j h => absurd h (Nat.not_lt_zero j)
theorem l_in_new (LP : List Nat) (q : Nat) : q ∈ LP ++ [q] := List.mem_append.mpr (Or.inr (List.mem_singleton.mpr rfl))
def l_sum (b : Nat → Int32) : Nat → Int32
  | 0 => 0
  | k + 1 => l_sum b k + b k
theorem sb_shr0 (x : Int32) : x >>> ((0 : Int32) &&& 31) = x := by
  rw [show ((0 : Int32) &&& 31) = 0 by decide]
  simp
theorem sb_shl0 (x : Int32) : x <<< ((0 : Int32) &&& 31) = x := by
  rw [show ((0 : Int32) &&& 31) = 0 by decide]
  simp
theorem sb_cl0 : (0 : Int32).toNatClampNeg = 0 := by decide
theorem sb_m1 {p : Nat} (h : 0 < p) : nI p + (-1) = nI (p - 1) := by
  obtain ⟨q, rfl⟩ : ∃ q, p = q + 1 := ⟨p - 1, by omega⟩
  exact pk_m1 q
def sb_b (c : Nat) : Int32 := (nI c).toInt8.toInt32
theorem sb_byte : ∀ c, c < 256 → sb_b c &&& 255 = nI c ∧ ((nI c).toUInt32 % 65536).toInt32 = nI c ∧ nI c ≤ 255 := by decide +kernel
def sb_Fit (a : Nat → Int32) : Prop := ∀ j, fits .byte (.int (a j)) = true
def sb_Lat (t : Nat → Nat) (n : Nat) (a : Nat → Int32) : Prop := ∀ j, j < n → t j < 256 ∧ a j = sb_b (t j)
theorem sb_fitB (c : Nat) : fits .byte (.int (sb_b c)) = true := pk_fb _
theorem sb_fit0 : sb_Fit (fun _ => 0) := fun _ => by
  show fits .byte (.int 0) = true
  decide
theorem sb_fitU {a : Nat → Int32} {k : Nat} {x : Int32} (h : sb_Fit a) (hx : fits .byte (.int x) = true) : sb_Fit (upd a k x) := by
  intro j
  by_cases e : j = k
  · subst e
    rw [pk_us]
    exact hx
  · rw [pk_un e]
    exact h j
def sb_cat (t : Nat → Nat) (n : Nat) (s : Nat → Nat) : Nat → Nat := fun j => if j < n then t j else s (j - n)
theorem sb_cat_lo {t s : Nat → Nat} {n j : Nat} (h : j < n) : sb_cat t n s j = t j := if_pos h
theorem sb_cat_hi {t s : Nat → Nat} {n j : Nat} : sb_cat t n s (n + j) = s j := by
  show (if n + j < n then t (n + j) else s (n + j - n)) = s j
  rw [if_neg (by omega), Nat.add_sub_cancel_left]
theorem sb_latPut {t s : Nat → Nat} {n w : Nat} {a a' : Nat → Int32} (h : sb_Lat t n a) (hk : ∀ j, j < n → a' j = a j) (hs : ∀ i, i < w → s i < 256 ∧ a' (n + i) = sb_b (s i)) : sb_Lat (sb_cat t n s) (n + w) a' := by
  intro j hj
  by_cases e : j < n
  · rw [sb_cat_lo e, hk j e]
    exact h j e
  · obtain ⟨i, rfl⟩ : ∃ i, j = n + i := ⟨j - n, by omega⟩
    rw [sb_cat_hi]
    exact hs i (by omega)
theorem sb_latKeep {t : Nat → Nat} {n : Nat} {a a' : Nat → Int32} (h : sb_Lat t n a) (hk : ∀ j, j < n → a' j = a j) : sb_Lat t n a' := fun j hj => by
  rw [hk j hj]
  exact h j hj
def sb_cap (q m : Nat) : Nat := if q ≤ m then m else if 2 * m + 2 < q then q else 2 * m + 2
def sb_Room (q m mc ms : Nat) : Prop := q ≤ m ∨ (1 ≤ mc ∧ sb_cap q m ≤ ms ∧ sb_cap q m ≤ 65536)
theorem sb_cap_ge (q m : Nat) : q ≤ sb_cap q m := by
  unfold sb_cap
  split
  · omega
  · split <;> omega
theorem sb_cap_gem (q m : Nat) : m ≤ sb_cap q m := by
  unfold sb_cap
  split
  · omega
  · split <;> omega
theorem sb_cap_le {q m mc ms : Nat} (hm : m ≤ 65536) (hr : sb_Room q m mc ms) : sb_cap q m ≤ 65536 := by
  rcases hr with h | h
  · rw [sb_cap, if_pos h]
    exact hm
  · exact h.2.2
theorem sb_at {P : Int32 → Prop} {x y : Int32} (e : x = y) (h : P y) : P x := e ▸ h
def sb_dg (w : Nat) : Nat := if w < 10 then 1 else if w < 100 then 2 else if w < 1000 then 3 else if w < 10000 then 4 else if w < 100000 then 5 else if w < 1000000 then 6 else if w < 10000000 then 7 else if w < 100000000 then 8 else if w < 1000000000 then 9 else 10
def sb_dec (v : Nat) : Nat → Nat := fun i => 48 + v / 10 ^ (sb_dg v - 1 - i) % 10
theorem sb_dg_in (w : Nat) : 1 ≤ sb_dg w ∧ sb_dg w ≤ 10 := by
  unfold sb_dg
  constructor <;> (repeat' split) <;> omega
theorem sb_dg100 {w : Nat} (h : 100 ≤ w) (hw : w < 2 ^ 31) : sb_dg w = sb_dg (w / 100) + 2 := by
  rw [sb_dg, sb_dg, if_neg (show ¬ w < 10 by omega), if_neg (show ¬ w < 100 by omega)]
  by_cases h3 : w < 1000
  · rw [if_pos h3, if_pos (show w / 100 < 10 by omega)]
  rw [if_neg h3, if_neg (show ¬ w / 100 < 10 by omega)]
  by_cases h4 : w < 10000
  · rw [if_pos h4, if_pos (show w / 100 < 100 by omega)]
  rw [if_neg h4, if_neg (show ¬ w / 100 < 100 by omega)]
  by_cases h5 : w < 100000
  · rw [if_pos h5, if_pos (show w / 100 < 1000 by omega)]
  rw [if_neg h5, if_neg (show ¬ w / 100 < 1000 by omega)]
  by_cases h6 : w < 1000000
  · rw [if_pos h6, if_pos (show w / 100 < 10000 by omega)]
  rw [if_neg h6, if_neg (show ¬ w / 100 < 10000 by omega)]
  by_cases h7 : w < 10000000
  · rw [if_pos h7, if_pos (show w / 100 < 100000 by omega)]
  rw [if_neg h7, if_neg (show ¬ w / 100 < 100000 by omega)]
  by_cases h8 : w < 100000000
  · rw [if_pos h8, if_pos (show w / 100 < 1000000 by omega)]
  rw [if_neg h8, if_neg (show ¬ w / 100 < 1000000 by omega)]
  by_cases h9 : w < 1000000000
  · rw [if_pos h9, if_pos (show w / 100 < 10000000 by omega)]
  rw [if_neg h9, if_neg (show ¬ w / 100 < 10000000 by omega)]
  rw [if_pos (show w / 100 < 100000000 by omega)]
theorem sb_negT {w : Nat} (h : w < 2 ^ 31) : (-nI w).toInt = -(w : Int) := by
  rw [Int32.toInt_neg, nI_toInt h]
  exact Int.bmod_eq_of_le (by omega) (by omega)
theorem sb_nle {a b : Nat} (ha : a < 2 ^ 31) (hb : b < 2 ^ 31) : -nI a ≤ -nI b ↔ b ≤ a := by
  rw [Int32.le_iff_toInt_le, sb_negT ha, sb_negT hb]
  omega
theorem sb_nlt {a b : Nat} (ha : a < 2 ^ 31) (hb : b < 2 ^ 31) : -nI a < -nI b ↔ b < a := by
  rw [Int32.lt_iff_toInt_lt, sb_negT ha, sb_negT hb]
  omega
theorem sb_cmp {A B : Prop} {x : Int32} (v c : Nat) (f : c ≤ v → A) (g : v < c → B) (hv : v < 2 ^ 31) (hx : x = -nI c := by rfl) (hc : c < 2 ^ 31 := by omega) : (-nI v ≤ x → A) ∧ (¬ -nI v ≤ x → B) := by
  subst hx
  rw [sb_nle hv hc]
  exact ⟨f, fun z => g (by omega)⟩
theorem sb_ndiv {w : Nat} (hw : w < 2 ^ 31) : (-nI w) / 100 = -nI (w / 100) := by
  apply Int32.toInt_inj.mp
  have h100 : (100 : Int32).toInt = 100 := by decide
  rw [Int32.toInt_div, sb_negT hw, h100, sb_negT (by omega), Int.neg_tdiv, Int.tdiv_eq_ediv_of_nonneg (by omega), Int.bmod_eq_of_le (by omega) (by omega)]
  omega
theorem sb_nrem {w : Nat} (hw : w < 2 ^ 31) : (-nI (w / 100)) * 100 - (-nI w) = nI (w % 100) := by
  have h := pk_rem (a := w) (d := 100) hw (by decide) (by decide)
  rw [pk_div hw (by decide) (by decide)] at h
  rw [← h]
  show (-nI (w / 100)) * nI 100 - (-nI w) = nI w - nI (w / 100) * nI 100
  rw [Int32.neg_mul, Int32.sub_neg, Int32.add_comm, ← Int32.sub_eq_add_neg]
end
section
/-! rows on bits, shifts and unsigned numbers, to paste: each family out of a closed proof of our own, whole with what it rests on; each by itself clean at Lean in its own claim (generation 39, form 5). Take a family whole -/
/-! ===== Int32 by its bits: bt x i ===== -/
def bt (x : Int32) (i : Nat) : Bool := x.toBitVec.getLsbD i
theorem b_ext {x y : Int32} (h : ∀ i, i < 32 → bt x i = bt y i) : x = y := Int32.toBitVec_inj.mp (BitVec.eq_of_getLsbD_eq (fun i hi => h i hi))
theorem b_or (x y : Int32) (i : Nat) : bt (x ||| y) i = (bt x i || bt y i) := by unfold bt; rw [Int32.toBitVec_or, BitVec.getLsbD_or]
theorem b_and (x y : Int32) (i : Nat) : bt (x &&& y) i = (bt x i && bt y i) := by unfold bt; rw [Int32.toBitVec_and, BitVec.getLsbD_and]
theorem b_xor (x y : Int32) (i : Nat) : bt (x ^^^ y) i = (bt x i ^^ bt y i) := by unfold bt; rw [Int32.toBitVec_xor, BitVec.getLsbD_xor]
theorem b_big {x : Int32} {i : Nat} (h : 32 ≤ i) : bt x i = false := BitVec.getLsbD_of_ge _ _ h
theorem b_255 (i : Nat) : bt 255 i = decide (i < 8) := by
  rcases Nat.lt_or_ge i 32 with h | h
  · exact (by decide +kernel : ∀ i, i < 32 → bt 255 i = decide (i < 8)) i h
  · rw [b_big h, decide_eq_false (by omega)]
theorem b_65535 (i : Nat) : bt 65535 i = decide (i < 16) := by
  rcases Nat.lt_or_ge i 32 with h | h
  · exact (by decide +kernel : ∀ i, i < 32 → bt 65535 i = decide (i < 16)) i h
  · rw [b_big h, decide_eq_false (by omega)]
theorem b_m1 : ∀ i, i < 32 → bt (-1) i = true := by decide +kernel
theorem b_0 (i : Nat) : bt 0 i = false := BitVec.getLsbD_zero
theorem s_l : ∀ n, n < 32 → ((nI n &&& 31).toBitVec.smod 32).toNat = n := by decide +kernel
theorem s_u : ∀ n, n < 32 → (((nI n).toUInt32 &&& Int32.toUInt32 31).toBitVec % 32).toNat = n := by decide +kernel
theorem b_shl (n : Nat) (hn : n < 32) (x : Int32) {i : Nat} (hi : i < 32) : bt (x <<< (nI n &&& 31)) i = (decide (n ≤ i) && bt x (i - n)) := by
  unfold bt
  rw [Int32.toBitVec_shiftLeft]
  show (x.toBitVec <<< ((nI n &&& 31).toBitVec.smod 32).toNat).getLsbD i = _
  rw [s_l n hn, BitVec.getLsbD_shiftLeft]
  rcases Nat.lt_or_ge i n with h | h
  · simp [h, Nat.not_le.mpr h]
  · simp [hi, h, Nat.not_lt.mpr h]
theorem b_ushr (n : Nat) (hn : n < 32) (x : Int32) (i : Nat) : bt ((x.toUInt32 >>> ((nI n).toUInt32 &&& Int32.toUInt32 31)).toInt32) i = bt x (n + i) := by
  show (x.toUInt32 >>> ((nI n).toUInt32 &&& Int32.toUInt32 31)).toBitVec.getLsbD i = x.toUInt32.toBitVec.getLsbD (n + i)
  rw [UInt32.toBitVec_shiftRight]
  show (x.toUInt32.toBitVec >>> (((nI n).toUInt32 &&& Int32.toUInt32 31).toBitVec % 32).toNat).getLsbD i = _
  rw [s_u n hn, BitVec.getLsbD_ushiftRight]
theorem b_sshr (n : Nat) (hn : n < 32) (x : Int32) {i : Nat} (hi : i < 32) : bt (x >>> (nI n &&& 31)) i = if n + i < 32 then bt x (n + i) else bt x 31 := by
  unfold bt
  rw [Int32.toBitVec_shiftRight]
  show (x.toBitVec.sshiftRight ((nI n &&& 31).toBitVec.smod 32).toNat).getLsbD i = _
  rw [s_l n hn, BitVec.getLsbD_sshiftRight, BitVec.msb_eq_getLsbD_last]
  simp [hi]
theorem b_shl8 (x : Int32) {i : Nat} (hi : i < 32) : bt (x <<< ((8 : Int32) &&& 31)) i = (decide (8 ≤ i) && bt x (i - 8)) := b_shl 8 (by omega) x hi
theorem b_shl16 (x : Int32) {i : Nat} (hi : i < 32) : bt (x <<< ((16 : Int32) &&& 31)) i = (decide (16 ≤ i) && bt x (i - 16)) := b_shl 16 (by omega) x hi
theorem b_shl24 (x : Int32) {i : Nat} (hi : i < 32) : bt (x <<< ((24 : Int32) &&& 31)) i = (decide (24 ≤ i) && bt x (i - 24)) := b_shl 24 (by omega) x hi
theorem b_sshr8 (x : Int32) {i : Nat} (hi : i < 32) : bt (x >>> ((8 : Int32) &&& 31)) i = if 8 + i < 32 then bt x (8 + i) else bt x 31 := b_sshr 8 (by omega) x hi
/-! ===== nI under and, xor, >>>, one bit, 65535 ===== -/
theorem nx_and (a b : Nat) : nI a &&& nI b = nI (a &&& b) := by
  apply Int32.toBitVec_inj.1
  show BitVec.ofNat 32 a &&& BitVec.ofNat 32 b = BitVec.ofNat 32 (a &&& b)
  apply BitVec.eq_of_getLsbD_eq
  intro i hi
  simp [hi]
theorem nx_xor (a b : Nat) : nI a ^^^ nI b = nI (a ^^^ b) := by
  apply Int32.toBitVec_inj.1
  show BitVec.ofNat 32 a ^^^ BitVec.ofNat 32 b = BitVec.ofNat 32 (a ^^^ b)
  apply BitVec.eq_of_getLsbD_eq
  intro i hi
  simp [hi]
theorem nx_cnt : ∀ j : Fin 32, (UInt32.ofNat j.val &&& Int32.toUInt32 31).toNat % 32 = j.val := by decide +kernel
theorem nx_ush {k j : Nat} (hk : k < 65536) (hj : j < 32) : ((nI k).toUInt32 >>> ((nI j).toUInt32 &&& Int32.toUInt32 31)).toInt32 = nI (k >>> j) := by
  have hs : k >>> j ≤ k := by
    rw [Nat.shiftRight_eq_div_pow]
    exact Nat.div_le_self _ _
  have e2 : UInt32.ofNat k >>> (UInt32.ofNat j &&& Int32.toUInt32 31) = UInt32.ofNat (k >>> j) := by
    apply UInt32.toNat_inj.1
    have h1 : (UInt32.ofNat k).toNat = k := Nat.mod_eq_of_lt (by omega)
    have h2 : (UInt32.ofNat (k >>> j)).toNat = k >>> j := Nat.mod_eq_of_lt (by omega)
    rw [UInt32.toNat_shiftRight, nx_cnt ⟨j, hj⟩, h1, h2]
  show (UInt32.ofNat k >>> (UInt32.ofNat j &&& Int32.toUInt32 31)).toInt32 = _
  rw [e2]
  rfl
theorem nx_bit {k j : Nat} (hk : k < 65536) (hj : j < 16) : (((nI k).toUInt32 >>> ((nI j).toUInt32 &&& Int32.toUInt32 31)).toInt32 &&& 1) = 0 ↔ k.testBit j = false := by
  rw [nx_ush hk (by omega)]
  show nI (k >>> j) &&& nI 1 = 0 ↔ _
  rw [nx_and, Nat.and_one_is_mod, ← nI_0, nI_eq (by omega) (by omega), Nat.testBit_eq_decide_div_mod_eq, Nat.shiftRight_eq_div_pow, decide_eq_false_iff_not]
  generalize k / 2 ^ j = z
  omega
theorem nx_mod (k : Nat) : nI k &&& 65535 = nI (k % 65536) := by
  show nI k &&& nI 65535 = _
  rw [nx_and, show (65535 : Nat) = 2 ^ 16 - 1 from rfl, Nat.and_two_pow_sub_one_eq_mod]
theorem nx_m16 {k : Nat} (h : k < 65536) : nI k &&& 65535 = nI k := by rw [nx_mod, Nat.mod_eq_of_lt h]
theorem nx_mask (x : Int32) : ∃ k, k < 65536 ∧ x &&& 65535 = nI k := by
  have e : x = nI x.toBitVec.toNat := by
    apply Int32.toBitVec_inj.1
    show x.toBitVec = BitVec.ofNat 32 x.toBitVec.toNat
    simp
  refine ⟨x.toBitVec.toNat % 65536, Nat.mod_lt _ (by omega), ?_⟩
  rw [← nx_mod, ← e]
/-! ===== Int32 as a set of bits: test, set ===== -/
def nf_M (m : Int32) : Nat := 4294967296 - m.toBitVec.toNat
theorem nf_sh : ∀ l, l < 32 → ((1 : Int32) <<< (nI l &&& 31)).toBitVec = BitVec.twoPow 32 l := by decide +kernel
theorem nf_sl : ∀ l, l < 32 → (((nI l).toUInt32 &&& Int32.toUInt32 31).toBitVec % 32).toNat = l := by decide +kernel
theorem nf_tp : ∀ l, l < 32 → BitVec.twoPow 32 l ≠ 0#32 := by decide +kernel
theorem nf_bit (m : Int32) (l : Nat) (hl : l < 32) : ((m.toUInt32 >>> ((nI l).toUInt32 &&& Int32.toUInt32 31)).toInt32 &&& 1) = 0 ↔ (m &&& ((1 : Int32) <<< (nI l &&& 31))) = 0 := by
  have e : ((m.toUInt32 >>> ((nI l).toUInt32 &&& Int32.toUInt32 31)).toInt32).toBitVec = m.toBitVec >>> l := by
    show m.toBitVec >>> (((nI l).toUInt32 &&& Int32.toUInt32 31).toBitVec % 32) = m.toBitVec >>> l
    rw [BitVec.ushiftRight_eq', nf_sl l hl]
  rw [← Int32.toBitVec_inj, ← Int32.toBitVec_inj, Int32.toBitVec_and, Int32.toBitVec_and, nf_sh l hl, e, BitVec.and_twoPow]
  show (m.toBitVec >>> l &&& 1#32) = 0#32 ↔ _ = 0#32
  rw [BitVec.and_one_eq_setWidth_ofBool_getLsbD, BitVec.getLsbD_ushiftRight, Nat.add_zero]
  cases hb : m.toBitVec.getLsbD l
  · exact ⟨fun _ => by simp, fun _ => by decide⟩
  · exact ⟨fun z => absurd z (by decide), fun z => absurd ((if_pos rfl).symm.trans z) (nf_tp l hl)⟩
theorem nf_gr (m k : Int32) (h : m &&& k = 0) (hk : k ≠ 0) : nf_M (m ||| k) < nf_M m := by
  have hm := m.toBitVec.isLt
  have hm' := (m ||| k).toBitVec.isLt
  have h1 : m.toBitVec.toNat ≤ (m ||| k).toBitVec.toNat := by
    rw [Int32.toBitVec_or, BitVec.toNat_or]
    exact Nat.left_le_or
  have h2 : m.toBitVec.toNat ≠ (m ||| k).toBitVec.toNat := by
    intro e
    have e2 : m = m ||| k := Int32.toBitVec_inj.mp (BitVec.eq_of_toNat_eq e)
    apply hk
    apply Int32.toBitVec_inj.mp
    show k.toBitVec = 0#32
    apply BitVec.eq_of_getLsbD_eq
    intro i hi
    have a : m.toBitVec.getLsbD i = (m.toBitVec.getLsbD i || k.toBitVec.getLsbD i) := by rw [← BitVec.getLsbD_or, ← Int32.toBitVec_or, ← e2]
    have b : (m.toBitVec.getLsbD i && k.toBitVec.getLsbD i) = false := by
      rw [← BitVec.getLsbD_and, ← Int32.toBitVec_and, h]
      exact BitVec.getLsbD_zero
    rw [BitVec.getLsbD_zero]
    revert a b
    cases m.toBitVec.getLsbD i <;> cases k.toBitVec.getLsbD i <;> simp
  unfold nf_M
  omega
/-! ===== a byte read unsigned ===== -/
theorem bp_b (x : Int32) : x.toInt8.toInt32 &&& 255 = x &&& 255 := by
  apply Int32.toBitVec_inj.mp
  rw [Int32.toBitVec_and, Int32.toBitVec_and, Int8.toBitVec_toInt32, Int32.toBitVec_toInt8]
  apply BitVec.eq_of_getLsbD_eq
  intro i hi
  rw [BitVec.getLsbD_and, BitVec.getLsbD_and]
  have hm : ∀ i < 32, 8 ≤ i → (255 : Int32).toBitVec.getLsbD i = false := by decide
  rcases Nat.lt_or_ge i 8 with z | z
  · rw [BitVec.getLsbD_signExtend, BitVec.getLsbD_signExtend, if_pos z, if_pos hi]
    simp only [z, hi, decide_true, Bool.true_and]
  · rw [hm i hi z]; simp
/-! ===== the char cast and 65535 ===== -/
theorem em_w (v : Int32) : ∃ w : Nat, w < 65536 ∧ (v.toUInt32 % 65536).toInt32 = nI w ∧ v &&& 65535 = nI w := by
  have hr := lw_u16_r v
  have h0 : (0 : Int32).toInt = 0 := by decide
  obtain ⟨w, h1, h2⟩ := nI_of (x := lw_u16 v) (by rw [Int32.lt_iff_toInt_lt]; omega)
  have h3 : (v.toUInt32 % 65536).toInt32 = nI w := h2
  rw [h2, nI_toInt h1] at hr
  exact ⟨w, by omega, h3, by rw [← lg_i2c_mask, ← lg_i2c_nf, h3]⟩
/-! ===== Int64 as a set of bits: test, set, clear ===== -/
theorem ts_nf {x : Bool} (h : ¬ x = false) : x = true := by cases x <;> first | rfl | exact absurd rfl h
theorem ts_nt {x : Bool} (h : ¬ x = true) : x = false := by cases x <;> first | rfl | exact absurd rfl h
theorem ts_bit {w : Int64} {s : UInt64} {j : Nat} (hj : j < 64) (hs : s.toNat = j) : ((w.toUInt64 >>> s).toInt64 &&& 1) = 0 ↔ w.toBitVec.getLsbD j = false := by
  have e : (w.toUInt64 >>> s).toInt64.toBitVec = w.toBitVec >>> j := by
    apply BitVec.eq_of_toNat_eq
    show (w.toUInt64 >>> s).toNat = _
    rw [UInt64.toNat_shiftRight, hs, Nat.mod_eq_of_lt hj, BitVec.toNat_ushiftRight]
    rfl
  rw [← Int64.toBitVec_inj, Int64.toBitVec_and, e]
  show w.toBitVec >>> j &&& 1#64 = 0#64 ↔ _
  constructor
  · intro h
    have t := congrArg (fun x => x.getLsbD 0) h
    simpa using t
  · intro h
    apply BitVec.eq_of_getLsbD_eq
    intro i hi
    cases i with
    | zero => simp [h]
    | succ i => simp
theorem ts_or {w m : Int64} {j : Nat} (hj : j < 64) (hm : m.toBitVec = BitVec.twoPow 64 j) : (w ||| m) = w ↔ w.toBitVec.getLsbD j = true := by
  rw [← Int64.toBitVec_inj, Int64.toBitVec_or, hm]
  constructor
  · intro h
    have t := congrArg (fun x => x.getLsbD j) h
    simp only [BitVec.getLsbD_or, BitVec.getLsbD_twoPow] at t
    simpa [hj] using t.symm
  · intro h
    apply BitVec.eq_of_getLsbD_eq
    intro i hi
    rw [BitVec.getLsbD_or, BitVec.getLsbD_twoPow]
    by_cases e : j = i
    · subst e; rw [h, Bool.true_or]
    · simp [e]
theorem ts_and {w m : Int64} {j : Nat} (hj : j < 64) (hm : m.toBitVec = BitVec.twoPow 64 j) : (w &&& (m ^^^ (-1))) = w ↔ w.toBitVec.getLsbD j = false := by
  have ha : (-1 : Int64).toBitVec = BitVec.allOnes 64 := by decide
  rw [← Int64.toBitVec_inj, Int64.toBitVec_and, Int64.toBitVec_xor, hm, ha]
  constructor
  · intro h
    have t := congrArg (fun x => x.getLsbD j) h
    simp only [BitVec.getLsbD_and, BitVec.getLsbD_xor, BitVec.getLsbD_twoPow, BitVec.getLsbD_allOnes] at t
    simpa [hj] using t.symm
  · intro h
    apply BitVec.eq_of_getLsbD_eq
    intro i hi
    rw [BitVec.getLsbD_and, BitVec.getLsbD_xor, BitVec.getLsbD_twoPow, BitVec.getLsbD_allOnes]
    by_cases e : j = i
    · subst e; rw [h, Bool.false_and]
    · simp [e, hi]
/-! ===== lN n to 2^64: shifts, and, or, masks, one bit ===== -/
theorem wb_tb (n : Nat) : (lN n).toBitVec = BitVec.ofNat 64 n := rfl
theorem wb_inj {a b : Int64} (h : a.toBitVec = b.toBitVec) : a = b := Int64.toBitVec_inj.mp h
theorem wb_tn {n : Nat} (h : n < 2 ^ 64) : (lN n).toBitVec.toNat = n := by rw [wb_tb, BitVec.toNat_ofNat, Nat.mod_eq_of_lt h]
theorem wb_of (x : Int64) : ∃ n, n < 2 ^ 64 ∧ x = lN n := ⟨x.toBitVec.toNat, x.toBitVec.isLt, wb_inj (by rw [wb_tb]; simp)⟩
theorem wb_of32 (x : Int32) : ∃ n, n < 2 ^ 32 ∧ x = nI n := ⟨x.toBitVec.toNat, x.toBitVec.isLt, Int32.toBitVec_inj.mp (by show _ = BitVec.ofNat 32 _; simp)⟩
theorem wb_c : ∀ k, k < 64 → ((nI k).toInt64 &&& 63) = lN k := by decide +kernel
theorem wb_cu : ∀ k, k < 64 → ((nI k).toInt64.toUInt64 &&& Int64.toUInt64 63) = UInt64.ofNat k := by decide +kernel
theorem wb_sm : ∀ k, k < 64 → (BitVec.ofNat 64 k).smod 64 = BitVec.ofNat 64 k := by decide +kernel
theorem wb_pw {a b : Nat} (h : a ≤ b) : 2 ^ b = 2 ^ a * 2 ^ (b - a) := by rw [← Nat.pow_add]; congr 1; omega
theorem wb_lt2 {a b : Nat} (h : a < b) : 2 ^ a < 2 ^ b := Nat.pow_lt_pow_right (by decide) h
theorem wb_mod (n : Nat) : lN n = lN (n % 2 ^ 64) := wb_inj (by rw [wb_tb, wb_tb]; apply BitVec.eq_of_toNat_eq; rw [BitVec.toNat_ofNat, BitVec.toNat_ofNat, Nat.mod_mod])
theorem wb_shr {n k : Nat} (hn : n < 2 ^ 64) (hk : k < 64) : ((lN n).toUInt64 >>> ((nI k).toInt64.toUInt64 &&& Int64.toUInt64 63)).toInt64 = lN (n / 2 ^ k) := by
  rw [wb_cu k hk]
  apply wb_inj
  apply BitVec.eq_of_toNat_eq
  show ((lN n).toUInt64 >>> UInt64.ofNat k).toNat = (BitVec.ofNat 64 _).toNat
  have h1 : (UInt64.ofNat k).toNat = k := by
    show (BitVec.ofNat 64 k).toNat = k
    rw [BitVec.toNat_ofNat, Nat.mod_eq_of_lt (by omega)]
  have h2 : (lN n).toUInt64.toNat = n := wb_tn hn
  rw [UInt64.toNat_shiftRight, h1, h2, Nat.mod_eq_of_lt hk, Nat.shiftRight_eq_div_pow, BitVec.toNat_ofNat, Nat.mod_eq_of_lt (Nat.lt_of_le_of_lt (Nat.div_le_self _ _) hn)]
theorem wb_shl (n : Nat) {k : Nat} (hk : k < 64) : lN n <<< ((nI k).toInt64 &&& 63) = lN (n * 2 ^ k) := by
  rw [wb_c k hk]
  apply wb_inj
  rw [Int64.toBitVec_shiftLeft, wb_tb, wb_tb, wb_tb, wb_sm k hk]
  apply BitVec.eq_of_toNat_eq
  rw [BitVec.shiftLeft_eq', BitVec.toNat_shiftLeft, BitVec.toNat_ofNat, BitVec.toNat_ofNat, BitVec.toNat_ofNat, Nat.mod_eq_of_lt (show k < 2 ^ 64 by omega), Nat.shiftLeft_eq, Nat.mul_mod, Nat.mod_mod, ← Nat.mul_mod]
theorem wb_and {a b : Nat} (ha : a < 2 ^ 64) (hb : b < 2 ^ 64) : lN a &&& lN b = lN (a &&& b) := by
  apply wb_inj
  rw [Int64.toBitVec_and, wb_tb, wb_tb, wb_tb]
  apply BitVec.eq_of_toNat_eq
  rw [BitVec.toNat_and, BitVec.toNat_ofNat, BitVec.toNat_ofNat, BitVec.toNat_ofNat, Nat.mod_eq_of_lt ha, Nat.mod_eq_of_lt hb, Nat.mod_eq_of_lt (Nat.and_lt_two_pow _ hb)]
theorem wb_or {a b : Nat} (ha : a < 2 ^ 64) (hb : b < 2 ^ 64) : lN a ||| lN b = lN (a ||| b) := by
  apply wb_inj
  rw [Int64.toBitVec_or, wb_tb, wb_tb, wb_tb]
  apply BitVec.eq_of_toNat_eq
  rw [BitVec.toNat_or, BitVec.toNat_ofNat, BitVec.toNat_ofNat, BitVec.toNat_ofNat, Nat.mod_eq_of_lt ha, Nat.mod_eq_of_lt hb, Nat.mod_eq_of_lt (Nat.or_lt_two_pow ha hb)]
theorem wb_mask {n k : Nat} (hn : n < 2 ^ 64) (hk : k < 64) : lN n &&& lN (2 ^ k - 1) = lN (n % 2 ^ k) := by
  rw [wb_and hn (by have := wb_lt2 hk; omega), Nat.and_two_pow_sub_one_eq_mod]
theorem wb_a1 {n : Nat} (hn : n < 2 ^ 64) : lN n &&& 1 = lN (n % 2) := wb_mask (k := 1) hn (by decide)
theorem wb_bit {n k : Nat} (hn : n < 2 ^ 64) (hk : k < 64) : ((lN n).toUInt64 >>> ((nI k).toInt64.toUInt64 &&& Int64.toUInt64 63)).toInt64 &&& 1 = lN (n / 2 ^ k % 2) := by
  rw [wb_shr hn hk, wb_a1 (Nat.lt_of_le_of_lt (Nat.div_le_self _ _) hn)]
theorem wb_xor {q k : Nat} (hk : k < 63) (h : 2 ^ k ≤ q) (h2 : q < 2 ^ (k + 1)) : lN q ^^^ lN (2 ^ k) = lN (q - 2 ^ k) := by
  obtain ⟨r, rfl⟩ : ∃ r, q = 2 ^ k + r := ⟨q - 2 ^ k, by omega⟩
  have hr : r < 2 ^ k := by rw [Nat.pow_succ] at h2; omega
  have hx : (2 ^ k + r) ^^^ 2 ^ k = r := by
    apply Nat.eq_of_testBit_eq
    intro i
    rw [Nat.testBit_xor, Nat.testBit_two_pow]
    rcases Nat.lt_trichotomy i k with h | h | h
    · rw [Nat.testBit_two_pow_add_gt h]
      simp [show ¬ k = i by omega]
    · subst h
      rw [Nat.testBit_two_pow_add_eq]
      simp
    · have a1 : 2 ^ (k + 1) ≤ 2 ^ i := Nat.pow_le_pow_right (by decide) h
      rw [Nat.testBit_lt_two_pow (show 2 ^ k + r < 2 ^ i by omega), Nat.testBit_lt_two_pow (show r < 2 ^ i by omega)]
      simp [show ¬ k = i by omega]
  have b1 := wb_lt2 (show k + 1 < 64 by omega)
  have b2 := wb_lt2 (show k < 64 by omega)
  apply wb_inj
  rw [Int64.toBitVec_xor, wb_tb, wb_tb, wb_tb]
  apply BitVec.eq_of_toNat_eq
  rw [BitVec.toNat_xor, BitVec.toNat_ofNat, BitVec.toNat_ofNat, BitVec.toNat_ofNat, Nat.mod_eq_of_lt (by omega : 2 ^ k + r < 2 ^ 64), Nat.mod_eq_of_lt b2, hx, Nat.add_sub_cancel_left, Nat.mod_eq_of_lt (by omega)]
/-! ===== lN: masks, 'or' of parts that don't overlap is a sum ===== -/
theorem u_tn {n : Nat} (h : n < 2 ^ 64) : (UInt64.ofNat n).toNat = n := Nat.mod_eq_of_lt h
theorem g_and {a b c : Nat} (ha : a < 2 ^ 64) (hb : b < 2 ^ 64) (hc : a &&& b = c) : lN a &&& lN b = lN c := by
  subst hc
  have h : UInt64.ofNat a &&& UInt64.ofNat b = UInt64.ofNat (a &&& b) := UInt64.toNat_inj.mp (by rw [UInt64.toNat_and, u_tn ha, u_tn hb, u_tn (Nat.and_lt_two_pow a hb)])
  have h2 := congrArg UInt64.toInt64 h
  exact h2
theorem g_and1 {a : Nat} (ha : a < 2 ^ 64) : lN a &&& 1 = lN (a % 2) := g_and (b := 1) ha (by decide) (Nat.and_two_pow_sub_one_eq_mod a 1)
theorem g_mask {a s p : Nat} (hp : 2 ^ s = p) (hs : s < 64) (ha : a < 2 ^ 64) : lN a &&& lN (p - 1) = lN (a % p) := by
  subst hp
  have := Nat.pow_lt_pow_right (show 1 < 2 by decide) hs
  exact g_and ha (by omega) (Nat.and_two_pow_sub_one_eq_mod a s)
theorem g_or {k p a b : Nat} (hp : 2 ^ k = p) (ha : a < p) (h : b * p + a < 2 ^ 64) : lN (b * p) ||| lN a = lN (b * p + a) := by
  subst hp
  have h1 : b * 2 ^ k ||| a = b * 2 ^ k + a := by rw [← Nat.shiftLeft_eq, Nat.shiftLeft_add_eq_or_of_lt ha]
  have h3 : UInt64.ofNat (b * 2 ^ k) ||| UInt64.ofNat a = UInt64.ofNat (b * 2 ^ k + a) := UInt64.toNat_inj.mp (by rw [UInt64.toNat_or, u_tn (by omega), u_tn (by omega), u_tn h, h1])
  have h2 := congrArg UInt64.toInt64 h3
  exact h2
theorem g_or' {k p a b : Nat} (hp : 2 ^ k = p) (ha : a < p) (h : a + b * p < 2 ^ 64) : lN a ||| lN (b * p) = lN (a + b * p) := by
  rw [Int64.or_comm, g_or hp ha (by omega), Nat.add_comm]
theorem g_ushr {a k p : Nat} {y : UInt64} (hy : y = UInt64.ofNat k) (hk : k < 64) (hp : 2 ^ k = p) (ha : a < 2 ^ 64) : ((lN a).toUInt64 >>> y).toInt64 = lN (a / p) := by
  subst hy hp
  have h : UInt64.ofNat a >>> UInt64.ofNat k = UInt64.ofNat (a / 2 ^ k) := UInt64.toNat_inj.mp (by rw [UInt64.toNat_shiftRight, u_tn ha, u_tn (by omega), u_tn (Nat.lt_of_le_of_lt (Nat.div_le_self _ _) ha), Nat.mod_eq_of_lt hk, Nat.shiftRight_eq_div_pow])
  have h2 := congrArg UInt64.toInt64 h
  exact h2
theorem g_shl {a k p : Nat} {y : Int64} (hy : y.toBitVec.smod 64 = BitVec.ofNat 64 k) (hk : k < 64) (hp : 2 ^ k = p) (ha : a < 2 ^ 64) : lN a <<< y = lN (a * p) := by
  subst hp
  apply Int64.toBitVec_inj.mp
  rw [Int64.toBitVec_shiftLeft, hy]
  apply BitVec.eq_of_toNat_eq
  have hb : (lN a).toBitVec.toNat = a := Nat.mod_eq_of_lt ha
  have hk' : (BitVec.ofNat 64 k).toNat = k := Nat.mod_eq_of_lt (by omega)
  have h : ((lN a).toBitVec <<< BitVec.ofNat 64 k).toNat = (a * 2 ^ k) % 2 ^ 64 := by simp only [BitVec.shiftLeft_eq', BitVec.toNat_shiftLeft, hb, hk', Nat.shiftLeft_eq]
  exact h
/-! ===== lN to 2^62 under >> and >>> ===== -/
theorem pf_lI {a : Nat} (h : a < 2 ^ 63) : (lN a).toInt = (a : Int) := lg_ofNat_toInt h
theorem pf_shr {a d : Nat} {D : Int64} (hD : (D.toBitVec.smod 64).toNat = d) (h : a < 2 ^ 62) : lN a >>> D = lN (a / 2 ^ d) := by
  have hd : a / 2 ^ d ≤ a := Nat.div_le_self _ _
  apply Int64.toInt_inj.mp
  have e : (lN a >>> D).toInt = (lN a).toInt >>> d := by
    rw [← hD]
    exact BitVec.toInt_sshiftRight ..
  rw [e, Int.shiftRight_eq_div_pow, pf_lI (by omega), pf_lI (by omega)]
  rfl
theorem pf_ushr {a d : Nat} {D : UInt64} (hD : D.toNat % 64 = d) (h : a < 2 ^ 62) : ((lN a).toUInt64 >>> D).toInt64 = lN (a / 2 ^ d) := by
  have hd : a / 2 ^ d ≤ a := Nat.div_le_self _ _
  have e : (lN a).toUInt64 >>> D = UInt64.ofNat (a / 2 ^ d) := UInt64.toNat_inj.mp (by
    rw [UInt64.toNat_shiftRight, hD, Nat.shiftRight_eq_div_pow, UInt64.toNat_ofNat']
    show (UInt64.ofNat a).toNat / 2 ^ d = _
    rw [UInt64.toNat_ofNat', Nat.mod_eq_of_lt (by omega), Nat.mod_eq_of_lt (by omega)])
  rw [e]
  rfl
theorem pf_andw (x : Int64) : ∃ m, m < 2 ^ 32 ∧ x &&& 4294967295 = lN m := ⟨x.toBitVec.toNat % 2 ^ 32, Nat.mod_lt _ (by decide), Int64.toBitVec_inj.mp (BitVec.eq_of_toNat_eq (by
  show (x.toBitVec &&& 4294967295#64).toNat = (BitVec.ofNat 64 (x.toBitVec.toNat % 2 ^ 32)).toNat
  rw [BitVec.toNat_and, show (4294967295#64).toNat = 2 ^ 32 - 1 from by decide, Nat.and_two_pow_sub_one_eq_mod, BitVec.toNat_ofNat]
  omega))⟩
/-! ===== Int64 as an unsigned number: uN x ===== -/
def uN (x : Int64) : Nat := x.toUInt64.toNat
theorem uN_lt (x : Int64) : uN x < 18446744073709551616 := x.toUInt64.toNat_lt
theorem uN_inj {x y : Int64} (h : uN x = uN y) : x = y := congrArg UInt64.toInt64 (UInt64.toNat_inj.mp h)
theorem uN_add (x y : Int64) : uN (x + y) = (uN x + uN y) % 18446744073709551616 := by
  show (x.toUInt64 + y.toUInt64).toNat = _
  exact UInt64.toNat_add _ _
theorem uN_mul (x y : Int64) : uN (x * y) = (uN x * uN y) % 18446744073709551616 := by
  show (x.toUInt64 * y.toUInt64).toNat = _
  exact UInt64.toNat_mul _ _
theorem uN_shl (x : Int64) : uN (x <<< ((1 : Int32).toInt64 &&& 63)) = (2 * uN x) % 18446744073709551616 := by
  have h : (((1 : Int32).toInt64 &&& 63).toBitVec.smod 64).toNat = 1 := by decide
  show (x.toBitVec <<< (((1 : Int32).toInt64 &&& 63).toBitVec.smod 64).toNat).toNat = _
  rw [h, BitVec.toNat_shiftLeft, Nat.shiftLeft_eq, Nat.mul_comm]
  rfl
theorem uN_shr (x : Int64) (s : UInt64) : uN (x.toUInt64 >>> s).toInt64 = uN x / 2 ^ (s.toNat % 64) := by
  show (x.toUInt64 >>> s).toNat = _
  rw [UInt64.toNat_shiftRight, Nat.shiftRight_eq_div_pow]
  rfl
theorem uN_s32 (x : Int64) : uN (x.toUInt64 >>> ((32 : Int32).toInt64.toUInt64 &&& Int64.toUInt64 63)).toInt64 = uN x / 4294967296 := by
  have h : ((32 : Int32).toInt64.toUInt64 &&& Int64.toUInt64 63).toNat % 64 = 32 := by decide
  rw [uN_shr, h]
theorem uN_s63 (x : Int64) : uN (x.toUInt64 >>> ((63 : Int32).toInt64.toUInt64 &&& Int64.toUInt64 63)).toInt64 = uN x / 9223372036854775808 := by
  have h : ((63 : Int32).toInt64.toUInt64 &&& Int64.toUInt64 63).toNat % 64 = 63 := by decide
  rw [uN_shr, h]
theorem uN_lo (x : Int64) : uN (x &&& 4294967295) = uN x % 4294967296 := by
  show (x.toUInt64 &&& Int64.toUInt64 4294967295).toNat = _
  rw [UInt64.toNat_and]
  exact Nat.and_two_pow_sub_one_eq_mod _ 32
theorem uN_bit (x : Int64) : (x &&& 1) = 0 ↔ uN x % 2 = 0 := by
  have h : uN (x &&& 1) = uN x % 2 := by
    show (x.toUInt64 &&& Int64.toUInt64 1).toNat = _
    rw [UInt64.toNat_and]
    exact Nat.and_two_pow_sub_one_eq_mod _ 1
  rw [← h]
  exact ⟨fun z => by rw [z]; rfl, fun z => uN_inj (z.trans rfl)⟩
theorem uN_or {x y : Int64} (hy : uN y < 2) : uN ((x <<< ((1 : Int32).toInt64 &&& 63)) ||| y) = (2 * uN x) % 18446744073709551616 + uN y := by
  have h1 : uN ((x <<< ((1 : Int32).toInt64 &&& 63)) ||| y) = uN (x <<< ((1 : Int32).toInt64 &&& 63)) ||| uN y := UInt64.toNat_or _ _
  have h2 : (2 * uN x) % 18446744073709551616 = 2 ^ 1 * (uN x % 9223372036854775808) := by omega
  rw [h1, uN_shl, h2]
  exact (Nat.two_pow_add_eq_or_of_lt (i := 1) hy _).symm
theorem nat_xor {a : Nat} (h : a < 18446744073709551616) : a ^^^ 2 ^ 63 = (a + 9223372036854775808) % 18446744073709551616 := by
  have h1 : (a ^^^ 2 ^ 63) % 2 ^ 63 = a % 2 ^ 63 := by rw [Nat.xor_mod_two_pow, Nat.mod_self, Nat.xor_zero]
  have h2 : (a ^^^ 2 ^ 63) / 2 ^ 63 = (a / 2 ^ 63) ^^^ 1 := by rw [Nat.xor_div_two_pow, Nat.div_self (Nat.two_pow_pos 63)]
  have h3 : a / 2 ^ 63 = 0 ∨ a / 2 ^ 63 = 1 := by omega
  generalize a ^^^ 2 ^ 63 = t at h1 h2
  rcases h3 with h3 | h3
  · rw [h3] at h2
    have h2 : t / 2 ^ 63 = 1 := h2
    omega
  · rw [h3] at h2
    have h2 : t / 2 ^ 63 = 0 := h2
    omega
theorem uN_xor (x : Int64) : uN (x ^^^ (-9223372036854775808)) = (uN x + 9223372036854775808) % 18446744073709551616 := by
  rw [← nat_xor (uN_lt x)]
  exact UInt64.toNat_xor _ _
theorem uN_int (x : Int64) : x.toInt = if 2 * uN x < 18446744073709551616 then (uN x : Int) else (uN x : Int) - 18446744073709551616 := BitVec.toInt_eq_toNat_cond _
theorem uN_le (x y : Int64) : (x ^^^ (-9223372036854775808)) ≤ (y ^^^ (-9223372036854775808)) ↔ uN x ≤ uN y := by
  have hx := uN_lt x
  have hy := uN_lt y
  rw [Int64.le_iff_toInt_le, uN_int, uN_int, uN_xor, uN_xor]
  omega
theorem uN_sk (x : Int64) {k : Nat} (hk : k < 64) : uN (x.toUInt64 >>> ((nI k).toInt64.toUInt64 &&& Int64.toUInt64 63)).toInt64 = uN x / 2 ^ k := by
  have h : ((nI k).toInt64.toUInt64 &&& Int64.toUInt64 63).toNat % 64 = k := by
    rw [nI_l (by omega), UInt64.toNat_and]
    have e : (lN k).toUInt64.toNat = k % 2 ^ 64 := rfl
    have e2 : (Int64.toUInt64 63).toNat = 2 ^ 6 - 1 := by decide
    rw [e, e2, Nat.and_two_pow_sub_one_eq_mod]
    omega
  rw [uN_shr, h]
/-! ===== unsigned comparison by xor with the least ===== -/
theorem lN_bv (n : Nat) : (lN n).toBitVec = BitVec.ofNat 64 n := rfl
theorem lN_nat {n : Nat} (h : n < 2 ^ 64) : (lN n).toBitVec.toNat = n := by rw [lN_bv, BitVec.toNat_ofNat]; exact Nat.mod_eq_of_lt h
theorem lN_xor (a b : Nat) : lN a ^^^ lN b = lN (a ^^^ b) := by
  apply Int64.toBitVec_inj.mp; rw [Int64.toBitVec_xor, lN_bv, lN_bv, lN_bv]; apply BitVec.eq_of_getLsbD_eq; intro i hi; simp [BitVec.getLsbD_ofNat, Nat.testBit_xor, hi]
theorem lN_ti {m : Nat} (h : m < 2 ^ 64) : (lN m).toInt = if m < 2 ^ 63 then (m : Int) else (m : Int) - 2 ^ 64 := by
  have c := BitVec.toInt_eq_toNat_cond (lN m).toBitVec
  rw [lN_nat h] at c
  show (lN m).toBitVec.toInt = _
  rw [c]
  split <;> split <;> omega
theorem xor63 {x : Nat} (h : x < 2 ^ 63) : x ^^^ 2 ^ 63 = 2 ^ 63 + x := by
  apply Nat.eq_of_testBit_eq
  intro i
  rw [Nat.testBit_xor, Nat.testBit_two_pow]
  rcases Nat.lt_trichotomy i 63 with z | z | z
  · rw [Nat.testBit_two_pow_add_gt z, decide_eq_false (by omega)]; simp
  · subst z; rw [Nat.testBit_two_pow_add_eq]; simp
  · have hp : 2 ^ 64 ≤ 2 ^ i := Nat.pow_le_pow_right (by decide) z
    rw [Nat.testBit_lt_two_pow (show x < 2 ^ i by omega), Nat.testBit_lt_two_pow (show 2 ^ 63 + x < 2 ^ i by omega), decide_eq_false (by omega)]; rfl
theorem xorS {a : Nat} (h : a < 2 ^ 64) : (lN a ^^^ (-9223372036854775808)).toInt = (a : Int) - 2 ^ 63 := by
  rw [show (-9223372036854775808 : Int64) = lN (2 ^ 63) from by decide +kernel, lN_xor]
  rcases Nat.lt_or_ge a (2 ^ 63) with z | z
  · rw [xor63 z, lN_ti (by omega), if_neg (by omega)]; omega
  · obtain ⟨x, rfl⟩ : ∃ x, a = 2 ^ 63 + x := ⟨a - 2 ^ 63, by omega⟩
    rw [← xor63 (by omega), Nat.xor_assoc, Nat.xor_self, Nat.xor_zero, lN_ti (by omega), if_pos (by omega), xor63 (by omega)]; omega
theorem ultL {a b : Nat} (ha : a < 2 ^ 64) (hb : b < 2 ^ 64) : ((lN b ^^^ (-9223372036854775808)) ≤ (lN a ^^^ (-9223372036854775808))) ↔ b ≤ a := by
  rw [Int64.le_iff_toInt_le, xorS ha, xorS hb]; omega
/-! ===== Int64 masks of n low bits ===== -/
theorem cr_bits (W U M : BitVec 64) : ((W &&& U) &&& (U &&& (M ^^^ BitVec.allOnes 64))) = 0#64 ↔ (W &&& U) &&& M = W &&& U := by
  constructor
  · intro h
    apply BitVec.eq_of_getLsbD_eq
    intro i hi
    have e := congrArg (fun x => BitVec.getLsbD x i) h
    simp only [BitVec.getLsbD_and, BitVec.getLsbD_xor, BitVec.getLsbD_allOnes, BitVec.getLsbD_zero, hi, decide_true] at e ⊢
    revert e
    cases W.getLsbD i <;> cases U.getLsbD i <;> cases M.getLsbD i <;> decide
  · intro h
    apply BitVec.eq_of_getLsbD_eq
    intro i hi
    have e := congrArg (fun x => BitVec.getLsbD x i) h
    simp only [BitVec.getLsbD_and, BitVec.getLsbD_xor, BitVec.getLsbD_allOnes, BitVec.getLsbD_zero, hi, decide_true] at e ⊢
    revert e
    cases W.getLsbD i <;> cases U.getLsbD i <;> cases M.getLsbD i <;> decide
theorem cr_mask (w U m : Int64) (n : Nat) (hm : m.toBitVec.toNat = 2 ^ n - 1) : ((w &&& U) &&& (U &&& (m ^^^ (-1)))) = 0 ↔ (w &&& U).toBitVec.toNat < 2 ^ n := by
  have e0 : (-1 : Int64).toBitVec = BitVec.allOnes 64 := by decide
  have z0 : (0 : Int64).toBitVec = 0#64 := by decide
  rw [← Int64.toBitVec_inj, z0, Int64.toBitVec_and, Int64.toBitVec_and, Int64.toBitVec_and, Int64.toBitVec_xor, e0, cr_bits]
  generalize w.toBitVec &&& U.toBitVec = T
  rw [← BitVec.toNat_inj, BitVec.toNat_and, hm, Nat.and_two_pow_sub_one_eq_mod]
  constructor
  · intro h
    have t := Nat.mod_lt T.toNat (Nat.two_pow_pos n)
    rw [h] at t
    exact t
  · exact Nat.mod_eq_of_lt
theorem cr_shr (t : Int64) (x : UInt64) (n : Nat) (hx : x.toNat % 64 = n) : (t.toUInt64 >>> x).toInt64 = 0 ↔ t.toBitVec.toNat < 2 ^ n := by
  rw [← Int64.toBitVec_inj, ← BitVec.toNat_inj]
  show (t.toUInt64 >>> x).toNat = 0 ↔ t.toUInt64.toNat < 2 ^ n
  rw [UInt64.toNat_shiftRight, hx, Nat.shiftRight_eq_div_pow]
  constructor
  · intro h
    have d : t.toUInt64.toNat / 2 ^ n < 1 := by
      rw [h]
      decide
    have e := (Nat.div_lt_iff_lt_mul (Nat.two_pow_pos n)).mp d
    rw [Nat.one_mul] at e
    exact e
  · exact Nat.div_eq_of_lt
theorem cr_amt (s : Int64) : ∃ n, n < 64 ∧ s &&& 63 = lN n ∧ (s.toUInt64 &&& Int64.toUInt64 63).toNat % 64 = n := by
  have e : (s.toUInt64 &&& Int64.toUInt64 63).toNat = s.toUInt64.toNat % 2 ^ 6 := by
    rw [UInt64.toNat_and, show (Int64.toUInt64 63).toNat = 2 ^ 6 - 1 from by decide, Nat.and_two_pow_sub_one_eq_mod]
  refine ⟨s.toUInt64.toNat % 2 ^ 6, by omega, ?_, by omega⟩
  rw [← Int64.toBitVec_inj, ← BitVec.toNat_inj]
  show (s.toUInt64 &&& Int64.toUInt64 63).toNat = (BitVec.ofNat 64 (s.toUInt64.toNat % 2 ^ 6)).toNat
  rw [e, BitVec.toNat_ofNat]
  omega
end
section
/-! pure pictures: program, forms, contexts, reached statements -/
abbrev cc_F3 : Type := Int32 × Int32 × Int32
abbrev cc_Fm : Type := Option cc_F3
abbrev cc_Cx : Type := Option Int32 × Option Int32
abbrev cc_Lt : Type := Option (Option Int32)
abbrev cc_Pg : Type := Nat × (Nat → Nat) × (Nat → Nat) × (Nat → Nat) × (Nat → Nat) × (Nat → Nat) × (Nat → Int32) × (Nat → Int32)
def cc_N (P : cc_Pg) : Nat := P.1
def cc_L (P : cc_Pg) : Nat → Nat := P.2.1
def cc_K (P : cc_Pg) : Nat → Nat := P.2.2.1
def cc_D (P : cc_Pg) : Nat → Nat := P.2.2.2.1
def cc_S (P : cc_Pg) : Nat → Nat := P.2.2.2.2.1
def cc_T (P : cc_Pg) : Nat → Nat := P.2.2.2.2.2.1
def cc_A (P : cc_Pg) : Nat → Int32 := P.2.2.2.2.2.2.1
def cc_B (P : cc_Pg) : Nat → Int32 := P.2.2.2.2.2.2.2
def cc_Q (P : cc_Pg) (a : Nat) : Nat := (cc_A P a).toNatClampNeg
def cc_G (P : cc_Pg) (a : Nat) : Nat := (cc_B P a).toNatClampNeg
/-- one statement, i-th of its procedure, is well formed -/
def cc_w1 (P : cc_Pg) (a i : Nat) : Prop :=
  cc_K P a ≤ 7 ∧ cc_D P a < 4 ∧ cc_S P a < 4 ∧ cc_T P a < 4 ∧
  (cc_K P a = 6 → cc_Q P a < cc_N P ∧ cc_A P a = nI (cc_Q P a)) ∧
  (cc_K P a = 5 → i + 2 ≤ cc_G P a ∧ cc_G P a ≤ i + 9 ∧ cc_B P a = nI (cc_G P a))
def cc_wf (P : cc_Pg) : Prop := 2 ≤ cc_N P ∧ cc_N P ≤ 6 ∧ (∀ p, p < 6 → cc_L P p ≤ 8) ∧
  ∀ p i, p < 6 → i < cc_L P p → cc_w1 P (p * 8 + i) i
def cc_b (b : Bool) : Int32 := match b with | true => 1 | false => 0
def cc_fo (f : cc_Fm) : Int32 := match f with | none => 1 | some _ => 0
def cc_fk (f : cc_Fm) : Int32 := match f with | none => 0 | some _ => 1
def cc_f0 (f : cc_Fm) : Int32 := match f with | none => 0 | some c => c.1
def cc_f1 (f : cc_Fm) : Int32 := match f with | none => 0 | some c => c.2.1
def cc_fb (f : cc_Fm) : Int32 := match f with | none => 0 | some c => c.2.2
/-- a form at place k of four arrays of X (o: opaque), of Y (o: known) -/
def cc_rx (o g0 g1 gB : Nat → Int32) (k : Nat) (f : cc_Fm) : Prop := o k = cc_fo f ∧ g0 k = cc_f0 f ∧ g1 k = cc_f1 f ∧ gB k = cc_fb f
def cc_ry (o g0 g1 gB : Nat → Int32) (k : Nat) (f : cc_Fm) : Prop := o k = cc_fk f ∧ g0 k = cc_f0 f ∧ g1 k = cc_f1 f ∧ gB k = cc_fb f
/-- contexts -/
def cc_cm (c : cc_Cx) : Int32 := match c with | (none, none) => 0 | (some _, none) => 1 | (none, some _) => 2 | (some _, some _) => 3
def cc_cx (c : cc_Cx) : Int32 := c.1.getD 0
def cc_cy (c : cc_Cx) : Int32 := c.2.getD 0
def cc_gx (c : cc_Cx) (x y : Int32) : Prop := (∀ v, c.1 = some v → x = v) ∧ (∀ v, c.2 = some v → y = v)
def cc_cle (c d : cc_Cx) : Prop := (d.1 = none ∨ c.1 = d.1) ∧ (d.2 = none ∨ c.2 = d.2)
theorem cc_gx0 (c : cc_Cx) : cc_gx c (cc_cx c) (cc_cy c) := by
  refine ⟨fun v h => ?_, fun v h => ?_⟩
  · unfold cc_cx; rw [h]; rfl
  · unfold cc_cy; rw [h]; rfl
theorem cc_cm1 (c : cc_Cx) : (cc_cm c &&& 1 = 0) ↔ c.1 = none := by
  rcases c with ⟨a, b⟩
  rcases a with _ | a <;> rcases b with _ | b
  · exact iff_of_true (by decide) rfl
  · exact iff_of_true (show (2 : Int32) &&& 1 = 0 by decide) rfl
  · exact iff_of_false (show ¬ (1 : Int32) &&& 1 = 0 by decide) (fun h => nomatch h)
  · exact iff_of_false (show ¬ (3 : Int32) &&& 1 = 0 by decide) (fun h => nomatch h)
theorem cc_cm2 (c : cc_Cx) : (cc_cm c &&& 2 = 0) ↔ c.2 = none := by
  rcases c with ⟨a, b⟩
  rcases a with _ | a <;> rcases b with _ | b
  · exact iff_of_true (by decide) rfl
  · exact iff_of_false (show ¬ (2 : Int32) &&& 2 = 0 by decide) (fun h => nomatch h)
  · exact iff_of_true (show (1 : Int32) &&& 2 = 0 by decide) rfl
  · exact iff_of_false (show ¬ (3 : Int32) &&& 2 = 0 by decide) (fun h => nomatch h)
theorem cc_cmE {c d : cc_Cx} (h : cc_cm c = cc_cm d) : (c.1 = none ↔ d.1 = none) ∧ (c.2 = none ↔ d.2 = none) := by
  constructor
  · rw [← cc_cm1, ← cc_cm1, h]
  · rw [← cc_cm2, ← cc_cm2, h]
theorem cc_cxE {c d : cc_Cx} (h : cc_cm c = cc_cm d) (hx : cc_cx c = cc_cx d) (hy : cc_cy c = cc_cy d) : c = d := by
  obtain ⟨h1, h2⟩ := cc_cmE h
  rcases c with ⟨a, b⟩; rcases d with ⟨a', b'⟩
  have e1 : a = a' := by
    rcases a with _ | a <;> rcases a' with _ | a'
    · rfl
    · exact absurd (h1.mp rfl) (fun h => nomatch h)
    · exact absurd (h1.mpr rfl) (fun h => nomatch h)
    · exact congrArg some hx
  have e2 : b = b' := by
    rcases b with _ | b <;> rcases b' with _ | b'
    · rfl
    · exact absurd (h2.mp rfl) (fun h => nomatch h)
    · exact absurd (h2.mpr rfl) (fun h => nomatch h)
    · exact congrArg some hy
  rw [e1, e2]
/-- a form's value in a context -/
def cc_ec (t : cc_F3) (c : cc_Cx) : Prop := (t.1 = 0 ∨ c.1 ≠ none) ∧ (t.2.1 = 0 ∨ c.2 ≠ none)
def cc_ev (f : cc_Fm) (c : cc_Cx) : Option Int32 := match f with
  | none => none
  | some t => if (t.1 = 0 ∨ c.1 ≠ none) ∧ (t.2.1 = 0 ∨ c.2 ≠ none) then some (t.1 * cc_cx c + t.2.1 * cc_cy c + t.2.2) else none
theorem cc_ev_n (c : cc_Cx) : cc_ev none c = none := rfl
theorem cc_ev_t {t : cc_F3} {c : cc_Cx} (h : cc_ec t c) : cc_ev (some t) c = some (t.1 * cc_cx c + t.2.1 * cc_cy c + t.2.2) := if_pos h
theorem cc_ev_f {t : cc_F3} {c : cc_Cx} (h : ¬ cc_ec t c) : cc_ev (some t) c = none := if_neg h
theorem cc_mul0 (x : Int32) : 0 * x = 0 := by grind
theorem cc_ec_g {t : cc_F3} {c : cc_Cx} {x y : Int32} (h : cc_ec t c) (g : cc_gx c x y) : t.1 * x + t.2.1 * y = t.1 * cc_cx c + t.2.1 * cc_cy c := by
  have h1 : t.1 * x = t.1 * cc_cx c := by
    rcases h.1 with z | z
    · rw [z, cc_mul0, cc_mul0]
    · cases e : c.1 with
      | none => exact absurd e z
      | some v => rw [g.1 v e]; unfold cc_cx; rw [e]; rfl
  have h2 : t.2.1 * y = t.2.1 * cc_cy c := by
    rcases h.2 with z | z
    · rw [z, cc_mul0, cc_mul0]
    · cases e : c.2 with
      | none => exact absurd e z
      | some v => rw [g.2 v e]; unfold cc_cy; rw [e]; rfl
  rw [h1, h2]
theorem cc_ev_v {f : cc_Fm} {c : cc_Cx} {x y v : Int32} (h : cc_ev f c = some v) (g : cc_gx c x y) : cc_f0 f * x + cc_f1 f * y + cc_fb f = v := by
  cases f with
  | none => exact nomatch h
  | some t =>
    rcases Classical.em (cc_ec t c) with z | z
    · rw [cc_ev_t z] at h
      show t.1 * x + t.2.1 * y + t.2.2 = v
      rw [cc_ec_g z g]; exact Option.some.inj h
    · rw [cc_ev_f z] at h; exact nomatch h
theorem cc_ev_mono {f : cc_Fm} {c d : cc_Cx} (h : cc_cle c d) : cc_ev f d = none ∨ cc_ev f c = cc_ev f d := by
  cases f with
  | none => exact Or.inl rfl
  | some t =>
    rcases Classical.em (cc_ec t d) with z | z
    · right
      have z1 : t.1 = 0 ∨ (c.1 ≠ none ∧ c.1 = d.1) := by
        rcases z.1 with y | y
        · exact Or.inl y
        · rcases h.1 with w | w
          · exact absurd w y
          · exact Or.inr ⟨by rw [w]; exact y, w⟩
      have z2 : t.2.1 = 0 ∨ (c.2 ≠ none ∧ c.2 = d.2) := by
        rcases z.2 with y | y
        · exact Or.inl y
        · rcases h.2 with w | w
          · exact absurd w y
          · exact Or.inr ⟨by rw [w]; exact y, w⟩
      have zc : cc_ec t c := ⟨z1.imp id And.left, z2.imp id And.left⟩
      rw [cc_ev_t z, cc_ev_t zc]
      have e1 : t.1 * cc_cx c = t.1 * cc_cx d := by
        rcases z1 with y | y
        · rw [y, cc_mul0, cc_mul0]
        · unfold cc_cx; rw [y.2]
      have e2 : t.2.1 * cc_cy c = t.2.1 * cc_cy d := by
        rcases z2 with y | y
        · rw [y, cc_mul0, cc_mul0]
        · unfold cc_cy; rw [y.2]
      rw [e1, e2]
    · exact Or.inl (cc_ev_f z)
/-- what a statement's result looks like -/
def cc_o2 (k : Nat) (f h : cc_F3) : cc_Fm :=
  if k = 0 then some (f.1 + h.1, f.2.1 + h.2.1, f.2.2 + h.2.2)
  else if k = 1 then some (f.1 - h.1, f.2.1 - h.2.1, f.2.2 - h.2.2)
  else if k = 2 then (if f.1 = 0 ∧ f.2.1 = 0 then some (f.2.2 * h.1, f.2.2 * h.2.1, f.2.2 * h.2.2)
    else if h.1 = 0 ∧ h.2.1 = 0 then some (h.2.2 * f.1, h.2.2 * f.2.1, h.2.2 * f.2.2) else none)
  else (if (f.1 = 0 ∧ f.2.1 = 0) ∧ (h.1 = 0 ∧ h.2.1 = 0) then some (0, 0, if h.2.2 ≤ f.2.2 then 0 else 1) else none)
def cc_bd (f g : cc_Fm) (k : Nat) : cc_Fm := match f, g with
  | some t, some u => cc_o2 k t u
  | _, _ => none
def cc_ln (f : cc_Fm) (a b : Int32) : cc_Fm := if a = 0 then some (0, 0, b) else match f with
  | none => none
  | some t => some (a * t.1, a * t.2.1, a * t.2.2 + b)
def cc_tf (P : cc_Pg) (g : Nat → cc_Fm) (a : Nat) : cc_Fm :=
  if cc_K P a = 4 then cc_ln (g (cc_S P a)) (cc_A P a) (cc_B P a)
  else if 4 < cc_K P a then none
  else cc_bd (g (cc_S P a)) (g (cc_T P a)) (cc_K P a)
def cc_af (P : cc_Pg) (g : Nat → cc_Fm) (a v : Nat) : cc_Fm :=
  if cc_K P a ≠ 5 ∧ cc_K P a ≠ 7 ∧ v = cc_D P a then cc_tf P g a else g v
/-- a value fits a form -/
def cc_hf (f : cc_Fm) (x y z : Int32) : Prop := ∀ t, f = some t → z = t.1 * x + t.2.1 * y + t.2.2
def cc_op (k : Nat) (l r : Int32) : Int32 := if k = 0 then l + r else if k = 1 then l - r else if k = 2 then l * r else if r ≤ l then 0 else 1
theorem cc_hf_n (x y z : Int32) : cc_hf none x y z := fun _ h => nomatch h
theorem cc_ln_s {f : cc_Fm} {a b x y z : Int32} (h : cc_hf f x y z) : cc_hf (cc_ln f a b) x y (a * z + b) := by
  unfold cc_ln
  split
  · rename_i e
    intro t ht
    cases Option.some.inj ht
    rw [e]; dsimp only; grind
  · cases f with
    | none => exact cc_hf_n _ _ _
    | some u =>
      intro t ht
      have e := h u rfl
      cases Option.some.inj ht
      dsimp only
      rw [e]; grind
theorem cc_o2_s {k : Nat} {f h : cc_F3} {x y l r : Int32} (hl : l = f.1 * x + f.2.1 * y + f.2.2) (hr : r = h.1 * x + h.2.1 * y + h.2.2) : cc_hf (cc_o2 k f h) x y (cc_op k l r) := by
  unfold cc_o2 cc_op
  split
  · intro t ht; cases Option.some.inj ht; dsimp only; rw [hl, hr]; grind
  · split
    · intro t ht; cases Option.some.inj ht; dsimp only; rw [hl, hr]; grind
    · split
      · split
        · rename_i e
          intro t ht; cases Option.some.inj ht; dsimp only; rw [hl, hr, e.1, e.2]; grind
        · split
          · rename_i e
            intro t ht; cases Option.some.inj ht; dsimp only; rw [hl, hr, e.1, e.2]; grind
          · exact cc_hf_n _ _ _
      · split
        · rename_i e
          obtain ⟨⟨e1, e2⟩, e3, e4⟩ := e
          intro t ht; cases Option.some.inj ht
          have l' : l = f.2.2 := by rw [hl, e1, e2]; grind
          have r' : r = h.2.2 := by rw [hr, e3, e4]; grind
          dsimp only; rw [l', r']; grind
        · exact cc_hf_n _ _ _
theorem cc_bd_s {f h : cc_Fm} {k : Nat} {x y l r : Int32} (hl : cc_hf f x y l) (hr : cc_hf h x y r) : cc_hf (cc_bd f h k) x y (cc_op k l r) := by
  cases f with
  | none => exact cc_hf_n _ _ _
  | some t =>
    cases h with
    | none => exact cc_hf_n _ _ _
    | some u => exact cc_o2_s (hl t rfl) (hr u rfl)
/-- in a context that the arguments meet, a known form is the value -/
theorem cc_hf_ev {f : cc_Fm} {c : cc_Cx} {x y z v : Int32} (h : cc_hf f x y z) (g : cc_gx c x y) (e : cc_ev f c = some v) : z = v := by
  cases f with
  | none => exact nomatch e
  | some t =>
    have h2 := cc_ev_v e g
    rw [h t rfl]; exact h2
end
section
/-! forms before every statement; reached statements -/
def cc_jn (f h : cc_Fm) : cc_Fm := if f = h then f else none
def cc_jo (s : Option cc_Fm) (h : cc_Fm) : cc_Fm := match s with | none => h | some f => cc_jn f h
theorem cc_jn_some {f h : cc_Fm} {c : cc_F3} : cc_jn f h = some c ↔ f = some c ∧ h = some c := by
  unfold cc_jn
  constructor
  · intro e
    split at e
    · rename_i z; exact ⟨e, z ▸ e⟩
    · exact nomatch e
  · rintro ⟨a, b⟩; rw [a, b, if_pos rfl]
theorem cc_fm_ext {f h : cc_Fm} (e : ∀ c, f = some c ↔ h = some c) : f = h := by
  cases f with
  | none => cases h with
    | none => rfl
    | some c => exact (nomatch (e c).mpr rfl)
  | some c => exact ((e c).mp rfl).symm
theorem cc_jn_comm (f h : cc_Fm) : cc_jn f h = cc_jn h f := cc_fm_ext fun c => by
  rw [cc_jn_some, cc_jn_some]; exact And.comm
theorem cc_jn_3 (f h k : cc_Fm) : cc_jn (cc_jn f h) k = cc_jn (cc_jn f k) h := cc_fm_ext fun c => by
  rw [cc_jn_some, cc_jn_some, cc_jn_some, cc_jn_some]
  constructor
  · rintro ⟨⟨a, b⟩, d⟩; exact ⟨⟨a, d⟩, b⟩
  · rintro ⟨⟨a, b⟩, d⟩; exact ⟨⟨a, d⟩, b⟩
theorem cc_jo_3 (s : Option cc_Fm) (a g : cc_Fm) : cc_jn (cc_jo s a) g = cc_jo (some (cc_jo s g)) a := by
  cases s with
  | none => exact cc_jn_comm a g
  | some f => exact cc_jn_3 f a g
theorem cc_jn_or (f h : cc_Fm) : cc_jn f h = none ∨ cc_jn f h = h := by
  unfold cc_jn
  split
  · rename_i z; exact Or.inr z
  · exact Or.inl rfl
theorem cc_jn_ol (f h : cc_Fm) : cc_jn f h = none ∨ cc_jn f h = f := by
  unfold cc_jn
  split
  · exact Or.inr rfl
  · exact Or.inl rfl
theorem cc_jo_or (s : Option cc_Fm) (h : cc_Fm) : cc_jo s h = none ∨ cc_jo s h = h := by
  cases s with
  | none => exact Or.inr rfl
  | some f => exact cc_jn_or f h
def cc_sk (P : cc_Pg) (p : Nat) (M : Nat → Nat → cc_Fm) (j v : Nat) : Nat → Option cc_Fm
  | 0 => none
  | i + 1 => if cc_K P (p * 8 + i) = 5 ∧ cc_G P (p * 8 + i) = j then some (cc_jo (cc_sk P p M j v i) (M i v)) else cc_sk P p M j v i
theorem cc_sk_t {P : cc_Pg} {p : Nat} {M : Nat → Nat → cc_Fm} {j v i : Nat} (h : cc_K P (p * 8 + i) = 5) (g : cc_G P (p * 8 + i) = j) : cc_sk P p M j v (i + 1) = some (cc_jo (cc_sk P p M j v i) (M i v)) := by
  rw [cc_sk, if_pos ⟨h, g⟩]
theorem cc_sk_f {P : cc_Pg} {p : Nat} {M : Nat → Nat → cc_Fm} {j v i : Nat} (h : ¬ (cc_K P (p * 8 + i) = 5 ∧ cc_G P (p * 8 + i) = j)) : cc_sk P p M j v (i + 1) = cc_sk P p M j v i := by
  rw [cc_sk, if_neg h]
theorem cc_sk_cg {P : cc_Pg} {p : Nat} {M M' : Nat → Nat → cc_Fm} {j v : Nat} : ∀ n, (∀ i, i < n → M i v = M' i v) → cc_sk P p M j v n = cc_sk P p M' j v n
  | 0, _ => rfl
  | n + 1, h => by
    have ih := cc_sk_cg (P := P) (p := p) (M := M) (M' := M') (j := j) (v := v) n (fun i hi => h i (by omega))
    rw [cc_sk, cc_sk, ih, h n (by omega)]
/-- a skip to j leaves its mark in the join -/
theorem cc_sk_in {P : cc_Pg} {p : Nat} {M : Nat → Nat → cc_Fm} {j v i : Nat} (h : cc_K P (p * 8 + i) = 5) (g : cc_G P (p * 8 + i) = j) : ∀ n, i < n → ∃ s, cc_sk P p M j v n = some s ∧ (s = none ∨ s = M i v)
  | 0, hn => absurd hn (by omega)
  | n + 1, hn => by
    rcases Nat.lt_or_ge i n with z | z
    · obtain ⟨s, e, hs⟩ := cc_sk_in (P := P) (p := p) (M := M) (j := j) (v := v) h g n z
      by_cases q : cc_K P (p * 8 + n) = 5 ∧ cc_G P (p * 8 + n) = j
      · refine ⟨_, cc_sk_t q.1 q.2, ?_⟩
        rw [e]
        show cc_jn s (M n v) = none ∨ cc_jn s (M n v) = M i v
        rcases cc_jn_ol s (M n v) with y | y
        · exact Or.inl y
        · rw [y]; exact hs
      · exact ⟨s, (cc_sk_f q).trans e, hs⟩
    · have e : i = n := by omega
      subst e
      exact ⟨_, cc_sk_t h g, cc_jo_or _ _⟩
/-- whether there is a join yet doesn't hang on the forms -/
theorem cc_sk_is {P : cc_Pg} {p : Nat} {M M' : Nat → Nat → cc_Fm} {j v v' : Nat} : ∀ n, (cc_sk P p M j v n = none ↔ cc_sk P p M' j v' n = none)
  | 0 => Iff.rfl
  | n + 1 => by
    by_cases q : cc_K P (p * 8 + n) = 5 ∧ cc_G P (p * 8 + n) = j
    · rw [cc_sk_t q.1 q.2, cc_sk_t q.1 q.2]; exact iff_of_false (fun h => nomatch h) (fun h => nomatch h)
    · rw [cc_sk_f q, cc_sk_f q]; exact cc_sk_is n
def cc_in (v : Nat) : cc_Fm := some (if v = 0 then 1 else 0, if v = 1 then 1 else 0, 0)
def cc_tb (P : cc_Pg) (p : Nat) : Nat → Nat → Nat → cc_Fm
  | 0 => fun _ v => cc_in v
  | j + 1 => fun k v => if k ≤ j then cc_tb P p j k v else cc_jo (cc_sk P p (cc_tb P p j) (j + 1) v j) (cc_af P (cc_tb P p j j) (p * 8 + j) v)
def cc_fm (P : cc_Pg) (a v : Nat) : cc_Fm := cc_tb P (a / 8) (a % 8) (a % 8) v
theorem cc_tb_st (P : cc_Pg) (p v : Nat) {i : Nat} : ∀ k, i ≤ k → cc_tb P p k i v = cc_tb P p i i v
  | 0, h => by have e : i = 0 := by omega
               subst e; rfl
  | k + 1, h => by
    rcases Nat.lt_or_ge i (k + 1) with z | z
    · have : cc_tb P p (k + 1) i v = cc_tb P p k i v := by
        show (if i ≤ k then _ else _) = _
        rw [if_pos (by omega)]
      rw [this]; exact cc_tb_st P p v k (by omega)
    · have e : i = k + 1 := by omega
      subst e; rfl
theorem cc_fm_at (P : cc_Pg) (p v : Nat) {i : Nat} (hi : i < 8) : cc_fm P (p * 8 + i) v = cc_tb P p i i v := by
  unfold cc_fm
  have e1 : (p * 8 + i) / 8 = p := by omega
  have e2 : (p * 8 + i) % 8 = i := by omega
  rw [e1, e2]
theorem cc_fm_0 (P : cc_Pg) (p v : Nat) : cc_fm P (p * 8 + 0) v = cc_in v := cc_fm_at P p v (by omega)
theorem cc_fm_s (P : cc_Pg) (p v : Nat) {j : Nat} (hj : j + 1 < 8) : cc_fm P (p * 8 + (j + 1)) v = cc_jo (cc_sk P p (fun i w => cc_fm P (p * 8 + i) w) (j + 1) v j) (cc_af P (cc_fm P (p * 8 + j)) (p * 8 + j) v) := by
  rw [cc_fm_at P p v hj]
  show (if j + 1 ≤ j then _ else _) = _
  rw [if_neg (by omega)]
  have e1 : cc_tb P p j j = cc_fm P (p * 8 + j) := by
    funext w; exact (cc_fm_at P p w (by omega)).symm
  have e2 : cc_sk P p (cc_tb P p j) (j + 1) v j = cc_sk P p (fun i w => cc_fm P (p * 8 + i) w) (j + 1) v j :=
    cc_sk_cg j fun i hi => by rw [cc_fm_at P p v (by omega)]; exact cc_tb_st P p v j (by omega)
  rw [e1, e2]
/-- forms after a statement hold at the next one -/
theorem cc_fm_ft (P : cc_Pg) (p v : Nat) {j : Nat} (hj : j + 1 < 8) : cc_fm P (p * 8 + (j + 1)) v = none ∨ cc_fm P (p * 8 + (j + 1)) v = cc_af P (cc_fm P (p * 8 + j)) (p * 8 + j) v := by
  rw [cc_fm_s P p v hj]; exact cc_jo_or _ _
theorem cc_fm_sk (P : cc_Pg) (p v : Nat) {i j : Nat} (hj : j < 8) (hi : i + 1 < j) (h : cc_K P (p * 8 + i) = 5) (g : cc_G P (p * 8 + i) = j) : cc_fm P (p * 8 + j) v = none ∨ cc_fm P (p * 8 + j) v = cc_fm P (p * 8 + i) v := by
  obtain ⟨m, rfl⟩ : ∃ m, j = m + 1 := ⟨j - 1, by omega⟩
  obtain ⟨s, e, hs⟩ := cc_sk_in (P := P) (p := p) (M := fun i w => cc_fm P (p * 8 + i) w) (j := m + 1) (v := v) h g m (by omega)
  rw [cc_fm_s P p v hj, e]
  show cc_jn s _ = none ∨ cc_jn s _ = _
  rcases cc_jn_ol s (cc_af P (cc_fm P (p * 8 + m)) (p * 8 + m) v) with y | y
  · exact Or.inl y
  · rw [y]; exact hs
/-- successors -/
def cc_sc (P : cc_Pg) (a i : Nat) (c : cc_Cx) (j : Nat) : Bool :=
  if cc_K P a = 5 then (match cc_ev (cc_fm P a (cc_S P a)) c with
    | none => decide (j = i + 1) || decide (j = cc_G P a)
    | some v => if v = cc_A P a then decide (j = cc_G P a) else decide (j = i + 1))
  else decide (j = i + 1)
def cc_rs (P : cc_Pg) (p : Nat) (c : cc_Cx) : Nat → Nat → Bool
  | 0, j => decide (j = 0)
  | i + 1, j => cc_rs P p c i j || (cc_rs P p c i i && cc_sc P (p * 8 + i) i c j)
def cc_rc (P : cc_Pg) (p : Nat) (c : cc_Cx) (j : Nat) : Bool := cc_rs P p c (cc_L P p) j
theorem cc_sc_n {P : cc_Pg} {a i j : Nat} {c : cc_Cx} (h : cc_K P a ≠ 5) : cc_sc P a i c j = decide (j = i + 1) := by
  unfold cc_sc; rw [if_neg h]
theorem cc_sc_u {P : cc_Pg} {a i j : Nat} {c : cc_Cx} (h : cc_K P a = 5) (e : cc_ev (cc_fm P a (cc_S P a)) c = none) : cc_sc P a i c j = (decide (j = i + 1) || decide (j = cc_G P a)) := by
  unfold cc_sc; rw [if_pos h, e]
theorem cc_sc_t {P : cc_Pg} {a i j : Nat} {c : cc_Cx} (h : cc_K P a = 5) (e : cc_ev (cc_fm P a (cc_S P a)) c = some (cc_A P a)) : cc_sc P a i c j = decide (j = cc_G P a) := by
  unfold cc_sc; rw [if_pos h, e]; exact if_pos rfl
theorem cc_sc_f {P : cc_Pg} {a i j : Nat} {c : cc_Cx} {v : Int32} (h : cc_K P a = 5) (e : cc_ev (cc_fm P a (cc_S P a)) c = some v) (hv : v ≠ cc_A P a) : cc_sc P a i c j = decide (j = i + 1) := by
  unfold cc_sc; rw [if_pos h, e]; exact if_neg hv
theorem cc_sc_gt {P : cc_Pg} {a i j : Nat} {c : cc_Cx} (w : cc_w1 P a i) (h : cc_sc P a i c j = true) : i < j ∧ j ≤ i + 9 := by
  by_cases k : cc_K P a = 5
  · obtain ⟨w1, w2, -⟩ := w.2.2.2.2.2 k
    cases e : cc_ev (cc_fm P a (cc_S P a)) c with
    | none =>
      rw [cc_sc_u k e, Bool.or_eq_true, decide_eq_true_iff, decide_eq_true_iff] at h
      omega
    | some v =>
      by_cases z : v = cc_A P a
      · subst z; rw [cc_sc_t k e, decide_eq_true_iff] at h; omega
      · rw [cc_sc_f k e z, decide_eq_true_iff] at h; omega
  · rw [cc_sc_n k, decide_eq_true_iff] at h; omega
theorem cc_sc_mono {P : cc_Pg} {a i j : Nat} {c d : cc_Cx} (m : cc_cle c d) (h : cc_sc P a i c j = true) : cc_sc P a i d j = true := by
  by_cases k : cc_K P a = 5
  · rcases cc_ev_mono (f := cc_fm P a (cc_S P a)) m with e | e
    · rw [cc_sc_u k e, Bool.or_eq_true, decide_eq_true_iff, decide_eq_true_iff]
      cases e' : cc_ev (cc_fm P a (cc_S P a)) c with
      | none => rw [cc_sc_u k e', Bool.or_eq_true, decide_eq_true_iff, decide_eq_true_iff] at h; exact h
      | some v =>
        by_cases z : v = cc_A P a
        · subst z; rw [cc_sc_t k e', decide_eq_true_iff] at h; exact Or.inr h
        · rw [cc_sc_f k e' z, decide_eq_true_iff] at h; exact Or.inl h
    · unfold cc_sc at h ⊢; rw [← e]; exact h
  · rw [cc_sc_n k] at h ⊢; exact h
theorem cc_rs_s (P : cc_Pg) (p : Nat) (c : cc_Cx) (i j : Nat) : cc_rs P p c (i + 1) j = (cc_rs P p c i j || (cc_rs P p c i i && cc_sc P (p * 8 + i) i c j)) := rfl
theorem cc_rs_up {P : cc_Pg} {p : Nat} {c : cc_Cx} {j k : Nat} (h : cc_rs P p c k j = true) : ∀ n, k ≤ n → cc_rs P p c n j = true
  | 0, z => by have e : k = 0 := by omega
               rw [e] at h; exact h
  | n + 1, z => by
    rcases Nat.lt_or_ge k (n + 1) with y | y
    · rw [cc_rs_s, cc_rs_up h n (by omega)]; rfl
    · have e : k = n + 1 := by omega
      rw [e] at h; exact h
theorem cc_rs_st {P : cc_Pg} (W : cc_wf P) {p : Nat} (hp : p < 6) {c : cc_Cx} {j : Nat} : ∀ n, j ≤ n → n ≤ cc_L P p → cc_rs P p c n j = cc_rs P p c j j
  | 0, z, _ => by have e : j = 0 := by omega
                  rw [e]
  | n + 1, z, hn => by
    rcases Nat.lt_or_ge j (n + 1) with y | y
    · rw [cc_rs_s, cc_rs_st W hp n (by omega) (by omega)]
      have e : cc_sc P (p * 8 + n) n c j = false := by
        cases q : cc_sc P (p * 8 + n) n c j with
        | false => rfl
        | true => have := cc_sc_gt (W.2.2.2 p n hp (by omega)) q; omega
      rw [e, Bool.and_false, Bool.or_false]
    · have e : j = n + 1 := by omega
      rw [e]
theorem cc_rs_16 {P : cc_Pg} (W : cc_wf P) {p : Nat} (hp : p < 6) {c : cc_Cx} {j : Nat} : ∀ n, n ≤ cc_L P p → cc_rs P p c n j = true → j ≤ n + 8
  | 0, _, h => by have := of_decide_eq_true h; omega
  | n + 1, hn, h => by
    rw [cc_rs_s, Bool.or_eq_true, Bool.and_eq_true] at h
    rcases h with h | h
    · have := cc_rs_16 W hp n (by omega) h; omega
    · have := cc_sc_gt (W.2.2.2 p n hp (by omega)) h.2; omega
theorem cc_rs_mono {P : cc_Pg} {p : Nat} {c d : cc_Cx} (m : cc_cle c d) : ∀ n j, cc_rs P p c n j = true → cc_rs P p d n j = true
  | 0, _, h => h
  | n + 1, j, h => by
    rw [cc_rs_s, Bool.or_eq_true, Bool.and_eq_true] at h ⊢
    rcases h with h | h
    · exact Or.inl (cc_rs_mono m n j h)
    · exact Or.inr ⟨cc_rs_mono m n n h.1, cc_sc_mono m h.2⟩
theorem cc_rc_mono {P : cc_Pg} {p : Nat} {c d : cc_Cx} {j : Nat} (m : cc_cle c d) (h : cc_rc P p c j = true) : cc_rc P p d j = true := cc_rs_mono m _ _ h
theorem cc_rc_0 (P : cc_Pg) (p : Nat) (c : cc_Cx) : cc_rc P p c 0 = true := cc_rs_up (k := 0) rfl _ (Nat.zero_le _)
theorem cc_rc_at {P : cc_Pg} (W : cc_wf P) {p : Nat} (hp : p < 6) {c : cc_Cx} {j : Nat} (hj : j ≤ cc_L P p) : cc_rc P p c j = cc_rs P p c j j := cc_rs_st W hp _ hj (Nat.le_refl _)
theorem cc_rc_s {P : cc_Pg} (W : cc_wf P) {p : Nat} (hp : p < 6) {c : cc_Cx} {i j : Nat} (hi : i < cc_L P p) (h : cc_rc P p c i = true) (s : cc_sc P (p * 8 + i) i c j = true) : cc_rc P p c j = true := by
  rw [cc_rc_at W hp (by omega)] at h
  refine cc_rs_up (k := i + 1) ?_ _ hi
  rw [cc_rs_s, h, s]; exact Bool.or_true _
/-- counting -/
def cc_ct (f : Nat → Bool) : Nat → Nat
  | 0 => 0
  | n + 1 => cc_ct f n + (if f n = true then 1 else 0)
theorem cc_ct_le (f : Nat → Bool) : ∀ n, cc_ct f n ≤ n
  | 0 => Nat.le_refl _
  | n + 1 => by have := cc_ct_le f n; rw [cc_ct]; split <;> omega
theorem cc_ct_up (f : Nat → Bool) {i : Nat} : ∀ n, i ≤ n → cc_ct f i ≤ cc_ct f n
  | 0, h => by have e : i = 0 := by omega
               rw [e]; exact Nat.le_refl _
  | n + 1, h => by
    rcases Nat.lt_or_ge i (n + 1) with y | y
    · have := cc_ct_up f n (i := i) (by omega); rw [cc_ct]; omega
    · have e : i = n + 1 := by omega
      rw [e]; exact Nat.le_refl _
theorem cc_ct_lt {f : Nat → Bool} {i n : Nat} (hi : i < n) (h : f i = true) : cc_ct f i < cc_ct f n := by
  have a := cc_ct_up f (i := i + 1) n hi
  rw [cc_ct, if_pos h] at a; omega
theorem cc_ct_cg {f g : Nat → Bool} : ∀ n, (∀ i, i < n → f i = g i) → cc_ct f n = cc_ct g n
  | 0, _ => rfl
  | n + 1, h => by rw [cc_ct, cc_ct, cc_ct_cg n (fun i hi => h i (by omega)), h n (by omega)]
theorem cc_ct_0 {f : Nat → Bool} {a : Nat} : ∀ n, a ≤ n → (∀ i, a ≤ i → i < n → f i = false) → cc_ct f n = cc_ct f a
  | 0, h, _ => by have e : a = 0 := by omega
                  rw [e]
  | n + 1, h, z => by
    rcases Nat.lt_or_ge a (n + 1) with y | y
    · rw [cc_ct, cc_ct_0 n (by omega) (fun i h1 h2 => z i h1 (by omega)), z n (by omega) (by omega)]; rfl
    · have e : a = n + 1 := by omega
      rw [e]
def cc_sz (P : cc_Pg) (p : Nat) (c : cc_Cx) : Nat := 1 + cc_ct (cc_rc P p c) (cc_L P p)
end
section
/-! merged facts: the least closed assignment -/
def cc_lc (a : cc_Lt) : Option Int32 := match a with | none => none | some x => x
def cc_lf (a : cc_Lt) : Int32 := match a with | none => 1 | some none => 2 | some (some _) => 3
def cc_lv (a : cc_Lt) : Int32 := (cc_lc a).getD 0
def cc_mt (a : cc_Lt) (x : Option Int32) : cc_Lt := match a with | none => some x | some y => some (if y = x then y else none)
def cc_le (a b : cc_Lt) : Prop := a = none ∨ b = some none ∨ a = b
def cc_h (a : cc_Lt) : Nat := match a with | none => 0 | some none => 2 | some (some _) => 1
theorem cc_lf_1 {a : cc_Lt} : cc_lf a = 1 ↔ a = none := by
  rcases a with _ | _ | v
  · exact iff_of_true rfl rfl
  · exact iff_of_false (show ¬ (2 : Int32) = 1 by decide) (fun h => nomatch h)
  · exact iff_of_false (show ¬ (3 : Int32) = 1 by decide) (fun h => nomatch h)
theorem cc_lf_3 {a : cc_Lt} : cc_lf a = 3 ↔ cc_lc a ≠ none := by
  rcases a with _ | _ | v
  · exact iff_of_false (show ¬ (1 : Int32) = 3 by decide) (fun h => h rfl)
  · exact iff_of_false (show ¬ (2 : Int32) = 3 by decide) (fun h => h rfl)
  · exact iff_of_true rfl (fun h => nomatch h)
theorem cc_le_r (a : cc_Lt) : cc_le a a := Or.inr (Or.inr rfl)
theorem cc_le_tr {a b c : cc_Lt} (h : cc_le a b) (k : cc_le b c) : cc_le a c := by
  rcases h with h | h | h
  · exact Or.inl h
  · rcases k with k | k | k
    · rw [h] at k; exact nomatch k
    · exact Or.inr (Or.inl k)
    · exact Or.inr (Or.inl (k ▸ h))
  · rw [h]; exact k
theorem cc_le_as {a b : cc_Lt} (h : cc_le a b) (k : cc_le b a) : a = b := by
  rcases h with h | h | h
  · rcases k with k | k | k
    · rw [h, k]
    · rw [h] at k; exact nomatch k
    · exact k.symm
  · rcases k with k | k | k
    · rw [h] at k; exact nomatch k
    · rw [h, k]
    · exact k.symm
  · exact h
theorem cc_mt_l (a : cc_Lt) (x : Option Int32) : cc_le a (cc_mt a x) := by
  rcases a with _ | y
  · exact Or.inl rfl
  · unfold cc_mt; dsimp only
    by_cases e : y = x
    · rw [if_pos e]; exact cc_le_r _
    · rw [if_neg e]; exact Or.inr (Or.inl rfl)
theorem cc_mt_r (a : cc_Lt) (x : Option Int32) : cc_le (some x) (cc_mt a x) := by
  rcases a with _ | y
  · exact cc_le_r _
  · unfold cc_mt; dsimp only
    by_cases e : y = x
    · rw [if_pos e, e]; exact cc_le_r _
    · rw [if_neg e]; exact Or.inr (Or.inl rfl)
theorem cc_mt_u {a b : cc_Lt} {x : Option Int32} (h : cc_le a b) (k : cc_le (some x) b) : cc_le (cc_mt a x) b := by
  rcases a with _ | y
  · exact k
  · unfold cc_mt; dsimp only
    by_cases e : y = x
    · rw [if_pos e]; exact h
    · rw [if_neg e]
      right; left
      rcases h with h | h | h
      · exact nomatch h
      · exact h
      · rcases k with k | k | k
        · exact nomatch k
        · exact k
        · rw [← h] at k; exact absurd (Option.some.inj k).symm e
theorem cc_mt_h (a : cc_Lt) (x : Option Int32) : cc_mt a x = a ∨ cc_h a < cc_h (cc_mt a x) := by
  rcases a with _ | _ | v
  · right
    rcases x with _ | v
    · exact (by decide : 0 < 2)
    · exact (by decide : 0 < 1)
  · left
    unfold cc_mt; dsimp only; split <;> rfl
  · unfold cc_mt; dsimp only
    by_cases e : some v = x
    · rw [if_pos e]; exact Or.inl rfl
    · rw [if_neg e]; exact Or.inr (by decide : 1 < 2)
theorem cc_mt_n (a : cc_Lt) (x : Option Int32) : cc_mt a x ≠ none := by
  rcases a with _ | y <;> exact fun h => nomatch h
theorem cc_mt_le {a : cc_Lt} {x : Option Int32} (h : cc_le (some x) a) : cc_mt a x = a := by
  rcases h with h | h | h
  · exact nomatch h
  · rw [h]; unfold cc_mt; dsimp only; split <;> rfl
  · rw [← h]; unfold cc_mt; dsimp only; rw [if_pos rfl]
theorem cc_h_2 (a : cc_Lt) : cc_h a ≤ 2 := by
  rcases a with _ | _ | v
  · exact (by decide : 0 ≤ 2)
  · exact (by decide : 2 ≤ 2)
  · exact (by decide : 1 ≤ 2)
def cc_hs (F : Nat → cc_Lt) : Nat → Nat
  | 0 => 0
  | n + 1 => cc_hs F n + cc_h (F n)
theorem cc_hs_le (F : Nat → cc_Lt) : ∀ n, cc_hs F n ≤ 2 * n
  | 0 => Nat.le_refl _
  | n + 1 => by have := cc_hs_le F n; have := cc_h_2 (F n); rw [cc_hs]; omega
theorem cc_hs_cg {F G : Nat → cc_Lt} : ∀ n, (∀ k, k < n → F k = G k) → cc_hs F n = cc_hs G n
  | 0, _ => rfl
  | n + 1, h => by rw [cc_hs, cc_hs, cc_hs_cg n (fun k hk => h k (by omega)), h n (by omega)]
/-- G is F with a rise at some places -/
def cc_rise (F G : Nat → cc_Lt) : Prop := ∀ k, F k = G k ∨ cc_h (F k) < cc_h (G k)
theorem cc_hs_up {F G : Nat → cc_Lt} (r : cc_rise F G) : ∀ n, cc_hs F n ≤ cc_hs G n
  | 0 => Nat.le_refl _
  | n + 1 => by
    have := cc_hs_up r n
    rw [cc_hs, cc_hs]
    rcases r n with e | e
    · rw [e]; omega
    · omega
theorem cc_hs_lt {F G : Nat → cc_Lt} (r : cc_rise F G) {k : Nat} (hk : F k ≠ G k) : ∀ n, k < n → cc_hs F n < cc_hs G n
  | 0, h => by omega
  | n + 1, h => by
    rw [cc_hs, cc_hs]
    rcases Nat.lt_or_ge k n with z | z
    · have := cc_hs_lt r hk n z
      rcases r n with e | e
      · rw [e]; omega
      · omega
    · have e : k = n := by omega
      subst e
      have := cc_hs_up r k
      rcases r k with e | e
      · exact absurd e hk
      · omega
theorem cc_rise_r (F : Nat → cc_Lt) : cc_rise F F := fun _ => Or.inl rfl
theorem cc_rise_t {F G H : Nat → cc_Lt} (a : cc_rise F G) (b : cc_rise G H) : cc_rise F H := fun k => by
  rcases a k with x | x
  · rw [x]; exact b k
  · rcases b k with y | y
    · rw [← y]; exact Or.inr x
    · exact Or.inr (Nat.lt_trans x y)
def cc_fc (F : Nat → cc_Lt) (p : Nat) : cc_Cx := (cc_lc (F (2 * p)), cc_lc (F (2 * p + 1)))
def cc_ar (P : cc_Pg) (a : Nat) (c : cc_Cx) : cc_Cx := (cc_ev (cc_fm P a (cc_S P a)) c, cc_ev (cc_fm P a (cc_T P a)) c)
/-- one argument into one fact -/
def cc_a1 (F : Nat → cc_Lt) (k : Nat) (x : Option Int32) : Nat → cc_Lt := fun j => if j = k then cc_mt (F j) x else F j
theorem cc_a1_s (F : Nat → cc_Lt) (k : Nat) (x : Option Int32) : cc_a1 F k x k = cc_mt (F k) x := if_pos rfl
theorem cc_a1_n (F : Nat → cc_Lt) {k j : Nat} (x : Option Int32) (h : j ≠ k) : cc_a1 F k x j = F j := if_neg h
theorem cc_a1_r (F : Nat → cc_Lt) (k : Nat) (x : Option Int32) : cc_rise F (cc_a1 F k x) := fun j => by
  by_cases e : j = k
  · subst e; rw [cc_a1_s]; exact (cc_mt_h (F j) x).imp Eq.symm id
  · rw [cc_a1_n F x e]; exact Or.inl rfl
theorem cc_a1_le (F : Nat → cc_Lt) (k : Nat) (x : Option Int32) (j : Nat) : cc_le (F j) (cc_a1 F k x j) := by
  by_cases e : j = k
  · subst e; rw [cc_a1_s]; exact cc_mt_l _ _
  · rw [cc_a1_n F x e]; exact cc_le_r _
def cc_ab (F : Nat → cc_Lt) (q : Nat) (c : cc_Cx) : Nat → cc_Lt := cc_a1 (cc_a1 F (2 * q) c.1) (2 * q + 1) c.2
theorem cc_ab_0 (F : Nat → cc_Lt) (q : Nat) (c : cc_Cx) : cc_ab F q c (2 * q) = cc_mt (F (2 * q)) c.1 := by
  unfold cc_ab; rw [cc_a1_n _ _ (by omega), cc_a1_s]
theorem cc_ab_1 (F : Nat → cc_Lt) (q : Nat) (c : cc_Cx) : cc_ab F q c (2 * q + 1) = cc_mt (F (2 * q + 1)) c.2 := by
  unfold cc_ab; rw [cc_a1_s, cc_a1_n _ _ (by omega)]
theorem cc_ab_n (F : Nat → cc_Lt) {q k : Nat} (c : cc_Cx) (h : k ≠ 2 * q) (h' : k ≠ 2 * q + 1) : cc_ab F q c k = F k := by
  unfold cc_ab; rw [cc_a1_n _ _ h', cc_a1_n _ _ h]
theorem cc_ab_r (F : Nat → cc_Lt) (q : Nat) (c : cc_Cx) : cc_rise F (cc_ab F q c) := cc_rise_t (cc_a1_r _ _ _) (cc_a1_r _ _ _)
theorem cc_ab_le (F : Nat → cc_Lt) (q : Nat) (c : cc_Cx) (k : Nat) : cc_le (F k) (cc_ab F q c k) := cc_le_tr (cc_a1_le _ _ _ _) (cc_a1_le _ _ _ _)
/-- a procedure's calls in context c are met by F -/
def cc_ok (P : cc_Pg) (F : Nat → cc_Lt) (p : Nat) (c : cc_Cx) : Prop := ∀ i, i < cc_L P p → cc_K P (p * 8 + i) = 6 → cc_rc P p c i = true →
  cc_le (some (cc_ar P (p * 8 + i) c).1) (F (2 * cc_Q P (p * 8 + i))) ∧ cc_le (some (cc_ar P (p * 8 + i) c).2) (F (2 * cc_Q P (p * 8 + i) + 1))
/-- both parameters of a procedure are met, or none -/
def cc_pr (F : Nat → cc_Lt) : Prop := ∀ p, F (2 * p) = none ↔ F (2 * p + 1) = none
def cc_cl (P : cc_Pg) (F : Nat → cc_Lt) : Prop := F 0 = some none ∧ F 1 = some none ∧ cc_pr F ∧ ∀ p, p < cc_N P → F (2 * p) ≠ none → cc_ok P F p (cc_fc F p)
/-- below every closed one -/
def cc_bl (P : cc_Pg) (F : Nat → cc_Lt) : Prop := ∀ G, cc_cl P G → ∀ k, cc_le (F k) (G k)
def cc_ls (P : cc_Pg) (F : Nat → cc_Lt) : Prop := cc_cl P F ∧ cc_bl P F
theorem cc_ls_u {P : cc_Pg} {F G : Nat → cc_Lt} (h : cc_ls P F) (k : cc_ls P G) : F = G := by
  funext j; exact cc_le_as (h.2 G k.1 j) (k.2 F h.1 j)
theorem cc_lc_le {a b : cc_Lt} (h : cc_le a b) (n : a ≠ none) : cc_lc b = none ∨ cc_lc a = cc_lc b := by
  rcases h with h | h | h
  · exact absurd h n
  · rw [h]; exact Or.inl rfl
  · rw [h]; exact Or.inr rfl
/-- a context below that of every closed one -/
def cc_sn (P : cc_Pg) (p : Nat) (c : cc_Cx) : Prop := ∀ G, cc_cl P G → G (2 * p) ≠ none ∧ cc_cle c (cc_fc G p)
theorem cc_sn_of {P : cc_Pg} {F : Nat → cc_Lt} {p : Nat} (h : cc_bl P F) (n : F (2 * p) ≠ none) (n' : F (2 * p + 1) ≠ none) : cc_sn P p (cc_fc F p) := by
  intro G hG
  refine ⟨fun e => ?_, cc_lc_le (h G hG _) n, cc_lc_le (h G hG _) n'⟩
  rcases h G hG (2 * p) with x | x | x
  · exact n x
  · rw [e] at x; exact nomatch x
  · rw [e] at x; exact n x
theorem cc_ev_le {f : cc_Fm} {c d : cc_Cx} (h : cc_cle c d) : cc_le (some (cc_ev f c)) (some (cc_ev f d)) := by
  rcases cc_ev_mono (f := f) h with e | e
  · rw [e]; exact Or.inr (Or.inl rfl)
  · rw [e]; exact cc_le_r _
theorem cc_bl_ab {P : cc_Pg} {F : Nat → cc_Lt} {p i : Nat} {c : cc_Cx} (h : cc_bl P F) (s : cc_sn P p c) (hp : p < cc_N P) (hi : i < cc_L P p) (k : cc_K P (p * 8 + i) = 6) (r : cc_rc P p c i = true) :
    cc_bl P (cc_ab F (cc_Q P (p * 8 + i)) (cc_ar P (p * 8 + i) c)) := by
  intro G hG j
  obtain ⟨g0, gc⟩ := s G hG
  obtain ⟨a, b⟩ := hG.2.2.2 p hp g0 i hi k (cc_rc_mono gc r)
  by_cases e : j = 2 * cc_Q P (p * 8 + i)
  · subst e; rw [cc_ab_0]
    exact cc_mt_u (h G hG _) (cc_le_tr (cc_ev_le gc) a)
  · by_cases e' : j = 2 * cc_Q P (p * 8 + i) + 1
    · subst e'; rw [cc_ab_1]
      exact cc_mt_u (h G hG _) (cc_le_tr (cc_ev_le gc) b)
    · rw [cc_ab_n F _ e e']; exact h G hG j
theorem cc_pr_ab {F : Nat → cc_Lt} (h : cc_pr F) (q : Nat) (c : cc_Cx) : cc_pr (cc_ab F q c) := by
  intro p
  by_cases e : p = q
  · subst e; rw [cc_ab_0, cc_ab_1]; exact iff_of_false (cc_mt_n _ _) (cc_mt_n _ _)
  · rw [cc_ab_n F c (by omega) (by omega), cc_ab_n F c (by omega) (by omega)]; exact h p
/-- the start -/
def cc_F0 : Nat → cc_Lt := fun k => if k < 2 then some none else none
theorem cc_F0_bl (P : cc_Pg) : cc_bl P cc_F0 := by
  intro G hG k
  by_cases e : k < 2
  · have : k = 0 ∨ k = 1 := by omega
    rcases this with z | z
    · subst z; exact Or.inr (Or.inl hG.1)
    · subst z; exact Or.inr (Or.inl hG.2.1)
  · exact Or.inl (if_neg e)
theorem cc_F0_pr : cc_pr cc_F0 := by
  intro p
  unfold cc_F0
  by_cases e : p = 0
  · subst e; exact iff_of_false (by simp) (by simp)
  · rw [if_neg (by omega), if_neg (by omega)]
/-- what keeps: facts of 0 and 1, the pair, below -/
def cc_fi (P : cc_Pg) (F : Nat → cc_Lt) : Prop := F 0 = some none ∧ F 1 = some none ∧ cc_pr F ∧ cc_bl P F ∧ ∀ k, 12 ≤ k → F k = none
theorem cc_fi_0 (P : cc_Pg) : cc_fi P cc_F0 := ⟨rfl, rfl, cc_F0_pr, cc_F0_bl P, fun _ h => if_neg (by omega)⟩
theorem cc_mt_v (x : Option Int32) : cc_mt (some none) x = some none := by
  unfold cc_mt; dsimp only; split <;> rfl
theorem cc_fi_ab {P : cc_Pg} (W : cc_wf P) {F : Nat → cc_Lt} {p i : Nat} {c : cc_Cx} (h : cc_fi P F) (s : cc_sn P p c) (hp : p < cc_N P) (hi : i < cc_L P p) (k : cc_K P (p * 8 + i) = 6) (r : cc_rc P p c i = true) :
    cc_fi P (cc_ab F (cc_Q P (p * 8 + i)) (cc_ar P (p * 8 + i) c)) := by
  have hq := ((W.2.2.2 p i (Nat.lt_of_lt_of_le hp W.2.1) hi).2.2.2.2.1 k).1
  have h6 := W.2.1
  refine ⟨?_, ?_, cc_pr_ab h.2.2.1 _ _, cc_bl_ab h.2.2.2.1 s hp hi k r, fun j hj => by rw [cc_ab_n F _ (by omega) (by omega)]; exact h.2.2.2.2 j hj⟩
  · generalize cc_Q P (p * 8 + i) = q
    by_cases e : q = 0
    · subst e; have := cc_ab_0 F 0 (cc_ar P (p * 8 + i) c); rw [show 2 * 0 = 0 from rfl] at this
      rw [this, h.1, cc_mt_v]
    · rw [cc_ab_n F _ (by omega) (by omega)]; exact h.1
  · generalize cc_Q P (p * 8 + i) = q
    by_cases e : q = 0
    · subst e; have := cc_ab_1 F 0 (cc_ar P (p * 8 + i) c); rw [show 2 * 0 + 1 = 1 from rfl] at this
      rw [this, h.2.1, cc_mt_v]
    · rw [cc_ab_n F _ (by omega) (by omega)]; exact h.2.1
/-- one procedure's calls below i absorbed (context fixed) -/
def cc_vs (P : cc_Pg) (p : Nat) (c : cc_Cx) (F : Nat → cc_Lt) : Nat → Nat → cc_Lt
  | 0 => F
  | i + 1 => if i < cc_L P p ∧ cc_K P (p * 8 + i) = 6 ∧ cc_rc P p c i = true then cc_ab (cc_vs P p c F i) (cc_Q P (p * 8 + i)) (cc_ar P (p * 8 + i) c) else cc_vs P p c F i
theorem cc_vs_t {P : cc_Pg} {p i : Nat} {c : cc_Cx} {F : Nat → cc_Lt} (h : i < cc_L P p) (k : cc_K P (p * 8 + i) = 6) (r : cc_rc P p c i = true) : cc_vs P p c F (i + 1) = cc_ab (cc_vs P p c F i) (cc_Q P (p * 8 + i)) (cc_ar P (p * 8 + i) c) := by
  rw [cc_vs, if_pos ⟨h, k, r⟩]
theorem cc_vs_f {P : cc_Pg} {p i : Nat} {c : cc_Cx} {F : Nat → cc_Lt} (h : ¬ (i < cc_L P p ∧ cc_K P (p * 8 + i) = 6 ∧ cc_rc P p c i = true)) : cc_vs P p c F (i + 1) = cc_vs P p c F i := by
  rw [cc_vs, if_neg h]
theorem cc_vs_fi {P : cc_Pg} (W : cc_wf P) {p : Nat} {c : cc_Cx} {F : Nat → cc_Lt} (h : cc_fi P F) (s : cc_sn P p c) (hp : p < cc_N P) : ∀ n, cc_fi P (cc_vs P p c F n)
  | 0 => h
  | n + 1 => by
    by_cases q : n < cc_L P p ∧ cc_K P (p * 8 + n) = 6 ∧ cc_rc P p c n = true
    · rw [cc_vs_t q.1 q.2.1 q.2.2]; exact cc_fi_ab W (cc_vs_fi W h s hp n) s hp q.1 q.2.1 q.2.2
    · rw [cc_vs_f q]; exact cc_vs_fi W h s hp n
theorem cc_vs_le (P : cc_Pg) (p : Nat) (c : cc_Cx) (F : Nat → cc_Lt) (k : Nat) {i : Nat} : ∀ n, i ≤ n → cc_le (cc_vs P p c F i k) (cc_vs P p c F n k)
  | 0, h => by have e : i = 0 := by omega
               rw [e]; exact cc_le_r _
  | n + 1, h => by
    rcases Nat.lt_or_ge i (n + 1) with z | z
    · refine cc_le_tr (cc_vs_le P p c F k n (i := i) (by omega)) ?_
      by_cases q : n < cc_L P p ∧ cc_K P (p * 8 + n) = 6 ∧ cc_rc P p c n = true
      · rw [cc_vs_t q.1 q.2.1 q.2.2]; exact cc_ab_le _ _ _ _
      · rw [cc_vs_f q]; exact cc_le_r _
    · have e : i = n + 1 := by omega
      rw [e]; exact cc_le_r _
theorem cc_vs_r (P : cc_Pg) (p : Nat) (c : cc_Cx) (F : Nat → cc_Lt) : ∀ n, cc_rise F (cc_vs P p c F n)
  | 0 => cc_rise_r F
  | n + 1 => by
    by_cases q : n < cc_L P p ∧ cc_K P (p * 8 + n) = 6 ∧ cc_rc P p c n = true
    · rw [cc_vs_t q.1 q.2.1 q.2.2]; exact cc_rise_t (cc_vs_r P p c F n) (cc_ab_r _ _ _)
    · rw [cc_vs_f q]; exact cc_vs_r P p c F n
theorem cc_ok_le {P : cc_Pg} {F G : Nat → cc_Lt} {p : Nat} {c : cc_Cx} (h : cc_ok P F p c) (l : ∀ k, cc_le (F k) (G k)) : cc_ok P G p c :=
  fun i a b d => ⟨cc_le_tr (h i a b d).1 (l _), cc_le_tr (h i a b d).2 (l _)⟩
/-- all of a procedure's calls absorbed: met -/
theorem cc_vs_ok {P : cc_Pg} {p : Nat} {c : cc_Cx} {F : Nat → cc_Lt} {n : Nat} (hn : cc_L P p ≤ n) : cc_ok P (cc_vs P p c F n) p c := by
  intro i hi k r
  have e := cc_vs_t (F := F) hi k r
  have a : cc_le (cc_vs P p c F (i + 1) (2 * cc_Q P (p * 8 + i))) (cc_vs P p c F n (2 * cc_Q P (p * 8 + i))) := cc_vs_le P p c F _ n (by omega)
  have b : cc_le (cc_vs P p c F (i + 1) (2 * cc_Q P (p * 8 + i) + 1)) (cc_vs P p c F n (2 * cc_Q P (p * 8 + i) + 1)) := cc_vs_le P p c F _ n (by omega)
  rw [e, cc_ab_0] at a
  rw [e, cc_ab_1] at b
  exact ⟨cc_le_tr (cc_mt_r _ _) a, cc_le_tr (cc_mt_r _ _) b⟩
/-- a sweep, and Y's rounds of sweeps -/
def cc_sp (P : cc_Pg) (F : Nat → cc_Lt) : Nat → Nat → cc_Lt
  | 0 => F
  | p + 1 => if cc_sp P F p (2 * p) = none then cc_sp P F p else cc_vs P p (cc_fc (cc_sp P F p) p) (cc_sp P F p) (cc_L P p)
def cc_rd (P : cc_Pg) : Nat → Nat → cc_Lt
  | 0 => cc_F0
  | r + 1 => cc_sp P (cc_rd P r) (cc_N P)
theorem cc_sp_n {P : cc_Pg} {F : Nat → cc_Lt} {p : Nat} (h : cc_sp P F p (2 * p) = none) : cc_sp P F (p + 1) = cc_sp P F p := by
  rw [cc_sp, if_pos h]
theorem cc_sp_s {P : cc_Pg} {F : Nat → cc_Lt} {p : Nat} (h : cc_sp P F p (2 * p) ≠ none) : cc_sp P F (p + 1) = cc_vs P p (cc_fc (cc_sp P F p) p) (cc_sp P F p) (cc_L P p) := by
  rw [cc_sp, if_neg h]
theorem cc_sn_fi {P : cc_Pg} {F : Nat → cc_Lt} {p : Nat} (h : cc_fi P F) (n : F (2 * p) ≠ none) : cc_sn P p (cc_fc F p) :=
  cc_sn_of h.2.2.2.1 n (fun e => n ((h.2.2.1 p).mpr e))
theorem cc_sp_fi {P : cc_Pg} (W : cc_wf P) {F : Nat → cc_Lt} (h : cc_fi P F) : ∀ n, n ≤ cc_N P → cc_fi P (cc_sp P F n)
  | 0, _ => h
  | n + 1, hn => by
    have ih := cc_sp_fi W h n (by omega)
    by_cases e : cc_sp P F n (2 * n) = none
    · rw [cc_sp_n e]; exact ih
    · rw [cc_sp_s e]; exact cc_vs_fi W ih (cc_sn_fi ih e) hn _
theorem cc_sp_r (P : cc_Pg) (F : Nat → cc_Lt) {i : Nat} : ∀ n, i ≤ n → cc_rise (cc_sp P F i) (cc_sp P F n)
  | 0, h => by have e : i = 0 := by omega
               rw [e]; exact cc_rise_r _
  | n + 1, h => by
    rcases Nat.lt_or_ge i (n + 1) with z | z
    · refine cc_rise_t (cc_sp_r P F n (i := i) (by omega)) ?_
      by_cases e : cc_sp P F n (2 * n) = none
      · rw [cc_sp_n e]; exact cc_rise_r _
      · rw [cc_sp_s e]; exact cc_vs_r _ _ _ _ _
    · have e : i = n + 1 := by omega
      rw [e]; exact cc_rise_r _
theorem cc_rise_as {F G : Nat → cc_Lt} (a : cc_rise F G) (b : cc_rise G F) : F = G := by
  funext k
  rcases a k with x | x
  · exact x
  · rcases b k with y | y
    · exact y.symm
    · omega
/-- a sweep that changes nothing: closed -/
theorem cc_sp_cl {P : cc_Pg} {F : Nat → cc_Lt} (h : cc_fi P F) (e : cc_sp P F (cc_N P) = F) : cc_cl P F := by
  refine ⟨h.1, h.2.1, h.2.2.1, fun p hp n => ?_⟩
  have same : ∀ i, i ≤ cc_N P → cc_sp P F i = F := fun i hi => by
    refine (cc_rise_as (cc_sp_r P F (i := 0) i (Nat.zero_le _)) ?_).symm
    have := cc_sp_r P F (i := i) (cc_N P) hi
    rw [e] at this; exact this
  have e1 := same p (by omega)
  have e2 := same (p + 1) hp
  rw [cc_sp_s (by rw [e1]; exact n), e1] at e2
  have := cc_vs_ok (P := P) (p := p) (c := cc_fc F p) (F := F) (Nat.le_refl (cc_L P p))
  rw [e2] at this; exact this
theorem cc_rd_fi {P : cc_Pg} (W : cc_wf P) : ∀ r, cc_fi P (cc_rd P r)
  | 0 => cc_fi_0 P
  | r + 1 => cc_sp_fi W (cc_rd_fi W r) _ (Nat.le_refl _)
theorem cc_rd_st {P : cc_Pg} {s : Nat} (e : cc_sp P (cc_rd P s) (cc_N P) = cc_rd P s) : ∀ r, s ≤ r → cc_rd P r = cc_rd P s
  | 0, h => by have e : s = 0 := by omega
               rw [e]
  | r + 1, h => by
    rcases Nat.lt_or_ge s (r + 1) with z | z
    · rw [cc_rd, cc_rd_st e r (by omega), e]
    · have e : s = r + 1 := by omega
      rw [e]
theorem cc_rd_ls {P : cc_Pg} (W : cc_wf P) : cc_ls P (cc_rd P 24) := by
  have sm : ∀ r, 4 + r ≤ cc_hs (cc_rd P r) 12 ∨ ∃ s, s ≤ r ∧ cc_sp P (cc_rd P s) (cc_N P) = cc_rd P s := by
    intro r
    induction r with
    | zero => left; exact (by decide : 4 + 0 ≤ cc_hs cc_F0 12)
    | succ r ih =>
      rcases ih with h | ⟨s, h1, h2⟩
      · by_cases e : cc_sp P (cc_rd P r) (cc_N P) = cc_rd P r
        · exact Or.inr ⟨r, by omega, e⟩
        · left
          have : ∃ k, cc_rd P r k ≠ cc_rd P (r + 1) k := Classical.byContradiction fun no => e (by
            funext k
            exact Classical.byContradiction fun z => no ⟨k, fun y => z y.symm⟩)
          obtain ⟨k, hk⟩ := this
          have h12 : k < 12 := by
            refine Nat.lt_of_not_le fun z => hk ?_
            rw [(cc_rd_fi W r).2.2.2.2 k z, (cc_rd_fi W (r + 1)).2.2.2.2 k z]
          have := cc_hs_lt (F := cc_rd P r) (G := cc_rd P (r + 1)) (cc_sp_r P (cc_rd P r) (i := 0) (cc_N P) (Nat.zero_le _)) hk 12 h12
          omega
      · exact Or.inr ⟨s, by omega, h2⟩
  have fin : ∃ s, s ≤ 24 ∧ cc_sp P (cc_rd P s) (cc_N P) = cc_rd P s := by
    rcases sm 24 with h | h
    · have := cc_hs_le (cc_rd P 24) 12; omega
    · exact h
  obtain ⟨s, hs, e⟩ := fin
  have e2 := cc_rd_st e 24 hs
  refine ⟨?_, (cc_rd_fi W 24).2.2.2.1⟩
  refine cc_sp_cl (cc_rd_fi W 24) ?_
  rw [e2]; exact e
end
section
/-! versions: the list that both sides build in one order -/
abbrev cc_V : Type := Nat × cc_Cx
abbrev cc_VS : Type := List cc_V × Bool
def cc_ce (P : cc_Pg) (F : Nat → cc_Lt) (ch : Nat → Bool) (a : Nat) (c : cc_Cx) : cc_Cx := if ch (cc_Q P a) = true then cc_ar P a c else cc_fc F (cc_Q P a)
def cc_i2 (s : cc_VS) (v : cc_V) : cc_VS := if v ∈ s.1 then s else if 16 ≤ s.1.length then (s.1, true) else (s.1 ++ [v], s.2)
theorem cc_i2_in {s : cc_VS} {v : cc_V} (h : v ∈ s.1) : cc_i2 s v = s := if_pos h
theorem cc_i2_ov {s : cc_VS} {v : cc_V} (h : v ∉ s.1) (l : 16 ≤ s.1.length) : cc_i2 s v = (s.1, true) := by
  unfold cc_i2; rw [if_neg h, if_pos l]
theorem cc_i2_ad {s : cc_VS} {v : cc_V} (h : v ∉ s.1) (l : s.1.length < 16) : cc_i2 s v = (s.1 ++ [v], s.2) := by
  unfold cc_i2; rw [if_neg h, if_neg (by omega)]
/-- growth -/
def cc_gr (s t : cc_VS) : Prop := (∀ (n : Nat) (v : cc_V), s.1[n]? = some v → t.1[n]? = some v) ∧ (s.2 = true → t.2 = true)
theorem cc_gr_r (s : cc_VS) : cc_gr s s := ⟨fun _ _ h => h, id⟩
theorem cc_gr_t {s t u : cc_VS} (a : cc_gr s t) (b : cc_gr t u) : cc_gr s u := ⟨fun n v h => b.1 n v (a.1 n v h), fun h => b.2 (a.2 h)⟩
theorem cc_gr_m {s t : cc_VS} (a : cc_gr s t) {v : cc_V} (h : v ∈ s.1) : v ∈ t.1 := by
  obtain ⟨n, hn⟩ := List.getElem?_of_mem h
  exact List.mem_of_getElem? (a.1 n v hn)
theorem cc_gr_l {s t : cc_VS} (a : cc_gr s t) : s.1.length ≤ t.1.length := by
  refine Nat.le_of_not_lt fun h => ?_
  have e : s.1[t.1.length]? = some (s.1[t.1.length]'h) := List.getElem?_eq_getElem h
  have := a.1 _ _ e
  rw [List.getElem?_eq_none (Nat.le_refl _)] at this
  exact nomatch this
theorem cc_i2_gr (s : cc_VS) (v : cc_V) : cc_gr s (cc_i2 s v) := by
  by_cases h : v ∈ s.1
  · rw [cc_i2_in h]; exact cc_gr_r s
  · by_cases l : 16 ≤ s.1.length
    · rw [cc_i2_ov h l]; exact ⟨fun _ _ h => h, fun _ => rfl⟩
    · rw [cc_i2_ad h (by omega)]
      refine ⟨fun n w hn => ?_, id⟩
      have hl : n < s.1.length := by
        refine Nat.lt_of_not_le fun z => ?_
        rw [List.getElem?_eq_none z] at hn; exact nomatch hn
      show (s.1 ++ [v])[n]? = some w
      rw [List.getElem?_append_left hl]; exact hn
theorem cc_i2_l {s : cc_VS} {v : cc_V} (h : s.1.length ≤ 16) : (cc_i2 s v).1.length ≤ 16 := by
  by_cases z : v ∈ s.1
  · rw [cc_i2_in z]; exact h
  · by_cases l : 16 ≤ s.1.length
    · rw [cc_i2_ov z l]; exact h
    · rw [cc_i2_ad z (by omega)]
      show (s.1 ++ [v]).length ≤ 16
      rw [List.length_append]; show s.1.length + 1 ≤ 16; omega
theorem cc_i2_m {s : cc_VS} {v : cc_V} (h : (cc_i2 s v).2 = false) : v ∈ (cc_i2 s v).1 := by
  by_cases z : v ∈ s.1
  · rw [cc_i2_in z]; exact z
  · by_cases l : 16 ≤ s.1.length
    · rw [cc_i2_ov z l] at h; exact nomatch h
    · rw [cc_i2_ad z (by omega)]
      show v ∈ s.1 ++ [v]
      rw [List.mem_append]; exact Or.inr (List.mem_singleton.mpr rfl)
theorem cc_i2_p {s : cc_VS} {v : cc_V} {R : cc_V → Prop} (h : ∀ w, w ∈ s.1 → R w) (hv : R v) : ∀ w, w ∈ (cc_i2 s v).1 → R w := by
  by_cases z : v ∈ s.1
  · rw [cc_i2_in z]; exact h
  · by_cases l : 16 ≤ s.1.length
    · rw [cc_i2_ov z l]; exact h
    · rw [cc_i2_ad z (by omega)]
      intro w hw
      rcases List.mem_append.mp hw with y | y
      · exact h w y
      · rw [List.mem_singleton.mp y]; exact hv
/-- one version's calls below i -/
def cc_xp (P : cc_Pg) (F : Nat → cc_Lt) (ch : Nat → Bool) (v : cc_V) (s : cc_VS) : Nat → cc_VS
  | 0 => s
  | i + 1 => if i < cc_L P v.1 ∧ cc_K P (v.1 * 8 + i) = 6 ∧ cc_rc P v.1 v.2 i = true then cc_i2 (cc_xp P F ch v s i) (cc_Q P (v.1 * 8 + i), cc_ce P F ch (v.1 * 8 + i) v.2) else cc_xp P F ch v s i
section
variable {P : cc_Pg} {F : Nat → cc_Lt} {ch : Nat → Bool}
theorem cc_xp_t {v : cc_V} {s : cc_VS} {i : Nat} (h : i < cc_L P v.1 ∧ cc_K P (v.1 * 8 + i) = 6 ∧ cc_rc P v.1 v.2 i = true) : cc_xp P F ch v s (i + 1) = cc_i2 (cc_xp P F ch v s i) (cc_Q P (v.1 * 8 + i), cc_ce P F ch (v.1 * 8 + i) v.2) := by
  rw [cc_xp, if_pos h]
theorem cc_xp_f {v : cc_V} {s : cc_VS} {i : Nat} (h : ¬ (i < cc_L P v.1 ∧ cc_K P (v.1 * 8 + i) = 6 ∧ cc_rc P v.1 v.2 i = true)) : cc_xp P F ch v s (i + 1) = cc_xp P F ch v s i := by
  rw [cc_xp, if_neg h]
theorem cc_xp_gr (v : cc_V) (s : cc_VS) {i : Nat} : ∀ n, i ≤ n → cc_gr (cc_xp P F ch v s i) (cc_xp P F ch v s n)
  | 0, h => by have e : i = 0 := by omega
               rw [e]; exact cc_gr_r _
  | n + 1, h => by
    rcases Nat.lt_or_ge i (n + 1) with z | z
    · refine cc_gr_t (cc_xp_gr v s n (i := i) (by omega)) ?_
      by_cases q : n < cc_L P v.1 ∧ cc_K P (v.1 * 8 + n) = 6 ∧ cc_rc P v.1 v.2 n = true
      · rw [cc_xp_t q]; exact cc_i2_gr _ _
      · rw [cc_xp_f q]; exact cc_gr_r _
    · have e : i = n + 1 := by omega
      rw [e]; exact cc_gr_r _
theorem cc_xp_l {v : cc_V} {s : cc_VS} (h : s.1.length ≤ 16) : ∀ n, (cc_xp P F ch v s n).1.length ≤ 16
  | 0 => h
  | n + 1 => by
    by_cases q : n < cc_L P v.1 ∧ cc_K P (v.1 * 8 + n) = 6 ∧ cc_rc P v.1 v.2 n = true
    · rw [cc_xp_t q]; exact cc_i2_l (cc_xp_l h n)
    · rw [cc_xp_f q]; exact cc_xp_l h n
theorem cc_xp_L {v : cc_V} {s : cc_VS} : ∀ n, cc_L P v.1 ≤ n → cc_xp P F ch v s n = cc_xp P F ch v s (cc_L P v.1)
  | 0, h => by have e : cc_L P v.1 = 0 := by omega
               rw [e]
  | n + 1, h => by
    rcases Nat.lt_or_ge (cc_L P v.1) (n + 1) with z | z
    · rw [cc_xp_f (fun q => by omega)]; exact cc_xp_L n (by omega)
    · have e : cc_L P v.1 = n + 1 := by omega
      rw [e]
/-- every call of a version leads into the list -/
def cc_cd (P : cc_Pg) (F : Nat → cc_Lt) (ch : Nat → Bool) (v : cc_V) (l : List cc_V) : Prop := ∀ i, i < cc_L P v.1 → cc_K P (v.1 * 8 + i) = 6 → cc_rc P v.1 v.2 i = true → (cc_Q P (v.1 * 8 + i), cc_ce P F ch (v.1 * 8 + i) v.2) ∈ l
theorem cc_xp_cd {v : cc_V} {s : cc_VS} {n : Nat} (hn : cc_L P v.1 ≤ n) (h : (cc_xp P F ch v s n).2 = false) : cc_cd P F ch v (cc_xp P F ch v s n).1 := by
  intro i hi k r
  have g := cc_xp_gr (P := P) (F := F) (ch := ch) v s (i := i + 1) n (by omega)
  have f : (cc_xp P F ch v s (i + 1)).2 = false := by
    cases e : (cc_xp P F ch v s (i + 1)).2 with
    | false => rfl
    | true => rw [g.2 e] at h; exact nomatch h
  rw [cc_xp_t ⟨hi, k, r⟩] at f g
  exact cc_gr_m g (cc_i2_m f)
theorem cc_xp_id {v : cc_V} {s : cc_VS} (h : cc_cd P F ch v s.1) : ∀ n, cc_xp P F ch v s n = s
  | 0 => rfl
  | n + 1 => by
    have ih := cc_xp_id h n
    by_cases q : n < cc_L P v.1 ∧ cc_K P (v.1 * 8 + n) = 6 ∧ cc_rc P v.1 v.2 n = true
    · rw [cc_xp_t q, ih]; exact cc_i2_in (h n q.1 q.2.1 q.2.2)
    · rw [cc_xp_f q]; exact ih
theorem cc_xp_p {v : cc_V} {s : cc_VS} {R : cc_V → Prop} (h : ∀ w, w ∈ s.1 → R w) (hv : ∀ i, i < cc_L P v.1 → cc_K P (v.1 * 8 + i) = 6 → cc_rc P v.1 v.2 i = true → R (cc_Q P (v.1 * 8 + i), cc_ce P F ch (v.1 * 8 + i) v.2)) : ∀ n w, w ∈ (cc_xp P F ch v s n).1 → R w
  | 0 => h
  | n + 1 => by
    by_cases q : n < cc_L P v.1 ∧ cc_K P (v.1 * 8 + n) = 6 ∧ cc_rc P v.1 v.2 n = true
    · rw [cc_xp_t q]; exact cc_i2_p (cc_xp_p h hv n) (hv n q.1 q.2.1 q.2.2)
    · rw [cc_xp_f q]; exact cc_xp_p h hv n
end
/-- the list after the first k versions' calls -/
def cc_E (P : cc_Pg) (F : Nat → cc_Lt) (ch : Nat → Bool) : Nat → cc_VS
  | 0 => ([(0, (none, none))], false)
  | k + 1 => if (cc_E P F ch k).2 = true then cc_E P F ch k else match (cc_E P F ch k).1[k]? with
    | none => cc_E P F ch k
    | some v => cc_xp P F ch v (cc_E P F ch k) 8
section
variable {P : cc_Pg} {F : Nat → cc_Lt} {ch : Nat → Bool}
theorem cc_E_o {k : Nat} (h : (cc_E P F ch k).2 = true) : cc_E P F ch (k + 1) = cc_E P F ch k := by
  rw [cc_E, if_pos h]
theorem cc_E_n {k : Nat} (h : (cc_E P F ch k).1.length ≤ k) : cc_E P F ch (k + 1) = cc_E P F ch k := by
  rw [cc_E, List.getElem?_eq_none h]; split <;> rfl
theorem cc_E_s {k : Nat} {v : cc_V} (h : (cc_E P F ch k).2 = false) (hv : (cc_E P F ch k).1[k]? = some v) : cc_E P F ch (k + 1) = cc_xp P F ch v (cc_E P F ch k) 8 := by
  rw [cc_E, if_neg (by rw [h]; exact fun z => nomatch z), hv]
theorem cc_E_c (k : Nat) : ((cc_E P F ch k).2 = true ∨ (cc_E P F ch k).1.length ≤ k) ∨ ((cc_E P F ch k).2 = false ∧ ∃ v, (cc_E P F ch k).1[k]? = some v) := by
  cases e : (cc_E P F ch k).2 with
  | true => exact Or.inl (Or.inl rfl)
  | false =>
    rcases Nat.lt_or_ge k (cc_E P F ch k).1.length with z | z
    · exact Or.inr ⟨rfl, _, List.getElem?_eq_getElem z⟩
    · exact Or.inl (Or.inr z)
theorem cc_E_1 (k : Nat) : cc_gr (cc_E P F ch k) (cc_E P F ch (k + 1)) := by
  rcases cc_E_c (P := P) (F := F) (ch := ch) k with (h | h) | ⟨h, v, hv⟩
  · rw [cc_E_o h]; exact cc_gr_r _
  · rw [cc_E_n h]; exact cc_gr_r _
  · rw [cc_E_s h hv]; exact cc_xp_gr v _ (i := 0) 8 (by omega)
theorem cc_E_gr {i : Nat} : ∀ n, i ≤ n → cc_gr (cc_E P F ch i) (cc_E P F ch n)
  | 0, h => by have e : i = 0 := by omega
               rw [e]; exact cc_gr_r _
  | n + 1, h => by
    rcases Nat.lt_or_ge i (n + 1) with z | z
    · exact cc_gr_t (cc_E_gr n (by omega)) (cc_E_1 n)
    · have e : i = n + 1 := by omega
      rw [e]; exact cc_gr_r _
theorem cc_E_l : ∀ k, (cc_E P F ch k).1.length ≤ 16
  | 0 => by show 1 ≤ 16; omega
  | k + 1 => by
    rcases cc_E_c (P := P) (F := F) (ch := ch) k with (h | h) | ⟨h, v, hv⟩
    · rw [cc_E_o h]; exact cc_E_l k
    · rw [cc_E_n h]; exact cc_E_l k
    · rw [cc_E_s h hv]; exact cc_xp_l (cc_E_l k) 8
theorem cc_E_st {k : Nat} (h : (cc_E P F ch k).2 = true ∨ (cc_E P F ch k).1.length ≤ k) : ∀ n, k ≤ n → cc_E P F ch n = cc_E P F ch k
  | 0, z => by have e : k = 0 := by omega
               rw [e]
  | n + 1, z => by
    rcases Nat.lt_or_ge k (n + 1) with y | y
    · have ih := cc_E_st h n (by omega)
      rcases h with h | h
      · rw [cc_E_o (by rw [ih]; exact h)]; exact ih
      · rw [cc_E_n (by rw [ih]; omega)]; exact ih
    · have e : k = n + 1 := by omega
      rw [e]
theorem cc_E_0 (k : Nat) : (cc_E P F ch k).1[0]? = some (0, (none, none)) := (cc_E_gr (P := P) (F := F) (ch := ch) (i := 0) k (Nat.zero_le _)).1 0 _ rfl
theorem cc_E_1l (k : Nat) : 1 ≤ (cc_E P F ch k).1.length := cc_gr_l (cc_E_gr (P := P) (F := F) (ch := ch) (i := 0) k (Nat.zero_le _))
theorem cc_cd_m {v : cc_V} {l l' : List cc_V} (h : cc_cd P F ch v l) (m : ∀ w, w ∈ l → w ∈ l') : cc_cd P F ch v l' := fun i a b c => m _ (h i a b c)
/-- the first k are done -/
theorem cc_E_cd (W : cc_wf P) (hN : ∀ v, v ∈ (cc_E P F ch 16).1 → v.1 < 6) : ∀ k w v, w < k → k ≤ 16 → (cc_E P F ch k).2 = false → (cc_E P F ch k).1[w]? = some v → cc_cd P F ch v (cc_E P F ch k).1
  | 0, w, _, hw, _, _, _ => by omega
  | k + 1, w, v, hw, h16, ho, hv => by
    have g := cc_E_1 (P := P) (F := F) (ch := ch) k
    have ho' : (cc_E P F ch k).2 = false := by
      cases e : (cc_E P F ch k).2 with
      | false => rfl
      | true => rw [g.2 e] at ho; exact nomatch ho
    rcases Nat.lt_or_ge w (cc_E P F ch k).1.length with z | z
    · have hv' : (cc_E P F ch k).1[w]? = some v := by
        have e := List.getElem?_eq_getElem z
        rw [g.1 w _ e] at hv
        rw [e]; exact hv
      rcases Nat.lt_or_ge w k with y | y
      · exact cc_cd_m (cc_E_cd W hN k w v y (by omega) ho' hv') (fun _ => cc_gr_m g)
      · have e : w = k := by omega
        subst e
        rw [cc_E_s ho' hv'] at ho ⊢
        have h6 : v.1 < 6 := hN v (cc_gr_m (cc_E_gr (P := P) (F := F) (ch := ch) (i := w) 16 (by omega)) (List.mem_of_getElem? hv'))
        exact cc_xp_cd (W.2.2.1 v.1 h6) ho
    · exfalso
      rw [cc_E_n (by omega), List.getElem?_eq_none z] at hv; exact nomatch hv
theorem cc_E_p (W : cc_wf P) : ∀ k v, v ∈ (cc_E P F ch k).1 → v.1 < cc_N P
  | 0 => by
    intro v hv
    have e : v = (0, (none, none)) := List.mem_singleton.mp hv
    have := W.1
    rw [e]; show 0 < _; omega
  | k + 1 => by
    have ih := cc_E_p W k
    rcases cc_E_c (P := P) (F := F) (ch := ch) k with (h | h) | ⟨h, v, hv⟩
    · rw [cc_E_o h]; exact ih
    · rw [cc_E_n h]; exact ih
    · rw [cc_E_s h hv]
      have hv6 := ih v (List.mem_of_getElem? hv)
      have := W.2.1
      exact cc_xp_p (R := fun v => v.1 < cc_N P) ih (fun i hi k6 _ => ((W.2.2.2 v.1 i (by omega) hi).2.2.2.2.1 k6).1) 8
theorem cc_E_6 (W : cc_wf P) {k : Nat} {v : cc_V} (h : v ∈ (cc_E P F ch k).1) : v.1 < 6 := Nat.lt_of_lt_of_le (cc_E_p W k v h) W.2.1
/-- the sum of sizes -/
def cc_tt (P : cc_Pg) (l : List cc_V) : Nat → Nat
  | 0 => 0
  | n + 1 => cc_tt P l n + match l[n]? with | none => 0 | some v => cc_sz P v.1 v.2
theorem cc_tt_s {l : List cc_V} {n : Nat} {v : cc_V} (h : l[n]? = some v) : cc_tt P l (n + 1) = cc_tt P l n + cc_sz P v.1 v.2 := by
  rw [cc_tt, h]
theorem cc_tt_gr {s t : cc_VS} (g : cc_gr s t) : ∀ n, n ≤ s.1.length → cc_tt P s.1 n = cc_tt P t.1 n
  | 0, _ => rfl
  | n + 1, h => by
    have e := List.getElem?_eq_getElem (l := s.1) (i := n) (by omega)
    rw [cc_tt_s e, cc_tt_s (g.1 n _ e), cc_tt_gr g n (by omega)]
theorem cc_sz_le (W : cc_wf P) {p : Nat} (hp : p < 6) (c : cc_Cx) : cc_sz P p c ≤ 9 := by
  have := cc_ct_le (cc_rc P p c) (cc_L P p)
  have := W.2.2.1 p hp
  unfold cc_sz; omega
theorem cc_tt_le (W : cc_wf P) {l : List cc_V} (h : ∀ v, v ∈ l → v.1 < 6) : ∀ n, cc_tt P l n ≤ 9 * n
  | 0 => Nat.le_refl _
  | n + 1 => by
    have ih := cc_tt_le W h n
    cases e : l[n]? with
    | none => rw [cc_tt, e]; show _ + 0 ≤ _; omega
    | some v =>
      have := cc_sz_le W (h v (List.mem_of_getElem? e)) v.2
      rw [cc_tt_s e]; omega
end
/-- what a trial gives: the list and whether it has room -/
def cc_li (P : cc_Pg) (F : Nat → cc_Lt) (ch : Nat → Bool) : List cc_V := (cc_E P F ch 16).1
def cc_to (P : cc_Pg) (F : Nat → cc_Lt) (ch : Nat → Bool) : Nat := cc_tt P (cc_li P F ch) (cc_li P F ch).length
def cc_ov (P : cc_Pg) (F : Nat → cc_Lt) (ch : Nat → Bool) : Bool := (cc_E P F ch 16).2
def cc_ft (P : cc_Pg) (F : Nat → cc_Lt) (ch : Nat → Bool) (b : Int32) : Prop := cc_ov P F ch = false ∧ nI (cc_to P F ch) ≤ b
def cc_set (ch : Nat → Bool) (p : Nat) (x : Bool) : Nat → Bool := fun q => if q = p then x else ch q
noncomputable def cc_ch (P : cc_Pg) (F : Nat → cc_Lt) (b : Int32) : Nat → Nat → Bool
  | 0 => fun _ => false
  | p + 1 => @ite _ (1 ≤ p ∧ F (2 * p) ≠ none ∧ cc_ft P F (cc_set (cc_ch P F b p) p true) b) (Classical.propDecidable _) (cc_set (cc_ch P F b p) p true) (cc_ch P F b p)
section
variable {P : cc_Pg} {F : Nat → cc_Lt} {b : Int32}
theorem cc_ch_t {p : Nat} (h : 1 ≤ p) (n : F (2 * p) ≠ none) (f : cc_ft P F (cc_set (cc_ch P F b p) p true) b) : cc_ch P F b (p + 1) = cc_set (cc_ch P F b p) p true := by
  rw [cc_ch, if_pos ⟨h, n, f⟩]
theorem cc_ch_f {p : Nat} (h : ¬ (1 ≤ p ∧ F (2 * p) ≠ none ∧ cc_ft P F (cc_set (cc_ch P F b p) p true) b)) : cc_ch P F b (p + 1) = cc_ch P F b p := by
  rw [cc_ch, if_neg h]
theorem cc_ch_hi : ∀ p q, p ≤ q → cc_ch P F b p q = false
  | 0, _, _ => rfl
  | p + 1, q, h => by
    by_cases z : 1 ≤ p ∧ F (2 * p) ≠ none ∧ cc_ft P F (cc_set (cc_ch P F b p) p true) b
    · rw [cc_ch_t z.1 z.2.1 z.2.2]
      unfold cc_set; rw [if_neg (by omega)]; exact cc_ch_hi p q (by omega)
    · rw [cc_ch_f z]; exact cc_ch_hi p q (by omega)
theorem cc_ch_1 : cc_ch P F b 1 = fun _ => false := by
  rw [cc_ch_f (fun z => by omega)]; rfl
theorem cc_ch_ft (h : cc_ft P F (fun _ => false) b) : ∀ p, cc_ft P F (cc_ch P F b p) b
  | 0 => h
  | p + 1 => by
    by_cases z : 1 ≤ p ∧ F (2 * p) ≠ none ∧ cc_ft P F (cc_set (cc_ch P F b p) p true) b
    · rw [cc_ch_t z.1 z.2.1 z.2.2]; exact z.2.2
    · rw [cc_ch_f z]; exact cc_ch_ft h p
theorem cc_ch_0 : ∀ p, cc_ch P F b p 0 = false
  | 0 => rfl
  | p + 1 => by
    by_cases z : 1 ≤ p ∧ F (2 * p) ≠ none ∧ cc_ft P F (cc_set (cc_ch P F b p) p true) b
    · rw [cc_ch_t z.1 z.2.1 z.2.2]
      unfold cc_set; rw [if_neg (by omega)]; exact cc_ch_0 p
    · rw [cc_ch_f z]; exact cc_ch_0 p
end
end
section
/-! X: forms, the small methods -/
theorem ix_c (a : Nat → Int32) {k : Nat} (h : k < 2 ^ 31) : a (nI k).toNatClampNeg = a k := congrArg a (nI_clamp h)
theorem ix_5 (a v : Nat) : nI a * 5 + nI v = nI (a * 5 + v) := by
  rw [show (5 : Int32) = nI 5 from rfl, pk_mul, nI_add]
theorem ix_50 (a : Nat) : nI a * 5 = nI (a * 5) := pk_mul a 5
theorem ix_8 (a v : Nat) : nI a * 8 + nI v = nI (a * 8 + v) := by
  rw [show (8 : Int32) = nI 8 from rfl, pk_mul, nI_add]
theorem ix_80 (a : Nat) : nI a * 8 = nI (a * 8) := pk_mul a 8
theorem ix_4 (a v : Nat) : nI a * 4 + nI v = nI (a * 4 + v) := by
  rw [show (4 : Int32) = nI 4 from rfl, pk_mul, nI_add]
theorem ix_40 (a : Nat) : nI a * 4 = nI (a * 4) := pk_mul a 4
theorem ix_20 (a : Nat) : 2 * nI a = nI (2 * a) := pk_mul 2 a
theorem ix_21 (a : Nat) : 2 * nI a + 1 = nI (2 * a + 1) := by rw [ix_20, nI_1]
theorem ix_r20 (a : Nat) : nI a * 2 = nI (2 * a) := by rw [Nat.mul_comm]; exact pk_mul a 2
theorem ix_r21 (a : Nat) : nI a * 2 + 1 = nI (2 * a + 1) := by rw [ix_r20, nI_1]
theorem ix_n0 : vp_nar .boolean 0 = 0 := rfl
theorem ix_n1 : vp_nar .boolean 1 = 1 := rfl
theorem ix_nb (b : Bool) : vp_nar .boolean (cc_b b) = cc_b b := by cases b <;> rfl
theorem ix_no (f : cc_Fm) : vp_nar .boolean (cc_fo f) = cc_fo f := by
  cases f with
  | none => exact ix_n1
  | some t => exact ix_n0
theorem ix_nk (f : cc_Fm) : vp_nar .boolean (cc_fk f) = cc_fk f := by
  cases f with
  | none => exact ix_n0
  | some t => exact ix_n1
theorem ix_10 : ¬ (1 : Int32) = 0 := by decide
def cc_un (o g0 g1 gB o' g0' g1' gB' : Nat → Int32) (S : Nat → Prop) : Prop := ∀ j, ¬ S j → o' j = o j ∧ g0' j = g0 j ∧ g1' j = g1 j ∧ gB' j = gB j
def cc_wr (o g0 g1 gB o' g0' g1' gB' : Nat → Int32) (k : Nat) (f : cc_Fm) : Prop := cc_rx o' g0' g1' gB' k f ∧ cc_un o g0 g1 gB o' g0' g1' gB' (fun j => j = k)
section
variable {o g0 g1 gB o' g0' g1' gB' o'' g0'' g1'' gB'' : Nat → Int32}
theorem cc_un_k {S : Nat → Prop} {j : Nat} {h : cc_Fm} (w : cc_un o g0 g1 gB o' g0' g1' gB' S) (n : ¬ S j) (r : cc_rx o g0 g1 gB j h) : cc_rx o' g0' g1' gB' j h := by
  obtain ⟨a, b, c, d⟩ := w j n
  exact ⟨a.trans r.1, b.trans r.2.1, c.trans r.2.2.1, d.trans r.2.2.2⟩
theorem cc_un_r (S : Nat → Prop) : cc_un o g0 g1 gB o g0 g1 gB S := fun _ _ => ⟨rfl, rfl, rfl, rfl⟩
theorem cc_un_t {S T U : Nat → Prop} (a : cc_un o g0 g1 gB o' g0' g1' gB' S) (b : cc_un o' g0' g1' gB' o'' g0'' g1'' gB'' T) (hS : ∀ j, S j → U j) (hT : ∀ j, T j → U j) : cc_un o g0 g1 gB o'' g0'' g1'' gB'' U := fun j n => by
  obtain ⟨a1, a2, a3, a4⟩ := a j (fun z => n (hS j z))
  obtain ⟨b1, b2, b3, b4⟩ := b j (fun z => n (hT j z))
  exact ⟨b1.trans a1, b2.trans a2, b3.trans a3, b4.trans a4⟩
theorem cc_wr_s {k : Nat} {f : cc_Fm} (r : cc_rx o g0 g1 gB k f) : cc_wr o g0 g1 gB o g0 g1 gB k f := ⟨r, cc_un_r _⟩
end
/-- does the form hang on no parameter -/
def cc_ik (f : cc_Fm) : Bool := match f with | none => false | some t => decide (t.1 = 0 ∧ t.2.1 = 0)
section
variable {f_LIN f_SKIP f_CALL f_OUT f_JUMP f_RUNNING f_FIRST_VERSION f_MAX_VERSIONS f_procedures f_length f_calls f_depth f_openProc f_analysed f_built f_builtCount f_builtTotal f_workTop f_ctxMask f_ctxX f_ctxY f_argMask f_argX f_argY f_candCount f_candTotal f_overflow f_frames f_outCount f_entryCount : Int32} {a_kind a_d a_s a_t a_a a_b a_unitLen a_unitProc a_unitMask a_unitX a_unitY a_unitSize a_splitNow a_callSites a_opaque a_form0 a_form1 a_formB a_met a_fact a_factValue a_work a_waiting a_trial a_candProc a_candMask a_candX a_candY a_candSize a_place a_frameUnit a_framePc a_vars a_outputs a_entryProc a_entryX a_entryY a_entryMask : Nat → Int32}
theorem xw_setForm {post : SX → Prop} {k : Nat} (hk : k < 240) {c0 c1 c : Int32} (h : ∀ o g0 g1 gB, cc_wr a_opaque a_form0 a_form1 a_formB o g0 g1 gB k (some (c0, c1, c)) → post (f_LIN, f_SKIP, f_CALL, f_OUT, f_JUMP, f_RUNNING, f_FIRST_VERSION, f_MAX_VERSIONS, f_procedures, f_length, f_calls, f_depth, f_openProc, f_analysed, f_built, f_builtCount, f_builtTotal, f_workTop, f_ctxMask, f_ctxX, f_ctxY, f_argMask, f_argX, f_argY, f_candCount, f_candTotal, f_overflow, f_frames, f_outCount, f_entryCount, a_kind, a_d, a_s, a_t, a_a, a_b, a_unitLen, a_unitProc, a_unitMask, a_unitX, a_unitY, a_unitSize, a_splitNow, a_callSites, o, g0, g1, gB, a_met, a_fact, a_factValue, a_work, a_waiting, a_trial, a_candProc, a_candMask, a_candX, a_candY, a_candSize, a_place, a_frameUnit, a_framePc, a_vars, a_outputs, a_entryProc, a_entryX, a_entryY, a_entryMask)) : wpX_setForm post (f_LIN, f_SKIP, f_CALL, f_OUT, f_JUMP, f_RUNNING, f_FIRST_VERSION, f_MAX_VERSIONS, f_procedures, f_length, f_calls, f_depth, f_openProc, f_analysed, f_built, f_builtCount, f_builtTotal, f_workTop, f_ctxMask, f_ctxX, f_ctxY, f_argMask, f_argX, f_argY, f_candCount, f_candTotal, f_overflow, f_frames, f_outCount, f_entryCount, a_kind, a_d, a_s, a_t, a_a, a_b, a_unitLen, a_unitProc, a_unitMask, a_unitX, a_unitY, a_unitSize, a_splitNow, a_callSites, a_opaque, a_form0, a_form1, a_formB, a_met, a_fact, a_factValue, a_work, a_waiting, a_trial, a_candProc, a_candMask, a_candX, a_candY, a_candSize, a_place, a_frameUnit, a_framePc, a_vars, a_outputs, a_entryProc, a_entryX, a_entryY, a_entryMask) (nI k) c0 c1 c := by
  have e := nI_clamp (n := k) (by omega)
  have hi : vp_in (nI k) 240 := vp_in_nI hk (by decide)
  refine And.intro hi (nm_e (And.intro hi (nm_e (And.intro hi (nm_e (And.intro hi (nm_e (h _ _ _ _ ?_))))))))
  rw [e]
  exact ⟨⟨pk_us, pk_us, pk_us, pk_us⟩, fun j hj => ⟨pk_un hj, pk_un hj, pk_un hj, pk_un hj⟩⟩
theorem xw_setOpaque {post : SX → Prop} {k : Nat} (hk : k < 240) (h : ∀ o g0 g1 gB, cc_wr a_opaque a_form0 a_form1 a_formB o g0 g1 gB k none → post (f_LIN, f_SKIP, f_CALL, f_OUT, f_JUMP, f_RUNNING, f_FIRST_VERSION, f_MAX_VERSIONS, f_procedures, f_length, f_calls, f_depth, f_openProc, f_analysed, f_built, f_builtCount, f_builtTotal, f_workTop, f_ctxMask, f_ctxX, f_ctxY, f_argMask, f_argX, f_argY, f_candCount, f_candTotal, f_overflow, f_frames, f_outCount, f_entryCount, a_kind, a_d, a_s, a_t, a_a, a_b, a_unitLen, a_unitProc, a_unitMask, a_unitX, a_unitY, a_unitSize, a_splitNow, a_callSites, o, g0, g1, gB, a_met, a_fact, a_factValue, a_work, a_waiting, a_trial, a_candProc, a_candMask, a_candX, a_candY, a_candSize, a_place, a_frameUnit, a_framePc, a_vars, a_outputs, a_entryProc, a_entryX, a_entryY, a_entryMask)) : wpX_setOpaque post (f_LIN, f_SKIP, f_CALL, f_OUT, f_JUMP, f_RUNNING, f_FIRST_VERSION, f_MAX_VERSIONS, f_procedures, f_length, f_calls, f_depth, f_openProc, f_analysed, f_built, f_builtCount, f_builtTotal, f_workTop, f_ctxMask, f_ctxX, f_ctxY, f_argMask, f_argX, f_argY, f_candCount, f_candTotal, f_overflow, f_frames, f_outCount, f_entryCount, a_kind, a_d, a_s, a_t, a_a, a_b, a_unitLen, a_unitProc, a_unitMask, a_unitX, a_unitY, a_unitSize, a_splitNow, a_callSites, a_opaque, a_form0, a_form1, a_formB, a_met, a_fact, a_factValue, a_work, a_waiting, a_trial, a_candProc, a_candMask, a_candX, a_candY, a_candSize, a_place, a_frameUnit, a_framePc, a_vars, a_outputs, a_entryProc, a_entryX, a_entryY, a_entryMask) (nI k) := by
  have e := nI_clamp (n := k) (by omega)
  have hi : vp_in (nI k) 240 := vp_in_nI hk (by decide)
  unfold wpX_setOpaque
  refine xw_setForm hk (fun o g0 g1 gB w => And.intro hi (nm_e (h _ _ _ _ ?_)))
  rw [e]
  refine ⟨⟨pk_us, w.1.2.1, w.1.2.2.1, w.1.2.2.2⟩, fun j hj => ?_⟩
  obtain ⟨a, b, c, d⟩ := w.2 j hj
  exact ⟨(pk_un hj).trans a, b, c, d⟩
theorem xw_isConstant {post : Int32 → Prop} {k : Nat} (hk : k < 240) {f : cc_Fm} (r : cc_rx a_opaque a_form0 a_form1 a_formB k f) (h : post (cc_b (cc_ik f))) : wpX_isConstant post (f_LIN, f_SKIP, f_CALL, f_OUT, f_JUMP, f_RUNNING, f_FIRST_VERSION, f_MAX_VERSIONS, f_procedures, f_length, f_calls, f_depth, f_openProc, f_analysed, f_built, f_builtCount, f_builtTotal, f_workTop, f_ctxMask, f_ctxX, f_ctxY, f_argMask, f_argX, f_argY, f_candCount, f_candTotal, f_overflow, f_frames, f_outCount, f_entryCount, a_kind, a_d, a_s, a_t, a_a, a_b, a_unitLen, a_unitProc, a_unitMask, a_unitX, a_unitY, a_unitSize, a_splitNow, a_callSites, a_opaque, a_form0, a_form1, a_formB, a_met, a_fact, a_factValue, a_work, a_waiting, a_trial, a_candProc, a_candMask, a_candX, a_candY, a_candSize, a_place, a_frameUnit, a_framePc, a_vars, a_outputs, a_entryProc, a_entryX, a_entryY, a_entryMask) (nI k) := by
  have e : k < 2 ^ 31 := by omega
  have hi : vp_in (nI k) 240 := vp_in_nI hk (by decide)
  obtain ⟨r0, r1, r2, r3⟩ := r
  refine And.intro hi ?_
  cases f with
  | none => exact br_f (by rw [ix_c a_opaque e, r0]; exact ix_10) h
  | some t =>
    refine br_t ((ix_c a_opaque e).trans r0) (And.intro hi ?_)
    by_cases z : t.1 = 0
    · refine br_t ((ix_c a_form0 e).trans (r1.trans z)) (And.intro hi ?_)
      by_cases y : t.2.1 = 0
      · have : cc_ik (some t) = true := decide_eq_true ⟨z, y⟩
        rw [this] at h
        exact br_t ((ix_c a_form1 e).trans (r2.trans y)) h
      · have : cc_ik (some t) = false := decide_eq_false (fun w => y w.2)
        rw [this] at h
        exact br_f (fun w => y (r2.symm.trans ((ix_c a_form1 e).symm.trans w))) h
    · have : cc_ik (some t) = false := decide_eq_false (fun w => z w.1)
      rw [this] at h
      exact br_f (fun w => z (r1.symm.trans ((ix_c a_form0 e).symm.trans w))) h
theorem xw_linForm {post : SX → Prop} {a k res : Nat} (ha : a < 176) (hk : k < 240) (hr : res < 240) {f : cc_Fm} {A B : Int32} (eA : a_a a = A) (eB : a_b a = B) (r : cc_rx a_opaque a_form0 a_form1 a_formB k f)
    (h : ∀ o g0 g1 gB, cc_wr a_opaque a_form0 a_form1 a_formB o g0 g1 gB res (cc_ln f A B) → post (f_LIN, f_SKIP, f_CALL, f_OUT, f_JUMP, f_RUNNING, f_FIRST_VERSION, f_MAX_VERSIONS, f_procedures, f_length, f_calls, f_depth, f_openProc, f_analysed, f_built, f_builtCount, f_builtTotal, f_workTop, f_ctxMask, f_ctxX, f_ctxY, f_argMask, f_argX, f_argY, f_candCount, f_candTotal, f_overflow, f_frames, f_outCount, f_entryCount, a_kind, a_d, a_s, a_t, a_a, a_b, a_unitLen, a_unitProc, a_unitMask, a_unitX, a_unitY, a_unitSize, a_splitNow, a_callSites, o, g0, g1, gB, a_met, a_fact, a_factValue, a_work, a_waiting, a_trial, a_candProc, a_candMask, a_candX, a_candY, a_candSize, a_place, a_frameUnit, a_framePc, a_vars, a_outputs, a_entryProc, a_entryX, a_entryY, a_entryMask)) : wpX_linForm post (f_LIN, f_SKIP, f_CALL, f_OUT, f_JUMP, f_RUNNING, f_FIRST_VERSION, f_MAX_VERSIONS, f_procedures, f_length, f_calls, f_depth, f_openProc, f_analysed, f_built, f_builtCount, f_builtTotal, f_workTop, f_ctxMask, f_ctxX, f_ctxY, f_argMask, f_argX, f_argY, f_candCount, f_candTotal, f_overflow, f_frames, f_outCount, f_entryCount, a_kind, a_d, a_s, a_t, a_a, a_b, a_unitLen, a_unitProc, a_unitMask, a_unitX, a_unitY, a_unitSize, a_splitNow, a_callSites, a_opaque, a_form0, a_form1, a_formB, a_met, a_fact, a_factValue, a_work, a_waiting, a_trial, a_candProc, a_candMask, a_candX, a_candY, a_candSize, a_place, a_frameUnit, a_framePc, a_vars, a_outputs, a_entryProc, a_entryX, a_entryY, a_entryMask) (nI a) (nI k) (nI res) := by
  have ea : a < 2 ^ 31 := by omega
  have ek : k < 2 ^ 31 := by omega
  have hia : vp_in (nI a) 176 := vp_in_nI ha (by decide)
  have hik : vp_in (nI k) 240 := vp_in_nI hk (by decide)
  obtain ⟨r0, r1, r2, r3⟩ := r
  refine And.intro hia (nm_r (e' := A) ((ix_c a_a ea).trans eA) ?_)
  by_cases z : A = 0
  · refine br_t z (And.intro hia ?_)
    rw [ix_c a_b ea, eB]
    have : cc_ln f A B = some (0, 0, B) := by unfold cc_ln; rw [if_pos z]
    rw [this] at h
    exact xw_setForm hr h
  · refine br_f z (And.intro hik ?_)
    cases f with
    | none =>
      have : cc_ln none A B = none := by unfold cc_ln; rw [if_neg z]
      rw [this] at h
      exact br_f (by rw [ix_c a_opaque ek, r0]; exact ix_10) (xw_setOpaque hr h)
    | some t =>
      have : cc_ln (some t) A B = some (A * t.1, A * t.2.1, A * t.2.2 + B) := by unfold cc_ln; rw [if_neg z]
      rw [this] at h
      refine br_t ((ix_c a_opaque ek).trans r0) (And.intro hik (And.intro hik (And.intro hik (And.intro hia ?_))))
      rw [ix_c a_form0 ek, ix_c a_form1 ek, ix_c a_formB ek, ix_c a_b ea, r1, r2, r3, eB]
      exact xw_setForm hr h
theorem xw_sumForm {post : SX → Prop} {k l res : Nat} (hk : k < 240) (hl : l < 240) (hr : res < 240) {t u : cc_F3} {sg : Int32} (r : cc_rx a_opaque a_form0 a_form1 a_formB k (some t)) (q : cc_rx a_opaque a_form0 a_form1 a_formB l (some u))
    (h : ∀ o g0 g1 gB, cc_wr a_opaque a_form0 a_form1 a_formB o g0 g1 gB res (some (t.1 + sg * u.1, t.2.1 + sg * u.2.1, t.2.2 + sg * u.2.2)) → post (f_LIN, f_SKIP, f_CALL, f_OUT, f_JUMP, f_RUNNING, f_FIRST_VERSION, f_MAX_VERSIONS, f_procedures, f_length, f_calls, f_depth, f_openProc, f_analysed, f_built, f_builtCount, f_builtTotal, f_workTop, f_ctxMask, f_ctxX, f_ctxY, f_argMask, f_argX, f_argY, f_candCount, f_candTotal, f_overflow, f_frames, f_outCount, f_entryCount, a_kind, a_d, a_s, a_t, a_a, a_b, a_unitLen, a_unitProc, a_unitMask, a_unitX, a_unitY, a_unitSize, a_splitNow, a_callSites, o, g0, g1, gB, a_met, a_fact, a_factValue, a_work, a_waiting, a_trial, a_candProc, a_candMask, a_candX, a_candY, a_candSize, a_place, a_frameUnit, a_framePc, a_vars, a_outputs, a_entryProc, a_entryX, a_entryY, a_entryMask)) : wpX_sumForm post (f_LIN, f_SKIP, f_CALL, f_OUT, f_JUMP, f_RUNNING, f_FIRST_VERSION, f_MAX_VERSIONS, f_procedures, f_length, f_calls, f_depth, f_openProc, f_analysed, f_built, f_builtCount, f_builtTotal, f_workTop, f_ctxMask, f_ctxX, f_ctxY, f_argMask, f_argX, f_argY, f_candCount, f_candTotal, f_overflow, f_frames, f_outCount, f_entryCount, a_kind, a_d, a_s, a_t, a_a, a_b, a_unitLen, a_unitProc, a_unitMask, a_unitX, a_unitY, a_unitSize, a_splitNow, a_callSites, a_opaque, a_form0, a_form1, a_formB, a_met, a_fact, a_factValue, a_work, a_waiting, a_trial, a_candProc, a_candMask, a_candX, a_candY, a_candSize, a_place, a_frameUnit, a_framePc, a_vars, a_outputs, a_entryProc, a_entryX, a_entryY, a_entryMask) (nI res) (nI k) (nI l) sg := by
  have ek : k < 2 ^ 31 := by omega
  have el : l < 2 ^ 31 := by omega
  have hik : vp_in (nI k) 240 := vp_in_nI hk (by decide)
  have hil : vp_in (nI l) 240 := vp_in_nI hl (by decide)
  obtain ⟨r0, r1, r2, r3⟩ := r
  obtain ⟨q0, q1, q2, q3⟩ := q
  refine And.intro hik (And.intro hil (And.intro hik (And.intro hil (And.intro hik (And.intro hil ?_)))))
  rw [ix_c a_form0 ek, ix_c a_form1 ek, ix_c a_formB ek, ix_c a_form0 el, ix_c a_form1 el, ix_c a_formB el, r1, r2, r3, q1, q2, q3]
  exact xw_setForm hr h
theorem xw_scaleForm {post : SX → Prop} {k res : Nat} (hk : k < 240) (hr : res < 240) {t : cc_F3} {m : Int32} (r : cc_rx a_opaque a_form0 a_form1 a_formB k (some t))
    (h : ∀ o g0 g1 gB, cc_wr a_opaque a_form0 a_form1 a_formB o g0 g1 gB res (some (m * t.1, m * t.2.1, m * t.2.2)) → post (f_LIN, f_SKIP, f_CALL, f_OUT, f_JUMP, f_RUNNING, f_FIRST_VERSION, f_MAX_VERSIONS, f_procedures, f_length, f_calls, f_depth, f_openProc, f_analysed, f_built, f_builtCount, f_builtTotal, f_workTop, f_ctxMask, f_ctxX, f_ctxY, f_argMask, f_argX, f_argY, f_candCount, f_candTotal, f_overflow, f_frames, f_outCount, f_entryCount, a_kind, a_d, a_s, a_t, a_a, a_b, a_unitLen, a_unitProc, a_unitMask, a_unitX, a_unitY, a_unitSize, a_splitNow, a_callSites, o, g0, g1, gB, a_met, a_fact, a_factValue, a_work, a_waiting, a_trial, a_candProc, a_candMask, a_candX, a_candY, a_candSize, a_place, a_frameUnit, a_framePc, a_vars, a_outputs, a_entryProc, a_entryX, a_entryY, a_entryMask)) : wpX_scaleForm post (f_LIN, f_SKIP, f_CALL, f_OUT, f_JUMP, f_RUNNING, f_FIRST_VERSION, f_MAX_VERSIONS, f_procedures, f_length, f_calls, f_depth, f_openProc, f_analysed, f_built, f_builtCount, f_builtTotal, f_workTop, f_ctxMask, f_ctxX, f_ctxY, f_argMask, f_argX, f_argY, f_candCount, f_candTotal, f_overflow, f_frames, f_outCount, f_entryCount, a_kind, a_d, a_s, a_t, a_a, a_b, a_unitLen, a_unitProc, a_unitMask, a_unitX, a_unitY, a_unitSize, a_splitNow, a_callSites, a_opaque, a_form0, a_form1, a_formB, a_met, a_fact, a_factValue, a_work, a_waiting, a_trial, a_candProc, a_candMask, a_candX, a_candY, a_candSize, a_place, a_frameUnit, a_framePc, a_vars, a_outputs, a_entryProc, a_entryX, a_entryY, a_entryMask) (nI res) (nI k) m := by
  have ek : k < 2 ^ 31 := by omega
  have hik : vp_in (nI k) 240 := vp_in_nI hk (by decide)
  obtain ⟨r0, r1, r2, r3⟩ := r
  refine And.intro hik (And.intro hik (And.intro hik ?_))
  rw [ix_c a_form0 ek, ix_c a_form1 ek, ix_c a_formB ek, r1, r2, r3]
  exact xw_setForm hr h
theorem xw_productForm {post : SX → Prop} {k l res : Nat} (hk : k < 240) (hl : l < 240) (hr : res < 240) {t u : cc_F3} (r : cc_rx a_opaque a_form0 a_form1 a_formB k (some t)) (q : cc_rx a_opaque a_form0 a_form1 a_formB l (some u))
    (h : ∀ o g0 g1 gB, cc_wr a_opaque a_form0 a_form1 a_formB o g0 g1 gB res (cc_o2 2 t u) → post (f_LIN, f_SKIP, f_CALL, f_OUT, f_JUMP, f_RUNNING, f_FIRST_VERSION, f_MAX_VERSIONS, f_procedures, f_length, f_calls, f_depth, f_openProc, f_analysed, f_built, f_builtCount, f_builtTotal, f_workTop, f_ctxMask, f_ctxX, f_ctxY, f_argMask, f_argX, f_argY, f_candCount, f_candTotal, f_overflow, f_frames, f_outCount, f_entryCount, a_kind, a_d, a_s, a_t, a_a, a_b, a_unitLen, a_unitProc, a_unitMask, a_unitX, a_unitY, a_unitSize, a_splitNow, a_callSites, o, g0, g1, gB, a_met, a_fact, a_factValue, a_work, a_waiting, a_trial, a_candProc, a_candMask, a_candX, a_candY, a_candSize, a_place, a_frameUnit, a_framePc, a_vars, a_outputs, a_entryProc, a_entryX, a_entryY, a_entryMask)) : wpX_productForm post (f_LIN, f_SKIP, f_CALL, f_OUT, f_JUMP, f_RUNNING, f_FIRST_VERSION, f_MAX_VERSIONS, f_procedures, f_length, f_calls, f_depth, f_openProc, f_analysed, f_built, f_builtCount, f_builtTotal, f_workTop, f_ctxMask, f_ctxX, f_ctxY, f_argMask, f_argX, f_argY, f_candCount, f_candTotal, f_overflow, f_frames, f_outCount, f_entryCount, a_kind, a_d, a_s, a_t, a_a, a_b, a_unitLen, a_unitProc, a_unitMask, a_unitX, a_unitY, a_unitSize, a_splitNow, a_callSites, a_opaque, a_form0, a_form1, a_formB, a_met, a_fact, a_factValue, a_work, a_waiting, a_trial, a_candProc, a_candMask, a_candX, a_candY, a_candSize, a_place, a_frameUnit, a_framePc, a_vars, a_outputs, a_entryProc, a_entryX, a_entryY, a_entryMask) (nI res) (nI k) (nI l) := by
  have ek : k < 2 ^ 31 := by omega
  have el : l < 2 ^ 31 := by omega
  have hik : vp_in (nI k) 240 := vp_in_nI hk (by decide)
  have hil : vp_in (nI l) 240 := vp_in_nI hl (by decide)
  unfold wpX_productForm
  refine xw_isConstant hk r ?_
  by_cases z : t.1 = 0 ∧ t.2.1 = 0
  · have e1 : cc_ik (some t) = true := decide_eq_true z
    have e2 : cc_o2 2 t u = some (t.2.2 * u.1, t.2.2 * u.2.1, t.2.2 * u.2.2) := by
      unfold cc_o2; rw [if_neg (by decide), if_neg (by decide), if_pos rfl, if_pos z]
    rw [e1]
    rw [e2] at h
    refine br_f ix_10 (And.intro hik ?_)
    rw [ix_c a_formB ek, r.2.2.2]
    exact xw_scaleForm hl hr q h
  · have e1 : cc_ik (some t) = false := decide_eq_false z
    rw [e1]
    refine br_t rfl (xw_isConstant hl q ?_)
    by_cases y : u.1 = 0 ∧ u.2.1 = 0
    · have e3 : cc_ik (some u) = true := decide_eq_true y
      have e2 : cc_o2 2 t u = some (u.2.2 * t.1, u.2.2 * t.2.1, u.2.2 * t.2.2) := by
        unfold cc_o2; rw [if_neg (by decide), if_neg (by decide), if_pos rfl, if_neg z, if_pos y]
      rw [e3]
      rw [e2] at h
      refine br_f ix_10 (And.intro hil ?_)
      rw [ix_c a_formB el, q.2.2.2]
      exact xw_scaleForm hk hr r h
    · have e3 : cc_ik (some u) = false := decide_eq_false y
      have e2 : cc_o2 2 t u = none := by
        unfold cc_o2; rw [if_neg (by decide), if_neg (by decide), if_pos rfl, if_neg z, if_neg y]
      rw [e3]
      rw [e2] at h
      exact br_t rfl (xw_setOpaque hr h)
theorem xw_lessForm {post : SX → Prop} {k l res : Nat} (hk : k < 240) (hl : l < 240) (hr : res < 240) {t u : cc_F3} (r : cc_rx a_opaque a_form0 a_form1 a_formB k (some t)) (q : cc_rx a_opaque a_form0 a_form1 a_formB l (some u))
    (h : ∀ o g0 g1 gB, cc_wr a_opaque a_form0 a_form1 a_formB o g0 g1 gB res (cc_o2 3 t u) → post (f_LIN, f_SKIP, f_CALL, f_OUT, f_JUMP, f_RUNNING, f_FIRST_VERSION, f_MAX_VERSIONS, f_procedures, f_length, f_calls, f_depth, f_openProc, f_analysed, f_built, f_builtCount, f_builtTotal, f_workTop, f_ctxMask, f_ctxX, f_ctxY, f_argMask, f_argX, f_argY, f_candCount, f_candTotal, f_overflow, f_frames, f_outCount, f_entryCount, a_kind, a_d, a_s, a_t, a_a, a_b, a_unitLen, a_unitProc, a_unitMask, a_unitX, a_unitY, a_unitSize, a_splitNow, a_callSites, o, g0, g1, gB, a_met, a_fact, a_factValue, a_work, a_waiting, a_trial, a_candProc, a_candMask, a_candX, a_candY, a_candSize, a_place, a_frameUnit, a_framePc, a_vars, a_outputs, a_entryProc, a_entryX, a_entryY, a_entryMask)) : wpX_lessForm post (f_LIN, f_SKIP, f_CALL, f_OUT, f_JUMP, f_RUNNING, f_FIRST_VERSION, f_MAX_VERSIONS, f_procedures, f_length, f_calls, f_depth, f_openProc, f_analysed, f_built, f_builtCount, f_builtTotal, f_workTop, f_ctxMask, f_ctxX, f_ctxY, f_argMask, f_argX, f_argY, f_candCount, f_candTotal, f_overflow, f_frames, f_outCount, f_entryCount, a_kind, a_d, a_s, a_t, a_a, a_b, a_unitLen, a_unitProc, a_unitMask, a_unitX, a_unitY, a_unitSize, a_splitNow, a_callSites, a_opaque, a_form0, a_form1, a_formB, a_met, a_fact, a_factValue, a_work, a_waiting, a_trial, a_candProc, a_candMask, a_candX, a_candY, a_candSize, a_place, a_frameUnit, a_framePc, a_vars, a_outputs, a_entryProc, a_entryX, a_entryY, a_entryMask) (nI res) (nI k) (nI l) := by
  have ek : k < 2 ^ 31 := by omega
  have el : l < 2 ^ 31 := by omega
  have hik : vp_in (nI k) 240 := vp_in_nI hk (by decide)
  have hil : vp_in (nI l) 240 := vp_in_nI hl (by decide)
  unfold wpX_lessForm
  refine xw_isConstant hk r ?_
  by_cases z : t.1 = 0 ∧ t.2.1 = 0
  · have e1 : cc_ik (some t) = true := decide_eq_true z
    rw [e1]
    refine br_f ix_10 (xw_isConstant hl q ?_)
    by_cases y : u.1 = 0 ∧ u.2.1 = 0
    · have e3 : cc_ik (some u) = true := decide_eq_true y
      have e2 : cc_o2 3 t u = some (0, 0, if u.2.2 ≤ t.2.2 then 0 else 1) := by
        unfold cc_o2; rw [if_neg (by decide), if_neg (by decide), if_neg (by decide), if_pos ⟨z, y⟩]
      rw [e3]
      rw [e2] at h
      refine br_f ix_10 (And.intro hik (And.intro hil ?_))
      rw [ix_c a_formB ek, ix_c a_formB el, r.2.2.2, q.2.2.2]
      show (u.2.2 ≤ t.2.2 → _) ∧ (¬ u.2.2 ≤ t.2.2 → _)
      by_cases c : u.2.2 ≤ t.2.2
      · rw [if_pos c] at h
        exact br_t c (xw_setForm hr h)
      · rw [if_neg c] at h
        exact br_f c (xw_setForm hr h)
    · have e3 : cc_ik (some u) = false := decide_eq_false y
      have e2 : cc_o2 3 t u = none := by
        unfold cc_o2; rw [if_neg (by decide), if_neg (by decide), if_neg (by decide), if_neg (fun w => y w.2)]
      rw [e3]
      rw [e2] at h
      exact br_t rfl (xw_setOpaque hr h)
  · have e1 : cc_ik (some t) = false := decide_eq_false z
    have e2 : cc_o2 3 t u = none := by
      unfold cc_o2; rw [if_neg (by decide), if_neg (by decide), if_neg (by decide), if_neg (fun w => z w.1)]
    rw [e1]
    rw [e2] at h
    exact br_t rfl (xw_setOpaque hr h)
/-- one source statement in X's code -/
def cc_x1 (P : cc_Pg) (kd d s t a b : Nat → Int32) (m : Nat) : Prop := kd m = nI (cc_K P m) ∧ d m = nI (cc_D P m) ∧ s m = nI (cc_S P m) ∧ t m = nI (cc_T P m) ∧ a m = cc_A P m ∧ b m = cc_B P m
theorem xw_transfer {post : SX → Prop} {P : cc_Pg} {m i : Nat} (hm : m < 48) (w : cc_w1 P m i) (x : cc_x1 P a_kind a_d a_s a_t a_a a_b m) {g : Nat → cc_Fm} (R : ∀ v, v < 4 → cc_rx a_opaque a_form0 a_form1 a_formB (m * 5 + v) (g v))
    (h : ∀ o g0 g1 gB, cc_wr a_opaque a_form0 a_form1 a_formB o g0 g1 gB (m * 5 + 4) (cc_tf P g m) → post (f_LIN, f_SKIP, f_CALL, f_OUT, f_JUMP, f_RUNNING, f_FIRST_VERSION, f_MAX_VERSIONS, f_procedures, f_length, f_calls, f_depth, f_openProc, f_analysed, f_built, f_builtCount, f_builtTotal, f_workTop, f_ctxMask, f_ctxX, f_ctxY, f_argMask, f_argX, f_argY, f_candCount, f_candTotal, f_overflow, f_frames, f_outCount, f_entryCount, a_kind, a_d, a_s, a_t, a_a, a_b, a_unitLen, a_unitProc, a_unitMask, a_unitX, a_unitY, a_unitSize, a_splitNow, a_callSites, o, g0, g1, gB, a_met, a_fact, a_factValue, a_work, a_waiting, a_trial, a_candProc, a_candMask, a_candX, a_candY, a_candSize, a_place, a_frameUnit, a_framePc, a_vars, a_outputs, a_entryProc, a_entryX, a_entryY, a_entryMask)) : wpX_transfer post (f_LIN, f_SKIP, f_CALL, f_OUT, f_JUMP, f_RUNNING, f_FIRST_VERSION, f_MAX_VERSIONS, f_procedures, f_length, f_calls, f_depth, f_openProc, f_analysed, f_built, f_builtCount, f_builtTotal, f_workTop, f_ctxMask, f_ctxX, f_ctxY, f_argMask, f_argX, f_argY, f_candCount, f_candTotal, f_overflow, f_frames, f_outCount, f_entryCount, a_kind, a_d, a_s, a_t, a_a, a_b, a_unitLen, a_unitProc, a_unitMask, a_unitX, a_unitY, a_unitSize, a_splitNow, a_callSites, a_opaque, a_form0, a_form1, a_formB, a_met, a_fact, a_factValue, a_work, a_waiting, a_trial, a_candProc, a_candMask, a_candX, a_candY, a_candSize, a_place, a_frameUnit, a_framePc, a_vars, a_outputs, a_entryProc, a_entryX, a_entryY, a_entryMask) (nI m) := by
  have em : m < 2 ^ 31 := by omega
  have him : vp_in (nI m) 176 := vp_in_nI (by omega) (by decide)
  obtain ⟨x1, x2, x3, x4, x5, x6⟩ := x
  obtain ⟨w1, w2, w3, w4, -, -⟩ := w
  have rS := R _ w3
  have rT := R _ w4
  have hr : m * 5 + 4 < 240 := by omega
  have hS : m * 5 + cc_S P m < 240 := by omega
  have hT : m * 5 + cc_T P m < 240 := by omega
  refine And.intro him (nm_r (e' := nI (cc_K P m)) ((ix_c a_kind em).trans x1) (nm_r (e' := nI (m * 5 + 4)) (ix_5 m 4) (And.intro him (nm_r (e' := nI (m * 5 + cc_S P m)) (by rw [ix_c a_s em, x3]; exact ix_5 _ _) (And.intro him (nm_r (e' := nI (m * 5 + cc_T P m)) (by rw [ix_c a_t em, x4]; exact ix_5 _ _) ?_))))))
  unfold cc_tf at h
  by_cases k4 : cc_K P m = 4
  · rw [if_pos k4] at h
    refine br_t (by rw [k4]; rfl) ?_
    exact xw_linForm (by omega) hS hr x5 x6 rS h
  · rw [if_neg k4] at h
    refine br_f (fun z => k4 ((nI_eq (by omega) (by decide)).mp z)) ?_
    by_cases k5 : 4 < cc_K P m
    · rw [if_pos k5] at h
      exact br_t (nI_lt k5 (by omega)) (xw_setOpaque hr h)
    · rw [if_neg k5] at h
      refine br_f (nI_nlt (a := 4) (b := cc_K P m) (by omega) (by decide)) (And.intro (vp_in_nI hS (by decide)) ?_)
      cases eS : g (cc_S P m) with
      | none =>
        rw [eS] at h rS
        exact br_f (by rw [ix_c a_opaque (by omega), rS.1]; exact ix_10) (xw_setOpaque hr h)
      | some f =>
        rw [eS] at h rS
        refine br_t ((ix_c a_opaque (by omega)).trans rS.1) (And.intro (vp_in_nI hT (by decide)) ?_)
        cases eT : g (cc_T P m) with
        | none =>
          rw [eT] at h rT
          exact br_f (by rw [ix_c a_opaque (by omega), rT.1]; exact ix_10) (xw_setOpaque hr h)
        | some u =>
          rw [eT] at h rT
          refine br_t ((ix_c a_opaque (by omega)).trans rT.1) ?_
          replace h : ∀ o g0 g1 gB, cc_wr a_opaque a_form0 a_form1 a_formB o g0 g1 gB (m * 5 + 4) (cc_o2 (cc_K P m) f u) → post (f_LIN, f_SKIP, f_CALL, f_OUT, f_JUMP, f_RUNNING, f_FIRST_VERSION, f_MAX_VERSIONS, f_procedures, f_length, f_calls, f_depth, f_openProc, f_analysed, f_built, f_builtCount, f_builtTotal, f_workTop, f_ctxMask, f_ctxX, f_ctxY, f_argMask, f_argX, f_argY, f_candCount, f_candTotal, f_overflow, f_frames, f_outCount, f_entryCount, a_kind, a_d, a_s, a_t, a_a, a_b, a_unitLen, a_unitProc, a_unitMask, a_unitX, a_unitY, a_unitSize, a_splitNow, a_callSites, o, g0, g1, gB, a_met, a_fact, a_factValue, a_work, a_waiting, a_trial, a_candProc, a_candMask, a_candX, a_candY, a_candSize, a_place, a_frameUnit, a_framePc, a_vars, a_outputs, a_entryProc, a_entryX, a_entryY, a_entryMask) := h
          have k03 : cc_K P m = 0 ∨ cc_K P m = 1 ∨ cc_K P m = 2 ∨ cc_K P m = 3 := by omega
          rcases k03 with k | k | k | k
          · rw [k] at h ⊢
            refine br_t rfl (xw_sumForm hS hT hr rS rT (fun o g0 g1 gB q => h o g0 g1 gB ?_))
            have : cc_o2 0 f u = some (f.1 + 1 * u.1, f.2.1 + 1 * u.2.1, f.2.2 + 1 * u.2.2) := by
              unfold cc_o2; rw [if_pos rfl, Int32.one_mul, Int32.one_mul, Int32.one_mul]
            rw [this]; exact q
          · rw [k] at h ⊢
            refine br_f (by decide) (br_t rfl (xw_sumForm hS hT hr rS rT (fun o g0 g1 gB q => h o g0 g1 gB ?_)))
            have : cc_o2 1 f u = some (f.1 + (-1) * u.1, f.2.1 + (-1) * u.2.1, f.2.2 + (-1) * u.2.2) := by
              have e : ∀ a b : Int32, a - b = a + (-1) * b := fun a b => by grind
              unfold cc_o2; rw [if_neg (by decide), if_pos rfl, e, e, e]
            rw [this]; exact q
          · rw [k] at h ⊢
            exact br_f (by decide) (br_f (by decide) (br_t rfl (xw_productForm hS hT hr rS rT h)))
          · rw [k] at h ⊢
            exact br_f (by decide) (br_f (by decide) (br_f (by decide) (xw_lessForm hS hT hr rS rT h)))
theorem xw_joinForm0 {post : SX → Prop} {k l : Nat} (hk : k < 240) (hl : l < 240) (hkl : k ≠ l) {f : cc_Fm} (r : cc_rx a_opaque a_form0 a_form1 a_formB k f)
    (h : ∀ o g0 g1 gB, cc_wr a_opaque a_form0 a_form1 a_formB o g0 g1 gB l f → post (f_LIN, f_SKIP, f_CALL, f_OUT, f_JUMP, f_RUNNING, f_FIRST_VERSION, f_MAX_VERSIONS, f_procedures, f_length, f_calls, f_depth, f_openProc, f_analysed, f_built, f_builtCount, f_builtTotal, f_workTop, f_ctxMask, f_ctxX, f_ctxY, f_argMask, f_argX, f_argY, f_candCount, f_candTotal, f_overflow, f_frames, f_outCount, f_entryCount, a_kind, a_d, a_s, a_t, a_a, a_b, a_unitLen, a_unitProc, a_unitMask, a_unitX, a_unitY, a_unitSize, a_splitNow, a_callSites, o, g0, g1, gB, a_met, a_fact, a_factValue, a_work, a_waiting, a_trial, a_candProc, a_candMask, a_candX, a_candY, a_candSize, a_place, a_frameUnit, a_framePc, a_vars, a_outputs, a_entryProc, a_entryX, a_entryY, a_entryMask)) : wpX_joinForm post (f_LIN, f_SKIP, f_CALL, f_OUT, f_JUMP, f_RUNNING, f_FIRST_VERSION, f_MAX_VERSIONS, f_procedures, f_length, f_calls, f_depth, f_openProc, f_analysed, f_built, f_builtCount, f_builtTotal, f_workTop, f_ctxMask, f_ctxX, f_ctxY, f_argMask, f_argX, f_argY, f_candCount, f_candTotal, f_overflow, f_frames, f_outCount, f_entryCount, a_kind, a_d, a_s, a_t, a_a, a_b, a_unitLen, a_unitProc, a_unitMask, a_unitX, a_unitY, a_unitSize, a_splitNow, a_callSites, a_opaque, a_form0, a_form1, a_formB, a_met, a_fact, a_factValue, a_work, a_waiting, a_trial, a_candProc, a_candMask, a_candX, a_candY, a_candSize, a_place, a_frameUnit, a_framePc, a_vars, a_outputs, a_entryProc, a_entryX, a_entryY, a_entryMask) (nI k) (nI l) 0 := by
  have ek : k < 2 ^ 31 := by omega
  have el : l < 2 ^ 31 := by omega
  have hik : vp_in (nI k) 240 := vp_in_nI hk (by decide)
  have hil : vp_in (nI l) 240 := vp_in_nI hl (by decide)
  refine br_t rfl (And.intro hik (And.intro hik (And.intro hik ?_)))
  refine xw_setForm hl (fun o g0 g1 gB w => And.intro hik (And.intro hil (nm_e (h _ _ _ _ ?_))))
  rw [ix_c o ek, nI_clamp el, (w.2 k hkl).1, r.1, ix_no]
  obtain ⟨w1, w2, w3, w4⟩ := w.1
  refine ⟨⟨pk_us, w2.trans ?_, w3.trans ?_, w4.trans ?_⟩, fun j hj => ?_⟩
  · exact (ix_c a_form0 ek).trans r.2.1
  · exact (ix_c a_form1 ek).trans r.2.2.1
  · exact (ix_c a_formB ek).trans r.2.2.2
  · obtain ⟨a, b, c, d⟩ := w.2 j hj
    exact ⟨(pk_un hj).trans a, b, c, d⟩
theorem xw_joinForm1 {post : SX → Prop} {k l : Nat} (hk : k < 240) (hl : l < 240) {f g : cc_Fm} (r : cc_rx a_opaque a_form0 a_form1 a_formB k f) (q : cc_rx a_opaque a_form0 a_form1 a_formB l g)
    (h : ∀ o g0 g1 gB, cc_wr a_opaque a_form0 a_form1 a_formB o g0 g1 gB l (cc_jn g f) → post (f_LIN, f_SKIP, f_CALL, f_OUT, f_JUMP, f_RUNNING, f_FIRST_VERSION, f_MAX_VERSIONS, f_procedures, f_length, f_calls, f_depth, f_openProc, f_analysed, f_built, f_builtCount, f_builtTotal, f_workTop, f_ctxMask, f_ctxX, f_ctxY, f_argMask, f_argX, f_argY, f_candCount, f_candTotal, f_overflow, f_frames, f_outCount, f_entryCount, a_kind, a_d, a_s, a_t, a_a, a_b, a_unitLen, a_unitProc, a_unitMask, a_unitX, a_unitY, a_unitSize, a_splitNow, a_callSites, o, g0, g1, gB, a_met, a_fact, a_factValue, a_work, a_waiting, a_trial, a_candProc, a_candMask, a_candX, a_candY, a_candSize, a_place, a_frameUnit, a_framePc, a_vars, a_outputs, a_entryProc, a_entryX, a_entryY, a_entryMask)) : wpX_joinForm post (f_LIN, f_SKIP, f_CALL, f_OUT, f_JUMP, f_RUNNING, f_FIRST_VERSION, f_MAX_VERSIONS, f_procedures, f_length, f_calls, f_depth, f_openProc, f_analysed, f_built, f_builtCount, f_builtTotal, f_workTop, f_ctxMask, f_ctxX, f_ctxY, f_argMask, f_argX, f_argY, f_candCount, f_candTotal, f_overflow, f_frames, f_outCount, f_entryCount, a_kind, a_d, a_s, a_t, a_a, a_b, a_unitLen, a_unitProc, a_unitMask, a_unitX, a_unitY, a_unitSize, a_splitNow, a_callSites, a_opaque, a_form0, a_form1, a_formB, a_met, a_fact, a_factValue, a_work, a_waiting, a_trial, a_candProc, a_candMask, a_candX, a_candY, a_candSize, a_place, a_frameUnit, a_framePc, a_vars, a_outputs, a_entryProc, a_entryX, a_entryY, a_entryMask) (nI k) (nI l) 1 := by
  have ek : k < 2 ^ 31 := by omega
  have el : l < 2 ^ 31 := by omega
  have hik : vp_in (nI k) 240 := vp_in_nI hk (by decide)
  have hil : vp_in (nI l) 240 := vp_in_nI hl (by decide)
  have no : cc_jn g f = none → wX_joinForm_107 post (nI l) f_LIN f_SKIP f_CALL f_OUT f_JUMP f_RUNNING f_FIRST_VERSION f_MAX_VERSIONS f_procedures f_length f_calls f_depth f_openProc f_analysed f_built f_builtCount f_builtTotal f_workTop f_ctxMask f_ctxX f_ctxY f_argMask f_argX f_argY f_candCount f_candTotal f_overflow f_frames f_outCount f_entryCount a_kind a_d a_s a_t a_a a_b a_unitLen a_unitProc a_unitMask a_unitX a_unitY a_unitSize a_splitNow a_callSites a_opaque a_form0 a_form1 a_formB a_met a_fact a_factValue a_work a_waiting a_trial a_candProc a_candMask a_candX a_candY a_candSize a_place a_frameUnit a_framePc a_vars a_outputs a_entryProc a_entryX a_entryY a_entryMask := by
    intro e
    rw [e] at h
    exact br_t rfl (xw_setOpaque hl h)
  refine br_f ix_10 (And.intro hik ?_)
  cases f with
  | none =>
    refine br_f (by rw [ix_c a_opaque ek, r.1]; exact ix_10) (no ?_)
    cases g with
    | none => rfl
    | some t => exact if_neg (fun z => nomatch z)
  | some t =>
    refine br_t ((ix_c a_opaque ek).trans r.1) (And.intro hil ?_)
    cases g with
    | none => exact br_f (by rw [ix_c a_opaque el, q.1]; exact ix_10) (no rfl)
    | some u =>
      refine br_t ((ix_c a_opaque el).trans q.1) (And.intro hik (And.intro hil ?_))
      by_cases c0 : t.1 = u.1
      · refine br_t (by rw [ix_c a_form0 ek, ix_c a_form0 el, r.2.1, q.2.1]; exact c0) (And.intro hik (And.intro hil ?_))
        by_cases c1 : t.2.1 = u.2.1
        · refine br_t (by rw [ix_c a_form1 ek, ix_c a_form1 el, r.2.2.1, q.2.2.1]; exact c1) (And.intro hik (And.intro hil ?_))
          by_cases c2 : t.2.2 = u.2.2
          · refine br_t (by rw [ix_c a_formB ek, ix_c a_formB el, r.2.2.2, q.2.2.2]; exact c2) ?_
            have e : u = t := Prod.ext c0.symm (Prod.ext c1.symm c2.symm)
            have e2 : cc_jn (some u) (some t) = some u := if_pos (congrArg some e)
            rw [e2] at h
            exact br_f ix_10 (h _ _ _ _ (cc_wr_s q))
          · refine br_f (by rw [ix_c a_formB ek, ix_c a_formB el, r.2.2.2, q.2.2.2]; exact c2) (no ?_)
            exact if_neg (fun z => c2 (by rw [Option.some.inj z]))
        · refine br_f (by rw [ix_c a_form1 ek, ix_c a_form1 el, r.2.2.1, q.2.2.1]; exact c1) (no ?_)
          exact if_neg (fun z => c1 (by rw [Option.some.inj z]))
      · refine br_f (by rw [ix_c a_form0 ek, ix_c a_form0 el, r.2.1, q.2.1]; exact c0) (no ?_)
        exact if_neg (fun z => c0 (by rw [Option.some.inj z]))
end
end
section
/-! X: flow, findForms -/
abbrev xw_J : Type := Int32 → Int32 → Int32 → Int32 → Int32 → Int32 → Int32 → Int32 → Int32 → Int32 → Int32 → Int32 → Int32 → Int32 → Int32 → Int32 → Int32 → Int32 → Int32 → Int32 → Int32 → Int32 → Int32 → Int32 → Int32 → Int32 → Int32 → Int32 → Int32 → Int32 → Int32 → (Nat → Int32) → (Nat → Int32) → (Nat → Int32) → (Nat → Int32) → (Nat → Int32) → (Nat → Int32) → (Nat → Int32) → (Nat → Int32) → (Nat → Int32) → (Nat → Int32) → (Nat → Int32) → (Nat → Int32) → (Nat → Int32) → (Nat → Int32) → (Nat → Int32) → (Nat → Int32) → (Nat → Int32) → (Nat → Int32) → (Nat → Int32) → (Nat → Int32) → (Nat → Int32) → (Nat → Int32) → (Nat → Int32) → (Nat → Int32) → (Nat → Int32) → (Nat → Int32) → (Nat → Int32) → (Nat → Int32) → (Nat → Int32) → (Nat → Int32) → (Nat → Int32) → (Nat → Int32) → (Nat → Int32) → (Nat → Int32) → (Nat → Int32) → (Nat → Int32) → (Nat → Int32) → (Nat → Int32) → Prop
theorem ix_52 (a : Nat) : nI a + 2 = nI (a + 2) := nI_add a 2
theorem ix_53 (a : Nat) : nI a + 3 = nI (a + 3) := nI_add a 3
def cc_om (old : Option (Nat → cc_Fm)) (v : Nat) : Option cc_Fm := match old with | none => none | some f => some (f v)
def cc_ob (old : Option (Nat → cc_Fm)) : Bool := match old with | none => false | some _ => true
section
variable {f_LIN f_SKIP f_CALL f_OUT f_JUMP f_RUNNING f_FIRST_VERSION f_MAX_VERSIONS f_procedures f_length f_calls f_depth f_openProc f_analysed f_built f_builtCount f_builtTotal f_workTop f_ctxMask f_ctxX f_ctxY f_argMask f_argX f_argY f_candCount f_candTotal f_overflow f_frames f_outCount f_entryCount : Int32} {a_kind a_d a_s a_t a_a a_b a_unitLen a_unitProc a_unitMask a_unitX a_unitY a_unitSize a_splitNow a_callSites a_opaque a_form0 a_form1 a_formB a_met a_fact a_factValue a_work a_waiting a_trial a_candProc a_candMask a_candX a_candY a_candSize a_place a_frameUnit a_framePc a_vars a_outputs a_entryProc a_entryX a_entryY a_entryMask : Nat → Int32}
theorem xw_flow60 {post : SX → Prop} {J : xw_J} {x1 x3 z0 z1 : Int32} {s l v : Nat} (e : z1 + z0 = nI s) (hs : s < 240) (hl : l < 48) (hv : v < 4) (hsl : s ≠ l * 5 + v) {f : cc_Fm} (r : cc_rx a_opaque a_form0 a_form1 a_formB s f) {old : Option (Nat → cc_Fm)} (hm : a_met l = cc_b (cc_ob old))
    (ho : ∀ od, old = some od → cc_rx a_opaque a_form0 a_form1 a_formB (l * 5 + v) (od v))
    (h : ∀ o g0 g1 gB, cc_wr a_opaque a_form0 a_form1 a_formB o g0 g1 gB (l * 5 + v) (cc_jo (cc_om old v) f) → J (nI (v + 1)) f_LIN f_SKIP f_CALL f_OUT f_JUMP f_RUNNING f_FIRST_VERSION f_MAX_VERSIONS f_procedures f_length f_calls f_depth f_openProc f_analysed f_built f_builtCount f_builtTotal f_workTop f_ctxMask f_ctxX f_ctxY f_argMask f_argX f_argY f_candCount f_candTotal f_overflow f_frames f_outCount f_entryCount a_kind a_d a_s a_t a_a a_b a_unitLen a_unitProc a_unitMask a_unitX a_unitY a_unitSize a_splitNow a_callSites o g0 g1 gB a_met a_fact a_factValue a_work a_waiting a_trial a_candProc a_candMask a_candX a_candY a_candSize a_place a_frameUnit a_framePc a_vars a_outputs a_entryProc a_entryX a_entryY a_entryMask) :
    wX_flow_60 post J x1 (nI l) x3 (nI v) z0 z1 f_LIN f_SKIP f_CALL f_OUT f_JUMP f_RUNNING f_FIRST_VERSION f_MAX_VERSIONS f_procedures f_length f_calls f_depth f_openProc f_analysed f_built f_builtCount f_builtTotal f_workTop f_ctxMask f_ctxX f_ctxY f_argMask f_argX f_argY f_candCount f_candTotal f_overflow f_frames f_outCount f_entryCount a_kind a_d a_s a_t a_a a_b a_unitLen a_unitProc a_unitMask a_unitX a_unitY a_unitSize a_splitNow a_callSites a_opaque a_form0 a_form1 a_formB a_met a_fact a_factValue a_work a_waiting a_trial a_candProc a_candMask a_candX a_candY a_candSize a_place a_frameUnit a_framePc a_vars a_outputs a_entryProc a_entryX a_entryY a_entryMask := by
  have el : l < 2 ^ 31 := by omega
  refine nm_r (e' := nI s) e (And.intro (vp_in_nI hl (by decide)) ?_)
  rw [ix_c a_met el, hm, ix_5]
  cases old with
  | none => exact xw_joinForm0 hs (by omega) hsl r (fun o g0 g1 gB w => nm_r (e' := nI (v + 1)) (nI_1 v) (h o g0 g1 gB w))
  | some od => exact xw_joinForm1 hs (by omega) r (ho od rfl) (fun o g0 g1 gB w => nm_r (e' := nI (v + 1)) (nI_1 v) (h o g0 g1 gB w))
theorem xw_flow30 {post : SX → Prop} {m l dd : Nat} (hm : m < 48) (hl : l < 48) (hml : m ≠ l) (hd : a_d m = nI dd) (hdd : dd < 4) {g : Nat → cc_Fm} {r : cc_Fm} {wb : Bool} {old : Option (Nat → cc_Fm)} (hmt : a_met l = cc_b (cc_ob old))
    (h : ∀ o g0 g1 gB, (∀ w, w < 4 → cc_rx o g0 g1 gB (l * 5 + w) (cc_jo (cc_om old w) (if wb = true ∧ w = dd then r else g w))) → cc_un a_opaque a_form0 a_form1 a_formB o g0 g1 gB (fun j => ∃ w, w < 4 ∧ j = l * 5 + w) → post (f_LIN, f_SKIP, f_CALL, f_OUT, f_JUMP, f_RUNNING, f_FIRST_VERSION, f_MAX_VERSIONS, f_procedures, f_length, f_calls, f_depth, f_openProc, f_analysed, f_built, f_builtCount, f_builtTotal, f_workTop, f_ctxMask, f_ctxX, f_ctxY, f_argMask, f_argX, f_argY, f_candCount, f_candTotal, f_overflow, f_frames, f_outCount, f_entryCount, a_kind, a_d, a_s, a_t, a_a, a_b, a_unitLen, a_unitProc, a_unitMask, a_unitX, a_unitY, a_unitSize, a_splitNow, a_callSites, o, g0, g1, gB, (upd a_met l 1), a_fact, a_factValue, a_work, a_waiting, a_trial, a_candProc, a_candMask, a_candX, a_candY, a_candSize, a_place, a_frameUnit, a_framePc, a_vars, a_outputs, a_entryProc, a_entryX, a_entryY, a_entryMask)) :
    ∀ (n v : Nat) (o g0 g1 gB : Nat → Int32), v ≤ 4 → 4 - v < n → (∀ w, w < 4 → cc_rx o g0 g1 gB (m * 5 + w) (g w)) → cc_rx o g0 g1 gB (m * 5 + 4) r → (∀ w, v ≤ w → w < 4 → ∀ od, old = some od → cc_rx o g0 g1 gB (l * 5 + w) (od w)) →
      (∀ w, w < v → cc_rx o g0 g1 gB (l * 5 + w) (cc_jo (cc_om old w) (if wb = true ∧ w = dd then r else g w))) → cc_un a_opaque a_form0 a_form1 a_formB o g0 g1 gB (fun j => ∃ w, w < 4 ∧ j = l * 5 + w) →
      wX_flow_30 post (nI m) (nI l) (cc_b wb) n (nI v) f_LIN f_SKIP f_CALL f_OUT f_JUMP f_RUNNING f_FIRST_VERSION f_MAX_VERSIONS f_procedures f_length f_calls f_depth f_openProc f_analysed f_built f_builtCount f_builtTotal f_workTop f_ctxMask f_ctxX f_ctxY f_argMask f_argX f_argY f_candCount f_candTotal f_overflow f_frames f_outCount f_entryCount a_kind a_d a_s a_t a_a a_b a_unitLen a_unitProc a_unitMask a_unitX a_unitY a_unitSize a_splitNow a_callSites o g0 g1 gB a_met a_fact a_factValue a_work a_waiting a_trial a_candProc a_candMask a_candX a_candY a_candSize a_place a_frameUnit a_framePc a_vars a_outputs a_entryProc a_entryX a_entryY a_entryMask := by
  intro n
  induction n with
  | zero => intro v o g0 g1 gB _ z; omega
  | succ n ih =>
    intro v o g0 g1 gB hv4 hn R1 R4 R2 R3 U
    by_cases hv : v = 4
    · subst hv
      refine br_t (show (4 : Int32) ≤ nI 4 from Int32.le_refl _) (And.intro (vp_in_nI hl (by decide)) (nm_e ?_))
      rw [nI_clamp (show l < 2 ^ 31 by omega), ix_n1]
      exact h o g0 g1 gB (fun w hw => R3 w hw) U
    · have hv' : v < 4 := by omega
      refine br_f (nI_ge (b := 4) hv' (by decide)) ?_
      have step : ∀ (f : cc_Fm), (if wb = true ∧ v = dd then r else g v) = f → ∀ o' g0' g1' gB', cc_wr o g0 g1 gB o' g0' g1' gB' (l * 5 + v) (cc_jo (cc_om old v) f) → wX_flow_30 post (nI m) (nI l) (cc_b wb) n (nI (v + 1)) f_LIN f_SKIP f_CALL f_OUT f_JUMP f_RUNNING f_FIRST_VERSION f_MAX_VERSIONS f_procedures f_length f_calls f_depth f_openProc f_analysed f_built f_builtCount f_builtTotal f_workTop f_ctxMask f_ctxX f_ctxY f_argMask f_argX f_argY f_candCount f_candTotal f_overflow f_frames f_outCount f_entryCount a_kind a_d a_s a_t a_a a_b a_unitLen a_unitProc a_unitMask a_unitX a_unitY a_unitSize a_splitNow a_callSites o' g0' g1' gB' a_met a_fact a_factValue a_work a_waiting a_trial a_candProc a_candMask a_candX a_candY a_candSize a_place a_frameUnit a_framePc a_vars a_outputs a_entryProc a_entryX a_entryY a_entryMask := by
        intro f ef o' g0' g1' gB' w
        refine ih (v + 1) o' g0' g1' gB' (by omega) (by omega) (fun u hu => cc_un_k w.2 (by omega) (R1 u hu)) (cc_un_k w.2 (by omega) R4) (fun u h1 h2 od eo => cc_un_k w.2 (by omega) (R2 u (by omega) h2 od eo)) (fun u hu => ?_) (cc_un_t U w.2 (fun _ z => z) (fun j z => ⟨v, hv', z⟩))
        by_cases e : u = v
        · subst e; rw [ef]; exact w.1
        · exact cc_un_k w.2 (by omega) (R3 u (by omega))
      cases wb with
      | false =>
        refine br_t rfl ?_
        exact xw_flow60 (s := m * 5 + v) (by rw [ix_50, nI_add]) (by omega) hl hv' (by omega) (R1 v hv') hmt (fun od eo => R2 v (Nat.le_refl _) hv' od eo) (step (g v) (if_neg (fun z => nomatch z.1)))
      | true =>
        refine br_f ix_10 (And.intro (vp_in_nI (by omega) (by decide)) ?_)
        rw [ix_c a_d (show m < 2 ^ 31 by omega), hd]
        by_cases e : v = dd
        · subst e
          refine br_t rfl ?_
          exact xw_flow60 (s := m * 5 + 4) (ix_5 m 4) (by omega) hl hv' (by omega) R4 hmt (fun od eo => R2 v (Nat.le_refl _) hv' od eo) (step r (if_pos ⟨rfl, rfl⟩))
        · refine br_f (fun z => e ((nI_eq (by omega) (by omega)).mp z)) ?_
          exact xw_flow60 (s := m * 5 + v) (by rw [ix_50, nI_add]) (by omega) hl hv' (by omega) (R1 v hv') hmt (fun od eo => R2 v (Nat.le_refl _) hv' od eo) (step (g v) (if_neg (fun z => e z.2)))
theorem xw_flow {post : SX → Prop} {P : cc_Pg} {m i l : Nat} (hm : m < 48) (hl : l < 48) (hml : m ≠ l) (w : cc_w1 P m i) (x : cc_x1 P a_kind a_d a_s a_t a_a a_b m) {g : Nat → cc_Fm} {old : Option (Nat → cc_Fm)} (hmt : a_met l = cc_b (cc_ob old))
    (R1 : ∀ v, v < 4 → cc_rx a_opaque a_form0 a_form1 a_formB (m * 5 + v) (g v)) (R4 : cc_rx a_opaque a_form0 a_form1 a_formB (m * 5 + 4) (cc_tf P g m))
    (R2 : ∀ v, v < 4 → ∀ od, old = some od → cc_rx a_opaque a_form0 a_form1 a_formB (l * 5 + v) (od v))
    (h : ∀ o g0 g1 gB, (∀ v, v < 4 → cc_rx o g0 g1 gB (l * 5 + v) (cc_jo (cc_om old v) (cc_af P g m v))) → cc_un a_opaque a_form0 a_form1 a_formB o g0 g1 gB (fun j => ∃ w, w < 4 ∧ j = l * 5 + w) → post (f_LIN, f_SKIP, f_CALL, f_OUT, f_JUMP, f_RUNNING, f_FIRST_VERSION, f_MAX_VERSIONS, f_procedures, f_length, f_calls, f_depth, f_openProc, f_analysed, f_built, f_builtCount, f_builtTotal, f_workTop, f_ctxMask, f_ctxX, f_ctxY, f_argMask, f_argX, f_argY, f_candCount, f_candTotal, f_overflow, f_frames, f_outCount, f_entryCount, a_kind, a_d, a_s, a_t, a_a, a_b, a_unitLen, a_unitProc, a_unitMask, a_unitX, a_unitY, a_unitSize, a_splitNow, a_callSites, o, g0, g1, gB, (upd a_met l 1), a_fact, a_factValue, a_work, a_waiting, a_trial, a_candProc, a_candMask, a_candX, a_candY, a_candSize, a_place, a_frameUnit, a_framePc, a_vars, a_outputs, a_entryProc, a_entryX, a_entryY, a_entryMask)) :
    wpX_flow post (f_LIN, f_SKIP, f_CALL, f_OUT, f_JUMP, f_RUNNING, f_FIRST_VERSION, f_MAX_VERSIONS, f_procedures, f_length, f_calls, f_depth, f_openProc, f_analysed, f_built, f_builtCount, f_builtTotal, f_workTop, f_ctxMask, f_ctxX, f_ctxY, f_argMask, f_argX, f_argY, f_candCount, f_candTotal, f_overflow, f_frames, f_outCount, f_entryCount, a_kind, a_d, a_s, a_t, a_a, a_b, a_unitLen, a_unitProc, a_unitMask, a_unitX, a_unitY, a_unitSize, a_splitNow, a_callSites, a_opaque, a_form0, a_form1, a_formB, a_met, a_fact, a_factValue, a_work, a_waiting, a_trial, a_candProc, a_candMask, a_candX, a_candY, a_candSize, a_place, a_frameUnit, a_framePc, a_vars, a_outputs, a_entryProc, a_entryX, a_entryY, a_entryMask) (nI m) (nI l) := by
  have em : m < 2 ^ 31 := by omega
  have him : vp_in (nI m) 176 := vp_in_nI (by omega) (by decide)
  have hk := (ix_c a_kind em).trans x.1
  have key : ∀ wb : Bool, (∀ v, (if wb = true ∧ v = cc_D P m then cc_tf P g m else g v) = cc_af P g m v) → ∃ n, wX_flow_30 post (nI m) (nI l) (cc_b wb) n 0 f_LIN f_SKIP f_CALL f_OUT f_JUMP f_RUNNING f_FIRST_VERSION f_MAX_VERSIONS f_procedures f_length f_calls f_depth f_openProc f_analysed f_built f_builtCount f_builtTotal f_workTop f_ctxMask f_ctxX f_ctxY f_argMask f_argX f_argY f_candCount f_candTotal f_overflow f_frames f_outCount f_entryCount a_kind a_d a_s a_t a_a a_b a_unitLen a_unitProc a_unitMask a_unitX a_unitY a_unitSize a_splitNow a_callSites a_opaque a_form0 a_form1 a_formB a_met a_fact a_factValue a_work a_waiting a_trial a_candProc a_candMask a_candX a_candY a_candSize a_place a_frameUnit a_framePc a_vars a_outputs a_entryProc a_entryX a_entryY a_entryMask := by
    intro wb e
    refine ⟨5, xw_flow30 hm hl hml x.2.1 w.2.1 hmt (fun o g0 g1 gB a b => h o g0 g1 gB (fun v hv => ?_) b) 5 0 a_opaque a_form0 a_form1 a_formB (by omega) (by omega) R1 R4 (fun v _ hv => R2 v hv) (fun v hv => absurd hv (by omega)) (cc_un_r _)⟩
    rw [← e v]; exact a v hv
  refine And.intro him ?_
  rw [hk]
  have w7 := w.1
  by_cases k5 : cc_K P m = 5
  · rw [k5]
    refine br_t rfl (key false (fun v => ?_))
    unfold cc_af; rw [if_neg (fun z => nomatch z.1), if_neg (fun z => z.1 k5)]
  · refine br_f (fun z => k5 ((nI_eq (by omega) (by decide)).mp z)) (And.intro him ?_)
    by_cases k7 : cc_K P m = 7
    · rw [k7]
      refine br_t rfl (key false (fun v => ?_))
      unfold cc_af; rw [if_neg (fun z => nomatch z.1), if_neg (fun z => z.2.1 k7)]
    · refine br_f (fun z => k7 ((nI_eq (by omega) (by decide)).mp z)) (key true (fun v => ?_))
      unfold cc_af
      by_cases e : v = cc_D P m
      · rw [if_pos ⟨rfl, e⟩, if_pos ⟨k5, k7, e⟩]
      · rw [if_neg (fun z => e z.2), if_neg (fun z => e z.2.2)]
/-- X's arrays hold the program -/
def cc_xc (P : cc_Pg) (kd d s t a b : Nat → Int32) : Prop := ∀ p i, p < 6 → i < cc_L P p → cc_x1 P kd d s t a b (p * 8 + i)
/-- the forms of procedure p's statements below i are right -/
def cc_xd (P : cc_Pg) (o g0 g1 gB : Nat → Int32) (p n : Nat) : Prop := ∀ i, i < n → (∀ v, v < 4 → cc_rx o g0 g1 gB ((p * 8 + i) * 5 + v) (cc_fm P (p * 8 + i) v)) ∧ cc_rx o g0 g1 gB ((p * 8 + i) * 5 + 4) (cc_tf P (cc_fm P (p * 8 + i)) (p * 8 + i))
/-- what the loop of findForms keeps -/
def cc_fI (P : cc_Pg) (o0 h0 h1 hB : Nat → Int32) (p i : Nat) (o g0 g1 gB mt : Nat → Int32) : Prop :=
  cc_xd P o g0 g1 gB p i ∧ (i < cc_L P p → ∀ v, v < 4 → cc_rx o g0 g1 gB ((p * 8 + i) * 5 + v) (cc_fm P (p * 8 + i) v)) ∧
  (∀ j, i < j → j < cc_L P p → ∃ old : Option (Nat → cc_Fm), mt (p * 8 + j) = cc_b (cc_ob old) ∧ (∀ v, cc_sk P p (fun i w => cc_fm P (p * 8 + i) w) j v i = cc_om old v) ∧ ∀ v, v < 4 → ∀ od, old = some od → cc_rx o g0 g1 gB ((p * 8 + j) * 5 + v) (od v)) ∧
  cc_un o0 h0 h1 hB o g0 g1 gB (fun j => p * 40 ≤ j ∧ j < p * 40 + 40)
theorem cc_om_n {f : Nat → Option cc_Fm} (n : ∀ v w, f v = none ↔ f w = none) : ∃ old : Option (Nat → cc_Fm), ∀ v, f v = cc_om old v := by
  cases e : f 0 with
  | none => exact ⟨none, fun v => (n v 0).mpr e⟩
  | some x =>
    refine ⟨some (fun v => (f v).getD none), fun v => ?_⟩
    cases q : f v with
    | none => have := (n v 0).mp q; rw [e] at this; exact nomatch this
    | some y => show some y = some ((f v).getD none); rw [q]; rfl
theorem xw_ff123 {post : SX → Prop} {J : xw_J} {P : cc_Pg} (W : cc_wf P) {p i : Nat} (hp : p < 6) (hi : i < cc_L P p) (x : cc_xc P a_kind a_d a_s a_t a_a a_b) {o0 h0 h1 hB : Nat → Int32} (A1 : cc_xd P a_opaque a_form0 a_form1 a_formB p (i + 1))
    (A2 : i + 1 < cc_L P p → ∀ v, v < 4 → cc_rx a_opaque a_form0 a_form1 a_formB ((p * 8 + (i + 1)) * 5 + v) (cc_fm P (p * 8 + (i + 1)) v))
    (A3 : ∀ j, i + 1 < j → j < cc_L P p → ∃ old : Option (Nat → cc_Fm), a_met (p * 8 + j) = cc_b (cc_ob old) ∧ (∀ v, cc_sk P p (fun i w => cc_fm P (p * 8 + i) w) j v i = cc_om old v) ∧ ∀ v, v < 4 → ∀ od, old = some od → cc_rx a_opaque a_form0 a_form1 a_formB ((p * 8 + j) * 5 + v) (od v))
    (A4 : cc_un o0 h0 h1 hB a_opaque a_form0 a_form1 a_formB (fun j => p * 40 ≤ j ∧ j < p * 40 + 40))
    (h : ∀ o g0 g1 gB mt, cc_fI P o0 h0 h1 hB p (i + 1) o g0 g1 gB mt → J (nI (i + 1)) f_LIN f_SKIP f_CALL f_OUT f_JUMP f_RUNNING f_FIRST_VERSION f_MAX_VERSIONS f_procedures f_length f_calls f_depth f_openProc f_analysed f_built f_builtCount f_builtTotal f_workTop f_ctxMask f_ctxX f_ctxY f_argMask f_argX f_argY f_candCount f_candTotal f_overflow f_frames f_outCount f_entryCount a_kind a_d a_s a_t a_a a_b a_unitLen a_unitProc a_unitMask a_unitX a_unitY a_unitSize a_splitNow a_callSites o g0 g1 gB mt a_fact a_factValue a_work a_waiting a_trial a_candProc a_candMask a_candX a_candY a_candSize a_place a_frameUnit a_framePc a_vars a_outputs a_entryProc a_entryX a_entryY a_entryMask) :
    wX_findForms_123 post J (nI (cc_L P p)) (nI (p * 8)) (nI i) (nI (p * 8 + i)) f_LIN f_SKIP f_CALL f_OUT f_JUMP f_RUNNING f_FIRST_VERSION f_MAX_VERSIONS f_procedures f_length f_calls f_depth f_openProc f_analysed f_built f_builtCount f_builtTotal f_workTop f_ctxMask f_ctxX f_ctxY f_argMask f_argX f_argY f_candCount f_candTotal f_overflow f_frames f_outCount f_entryCount a_kind a_d a_s a_t a_a a_b a_unitLen a_unitProc a_unitMask a_unitX a_unitY a_unitSize a_splitNow a_callSites a_opaque a_form0 a_form1 a_formB a_met a_fact a_factValue a_work a_waiting a_trial a_candProc a_candMask a_candX a_candY a_candSize a_place a_frameUnit a_framePc a_vars a_outputs a_entryProc a_entryX a_entryY a_entryMask := by
  have L8 := W.2.2.1 p hp
  have hm : p * 8 + i < 48 := by omega
  have em : p * 8 + i < 2 ^ 31 := by omega
  have him : vp_in (nI (p * 8 + i)) 176 := vp_in_nI (by omega) (by decide)
  have x1 := x p i hp hi
  have w1 := W.2.2.2 p i hp hi
  have hk := (ix_c a_kind em).trans x1.1
  have hb := (ix_c a_b em).trans x1.2.2.2.2.2
  have same : (∀ j, i + 1 < j → j < cc_L P p → ¬ (cc_K P (p * 8 + i) = 5 ∧ cc_G P (p * 8 + i) = j)) → J (nI (i + 1)) f_LIN f_SKIP f_CALL f_OUT f_JUMP f_RUNNING f_FIRST_VERSION f_MAX_VERSIONS f_procedures f_length f_calls f_depth f_openProc f_analysed f_built f_builtCount f_builtTotal f_workTop f_ctxMask f_ctxX f_ctxY f_argMask f_argX f_argY f_candCount f_candTotal f_overflow f_frames f_outCount f_entryCount a_kind a_d a_s a_t a_a a_b a_unitLen a_unitProc a_unitMask a_unitX a_unitY a_unitSize a_splitNow a_callSites a_opaque a_form0 a_form1 a_formB a_met a_fact a_factValue a_work a_waiting a_trial a_candProc a_candMask a_candX a_candY a_candSize a_place a_frameUnit a_framePc a_vars a_outputs a_entryProc a_entryX a_entryY a_entryMask := by
    intro no
    refine h _ _ _ _ _ ⟨A1, A2, fun j h1 h2 => ?_, A4⟩
    obtain ⟨old, a, b, c⟩ := A3 j h1 h2
    exact ⟨old, a, fun v => (cc_sk_f (no j h1 h2)).trans (b v), c⟩
  refine And.intro him ?_
  rw [hk]
  by_cases k5 : cc_K P (p * 8 + i) = 5
  · obtain ⟨G1, G2, G3⟩ := w1.2.2.2.2.2 k5
    rw [G3] at hb
    rw [k5, hb]
    refine br_t rfl (And.intro him ?_)
    by_cases hG : cc_L P p ≤ cc_G P (p * 8 + i)
    · refine br_t (nI_le hG (by omega)) (nm_r (e' := nI (i + 1)) (nI_1 i) (same (fun j h1 h2 z => ?_)))
      omega
    · refine br_f (nI_ge (Nat.lt_of_not_le hG) (by omega)) (And.intro him ?_)
      rw [nI_add]
      obtain ⟨old, a, b, c⟩ := A3 (cc_G P (p * 8 + i)) (by omega) (by omega)
      refine xw_flow (i := i) hm (by omega) (by omega) w1 x1 (g := cc_fm P (p * 8 + i)) a (A1 i (by omega)).1 (A1 i (by omega)).2 c (fun o g0 g1 gB r u => nm_r (e' := nI (i + 1)) (nI_1 i) (h _ _ _ _ _ ?_))
      have af : ∀ v, cc_af P (cc_fm P (p * 8 + i)) (p * 8 + i) v = cc_fm P (p * 8 + i) v := fun v => by
        unfold cc_af; rw [if_neg (fun z => z.1 k5)]
      refine ⟨fun k hk => ⟨fun v hv => cc_un_k u (fun ⟨w, h1, h2⟩ => by omega) ((A1 k hk).1 v hv), cc_un_k u (fun ⟨w, h1, h2⟩ => by omega) (A1 k hk).2⟩, fun h1 v hv => cc_un_k u (fun ⟨w, h1, h2⟩ => by omega) (A2 h1 v hv), fun j h1 h2 => ?_, cc_un_t A4 u (fun _ z => z) (fun j ⟨w, z1, z2⟩ => by omega)⟩
      by_cases ej : cc_G P (p * 8 + i) = j
      · subst ej
        refine ⟨some (fun v => cc_jo (cc_om old v) (cc_fm P (p * 8 + i) v)), pk_us, fun v => ?_, fun v hv od eo => ?_⟩
        · rw [cc_sk_t k5 rfl, b v]; rfl
        · cases Option.some.inj eo
          have := r v hv
          rw [af v] at this; exact this
      · obtain ⟨old', a', b', c'⟩ := A3 j h1 h2
        refine ⟨old', (pk_un (by omega)).trans a', fun v => (cc_sk_f (fun z => ej z.2)).trans (b' v), fun v hv od eo => cc_un_k u (fun ⟨w, h1, h2⟩ => by omega) (c' v hv od eo)⟩
  · have w7 := w1.1
    exact br_f (fun z => k5 ((nI_eq (by omega) (by decide)).mp z)) (nm_r (e' := nI (i + 1)) (nI_1 i) (same (fun j _ _ z => k5 z.1)))
theorem xw_ff87 {post : SX → Prop} {P : cc_Pg} (W : cc_wf P) {p : Nat} (hp : p < 6) (x : cc_xc P a_kind a_d a_s a_t a_a a_b) {o0 h0 h1 hB : Nat → Int32}
    (h : ∀ o g0 g1 gB mt, cc_xd P o g0 g1 gB p (cc_L P p) → cc_un o0 h0 h1 hB o g0 g1 gB (fun j => p * 40 ≤ j ∧ j < p * 40 + 40) → post (f_LIN, f_SKIP, f_CALL, f_OUT, f_JUMP, f_RUNNING, f_FIRST_VERSION, f_MAX_VERSIONS, f_procedures, f_length, f_calls, f_depth, f_openProc, f_analysed, f_built, f_builtCount, f_builtTotal, f_workTop, f_ctxMask, f_ctxX, f_ctxY, f_argMask, f_argX, f_argY, f_candCount, f_candTotal, f_overflow, f_frames, f_outCount, f_entryCount, a_kind, a_d, a_s, a_t, a_a, a_b, a_unitLen, a_unitProc, a_unitMask, a_unitX, a_unitY, a_unitSize, a_splitNow, a_callSites, o, g0, g1, gB, mt, a_fact, a_factValue, a_work, a_waiting, a_trial, a_candProc, a_candMask, a_candX, a_candY, a_candSize, a_place, a_frameUnit, a_framePc, a_vars, a_outputs, a_entryProc, a_entryX, a_entryY, a_entryMask)) :
    ∀ (n i : Nat) (o g0 g1 gB mt : Nat → Int32), i ≤ cc_L P p → cc_L P p - i < n → cc_fI P o0 h0 h1 hB p i o g0 g1 gB mt → wX_findForms_87 post (nI (cc_L P p)) (nI (p * 8)) n (nI i) f_LIN f_SKIP f_CALL f_OUT f_JUMP f_RUNNING f_FIRST_VERSION f_MAX_VERSIONS f_procedures f_length f_calls f_depth f_openProc f_analysed f_built f_builtCount f_builtTotal f_workTop f_ctxMask f_ctxX f_ctxY f_argMask f_argX f_argY f_candCount f_candTotal f_overflow f_frames f_outCount f_entryCount a_kind a_d a_s a_t a_a a_b a_unitLen a_unitProc a_unitMask a_unitX a_unitY a_unitSize a_splitNow a_callSites o g0 g1 gB mt a_fact a_factValue a_work a_waiting a_trial a_candProc a_candMask a_candX a_candY a_candSize a_place a_frameUnit a_framePc a_vars a_outputs a_entryProc a_entryX a_entryY a_entryMask := by
  have L8 := W.2.2.1 p hp
  intro n
  induction n with
  | zero => intro i o g0 g1 gB mt _ z; omega
  | succ n ih =>
    intro i o g0 g1 gB mt hi hn I
    obtain ⟨I1, I2, I3, I4⟩ := I
    by_cases e : i = cc_L P p
    · subst e
      exact br_t (nI_le (Nat.le_refl _) (by omega)) (h o g0 g1 gB mt I1 I4)
    · have hi' : i < cc_L P p := by omega
      have w1 := W.2.2.2 p i hp hi'
      have x1 := x p i hp hi'
      refine br_f (nI_ge hi' (by omega)) (nm_r (e' := nI (p * 8 + i)) (nI_add _ _) ?_)
      refine xw_transfer (by omega) w1 x1 (I2 hi') (fun o' g0' g1' gB' w => ?_)
      have A1 : cc_xd P o' g0' g1' gB' p (i + 1) := by
        intro k hk
        by_cases ek : k = i
        · subst ek
          exact ⟨fun v hv => cc_un_k w.2 (by omega) (I2 hi' v hv), w.1⟩
        · exact ⟨fun v hv => cc_un_k w.2 (by omega) ((I1 k (by omega)).1 v hv), cc_un_k w.2 (by omega) (I1 k (by omega)).2⟩
      have A4 : cc_un o0 h0 h1 hB o' g0' g1' gB' (fun j => p * 40 ≤ j ∧ j < p * 40 + 40) := cc_un_t I4 w.2 (fun _ z => z) (fun j z => by omega)
      have A3 : ∀ j, i < j → j < cc_L P p → ∃ old : Option (Nat → cc_Fm), mt (p * 8 + j) = cc_b (cc_ob old) ∧ (∀ v, cc_sk P p (fun i w => cc_fm P (p * 8 + i) w) j v i = cc_om old v) ∧ ∀ v, v < 4 → ∀ od, old = some od → cc_rx o' g0' g1' gB' ((p * 8 + j) * 5 + v) (od v) := by
        intro j h1 h2
        obtain ⟨old, a, b, c⟩ := I3 j h1 h2
        exact ⟨old, a, b, fun v hv od eo => cc_un_k w.2 (by omega) (c v hv od eo)⟩
      have J : ∀ o g0 g1 gB mt, cc_fI P o0 h0 h1 hB p (i + 1) o g0 g1 gB mt → wX_findForms_87 post (nI (cc_L P p)) (nI (p * 8)) n (nI (i + 1)) f_LIN f_SKIP f_CALL f_OUT f_JUMP f_RUNNING f_FIRST_VERSION f_MAX_VERSIONS f_procedures f_length f_calls f_depth f_openProc f_analysed f_built f_builtCount f_builtTotal f_workTop f_ctxMask f_ctxX f_ctxY f_argMask f_argX f_argY f_candCount f_candTotal f_overflow f_frames f_outCount f_entryCount a_kind a_d a_s a_t a_a a_b a_unitLen a_unitProc a_unitMask a_unitX a_unitY a_unitSize a_splitNow a_callSites o g0 g1 gB mt a_fact a_factValue a_work a_waiting a_trial a_candProc a_candMask a_candX a_candY a_candSize a_place a_frameUnit a_framePc a_vars a_outputs a_entryProc a_entryX a_entryY a_entryMask := fun o g0 g1 gB mt I => ih (i + 1) o g0 g1 gB mt (by omega) (by omega) I
      by_cases e1 : cc_L P p ≤ i + 1
      · refine br_t (by rw [nI_1]; exact nI_le e1 (by omega)) ?_
        exact xw_ff123 W hp hi' x A1 (fun z => absurd z (by omega)) (fun j h1 h2 => A3 j (by omega) h2) A4 J
      · refine br_f (by rw [nI_1]; exact nI_ge (Nat.lt_of_not_le e1) (by omega)) ?_
        rw [nI_1 (p * 8 + i)]
        obtain ⟨old, a, b, c⟩ := A3 (i + 1) (by omega) (by omega)
        refine xw_flow (i := i) (l := p * 8 + (i + 1)) (by omega) (by omega) (by omega) w1 x1 (g := cc_fm P (p * 8 + i)) a (A1 i (by omega)).1 (A1 i (by omega)).2 c (fun o2 k0 k1 kB r u => ?_)
        refine xw_ff123 W hp hi' x (fun k hk => ⟨fun v hv => cc_un_k u (fun ⟨w, h1, h2⟩ => by omega) ((A1 k hk).1 v hv), cc_un_k u (fun ⟨w, h1, h2⟩ => by omega) (A1 k hk).2⟩) (fun h1 v hv => ?_) (fun j h1 h2 => ?_) (cc_un_t A4 u (fun _ z => z) (fun j ⟨w, z1, z2⟩ => by omega)) J
        · rw [cc_fm_s P p v (by omega), b v]; exact r v hv
        · obtain ⟨old', a', b', c'⟩ := A3 j (by omega) h2
          exact ⟨old', (pk_un (by omega)).trans a', b', fun v hv od eo => cc_un_k u (fun ⟨w, h1, h2⟩ => by omega) (c' v hv od eo)⟩
theorem xw_ff15 {post : SX → Prop} {P : cc_Pg} (W : cc_wf P) {p : Nat} (hp : p < 6) (x : cc_xc P a_kind a_d a_s a_t a_a a_b)
    (h : ∀ o g0 g1 gB mt, cc_xd P o g0 g1 gB p (cc_L P p) → cc_un a_opaque a_form0 a_form1 a_formB o g0 g1 gB (fun j => p * 40 ≤ j ∧ j < p * 40 + 40) → post (f_LIN, f_SKIP, f_CALL, f_OUT, f_JUMP, f_RUNNING, f_FIRST_VERSION, f_MAX_VERSIONS, f_procedures, f_length, f_calls, f_depth, f_openProc, f_analysed, f_built, f_builtCount, f_builtTotal, f_workTop, f_ctxMask, f_ctxX, f_ctxY, f_argMask, f_argX, f_argY, f_candCount, f_candTotal, f_overflow, f_frames, f_outCount, f_entryCount, a_kind, a_d, a_s, a_t, a_a, a_b, a_unitLen, a_unitProc, a_unitMask, a_unitX, a_unitY, a_unitSize, a_splitNow, a_callSites, o, g0, g1, gB, mt, a_fact, a_factValue, a_work, a_waiting, a_trial, a_candProc, a_candMask, a_candX, a_candY, a_candSize, a_place, a_frameUnit, a_framePc, a_vars, a_outputs, a_entryProc, a_entryX, a_entryY, a_entryMask)) :
    ∀ (n i : Nat) (mt : Nat → Int32), i ≤ 8 → 8 - i < n → (∀ j, j < i → mt (p * 8 + j) = 0) → wX_findForms_15 post (nI (cc_L P p)) (nI (p * 8)) f_LIN f_SKIP f_CALL f_OUT f_JUMP f_RUNNING f_FIRST_VERSION f_MAX_VERSIONS f_procedures f_length f_calls f_depth f_openProc f_analysed f_built f_builtCount f_builtTotal f_workTop f_ctxMask f_ctxX f_ctxY f_argMask f_argX f_argY f_candCount f_candTotal f_overflow f_frames f_outCount f_entryCount n (nI i) a_kind a_d a_s a_t a_a a_b a_unitLen a_unitProc a_unitMask a_unitX a_unitY a_unitSize a_splitNow a_callSites a_opaque a_form0 a_form1 a_formB mt a_fact a_factValue a_work a_waiting a_trial a_candProc a_candMask a_candX a_candY a_candSize a_place a_frameUnit a_framePc a_vars a_outputs a_entryProc a_entryX a_entryY a_entryMask := by
  intro n
  induction n with
  | zero => intro i mt _ z; omega
  | succ n ih =>
    intro i mt hi hn I
    by_cases e : i = 8
    · subst e
      refine br_t (show (8 : Int32) ≤ nI 8 from Int32.le_refl _) ?_
      rw [ix_50]
      refine xw_setForm (by omega) (fun o1 a0 a1 aB w1 => ?_)
      rw [nI_1 (p * 8 * 5)]
      refine xw_setForm (by omega) (fun o2 b0 b1 bB w2 => ?_)
      rw [ix_52]
      refine xw_setForm (by omega) (fun o3 d0 d1 dB w3 => ?_)
      rw [ix_53]
      refine xw_setForm (by omega) (fun o4 e0 e1 eB w4 => ⟨9, ?_⟩)
      refine xw_ff87 (o0 := a_opaque) (h0 := a_form0) (h1 := a_form1) (hB := a_formB) W hp x h 9 0 o4 e0 e1 eB mt (Nat.zero_le _) (by have := W.2.2.1 p hp; omega) ⟨fun i hi => absurd hi (by omega), fun _ v hv => ?_, fun j h1 h2 => ⟨none, ?_, fun v => rfl, fun v hv od eo => nomatch eo⟩, ?_⟩
      · rw [cc_fm_0]
        have : v = 0 ∨ v = 1 ∨ v = 2 ∨ v = 3 := by omega
        rcases this with z | z | z | z
        · subst z; exact cc_un_k w4.2 (by omega) (cc_un_k w3.2 (by omega) (cc_un_k w2.2 (by omega) w1.1))
        · subst z; exact cc_un_k w4.2 (by omega) (cc_un_k w3.2 (by omega) w2.1)
        · subst z; exact cc_un_k w4.2 (by omega) w3.1
        · subst z; exact w4.1
      · exact I j (by have := W.2.2.1 p hp; omega)
      · exact cc_un_t (cc_un_t (cc_un_t w1.2 w2.2 (U := fun j => p * 40 ≤ j ∧ j < p * 40 + 40) (fun j z => by omega) (fun j z => by omega)) w3.2 (fun _ z => z) (fun j z => by omega)) w4.2 (fun _ z => z) (fun j z => by omega)
    · refine br_f (nI_ge (b := 8) (by omega) (by decide)) ?_
      rw [nI_add]
      refine And.intro (vp_in_nI (by omega) (by decide)) (nm_e (nm_r (e' := nI (i + 1)) (nI_1 i) ?_))
      refine ih (i + 1) _ (by omega) (by omega) (fun j hj => ?_)
      rw [nI_clamp (show p * 8 + i < 2 ^ 31 by omega), ix_n0]
      by_cases e : j = i
      · subst e; exact pk_us
      · exact (pk_un (by omega)).trans (I j (by omega))
theorem xw_findForms {post : SX → Prop} {P : cc_Pg} (W : cc_wf P) {p : Nat} (hp : p < 6) (hL : a_unitLen p = nI (cc_L P p)) (x : cc_xc P a_kind a_d a_s a_t a_a a_b)
    (h : ∀ o g0 g1 gB mt, cc_xd P o g0 g1 gB p (cc_L P p) → cc_un a_opaque a_form0 a_form1 a_formB o g0 g1 gB (fun j => p * 40 ≤ j ∧ j < p * 40 + 40) → post (f_LIN, f_SKIP, f_CALL, f_OUT, f_JUMP, f_RUNNING, f_FIRST_VERSION, f_MAX_VERSIONS, f_procedures, f_length, f_calls, f_depth, f_openProc, f_analysed, f_built, f_builtCount, f_builtTotal, f_workTop, f_ctxMask, f_ctxX, f_ctxY, f_argMask, f_argX, f_argY, f_candCount, f_candTotal, f_overflow, f_frames, f_outCount, f_entryCount, a_kind, a_d, a_s, a_t, a_a, a_b, a_unitLen, a_unitProc, a_unitMask, a_unitX, a_unitY, a_unitSize, a_splitNow, a_callSites, o, g0, g1, gB, mt, a_fact, a_factValue, a_work, a_waiting, a_trial, a_candProc, a_candMask, a_candX, a_candY, a_candSize, a_place, a_frameUnit, a_framePc, a_vars, a_outputs, a_entryProc, a_entryX, a_entryY, a_entryMask)) :
    wpX_findForms post (f_LIN, f_SKIP, f_CALL, f_OUT, f_JUMP, f_RUNNING, f_FIRST_VERSION, f_MAX_VERSIONS, f_procedures, f_length, f_calls, f_depth, f_openProc, f_analysed, f_built, f_builtCount, f_builtTotal, f_workTop, f_ctxMask, f_ctxX, f_ctxY, f_argMask, f_argX, f_argY, f_candCount, f_candTotal, f_overflow, f_frames, f_outCount, f_entryCount, a_kind, a_d, a_s, a_t, a_a, a_b, a_unitLen, a_unitProc, a_unitMask, a_unitX, a_unitY, a_unitSize, a_splitNow, a_callSites, a_opaque, a_form0, a_form1, a_formB, a_met, a_fact, a_factValue, a_work, a_waiting, a_trial, a_candProc, a_candMask, a_candX, a_candY, a_candSize, a_place, a_frameUnit, a_framePc, a_vars, a_outputs, a_entryProc, a_entryX, a_entryY, a_entryMask) (nI p) := by
  refine And.intro (vp_in_nI (by omega) (by decide)) (nm_r (e' := nI (cc_L P p)) ((ix_c a_unitLen (by omega)).trans hL) (nm_r (e' := nI (p * 8)) (ix_80 p) ⟨9, ?_⟩))
  exact xw_ff15 W hp x h 9 0 a_met (by omega) (by omega) (fun j hj => absurd hj (by omega))
end
end
section
/-! bits; X: known, value, successors, reached, argumentContext, mergedMask -/
theorem bx_1 : ∀ i, i < 32 → bt 1 i = decide (i = 0) := by decide +kernel
theorem bx_b (b : Bool) {i : Nat} (hi : i < 32) : bt (cc_b b) i = (b && decide (i = 0)) := by
  cases b with
  | true => exact bx_1 i hi
  | false => exact b_0 i
theorem bx_bit (x : Int32) {n : Nat} (hn : n < 32) : ((x >>> (nI n &&& 31)) &&& 1) = cc_b (bt x n) := by
  apply b_ext
  intro i hi
  rw [b_and, bx_1 i hi, bx_b _ hi, b_sshr n hn x hi]
  by_cases e : i = 0
  · subst e; rw [if_pos (by omega)]; rfl
  · rw [decide_eq_false e, Bool.and_false, Bool.and_false]
theorem bx_b0 (b : Bool) : cc_b b = 0 ↔ b = false := by
  cases b with
  | true => exact iff_of_false ix_10 (fun h => nomatch h)
  | false => exact iff_of_true rfl rfl
theorem bx_sh {n : Nat} (hn : n < 32) {i : Nat} (hi : i < 32) : bt ((1 : Int32) <<< (nI n &&& 31)) i = decide (i = n) := by
  rw [b_shl n hn 1 hi]
  by_cases h : n ≤ i
  · rw [decide_eq_true h, bx_1 (i - n) (by omega), Bool.true_and]
    by_cases e : i = n
    · rw [decide_eq_true e, decide_eq_true (by omega)]
    · rw [decide_eq_false e, decide_eq_false (by omega)]
  · rw [decide_eq_false h, decide_eq_false (by omega)]; rfl
theorem bx_lo0 : ∀ n : Fin 9, ∀ i : Fin 32, bt (((1 : Int32) <<< (nI n.val &&& 31)) - 1) i.val = decide (i.val < n.val) := by decide +kernel
theorem bx_lo {n i : Nat} (hn : n ≤ 8) (hi : i < 32) : bt (((1 : Int32) <<< (nI n &&& 31)) - 1) i = decide (i < n) := bx_lo0 ⟨n, by omega⟩ ⟨i, hi⟩
/-- an int's bits are those of f -/
def cc_bs (x : Int32) (f : Nat → Bool) : Prop := ∀ i, i < 32 → bt x i = f i
theorem bx_t {x : Int32} {f : Nat → Bool} (h : cc_bs x f) {n : Nat} (hn : n < 32) : ((x >>> (nI n &&& 31)) &&& 1) = cc_b (f n) := by
  rw [bx_bit x hn, h n hn]
section
variable {f_LIN f_SKIP f_CALL f_OUT f_JUMP f_RUNNING f_FIRST_VERSION f_MAX_VERSIONS f_procedures f_length f_calls f_depth f_openProc f_analysed f_built f_builtCount f_builtTotal f_workTop f_ctxMask f_ctxX f_ctxY f_argMask f_argX f_argY f_candCount f_candTotal f_overflow f_frames f_outCount f_entryCount : Int32} {a_kind a_d a_s a_t a_a a_b a_unitLen a_unitProc a_unitMask a_unitX a_unitY a_unitSize a_splitNow a_callSites a_opaque a_form0 a_form1 a_formB a_met a_fact a_factValue a_work a_waiting a_trial a_candProc a_candMask a_candX a_candY a_candSize a_place a_frameUnit a_framePc a_vars a_outputs a_entryProc a_entryX a_entryY a_entryMask : Nat → Int32}
theorem xw_known27 {post : Int32 → Prop} {k : Nat} (hk : k < 240) {f : cc_Fm} {c : cc_Cx} (r : cc_rx a_opaque a_form0 a_form1 a_formB k f) (h1 : (cc_f1 f = 0 ∨ c.2 ≠ none) → post 1) (h0 : ¬ (cc_f1 f = 0 ∨ c.2 ≠ none) → post 0) : wX_known_27 post (nI k) f_LIN f_SKIP f_CALL f_OUT f_JUMP f_RUNNING f_FIRST_VERSION f_MAX_VERSIONS f_procedures f_length f_calls f_depth f_openProc f_analysed f_built f_builtCount f_builtTotal f_workTop (cc_cm c) (cc_cx c) (cc_cy c) f_argMask f_argX f_argY f_candCount f_candTotal f_overflow f_frames f_outCount f_entryCount a_kind a_d a_s a_t a_a a_b a_unitLen a_unitProc a_unitMask a_unitX a_unitY a_unitSize a_splitNow a_callSites a_opaque a_form0 a_form1 a_formB a_met a_fact a_factValue a_work a_waiting a_trial a_candProc a_candMask a_candX a_candY a_candSize a_place a_frameUnit a_framePc a_vars a_outputs a_entryProc a_entryX a_entryY a_entryMask := by
  have e : k < 2 ^ 31 := by omega
  refine And.intro (vp_in_nI hk (by decide)) ?_
  rw [ix_c a_form1 e, r.2.2.1]
  by_cases z : cc_f1 f = 0
  · exact br_t z (h1 (Or.inl z))
  · refine br_f z ?_
    by_cases y : c.2 = none
    · exact br_t ((cc_cm2 c).mpr y) (h0 (fun w => w.elim z (fun w => w y)))
    · exact br_f (fun w => y ((cc_cm2 c).mp w)) (h1 (Or.inr y))
theorem xw_known {post : Int32 → Prop} {k : Nat} (hk : k < 240) {f : cc_Fm} {c : cc_Cx} (r : cc_rx a_opaque a_form0 a_form1 a_formB k f) (h : post (cc_b (cc_ev f c).isSome)) : wpX_known post (f_LIN, f_SKIP, f_CALL, f_OUT, f_JUMP, f_RUNNING, f_FIRST_VERSION, f_MAX_VERSIONS, f_procedures, f_length, f_calls, f_depth, f_openProc, f_analysed, f_built, f_builtCount, f_builtTotal, f_workTop, (cc_cm c), (cc_cx c), (cc_cy c), f_argMask, f_argX, f_argY, f_candCount, f_candTotal, f_overflow, f_frames, f_outCount, f_entryCount, a_kind, a_d, a_s, a_t, a_a, a_b, a_unitLen, a_unitProc, a_unitMask, a_unitX, a_unitY, a_unitSize, a_splitNow, a_callSites, a_opaque, a_form0, a_form1, a_formB, a_met, a_fact, a_factValue, a_work, a_waiting, a_trial, a_candProc, a_candMask, a_candX, a_candY, a_candSize, a_place, a_frameUnit, a_framePc, a_vars, a_outputs, a_entryProc, a_entryX, a_entryY, a_entryMask) (nI k) := by
  have e : k < 2 ^ 31 := by omega
  have hi : vp_in (nI k) 240 := vp_in_nI hk (by decide)
  refine And.intro hi ?_
  cases f with
  | none => exact br_f (by rw [ix_c a_opaque e, r.1]; exact ix_10) h
  | some t =>
    refine br_t ((ix_c a_opaque e).trans r.1) (And.intro hi ?_)
    have tail : (t.1 = 0 ∨ c.1 ≠ none) → wX_known_27 post (nI k) f_LIN f_SKIP f_CALL f_OUT f_JUMP f_RUNNING f_FIRST_VERSION f_MAX_VERSIONS f_procedures f_length f_calls f_depth f_openProc f_analysed f_built f_builtCount f_builtTotal f_workTop (cc_cm c) (cc_cx c) (cc_cy c) f_argMask f_argX f_argY f_candCount f_candTotal f_overflow f_frames f_outCount f_entryCount a_kind a_d a_s a_t a_a a_b a_unitLen a_unitProc a_unitMask a_unitX a_unitY a_unitSize a_splitNow a_callSites a_opaque a_form0 a_form1 a_formB a_met a_fact a_factValue a_work a_waiting a_trial a_candProc a_candMask a_candX a_candY a_candSize a_place a_frameUnit a_framePc a_vars a_outputs a_entryProc a_entryX a_entryY a_entryMask := by
      intro h1
      refine xw_known27 hk r (fun h2 => ?_) (fun h2 => ?_)
      · rw [cc_ev_t (t := t) (c := c) ⟨h1, h2⟩] at h; exact h
      · rw [cc_ev_f (t := t) (c := c) (fun z => h2 z.2)] at h; exact h
    rw [ix_c a_form0 e, r.2.1]
    show (t.1 = 0 → _) ∧ (¬ t.1 = 0 → _)
    by_cases z : t.1 = 0
    · exact br_t z (tail (Or.inl z))
    · refine br_f z ?_
      by_cases y : c.1 = none
      · rw [cc_ev_f (t := t) (c := c) (fun w => w.1.elim z (fun w => w y))] at h
        exact br_t ((cc_cm1 c).mpr y) h
      · exact br_f (fun w => y ((cc_cm1 c).mp w)) (tail (Or.inr y))
theorem xw_value {post : Int32 → Prop} {k : Nat} (hk : k < 240) {f : cc_Fm} {c : cc_Cx} (r : cc_rx a_opaque a_form0 a_form1 a_formB k f) (h : post (cc_f0 f * cc_cx c + cc_f1 f * cc_cy c + cc_fb f)) : wpX_value post (f_LIN, f_SKIP, f_CALL, f_OUT, f_JUMP, f_RUNNING, f_FIRST_VERSION, f_MAX_VERSIONS, f_procedures, f_length, f_calls, f_depth, f_openProc, f_analysed, f_built, f_builtCount, f_builtTotal, f_workTop, (cc_cm c), (cc_cx c), (cc_cy c), f_argMask, f_argX, f_argY, f_candCount, f_candTotal, f_overflow, f_frames, f_outCount, f_entryCount, a_kind, a_d, a_s, a_t, a_a, a_b, a_unitLen, a_unitProc, a_unitMask, a_unitX, a_unitY, a_unitSize, a_splitNow, a_callSites, a_opaque, a_form0, a_form1, a_formB, a_met, a_fact, a_factValue, a_work, a_waiting, a_trial, a_candProc, a_candMask, a_candX, a_candY, a_candSize, a_place, a_frameUnit, a_framePc, a_vars, a_outputs, a_entryProc, a_entryX, a_entryY, a_entryMask) (nI k) := by
  have e : k < 2 ^ 31 := by omega
  have hi : vp_in (nI k) 240 := vp_in_nI hk (by decide)
  refine And.intro hi (And.intro hi (And.intro hi ?_))
  rw [ix_c a_form0 e, ix_c a_form1 e, ix_c a_formB e, r.2.1, r.2.2.1, r.2.2.2]
  exact h
theorem xw_valueS {post : Int32 → Prop} {k : Nat} (hk : k < 240) {f : cc_Fm} {c : cc_Cx} (r : cc_rx a_opaque a_form0 a_form1 a_formB k f) {v : Int32} (ev : cc_ev f c = some v) (h : post v) : wpX_value post (f_LIN, f_SKIP, f_CALL, f_OUT, f_JUMP, f_RUNNING, f_FIRST_VERSION, f_MAX_VERSIONS, f_procedures, f_length, f_calls, f_depth, f_openProc, f_analysed, f_built, f_builtCount, f_builtTotal, f_workTop, (cc_cm c), (cc_cx c), (cc_cy c), f_argMask, f_argX, f_argY, f_candCount, f_candTotal, f_overflow, f_frames, f_outCount, f_entryCount, a_kind, a_d, a_s, a_t, a_a, a_b, a_unitLen, a_unitProc, a_unitMask, a_unitX, a_unitY, a_unitSize, a_splitNow, a_callSites, a_opaque, a_form0, a_form1, a_formB, a_met, a_fact, a_factValue, a_work, a_waiting, a_trial, a_candProc, a_candMask, a_candX, a_candY, a_candSize, a_place, a_frameUnit, a_framePc, a_vars, a_outputs, a_entryProc, a_entryX, a_entryY, a_entryMask) (nI k) :=
  xw_value hk r (by rw [cc_ev_v ev (cc_gx0 c)]; exact h)
theorem xw_successors {post : Int32 → Prop} {P : cc_Pg} {m i : Nat} (hm : m < 48) (hi : i < 8) (w : cc_w1 P m i) (x : cc_x1 P a_kind a_d a_s a_t a_a a_b m) {c : cc_Cx} (r : cc_rx a_opaque a_form0 a_form1 a_formB (m * 5 + cc_S P m) (cc_fm P m (cc_S P m)))
    (h : ∀ z, cc_bs z (cc_sc P m i c) → post z) : wpX_successors post (f_LIN, f_SKIP, f_CALL, f_OUT, f_JUMP, f_RUNNING, f_FIRST_VERSION, f_MAX_VERSIONS, f_procedures, f_length, f_calls, f_depth, f_openProc, f_analysed, f_built, f_builtCount, f_builtTotal, f_workTop, (cc_cm c), (cc_cx c), (cc_cy c), f_argMask, f_argX, f_argY, f_candCount, f_candTotal, f_overflow, f_frames, f_outCount, f_entryCount, a_kind, a_d, a_s, a_t, a_a, a_b, a_unitLen, a_unitProc, a_unitMask, a_unitX, a_unitY, a_unitSize, a_splitNow, a_callSites, a_opaque, a_form0, a_form1, a_formB, a_met, a_fact, a_factValue, a_work, a_waiting, a_trial, a_candProc, a_candMask, a_candX, a_candY, a_candSize, a_place, a_frameUnit, a_framePc, a_vars, a_outputs, a_entryProc, a_entryX, a_entryY, a_entryMask) (nI m) (nI i) := by
  have em : m < 2 ^ 31 := by omega
  have him : vp_in (nI m) 176 := vp_in_nI (by omega) (by decide)
  obtain ⟨w1, w2, w3, w4, w5, w6⟩ := w
  have nx : ∀ j, j < 32 → bt ((1 : Int32) <<< (nI (i + 1) &&& 31)) j = decide (j = i + 1) := fun j hj => bx_sh (by omega) hj
  refine nm_r (e' := (1 : Int32) <<< (nI (i + 1) &&& 31)) (by rw [nI_1]) (And.intro him ?_)
  rw [ix_c a_kind em, x.1]
  by_cases k5 : cc_K P m = 5
  · obtain ⟨G1, G2, G3⟩ := w6 k5
    have fx : ∀ j, j < 32 → bt ((1 : Int32) <<< (nI (cc_G P m) &&& 31)) j = decide (j = cc_G P m) := fun j hj => bx_sh (by omega) hj
    rw [k5]
    refine br_t rfl (And.intro him (nm_r (e' := (1 : Int32) <<< (nI (cc_G P m) &&& 31)) (by rw [ix_c a_b em, x.2.2.2.2.2, G3]) (And.intro him (nm_r (e' := nI (m * 5 + cc_S P m)) (by rw [ix_c a_s em, x.2.2.1]; exact ix_5 _ _) ?_))))
    refine xw_known (by omega) r ?_
    cases e : cc_ev (cc_fm P m (cc_S P m)) c with
    | none =>
      refine br_t rfl (h _ (fun j hj => ?_))
      rw [b_or, nx j hj, fx j hj, cc_sc_u k5 e]
    | some v =>
      refine br_f ix_10 (xw_valueS (by omega) r e (And.intro him ?_))
      rw [ix_c a_a em, x.2.2.2.2.1]
      by_cases z : v = cc_A P m
      · refine br_t z (h _ (fun j hj => ?_))
        rw [fx j hj, cc_sc_t k5 (by rw [e, z])]
      · refine br_f z (h _ (fun j hj => ?_))
        rw [nx j hj, cc_sc_f k5 e z]
  · refine br_f (fun z => k5 ((nI_eq (by omega) (by decide)).mp z)) (h _ (fun j hj => ?_))
    rw [nx j hj, cc_sc_n k5]
theorem xw_reached12 {post : Int32 → Prop} {P : cc_Pg} (W : cc_wf P) {p : Nat} (hp : p < 6) (x : cc_xc P a_kind a_d a_s a_t a_a a_b) (R : cc_xd P a_opaque a_form0 a_form1 a_formB p (cc_L P p)) {c : cc_Cx}
    (h : ∀ z, cc_bs z (fun j => cc_rc P p c j && decide (j < cc_L P p)) → post z) :
    ∀ (n i : Nat) (z : Int32), i ≤ cc_L P p → cc_L P p - i < n → cc_bs z (cc_rs P p c i) → wX_reached_12 post (nI p) (nI (cc_L P p)) f_LIN f_SKIP f_CALL f_OUT f_JUMP f_RUNNING f_FIRST_VERSION f_MAX_VERSIONS f_procedures f_length f_calls f_depth f_openProc f_analysed f_built f_builtCount f_builtTotal f_workTop (cc_cm c) (cc_cx c) (cc_cy c) f_argMask f_argX f_argY f_candCount f_candTotal f_overflow f_frames f_outCount f_entryCount a_kind a_d a_s a_t a_a a_b a_unitLen a_unitProc a_unitMask a_unitX a_unitY a_unitSize a_splitNow a_callSites a_opaque a_form0 a_form1 a_formB a_met a_fact a_factValue a_work a_waiting a_trial a_candProc a_candMask a_candX a_candY a_candSize a_place a_frameUnit a_framePc a_vars a_outputs a_entryProc a_entryX a_entryY a_entryMask n z (nI i) := by
  have L8 := W.2.2.1 p hp
  intro n
  induction n with
  | zero => intro i z _ y; omega
  | succ n ih =>
    intro i z hi hn I
    by_cases e : i = cc_L P p
    · subst e
      refine br_t (nI_le (Nat.le_refl _) (by omega)) (h _ (fun j hj => ?_))
      rw [b_and, I j hj, bx_lo L8 hj]; rfl
    · have hi' : i < cc_L P p := by omega
      refine br_f (nI_ge hi' (by omega)) ?_
      rw [bx_t I (n := i) (by omega)]
      cases q : cc_rs P p c i i with
      | false =>
        refine br_t rfl (nm_r (e' := nI (i + 1)) (nI_1 i) (ih (i + 1) z (by omega) (by omega) (fun j hj => ?_)))
        rw [cc_rs_s, q, Bool.false_and, Bool.or_false]; exact I j hj
      | true =>
        refine br_f ix_10 ?_
        rw [ix_8]
        have w1 := W.2.2.2 p i hp hi'
        refine xw_successors (by omega) (by omega) w1 (x p i hp hi') ((R i hi').1 _ w1.2.2.1) (fun s hs => nm_e (nm_r (e' := nI (i + 1)) (nI_1 i) (ih (i + 1) _ (by omega) (by omega) (fun j hj => ?_))))
        rw [b_or, I j hj, hs j hj, cc_rs_s, q, Bool.true_and]
theorem xw_reached {post : Int32 → Prop} {P : cc_Pg} (W : cc_wf P) {p : Nat} (hp : p < 6) (hL : a_unitLen p = nI (cc_L P p)) (x : cc_xc P a_kind a_d a_s a_t a_a a_b) (R : cc_xd P a_opaque a_form0 a_form1 a_formB p (cc_L P p)) {c : cc_Cx}
    (h : ∀ z, cc_bs z (fun j => cc_rc P p c j && decide (j < cc_L P p)) → post z) : wpX_reached post (f_LIN, f_SKIP, f_CALL, f_OUT, f_JUMP, f_RUNNING, f_FIRST_VERSION, f_MAX_VERSIONS, f_procedures, f_length, f_calls, f_depth, f_openProc, f_analysed, f_built, f_builtCount, f_builtTotal, f_workTop, (cc_cm c), (cc_cx c), (cc_cy c), f_argMask, f_argX, f_argY, f_candCount, f_candTotal, f_overflow, f_frames, f_outCount, f_entryCount, a_kind, a_d, a_s, a_t, a_a, a_b, a_unitLen, a_unitProc, a_unitMask, a_unitX, a_unitY, a_unitSize, a_splitNow, a_callSites, a_opaque, a_form0, a_form1, a_formB, a_met, a_fact, a_factValue, a_work, a_waiting, a_trial, a_candProc, a_candMask, a_candX, a_candY, a_candSize, a_place, a_frameUnit, a_framePc, a_vars, a_outputs, a_entryProc, a_entryX, a_entryY, a_entryMask) (nI p) := by
  refine And.intro (vp_in_nI (by omega) (by decide)) (nm_r (e' := nI (cc_L P p)) ((ix_c a_unitLen (by omega)).trans hL) ⟨9, ?_⟩)
  have L8 := W.2.2.1 p hp
  exact xw_reached12 W hp x R h 9 0 1 (by omega) (by omega) (fun j hj => bx_1 j hj)
theorem xw_arg76 {post : SX → Prop} {l : Nat} (hl : l < 240) {f : cc_Fm} {c : cc_Cx} {z0 mk : Int32} (r : cc_rx a_opaque a_form0 a_form1 a_formB l f)
    (h : post (f_LIN, f_SKIP, f_CALL, f_OUT, f_JUMP, f_RUNNING, f_FIRST_VERSION, f_MAX_VERSIONS, f_procedures, f_length, f_calls, f_depth, f_openProc, f_analysed, f_built, f_builtCount, f_builtTotal, f_workTop, (cc_cm c), (cc_cx c), (cc_cy c), mk, z0, ((cc_ev f c).getD 0), f_candCount, f_candTotal, f_overflow, f_frames, f_outCount, f_entryCount, a_kind, a_d, a_s, a_t, a_a, a_b, a_unitLen, a_unitProc, a_unitMask, a_unitX, a_unitY, a_unitSize, a_splitNow, a_callSites, a_opaque, a_form0, a_form1, a_formB, a_met, a_fact, a_factValue, a_work, a_waiting, a_trial, a_candProc, a_candMask, a_candX, a_candY, a_candSize, a_place, a_frameUnit, a_framePc, a_vars, a_outputs, a_entryProc, a_entryX, a_entryY, a_entryMask)) : wX_argumentContext_76 post (nI l) (cc_b (cc_ev f c).isSome) z0 f_LIN f_SKIP f_CALL f_OUT f_JUMP f_RUNNING f_FIRST_VERSION f_MAX_VERSIONS f_procedures f_length f_calls f_depth f_openProc f_analysed f_built f_builtCount f_builtTotal f_workTop (cc_cm c) (cc_cx c) (cc_cy c) mk f_argX f_argY f_candCount f_candTotal f_overflow f_frames f_outCount f_entryCount a_kind a_d a_s a_t a_a a_b a_unitLen a_unitProc a_unitMask a_unitX a_unitY a_unitSize a_splitNow a_callSites a_opaque a_form0 a_form1 a_formB a_met a_fact a_factValue a_work a_waiting a_trial a_candProc a_candMask a_candX a_candY a_candSize a_place a_frameUnit a_framePc a_vars a_outputs a_entryProc a_entryX a_entryY a_entryMask := by
  cases e : cc_ev f c with
  | none => rw [e] at h; exact br_t rfl h
  | some v => rw [e] at h; exact br_f ix_10 (xw_valueS hl r e h)
theorem xw_arg57 {post : SX → Prop} {k l : Nat} (hk : k < 240) (hl : l < 240) {e f : cc_Fm} {c : cc_Cx} {z0 z1 mk : Int32} (q : cc_rx a_opaque a_form0 a_form1 a_formB k e) (r : cc_rx a_opaque a_form0 a_form1 a_formB l f) (em : z1 ||| z0 = mk)
    (h : post (f_LIN, f_SKIP, f_CALL, f_OUT, f_JUMP, f_RUNNING, f_FIRST_VERSION, f_MAX_VERSIONS, f_procedures, f_length, f_calls, f_depth, f_openProc, f_analysed, f_built, f_builtCount, f_builtTotal, f_workTop, (cc_cm c), (cc_cx c), (cc_cy c), mk, ((cc_ev e c).getD 0), ((cc_ev f c).getD 0), f_candCount, f_candTotal, f_overflow, f_frames, f_outCount, f_entryCount, a_kind, a_d, a_s, a_t, a_a, a_b, a_unitLen, a_unitProc, a_unitMask, a_unitX, a_unitY, a_unitSize, a_splitNow, a_callSites, a_opaque, a_form0, a_form1, a_formB, a_met, a_fact, a_factValue, a_work, a_waiting, a_trial, a_candProc, a_candMask, a_candX, a_candY, a_candSize, a_place, a_frameUnit, a_framePc, a_vars, a_outputs, a_entryProc, a_entryX, a_entryY, a_entryMask)) : wX_argumentContext_57 post (nI k) (nI l) (cc_b (cc_ev e c).isSome) (cc_b (cc_ev f c).isSome) z0 z1 f_LIN f_SKIP f_CALL f_OUT f_JUMP f_RUNNING f_FIRST_VERSION f_MAX_VERSIONS f_procedures f_length f_calls f_depth f_openProc f_analysed f_built f_builtCount f_builtTotal f_workTop (cc_cm c) (cc_cx c) (cc_cy c) f_argMask f_argX f_argY f_candCount f_candTotal f_overflow f_frames f_outCount f_entryCount a_kind a_d a_s a_t a_a a_b a_unitLen a_unitProc a_unitMask a_unitX a_unitY a_unitSize a_splitNow a_callSites a_opaque a_form0 a_form1 a_formB a_met a_fact a_factValue a_work a_waiting a_trial a_candProc a_candMask a_candX a_candY a_candSize a_place a_frameUnit a_framePc a_vars a_outputs a_entryProc a_entryX a_entryY a_entryMask := by
  refine nm_r (e' := mk) em ?_
  cases g : cc_ev e c with
  | none => rw [g] at h; exact br_t rfl (xw_arg76 hl r h)
  | some v => rw [g] at h; exact br_f ix_10 (xw_valueS hk q g (xw_arg76 hl r h))
theorem xw_argumentContext {post : SX → Prop} {P : cc_Pg} {m i : Nat} (hm : m < 48) (w : cc_w1 P m i) (x : cc_x1 P a_kind a_d a_s a_t a_a a_b m) {c : cc_Cx} (R : ∀ v, v < 4 → cc_rx a_opaque a_form0 a_form1 a_formB (m * 5 + v) (cc_fm P m v))
    (h : post (f_LIN, f_SKIP, f_CALL, f_OUT, f_JUMP, f_RUNNING, f_FIRST_VERSION, f_MAX_VERSIONS, f_procedures, f_length, f_calls, f_depth, f_openProc, f_analysed, f_built, f_builtCount, f_builtTotal, f_workTop, (cc_cm c), (cc_cx c), (cc_cy c), (cc_cm (cc_ar P m c)), (cc_cx (cc_ar P m c)), (cc_cy (cc_ar P m c)), f_candCount, f_candTotal, f_overflow, f_frames, f_outCount, f_entryCount, a_kind, a_d, a_s, a_t, a_a, a_b, a_unitLen, a_unitProc, a_unitMask, a_unitX, a_unitY, a_unitSize, a_splitNow, a_callSites, a_opaque, a_form0, a_form1, a_formB, a_met, a_fact, a_factValue, a_work, a_waiting, a_trial, a_candProc, a_candMask, a_candX, a_candY, a_candSize, a_place, a_frameUnit, a_framePc, a_vars, a_outputs, a_entryProc, a_entryX, a_entryY, a_entryMask)) : wpX_argumentContext post (f_LIN, f_SKIP, f_CALL, f_OUT, f_JUMP, f_RUNNING, f_FIRST_VERSION, f_MAX_VERSIONS, f_procedures, f_length, f_calls, f_depth, f_openProc, f_analysed, f_built, f_builtCount, f_builtTotal, f_workTop, (cc_cm c), (cc_cx c), (cc_cy c), f_argMask, f_argX, f_argY, f_candCount, f_candTotal, f_overflow, f_frames, f_outCount, f_entryCount, a_kind, a_d, a_s, a_t, a_a, a_b, a_unitLen, a_unitProc, a_unitMask, a_unitX, a_unitY, a_unitSize, a_splitNow, a_callSites, a_opaque, a_form0, a_form1, a_formB, a_met, a_fact, a_factValue, a_work, a_waiting, a_trial, a_candProc, a_candMask, a_candX, a_candY, a_candSize, a_place, a_frameUnit, a_framePc, a_vars, a_outputs, a_entryProc, a_entryX, a_entryY, a_entryMask) (nI m) := by
  have em : m < 2 ^ 31 := by omega
  have him : vp_in (nI m) 176 := vp_in_nI (by omega) (by decide)
  obtain ⟨w1, w2, w3, w4, -, -⟩ := w
  have rS := R _ w3
  have rT := R _ w4
  have hS : m * 5 + cc_S P m < 240 := by omega
  have hT : m * 5 + cc_T P m < 240 := by omega
  refine And.intro him (nm_r (e' := nI (m * 5 + cc_S P m)) (by rw [ix_c a_s em, x.2.2.1]; exact ix_5 _ _) (And.intro him (nm_r (e' := nI (m * 5 + cc_T P m)) (by rw [ix_c a_t em, x.2.2.2.1]; exact ix_5 _ _) ?_)))
  refine xw_known hS rS (xw_known hT rT ?_)
  have key : ∀ z1 z0 : Int32, z1 ||| z0 = cc_cm (cc_ar P m c) → wX_argumentContext_57 post (nI (m * 5 + cc_S P m)) (nI (m * 5 + cc_T P m)) (cc_b (cc_ev (cc_fm P m (cc_S P m)) c).isSome) (cc_b (cc_ev (cc_fm P m (cc_T P m)) c).isSome) z0 z1 f_LIN f_SKIP f_CALL f_OUT f_JUMP f_RUNNING f_FIRST_VERSION f_MAX_VERSIONS f_procedures f_length f_calls f_depth f_openProc f_analysed f_built f_builtCount f_builtTotal f_workTop (cc_cm c) (cc_cx c) (cc_cy c) f_argMask f_argX f_argY f_candCount f_candTotal f_overflow f_frames f_outCount f_entryCount a_kind a_d a_s a_t a_a a_b a_unitLen a_unitProc a_unitMask a_unitX a_unitY a_unitSize a_splitNow a_callSites a_opaque a_form0 a_form1 a_formB a_met a_fact a_factValue a_work a_waiting a_trial a_candProc a_candMask a_candX a_candY a_candSize a_place a_frameUnit a_framePc a_vars a_outputs a_entryProc a_entryX a_entryY a_entryMask :=
    fun z1 z0 e => xw_arg57 hS hT rS rT e h
  unfold cc_ar at key
  cases e1 : cc_ev (cc_fm P m (cc_S P m)) c with
  | none =>
    cases e2 : cc_ev (cc_fm P m (cc_T P m)) c with
    | none => rw [e1, e2] at key; exact br_t rfl (br_t rfl (key 0 0 (by decide)))
    | some v => rw [e1, e2] at key; exact br_t rfl (br_f ix_10 (key 0 2 (show (0 : Int32) ||| 2 = 2 by decide)))
  | some u =>
    cases e2 : cc_ev (cc_fm P m (cc_T P m)) c with
    | none => rw [e1, e2] at key; exact br_f ix_10 (br_t rfl (key 1 0 (show (1 : Int32) ||| 0 = 1 by decide)))
    | some v => rw [e1, e2] at key; exact br_f ix_10 (br_f ix_10 (key 1 2 (show (1 : Int32) ||| 2 = 3 by decide)))
/-- facts in two arrays -/
def cc_rf (fa fv : Nat → Int32) (F : Nat → cc_Lt) : Prop := ∀ k, k < 12 → fa k = cc_lf (F k) ∧ fv k = cc_lv (F k)
theorem cc_lf_3n {a : cc_Lt} (h : cc_lc a = none) : ¬ cc_lf a = 3 := fun z => cc_lf_3.mp z h
theorem cc_cm_00 {c : cc_Cx} (h : c.1 = none) (k : c.2 = none) : cc_cm c = 0 := by
  rcases c with ⟨a, b⟩; cases h; cases k; rfl
theorem cc_cm_10 {c : cc_Cx} (h : c.1 ≠ none) (k : c.2 = none) : cc_cm c = 1 := by
  rcases c with ⟨_ | a, b⟩
  · exact absurd rfl h
  · cases k; rfl
theorem cc_cm_01 {c : cc_Cx} (h : c.1 = none) (k : c.2 ≠ none) : cc_cm c = 2 := by
  rcases c with ⟨a, _ | b⟩
  · exact absurd rfl k
  · cases h; rfl
theorem cc_cm_11 {c : cc_Cx} (h : c.1 ≠ none) (k : c.2 ≠ none) : cc_cm c = 3 := by
  rcases c with ⟨_ | a, _ | b⟩
  · exact absurd rfl h
  · exact absurd rfl h
  · exact absurd rfl k
  · rfl
theorem xw_mergedMask {post : Int32 → Prop} {p : Nat} (hp : p < 6) {F : Nat → cc_Lt} (r : cc_rf a_fact a_factValue F) (h : post (cc_cm (cc_fc F p))) : wpX_mergedMask post (f_LIN, f_SKIP, f_CALL, f_OUT, f_JUMP, f_RUNNING, f_FIRST_VERSION, f_MAX_VERSIONS, f_procedures, f_length, f_calls, f_depth, f_openProc, f_analysed, f_built, f_builtCount, f_builtTotal, f_workTop, f_ctxMask, f_ctxX, f_ctxY, f_argMask, f_argX, f_argY, f_candCount, f_candTotal, f_overflow, f_frames, f_outCount, f_entryCount, a_kind, a_d, a_s, a_t, a_a, a_b, a_unitLen, a_unitProc, a_unitMask, a_unitX, a_unitY, a_unitSize, a_splitNow, a_callSites, a_opaque, a_form0, a_form1, a_formB, a_met, a_fact, a_factValue, a_work, a_waiting, a_trial, a_candProc, a_candMask, a_candX, a_candY, a_candSize, a_place, a_frameUnit, a_framePc, a_vars, a_outputs, a_entryProc, a_entryX, a_entryY, a_entryMask) (nI p) := by
  have e0 := (r (2 * p) (by omega)).1
  have e1 := (r (2 * p + 1) (by omega)).1
  have t17 : ∀ z0 : Int32, (cc_lf (F (2 * p + 1)) = 3 → post (z0 ||| 2)) → (¬ cc_lf (F (2 * p + 1)) = 3 → post (z0 ||| 0)) → wX_mergedMask_17 post (nI p) z0 f_LIN f_SKIP f_CALL f_OUT f_JUMP f_RUNNING f_FIRST_VERSION f_MAX_VERSIONS f_procedures f_length f_calls f_depth f_openProc f_analysed f_built f_builtCount f_builtTotal f_workTop f_ctxMask f_ctxX f_ctxY f_argMask f_argX f_argY f_candCount f_candTotal f_overflow f_frames f_outCount f_entryCount a_kind a_d a_s a_t a_a a_b a_unitLen a_unitProc a_unitMask a_unitX a_unitY a_unitSize a_splitNow a_callSites a_opaque a_form0 a_form1 a_formB a_met a_fact a_factValue a_work a_waiting a_trial a_candProc a_candMask a_candX a_candY a_candSize a_place a_frameUnit a_framePc a_vars a_outputs a_entryProc a_entryX a_entryY a_entryMask := by
    intro z0 h1 h2
    unfold wX_mergedMask_17
    rw [ix_21, ix_c a_fact (by omega), e1]
    exact And.intro (vp_in_nI (by omega) (by decide)) (br_c h1 h2)
  unfold wpX_mergedMask
  dsimp only
  rw [ix_20, ix_c a_fact (by omega), e0]
  refine And.intro (vp_in_nI (by omega) (by decide)) (br_c (fun y => t17 1 (fun z => ?_) (fun z => ?_)) (fun y => t17 0 (fun z => ?_) (fun z => ?_)))
  · rw [cc_cm_11 (c := cc_fc F p) (cc_lf_3.mp y) (cc_lf_3.mp z)] at h; exact h
  · rw [cc_cm_10 (c := cc_fc F p) (cc_lf_3.mp y) (Classical.byContradiction fun w => z (cc_lf_3.mpr w))] at h; exact h
  · rw [cc_cm_01 (c := cc_fc F p) (Classical.byContradiction fun w => y (cc_lf_3.mpr w)) (cc_lf_3.mp z)] at h; exact h
  · rw [cc_cm_00 (c := cc_fc F p) (Classical.byContradiction fun w => y (cc_lf_3.mpr w)) (Classical.byContradiction fun w => z (cc_lf_3.mpr w))] at h; exact h
end
end
section
/-! X: push, meet, absorb, visit, solveFacts, analyse -/
theorem cc_set_s (f : Nat → Bool) (q : Nat) (b : Bool) : cc_set f q b q = b := if_pos rfl
theorem cc_set_n (f : Nat → Bool) {q j : Nat} (b : Bool) (h : j ≠ q) : cc_set f q b j = f j := if_neg h
theorem cc_set_id {f : Nat → Bool} {q : Nat} {b : Bool} (h : f q = b) : cc_set f q b = f := by
  funext j
  by_cases e : j = q
  · subst e; rw [cc_set_s]; exact h.symm
  · exact cc_set_n f b e
theorem cc_set_2 (f : Nat → Bool) (q : Nat) (b c : Bool) : cc_set (cc_set f q b) q c = cc_set f q c := by
  funext j
  by_cases e : j = q
  · subst e; rw [cc_set_s, cc_set_s]
  · rw [cc_set_n _ _ e, cc_set_n _ _ e, cc_set_n _ _ e]
theorem cc_ct_set {f : Nat → Bool} {q : Nat} (h : f q = false) : ∀ n, q < n → cc_ct (cc_set f q true) n = cc_ct f n + 1
  | 0, z => by omega
  | n + 1, z => by
    rw [cc_ct, cc_ct]
    by_cases e : n = q
    · subst e
      rw [cc_set_s, h, cc_ct_cg (f := cc_set f n true) (g := f) n (fun i hi => cc_set_n f true (by omega))]
      rfl
    · rw [cc_set_n f true e, cc_ct_set h n (by omega)]; omega
theorem cc_ct_z {f : Nat → Bool} {n q : Nat} (h : cc_ct f n = 0) (hq : q < n) : f q = false := by
  cases e : f q with
  | false => rfl
  | true => have := cc_ct_lt hq e; omega
/-- the worklist -/
def cc_WI (N t : Nat) (wk wa : Nat → Int32) (wt : Nat → Bool) : Prop := t = cc_ct wt 6 ∧ (∀ q, q < 6 → wa q = cc_b (wt q)) ∧
  ∃ V : Nat → Nat, (∀ i, i < t → wk i = nI (V i) ∧ V i < N ∧ wt (V i) = true) ∧ ∀ i j, i < t → j < t → V i = V j → i = j
section
variable {f_LIN f_SKIP f_CALL f_OUT f_JUMP f_RUNNING f_FIRST_VERSION f_MAX_VERSIONS f_procedures f_length f_calls f_depth f_openProc f_analysed f_built f_builtCount f_builtTotal f_workTop f_ctxMask f_ctxX f_ctxY f_argMask f_argX f_argY f_candCount f_candTotal f_overflow f_frames f_outCount f_entryCount : Int32} {a_kind a_d a_s a_t a_a a_b a_unitLen a_unitProc a_unitMask a_unitX a_unitY a_unitSize a_splitNow a_callSites a_opaque a_form0 a_form1 a_formB a_met a_fact a_factValue a_work a_waiting a_trial a_candProc a_candMask a_candX a_candY a_candSize a_place a_frameUnit a_framePc a_vars a_outputs a_entryProc a_entryX a_entryY a_entryMask : Nat → Int32}
theorem xw_meet {post : Int32 → SX → Prop} {k : Nat} (hk : k < 12) {F : Nat → cc_Lt} {x : Option Int32} (r : cc_rf a_fact a_factValue F)
    (h0 : cc_mt (F k) x = F k → post 0 (f_LIN, f_SKIP, f_CALL, f_OUT, f_JUMP, f_RUNNING, f_FIRST_VERSION, f_MAX_VERSIONS, f_procedures, f_length, f_calls, f_depth, f_openProc, f_analysed, f_built, f_builtCount, f_builtTotal, f_workTop, f_ctxMask, f_ctxX, f_ctxY, f_argMask, f_argX, f_argY, f_candCount, f_candTotal, f_overflow, f_frames, f_outCount, f_entryCount, a_kind, a_d, a_s, a_t, a_a, a_b, a_unitLen, a_unitProc, a_unitMask, a_unitX, a_unitY, a_unitSize, a_splitNow, a_callSites, a_opaque, a_form0, a_form1, a_formB, a_met, a_fact, a_factValue, a_work, a_waiting, a_trial, a_candProc, a_candMask, a_candX, a_candY, a_candSize, a_place, a_frameUnit, a_framePc, a_vars, a_outputs, a_entryProc, a_entryX, a_entryY, a_entryMask)) (h1 : cc_mt (F k) x ≠ F k → ∀ fa fv, cc_rf fa fv (cc_a1 F k x) → post 1 (f_LIN, f_SKIP, f_CALL, f_OUT, f_JUMP, f_RUNNING, f_FIRST_VERSION, f_MAX_VERSIONS, f_procedures, f_length, f_calls, f_depth, f_openProc, f_analysed, f_built, f_builtCount, f_builtTotal, f_workTop, f_ctxMask, f_ctxX, f_ctxY, f_argMask, f_argX, f_argY, f_candCount, f_candTotal, f_overflow, f_frames, f_outCount, f_entryCount, a_kind, a_d, a_s, a_t, a_a, a_b, a_unitLen, a_unitProc, a_unitMask, a_unitX, a_unitY, a_unitSize, a_splitNow, a_callSites, a_opaque, a_form0, a_form1, a_formB, a_met, fa, fv, a_work, a_waiting, a_trial, a_candProc, a_candMask, a_candX, a_candY, a_candSize, a_place, a_frameUnit, a_framePc, a_vars, a_outputs, a_entryProc, a_entryX, a_entryY, a_entryMask)) : wpX_meet post (f_LIN, f_SKIP, f_CALL, f_OUT, f_JUMP, f_RUNNING, f_FIRST_VERSION, f_MAX_VERSIONS, f_procedures, f_length, f_calls, f_depth, f_openProc, f_analysed, f_built, f_builtCount, f_builtTotal, f_workTop, f_ctxMask, f_ctxX, f_ctxY, f_argMask, f_argX, f_argY, f_candCount, f_candTotal, f_overflow, f_frames, f_outCount, f_entryCount, a_kind, a_d, a_s, a_t, a_a, a_b, a_unitLen, a_unitProc, a_unitMask, a_unitX, a_unitY, a_unitSize, a_splitNow, a_callSites, a_opaque, a_form0, a_form1, a_formB, a_met, a_fact, a_factValue, a_work, a_waiting, a_trial, a_candProc, a_candMask, a_candX, a_candY, a_candSize, a_place, a_frameUnit, a_framePc, a_vars, a_outputs, a_entryProc, a_entryX, a_entryY, a_entryMask) (nI k) (cc_b x.isSome) (x.getD 0) := by
  have e : k < 2 ^ 31 := by omega
  have hi : vp_in (nI k) 12 := vp_in_nI hk (by decide)
  obtain ⟨rk, rv⟩ := r k hk
  have rk' := (ix_c a_fact e).trans rk
  have rv' := (ix_c a_factValue e).trans rv
  have wr : ∀ (a : cc_Lt), cc_mt (F k) x = a → cc_rf (upd a_fact (nI k).toNatClampNeg (cc_lf a)) (upd a_factValue (nI k).toNatClampNeg (cc_lv a)) (cc_a1 F k x) := by
    intro a ea j hj
    rw [nI_clamp e]
    by_cases ej : j = k
    · subst ej; rw [cc_a1_s, ea]; exact ⟨pk_us, pk_us⟩
    · rw [cc_a1_n F x ej]; exact ⟨(pk_un ej).trans (r j hj).1, (pk_un ej).trans (r j hj).2⟩
  have t58 : cc_mt (F k) x = some none → F k ≠ some none → wX_meet_58 post (nI k) f_LIN f_SKIP f_CALL f_OUT f_JUMP f_RUNNING f_FIRST_VERSION f_MAX_VERSIONS f_procedures f_length f_calls f_depth f_openProc f_analysed f_built f_builtCount f_builtTotal f_workTop f_ctxMask f_ctxX f_ctxY f_argMask f_argX f_argY f_candCount f_candTotal f_overflow f_frames f_outCount f_entryCount a_kind a_d a_s a_t a_a a_b a_unitLen a_unitProc a_unitMask a_unitX a_unitY a_unitSize a_splitNow a_callSites a_opaque a_form0 a_form1 a_formB a_met a_fact a_factValue a_work a_waiting a_trial a_candProc a_candMask a_candX a_candY a_candSize a_place a_frameUnit a_framePc a_vars a_outputs a_entryProc a_entryX a_entryY a_entryMask := by
    intro em ne
    exact And.intro hi (nm_e (And.intro hi (nm_e (h1 (by rw [em]; exact fun z => ne z.symm) _ _ (wr (some none) em)))))
  refine And.intro hi ?_
  rw [rk']
  rcases eF : F k with _ | _ | w
  · refine br_f (show ¬ (1 : Int32) = 2 by decide) ?_
    cases x with
    | none => exact br_t rfl (br_t rfl (t58 (by rw [eF]; rfl) (by rw [eF]; exact fun z => nomatch z)))
    | some v =>
      refine br_f ix_10 (And.intro hi ?_)
      exact br_t rfl (And.intro hi (nm_e (And.intro hi (nm_e (h1 (by rw [eF]; exact fun z => nomatch z) _ _ (wr (some (some v)) (by rw [eF]; rfl)))))))
  · exact br_t rfl (h0 (by rw [eF, cc_mt_v]))
  · refine br_f (show ¬ (3 : Int32) = 2 by decide) ?_
    cases x with
    | none => exact br_t rfl (br_t rfl (t58 (by rw [eF]; rfl) (by rw [eF]; exact fun z => nomatch z)))
    | some v =>
      refine br_f ix_10 (And.intro hi ?_)
      refine br_f (show ¬ (3 : Int32) = 1 by decide) (br_f ix_10 (And.intro hi ?_))
      rw [rv', eF]
      show (w = v → _) ∧ (¬ w = v → _)
      by_cases ew : w = v
      · exact br_t ew (h0 (by rw [eF, ew]; unfold cc_mt; dsimp only; rw [if_pos rfl]))
      · refine br_f ew (t58 ?_ (by rw [eF]; exact fun z => nomatch z))
        rw [eF]; unfold cc_mt; dsimp only; rw [if_neg (fun z => ew (Option.some.inj z))]
theorem xw_push {post : SX → Prop} {N t q : Nat} {wt : Nat → Bool} (hN : N ≤ 6) (hq : q < N) (I : cc_WI N t a_work a_waiting wt)
    (h : ∀ t' wk wa, t' ≤ t + 1 → cc_WI N t' wk wa (cc_set wt q true) → post (f_LIN, f_SKIP, f_CALL, f_OUT, f_JUMP, f_RUNNING, f_FIRST_VERSION, f_MAX_VERSIONS, f_procedures, f_length, f_calls, f_depth, f_openProc, f_analysed, f_built, f_builtCount, f_builtTotal, (nI t'), f_ctxMask, f_ctxX, f_ctxY, f_argMask, f_argX, f_argY, f_candCount, f_candTotal, f_overflow, f_frames, f_outCount, f_entryCount, a_kind, a_d, a_s, a_t, a_a, a_b, a_unitLen, a_unitProc, a_unitMask, a_unitX, a_unitY, a_unitSize, a_splitNow, a_callSites, a_opaque, a_form0, a_form1, a_formB, a_met, a_fact, a_factValue, wk, wa, a_trial, a_candProc, a_candMask, a_candX, a_candY, a_candSize, a_place, a_frameUnit, a_framePc, a_vars, a_outputs, a_entryProc, a_entryX, a_entryY, a_entryMask)) : wpX_push post (f_LIN, f_SKIP, f_CALL, f_OUT, f_JUMP, f_RUNNING, f_FIRST_VERSION, f_MAX_VERSIONS, f_procedures, f_length, f_calls, f_depth, f_openProc, f_analysed, f_built, f_builtCount, f_builtTotal, (nI t), f_ctxMask, f_ctxX, f_ctxY, f_argMask, f_argX, f_argY, f_candCount, f_candTotal, f_overflow, f_frames, f_outCount, f_entryCount, a_kind, a_d, a_s, a_t, a_a, a_b, a_unitLen, a_unitProc, a_unitMask, a_unitX, a_unitY, a_unitSize, a_splitNow, a_callSites, a_opaque, a_form0, a_form1, a_formB, a_met, a_fact, a_factValue, a_work, a_waiting, a_trial, a_candProc, a_candMask, a_candX, a_candY, a_candSize, a_place, a_frameUnit, a_framePc, a_vars, a_outputs, a_entryProc, a_entryX, a_entryY, a_entryMask) (nI q) := by
  obtain ⟨I1, I2, V, I3, I4⟩ := I
  have hi : vp_in (nI q) 6 := vp_in_nI (by omega) (by decide)
  have eq : q < 2 ^ 31 := by omega
  have t6 : t ≤ 6 := by rw [I1]; exact cc_ct_le wt 6
  refine And.intro hi ?_
  rw [ix_c a_waiting eq, I2 q (by omega)]
  cases e : wt q with
  | true =>
    refine br_f ix_10 (h t a_work a_waiting (by omega) ?_)
    rw [cc_set_id e]; exact ⟨I1, I2, V, I3, I4⟩
  | false =>
    have c1 := cc_ct_set e 6 (by omega)
    have c2 := cc_ct_le (cc_set wt q true) 6
    refine br_t rfl (And.intro hi (nm_e (And.intro (vp_in_nI (by omega) (by decide)) (nm_e (nm_r (e' := nI (t + 1)) (nI_1 t) (h (t + 1) _ _ (Nat.le_refl _) ?_))))))
    rw [nI_clamp eq, nI_clamp (show t < 2 ^ 31 by omega), ix_n1]
    refine ⟨by omega, fun j hj => ?_, fun i => if i = t then q else V i, fun i hi => ?_, fun i j hi hj ee => ?_⟩
    · by_cases ej : j = q
      · subst ej; rw [cc_set_s]; exact pk_us
      · rw [cc_set_n wt true ej]; exact (pk_un ej).trans (I2 j hj)
    · by_cases ei : i = t
      · subst ei; dsimp only; rw [if_pos rfl]; exact ⟨pk_us, hq, cc_set_s _ _ _⟩
      · dsimp only; rw [if_neg ei]
        obtain ⟨a, b, c⟩ := I3 i (by omega)
        refine ⟨(pk_un ei).trans a, b, ?_⟩
        have : V i ≠ q := fun z => by rw [z, e] at c; exact nomatch c
        rw [cc_set_n wt true this]; exact c
    · dsimp only at ee
      by_cases ei : i = t
      · by_cases ej : j = t
        · omega
        · rw [if_pos ei, if_neg ej] at ee
          have c := (I3 j (by omega)).2.2
          rw [← ee, e] at c; exact nomatch c
      · by_cases ej : j = t
        · rw [if_neg ei, if_pos ej] at ee
          have c := (I3 i (by omega)).2.2
          rw [ee, e] at c; exact nomatch c
        · rw [if_neg ei, if_neg ej] at ee
          exact I4 i j (by omega) (by omega) ee
theorem cc_mk_b (o : Option Int32) {y : Int32} (h : y = 0 ↔ o = none) : (y = 0 → o = none) ∧ (¬ y = 0 → ∃ v, o = some v) := by
  refine ⟨h.mp, fun z => ?_⟩
  cases o with
  | none => exact absurd (h.mpr rfl) z
  | some v => exact ⟨v, rfl⟩
theorem cc_ab_id {F : Nat → cc_Lt} {q : Nat} {d : cc_Cx} (h : cc_mt (F (2 * q)) d.1 = F (2 * q)) (k : cc_mt (F (2 * q + 1)) d.2 = F (2 * q + 1)) : cc_ab F q d = F := by
  funext j
  by_cases e : j = 2 * q
  · subst e; rw [cc_ab_0]; exact h
  · by_cases e' : j = 2 * q + 1
    · subst e'; rw [cc_ab_1]; exact k
    · exact cc_ab_n F d e e'
theorem cc_a1_id {F : Nat → cc_Lt} {k : Nat} {x : Option Int32} (h : cc_mt (F k) x = F k) : cc_a1 F k x = F := by
  funext j
  by_cases e : j = k
  · subst e; rw [cc_a1_s]; exact h
  · exact cc_a1_n F x e
theorem xw_absorb {post : SX → Prop} {N t q : Nat} {wt : Nat → Bool} (hN : N ≤ 6) (hq : q < N) (I : cc_WI N t a_work a_waiting wt) {F : Nat → cc_Lt} {d : cc_Cx} (r : cc_rf a_fact a_factValue F)
    (h0 : cc_ab F q d = F → post (f_LIN, f_SKIP, f_CALL, f_OUT, f_JUMP, f_RUNNING, f_FIRST_VERSION, f_MAX_VERSIONS, f_procedures, f_length, f_calls, f_depth, f_openProc, f_analysed, f_built, f_builtCount, f_builtTotal, (nI t), f_ctxMask, f_ctxX, f_ctxY, (cc_cm d), (cc_cx d), (cc_cy d), f_candCount, f_candTotal, f_overflow, f_frames, f_outCount, f_entryCount, a_kind, a_d, a_s, a_t, a_a, a_b, a_unitLen, a_unitProc, a_unitMask, a_unitX, a_unitY, a_unitSize, a_splitNow, a_callSites, a_opaque, a_form0, a_form1, a_formB, a_met, a_fact, a_factValue, a_work, a_waiting, a_trial, a_candProc, a_candMask, a_candX, a_candY, a_candSize, a_place, a_frameUnit, a_framePc, a_vars, a_outputs, a_entryProc, a_entryX, a_entryY, a_entryMask))
    (h1 : cc_ab F q d ≠ F → ∀ fa fv t' wk wa, cc_rf fa fv (cc_ab F q d) → t' ≤ t + 1 → cc_WI N t' wk wa (cc_set wt q true) → post (f_LIN, f_SKIP, f_CALL, f_OUT, f_JUMP, f_RUNNING, f_FIRST_VERSION, f_MAX_VERSIONS, f_procedures, f_length, f_calls, f_depth, f_openProc, f_analysed, f_built, f_builtCount, f_builtTotal, (nI t'), f_ctxMask, f_ctxX, f_ctxY, (cc_cm d), (cc_cx d), (cc_cy d), f_candCount, f_candTotal, f_overflow, f_frames, f_outCount, f_entryCount, a_kind, a_d, a_s, a_t, a_a, a_b, a_unitLen, a_unitProc, a_unitMask, a_unitX, a_unitY, a_unitSize, a_splitNow, a_callSites, a_opaque, a_form0, a_form1, a_formB, a_met, fa, fv, wk, wa, a_trial, a_candProc, a_candMask, a_candX, a_candY, a_candSize, a_place, a_frameUnit, a_framePc, a_vars, a_outputs, a_entryProc, a_entryX, a_entryY, a_entryMask)) :
    wpX_absorb post (f_LIN, f_SKIP, f_CALL, f_OUT, f_JUMP, f_RUNNING, f_FIRST_VERSION, f_MAX_VERSIONS, f_procedures, f_length, f_calls, f_depth, f_openProc, f_analysed, f_built, f_builtCount, f_builtTotal, (nI t), f_ctxMask, f_ctxX, f_ctxY, (cc_cm d), (cc_cx d), (cc_cy d), f_candCount, f_candTotal, f_overflow, f_frames, f_outCount, f_entryCount, a_kind, a_d, a_s, a_t, a_a, a_b, a_unitLen, a_unitProc, a_unitMask, a_unitX, a_unitY, a_unitSize, a_splitNow, a_callSites, a_opaque, a_form0, a_form1, a_formB, a_met, a_fact, a_factValue, a_work, a_waiting, a_trial, a_candProc, a_candMask, a_candX, a_candY, a_candSize, a_place, a_frameUnit, a_framePc, a_vars, a_outputs, a_entryProc, a_entryX, a_entryY, a_entryMask) (nI q) := by
  have h62 : ∀ fa fv, cc_rf fa fv (cc_ab F q d) → cc_ab F q d ≠ F → wX_absorb_62 post (nI q) f_LIN f_SKIP f_CALL f_OUT f_JUMP f_RUNNING f_FIRST_VERSION f_MAX_VERSIONS f_procedures f_length f_calls f_depth f_openProc f_analysed f_built f_builtCount f_builtTotal (nI t) f_ctxMask f_ctxX f_ctxY (cc_cm d) (cc_cx d) (cc_cy d) f_candCount f_candTotal f_overflow f_frames f_outCount f_entryCount a_kind a_d a_s a_t a_a a_b a_unitLen a_unitProc a_unitMask a_unitX a_unitY a_unitSize a_splitNow a_callSites a_opaque a_form0 a_form1 a_formB a_met fa fv a_work a_waiting a_trial a_candProc a_candMask a_candX a_candY a_candSize a_place a_frameUnit a_framePc a_vars a_outputs a_entryProc a_entryX a_entryY a_entryMask :=
    fun fa fv rf ne => xw_push hN hq I (fun t' wk wa a b => h1 ne fa fv t' wk wa rf a b)
  have h46 : ∀ fa fv x2, cc_rf fa fv (cc_a1 F (2 * q) d.1) → (x2 = 0 → fa = a_fact ∧ fv = a_factValue ∧ cc_mt (F (2 * q)) d.1 = F (2 * q)) → (¬ x2 = 0 → cc_mt (F (2 * q)) d.1 ≠ F (2 * q)) →
      wX_absorb_46 post (nI q) x2 (cc_b d.2.isSome) (nI (2 * q + 1)) f_LIN f_SKIP f_CALL f_OUT f_JUMP f_RUNNING f_FIRST_VERSION f_MAX_VERSIONS f_procedures f_length f_calls f_depth f_openProc f_analysed f_built f_builtCount f_builtTotal (nI t) f_ctxMask f_ctxX f_ctxY (cc_cm d) (cc_cx d) (cc_cy d) f_candCount f_candTotal f_overflow f_frames f_outCount f_entryCount a_kind a_d a_s a_t a_a a_b a_unitLen a_unitProc a_unitMask a_unitX a_unitY a_unitSize a_splitNow a_callSites a_opaque a_form0 a_form1 a_formB a_met fa fv a_work a_waiting a_trial a_candProc a_candMask a_candX a_candY a_candSize a_place a_frameUnit a_framePc a_vars a_outputs a_entryProc a_entryX a_entryY a_entryMask := by
    intro fa fv x2 rf z0 z1
    have en : cc_a1 F (2 * q) d.1 (2 * q + 1) = F (2 * q + 1) := cc_a1_n F _ (by omega)
    refine xw_meet (x := d.2) (by omega) rf (fun em => ?_) (fun em fa' fv' rf' => ?_)
    · rw [en] at em
      by_cases x0 : x2 = 0
      · obtain ⟨rfl, rfl, e0⟩ := z0 x0
        exact br_t x0 (br_t rfl (h0 (cc_ab_id e0 em)))
      · refine br_f x0 (h62 fa fv ?_ (fun z => z1 x0 ?_))
        · have : cc_ab F q d = cc_a1 F (2 * q) d.1 := by unfold cc_ab; exact cc_a1_id (by rw [en]; exact em)
          rw [this]; exact rf
        · rw [← cc_ab_0, z]
    · rw [en] at em
      have ne : cc_ab F q d ≠ F := fun z => em (by rw [← cc_ab_1, z])
      by_cases x0 : x2 = 0
      · exact br_t x0 (br_f ix_10 (h62 fa' fv' rf' ne))
      · exact br_f x0 (h62 fa' fv' rf' ne)
  have h18 : wX_absorb_18 post (nI q) (cc_b d.1.isSome) (nI (2 * q)) f_LIN f_SKIP f_CALL f_OUT f_JUMP f_RUNNING f_FIRST_VERSION f_MAX_VERSIONS f_procedures f_length f_calls f_depth f_openProc f_analysed f_built f_builtCount f_builtTotal (nI t) f_ctxMask f_ctxX f_ctxY (cc_cm d) (cc_cx d) (cc_cy d) f_candCount f_candTotal f_overflow f_frames f_outCount f_entryCount a_kind a_d a_s a_t a_a a_b a_unitLen a_unitProc a_unitMask a_unitX a_unitY a_unitSize a_splitNow a_callSites a_opaque a_form0 a_form1 a_formB a_met a_fact a_factValue a_work a_waiting a_trial a_candProc a_candMask a_candX a_candY a_candSize a_place a_frameUnit a_framePc a_vars a_outputs a_entryProc a_entryX a_entryY a_entryMask := by
    have fin : ∀ fa fv x2, cc_rf fa fv (cc_a1 F (2 * q) d.1) → (x2 = 0 → fa = a_fact ∧ fv = a_factValue ∧ cc_mt (F (2 * q)) d.1 = F (2 * q)) → (¬ x2 = 0 → cc_mt (F (2 * q)) d.1 ≠ F (2 * q)) →
        ((cc_cm d &&& 2) = 0 → wX_absorb_46 post (nI q) x2 0 (2 * nI q + 1) f_LIN f_SKIP f_CALL f_OUT f_JUMP f_RUNNING f_FIRST_VERSION f_MAX_VERSIONS f_procedures f_length f_calls f_depth f_openProc f_analysed f_built f_builtCount f_builtTotal (nI t) f_ctxMask f_ctxX f_ctxY (cc_cm d) (cc_cx d) (cc_cy d) f_candCount f_candTotal f_overflow f_frames f_outCount f_entryCount a_kind a_d a_s a_t a_a a_b a_unitLen a_unitProc a_unitMask a_unitX a_unitY a_unitSize a_splitNow a_callSites a_opaque a_form0 a_form1 a_formB a_met fa fv a_work a_waiting a_trial a_candProc a_candMask a_candX a_candY a_candSize a_place a_frameUnit a_framePc a_vars a_outputs a_entryProc a_entryX a_entryY a_entryMask) ∧ (¬ (cc_cm d &&& 2) = 0 → wX_absorb_46 post (nI q) x2 1 (2 * nI q + 1) f_LIN f_SKIP f_CALL f_OUT f_JUMP f_RUNNING f_FIRST_VERSION f_MAX_VERSIONS f_procedures f_length f_calls f_depth f_openProc f_analysed f_built f_builtCount f_builtTotal (nI t) f_ctxMask f_ctxX f_ctxY (cc_cm d) (cc_cx d) (cc_cy d) f_candCount f_candTotal f_overflow f_frames f_outCount f_entryCount a_kind a_d a_s a_t a_a a_b a_unitLen a_unitProc a_unitMask a_unitX a_unitY a_unitSize a_splitNow a_callSites a_opaque a_form0 a_form1 a_formB a_met fa fv a_work a_waiting a_trial a_candProc a_candMask a_candX a_candY a_candSize a_place a_frameUnit a_framePc a_vars a_outputs a_entryProc a_entryX a_entryY a_entryMask) := by
      intro fa fv x2 a b c
      have := h46 fa fv x2 a b c
      rw [ix_21]
      cases e : d.2 with
      | none => rw [e] at this; exact br_t ((cc_cm2 d).mpr e) this
      | some v => rw [e] at this; exact br_f (fun z => by rw [(cc_cm2 d).mp z] at e; exact nomatch e) this
    refine xw_meet (x := d.1) (by omega) r (fun em => ?_) (fun em fa fv rf => ?_)
    · exact fin a_fact a_factValue 0 (by rw [cc_a1_id em]; exact r) (fun _ => ⟨rfl, rfl, em⟩) (fun z => absurd rfl z)
    · exact fin fa fv 1 rf (fun z => absurd z ix_10) (fun _ => em)
  unfold wpX_absorb
  dsimp only
  rw [ix_20]
  cases e : d.1 with
  | none => rw [e] at h18; exact br_t ((cc_cm1 d).mpr e) h18
  | some v => rw [e] at h18; exact br_f (fun z => by rw [(cc_cm1 d).mp z] at e; exact nomatch e) h18
end
/-- all forms are right -/
def cc_xf (P : cc_Pg) (o g0 g1 gB : Nat → Int32) : Prop := ∀ p, p < cc_N P → cc_xd P o g0 g1 gB p (cc_L P p)
def cc_cs (P : cc_Pg) (cs : Nat → Int32) : Prop := ∀ p, p < 6 → cc_bs (cs p) (fun i => decide (i < cc_L P p) && decide (cc_K P (p * 8 + i) = 6))
/-- what the worklist promises -/
def cc_SI (P : cc_Pg) (F : Nat → cc_Lt) (wt : Nat → Bool) : Prop := cc_fi P F ∧ (∀ q, wt q = true → F (2 * q) ≠ none) ∧ ∀ q, q < cc_N P → F (2 * q) ≠ none → wt q = true ∨ cc_ok P F q (cc_fc F q)
/-- while p is visited -/
def cc_VI (P : cc_Pg) (p : Nat) (F0 F : Nat → cc_Lt) (wt : Nat → Bool) : Prop := (∀ q, wt q = true → F (2 * q) ≠ none) ∧ ∀ q, q < cc_N P → F (2 * q) ≠ none → wt q = true ∨ (q = p ∧ cc_fc F p = cc_fc F0 p) ∨ (q ≠ p ∧ cc_ok P F q (cc_fc F q))
theorem cc_le_nn {a b : cc_Lt} (h : cc_le a b) (n : a ≠ none) : b ≠ none := by
  rcases h with h | h | h
  · exact absurd h n
  · rw [h]; exact fun z => nomatch z
  · rw [← h]; exact n
theorem cc_VI_ab {P : cc_Pg} {p q : Nat} {F0 F : Nat → cc_Lt} {wt : Nat → Bool} {d : cc_Cx} (h : cc_VI P p F0 F wt) : cc_VI P p F0 (cc_ab F q d) (cc_set wt q true) := by
  refine ⟨fun k hk => ?_, fun k hk n => ?_⟩
  · by_cases e : k = q
    · subst e; rw [cc_ab_0]; exact cc_mt_n _ _
    · rw [cc_set_n wt true e] at hk
      exact cc_le_nn (cc_ab_le F q d _) (h.1 k hk)
  · by_cases e : k = q
    · subst e; exact Or.inl (cc_set_s _ _ _)
    · have e0 := cc_ab_n F (q := q) (k := 2 * k) d (by omega) (by omega)
      have e1 := cc_ab_n F (q := q) (k := 2 * k + 1) d (by omega) (by omega)
      have ec : cc_fc (cc_ab F q d) k = cc_fc F k := by unfold cc_fc; rw [e0, e1]
      rw [e0] at n
      rw [cc_set_n wt true e]
      rcases h.2 k hk n with z | ⟨z1, z2⟩ | ⟨z1, z2⟩
      · exact Or.inl z
      · subst z1; exact Or.inr (Or.inl ⟨rfl, ec.trans z2⟩)
      · rw [ec]; exact Or.inr (Or.inr ⟨z1, cc_ok_le z2 (cc_ab_le F q d)⟩)
theorem cc_ab_hs {F : Nat → cc_Lt} {q : Nat} {d : cc_Cx} (hq : q < 6) (h : cc_ab F q d ≠ F) : cc_hs F 12 < cc_hs (cc_ab F q d) 12 := by
  by_cases a : cc_mt (F (2 * q)) d.1 = F (2 * q)
  · have b : cc_mt (F (2 * q + 1)) d.2 ≠ F (2 * q + 1) := fun b => h (cc_ab_id a b)
    exact cc_hs_lt (cc_ab_r F q d) (k := 2 * q + 1) (by rw [cc_ab_1]; exact fun z => b z.symm) 12 (by omega)
  · exact cc_hs_lt (cc_ab_r F q d) (k := 2 * q) (by rw [cc_ab_0]; exact fun z => a z.symm) 12 (by omega)
section
variable {f_LIN f_SKIP f_CALL f_OUT f_JUMP f_RUNNING f_FIRST_VERSION f_MAX_VERSIONS f_procedures f_length f_calls f_depth f_openProc f_analysed f_built f_builtCount f_builtTotal f_workTop f_ctxMask f_ctxX f_ctxY f_argMask f_argX f_argY f_candCount f_candTotal f_overflow f_frames f_outCount f_entryCount : Int32} {a_kind a_d a_s a_t a_a a_b a_unitLen a_unitProc a_unitMask a_unitX a_unitY a_unitSize a_splitNow a_callSites a_opaque a_form0 a_form1 a_formB a_met a_fact a_factValue a_work a_waiting a_trial a_candProc a_candMask a_candX a_candY a_candSize a_place a_frameUnit a_framePc a_vars a_outputs a_entryProc a_entryX a_entryY a_entryMask : Nat → Int32}
theorem xw_visit45 {post : SX → Prop} {P : cc_Pg} (W : cc_wf P) {p : Nat} (hp : p < cc_N P) (x : cc_xc P a_kind a_d a_s a_t a_a a_b) (R : cc_xd P a_opaque a_form0 a_form1 a_formB p (cc_L P p)) {c : cc_Cx} {F0 : Nat → cc_Lt} {M : Nat} {st : Int32}
    (hs : cc_bs st (fun i => (cc_rc P p c i && decide (i < cc_L P p)) && (decide (i < cc_L P p) && decide (cc_K P (p * 8 + i) = 6))))
    (h : ∀ am ax ay fa fv t wk wa wt, cc_rf fa fv (cc_vs P p c F0 8) → cc_WI (cc_N P) t wk wa wt → cc_VI P p F0 (cc_vs P p c F0 8) wt → t + 24 ≤ M + cc_hs (cc_vs P p c F0 8) 12 → post (f_LIN, f_SKIP, f_CALL, f_OUT, f_JUMP, f_RUNNING, f_FIRST_VERSION, f_MAX_VERSIONS, f_procedures, f_length, f_calls, f_depth, f_openProc, f_analysed, f_built, f_builtCount, f_builtTotal, (nI t), (cc_cm c), (cc_cx c), (cc_cy c), am, ax, ay, f_candCount, f_candTotal, f_overflow, f_frames, f_outCount, f_entryCount, a_kind, a_d, a_s, a_t, a_a, a_b, a_unitLen, a_unitProc, a_unitMask, a_unitX, a_unitY, a_unitSize, a_splitNow, a_callSites, a_opaque, a_form0, a_form1, a_formB, a_met, fa, fv, wk, wa, a_trial, a_candProc, a_candMask, a_candX, a_candY, a_candSize, a_place, a_frameUnit, a_framePc, a_vars, a_outputs, a_entryProc, a_entryX, a_entryY, a_entryMask)) :
    ∀ (n i : Nat) (am ax ay : Int32) (fa fv : Nat → Int32) (t : Nat) (wk wa : Nat → Int32) (wt : Nat → Bool), i ≤ 8 → 8 - i < n → cc_rf fa fv (cc_vs P p c F0 i) → cc_WI (cc_N P) t wk wa wt → cc_VI P p F0 (cc_vs P p c F0 i) wt → t + 24 ≤ M + cc_hs (cc_vs P p c F0 i) 12 →
      wX_visit_45 post (nI p) st n (nI i) f_LIN f_SKIP f_CALL f_OUT f_JUMP f_RUNNING f_FIRST_VERSION f_MAX_VERSIONS f_procedures f_length f_calls f_depth f_openProc f_analysed f_built f_builtCount f_builtTotal (nI t) (cc_cm c) (cc_cx c) (cc_cy c) am ax ay f_candCount f_candTotal f_overflow f_frames f_outCount f_entryCount a_kind a_d a_s a_t a_a a_b a_unitLen a_unitProc a_unitMask a_unitX a_unitY a_unitSize a_splitNow a_callSites a_opaque a_form0 a_form1 a_formB a_met fa fv wk wa a_trial a_candProc a_candMask a_candX a_candY a_candSize a_place a_frameUnit a_framePc a_vars a_outputs a_entryProc a_entryX a_entryY a_entryMask := by
  have h6 : p < 6 := Nat.lt_of_lt_of_le hp W.2.1
  have L8 := W.2.2.1 p h6
  intro n
  induction n with
  | zero => intro i am ax ay fa fv t wk wa wt _ z; omega
  | succ n ih =>
    intro i am ax ay fa fv t wk wa wt hi hn I1 I2 I3 I4
    by_cases e : i = 8
    · subst e
      exact br_t (show (8 : Int32) ≤ nI 8 from Int32.le_refl _) (h am ax ay fa fv t wk wa wt I1 I2 I3 I4)
    · refine br_f (nI_ge (b := 8) (by omega) (by decide)) ?_
      rw [bx_t hs (n := i) (by omega)]
      by_cases q : i < cc_L P p ∧ cc_K P (p * 8 + i) = 6 ∧ cc_rc P p c i = true
      · obtain ⟨q1, q2, q3⟩ := q
        have w1 := W.2.2.2 p i h6 q1
        have hQ := w1.2.2.2.2.1 q2
        have x1 := x p i h6 q1
        rw [q3, decide_eq_true q1, decide_eq_true q2]
        refine br_f ix_10 ?_
        rw [ix_8]
        refine xw_argumentContext (by omega) w1 x1 (R i q1).1 (And.intro (vp_in_nI (by omega) (by decide)) ?_)
        rw [ix_c a_a (show p * 8 + i < 2 ^ 31 by omega), x1.2.2.2.2.1, hQ.2]
        have ev := cc_vs_t (F := F0) q1 q2 q3
        refine xw_absorb W.2.1 hQ.1 I2 I1 (fun en => ?_) (fun ne fa' fv' t' wk' wa' rf ht wi => ?_)
        · refine nm_r (e' := nI (i + 1)) (nI_1 i) (ih (i + 1) _ _ _ fa fv t wk wa wt (by omega) (by omega) ?_ I2 ?_ ?_)
          · rw [ev, en]; exact I1
          · rw [ev, en]; exact I3
          · rw [ev, en]; exact I4
        · have hh := cc_ab_hs (Nat.lt_of_lt_of_le hQ.1 W.2.1) ne
          refine nm_r (e' := nI (i + 1)) (nI_1 i) (ih (i + 1) _ _ _ fa' fv' t' wk' wa' _ (by omega) (by omega) ?_ wi ?_ ?_)
          · rw [ev]; exact rf
          · rw [ev]; exact cc_VI_ab I3
          · rw [ev]; omega
      · have ev := cc_vs_f (F := F0) q
        have ef : ((cc_rc P p c i && decide (i < cc_L P p)) && (decide (i < cc_L P p) && decide (cc_K P (p * 8 + i) = 6))) = false := by
          cases z : ((cc_rc P p c i && decide (i < cc_L P p)) && (decide (i < cc_L P p) && decide (cc_K P (p * 8 + i) = 6))) with
          | false => rfl
          | true =>
            rw [Bool.and_eq_true, Bool.and_eq_true, Bool.and_eq_true, decide_eq_true_iff, decide_eq_true_iff] at z
            exact absurd ⟨z.1.2, z.2.2, z.1.1⟩ q
        rw [ef]
        refine br_t rfl (nm_r (e' := nI (i + 1)) (nI_1 i) (ih (i + 1) am ax ay fa fv t wk wa wt (by omega) (by omega) ?_ I2 ?_ ?_))
        · rw [ev]; exact I1
        · rw [ev]; exact I3
        · rw [ev]; exact I4
theorem xw_visit {post : SX → Prop} {P : cc_Pg} (W : cc_wf P) {p : Nat} (hp : p < cc_N P) (hL : a_unitLen p = nI (cc_L P p)) (x : cc_xc P a_kind a_d a_s a_t a_a a_b) (R : cc_xd P a_opaque a_form0 a_form1 a_formB p (cc_L P p)) (hcs : cc_cs P a_callSites) {F : Nat → cc_Lt} {M t : Nat} {wt : Nat → Bool}
    (I1 : cc_rf a_fact a_factValue F) (I2 : cc_WI (cc_N P) t a_work a_waiting wt) (I3 : cc_VI P p F F wt) (I4 : t + 24 ≤ M + cc_hs F 12)
    (h : ∀ cm cx cy am ax ay fa fv t wk wa wt, cc_rf fa fv (cc_vs P p (cc_fc F p) F 8) → cc_WI (cc_N P) t wk wa wt → cc_VI P p F (cc_vs P p (cc_fc F p) F 8) wt → t + 24 ≤ M + cc_hs (cc_vs P p (cc_fc F p) F 8) 12 → post (f_LIN, f_SKIP, f_CALL, f_OUT, f_JUMP, f_RUNNING, f_FIRST_VERSION, f_MAX_VERSIONS, f_procedures, f_length, f_calls, f_depth, f_openProc, f_analysed, f_built, f_builtCount, f_builtTotal, (nI t), cm, cx, cy, am, ax, ay, f_candCount, f_candTotal, f_overflow, f_frames, f_outCount, f_entryCount, a_kind, a_d, a_s, a_t, a_a, a_b, a_unitLen, a_unitProc, a_unitMask, a_unitX, a_unitY, a_unitSize, a_splitNow, a_callSites, a_opaque, a_form0, a_form1, a_formB, a_met, fa, fv, wk, wa, a_trial, a_candProc, a_candMask, a_candX, a_candY, a_candSize, a_place, a_frameUnit, a_framePc, a_vars, a_outputs, a_entryProc, a_entryX, a_entryY, a_entryMask)) :
    wpX_visit post (f_LIN, f_SKIP, f_CALL, f_OUT, f_JUMP, f_RUNNING, f_FIRST_VERSION, f_MAX_VERSIONS, f_procedures, f_length, f_calls, f_depth, f_openProc, f_analysed, f_built, f_builtCount, f_builtTotal, (nI t), f_ctxMask, f_ctxX, f_ctxY, f_argMask, f_argX, f_argY, f_candCount, f_candTotal, f_overflow, f_frames, f_outCount, f_entryCount, a_kind, a_d, a_s, a_t, a_a, a_b, a_unitLen, a_unitProc, a_unitMask, a_unitX, a_unitY, a_unitSize, a_splitNow, a_callSites, a_opaque, a_form0, a_form1, a_formB, a_met, a_fact, a_factValue, a_work, a_waiting, a_trial, a_candProc, a_candMask, a_candX, a_candY, a_candSize, a_place, a_frameUnit, a_framePc, a_vars, a_outputs, a_entryProc, a_entryX, a_entryY, a_entryMask) (nI p) := by
  have h6 : p < 6 := Nat.lt_of_lt_of_le hp W.2.1
  unfold wpX_visit
  refine xw_mergedMask h6 I1 (And.intro (by rw [ix_20]; exact vp_in_nI (by omega) (by decide)) (And.intro (by rw [ix_21]; exact vp_in_nI (by omega) (by decide)) ?_))
  rw [ix_21, ix_20, ix_c a_factValue (show 2 * p < 2 ^ 31 by omega), ix_c a_factValue (show 2 * p + 1 < 2 ^ 31 by omega), (I1 (2 * p) (by omega)).2, (I1 (2 * p + 1) (by omega)).2]
  refine xw_reached (c := cc_fc F p) W h6 hL x R (fun z hz => And.intro (vp_in_nI h6 (by decide)) (nm_e ⟨9, ?_⟩))
  rw [ix_c a_callSites (show p < 2 ^ 31 by omega)]
  exact xw_visit45 (c := cc_fc F p) (F0 := F) (M := M) W hp x R (fun i hi => by rw [b_and, hz i hi, hcs p h6 i hi]) (h _ _ _) 9 0 f_argMask f_argX f_argY a_fact a_factValue t a_work a_waiting wt (by omega) (by omega) I1 I2 I3 I4
end
end
section
/-! X: solveFacts, analyse -/
theorem cc_pop {N t : Nat} {wk wa : Nat → Int32} {wt : Nat → Bool} (hN : N ≤ 6) (I : cc_WI N (t + 1) wk wa wt) : ∃ q, q < N ∧ wk t = nI q ∧ wt q = true ∧ cc_WI N t wk (upd wa q 0) (cc_set wt q false) := by
  obtain ⟨I1, I2, V, I3, I4⟩ := I
  obtain ⟨a, b, c⟩ := I3 t (by omega)
  refine ⟨V t, b, a, c, ?_, fun j hj => ?_, V, fun i hi => ?_, fun i j hi hj => I4 i j (by omega) (by omega)⟩
  · have e := cc_ct_set (f := cc_set wt (V t) false) (q := V t) (cc_set_s _ _ _) 6 (by omega)
    rw [cc_set_2, cc_set_id c] at e; omega
  · by_cases ej : j = V t
    · subst ej; rw [cc_set_s]; exact pk_us
    · rw [cc_set_n wt false ej]; exact (pk_un ej).trans (I2 j hj)
  · obtain ⟨a', b', c'⟩ := I3 i (by omega)
    have : V i ≠ V t := fun z => by have := I4 i t (by omega) (by omega) z; omega
    exact ⟨a', b', by rw [cc_set_n wt false this]; exact c'⟩
section
variable {f_LIN f_SKIP f_CALL f_OUT f_JUMP f_RUNNING f_FIRST_VERSION f_MAX_VERSIONS f_procedures f_length f_calls f_depth f_openProc f_analysed f_built f_builtCount f_builtTotal f_workTop f_ctxMask f_ctxX f_ctxY f_argMask f_argX f_argY f_candCount f_candTotal f_overflow f_frames f_outCount f_entryCount : Int32} {a_kind a_d a_s a_t a_a a_b a_unitLen a_unitProc a_unitMask a_unitX a_unitY a_unitSize a_splitNow a_callSites a_opaque a_form0 a_form1 a_formB a_met a_fact a_factValue a_work a_waiting a_trial a_candProc a_candMask a_candX a_candY a_candSize a_place a_frameUnit a_framePc a_vars a_outputs a_entryProc a_entryX a_entryY a_entryMask : Nat → Int32}
theorem xw_solve49 {post : SX → Prop} {P : cc_Pg} (W : cc_wf P) (hL : ∀ p, p < 6 → a_unitLen p = nI (cc_L P p)) (x : cc_xc P a_kind a_d a_s a_t a_a a_b) (R : cc_xf P a_opaque a_form0 a_form1 a_formB) (hcs : cc_cs P a_callSites)
    (h : ∀ cm cx cy am ax ay fa fv wk wa F, cc_ls P F → cc_rf fa fv F → (∀ q, q < 6 → wa q = 0) → post (f_LIN, f_SKIP, f_CALL, f_OUT, f_JUMP, f_RUNNING, f_FIRST_VERSION, f_MAX_VERSIONS, f_procedures, f_length, f_calls, f_depth, f_openProc, f_analysed, f_built, f_builtCount, f_builtTotal, (nI 0), cm, cx, cy, am, ax, ay, f_candCount, f_candTotal, f_overflow, f_frames, f_outCount, f_entryCount, a_kind, a_d, a_s, a_t, a_a, a_b, a_unitLen, a_unitProc, a_unitMask, a_unitX, a_unitY, a_unitSize, a_splitNow, a_callSites, a_opaque, a_form0, a_form1, a_formB, a_met, fa, fv, wk, wa, a_trial, a_candProc, a_candMask, a_candX, a_candY, a_candSize, a_place, a_frameUnit, a_framePc, a_vars, a_outputs, a_entryProc, a_entryX, a_entryY, a_entryMask)) :
    ∀ (n k : Nat) (cm cx cy am ax ay : Int32) (fa fv : Nat → Int32) (t : Nat) (wk wa : Nat → Int32) (wt : Nat → Bool) (F : Nat → cc_Lt), 22 ≤ n + k → cc_SI P F wt → cc_rf fa fv F → cc_WI (cc_N P) t wk wa wt → k + t + 24 ≤ 21 + cc_hs F 12 →
      wX_solveFacts_49 post n (nI k) f_LIN f_SKIP f_CALL f_OUT f_JUMP f_RUNNING f_FIRST_VERSION f_MAX_VERSIONS f_procedures f_length f_calls f_depth f_openProc f_analysed f_built f_builtCount f_builtTotal (nI t) cm cx cy am ax ay f_candCount f_candTotal f_overflow f_frames f_outCount f_entryCount a_kind a_d a_s a_t a_a a_b a_unitLen a_unitProc a_unitMask a_unitX a_unitY a_unitSize a_splitNow a_callSites a_opaque a_form0 a_form1 a_formB a_met fa fv wk wa a_trial a_candProc a_candMask a_candX a_candY a_candSize a_place a_frameUnit a_framePc a_vars a_outputs a_entryProc a_entryX a_entryY a_entryMask := by
  intro n
  induction n with
  | zero =>
    intro k cm cx cy am ax ay fa fv t wk wa wt F z _ _ _ I4
    have := cc_hs_le F 12; omega
  | succ n ih =>
    intro k cm cx cy am ax ay fa fv t wk wa wt F hn I0 I1 I2 I4
    have h24 := cc_hs_le F 12
    refine br_f (nI_ge (b := 64) (by omega) (by decide)) ?_
    cases t with
    | zero =>
      refine br_t (show nI 0 ≤ 0 from Int32.le_refl _) (h cm cx cy am ax ay fa fv wk wa F ⟨⟨I0.1.1, I0.1.2.1, I0.1.2.2.1, fun p hp n => ?_⟩, I0.1.2.2.2.1⟩ I1 (fun q hq => ?_))
      · rcases I0.2.2 p hp n with z | z
        · have := W.2.1
          rw [cc_ct_z I2.1.symm (show p < 6 by omega)] at z; exact nomatch z
        · exact z
      · rw [I2.2.1 q hq, cc_ct_z I2.1.symm hq]; rfl
    | succ t =>
      have t6 : t + 1 ≤ 6 := by rw [I2.1]; exact cc_ct_le _ _
      obtain ⟨q, hq, eq, wq, I2'⟩ := cc_pop W.2.1 I2
      have q6 : q < 6 := Nat.lt_of_lt_of_le hq W.2.1
      refine br_f (nI_nle (by omega) (by omega)) (nm_r (e' := nI t) (nI_pred t) (And.intro (vp_in_nI (by omega) (by decide)) (nm_r (e' := nI q) ((ix_c wk (by omega)).trans eq) (And.intro (vp_in_nI q6 (by decide)) (nm_r (e' := upd wa q 0) (by rw [nI_clamp (show q < 2 ^ 31 by omega), ix_n0]) ?_)))))
      have nq := I0.2.1 q wq
      refine xw_visit (F := F) (M := 20 - k) (t := t) (wt := cc_set wt q false) W hq (hL q q6) x (R q hq) hcs I1 I2' ⟨fun j hj => ?_, fun j hj nj => ?_⟩ (by omega) (fun cm cx cy am ax ay fa fv t' wk' wa' wt' J1 J2 J3 J4 => nm_r (e' := nI (k + 1)) (nI_1 k) (ih (k + 1) cm cx cy am ax ay fa fv t' wk' wa' wt' (cc_vs P q (cc_fc F q) F 8) (by omega) ⟨cc_vs_fi W I0.1 (cc_sn_fi I0.1 nq) hq 8, J3.1, fun j hj nj => ?_⟩ J1 J2 (by omega)))
      · by_cases e : j = q
        · subst e; exact nq
        · rw [cc_set_n wt false e] at hj; exact I0.2.1 j hj
      · by_cases e : j = q
        · exact Or.inr (Or.inl ⟨e, rfl⟩)
        · rw [cc_set_n wt false e]
          rcases I0.2.2 j hj nj with z | z
          · exact Or.inl z
          · exact Or.inr (Or.inr ⟨e, z⟩)
      · rcases J3.2 j hj nj with z | ⟨z1, z2⟩ | ⟨z1, z2⟩
        · exact Or.inl z
        · subst z1; right
          rw [z2]; exact cc_vs_ok (W.2.2.1 j q6)
        · exact Or.inr z2
theorem xw_solve2 {post : SX → Prop} {P : cc_Pg} (W : cc_wf P) (hL : ∀ p, p < 6 → a_unitLen p = nI (cc_L P p)) (x : cc_xc P a_kind a_d a_s a_t a_a a_b) (R : cc_xf P a_opaque a_form0 a_form1 a_formB) (hcs : cc_cs P a_callSites) (hw : ∀ q, q < 6 → a_waiting q = 0)
    (h : ∀ cm cx cy am ax ay fa fv wk wa F, cc_ls P F → cc_rf fa fv F → (∀ q, q < 6 → wa q = 0) → post (f_LIN, f_SKIP, f_CALL, f_OUT, f_JUMP, f_RUNNING, f_FIRST_VERSION, f_MAX_VERSIONS, f_procedures, f_length, f_calls, f_depth, f_openProc, f_analysed, f_built, f_builtCount, f_builtTotal, (nI 0), cm, cx, cy, am, ax, ay, f_candCount, f_candTotal, f_overflow, f_frames, f_outCount, f_entryCount, a_kind, a_d, a_s, a_t, a_a, a_b, a_unitLen, a_unitProc, a_unitMask, a_unitX, a_unitY, a_unitSize, a_splitNow, a_callSites, a_opaque, a_form0, a_form1, a_formB, a_met, fa, fv, wk, wa, a_trial, a_candProc, a_candMask, a_candX, a_candY, a_candSize, a_place, a_frameUnit, a_framePc, a_vars, a_outputs, a_entryProc, a_entryX, a_entryY, a_entryMask)) :
    ∀ (n k : Nat) (fa fv : Nat → Int32), k ≤ 12 → 12 - k < n → (∀ j, j < k → fa j = cc_lf (cc_F0 j) ∧ fv j = cc_lv (cc_F0 j)) → wX_solveFacts_2 post f_LIN f_SKIP f_CALL f_OUT f_JUMP f_RUNNING f_FIRST_VERSION f_MAX_VERSIONS f_procedures f_length f_calls f_depth f_openProc f_analysed f_built f_builtCount f_builtTotal f_workTop f_ctxMask f_ctxX f_ctxY f_argMask f_argX f_argY f_candCount f_candTotal f_overflow f_frames f_outCount f_entryCount n (nI k) a_kind a_d a_s a_t a_a a_b a_unitLen a_unitProc a_unitMask a_unitX a_unitY a_unitSize a_splitNow a_callSites a_opaque a_form0 a_form1 a_formB a_met fa fv a_work a_waiting a_trial a_candProc a_candMask a_candX a_candY a_candSize a_place a_frameUnit a_framePc a_vars a_outputs a_entryProc a_entryX a_entryY a_entryMask := by
  intro n
  induction n with
  | zero => intro k fa fv _ z; omega
  | succ n ih =>
    intro k fa fv hk hn I
    by_cases e : k = 12
    · subst e
      refine br_t (show (12 : Int32) ≤ nI 12 from Int32.le_refl _) ?_
      refine xw_push (N := cc_N P) (t := 0) (q := 0) (wt := fun _ => false) W.2.1 (by have := W.1; omega) ⟨rfl, fun q hq => (hw q hq), fun _ => 0, fun i hi => absurd hi (by omega), fun i j hi => absurd hi (by omega)⟩ (fun t' wk wa ht wi => ⟨22, ?_⟩)
      refine xw_solve49 W hL x R hcs h 22 0 _ _ _ _ _ _ fa fv t' wk wa _ cc_F0 (by omega) ⟨cc_fi_0 P, fun q hq => ?_, fun q hq nq => ?_⟩ (fun k hk => I k hk) wi ?_
      · by_cases e : q = 0
        · subst e; exact fun z => nomatch z
        · rw [cc_set_n _ true e] at hq; exact nomatch hq
      · left
        by_cases e : q = 0
        · subst e; exact cc_set_s _ _ _
        · exact absurd (if_neg (by omega)) nq
      · have : cc_hs cc_F0 12 = 4 := by decide
        omega
    · refine br_f (nI_ge (b := 12) (by omega) (by decide)) ?_
      have hik : vp_in (nI k) 12 := vp_in_nI (by omega) (by decide)
      have ek : k < 2 ^ 31 := by omega
      have key : ∀ z, z = cc_lf (cc_F0 k) → wX_solveFacts_23 post (wX_solveFacts_2 post f_LIN f_SKIP f_CALL f_OUT f_JUMP f_RUNNING f_FIRST_VERSION f_MAX_VERSIONS f_procedures f_length f_calls f_depth f_openProc f_analysed f_built f_builtCount f_builtTotal f_workTop f_ctxMask f_ctxX f_ctxY f_argMask f_argX f_argY f_candCount f_candTotal f_overflow f_frames f_outCount f_entryCount n) (nI k) z (nI k) f_LIN f_SKIP f_CALL f_OUT f_JUMP f_RUNNING f_FIRST_VERSION f_MAX_VERSIONS f_procedures f_length f_calls f_depth f_openProc f_analysed f_built f_builtCount f_builtTotal f_workTop f_ctxMask f_ctxX f_ctxY f_argMask f_argX f_argY f_candCount f_candTotal f_overflow f_frames f_outCount f_entryCount a_kind a_d a_s a_t a_a a_b a_unitLen a_unitProc a_unitMask a_unitX a_unitY a_unitSize a_splitNow a_callSites a_opaque a_form0 a_form1 a_formB a_met fa fv a_work a_waiting a_trial a_candProc a_candMask a_candX a_candY a_candSize a_place a_frameUnit a_framePc a_vars a_outputs a_entryProc a_entryX a_entryY a_entryMask := by
        intro z ez
        refine And.intro hik (nm_e (And.intro hik (nm_e (nm_r (e' := nI (k + 1)) (nI_1 k) (ih (k + 1) _ _ (by omega) (by omega) (fun j hj => ?_))))))
        rw [nI_clamp ek]
        by_cases ej : j = k
        · subst ej
          refine ⟨pk_us.trans ez, pk_us.trans ?_⟩
          unfold cc_F0; split <;> rfl
        · exact ⟨(pk_un ej).trans (I j (by omega)).1, (pk_un ej).trans (I j (by omega)).2⟩
      by_cases e2 : 2 ≤ k
      · refine br_t (nI_le e2 (by omega)) (key 1 ?_)
        unfold cc_F0; rw [if_neg (by omega)]; rfl
      · refine br_f (nI_ge (b := 2) (by omega) (by decide)) (key 2 ?_)
        unfold cc_F0; rw [if_pos (by omega)]; rfl
theorem xw_analyse2 {post : SX → Prop} {P : cc_Pg} (W : cc_wf P) (hL : ∀ p, p < 6 → a_unitLen p = nI (cc_L P p)) (x : cc_xc P a_kind a_d a_s a_t a_a a_b) (hcs : cc_cs P a_callSites) (hw : ∀ q, q < 6 → a_waiting q = 0)
    (h : ∀ cm cx cy am ax ay o g0 g1 gB mt fa fv wk wa F, cc_xf P o g0 g1 gB → cc_ls P F → cc_rf fa fv F → (∀ q, q < 6 → wa q = 0) → post (f_LIN, f_SKIP, f_CALL, f_OUT, f_JUMP, f_RUNNING, f_FIRST_VERSION, f_MAX_VERSIONS, (nI (cc_N P)), f_length, f_calls, f_depth, f_openProc, 1, f_built, f_builtCount, f_builtTotal, (nI 0), cm, cx, cy, am, ax, ay, f_candCount, f_candTotal, f_overflow, f_frames, f_outCount, f_entryCount, a_kind, a_d, a_s, a_t, a_a, a_b, a_unitLen, a_unitProc, a_unitMask, a_unitX, a_unitY, a_unitSize, a_splitNow, a_callSites, o, g0, g1, gB, mt, fa, fv, wk, wa, a_trial, a_candProc, a_candMask, a_candX, a_candY, a_candSize, a_place, a_frameUnit, a_framePc, a_vars, a_outputs, a_entryProc, a_entryX, a_entryY, a_entryMask)) :
    ∀ (n p : Nat) (o g0 g1 gB mt : Nat → Int32), p ≤ cc_N P → cc_N P - p < n → (∀ j, j < p → cc_xd P o g0 g1 gB j (cc_L P j)) → wX_analyse_2 post n (nI p) f_LIN f_SKIP f_CALL f_OUT f_JUMP f_RUNNING f_FIRST_VERSION f_MAX_VERSIONS (nI (cc_N P)) f_length f_calls f_depth f_openProc f_analysed f_built f_builtCount f_builtTotal f_workTop f_ctxMask f_ctxX f_ctxY f_argMask f_argX f_argY f_candCount f_candTotal f_overflow f_frames f_outCount f_entryCount a_kind a_d a_s a_t a_a a_b a_unitLen a_unitProc a_unitMask a_unitX a_unitY a_unitSize a_splitNow a_callSites o g0 g1 gB mt a_fact a_factValue a_work a_waiting a_trial a_candProc a_candMask a_candX a_candY a_candSize a_place a_frameUnit a_framePc a_vars a_outputs a_entryProc a_entryX a_entryY a_entryMask := by
  have N6 := W.2.1
  intro n
  induction n with
  | zero => intro p o g0 g1 gB mt _ z; omega
  | succ n ih =>
    intro p o g0 g1 gB mt hp hn I
    by_cases e : p = cc_N P
    · subst e
      refine br_t (nI_le (Nat.le_refl _) (by omega)) ⟨13, ?_⟩
      refine xw_solve2 W hL x I hcs hw (fun cm cx cy am ax ay fa fv wk wa F a b c => ?_) 13 0 a_fact a_factValue (by omega) (by omega) (fun j hj => absurd hj (by omega))
      exact h cm cx cy am ax ay o g0 g1 gB mt fa fv wk wa F I a b c
    · refine br_f (nI_ge (show p < cc_N P by omega) (by omega)) ?_
      refine xw_findForms W (show p < 6 by omega) (hL p (by omega)) x (fun o' g0' g1' gB' mt' r u => nm_r (e' := nI (p + 1)) (nI_1 p) (ih (p + 1) o' g0' g1' gB' mt' (by omega) (by omega) (fun j hj => ?_)))
      by_cases ej : j = p
      · subst ej; exact r
      · intro i hi
        have L8 := W.2.2.1 j (by omega)
        obtain ⟨a, b⟩ := I j (by omega) i hi
        exact ⟨fun v hv => cc_un_k u (by omega) (a v hv), cc_un_k u (by omega) b⟩
theorem xw_analyse {post : SX → Prop} {P : cc_Pg} (W : cc_wf P) (hL : ∀ p, p < 6 → a_unitLen p = nI (cc_L P p)) (x : cc_xc P a_kind a_d a_s a_t a_a a_b) (hcs : cc_cs P a_callSites) (hw : ∀ q, q < 6 → a_waiting q = 0)
    (h : ∀ cm cx cy am ax ay o g0 g1 gB mt fa fv wk wa F, cc_xf P o g0 g1 gB → cc_ls P F → cc_rf fa fv F → (∀ q, q < 6 → wa q = 0) → post (f_LIN, f_SKIP, f_CALL, f_OUT, f_JUMP, f_RUNNING, f_FIRST_VERSION, f_MAX_VERSIONS, (nI (cc_N P)), f_length, f_calls, f_depth, f_openProc, 1, f_built, f_builtCount, f_builtTotal, (nI 0), cm, cx, cy, am, ax, ay, f_candCount, f_candTotal, f_overflow, f_frames, f_outCount, f_entryCount, a_kind, a_d, a_s, a_t, a_a, a_b, a_unitLen, a_unitProc, a_unitMask, a_unitX, a_unitY, a_unitSize, a_splitNow, a_callSites, o, g0, g1, gB, mt, fa, fv, wk, wa, a_trial, a_candProc, a_candMask, a_candX, a_candY, a_candSize, a_place, a_frameUnit, a_framePc, a_vars, a_outputs, a_entryProc, a_entryX, a_entryY, a_entryMask)) :
    wpX_analyse post (f_LIN, f_SKIP, f_CALL, f_OUT, f_JUMP, f_RUNNING, f_FIRST_VERSION, f_MAX_VERSIONS, (nI (cc_N P)), f_length, f_calls, f_depth, f_openProc, f_analysed, f_built, f_builtCount, f_builtTotal, f_workTop, f_ctxMask, f_ctxX, f_ctxY, f_argMask, f_argX, f_argY, f_candCount, f_candTotal, f_overflow, f_frames, f_outCount, f_entryCount, a_kind, a_d, a_s, a_t, a_a, a_b, a_unitLen, a_unitProc, a_unitMask, a_unitX, a_unitY, a_unitSize, a_splitNow, a_callSites, a_opaque, a_form0, a_form1, a_formB, a_met, a_fact, a_factValue, a_work, a_waiting, a_trial, a_candProc, a_candMask, a_candX, a_candY, a_candSize, a_place, a_frameUnit, a_framePc, a_vars, a_outputs, a_entryProc, a_entryX, a_entryY, a_entryMask) := by
  have N6 := W.2.1
  exact ⟨7, xw_analyse2 W hL x hcs hw h 7 0 a_opaque a_form0 a_form1 a_formB a_met (by omega) (by omega) (fun j hj => absurd hj (by omega))⟩
end
end
section
/-! X: intern, calleeContext, expand, explore, fits -/
def cc_r4 (l : List cc_V) (cp cm cx cy : Nat → Int32) : Prop := ∀ (n : Nat) (v : cc_V), l[n]? = some v → cp n = nI v.1 ∧ cm n = cc_cm v.2 ∧ cx n = cc_cx v.2 ∧ cy n = cc_cy v.2
/-- X holds the program, its forms and its facts -/
def cc_XK (P : cc_Pg) (F : Nat → cc_Lt) (kd d s t a b ul cs o g0 g1 gB fa fv : Nat → Int32) : Prop :=
  cc_xc P kd d s t a b ∧ (∀ p, p < 6 → ul p = nI (cc_L P p)) ∧ cc_cs P cs ∧ cc_xf P o g0 g1 gB ∧ cc_rf fa fv F
theorem cc_r4_ad {l : List cc_V} {cp cm cx cy : Nat → Int32} (h : cc_r4 l cp cm cx cy) (v : cc_V) : cc_r4 (l ++ [v]) (upd cp l.length (nI v.1)) (upd cm l.length (cc_cm v.2)) (upd cx l.length (cc_cx v.2)) (upd cy l.length (cc_cy v.2)) := by
  intro n w hw
  by_cases e : n < l.length
  · rw [List.getElem?_append_left e] at hw
    have ne : n ≠ l.length := by omega
    rw [pk_un ne, pk_un ne, pk_un ne, pk_un ne]
    exact h n w hw
  · rw [List.getElem?_append_right (by omega)] at hw
    have e0 : n = l.length := by
      refine Classical.byContradiction fun z => ?_
      rw [List.getElem?_eq_none (by show 1 ≤ _; omega)] at hw; exact nomatch hw
    subst e0
    rw [Nat.sub_self] at hw
    cases Option.some.inj hw
    exact ⟨pk_us, pk_us, pk_us, pk_us⟩
section
variable {f_LIN f_SKIP f_CALL f_OUT f_JUMP f_RUNNING f_FIRST_VERSION f_MAX_VERSIONS f_procedures f_length f_calls f_depth f_openProc f_analysed f_built f_builtCount f_builtTotal f_workTop f_ctxMask f_ctxX f_ctxY f_argMask f_argX f_argY f_candCount f_candTotal f_overflow f_frames f_outCount f_entryCount : Int32} {a_kind a_d a_s a_t a_a a_b a_unitLen a_unitProc a_unitMask a_unitX a_unitY a_unitSize a_splitNow a_callSites a_opaque a_form0 a_form1 a_formB a_met a_fact a_factValue a_work a_waiting a_trial a_candProc a_candMask a_candX a_candY a_candSize a_place a_frameUnit a_framePc a_vars a_outputs a_entryProc a_entryX a_entryY a_entryMask : Nat → Int32}
theorem xw_intern2 {post : Int32 → SX → Prop} {q : Nat} {d : cc_Cx} {l : List cc_V} (hq : q < 6) (hl : l.length ≤ 16) (h6 : ∀ v, v ∈ l → v.1 < 6) (r : cc_r4 l a_candProc a_candMask a_candX a_candY)
    (h1 : ∀ n : Nat, l[n]? = some (q, d) → post (nI n) (f_LIN, f_SKIP, f_CALL, f_OUT, f_JUMP, f_RUNNING, f_FIRST_VERSION, f_MAX_VERSIONS, f_procedures, f_length, f_calls, f_depth, f_openProc, f_analysed, f_built, f_builtCount, f_builtTotal, f_workTop, f_ctxMask, f_ctxX, f_ctxY, (cc_cm d), (cc_cx d), (cc_cy d), (nI l.length), f_candTotal, f_overflow, f_frames, f_outCount, f_entryCount, a_kind, a_d, a_s, a_t, a_a, a_b, a_unitLen, a_unitProc, a_unitMask, a_unitX, a_unitY, a_unitSize, a_splitNow, a_callSites, a_opaque, a_form0, a_form1, a_formB, a_met, a_fact, a_factValue, a_work, a_waiting, a_trial, a_candProc, a_candMask, a_candX, a_candY, a_candSize, a_place, a_frameUnit, a_framePc, a_vars, a_outputs, a_entryProc, a_entryX, a_entryY, a_entryMask))
    (h2 : (q, d) ∉ l → l.length < 16 → ∀ cp cm cx cy, cc_r4 (l ++ [(q, d)]) cp cm cx cy → post (nI l.length) (f_LIN, f_SKIP, f_CALL, f_OUT, f_JUMP, f_RUNNING, f_FIRST_VERSION, f_MAX_VERSIONS, f_procedures, f_length, f_calls, f_depth, f_openProc, f_analysed, f_built, f_builtCount, f_builtTotal, f_workTop, f_ctxMask, f_ctxX, f_ctxY, (cc_cm d), (cc_cx d), (cc_cy d), (nI (l.length + 1)), f_candTotal, f_overflow, f_frames, f_outCount, f_entryCount, a_kind, a_d, a_s, a_t, a_a, a_b, a_unitLen, a_unitProc, a_unitMask, a_unitX, a_unitY, a_unitSize, a_splitNow, a_callSites, a_opaque, a_form0, a_form1, a_formB, a_met, a_fact, a_factValue, a_work, a_waiting, a_trial, cp, cm, cx, cy, a_candSize, a_place, a_frameUnit, a_framePc, a_vars, a_outputs, a_entryProc, a_entryX, a_entryY, a_entryMask))
    (h3 : (q, d) ∉ l → 16 ≤ l.length → post (-1) (f_LIN, f_SKIP, f_CALL, f_OUT, f_JUMP, f_RUNNING, f_FIRST_VERSION, f_MAX_VERSIONS, f_procedures, f_length, f_calls, f_depth, f_openProc, f_analysed, f_built, f_builtCount, f_builtTotal, f_workTop, f_ctxMask, f_ctxX, f_ctxY, (cc_cm d), (cc_cx d), (cc_cy d), (nI l.length), f_candTotal, 1, f_frames, f_outCount, f_entryCount, a_kind, a_d, a_s, a_t, a_a, a_b, a_unitLen, a_unitProc, a_unitMask, a_unitX, a_unitY, a_unitSize, a_splitNow, a_callSites, a_opaque, a_form0, a_form1, a_formB, a_met, a_fact, a_factValue, a_work, a_waiting, a_trial, a_candProc, a_candMask, a_candX, a_candY, a_candSize, a_place, a_frameUnit, a_framePc, a_vars, a_outputs, a_entryProc, a_entryX, a_entryY, a_entryMask)) :
    ∀ (n c : Nat), c ≤ l.length → l.length - c < n → (∀ j : Nat, j < c → l[j]? ≠ some (q, d)) → wX_intern_2 post (nI q) f_LIN f_SKIP f_CALL f_OUT f_JUMP f_RUNNING f_FIRST_VERSION f_MAX_VERSIONS f_procedures f_length f_calls f_depth f_openProc f_analysed f_built f_builtCount f_builtTotal f_workTop f_ctxMask f_ctxX f_ctxY (cc_cm d) (cc_cx d) (cc_cy d) (nI l.length) f_candTotal f_overflow f_frames f_outCount f_entryCount a_kind a_d a_s a_t a_a a_b a_unitLen a_unitProc a_unitMask a_unitX a_unitY a_unitSize a_splitNow a_callSites a_opaque a_form0 a_form1 a_formB a_met a_fact a_factValue a_work a_waiting a_trial a_candProc a_candMask a_candX a_candY a_candSize a_place a_frameUnit a_framePc a_vars a_outputs a_entryProc a_entryX a_entryY a_entryMask n (nI c) := by
  intro n
  induction n with
  | zero => intro c _ z; omega
  | succ n ih =>
    intro c hc hn I
    by_cases e : c = l.length
    · subst e
      have no : (q, d) ∉ l := fun z => by
        obtain ⟨j, hj⟩ := List.getElem?_of_mem z
        have : j < l.length := by
          refine Nat.lt_of_not_le fun y => ?_
          rw [List.getElem?_eq_none y] at hj; exact nomatch hj
        exact I j this hj
      refine br_t (nI_le (Nat.le_refl _) (by omega)) ?_
      by_cases e16 : l.length < 16
      · have hi : vp_in (nI l.length) 16 := vp_in_nI e16 (by decide)
        refine br_t (nI_lt e16 (by decide)) (And.intro hi (nm_e (And.intro hi (nm_e (And.intro hi (nm_e (And.intro hi (nm_e (nm_r (e' := nI (l.length + 1)) (nI_1 _) ?_)))))))))
        rw [nI_pred, nI_clamp (show l.length < 2 ^ 31 by omega)]
        exact h2 no e16 _ _ _ _ (cc_r4_ad r (q, d))
      · exact br_f (nI_nlt (b := 16) (by omega) (by omega)) (h3 no (by omega))
    · have hc' : c < l.length := by omega
      have ec : c < 2 ^ 31 := by omega
      have hi : vp_in (nI c) 16 := vp_in_nI (by omega) (by decide)
      have ev := List.getElem?_eq_getElem hc'
      generalize hw : l[c] = w at ev
      obtain ⟨r1, r2, r3, r4⟩ := r c w ev
      have w6 := h6 w (List.mem_of_getElem? ev)
      have next : w ≠ (q, d) → wX_intern_2 post (nI q) f_LIN f_SKIP f_CALL f_OUT f_JUMP f_RUNNING f_FIRST_VERSION f_MAX_VERSIONS f_procedures f_length f_calls f_depth f_openProc f_analysed f_built f_builtCount f_builtTotal f_workTop f_ctxMask f_ctxX f_ctxY (cc_cm d) (cc_cx d) (cc_cy d) (nI l.length) f_candTotal f_overflow f_frames f_outCount f_entryCount a_kind a_d a_s a_t a_a a_b a_unitLen a_unitProc a_unitMask a_unitX a_unitY a_unitSize a_splitNow a_callSites a_opaque a_form0 a_form1 a_formB a_met a_fact a_factValue a_work a_waiting a_trial a_candProc a_candMask a_candX a_candY a_candSize a_place a_frameUnit a_framePc a_vars a_outputs a_entryProc a_entryX a_entryY a_entryMask n (nI (c + 1)) := by
        intro ne
        refine ih (c + 1) (by omega) (by omega) (fun j hj => ?_)
        by_cases ej : j = c
        · subst ej; rw [ev]; exact fun z => ne (Option.some.inj z)
        · exact I j (by omega)
      refine br_f (nI_ge hc' (by omega)) (And.intro hi ?_)
      rw [ix_c a_candProc ec, r1]
      by_cases c1 : w.1 = q
      · refine br_t (by rw [c1]) (And.intro hi ?_)
        rw [ix_c a_candMask ec, r2]
        by_cases c2 : cc_cm w.2 = cc_cm d
        · refine br_t c2 (And.intro hi ?_)
          rw [ix_c a_candX ec, r3]
          by_cases c3 : cc_cx w.2 = cc_cx d
          · refine br_t c3 (And.intro hi ?_)
            rw [ix_c a_candY ec, r4]
            by_cases c4 : cc_cy w.2 = cc_cy d
            · refine br_t c4 (h1 c ?_)
              have : w = (q, d) := Prod.ext c1 (cc_cxE c2 c3 c4)
              rw [ev, this]
            · exact br_f c4 (nm_r (e' := nI (c + 1)) (nI_1 c) (next (fun z => c4 (by rw [z]))))
          · exact br_f c3 (nm_r (e' := nI (c + 1)) (nI_1 c) (next (fun z => c3 (by rw [z]))))
        · exact br_f c2 (nm_r (e' := nI (c + 1)) (nI_1 c) (next (fun z => c2 (by rw [z]))))
      · exact br_f (fun z => c1 ((nI_eq (by omega) (by omega)).mp z)) (nm_r (e' := nI (c + 1)) (nI_1 c) (next (fun z => c1 (by rw [z]))))
theorem xw_intern {post : Int32 → SX → Prop} {q : Nat} {d : cc_Cx} {l : List cc_V} (hq : q < 6) (hl : l.length ≤ 16) (h6 : ∀ v, v ∈ l → v.1 < 6) (r : cc_r4 l a_candProc a_candMask a_candX a_candY)
    (h1 : ∀ n : Nat, l[n]? = some (q, d) → post (nI n) (f_LIN, f_SKIP, f_CALL, f_OUT, f_JUMP, f_RUNNING, f_FIRST_VERSION, f_MAX_VERSIONS, f_procedures, f_length, f_calls, f_depth, f_openProc, f_analysed, f_built, f_builtCount, f_builtTotal, f_workTop, f_ctxMask, f_ctxX, f_ctxY, (cc_cm d), (cc_cx d), (cc_cy d), (nI l.length), f_candTotal, f_overflow, f_frames, f_outCount, f_entryCount, a_kind, a_d, a_s, a_t, a_a, a_b, a_unitLen, a_unitProc, a_unitMask, a_unitX, a_unitY, a_unitSize, a_splitNow, a_callSites, a_opaque, a_form0, a_form1, a_formB, a_met, a_fact, a_factValue, a_work, a_waiting, a_trial, a_candProc, a_candMask, a_candX, a_candY, a_candSize, a_place, a_frameUnit, a_framePc, a_vars, a_outputs, a_entryProc, a_entryX, a_entryY, a_entryMask))
    (h2 : (q, d) ∉ l → l.length < 16 → ∀ cp cm cx cy, cc_r4 (l ++ [(q, d)]) cp cm cx cy → post (nI l.length) (f_LIN, f_SKIP, f_CALL, f_OUT, f_JUMP, f_RUNNING, f_FIRST_VERSION, f_MAX_VERSIONS, f_procedures, f_length, f_calls, f_depth, f_openProc, f_analysed, f_built, f_builtCount, f_builtTotal, f_workTop, f_ctxMask, f_ctxX, f_ctxY, (cc_cm d), (cc_cx d), (cc_cy d), (nI (l.length + 1)), f_candTotal, f_overflow, f_frames, f_outCount, f_entryCount, a_kind, a_d, a_s, a_t, a_a, a_b, a_unitLen, a_unitProc, a_unitMask, a_unitX, a_unitY, a_unitSize, a_splitNow, a_callSites, a_opaque, a_form0, a_form1, a_formB, a_met, a_fact, a_factValue, a_work, a_waiting, a_trial, cp, cm, cx, cy, a_candSize, a_place, a_frameUnit, a_framePc, a_vars, a_outputs, a_entryProc, a_entryX, a_entryY, a_entryMask))
    (h3 : (q, d) ∉ l → 16 ≤ l.length → post (-1) (f_LIN, f_SKIP, f_CALL, f_OUT, f_JUMP, f_RUNNING, f_FIRST_VERSION, f_MAX_VERSIONS, f_procedures, f_length, f_calls, f_depth, f_openProc, f_analysed, f_built, f_builtCount, f_builtTotal, f_workTop, f_ctxMask, f_ctxX, f_ctxY, (cc_cm d), (cc_cx d), (cc_cy d), (nI l.length), f_candTotal, 1, f_frames, f_outCount, f_entryCount, a_kind, a_d, a_s, a_t, a_a, a_b, a_unitLen, a_unitProc, a_unitMask, a_unitX, a_unitY, a_unitSize, a_splitNow, a_callSites, a_opaque, a_form0, a_form1, a_formB, a_met, a_fact, a_factValue, a_work, a_waiting, a_trial, a_candProc, a_candMask, a_candX, a_candY, a_candSize, a_place, a_frameUnit, a_framePc, a_vars, a_outputs, a_entryProc, a_entryX, a_entryY, a_entryMask)) :
    wpX_intern post (f_LIN, f_SKIP, f_CALL, f_OUT, f_JUMP, f_RUNNING, f_FIRST_VERSION, f_MAX_VERSIONS, f_procedures, f_length, f_calls, f_depth, f_openProc, f_analysed, f_built, f_builtCount, f_builtTotal, f_workTop, f_ctxMask, f_ctxX, f_ctxY, (cc_cm d), (cc_cx d), (cc_cy d), (nI l.length), f_candTotal, f_overflow, f_frames, f_outCount, f_entryCount, a_kind, a_d, a_s, a_t, a_a, a_b, a_unitLen, a_unitProc, a_unitMask, a_unitX, a_unitY, a_unitSize, a_splitNow, a_callSites, a_opaque, a_form0, a_form1, a_formB, a_met, a_fact, a_factValue, a_work, a_waiting, a_trial, a_candProc, a_candMask, a_candX, a_candY, a_candSize, a_place, a_frameUnit, a_framePc, a_vars, a_outputs, a_entryProc, a_entryX, a_entryY, a_entryMask) (nI q) :=
  ⟨17, xw_intern2 hq hl h6 r h1 h2 h3 17 0 (by omega) (by omega) (fun j hj => absurd hj (by omega))⟩
theorem xw_calleeContext {post : SX → Prop} {P : cc_Pg} {m i : Nat} (hm : m < 48) (w : cc_w1 P m i) (hN : cc_N P ≤ 6) (k6 : cc_K P m = 6) (x : cc_x1 P a_kind a_d a_s a_t a_a a_b m) {c : cc_Cx} (R : ∀ v, v < 4 → cc_rx a_opaque a_form0 a_form1 a_formB (m * 5 + v) (cc_fm P m v)) {F : Nat → cc_Lt} (rf : cc_rf a_fact a_factValue F) {ch : Nat → Bool} (ht : ∀ q, q < 6 → a_trial q = cc_b (ch q))
    (h : post (f_LIN, f_SKIP, f_CALL, f_OUT, f_JUMP, f_RUNNING, f_FIRST_VERSION, f_MAX_VERSIONS, f_procedures, f_length, f_calls, f_depth, f_openProc, f_analysed, f_built, f_builtCount, f_builtTotal, f_workTop, (cc_cm c), (cc_cx c), (cc_cy c), (cc_cm (cc_ce P F ch m c)), (cc_cx (cc_ce P F ch m c)), (cc_cy (cc_ce P F ch m c)), f_candCount, f_candTotal, f_overflow, f_frames, f_outCount, f_entryCount, a_kind, a_d, a_s, a_t, a_a, a_b, a_unitLen, a_unitProc, a_unitMask, a_unitX, a_unitY, a_unitSize, a_splitNow, a_callSites, a_opaque, a_form0, a_form1, a_formB, a_met, a_fact, a_factValue, a_work, a_waiting, a_trial, a_candProc, a_candMask, a_candX, a_candY, a_candSize, a_place, a_frameUnit, a_framePc, a_vars, a_outputs, a_entryProc, a_entryX, a_entryY, a_entryMask)) : wpX_calleeContext post (f_LIN, f_SKIP, f_CALL, f_OUT, f_JUMP, f_RUNNING, f_FIRST_VERSION, f_MAX_VERSIONS, f_procedures, f_length, f_calls, f_depth, f_openProc, f_analysed, f_built, f_builtCount, f_builtTotal, f_workTop, (cc_cm c), (cc_cx c), (cc_cy c), f_argMask, f_argX, f_argY, f_candCount, f_candTotal, f_overflow, f_frames, f_outCount, f_entryCount, a_kind, a_d, a_s, a_t, a_a, a_b, a_unitLen, a_unitProc, a_unitMask, a_unitX, a_unitY, a_unitSize, a_splitNow, a_callSites, a_opaque, a_form0, a_form1, a_formB, a_met, a_fact, a_factValue, a_work, a_waiting, a_trial, a_candProc, a_candMask, a_candX, a_candY, a_candSize, a_place, a_frameUnit, a_framePc, a_vars, a_outputs, a_entryProc, a_entryX, a_entryY, a_entryMask) (nI m) := by
  have em : m < 2 ^ 31 := by omega
  have him : vp_in (nI m) 176 := vp_in_nI (by omega) (by decide)
  obtain ⟨hQ, hA⟩ := w.2.2.2.2.1 k6
  have hQ6 : cc_Q P m < 6 := by omega
  refine And.intro him (nm_r (e' := nI (cc_Q P m)) (by rw [ix_c a_a em, x.2.2.2.2.1, hA]) (And.intro (vp_in_nI hQ6 (by decide)) ?_))
  rw [ix_c a_trial (show cc_Q P m < 2 ^ 31 by omega), ht _ hQ6]
  unfold cc_ce at h
  cases e : ch (cc_Q P m) with
  | false =>
    rw [e, if_neg (fun z => nomatch z)] at h
    refine br_t rfl (xw_mergedMask hQ6 rf (And.intro (by rw [ix_20]; exact vp_in_nI (by omega) (by decide)) (nm_r (e' := cc_cx (cc_fc F (cc_Q P m))) (by rw [ix_20, ix_c a_factValue (by omega)]; exact (rf _ (by omega)).2) (And.intro (by rw [ix_21]; exact vp_in_nI (by omega) (by decide)) (nm_r (e' := cc_cy (cc_fc F (cc_Q P m))) (by rw [ix_21, ix_c a_factValue (by omega)]; exact (rf _ (by omega)).2) h)))))
  | true =>
    rw [e, if_pos rfl] at h
    exact br_f ix_10 (xw_argumentContext hm w x R h)
theorem bx_and0 (x : Int32) {n : Nat} (hn : n < 32) : (x &&& ((1 : Int32) <<< (nI n &&& 31))) = 0 ↔ bt x n = false := by
  constructor
  · intro h
    have : bt (x &&& ((1 : Int32) <<< (nI n &&& 31))) n = bt 0 n := by rw [h]
    rw [b_and, bx_sh hn hn, b_0, decide_eq_true rfl, Bool.and_true] at this
    exact this
  · intro h
    apply b_ext
    intro i hi
    rw [b_and, bx_sh hn hi, b_0]
    by_cases e : i = n
    · subst e; rw [h]; rfl
    · rw [decide_eq_false e, Bool.and_false]
theorem cc_b_nI (b : Bool) : cc_b b = nI (if b = true then 1 else 0) := by cases b <;> rfl
theorem cc_sz_8 {P : cc_Pg} (W : cc_wf P) {p : Nat} (hp : p < 6) (c : cc_Cx) : 1 + cc_ct (fun j => cc_rc P p c j && decide (j < cc_L P p)) 8 = cc_sz P p c := by
  have L8 := W.2.2.1 p hp
  unfold cc_sz
  rw [cc_ct_0 (a := cc_L P p) 8 L8 (fun i h1 h2 => by rw [decide_eq_false (by omega), Bool.and_false])]
  congr 1
  exact cc_ct_cg _ (fun i hi => by rw [decide_eq_true hi, Bool.and_true])
theorem xw_expand41 {post : SX → Prop} {P : cc_Pg} (W : cc_wf P) {F : Nat → cc_Lt} (K : cc_XK P F a_kind a_d a_s a_t a_a a_b a_unitLen a_callSites a_opaque a_form0 a_form1 a_formB a_fact a_factValue) {ch : Nat → Bool} (ht : ∀ q, q < 6 → a_trial q = cc_b (ch q)) {k : Nat} (hk : k < 16) {v : cc_V} (hv : v.1 < cc_N P) {s : cc_VS} {tot : Int32} {z : Int32}
    (hz : cc_bs z (fun j => cc_rc P v.1 v.2 j && decide (j < cc_L P v.1)))
    (h : ∀ am ax ay cp cm cx cy, cc_r4 (cc_xp P F ch v s 8).1 cp cm cx cy → (cc_xp P F ch v s 8).1.length ≤ 16 → (∀ w, w ∈ (cc_xp P F ch v s 8).1 → w.1 < cc_N P) → post (f_LIN, f_SKIP, f_CALL, f_OUT, f_JUMP, f_RUNNING, f_FIRST_VERSION, f_MAX_VERSIONS, f_procedures, f_length, f_calls, f_depth, f_openProc, f_analysed, f_built, f_builtCount, f_builtTotal, f_workTop, (cc_cm v.2), (cc_cx v.2), (cc_cy v.2), am, ax, ay, (nI (cc_xp P F ch v s 8).1.length), (tot + nI (cc_sz P v.1 v.2)), (cc_b (cc_xp P F ch v s 8).2), f_frames, f_outCount, f_entryCount, a_kind, a_d, a_s, a_t, a_a, a_b, a_unitLen, a_unitProc, a_unitMask, a_unitX, a_unitY, a_unitSize, a_splitNow, a_callSites, a_opaque, a_form0, a_form1, a_formB, a_met, a_fact, a_factValue, a_work, a_waiting, a_trial, cp, cm, cx, cy, (upd a_candSize k (nI (cc_sz P v.1 v.2))), a_place, a_frameUnit, a_framePc, a_vars, a_outputs, a_entryProc, a_entryX, a_entryY, a_entryMask)) :
    ∀ (n i : Nat) (am ax ay : Int32) (cp cm cx cy : Nat → Int32), i ≤ 8 → 8 - i < n → cc_r4 (cc_xp P F ch v s i).1 cp cm cx cy → (cc_xp P F ch v s i).1.length ≤ 16 → (∀ w, w ∈ (cc_xp P F ch v s i).1 → w.1 < cc_N P) →
      wX_expand_41 post (nI k) (nI v.1) z n (nI (1 + cc_ct (fun j => cc_rc P v.1 v.2 j && decide (j < cc_L P v.1)) i)) (nI i) f_LIN f_SKIP f_CALL f_OUT f_JUMP f_RUNNING f_FIRST_VERSION f_MAX_VERSIONS f_procedures f_length f_calls f_depth f_openProc f_analysed f_built f_builtCount f_builtTotal f_workTop (cc_cm v.2) (cc_cx v.2) (cc_cy v.2) am ax ay (nI (cc_xp P F ch v s i).1.length) tot (cc_b (cc_xp P F ch v s i).2) f_frames f_outCount f_entryCount a_kind a_d a_s a_t a_a a_b a_unitLen a_unitProc a_unitMask a_unitX a_unitY a_unitSize a_splitNow a_callSites a_opaque a_form0 a_form1 a_formB a_met a_fact a_factValue a_work a_waiting a_trial cp cm cx cy a_candSize a_place a_frameUnit a_framePc a_vars a_outputs a_entryProc a_entryX a_entryY a_entryMask := by
  obtain ⟨K1, K2, K3, K4, K5⟩ := K
  have h6 : v.1 < 6 := Nat.lt_of_lt_of_le hv W.2.1
  have L8 := W.2.2.1 v.1 h6
  intro n
  induction n with
  | zero => intro i am ax ay cp cm cx cy _ y; omega
  | succ n ih =>
    intro i am ax ay cp cm cx cy hi hn I1 I2 I3
    by_cases e : i = 8
    · subst e
      refine br_t (show (8 : Int32) ≤ nI 8 from Int32.le_refl _) (And.intro (vp_in_nI hk (by decide)) (nm_e (nm_e ?_)))
      rw [cc_sz_8 W h6, nI_clamp (show k < 2 ^ 31 by omega)]
      exact h am ax ay cp cm cx cy I1 I2 I3
    · refine br_f (nI_ge (b := 8) (by omega) (by decide)) (nm_r (e' := nI (1 + cc_ct (fun j => cc_rc P v.1 v.2 j && decide (j < cc_L P v.1)) (i + 1))) ?_ (And.intro (vp_in_nI h6 (by decide)) ?_))
      · rw [bx_t hz (n := i) (by omega), cc_b_nI, nI_add, cc_ct, Nat.add_assoc]
      · rw [ix_c a_callSites (show v.1 < 2 ^ 31 by omega)]
        have eb : bt (z &&& a_callSites v.1) i = ((cc_rc P v.1 v.2 i && decide (i < cc_L P v.1)) && (decide (i < cc_L P v.1) && decide (cc_K P (v.1 * 8 + i) = 6))) := by
          rw [b_and, hz i (by omega), K3 v.1 h6 i (by omega)]
        by_cases q : i < cc_L P v.1 ∧ cc_K P (v.1 * 8 + i) = 6 ∧ cc_rc P v.1 v.2 i = true
        · obtain ⟨q1, q2, q3⟩ := q
          have w1 := W.2.2.2 v.1 i h6 q1
          have hQ := w1.2.2.2.2.1 q2
          have x1 := K1 v.1 i h6 q1
          rw [q3, decide_eq_true q1, decide_eq_true q2] at eb
          refine br_f (fun y => by rw [(bx_and0 _ (by omega)).mp y] at eb; exact nomatch eb) ?_
          rw [ix_8]
          refine xw_calleeContext (by omega) w1 W.2.1 q2 x1 (K4 v.1 hv i q1).1 K5 ht (And.intro (vp_in_nI (by omega) (by decide)) ?_)
          rw [ix_c a_a (show v.1 * 8 + i < 2 ^ 31 by omega), x1.2.2.2.2.1, hQ.2]
          have ev := cc_xp_t (P := P) (F := F) (ch := ch) (v := v) (s := s) ⟨q1, q2, q3⟩
          have N6 := W.2.1
          refine xw_intern (by omega) I2 (fun w hw => Nat.lt_of_lt_of_le (I3 w hw) N6) I1 (fun j hj => ?_) (fun no l16 cp cm cx cy r => ?_) (fun no l16 => ?_)
          · have ev' := ev.trans (cc_i2_in (List.mem_of_getElem? hj))
            refine nm_r (e' := nI (i + 1)) (nI_1 i) ?_
            have := ih (i + 1) (cc_cm (cc_ce P F ch (v.1 * 8 + i) v.2)) (cc_cx (cc_ce P F ch (v.1 * 8 + i) v.2)) (cc_cy (cc_ce P F ch (v.1 * 8 + i) v.2)) cp cm cx cy (by omega) (by omega)
            rw [ev'] at this
            exact this I1 I2 I3
          · have ev' := ev.trans (cc_i2_ad no l16)
            refine nm_r (e' := nI (i + 1)) (nI_1 i) ?_
            have := ih (i + 1) (cc_cm (cc_ce P F ch (v.1 * 8 + i) v.2)) (cc_cx (cc_ce P F ch (v.1 * 8 + i) v.2)) (cc_cy (cc_ce P F ch (v.1 * 8 + i) v.2)) cp cm cx cy (by omega) (by omega)
            rw [ev'] at this
            dsimp only at this
            rw [List.length_append] at this
            refine this r (show (cc_xp P F ch v s i).1.length + 1 ≤ 16 by omega) (fun w hw => ?_)
            rcases List.mem_append.mp hw with y | y
            · exact I3 w y
            · rw [List.mem_singleton.mp y]; exact hQ.1
          · have ev' := ev.trans (cc_i2_ov no l16)
            refine nm_r (e' := nI (i + 1)) (nI_1 i) ?_
            have := ih (i + 1) (cc_cm (cc_ce P F ch (v.1 * 8 + i) v.2)) (cc_cx (cc_ce P F ch (v.1 * 8 + i) v.2)) (cc_cy (cc_ce P F ch (v.1 * 8 + i) v.2)) cp cm cx cy (by omega) (by omega)
            rw [ev'] at this
            exact this I1 I2 I3
        · have ev := cc_xp_f (P := P) (F := F) (ch := ch) (v := v) (s := s) q
          have ef : bt (z &&& a_callSites v.1) i = false := by
            rw [eb]
            cases y : ((cc_rc P v.1 v.2 i && decide (i < cc_L P v.1)) && (decide (i < cc_L P v.1) && decide (cc_K P (v.1 * 8 + i) = 6))) with
            | false => rfl
            | true =>
              rw [Bool.and_eq_true, Bool.and_eq_true, Bool.and_eq_true, decide_eq_true_iff, decide_eq_true_iff] at y
              exact absurd ⟨y.1.2, y.2.2, y.1.1⟩ q
          refine br_t ((bx_and0 _ (by omega)).mpr ef) (nm_r (e' := nI (i + 1)) (nI_1 i) ?_)
          have := ih (i + 1) am ax ay cp cm cx cy (by omega) (by omega)
          rw [ev] at this
          exact this I1 I2 I3
theorem xw_expand {post : SX → Prop} {P : cc_Pg} (W : cc_wf P) {F : Nat → cc_Lt} (K : cc_XK P F a_kind a_d a_s a_t a_a a_b a_unitLen a_callSites a_opaque a_form0 a_form1 a_formB a_fact a_factValue) {ch : Nat → Bool} (ht : ∀ q, q < 6 → a_trial q = cc_b (ch q)) {k : Nat} (hk : k < 16) {v : cc_V} {s : cc_VS} {tot : Int32}
    (hv : s.1[k]? = some v) (r : cc_r4 s.1 a_candProc a_candMask a_candX a_candY) (hl : s.1.length ≤ 16) (hp : ∀ w, w ∈ s.1 → w.1 < cc_N P)
    (h : ∀ cm' cx' cy' am ax ay cp cm cx cy, cc_r4 (cc_xp P F ch v s 8).1 cp cm cx cy → (cc_xp P F ch v s 8).1.length ≤ 16 → (∀ w, w ∈ (cc_xp P F ch v s 8).1 → w.1 < cc_N P) → post (f_LIN, f_SKIP, f_CALL, f_OUT, f_JUMP, f_RUNNING, f_FIRST_VERSION, f_MAX_VERSIONS, f_procedures, f_length, f_calls, f_depth, f_openProc, f_analysed, f_built, f_builtCount, f_builtTotal, f_workTop, cm', cx', cy', am, ax, ay, (nI (cc_xp P F ch v s 8).1.length), (tot + nI (cc_sz P v.1 v.2)), (cc_b (cc_xp P F ch v s 8).2), f_frames, f_outCount, f_entryCount, a_kind, a_d, a_s, a_t, a_a, a_b, a_unitLen, a_unitProc, a_unitMask, a_unitX, a_unitY, a_unitSize, a_splitNow, a_callSites, a_opaque, a_form0, a_form1, a_formB, a_met, a_fact, a_factValue, a_work, a_waiting, a_trial, cp, cm, cx, cy, (upd a_candSize k (nI (cc_sz P v.1 v.2))), a_place, a_frameUnit, a_framePc, a_vars, a_outputs, a_entryProc, a_entryX, a_entryY, a_entryMask)) :
    wpX_expand post (f_LIN, f_SKIP, f_CALL, f_OUT, f_JUMP, f_RUNNING, f_FIRST_VERSION, f_MAX_VERSIONS, f_procedures, f_length, f_calls, f_depth, f_openProc, f_analysed, f_built, f_builtCount, f_builtTotal, f_workTop, f_ctxMask, f_ctxX, f_ctxY, f_argMask, f_argX, f_argY, (nI s.1.length), tot, (cc_b s.2), f_frames, f_outCount, f_entryCount, a_kind, a_d, a_s, a_t, a_a, a_b, a_unitLen, a_unitProc, a_unitMask, a_unitX, a_unitY, a_unitSize, a_splitNow, a_callSites, a_opaque, a_form0, a_form1, a_formB, a_met, a_fact, a_factValue, a_work, a_waiting, a_trial, a_candProc, a_candMask, a_candX, a_candY, a_candSize, a_place, a_frameUnit, a_framePc, a_vars, a_outputs, a_entryProc, a_entryX, a_entryY, a_entryMask) (nI k) := by
  have ek : k < 2 ^ 31 := by omega
  have hi : vp_in (nI k) 16 := vp_in_nI hk (by decide)
  obtain ⟨r1, r2, r3, r4⟩ := r k v hv
  have vN := hp v (List.mem_of_getElem? hv)
  have v6 : v.1 < 6 := Nat.lt_of_lt_of_le vN W.2.1
  refine And.intro hi (nm_r (e' := nI v.1) ((ix_c a_candProc ek).trans r1) (And.intro hi (And.intro hi (And.intro hi ?_))))
  rw [ix_c a_candMask ek, ix_c a_candX ek, ix_c a_candY ek, r2, r3, r4]
  refine xw_reached (c := v.2) W v6 (K.2.1 v.1 v6) K.1 (K.2.2.2.1 v.1 vN) (fun z hz => ⟨9, ?_⟩)
  exact xw_expand41 W K ht hk vN hz (h _ _ _) 9 0 f_argMask f_argX f_argY a_candProc a_candMask a_candX a_candY (by omega) (by omega) r hl hp
/-- sizes of the first k versions -/
def cc_rz (P : cc_Pg) (l : List cc_V) (cs : Nat → Int32) (k : Nat) : Prop := ∀ (n : Nat) (v : cc_V), n < k → l[n]? = some v → cs n = nI (cc_sz P v.1 v.2)
theorem xw_explore38 {post : SX → Prop} {P : cc_Pg} (W : cc_wf P) {F : Nat → cc_Lt} (K : cc_XK P F a_kind a_d a_s a_t a_a a_b a_unitLen a_callSites a_opaque a_form0 a_form1 a_formB a_fact a_factValue) {ch : Nat → Bool} (ht : ∀ q, q < 6 → a_trial q = cc_b (ch q))
    (h : ∀ cm' cx' cy' am ax ay cp cm cx cy tot cz, cc_r4 (cc_li P F ch) cp cm cx cy → (cc_ov P F ch = false → tot = nI (cc_to P F ch) ∧ cc_rz P (cc_li P F ch) cz (cc_li P F ch).length) → post (f_LIN, f_SKIP, f_CALL, f_OUT, f_JUMP, f_RUNNING, f_FIRST_VERSION, f_MAX_VERSIONS, f_procedures, f_length, f_calls, f_depth, f_openProc, f_analysed, f_built, f_builtCount, f_builtTotal, f_workTop, cm', cx', cy', am, ax, ay, (nI (cc_li P F ch).length), tot, (cc_b (cc_ov P F ch)), f_frames, f_outCount, f_entryCount, a_kind, a_d, a_s, a_t, a_a, a_b, a_unitLen, a_unitProc, a_unitMask, a_unitX, a_unitY, a_unitSize, a_splitNow, a_callSites, a_opaque, a_form0, a_form1, a_formB, a_met, a_fact, a_factValue, a_work, a_waiting, a_trial, cp, cm, cx, cy, cz, a_place, a_frameUnit, a_framePc, a_vars, a_outputs, a_entryProc, a_entryX, a_entryY, a_entryMask)) :
    ∀ (n k : Nat) (cm' cx' cy' am ax ay : Int32) (cp cm cx cy : Nat → Int32) (tot : Int32) (cz : Nat → Int32), k ≤ 16 → 16 - k < n → cc_r4 (cc_E P F ch k).1 cp cm cx cy → ((cc_E P F ch k).2 = false → k ≤ (cc_E P F ch k).1.length ∧ tot = nI (cc_tt P (cc_E P F ch k).1 k) ∧ cc_rz P (cc_E P F ch k).1 cz k) →
      wX_explore_38 post n (nI k) f_LIN f_SKIP f_CALL f_OUT f_JUMP f_RUNNING f_FIRST_VERSION f_MAX_VERSIONS f_procedures f_length f_calls f_depth f_openProc f_analysed f_built f_builtCount f_builtTotal f_workTop cm' cx' cy' am ax ay (nI (cc_E P F ch k).1.length) tot (cc_b (cc_E P F ch k).2) f_frames f_outCount f_entryCount a_kind a_d a_s a_t a_a a_b a_unitLen a_unitProc a_unitMask a_unitX a_unitY a_unitSize a_splitNow a_callSites a_opaque a_form0 a_form1 a_formB a_met a_fact a_factValue a_work a_waiting a_trial cp cm cx cy cz a_place a_frameUnit a_framePc a_vars a_outputs a_entryProc a_entryX a_entryY a_entryMask := by
  intro n
  induction n with
  | zero => intro k cm' cx' cy' am ax ay cp cm cx cy tot cz _ y; omega
  | succ n ih =>
    intro k cm' cx' cy' am ax ay cp cm cx cy tot cz hk hn I1 I2
    have l16 := cc_E_l (P := P) (F := F) (ch := ch) k
    have stop : cc_E P F ch 16 = cc_E P F ch k → ((cc_E P F ch k).2 = false → (cc_E P F ch k).1.length ≤ k) → post (f_LIN, f_SKIP, f_CALL, f_OUT, f_JUMP, f_RUNNING, f_FIRST_VERSION, f_MAX_VERSIONS, f_procedures, f_length, f_calls, f_depth, f_openProc, f_analysed, f_built, f_builtCount, f_builtTotal, f_workTop, cm', cx', cy', am, ax, ay, (nI (cc_E P F ch k).1.length), tot, (cc_b (cc_E P F ch k).2), f_frames, f_outCount, f_entryCount, a_kind, a_d, a_s, a_t, a_a, a_b, a_unitLen, a_unitProc, a_unitMask, a_unitX, a_unitY, a_unitSize, a_splitNow, a_callSites, a_opaque, a_form0, a_form1, a_formB, a_met, a_fact, a_factValue, a_work, a_waiting, a_trial, cp, cm, cx, cy, cz, a_place, a_frameUnit, a_framePc, a_vars, a_outputs, a_entryProc, a_entryX, a_entryY, a_entryMask) := by
      intro e16 hle
      have := h cm' cx' cy' am ax ay cp cm cx cy tot cz
      unfold cc_li cc_ov cc_to cc_li at this
      rw [e16] at this
      refine this I1 (fun ho => ?_)
      obtain ⟨a, b, c⟩ := I2 ho
      have : (cc_E P F ch k).1.length = k := by have := hle ho; omega
      rw [this]; exact ⟨b, c⟩
    by_cases e : k = 16
    · subst e
      exact br_t (show (16 : Int32) ≤ nI 16 from Int32.le_refl _) (stop rfl (fun _ => l16))
    · refine br_f (nI_ge (b := 16) (by omega) (by decide)) ?_
      by_cases el : (cc_E P F ch k).1.length ≤ k
      · exact br_t (nI_le el (by omega)) (stop (cc_E_st (Or.inr el) 16 (by omega)) (fun _ => el))
      · refine br_f (nI_ge (Nat.lt_of_not_le el) (by omega)) ?_
        cases eo : (cc_E P F ch k).2 with
        | true =>
          refine br_f ix_10 ?_
          have := stop (cc_E_st (Or.inl eo) 16 (by omega)) (fun z => by rw [eo] at z; exact nomatch z)
          rw [eo] at this; exact this
        | false =>
          refine br_t rfl ?_
          have ev := List.getElem?_eq_getElem (Nat.lt_of_not_le el)
          generalize (cc_E P F ch k).1[k] = v at ev
          obtain ⟨a, b, c⟩ := I2 eo
          have es := cc_E_s eo ev
          have g := cc_xp_gr (P := P) (F := F) (ch := ch) v (cc_E P F ch k) (i := 0) 8 (by omega)
          have key := xw_expand (post := fun u => match u with | (f_LIN, f_SKIP, f_CALL, f_OUT, f_JUMP, f_RUNNING, f_FIRST_VERSION, f_MAX_VERSIONS, f_procedures, f_length, f_calls, f_depth, f_openProc, f_analysed, f_built, f_builtCount, f_builtTotal, f_workTop, f_ctxMask, f_ctxX, f_ctxY, f_argMask, f_argX, f_argY, f_candCount, f_candTotal, f_overflow, f_frames, f_outCount, f_entryCount, a_kind, a_d, a_s, a_t, a_a, a_b, a_unitLen, a_unitProc, a_unitMask, a_unitX, a_unitY, a_unitSize, a_splitNow, a_callSites, a_opaque, a_form0, a_form1, a_formB, a_met, a_fact, a_factValue, a_work, a_waiting, a_trial, a_candProc, a_candMask, a_candX, a_candY, a_candSize, a_place, a_frameUnit, a_framePc, a_vars, a_outputs, a_entryProc, a_entryX, a_entryY, a_entryMask) => ∀ x1_142 : Int32, x1_142 = nI k + 1 → wX_explore_38 post n x1_142 f_LIN f_SKIP f_CALL f_OUT f_JUMP f_RUNNING f_FIRST_VERSION f_MAX_VERSIONS f_procedures f_length f_calls f_depth f_openProc f_analysed f_built f_builtCount f_builtTotal f_workTop f_ctxMask f_ctxX f_ctxY f_argMask f_argX f_argY f_candCount f_candTotal f_overflow f_frames f_outCount f_entryCount a_kind a_d a_s a_t a_a a_b a_unitLen a_unitProc a_unitMask a_unitX a_unitY a_unitSize a_splitNow a_callSites a_opaque a_form0 a_form1 a_formB a_met a_fact a_factValue a_work a_waiting a_trial a_candProc a_candMask a_candX a_candY a_candSize a_place a_frameUnit a_framePc a_vars a_outputs a_entryProc a_entryX a_entryY a_entryMask) W K ht (show k < 16 by omega) ev I1 l16 (cc_E_p W k) (tot := tot) (f_ctxMask := cm') (f_ctxX := cx') (f_ctxY := cy') (f_argMask := am) (f_argX := ax) (f_argY := ay) (a_candSize := cz) (f_LIN := f_LIN) (f_SKIP := f_SKIP) (f_CALL := f_CALL) (f_OUT := f_OUT) (f_JUMP := f_JUMP) (f_RUNNING := f_RUNNING) (f_FIRST_VERSION := f_FIRST_VERSION) (f_MAX_VERSIONS := f_MAX_VERSIONS) (f_procedures := f_procedures) (f_length := f_length) (f_calls := f_calls) (f_depth := f_depth) (f_openProc := f_openProc) (f_analysed := f_analysed) (f_built := f_built) (f_builtCount := f_builtCount) (f_builtTotal := f_builtTotal) (f_workTop := f_workTop) (f_frames := f_frames) (f_outCount := f_outCount) (f_entryCount := f_entryCount) (a_unitProc := a_unitProc) (a_unitMask := a_unitMask) (a_unitX := a_unitX) (a_unitY := a_unitY) (a_unitSize := a_unitSize) (a_splitNow := a_splitNow) (a_met := a_met) (a_work := a_work) (a_waiting := a_waiting) (a_place := a_place) (a_frameUnit := a_frameUnit) (a_framePc := a_framePc) (a_vars := a_vars) (a_outputs := a_outputs) (a_entryProc := a_entryProc) (a_entryX := a_entryX) (a_entryY := a_entryY) (a_entryMask := a_entryMask) ?_
          · rw [eo] at key; exact key
          · intro cm2 cx2 cy2 am2 ax2 ay2 cp2 cmm2 cxx2 cyy2 J1 J2 J3
            refine nm_r (e' := nI (k + 1)) (nI_1 k) ?_
            have := ih (k + 1) cm2 cx2 cy2 am2 ax2 ay2 cp2 cmm2 cxx2 cyy2 (tot + nI (cc_sz P v.1 v.2)) (upd cz k (nI (cc_sz P v.1 v.2))) (by omega) (by omega)
            rw [es] at this
            refine this J1 (fun ho => ⟨?_, ?_, ?_⟩)
            · have := cc_gr_l g
              have e0 : (cc_xp P F ch v (cc_E P F ch k) 0) = cc_E P F ch k := rfl
              rw [e0] at this; omega
            · rw [b, nI_add, cc_tt_s (g.1 k v ev)]
              rw [show cc_tt P (cc_E P F ch k).1 k = cc_tt P (cc_xp P F ch v (cc_E P F ch k) 8).1 k from cc_tt_gr g k a]
            · intro j w hj hw
              by_cases ej : j = k
              · subst ej
                have e2 := g.1 j v ev
                rw [hw] at e2; cases Option.some.inj e2
                exact pk_us
              · refine (pk_un ej).trans (c j w (by omega) ?_)
                have e2 := List.getElem?_eq_getElem (l := (cc_E P F ch k).1) (i := j) (by omega)
                rw [g.1 j _ e2] at hw; rw [e2]; exact hw
theorem xw_explore {post : SX → Prop} {P : cc_Pg} (W : cc_wf P) {F : Nat → cc_Lt} (K : cc_XK P F a_kind a_d a_s a_t a_a a_b a_unitLen a_callSites a_opaque a_form0 a_form1 a_formB a_fact a_factValue) {ch : Nat → Bool} (ht : ∀ q, q < 6 → a_trial q = cc_b (ch q))
    (h : ∀ cm' cx' cy' am ax ay cp cm cx cy tot cz, cc_r4 (cc_li P F ch) cp cm cx cy → (cc_ov P F ch = false → tot = nI (cc_to P F ch) ∧ cc_rz P (cc_li P F ch) cz (cc_li P F ch).length) → post (f_LIN, f_SKIP, f_CALL, f_OUT, f_JUMP, f_RUNNING, f_FIRST_VERSION, f_MAX_VERSIONS, f_procedures, f_length, f_calls, f_depth, f_openProc, f_analysed, f_built, f_builtCount, f_builtTotal, f_workTop, cm', cx', cy', am, ax, ay, (nI (cc_li P F ch).length), tot, (cc_b (cc_ov P F ch)), f_frames, f_outCount, f_entryCount, a_kind, a_d, a_s, a_t, a_a, a_b, a_unitLen, a_unitProc, a_unitMask, a_unitX, a_unitY, a_unitSize, a_splitNow, a_callSites, a_opaque, a_form0, a_form1, a_formB, a_met, a_fact, a_factValue, a_work, a_waiting, a_trial, cp, cm, cx, cy, cz, a_place, a_frameUnit, a_framePc, a_vars, a_outputs, a_entryProc, a_entryX, a_entryY, a_entryMask)) :
    wpX_explore post (f_LIN, f_SKIP, f_CALL, f_OUT, f_JUMP, f_RUNNING, f_FIRST_VERSION, f_MAX_VERSIONS, f_procedures, f_length, f_calls, f_depth, f_openProc, f_analysed, f_built, f_builtCount, f_builtTotal, f_workTop, f_ctxMask, f_ctxX, f_ctxY, f_argMask, f_argX, f_argY, f_candCount, f_candTotal, f_overflow, f_frames, f_outCount, f_entryCount, a_kind, a_d, a_s, a_t, a_a, a_b, a_unitLen, a_unitProc, a_unitMask, a_unitX, a_unitY, a_unitSize, a_splitNow, a_callSites, a_opaque, a_form0, a_form1, a_formB, a_met, a_fact, a_factValue, a_work, a_waiting, a_trial, a_candProc, a_candMask, a_candX, a_candY, a_candSize, a_place, a_frameUnit, a_framePc, a_vars, a_outputs, a_entryProc, a_entryX, a_entryY, a_entryMask) := by
  unfold wpX_explore
  refine xw_intern (q := 0) (d := (none, none)) (l := []) (by omega) (by decide) (fun v hv => nomatch hv) (fun n v hv => nomatch hv) (fun n hn => nomatch hn) (fun _ _ cp cm cx cy r => ⟨17, ?_⟩) (fun _ z => absurd z (by decide))
  exact xw_explore38 W K ht h 17 0 f_ctxMask f_ctxX f_ctxY 0 0 0 cp cm cx cy 0 a_candSize (by omega) (by omega) r (fun _ => ⟨by omega, rfl, fun n v hn => absurd hn (by omega)⟩)
theorem xw_fits {post : Int32 → SX → Prop} {P : cc_Pg} (W : cc_wf P) {F : Nat → cc_Lt} (K : cc_XK P F a_kind a_d a_s a_t a_a a_b a_unitLen a_callSites a_opaque a_form0 a_form1 a_formB a_fact a_factValue) {ch : Nat → Bool} (ht : ∀ q, q < 6 → a_trial q = cc_b (ch q)) {bud : Int32}
    (h1 : ∀ cm' cx' cy' am ax ay cc cp cm cx cy ov tot cz, cc_ft P F ch bud → post 1 (f_LIN, f_SKIP, f_CALL, f_OUT, f_JUMP, f_RUNNING, f_FIRST_VERSION, f_MAX_VERSIONS, f_procedures, f_length, f_calls, f_depth, f_openProc, f_analysed, f_built, f_builtCount, f_builtTotal, f_workTop, cm', cx', cy', am, ax, ay, cc, tot, ov, f_frames, f_outCount, f_entryCount, a_kind, a_d, a_s, a_t, a_a, a_b, a_unitLen, a_unitProc, a_unitMask, a_unitX, a_unitY, a_unitSize, a_splitNow, a_callSites, a_opaque, a_form0, a_form1, a_formB, a_met, a_fact, a_factValue, a_work, a_waiting, a_trial, cp, cm, cx, cy, cz, a_place, a_frameUnit, a_framePc, a_vars, a_outputs, a_entryProc, a_entryX, a_entryY, a_entryMask))
    (h0 : ∀ cm' cx' cy' am ax ay cc cp cm cx cy ov tot cz, ¬ cc_ft P F ch bud → post 0 (f_LIN, f_SKIP, f_CALL, f_OUT, f_JUMP, f_RUNNING, f_FIRST_VERSION, f_MAX_VERSIONS, f_procedures, f_length, f_calls, f_depth, f_openProc, f_analysed, f_built, f_builtCount, f_builtTotal, f_workTop, cm', cx', cy', am, ax, ay, cc, tot, ov, f_frames, f_outCount, f_entryCount, a_kind, a_d, a_s, a_t, a_a, a_b, a_unitLen, a_unitProc, a_unitMask, a_unitX, a_unitY, a_unitSize, a_splitNow, a_callSites, a_opaque, a_form0, a_form1, a_formB, a_met, a_fact, a_factValue, a_work, a_waiting, a_trial, cp, cm, cx, cy, cz, a_place, a_frameUnit, a_framePc, a_vars, a_outputs, a_entryProc, a_entryX, a_entryY, a_entryMask)) :
    wpX_fits post (f_LIN, f_SKIP, f_CALL, f_OUT, f_JUMP, f_RUNNING, f_FIRST_VERSION, f_MAX_VERSIONS, f_procedures, f_length, f_calls, f_depth, f_openProc, f_analysed, f_built, f_builtCount, f_builtTotal, f_workTop, f_ctxMask, f_ctxX, f_ctxY, f_argMask, f_argX, f_argY, f_candCount, f_candTotal, f_overflow, f_frames, f_outCount, f_entryCount, a_kind, a_d, a_s, a_t, a_a, a_b, a_unitLen, a_unitProc, a_unitMask, a_unitX, a_unitY, a_unitSize, a_splitNow, a_callSites, a_opaque, a_form0, a_form1, a_formB, a_met, a_fact, a_factValue, a_work, a_waiting, a_trial, a_candProc, a_candMask, a_candX, a_candY, a_candSize, a_place, a_frameUnit, a_framePc, a_vars, a_outputs, a_entryProc, a_entryX, a_entryY, a_entryMask) bud := by
  unfold wpX_fits
  refine xw_explore W K ht (fun cm' cx' cy' am ax ay cp cm cx cy tot cz r t => ?_)
  cases e : cc_ov P F ch with
  | true => exact br_f ix_10 (h0 _ _ _ _ _ _ _ _ _ _ _ _ _ _ (fun z => by rw [z.1] at e; exact nomatch e))
  | false =>
    obtain ⟨t1, -⟩ := t e
    refine br_t rfl ?_
    rw [t1]
    by_cases c : bud < nI (cc_to P F ch)
    · exact br_t c (h0 _ _ _ _ _ _ _ _ _ _ _ _ _ _ (fun z => Int32.not_le.mpr c z.2))
    · exact br_f c (h1 _ _ _ _ _ _ _ _ _ _ _ _ _ _ ⟨e, Int32.not_lt.mp c⟩)
end
end
section
/-! Y: after, forms -/
theorem ix_nw (b : Bool) : narrow .boolean (.int (cc_b b)) = .int (cc_b b) := by cases b <;> rfl
theorem ix_ft (b : Bool) : fits .boolean (.int (cc_b b)) = true := by
  have := fits_narrow_boolean (cc_b b)
  rw [ix_nw] at this; exact this
def cc_is (f : cc_Fm) : Bool := match f with | none => false | some _ => true
theorem cc_fk_b (f : cc_Fm) : cc_fk f = cc_b (cc_is f) := by cases f <;> rfl
/-- one source statement, i-th of its procedure, in Y's arrays -/
def cc_y1 (P : cc_Pg) (kd sd ss st sa sb : Nat → Int32) (m i : Nat) : Prop := sd m = nI (cc_D P m) ∧ ss m = nI (cc_S P m) ∧ st m = nI (cc_T P m) ∧
  (cc_K P m ≤ 3 → kd m = 1 ∧ sa m = nI (cc_K P m)) ∧ (cc_K P m = 4 → kd m = 0 ∧ sa m = cc_A P m ∧ sb m = cc_B P m) ∧
  (cc_K P m = 5 → kd m = 2 ∧ sa m = cc_A P m ∧ sb m = nI (cc_G P m - (i + 1))) ∧ (cc_K P m = 6 → kd m = 3 ∧ sa m = cc_A P m) ∧ (cc_K P m = 7 → kd m = 4)
def cc_yc (P : cc_Pg) (kd sd ss st sa sb : Nat → Int32) : Prop := ∀ p i, p < 6 → i < cc_L P p → cc_y1 P kd sd ss st sa sb (p * 8 + i) i
/-- the form just reckoned -/
def cc_r1 (ok c0 c1 cb : Int32) (f : cc_Fm) : Prop := ok = cc_fk f ∧ ∀ t, f = some t → c0 = t.1 ∧ c1 = t.2.1 ∧ cb = t.2.2
theorem cc_r1_n (c0 c1 cb : Int32) : cc_r1 0 c0 c1 cb none := ⟨rfl, fun _ z => nomatch z⟩
theorem cc_r1_s (t : cc_F3) : cc_r1 1 t.1 t.2.1 t.2.2 (some t) := ⟨rfl, fun u z => by cases Option.some.inj z; exact ⟨rfl, rfl, rfl⟩⟩
theorem cc_r1_y {o g0 g1 gB : Nat → Int32} {k : Nat} {f : cc_Fm} (r : cc_ry o g0 g1 gB k f) : cc_r1 (o k) (g0 k) (g1 k) (gB k) f := ⟨r.1, fun t e => by subst e; exact ⟨r.2.1, r.2.2.1, r.2.2.2⟩⟩
section
variable {g_procs g_limit g_calls g_depth g_cur g_ok g_c0 g_c1 g_cb g_vn g_built g_chosen g_top g_outs g_entries : Int32} {b_len b_kind b_sd b_ss b_st b_sa b_sb b_fk b_f0 b_f1 b_fb b_fact b_factv b_reach b_vp b_vm b_vx b_vy b_sp b_pc b_sm b_cell b_outList b_entryList : Nat → Int32}
theorem yw_203 {post : SY → Prop} {m k : Nat} (hm : m < 48) (hk : k < 192) {b : Bool} {A : Int32} {f : cc_Fm} (r : cc_ry b_fk b_f0 b_f1 b_fb k f) (h : post (g_procs, g_limit, g_calls, g_depth, g_cur, (cc_b b), (A * cc_f0 f), (A * cc_f1 f), (A * cc_fb f + b_sb m), g_vn, g_built, g_chosen, g_top, g_outs, g_entries, b_len, b_kind, b_sd, b_ss, b_st, b_sa, b_sb, b_fk, b_f0, b_f1, b_fb, b_fact, b_factv, b_reach, b_vp, b_vm, b_vx, b_vy, b_sp, b_pc, b_sm, b_cell, b_outList, b_entryList)) : wY_after_203 post (nI m) (nI k) A (cc_b b) g_procs g_limit g_calls g_depth g_cur g_ok g_c0 g_c1 g_cb g_vn g_built g_chosen g_top g_outs g_entries b_len b_kind b_sd b_ss b_st b_sa b_sb b_fk b_f0 b_f1 b_fb b_fact b_factv b_reach b_vp b_vm b_vx b_vy b_sp b_pc b_sm b_cell b_outList b_entryList := by
  have ek : k < 2 ^ 31 := by omega
  have hik : vp_in (nI k) 192 := vp_in_nI hk (by decide)
  refine And.intro (ix_nw b) (And.intro (ix_ft b) (And.intro hik (nm_r (e' := A * cc_f0 f) (by rw [ix_c b_f0 ek, r.2.1]) (And.intro hik (nm_r (e' := A * cc_f1 f) (by rw [ix_c b_f1 ek, r.2.2.1]) (And.intro hik (And.intro (vp_in_nI hm (by decide)) (nm_r (e' := A * cc_fb f + b_sb m) (by rw [ix_c b_fb ek, r.2.2.2, ix_c b_sb (by omega)]) h))))))))
theorem yw_513n {post : SY → Prop} {k l : Nat} (hk : k < 192) (hl : l < 192) (h : ∀ c0 c1 cb, post (g_procs, g_limit, g_calls, g_depth, g_cur, 0, c0, c1, cb, g_vn, g_built, g_chosen, g_top, g_outs, g_entries, b_len, b_kind, b_sd, b_ss, b_st, b_sa, b_sb, b_fk, b_f0, b_f1, b_fb, b_fact, b_factv, b_reach, b_vp, b_vm, b_vx, b_vy, b_sp, b_pc, b_sm, b_cell, b_outList, b_entryList)) : wY_after_513 post (nI k) (nI l) 0 g_procs g_limit g_calls g_depth g_cur g_ok g_c0 g_c1 g_cb g_vn g_built g_chosen g_top g_outs g_entries b_len b_kind b_sd b_ss b_st b_sa b_sb b_fk b_f0 b_f1 b_fb b_fact b_factv b_reach b_vp b_vm b_vx b_vy b_sp b_pc b_sm b_cell b_outList b_entryList := by
  have hik : vp_in (nI k) 192 := vp_in_nI hk (by decide)
  have hil : vp_in (nI l) 192 := vp_in_nI hl (by decide)
  exact And.intro (ix_nw false) (And.intro (ix_ft false) (And.intro hik (And.intro hil (nm_e (And.intro hik (And.intro hil (nm_e (And.intro hik (And.intro hil (nm_e (h _ _ _)))))))))))
theorem yw_599n {post : SY → Prop} {k l : Nat} (hk : k < 192) (hl : l < 192) (h : ∀ c0 c1 cb, post (g_procs, g_limit, g_calls, g_depth, g_cur, 0, c0, c1, cb, g_vn, g_built, g_chosen, g_top, g_outs, g_entries, b_len, b_kind, b_sd, b_ss, b_st, b_sa, b_sb, b_fk, b_f0, b_f1, b_fb, b_fact, b_factv, b_reach, b_vp, b_vm, b_vx, b_vy, b_sp, b_pc, b_sm, b_cell, b_outList, b_entryList)) : wY_after_599 post (nI k) (nI l) 0 g_procs g_limit g_calls g_depth g_cur g_ok g_c0 g_c1 g_cb g_vn g_built g_chosen g_top g_outs g_entries b_len b_kind b_sd b_ss b_st b_sa b_sb b_fk b_f0 b_f1 b_fb b_fact b_factv b_reach b_vp b_vm b_vx b_vy b_sp b_pc b_sm b_cell b_outList b_entryList := by
  have hik : vp_in (nI k) 192 := vp_in_nI hk (by decide)
  have hil : vp_in (nI l) 192 := vp_in_nI hl (by decide)
  exact And.intro (ix_nw false) (And.intro (ix_ft false) (And.intro hik (And.intro hil (br_c (fun _ => h _ _ _) (fun _ => h _ _ _)))))
theorem yw_489n {post : SY → Prop} {k l : Nat} (hk : k < 192) (hl : l < 192) {x7 x8 x9 : Int32} (h : ∀ c0 c1 cb, post (g_procs, g_limit, g_calls, g_depth, g_cur, 0, c0, c1, cb, g_vn, g_built, g_chosen, g_top, g_outs, g_entries, b_len, b_kind, b_sd, b_ss, b_st, b_sa, b_sb, b_fk, b_f0, b_f1, b_fb, b_fact, b_factv, b_reach, b_vp, b_vm, b_vx, b_vy, b_sp, b_pc, b_sm, b_cell, b_outList, b_entryList)) : wY_after_489 post (nI k) (nI l) x7 x8 x9 g_procs g_limit g_calls g_depth g_cur 0 g_c0 g_c1 g_cb g_vn g_built g_chosen g_top g_outs g_entries b_len b_kind b_sd b_ss b_st b_sa b_sb b_fk b_f0 b_f1 b_fb b_fact b_factv b_reach b_vp b_vm b_vx b_vy b_sp b_pc b_sm b_cell b_outList b_entryList :=
  br_c (fun _ => br_t rfl (yw_513n hk hl h)) (fun _ => br_t rfl (yw_599n hk hl h))
theorem yw_284n {post : SY → Prop} {k l : Nat} (hk : k < 192) (hl : l < 192) {x7 x8 x9 : Int32} (h : ∀ c0 c1 cb, post (g_procs, g_limit, g_calls, g_depth, g_cur, 0, c0, c1, cb, g_vn, g_built, g_chosen, g_top, g_outs, g_entries, b_len, b_kind, b_sd, b_ss, b_st, b_sa, b_sb, b_fk, b_f0, b_f1, b_fb, b_fact, b_factv, b_reach, b_vp, b_vm, b_vx, b_vy, b_sp, b_pc, b_sm, b_cell, b_outList, b_entryList)) : wY_after_284 post (nI k) (nI l) x7 x8 x9 0 g_procs g_limit g_calls g_depth g_cur g_ok g_c0 g_c1 g_cb g_vn g_built g_chosen g_top g_outs g_entries b_len b_kind b_sd b_ss b_st b_sa b_sb b_fk b_f0 b_f1 b_fb b_fact b_factv b_reach b_vp b_vm b_vx b_vy b_sp b_pc b_sm b_cell b_outList b_entryList := by
  have hik : vp_in (nI k) 192 := vp_in_nI hk (by decide)
  have hil : vp_in (nI l) 192 := vp_in_nI hl (by decide)
  exact And.intro (ix_nw false) (And.intro (ix_ft false) (br_c (fun _ => And.intro hik (And.intro hil (nm_e (And.intro hik (And.intro hil (nm_e (And.intro hik (And.intro hil (nm_e (h _ _ _)))))))))) (fun _ => br_c (fun _ => And.intro hik (And.intro hil (nm_e (And.intro hik (And.intro hil (nm_e (And.intro hik (And.intro hil (nm_e (h _ _ _)))))))))) (fun _ => br_c (fun _ => br_c (fun _ => yw_489n hk hl h) (fun _ => And.intro hil (And.intro hik (nm_e (And.intro hil (And.intro hik (nm_e (And.intro hil (And.intro hik (nm_e (h _ _ _))))))))))) (fun _ => yw_489n hk hl h)))))
theorem yw_284s {post : SY → Prop} {k l K : Nat} (hk : k < 192) (hl : l < 192) (hK : K ≤ 3) {t u : cc_F3} (r : cc_ry b_fk b_f0 b_f1 b_fb k (some t)) (q : cc_ry b_fk b_f0 b_f1 b_fb l (some u)) {x8 x9 : Int32} (h8 : x8 = cc_b (cc_ik (some t))) (h9 : x9 = cc_b (cc_ik (some u)))
    (h : ∀ ok c0 c1 cb, cc_r1 ok c0 c1 cb (cc_o2 K t u) → post (g_procs, g_limit, g_calls, g_depth, g_cur, ok, c0, c1, cb, g_vn, g_built, g_chosen, g_top, g_outs, g_entries, b_len, b_kind, b_sd, b_ss, b_st, b_sa, b_sb, b_fk, b_f0, b_f1, b_fb, b_fact, b_factv, b_reach, b_vp, b_vm, b_vx, b_vy, b_sp, b_pc, b_sm, b_cell, b_outList, b_entryList)) : wY_after_284 post (nI k) (nI l) (nI K) x8 x9 1 g_procs g_limit g_calls g_depth g_cur g_ok g_c0 g_c1 g_cb g_vn g_built g_chosen g_top g_outs g_entries b_len b_kind b_sd b_ss b_st b_sa b_sb b_fk b_f0 b_f1 b_fb b_fact b_factv b_reach b_vp b_vm b_vx b_vy b_sp b_pc b_sm b_cell b_outList b_entryList := by
  have ek : k < 2 ^ 31 := by omega
  have el : l < 2 ^ 31 := by omega
  have hik : vp_in (nI k) 192 := vp_in_nI hk (by decide)
  have hil : vp_in (nI l) 192 := vp_in_nI hl (by decide)
  obtain ⟨r0, r1, r2, r3⟩ := r
  obtain ⟨q0, q1, q2, q3⟩ := q
  have a0 := (ix_c b_f0 ek).trans r1
  have a1 := (ix_c b_f1 ek).trans r2
  have a2 := (ix_c b_fb ek).trans r3
  have d0 := (ix_c b_f0 el).trans q1
  have d1 := (ix_c b_f1 el).trans q2
  have d2 := (ix_c b_fb el).trans q3
  refine And.intro (ix_nw true) (And.intro (ix_ft true) ?_)
  have k03 : K = 0 ∨ K = 1 ∨ K = 2 ∨ K = 3 := by omega
  rcases k03 with e | e | e | e
  · subst e
    refine br_t rfl (And.intro hik (And.intro hil (nm_r (e' := t.1 + u.1) (by rw [a0, d0]; rfl) (And.intro hik (And.intro hil (nm_r (e' := t.2.1 + u.2.1) (by rw [a1, d1]; rfl) (And.intro hik (And.intro hil (nm_r (e' := t.2.2 + u.2.2) (by rw [a2, d2]; rfl) (h _ _ _ _ ?_))))))))))
    unfold cc_o2; rw [if_pos rfl]; exact cc_r1_s (t.1 + u.1, t.2.1 + u.2.1, t.2.2 + u.2.2)
  · subst e
    refine br_f (show ¬ (1 : Int32) = 0 by decide) (br_t rfl (And.intro hik (And.intro hil (nm_r (e' := t.1 - u.1) (by rw [a0, d0]; rfl) (And.intro hik (And.intro hil (nm_r (e' := t.2.1 - u.2.1) (by rw [a1, d1]; rfl) (And.intro hik (And.intro hil (nm_r (e' := t.2.2 - u.2.2) (by rw [a2, d2]; rfl) (h _ _ _ _ ?_)))))))))))
    unfold cc_o2; rw [if_neg (by decide), if_pos rfl]; exact cc_r1_s (t.1 - u.1, t.2.1 - u.2.1, t.2.2 - u.2.2)
  · subst e
    refine br_f (show ¬ (2 : Int32) = 0 by decide) (br_f (show ¬ (2 : Int32) = 1 by decide) (br_t rfl ?_))
    by_cases z : t.1 = 0 ∧ t.2.1 = 0
    · have e1 : cc_ik (some t) = true := decide_eq_true z
      rw [e1] at h8
      have cm : ∀ a b : Int32, a * b = b * a := Int32.mul_comm
      refine br_f (by rw [h8]; exact ix_10) (And.intro hil (And.intro hik (nm_r (e' := t.2.2 * u.1) (by rw [a2, d0, cm]; rfl) (And.intro hil (And.intro hik (nm_r (e' := t.2.2 * u.2.1) (by rw [a2, d1, cm]; rfl) (And.intro hil (And.intro hik (nm_r (e' := t.2.2 * u.2.2) (by rw [a2, d2, cm]; rfl) (h _ _ _ _ ?_))))))))))
      unfold cc_o2; rw [if_neg (by decide), if_neg (by decide), if_pos rfl, if_pos z]; exact cc_r1_s (t.2.2 * u.1, t.2.2 * u.2.1, t.2.2 * u.2.2)
    · have e1 : cc_ik (some t) = false := decide_eq_false z
      rw [e1] at h8
      refine br_t h8 (br_t rfl (br_f ix_10 ?_))
      by_cases y : u.1 = 0 ∧ u.2.1 = 0
      · have e3 : cc_ik (some u) = true := decide_eq_true y
        rw [e3] at h9
        have cm : ∀ a b : Int32, a * b = b * a := Int32.mul_comm
        refine br_f (by rw [h9]; exact ix_10) (And.intro (ix_nw true) (And.intro (ix_ft true) (And.intro hik (And.intro hil (nm_r (e' := u.2.2 * t.1) (by rw [a0, d2, cm]; rfl) (And.intro hik (And.intro hil (nm_r (e' := u.2.2 * t.2.1) (by rw [a1, d2, cm]; rfl) (And.intro hik (And.intro hil (nm_r (e' := u.2.2 * t.2.2) (by rw [a2, d2, cm]; rfl) (h _ _ _ _ ?_))))))))))))
        unfold cc_o2; rw [if_neg (by decide), if_neg (by decide), if_pos rfl, if_neg z, if_pos y]; exact cc_r1_s (u.2.2 * t.1, u.2.2 * t.2.1, u.2.2 * t.2.2)
      · have e3 : cc_ik (some u) = false := decide_eq_false y
        rw [e3] at h9
        refine br_t h9 (yw_513n hk hl (fun c0 c1 cb => h 0 c0 c1 cb ?_))
        unfold cc_o2; rw [if_neg (by decide), if_neg (by decide), if_pos rfl, if_neg z, if_neg y]; exact cc_r1_n _ _ _
  · subst e
    refine br_f (show ¬ (3 : Int32) = 0 by decide) (br_f (show ¬ (3 : Int32) = 1 by decide) (br_f (show ¬ (3 : Int32) = 2 by decide) (br_f (show ¬ (3 : Int32) = 2 by decide) (br_f ix_10 ?_))))
    by_cases z : t.1 = 0 ∧ t.2.1 = 0
    · have e1 : cc_ik (some t) = true := decide_eq_true z
      rw [e1] at h8
      refine br_f (by rw [h8]; exact ix_10) ?_
      by_cases y : u.1 = 0 ∧ u.2.1 = 0
      · have e3 : cc_ik (some u) = true := decide_eq_true y
        rw [e3] at h9
        have eo : cc_o2 3 t u = some (0, 0, if u.2.2 ≤ t.2.2 then 0 else 1) := by
          unfold cc_o2; rw [if_neg (by decide), if_neg (by decide), if_neg (by decide), if_pos ⟨z, y⟩]
        rw [eo] at h
        refine br_f (by rw [h9]; exact ix_10) (And.intro (ix_nw true) (And.intro (ix_ft true) (And.intro hik (And.intro hil ?_))))
        rw [a2, d2]
        show (u.2.2 ≤ t.2.2 → _) ∧ (¬ u.2.2 ≤ t.2.2 → _)
        by_cases c : u.2.2 ≤ t.2.2
        · rw [if_pos c] at h
          exact br_t c (h _ _ _ _ (cc_r1_s (0, 0, 0)))
        · rw [if_neg c] at h
          exact br_f c (h _ _ _ _ (cc_r1_s (0, 0, 1)))
      · have e3 : cc_ik (some u) = false := decide_eq_false y
        rw [e3] at h9
        refine br_t h9 (yw_599n hk hl (fun c0 c1 cb => h 0 c0 c1 cb ?_))
        unfold cc_o2; rw [if_neg (by decide), if_neg (by decide), if_neg (by decide), if_neg (fun w => y w.2)]; exact cc_r1_n _ _ _
    · have e1 : cc_ik (some t) = false := decide_eq_false z
      rw [e1] at h8
      refine br_t h8 (yw_599n hk hl (fun c0 c1 cb => h 0 c0 c1 cb ?_))
      unfold cc_o2; rw [if_neg (by decide), if_neg (by decide), if_neg (by decide), if_neg (fun w => z w.1)]; exact cc_r1_n _ _ _
theorem yw_161 {post : SY → Prop} {P : cc_Pg} {m i : Nat} (hm : m < 48) (w : cc_w1 P m i) (y : cc_y1 P b_kind b_sd b_ss b_st b_sa b_sb m i) (k5 : cc_K P m ≠ 5) (k7 : cc_K P m ≠ 7) {g : Nat → cc_Fm} (R : ∀ v, v < 4 → cc_ry b_fk b_f0 b_f1 b_fb (m * 4 + v) (g v)) {x8 x9 : Int32}
    (h8 : ∀ t, g (cc_S P m) = some t → x8 = cc_b (cc_ik (some t))) (h9 : ∀ t, g (cc_T P m) = some t → x9 = cc_b (cc_ik (some t)))
    (h : ∀ ok c0 c1 cb, cc_r1 ok c0 c1 cb (cc_tf P g m) → post (g_procs, g_limit, g_calls, g_depth, g_cur, ok, c0, c1, cb, g_vn, g_built, g_chosen, g_top, g_outs, g_entries, b_len, b_kind, b_sd, b_ss, b_st, b_sa, b_sb, b_fk, b_f0, b_f1, b_fb, b_fact, b_factv, b_reach, b_vp, b_vm, b_vx, b_vy, b_sp, b_pc, b_sm, b_cell, b_outList, b_entryList)) : wY_after_161 post (nI m) (nI (m * 4 + cc_S P m)) (nI (m * 4 + cc_T P m)) (b_kind m) (b_sa m) x8 x9 g_procs g_limit g_calls g_depth g_cur g_ok g_c0 g_c1 g_cb g_vn g_built g_chosen g_top g_outs g_entries b_len b_kind b_sd b_ss b_st b_sa b_sb b_fk b_f0 b_f1 b_fb b_fact b_factv b_reach b_vp b_vm b_vx b_vy b_sp b_pc b_sm b_cell b_outList b_entryList := by
  obtain ⟨w1, w2, w3, w4, w5, w6⟩ := w
  obtain ⟨y1, y2, y3, y4, y5, y6, y7, y8⟩ := y
  have rS := R _ w3
  have rT := R _ w4
  have hS : m * 4 + cc_S P m < 192 := by omega
  have hT : m * 4 + cc_T P m < 192 := by omega
  have eS : m * 4 + cc_S P m < 2 ^ 31 := by omega
  have eT : m * 4 + cc_T P m < 2 ^ 31 := by omega
  have hiS : vp_in (nI (m * 4 + cc_S P m)) 192 := vp_in_nI hS (by decide)
  have hiT : vp_in (nI (m * 4 + cc_T P m)) 192 := vp_in_nI hT (by decide)
  by_cases k6 : cc_K P m = 6
  · obtain ⟨z1, z2⟩ := y7 k6
    rw [z1]
    refine br_t rfl (h 0 _ _ _ ?_)
    unfold cc_tf; rw [if_neg (by omega), if_pos (by omega)]; exact cc_r1_n _ _ _
  · by_cases k4 : cc_K P m = 4
    · obtain ⟨z1, z2, z3⟩ := y5 k4
      rw [z1, z2]
      have et : cc_tf P g m = cc_ln (g (cc_S P m)) (cc_A P m) (cc_B P m) := by unfold cc_tf; rw [if_pos k4]
      rw [et] at h
      refine br_f (show ¬ (0 : Int32) = 3 by decide) (br_t rfl ?_)
      by_cases a0 : cc_A P m = 0
      · refine br_t a0 (yw_203 (b := true) hm hS rS (h _ _ _ _ ?_))
        unfold cc_ln; rw [if_pos a0, a0, cc_mul0, cc_mul0, cc_mul0, z3]
        have : (0 : Int32) + cc_B P m = cc_B P m := Int32.zero_add _
        rw [this]; exact cc_r1_s (0, 0, cc_B P m)
      · refine br_f a0 (And.intro hiS ?_)
        rw [ix_c b_fk eS, rS.1]
        cases e : g (cc_S P m) with
        | none =>
          rw [e] at rS h
          refine br_t rfl (yw_203 (b := false) hm hS rS (h _ _ _ _ ?_))
          unfold cc_ln; rw [if_neg a0]; exact cc_r1_n _ _ _
        | some t =>
          rw [e] at rS h
          refine br_f ix_10 (yw_203 (b := true) hm hS rS (h _ _ _ _ ?_))
          unfold cc_ln; rw [if_neg a0, z3]; exact cc_r1_s (cc_A P m * t.1, cc_A P m * t.2.1, cc_A P m * t.2.2 + cc_B P m)
    · obtain ⟨z1, z2⟩ := y4 (by omega)
      rw [z1, z2]
      have et : cc_tf P g m = cc_bd (g (cc_S P m)) (g (cc_T P m)) (cc_K P m) := by unfold cc_tf; rw [if_neg k4, if_neg (by omega)]
      rw [et] at h
      refine br_f (show ¬ (1 : Int32) = 3 by decide) (br_f ix_10 (And.intro hiS ?_))
      rw [ix_c b_fk eS, rS.1]
      cases e : g (cc_S P m) with
      | none =>
        rw [e] at h
        exact br_t rfl (yw_284n hS hT (fun c0 c1 cb => h _ _ _ _ (cc_r1_n _ _ _)))
      | some t =>
        refine br_f ix_10 (And.intro hiT ?_)
        rw [ix_c b_fk eT, rT.1]
        rw [e] at h rS
        cases e2 : g (cc_T P m) with
        | none =>
          rw [e2] at h
          exact br_t rfl (yw_284n hS hT (fun c0 c1 cb => h _ _ _ _ (cc_r1_n _ _ _)))
        | some u =>
          rw [e2] at h rT
          exact br_f ix_10 (yw_284s hS hT (by omega) rS rT (h8 t e) (h9 u e2) h)
theorem yw_after {post : SY → Prop} {P : cc_Pg} {m i v : Nat} (hm : m < 48) (hv : v < 4) (w : cc_w1 P m i) (y : cc_y1 P b_kind b_sd b_ss b_st b_sa b_sb m i) {g : Nat → cc_Fm} (R : ∀ v, v < 4 → cc_ry b_fk b_f0 b_f1 b_fb (m * 4 + v) (g v))
    (h : ∀ ok c0 c1 cb, cc_r1 ok c0 c1 cb (cc_af P g m v) → post (g_procs, g_limit, g_calls, g_depth, g_cur, ok, c0, c1, cb, g_vn, g_built, g_chosen, g_top, g_outs, g_entries, b_len, b_kind, b_sd, b_ss, b_st, b_sa, b_sb, b_fk, b_f0, b_f1, b_fb, b_fact, b_factv, b_reach, b_vp, b_vm, b_vx, b_vy, b_sp, b_pc, b_sm, b_cell, b_outList, b_entryList)) : wpY_after post (g_procs, g_limit, g_calls, g_depth, g_cur, g_ok, g_c0, g_c1, g_cb, g_vn, g_built, g_chosen, g_top, g_outs, g_entries, b_len, b_kind, b_sd, b_ss, b_st, b_sa, b_sb, b_fk, b_f0, b_f1, b_fb, b_fact, b_factv, b_reach, b_vp, b_vm, b_vx, b_vy, b_sp, b_pc, b_sm, b_cell, b_outList, b_entryList) (nI m) (nI v) := by
  have em : m < 2 ^ 31 := by omega
  have him : vp_in (nI m) 48 := vp_in_nI hm (by decide)
  have hv' : m * 4 + v < 192 := by omega
  have hiv : vp_in (nI (m * 4 + v)) 192 := vp_in_nI hv' (by decide)
  have ev : m * 4 + v < 2 ^ 31 := by omega
  have rv := R v hv
  obtain ⟨w1, w2, w3, w4, w5, w6⟩ := id w
  obtain ⟨y1, y2, y3, y4, y5, y6, y7, y8⟩ := id y
  have rS := R _ w3
  have rT := R _ w4
  have hiS : vp_in (nI (m * 4 + cc_S P m)) 192 := vp_in_nI (by omega) (by decide)
  have hiT : vp_in (nI (m * 4 + cc_T P m)) 192 := vp_in_nI (by omega) (by decide)
  refine nm_r (e' := nI (m * 4 + v)) (ix_4 m v) (And.intro him (nm_r (e' := nI (m * 4 + cc_S P m)) (by rw [ix_c b_ss em, y2]; exact ix_4 _ _) (And.intro him (nm_r (e' := nI (m * 4 + cc_T P m)) (by rw [ix_c b_st em, y3]; exact ix_4 _ _) (And.intro him (nm_r (e' := b_kind m) (ix_c b_kind em) (And.intro him (nm_r (e' := b_sa m) (ix_c b_sa em) (And.intro hiv (nm_r (e' := cc_b (cc_is (g v))) (by rw [ix_c b_fk ev, rv.1, cc_fk_b]) (And.intro (ix_nw _) (And.intro (ix_ft _) (And.intro hiv (nm_r (e' := b_f0 (m * 4 + v)) (ix_c b_f0 ev) (And.intro hiv (nm_r (e' := b_f1 (m * 4 + v)) (ix_c b_f1 ev) (And.intro hiv (nm_r (e' := b_fb (m * 4 + v)) (ix_c b_fb ev) ?_))))))))))))))))))
  have own : cc_af P g m v = g v → post (g_procs, g_limit, g_calls, g_depth, g_cur, (cc_b (cc_is (g v))), (b_f0 (m * 4 + v)), (b_f1 (m * 4 + v)), (b_fb (m * 4 + v)), g_vn, g_built, g_chosen, g_top, g_outs, g_entries, b_len, b_kind, b_sd, b_ss, b_st, b_sa, b_sb, b_fk, b_f0, b_f1, b_fb, b_fact, b_factv, b_reach, b_vp, b_vm, b_vx, b_vy, b_sp, b_pc, b_sm, b_cell, b_outList, b_entryList) := by
    intro e
    refine h _ _ _ _ ?_
    rw [e]
    have := cc_r1_y rv
    rw [rv.1, cc_fk_b] at this; exact this
  by_cases k5 : cc_K P m = 5
  · rw [(y6 k5).1]
    exact br_t rfl (own (by unfold cc_af; rw [if_neg (fun z => z.1 k5)]))
  · have n2 : ¬ b_kind m = 2 := by
      intro z
      by_cases a : cc_K P m ≤ 3
      · rw [(y4 a).1] at z; exact absurd z (by decide)
      · by_cases b : cc_K P m = 4
        · rw [(y5 b).1] at z; exact absurd z (by decide)
        · by_cases c : cc_K P m = 6
          · rw [(y7 c).1] at z; exact absurd z (by decide)
          · rw [y8 (by omega)] at z; exact absurd z (by decide)
    refine br_f n2 ?_
    by_cases k7 : cc_K P m = 7
    · rw [y8 k7]
      exact br_t rfl (own (by unfold cc_af; rw [if_neg (fun z => z.2.1 k7)]))
    · have n4 : ¬ b_kind m = 4 := by
        intro z
        by_cases a : cc_K P m ≤ 3
        · rw [(y4 a).1] at z; exact absurd z (by decide)
        · by_cases b : cc_K P m = 4
          · rw [(y5 b).1] at z; exact absurd z (by decide)
          · rw [(y7 (by omega)).1] at z; exact absurd z (by decide)
      refine br_f n4 (And.intro him ?_)
      rw [ix_c b_sd em, y1]
      by_cases ed : cc_D P m = v
      · have ea : cc_af P g m v = cc_tf P g m := by unfold cc_af; rw [if_pos ⟨k5, k7, ed.symm⟩]
        rw [ea] at h
        have fin : ∀ (b1 : Bool), (∀ t, g (cc_S P m) = some t → b1 = cc_ik (some t)) → wY_after_134 post (nI m) (nI (m * 4 + cc_S P m)) (nI (m * 4 + cc_T P m)) (b_kind m) (b_sa m) (cc_b b1) g_procs g_limit g_calls g_depth g_cur (cc_b (cc_is (g v))) (b_f0 (m * 4 + v)) (b_f1 (m * 4 + v)) (b_fb (m * 4 + v)) g_vn g_built g_chosen g_top g_outs g_entries b_len b_kind b_sd b_ss b_st b_sa b_sb b_fk b_f0 b_f1 b_fb b_fact b_factv b_reach b_vp b_vm b_vx b_vy b_sp b_pc b_sm b_cell b_outList b_entryList := by
          intro b1 hb
          have f161 : ∀ (b2 : Bool), (∀ t, g (cc_T P m) = some t → b2 = cc_ik (some t)) → wY_after_161 post (nI m) (nI (m * 4 + cc_S P m)) (nI (m * 4 + cc_T P m)) (b_kind m) (b_sa m) (cc_b b1) (cc_b b2) g_procs g_limit g_calls g_depth g_cur (cc_b (cc_is (g v))) (b_f0 (m * 4 + v)) (b_f1 (m * 4 + v)) (b_fb (m * 4 + v)) g_vn g_built g_chosen g_top g_outs g_entries b_len b_kind b_sd b_ss b_st b_sa b_sb b_fk b_f0 b_f1 b_fb b_fact b_factv b_reach b_vp b_vm b_vx b_vy b_sp b_pc b_sm b_cell b_outList b_entryList :=
            fun b2 hb2 => yw_161 hm w y k5 k7 R (fun t e => by rw [hb t e]) (fun t e => by rw [hb2 t e]) h
          refine And.intro hiT ?_
          rw [ix_c b_f0 (by omega), rT.2.1]
          by_cases c0 : cc_f0 (g (cc_T P m)) = 0
          · refine br_t c0 (And.intro hiT ?_)
            rw [ix_c b_f1 (by omega), rT.2.2.1]
            by_cases c1 : cc_f1 (g (cc_T P m)) = 0
            · refine br_t c1 (f161 true (fun t e => ?_))
              rw [e] at c0 c1; exact (decide_eq_true ⟨c0, c1⟩).symm
            · refine br_f c1 (f161 false (fun t e => ?_))
              rw [e] at c1; exact (decide_eq_false (fun z => c1 z.2)).symm
          · refine br_f c0 (f161 false (fun t e => ?_))
            rw [e] at c0; exact (decide_eq_false (fun z => c0 z.1)).symm
        rw [ed]
        refine br_t rfl (And.intro hiS ?_)
        rw [ix_c b_f0 (by omega), rS.2.1]
        by_cases c0 : cc_f0 (g (cc_S P m)) = 0
        · refine br_t c0 (And.intro hiS ?_)
          rw [ix_c b_f1 (by omega), rS.2.2.1]
          by_cases c1 : cc_f1 (g (cc_S P m)) = 0
          · refine br_t c1 (fin true (fun t e => ?_))
            rw [e] at c0 c1; exact (decide_eq_true ⟨c0, c1⟩).symm
          · refine br_f c1 (fin false (fun t e => ?_))
            rw [e] at c1; exact (decide_eq_false (fun z => c1 z.2)).symm
        · refine br_f c0 (fin false (fun t e => ?_))
          rw [e] at c0; exact (decide_eq_false (fun z => c0 z.1)).symm
      · exact br_f (fun z => ed ((nI_eq (by omega) (by omega)).mp z)) (own (by unfold cc_af; rw [if_neg (fun z => ed z.2.2.symm)]))
end
end
section
/-! Y: forms -/
abbrev yw_J : Type := Int32 → Int32 → Int32 → Int32 → Int32 → Int32 → Int32 → Int32 → Int32 → Int32 → Int32 → Int32 → Int32 → Int32 → Int32 → Int32 → (Nat → Int32) → (Nat → Int32) → (Nat → Int32) → (Nat → Int32) → (Nat → Int32) → (Nat → Int32) → (Nat → Int32) → (Nat → Int32) → (Nat → Int32) → (Nat → Int32) → (Nat → Int32) → (Nat → Int32) → (Nat → Int32) → (Nat → Int32) → (Nat → Int32) → (Nat → Int32) → (Nat → Int32) → (Nat → Int32) → (Nat → Int32) → (Nat → Int32) → (Nat → Int32) → (Nat → Int32) → (Nat → Int32) → (Nat → Int32) → Prop
def cc_yd (P : cc_Pg) (o g0 g1 gB : Nat → Int32) (p n : Nat) : Prop := ∀ i, i < n → ∀ v, v < 4 → cc_ry o g0 g1 gB ((p * 8 + i) * 4 + v) (cc_fm P (p * 8 + i) v)
def cc_yf (P : cc_Pg) (o g0 g1 gB : Nat → Int32) : Prop := ∀ p, p < cc_N P → cc_yd P o g0 g1 gB p (cc_L P p)
theorem cc_un_y {o g0 g1 gB o' g0' g1' gB' : Nat → Int32} {S : Nat → Prop} {j : Nat} {h : cc_Fm} (w : cc_un o g0 g1 gB o' g0' g1' gB' S) (n : ¬ S j) (r : cc_ry o g0 g1 gB j h) : cc_ry o' g0' g1' gB' j h := by
  obtain ⟨a, b, c, d⟩ := w j n
  exact ⟨a.trans r.1, b.trans r.2.1, c.trans r.2.2.1, d.trans r.2.2.2⟩
section
variable {g_procs g_limit g_calls g_depth g_cur g_ok g_c0 g_c1 g_cb g_vn g_built g_chosen g_top g_outs g_entries : Int32} {b_len b_kind b_sd b_ss b_st b_sa b_sb b_fk b_f0 b_f1 b_fb b_fact b_factv b_reach b_vp b_vm b_vx b_vy b_sp b_pc b_sm b_cell b_outList b_entryList : Nat → Int32}
theorem yw_f101 {post : SY → Prop} {J2 J12 J24 : yw_J} {P : cc_Pg} (W : cc_wf P) {p j v : Nat} (hp : p < 6) (hj : j < cc_L P p) (hv : v < 4) (y : cc_yc P b_kind b_sd b_ss b_st b_sa b_sb) (D : cc_yd P b_fk b_f0 b_f1 b_fb p j) {a0 : cc_Fm} (fin : cc_jo (cc_sk P p (fun i w => cc_fm P (p * 8 + i) w) j v j) a0 = cc_fm P (p * 8 + j) v)
    (h : ∀ ok fk f0 f1 fb, cc_ry fk f0 f1 fb ((p * 8 + j) * 4 + v) (cc_fm P (p * 8 + j) v) → cc_un b_fk b_f0 b_f1 b_fb fk f0 f1 fb (fun k => k = (p * 8 + j) * 4 + v) → J24 (nI (v + 1)) g_procs g_limit g_calls g_depth g_cur ok g_c0 g_c1 g_cb g_vn g_built g_chosen g_top g_outs g_entries b_len b_kind b_sd b_ss b_st b_sa b_sb fk f0 f1 fb b_fact b_factv b_reach b_vp b_vm b_vx b_vy b_sp b_pc b_sm b_cell b_outList b_entryList) :
    ∀ (n i : Nat) (ok : Int32), i ≤ j → j - i < n → cc_r1 ok g_c0 g_c1 g_cb (cc_jo (cc_sk P p (fun i w => cc_fm P (p * 8 + i) w) j v i) a0) →
      wY_forms_101 post J2 J12 J24 (nI p) (nI j) (nI v) (nI ((p * 8 + j) * 4 + v)) g_procs g_limit g_calls g_depth g_cur g_c0 g_c1 g_cb g_vn g_built g_chosen g_top g_outs g_entries b_len b_kind b_sd b_ss b_st b_sa b_sb b_fk b_f0 b_f1 b_fb b_fact b_factv b_reach b_vp b_vm b_vx b_vy b_sp b_pc b_sm b_cell b_outList b_entryList n (nI i) ok := by
  have L8 := W.2.2.1 p hp
  intro n
  induction n with
  | zero => intro i ok _ z; omega
  | succ n ih =>
    intro i ok hi hn I
    by_cases e : i = j
    · subst e
      rw [fin] at I
      have et : (p * 8 + i) * 4 + v < 2 ^ 31 := by omega
      have hit : vp_in (nI ((p * 8 + i) * 4 + v)) 192 := vp_in_nI (by omega) (by decide)
      refine br_t (nI_le (Nat.le_refl _) (by omega)) (And.intro hit (nm_e ?_))
      rw [nI_clamp et]
      have wr : ∀ c0 c1 cb, c0 = cc_f0 (cc_fm P (p * 8 + i) v) → c1 = cc_f1 (cc_fm P (p * 8 + i) v) → cb = cc_fb (cc_fm P (p * 8 + i) v) →
          J24 (nI (v + 1)) g_procs g_limit g_calls g_depth g_cur ok g_c0 g_c1 g_cb g_vn g_built g_chosen g_top g_outs g_entries b_len b_kind b_sd b_ss b_st b_sa b_sb (upd b_fk ((p * 8 + i) * 4 + v) (vp_nar .boolean ok)) (upd b_f0 ((p * 8 + i) * 4 + v) c0) (upd b_f1 ((p * 8 + i) * 4 + v) c1) (upd b_fb ((p * 8 + i) * 4 + v) cb) b_fact b_factv b_reach b_vp b_vm b_vx b_vy b_sp b_pc b_sm b_cell b_outList b_entryList := by
        intro c0 c1 cb e0 e1 e2
        refine h ok _ _ _ _ ⟨pk_us.trans ?_, pk_us.trans e0, pk_us.trans e1, pk_us.trans e2⟩ (fun k hk => ⟨pk_un hk, pk_un hk, pk_un hk, pk_un hk⟩)
        rw [I.1, ix_nk]
      cases ef : cc_fm P (p * 8 + i) v with
      | none =>
        rw [ef] at I wr
        have ok0 : ok = 0 := I.1
        refine br_t ok0 (And.intro hit (nm_e (br_t ok0 (And.intro hit (nm_e (br_t ok0 (And.intro hit (nm_e (nm_r (e' := nI (v + 1)) (nI_1 v) ?_)))))))))
        rw [nI_clamp et]
        exact wr 0 0 0 rfl rfl rfl
      | some t =>
        rw [ef] at I wr
        obtain ⟨c0, c1, cb⟩ := I.2 t rfl
        have ok1 : ¬ ok = 0 := by rw [I.1]; exact ix_10
        refine br_f ok1 (And.intro hit (nm_e (br_f ok1 (And.intro hit (nm_e (br_f ok1 (And.intro hit (nm_e (nm_r (e' := nI (v + 1)) (nI_1 v) ?_)))))))))
        rw [nI_clamp et]
        exact wr g_c0 g_c1 g_cb c0 c1 cb
    · have hij : i < j := by omega
      have hiL : i < cc_L P p := by omega
      have em : p * 8 + i < 2 ^ 31 := by omega
      have him : vp_in (nI (p * 8 + i)) 48 := vp_in_nI (by omega) (by decide)
      have hie : vp_in (nI ((p * 8 + i) * 4 + v)) 192 := vp_in_nI (by omega) (by decide)
      have ee : (p * 8 + i) * 4 + v < 2 ^ 31 := by omega
      have w1 := W.2.2.2 p i hp hiL
      obtain ⟨y1, y2, y3, y4, y5, y6, y7, y8⟩ := y p i hp hiL
      have next : ∀ ok', cc_r1 ok' g_c0 g_c1 g_cb (cc_jo (cc_sk P p (fun i w => cc_fm P (p * 8 + i) w) j v (i + 1)) a0) → ∀ x, x = nI i + 1 → wY_forms_101 post J2 J12 J24 (nI p) (nI j) (nI v) (nI ((p * 8 + j) * 4 + v)) g_procs g_limit g_calls g_depth g_cur g_c0 g_c1 g_cb g_vn g_built g_chosen g_top g_outs g_entries b_len b_kind b_sd b_ss b_st b_sa b_sb b_fk b_f0 b_f1 b_fb b_fact b_factv b_reach b_vp b_vm b_vx b_vy b_sp b_pc b_sm b_cell b_outList b_entryList n x ok' :=
        fun ok' r => nm_r (e' := nI (i + 1)) (nI_1 i) (ih (i + 1) ok' (by omega) (by omega) r)
      refine br_f (nI_ge hij (by omega)) (nm_r (e' := nI ((p * 8 + i) * 4 + v)) (by rw [ix_8, ix_4]) ?_)
      rw [ix_8, ix_c b_kind em, ix_c b_sb em]
      refine And.intro him ?_
      by_cases k5 : cc_K P (p * 8 + i) = 5
      · obtain ⟨z1, z2, z3⟩ := y6 k5
        obtain ⟨G1, G2, G3⟩ := w1.2.2.2.2.2 k5
        rw [z1, z3, nI_1, nI_add]
        refine br_t rfl (And.intro him ?_)
        have eG : i + 1 + (cc_G P (p * 8 + i) - (i + 1)) = cc_G P (p * 8 + i) := by omega
        rw [eG]
        rw [nI_1] at next
        by_cases g : cc_G P (p * 8 + i) = j
        · rw [g]
          refine br_t rfl ?_
          have es := cc_sk_t (M := fun i w => cc_fm P (p * 8 + i) w) (v := v) k5 g
          rw [es, ← cc_jo_3] at next
          have re := D i hij v hv
          have toN : cc_jn (cc_jo (cc_sk P p (fun i w => cc_fm P (p * 8 + i) w) j v i) a0) (cc_fm P (p * 8 + i) v) = none → ∀ x, x = nI (i + 1) → wY_forms_101 post J2 J12 J24 (nI p) (nI j) (nI v) (nI ((p * 8 + j) * 4 + v)) g_procs g_limit g_calls g_depth g_cur g_c0 g_c1 g_cb g_vn g_built g_chosen g_top g_outs g_entries b_len b_kind b_sd b_ss b_st b_sa b_sb b_fk b_f0 b_f1 b_fb b_fact b_factv b_reach b_vp b_vm b_vx b_vy b_sp b_pc b_sm b_cell b_outList b_entryList n x 0 := by
            intro en
            rw [en] at next
            exact next 0 (cc_r1_n _ _ _)
          cases ea : cc_jo (cc_sk P p (fun i w => cc_fm P (p * 8 + i) w) j v i) a0 with
          | none =>
            rw [ea] at I toN
            exact br_t I.1 (toN (by unfold cc_jn; split <;> rfl))
          | some t =>
            rw [ea] at I toN next
            obtain ⟨c0, c1, cb⟩ := I.2 t rfl
            refine br_f (by rw [I.1]; exact ix_10) (And.intro hie ?_)
            rw [ix_c b_fk ee, re.1]
            cases eb : cc_fm P (p * 8 + i) v with
            | none =>
              rw [eb] at toN
              exact br_t rfl (toN (if_neg (fun z => nomatch z)))
            | some u =>
              rw [eb] at toN next re
              refine br_f ix_10 (And.intro hie ?_)
              rw [ix_c b_f0 ee, re.2.1]
              by_cases d0 : u.1 = t.1
              · refine br_t (d0.trans c0.symm) (And.intro hie ?_)
                rw [ix_c b_f1 ee, re.2.2.1]
                by_cases d1 : u.2.1 = t.2.1
                · refine br_t (d1.trans c1.symm) (And.intro hie ?_)
                  rw [ix_c b_fb ee, re.2.2.2]
                  by_cases d2 : u.2.2 = t.2.2
                  · refine br_t (d2.trans cb.symm) (next 1 ?_)
                    have : t = u := Prod.ext d0.symm (Prod.ext d1.symm d2.symm)
                    subst this
                    have ej : cc_jn (some t) (some t) = some t := if_pos rfl
                    rw [ej]
                    exact ⟨rfl, fun w z => by cases Option.some.inj z; exact ⟨c0, c1, cb⟩⟩
                  · exact br_f (fun y => d2 (y.trans cb)) (toN (if_neg (fun z => d2 (by rw [Option.some.inj z]))))
                · exact br_f (fun y => d1 (y.trans c1)) (toN (if_neg (fun z => d1 (by rw [Option.some.inj z]))))
              · exact br_f (fun y => d0 (y.trans c0)) (toN (if_neg (fun z => d0 (by rw [Option.some.inj z]))))
        · refine br_f (fun z => g ((nI_eq (by omega) (by omega)).mp z)) (next ok ?_)
          rw [cc_sk_f (fun z => g z.2)]; exact I
      · have n2 : ¬ b_kind (p * 8 + i) = 2 := by
          have w7 := w1.1
          intro z
          by_cases a : cc_K P (p * 8 + i) ≤ 3
          · rw [(y4 a).1] at z; exact absurd z (by decide)
          · by_cases b : cc_K P (p * 8 + i) = 4
            · rw [(y5 b).1] at z; exact absurd z (by decide)
            · by_cases c : cc_K P (p * 8 + i) = 6
              · rw [(y7 c).1] at z; exact absurd z (by decide)
              · rw [y8 (by omega)] at z; exact absurd z (by decide)
        refine br_f n2 (next ok ?_)
        rw [cc_sk_f (fun z => k5 z.1)]; exact I
theorem yw_f24 {post : SY → Prop} {J2 J12 : yw_J} {P : cc_Pg} (W : cc_wf P) {p j : Nat} (hp : p < 6) (hj : j < cc_L P p) (y : cc_yc P b_kind b_sd b_ss b_st b_sa b_sb) {o0 h0 h1 hB : Nat → Int32}
    (h : ∀ ok c0 c1 cb fk f0 f1 fb, cc_yd P fk f0 f1 fb p (j + 1) → cc_un o0 h0 h1 hB fk f0 f1 fb (fun k => p * 32 ≤ k ∧ k < p * 32 + 32) → J12 (nI (j + 1)) g_procs g_limit g_calls g_depth g_cur ok c0 c1 cb g_vn g_built g_chosen g_top g_outs g_entries b_len b_kind b_sd b_ss b_st b_sa b_sb fk f0 f1 fb b_fact b_factv b_reach b_vp b_vm b_vx b_vy b_sp b_pc b_sm b_cell b_outList b_entryList) :
    ∀ (n v : Nat) (ok c0 c1 cb : Int32) (fk f0 f1 fb : Nat → Int32), v ≤ 4 → 4 - v < n → cc_yd P fk f0 f1 fb p j → (∀ w, w < v → cc_ry fk f0 f1 fb ((p * 8 + j) * 4 + w) (cc_fm P (p * 8 + j) w)) → cc_un o0 h0 h1 hB fk f0 f1 fb (fun k => p * 32 ≤ k ∧ k < p * 32 + 32) →
      wY_forms_24 post J2 J12 (nI p) (nI j) n (nI v) g_procs g_limit g_calls g_depth g_cur ok c0 c1 cb g_vn g_built g_chosen g_top g_outs g_entries b_len b_kind b_sd b_ss b_st b_sa b_sb fk f0 f1 fb b_fact b_factv b_reach b_vp b_vm b_vx b_vy b_sp b_pc b_sm b_cell b_outList b_entryList := by
  have L8 := W.2.2.1 p hp
  intro n
  induction n with
  | zero => intro v ok c0 c1 cb fk f0 f1 fb _ z; omega
  | succ n ih =>
    intro v ok c0 c1 cb fk f0 f1 fb hv hn I1 I2 I3
    by_cases e : v = 4
    · subst e
      refine br_t (show (4 : Int32) ≤ nI 4 from Int32.le_refl _) (nm_r (e' := nI (j + 1)) (nI_1 j) (h ok c0 c1 cb fk f0 f1 fb (fun i hi w hw => ?_) I3))
      by_cases ei : i = j
      · subst ei; exact I2 w hw
      · exact I1 i (by omega) w hw
    · have hv' : v < 4 := by omega
      have step : ∀ ok' c0' c1' cb' fk' f0' f1' fb', cc_ry fk' f0' f1' fb' ((p * 8 + j) * 4 + v) (cc_fm P (p * 8 + j) v) → cc_un fk f0 f1 fb fk' f0' f1' fb' (fun k => k = (p * 8 + j) * 4 + v) → wY_forms_24 post J2 J12 (nI p) (nI j) n (nI (v + 1)) g_procs g_limit g_calls g_depth g_cur ok' c0' c1' cb' g_vn g_built g_chosen g_top g_outs g_entries b_len b_kind b_sd b_ss b_st b_sa b_sb fk' f0' f1' fb' b_fact b_factv b_reach b_vp b_vm b_vx b_vy b_sp b_pc b_sm b_cell b_outList b_entryList := by
        intro ok' c0' c1' cb' fk' f0' f1' fb' r u
        refine ih (v + 1) ok' c0' c1' cb' fk' f0' f1' fb' (by omega) (by omega) (fun i hi w hw => cc_un_y u (by omega) (I1 i hi w hw)) (fun w hw => ?_) (cc_un_t I3 u (fun _ z => z) (fun k z => by omega))
        by_cases ew : w = v
        · subst ew; exact r
        · exact cc_un_y u (by omega) (I2 w (by omega))
      refine br_f (nI_ge (b := 4) hv' (by decide)) (nm_r (e' := nI ((p * 8 + j) * 4 + v)) (by rw [ix_8, ix_4]) ?_)
      cases j with
      | zero =>
        refine br_t rfl ?_
        have key : ∀ c0' c1' : Int32, some (c0', c1', 0) = cc_in v → wY_forms_101 post J2 J12 (wY_forms_24 post J2 J12 (nI p) (nI 0) n) (nI p) (nI 0) (nI v) (nI ((p * 8 + 0) * 4 + v)) g_procs g_limit g_calls g_depth g_cur c0' c1' 0 g_vn g_built g_chosen g_top g_outs g_entries b_len b_kind b_sd b_ss b_st b_sa b_sb fk f0 f1 fb b_fact b_factv b_reach b_vp b_vm b_vx b_vy b_sp b_pc b_sm b_cell b_outList b_entryList 1 (nI 0) 1 := by
          intro c0' c1' ec
          refine yw_f101 W hp hj hv' y I1 (a0 := cc_in v) (by rw [cc_fm_0]; rfl) (fun ok' fk' f0' f1' fb' r u => step ok' c0' c1' 0 fk' f0' f1' fb' r u) 1 0 1 (by omega) (by omega) ?_
          show cc_r1 1 c0' c1' 0 (cc_in v)
          rw [← ec]; exact cc_r1_s (c0', c1', 0)
        by_cases v0 : v = 0
        · subst v0
          exact br_t rfl (br_f (show ¬ (0 : Int32) = 1 by decide) ⟨1, key 1 0 rfl⟩)
        · refine br_f (fun z => v0 ((nI_eq (by omega) (by decide)).mp z)) ?_
          by_cases v1 : v = 1
          · subst v1
            exact br_t rfl ⟨1, key 0 1 rfl⟩
          · refine br_f (fun z => v1 ((nI_eq (by omega) (by decide)).mp z)) ⟨1, key 0 0 ?_⟩
            unfold cc_in; rw [if_neg v0, if_neg v1]
      | succ j =>
        refine br_f (nI_ne0 (by omega) (by omega)) ?_
        have ei : nI p * 8 + nI (j + 1) - 1 = nI (p * 8 + j) := by
          rw [ix_8, ← Nat.add_assoc, nI_pred]
        rw [ei]
        have w1 := W.2.2.2 p j hp (by omega)
        refine yw_after (by omega) hv' w1 (y p j hp (by omega)) (g := cc_fm P (p * 8 + j)) (fun w hw => I1 j (by omega) w hw) (fun ok' c0' c1' cb' r => ⟨j + 2, ?_⟩)
        refine yw_f101 W hp hj hv' y I1 (a0 := cc_af P (cc_fm P (p * 8 + j)) (p * 8 + j) v) ?_ (fun ok2 fk' f0' f1' fb' r u => step ok2 c0' c1' cb' fk' f0' f1' fb' r u) (j + 2) 0 ok' (by omega) (by omega) r
        rw [cc_fm_s P p v (by omega), cc_sk_f (fun z => ?_)]
        have := w1.2.2.2.2.2 z.1
        omega
theorem yw_f12 {post : SY → Prop} {J2 : yw_J} {P : cc_Pg} (W : cc_wf P) {p : Nat} (hp : p < 6) (hL : b_len p = nI (cc_L P p)) (y : cc_yc P b_kind b_sd b_ss b_st b_sa b_sb) {o0 h0 h1 hB : Nat → Int32}
    (h : ∀ ok c0 c1 cb fk f0 f1 fb, cc_yd P fk f0 f1 fb p (cc_L P p) → cc_un o0 h0 h1 hB fk f0 f1 fb (fun k => p * 32 ≤ k ∧ k < p * 32 + 32) → J2 (nI (p + 1)) g_procs g_limit g_calls g_depth g_cur ok c0 c1 cb g_vn g_built g_chosen g_top g_outs g_entries b_len b_kind b_sd b_ss b_st b_sa b_sb fk f0 f1 fb b_fact b_factv b_reach b_vp b_vm b_vx b_vy b_sp b_pc b_sm b_cell b_outList b_entryList) :
    ∀ (n j : Nat) (ok c0 c1 cb : Int32) (fk f0 f1 fb : Nat → Int32), j ≤ cc_L P p → cc_L P p - j < n → cc_yd P fk f0 f1 fb p j → cc_un o0 h0 h1 hB fk f0 f1 fb (fun k => p * 32 ≤ k ∧ k < p * 32 + 32) →
      wY_forms_12 post J2 (nI p) n (nI j) g_procs g_limit g_calls g_depth g_cur ok c0 c1 cb g_vn g_built g_chosen g_top g_outs g_entries b_len b_kind b_sd b_ss b_st b_sa b_sb fk f0 f1 fb b_fact b_factv b_reach b_vp b_vm b_vx b_vy b_sp b_pc b_sm b_cell b_outList b_entryList := by
  have L8 := W.2.2.1 p hp
  intro n
  induction n with
  | zero => intro j ok c0 c1 cb fk f0 f1 fb _ z; omega
  | succ n ih =>
    intro j ok c0 c1 cb fk f0 f1 fb hj hn I1 I3
    refine And.intro (vp_in_nI hp (by decide)) ?_
    rw [ix_c b_len (show p < 2 ^ 31 by omega), hL]
    by_cases e : j = cc_L P p
    · subst e
      exact br_t (nI_le (Nat.le_refl _) (by omega)) (nm_r (e' := nI (p + 1)) (nI_1 p) (h ok c0 c1 cb fk f0 f1 fb I1 I3))
    · refine br_f (nI_ge (show j < cc_L P p by omega) (by omega)) ⟨5, ?_⟩
      exact yw_f24 W hp (show j < cc_L P p by omega) y (fun ok c0 c1 cb fk f0 f1 fb a b => ih (j + 1) ok c0 c1 cb fk f0 f1 fb (by omega) (by omega) a b) 5 0 ok c0 c1 cb fk f0 f1 fb (by omega) (by omega) I1 (fun w hw => absurd hw (by omega)) I3
theorem yw_f2 {post : SY → Prop} {P : cc_Pg} (W : cc_wf P) (hL : ∀ p, p < 6 → b_len p = nI (cc_L P p)) (y : cc_yc P b_kind b_sd b_ss b_st b_sa b_sb)
    (h : ∀ ok c0 c1 cb fk f0 f1 fb, cc_yf P fk f0 f1 fb → post ((nI (cc_N P)), g_limit, g_calls, g_depth, g_cur, ok, c0, c1, cb, g_vn, g_built, g_chosen, g_top, g_outs, g_entries, b_len, b_kind, b_sd, b_ss, b_st, b_sa, b_sb, fk, f0, f1, fb, b_fact, b_factv, b_reach, b_vp, b_vm, b_vx, b_vy, b_sp, b_pc, b_sm, b_cell, b_outList, b_entryList)) :
    ∀ (n p : Nat) (ok c0 c1 cb : Int32) (fk f0 f1 fb : Nat → Int32), p ≤ cc_N P → cc_N P - p < n → (∀ q, q < p → cc_yd P fk f0 f1 fb q (cc_L P q)) →
      wY_forms_2 post n (nI p) (nI (cc_N P)) g_limit g_calls g_depth g_cur ok c0 c1 cb g_vn g_built g_chosen g_top g_outs g_entries b_len b_kind b_sd b_ss b_st b_sa b_sb fk f0 f1 fb b_fact b_factv b_reach b_vp b_vm b_vx b_vy b_sp b_pc b_sm b_cell b_outList b_entryList := by
  have N6 := W.2.1
  intro n
  induction n with
  | zero => intro p ok c0 c1 cb fk f0 f1 fb _ z; omega
  | succ n ih =>
    intro p ok c0 c1 cb fk f0 f1 fb hp hn I
    by_cases e : p = cc_N P
    · subst e
      exact br_t (nI_le (Nat.le_refl _) (by omega)) (h ok c0 c1 cb fk f0 f1 fb I)
    · refine br_f (nI_ge (show p < cc_N P by omega) (by omega)) ⟨9, ?_⟩
      have L8 := W.2.2.1 p (by omega)
      refine yw_f12 (o0 := fk) (h0 := f0) (h1 := f1) (hB := fb) W (show p < 6 by omega) (hL p (by omega)) y (fun ok c0 c1 cb fk f0 f1 fb a b => ih (p + 1) ok c0 c1 cb fk f0 f1 fb (by omega) (by omega) (fun q hq => ?_)) 9 0 ok c0 c1 cb fk f0 f1 fb (by omega) (by omega) (fun i hi => absurd hi (by omega)) (cc_un_r _)
      by_cases eq : q = p
      · subst eq; exact a
      · intro i hi v hv
        have L8' := W.2.2.1 q (by omega)
        exact cc_un_y b (by omega) (I q (by omega) i hi v hv)
theorem yw_forms {post : SY → Prop} {P : cc_Pg} (W : cc_wf P) (hL : ∀ p, p < 6 → b_len p = nI (cc_L P p)) (y : cc_yc P b_kind b_sd b_ss b_st b_sa b_sb)
    (h : ∀ ok c0 c1 cb fk f0 f1 fb, cc_yf P fk f0 f1 fb → post ((nI (cc_N P)), g_limit, g_calls, g_depth, g_cur, ok, c0, c1, cb, g_vn, g_built, g_chosen, g_top, g_outs, g_entries, b_len, b_kind, b_sd, b_ss, b_st, b_sa, b_sb, fk, f0, f1, fb, b_fact, b_factv, b_reach, b_vp, b_vm, b_vx, b_vy, b_sp, b_pc, b_sm, b_cell, b_outList, b_entryList)) : wpY_forms post ((nI (cc_N P)), g_limit, g_calls, g_depth, g_cur, g_ok, g_c0, g_c1, g_cb, g_vn, g_built, g_chosen, g_top, g_outs, g_entries, b_len, b_kind, b_sd, b_ss, b_st, b_sa, b_sb, b_fk, b_f0, b_f1, b_fb, b_fact, b_factv, b_reach, b_vp, b_vm, b_vx, b_vy, b_sp, b_pc, b_sm, b_cell, b_outList, b_entryList) := by
  have N6 := W.2.1
  exact ⟨7, yw_f2 W hL y h 7 0 g_ok g_c0 g_c1 g_cb b_fk b_f0 b_f1 b_fb (by omega) (by omega) (fun q hq => absurd hq (by omega))⟩
end
end
section
/-! Y: known, value, mark, mergedMask -/
def cc_bm (re : Nat → Int32) (f : Nat → Bool) : Prop := ∀ j, j < 20 → re j = cc_b (f j)
theorem cc_bm_u {re : Nat → Int32} {f g : Nat → Bool} {k : Nat} (h : cc_bm re f) (e : ∀ j, g j = (f j || decide (j = k))) : cc_bm (upd re k 1) g := by
  intro j hj
  rw [e j]
  by_cases z : j = k
  · subst z; rw [decide_eq_true rfl, Bool.or_true]; exact pk_us
  · rw [decide_eq_false z, Bool.or_false]; exact (pk_un z).trans (h j hj)
abbrev yw_A2 : Type := Int32 → Int32 → (Nat → Int32) → (Nat → Int32) → (Nat → Int32) → (Nat → Int32) → (Nat → Int32) → (Nat → Int32) → (Nat → Int32) → (Nat → Int32) → (Nat → Int32) → (Nat → Int32) → (Nat → Int32) → (Nat → Int32) → (Nat → Int32) → (Nat → Int32) → (Nat → Int32) → (Nat → Int32) → (Nat → Int32) → (Nat → Int32) → (Nat → Int32) → (Nat → Int32) → (Nat → Int32) → (Nat → Int32) → (Nat → Int32) → (Nat → Int32) → Prop
section
variable {g_procs g_limit g_calls g_depth g_cur g_ok g_c0 g_c1 g_cb g_vn g_built g_chosen g_top g_outs g_entries : Int32} {b_len b_kind b_sd b_ss b_st b_sa b_sb b_fk b_f0 b_f1 b_fb b_fact b_factv b_reach b_vp b_vm b_vx b_vy b_sp b_pc b_sm b_cell b_outList b_entryList : Nat → Int32}
theorem yw_known24 {post : Int32 → Prop} {k : Nat} (hk : k < 192) {f : cc_Fm} {c : cc_Cx} (r : cc_ry b_fk b_f0 b_f1 b_fb k f) (h1 : (cc_f1 f = 0 ∨ c.2 ≠ none) → post 1) (h0 : ¬ (cc_f1 f = 0 ∨ c.2 ≠ none) → post 0) : wY_known_24 post (nI k) (cc_cm c) g_procs g_limit g_calls g_depth g_cur g_ok g_c0 g_c1 g_cb g_vn g_built g_chosen g_top g_outs g_entries b_len b_kind b_sd b_ss b_st b_sa b_sb b_fk b_f0 b_f1 b_fb b_fact b_factv b_reach b_vp b_vm b_vx b_vy b_sp b_pc b_sm b_cell b_outList b_entryList := by
  have e : k < 2 ^ 31 := by omega
  refine And.intro (vp_in_nI hk (by decide)) ?_
  rw [ix_c b_f1 e, r.2.2.1]
  by_cases z : cc_f1 f = 0
  · exact br_t z (h1 (Or.inl z))
  · refine br_f z ?_
    by_cases y : c.2 = none
    · exact br_t ((cc_cm2 c).mpr y) (h0 (fun w => w.elim z (fun w => w y)))
    · exact br_f (fun w => y ((cc_cm2 c).mp w)) (h1 (Or.inr y))
theorem yw_known {post : Int32 → Prop} {k : Nat} (hk : k < 192) {f : cc_Fm} {c : cc_Cx} (r : cc_ry b_fk b_f0 b_f1 b_fb k f) (h : post (cc_b (cc_ev f c).isSome)) : wpY_known post (g_procs, g_limit, g_calls, g_depth, g_cur, g_ok, g_c0, g_c1, g_cb, g_vn, g_built, g_chosen, g_top, g_outs, g_entries, b_len, b_kind, b_sd, b_ss, b_st, b_sa, b_sb, b_fk, b_f0, b_f1, b_fb, b_fact, b_factv, b_reach, b_vp, b_vm, b_vx, b_vy, b_sp, b_pc, b_sm, b_cell, b_outList, b_entryList) (nI k) (cc_cm c) := by
  have e : k < 2 ^ 31 := by omega
  have hi : vp_in (nI k) 192 := vp_in_nI hk (by decide)
  refine And.intro hi ?_
  cases f with
  | none => exact br_t ((ix_c b_fk e).trans r.1) h
  | some t =>
    refine br_f (by rw [ix_c b_fk e, r.1]; exact ix_10) (And.intro hi ?_)
    have tail : (t.1 = 0 ∨ c.1 ≠ none) → wY_known_24 post (nI k) (cc_cm c) g_procs g_limit g_calls g_depth g_cur g_ok g_c0 g_c1 g_cb g_vn g_built g_chosen g_top g_outs g_entries b_len b_kind b_sd b_ss b_st b_sa b_sb b_fk b_f0 b_f1 b_fb b_fact b_factv b_reach b_vp b_vm b_vx b_vy b_sp b_pc b_sm b_cell b_outList b_entryList := by
      intro h1
      refine yw_known24 hk r (fun h2 => ?_) (fun h2 => ?_)
      · rw [cc_ev_t (t := t) (c := c) ⟨h1, h2⟩] at h; exact h
      · rw [cc_ev_f (t := t) (c := c) (fun z => h2 z.2)] at h; exact h
    rw [ix_c b_f0 e, r.2.1]
    show (t.1 = 0 → _) ∧ (¬ t.1 = 0 → _)
    by_cases z : t.1 = 0
    · exact br_t z (tail (Or.inl z))
    · refine br_f z ?_
      by_cases y : c.1 = none
      · rw [cc_ev_f (t := t) (c := c) (fun w => w.1.elim z (fun w => w y))] at h
        exact br_t ((cc_cm1 c).mpr y) h
      · exact br_f (fun w => y ((cc_cm1 c).mp w)) (tail (Or.inr y))
theorem yw_value {post : Int32 → Prop} {k : Nat} (hk : k < 192) {f : cc_Fm} {x y : Int32} (r : cc_ry b_fk b_f0 b_f1 b_fb k f) (h : post (cc_f0 f * x + cc_f1 f * y + cc_fb f)) : wpY_value post (g_procs, g_limit, g_calls, g_depth, g_cur, g_ok, g_c0, g_c1, g_cb, g_vn, g_built, g_chosen, g_top, g_outs, g_entries, b_len, b_kind, b_sd, b_ss, b_st, b_sa, b_sb, b_fk, b_f0, b_f1, b_fb, b_fact, b_factv, b_reach, b_vp, b_vm, b_vx, b_vy, b_sp, b_pc, b_sm, b_cell, b_outList, b_entryList) (nI k) x y := by
  have e : k < 2 ^ 31 := by omega
  have hi : vp_in (nI k) 192 := vp_in_nI hk (by decide)
  refine And.intro hi (And.intro hi (And.intro hi ?_))
  rw [ix_c b_f0 e, ix_c b_f1 e, ix_c b_fb e, r.2.1, r.2.2.1, r.2.2.2]
  exact h
theorem yw_180 {post : Int32 → SY → Prop} {J : yw_A2} {x1 x2 x3 x4 x5 : Int32} {i : Nat} (hi : i < 8) {f g : Nat → Bool} (I : cc_bm b_reach f) (e : ∀ j, g j = (f j || decide (j = i + 1)))
    (h : ∀ re, cc_bm re g → J x5 (nI (i + 1)) b_len b_kind b_sd b_ss b_st b_sa b_sb b_fk b_f0 b_f1 b_fb b_fact b_factv re b_vp b_vm b_vx b_vy b_sp b_pc b_sm b_cell b_outList b_entryList) : wY_mark_180 post J x1 x2 x3 x4 x5 (nI i) g_procs g_limit g_calls g_depth g_cur g_ok g_c0 g_c1 g_cb g_vn g_built g_chosen g_top g_outs g_entries b_len b_kind b_sd b_ss b_st b_sa b_sb b_fk b_f0 b_f1 b_fb b_fact b_factv b_reach b_vp b_vm b_vx b_vy b_sp b_pc b_sm b_cell b_outList b_entryList := by
  unfold wY_mark_180
  rw [nI_1]
  refine And.intro (vp_in_nI (by omega) (by decide)) (nm_e (nm_e (h _ ?_)))
  rw [nI_clamp (show i + 1 < 2 ^ 31 by omega), ix_n1]
  exact cc_bm_u I e
theorem cc_ky {P : cc_Pg} {kd sd ss st sa sb : Nat → Int32} {m i : Nat} (w : cc_w1 P m i) (y : cc_y1 P kd sd ss st sa sb m i) : (kd m = 2 ↔ cc_K P m = 5) ∧ (kd m = 3 ↔ cc_K P m = 6) ∧ (kd m = 0 ↔ cc_K P m = 4) ∧ (kd m = 1 ↔ cc_K P m ≤ 3) ∧ (kd m = 4 ↔ cc_K P m = 7) := by
  obtain ⟨y1, y2, y3, y4, y5, y6, y7, y8⟩ := y
  have w7 := w.1
  by_cases a : cc_K P m ≤ 3
  · rw [(y4 a).1]
    exact ⟨iff_of_false (by decide) (by omega), iff_of_false (by decide) (by omega), iff_of_false (by decide) (by omega), iff_of_true rfl a, iff_of_false (by decide) (by omega)⟩
  · by_cases b : cc_K P m = 4
    · rw [(y5 b).1]
      exact ⟨iff_of_false (by decide) (by omega), iff_of_false (by decide) (by omega), iff_of_true rfl b, iff_of_false (by decide) (by omega), iff_of_false (by decide) (by omega)⟩
    · by_cases c : cc_K P m = 5
      · rw [(y6 c).1]
        exact ⟨iff_of_true rfl c, iff_of_false (by decide) (by omega), iff_of_false (by decide) (by omega), iff_of_false (by decide) (by omega), iff_of_false (by decide) (by omega)⟩
      · by_cases d : cc_K P m = 6
        · rw [(y7 d).1]
          exact ⟨iff_of_false (by decide) (by omega), iff_of_true rfl d, iff_of_false (by decide) (by omega), iff_of_false (by decide) (by omega), iff_of_false (by decide) (by omega)⟩
        · rw [y8 (by omega)]
          exact ⟨iff_of_false (by decide) (by omega), iff_of_false (by decide) (by omega), iff_of_false (by decide) (by omega), iff_of_false (by decide) (by omega), iff_of_true rfl (by omega)⟩
theorem yw_mark39 {post : Int32 → SY → Prop} {P : cc_Pg} (W : cc_wf P) {p : Nat} (hp : p < cc_N P) (hL : b_len p = nI (cc_L P p)) (y : cc_yc P b_kind b_sd b_ss b_st b_sa b_sb) (R : cc_yd P b_fk b_f0 b_f1 b_fb p (cc_L P p)) {c : cc_Cx} {x3 x4 : Int32} (g : cc_gx c x3 x4)
    (h : ∀ re, cc_bm re (cc_rc P p c) → post (nI (cc_sz P p c)) (g_procs, g_limit, g_calls, g_depth, g_cur, g_ok, g_c0, g_c1, g_cb, g_vn, g_built, g_chosen, g_top, g_outs, g_entries, b_len, b_kind, b_sd, b_ss, b_st, b_sa, b_sb, b_fk, b_f0, b_f1, b_fb, b_fact, b_factv, re, b_vp, b_vm, b_vx, b_vy, b_sp, b_pc, b_sm, b_cell, b_outList, b_entryList)) :
    ∀ (n i : Nat) (re : Nat → Int32), i ≤ cc_L P p → cc_L P p - i < n → cc_bm re (cc_rs P p c i) → wY_mark_39 post (nI p) (cc_cm c) x3 x4 g_procs g_limit g_calls g_depth g_cur g_ok g_c0 g_c1 g_cb g_vn g_built g_chosen g_top g_outs g_entries n (nI (1 + cc_ct (cc_rc P p c) i)) (nI i) b_len b_kind b_sd b_ss b_st b_sa b_sb b_fk b_f0 b_f1 b_fb b_fact b_factv re b_vp b_vm b_vx b_vy b_sp b_pc b_sm b_cell b_outList b_entryList := by
  have h6 : p < 6 := Nat.lt_of_lt_of_le hp W.2.1
  have L8 := W.2.2.1 p h6
  intro n
  induction n with
  | zero => intro i re _ z; omega
  | succ n ih =>
    intro i re hi hn I
    refine And.intro (vp_in_nI h6 (by decide)) ?_
    rw [ix_c b_len (show p < 2 ^ 31 by omega), hL]
    by_cases e : i = cc_L P p
    · subst e
      exact br_t (nI_le (Nat.le_refl _) (by omega)) (h re I)
    · have hiL : i < cc_L P p := by omega
      have ei : i < 2 ^ 31 := by omega
      refine br_f (nI_ge hiL (by omega)) (And.intro (vp_in_nI (by omega) (by decide)) ?_)
      rw [ix_c re ei, I i (by omega)]
      have erc := cc_rc_at W h6 (c := c) (show i ≤ cc_L P p by omega)
      cases q : cc_rs P p c i i with
      | false =>
        refine br_t rfl (nm_r (e' := nI (i + 1)) (nI_1 i) ?_)
        have := ih (i + 1) re (by omega) (by omega) (fun j hj => by rw [cc_rs_s, q, Bool.false_and, Bool.or_false]; exact I j hj)
        rw [cc_ct, erc, q, if_neg (fun z => nomatch z)] at this
        exact this
      | true =>
        have w1 := W.2.2.2 p i h6 hiL
        have y1 := y p i h6 hiL
        have em : p * 8 + i < 2 ^ 31 := by omega
        have him : vp_in (nI (p * 8 + i)) 48 := vp_in_nI (by omega) (by decide)
        obtain ⟨ky, -⟩ := cc_ky w1 y1
        have rS := R i hiL _ w1.2.2.1
        have hS : (p * 8 + i) * 4 + cc_S P (p * 8 + i) < 192 := by have := w1.2.2.1; omega
        have J : ∀ re, cc_bm re (cc_rs P p c (i + 1)) → wY_mark_39 post (nI p) (cc_cm c) x3 x4 g_procs g_limit g_calls g_depth g_cur g_ok g_c0 g_c1 g_cb g_vn g_built g_chosen g_top g_outs g_entries n (nI (1 + cc_ct (cc_rc P p c) i + 1)) (nI (i + 1)) b_len b_kind b_sd b_ss b_st b_sa b_sb b_fk b_f0 b_f1 b_fb b_fact b_factv re b_vp b_vm b_vx b_vy b_sp b_pc b_sm b_cell b_outList b_entryList := by
          intro re I'
          have := ih (i + 1) re (by omega) (by omega) I'
          rw [cc_ct, erc, q, if_pos rfl, ← Nat.add_assoc] at this
          exact this
        refine br_f ix_10 (nm_r (e' := nI (p * 8 + i)) (ix_8 p i) (And.intro him (nm_r (e' := nI ((p * 8 + i) * 4 + cc_S P (p * 8 + i))) (by rw [ix_c b_ss em, y1.2.1]; exact ix_4 _ _) ?_)))
        refine yw_known hS rS (yw_value hS rS (nm_r (e' := nI (1 + cc_ct (cc_rc P p c) i + 1)) (nI_1 _) (And.intro him ?_)))
        have ft : ∀ {f : Nat → Bool} {x9 x10 : Int32} (re' : Nat → Int32), cc_bm re' f → (∀ j, cc_rs P p c (i + 1) j = (f j || decide (j = i + 1))) →
            wY_mark_180 post (wY_mark_39 post (nI p) (cc_cm c) x3 x4 g_procs g_limit g_calls g_depth g_cur g_ok g_c0 g_c1 g_cb g_vn g_built g_chosen g_top g_outs g_entries n) (nI p) (cc_cm c) x3 x4 (nI (1 + cc_ct (cc_rc P p c) i + 1)) (nI i) g_procs g_limit g_calls g_depth g_cur g_ok g_c0 g_c1 g_cb g_vn g_built g_chosen g_top g_outs g_entries b_len b_kind b_sd b_ss b_st b_sa b_sb b_fk b_f0 b_f1 b_fb b_fact b_factv re' b_vp b_vm b_vx b_vy b_sp b_pc b_sm b_cell b_outList b_entryList :=
          fun re' I' e' => yw_180 (by omega) I' e' J
        rw [ix_c b_kind em]
        by_cases k5 : cc_K P (p * 8 + i) = 5
        · obtain ⟨z1, z2, z3⟩ := y1.2.2.2.2.2.1 k5
          obtain ⟨G1, G2, G3⟩ := w1.2.2.2.2.2 k5
          have eG : (nI i + 1) + b_sb (nI (p * 8 + i)).toNatClampNeg = nI (cc_G P (p * 8 + i)) := by
            rw [ix_c b_sb em, z3, nI_1, nI_add]; congr 1; omega
          have f134 : ∀ {x9 x10 : Int32}, (∀ re', cc_bm re' (fun j => cc_rs P p c i j || decide (j = cc_G P (p * 8 + i))) → wY_mark_152 post (wY_mark_39 post (nI p) (cc_cm c) x3 x4 g_procs g_limit g_calls g_depth g_cur g_ok g_c0 g_c1 g_cb g_vn g_built g_chosen g_top g_outs g_entries n) (nI p) (cc_cm c) x3 x4 (nI (1 + cc_ct (cc_rc P p c) i + 1)) (nI i) (nI (p * 8 + i)) x9 x10 g_procs g_limit g_calls g_depth g_cur g_ok g_c0 g_c1 g_cb g_vn g_built g_chosen g_top g_outs g_entries b_len b_kind b_sd b_ss b_st b_sa b_sb b_fk b_f0 b_f1 b_fb b_fact b_factv re' b_vp b_vm b_vx b_vy b_sp b_pc b_sm b_cell b_outList b_entryList) →
              wY_mark_134 post (wY_mark_39 post (nI p) (cc_cm c) x3 x4 g_procs g_limit g_calls g_depth g_cur g_ok g_c0 g_c1 g_cb g_vn g_built g_chosen g_top g_outs g_entries n) (nI p) (cc_cm c) x3 x4 (nI (1 + cc_ct (cc_rc P p c) i + 1)) (nI i) (nI (p * 8 + i)) x9 x10 g_procs g_limit g_calls g_depth g_cur g_ok g_c0 g_c1 g_cb g_vn g_built g_chosen g_top g_outs g_entries b_len b_kind b_sd b_ss b_st b_sa b_sb b_fk b_f0 b_f1 b_fb b_fact b_factv re b_vp b_vm b_vx b_vy b_sp b_pc b_sm b_cell b_outList b_entryList := by
            intro x9 x10 hh
            unfold wY_mark_134
            rw [eG]
            refine And.intro him (And.intro (vp_in_nI (by omega) (by decide)) (nm_e (hh _ ?_)))
            rw [nI_clamp (show cc_G P (p * 8 + i) < 2 ^ 31 by omega), ix_n1]
            exact cc_bm_u I (fun j => rfl)
          refine br_t (ky.mpr k5) ?_
          cases ev : cc_ev (cc_fm P (p * 8 + i) (cc_S P (p * 8 + i))) c with
          | none =>
            refine br_t rfl (f134 (fun re' I' => ?_))
            unfold wY_mark_152
            rw [ix_c b_kind em]
            refine And.intro him (br_t (ky.mpr k5) (br_t rfl (ft (x9 := 0) (x10 := 0) re' I' (fun j => ?_))))
            rw [cc_rs_s, q, cc_sc_u k5 ev, Bool.true_and, Bool.or_assoc, Bool.or_comm (decide (j = i + 1))]
          | some v =>
            have eval := cc_ev_v ev g
            rw [eval, ix_c b_sa em, z2]
            refine br_f ix_10 (And.intro him ?_)
            by_cases zv : v = cc_A P (p * 8 + i)
            · refine br_t zv (f134 (fun re' I' => ?_))
              unfold wY_mark_152
              rw [ix_c b_kind em, ix_c b_sa em, z2]
              refine And.intro him (br_t (ky.mpr k5) (br_f ix_10 (And.intro him (br_t zv (nm_r (e' := nI (i + 1)) (nI_1 i) (J re' (fun j hj => ?_)))))))
              rw [I' j hj, cc_rs_s, q, cc_sc_t k5 (by rw [ev, zv]), Bool.true_and]
            · refine br_f zv ?_
              unfold wY_mark_152
              rw [ix_c b_kind em, ix_c b_sa em, z2]
              refine And.intro him (br_t (ky.mpr k5) (br_f ix_10 (And.intro him (br_f zv (ft (x9 := 0) (x10 := 0) re I (fun j => ?_))))))
              rw [cc_rs_s, q, cc_sc_f k5 ev zv, Bool.true_and]
        · refine br_f (fun z => k5 (ky.mp z)) ?_
          unfold wY_mark_152
          rw [ix_c b_kind em]
          refine And.intro him (br_f (fun z => k5 (ky.mp z)) (ft (x9 := 0) (x10 := 0) re I (fun j => ?_)))
          rw [cc_rs_s, q, cc_sc_n k5, Bool.true_and]
theorem yw_mark6 {post : Int32 → SY → Prop} {P : cc_Pg} (W : cc_wf P) {p : Nat} (hp : p < cc_N P) (hL : b_len p = nI (cc_L P p)) (y : cc_yc P b_kind b_sd b_ss b_st b_sa b_sb) (R : cc_yd P b_fk b_f0 b_f1 b_fb p (cc_L P p)) {c : cc_Cx} {x3 x4 : Int32} (g : cc_gx c x3 x4)
    (h : ∀ re, cc_bm re (cc_rc P p c) → post (nI (cc_sz P p c)) (g_procs, g_limit, g_calls, g_depth, g_cur, g_ok, g_c0, g_c1, g_cb, g_vn, g_built, g_chosen, g_top, g_outs, g_entries, b_len, b_kind, b_sd, b_ss, b_st, b_sa, b_sb, b_fk, b_f0, b_f1, b_fb, b_fact, b_factv, re, b_vp, b_vm, b_vx, b_vy, b_sp, b_pc, b_sm, b_cell, b_outList, b_entryList)) :
    ∀ (n i : Nat) (re : Nat → Int32), i ≤ 20 → 20 - i < n → (∀ j, j < i → re j = cc_b (decide (j = 0))) → wY_mark_6 post (nI p) (cc_cm c) x3 x4 1 g_procs g_limit g_calls g_depth g_cur g_ok g_c0 g_c1 g_cb g_vn g_built g_chosen g_top g_outs g_entries n (nI i) b_len b_kind b_sd b_ss b_st b_sa b_sb b_fk b_f0 b_f1 b_fb b_fact b_factv re b_vp b_vm b_vx b_vy b_sp b_pc b_sm b_cell b_outList b_entryList := by
  intro n
  induction n with
  | zero => intro i re _ z; omega
  | succ n ih =>
    intro i re hi hn I
    by_cases e : i = 20
    · subst e
      have L8 := W.2.2.1 p (Nat.lt_of_lt_of_le hp W.2.1)
      exact br_t (show (20 : Int32) ≤ nI 20 from Int32.le_refl _) ⟨9, yw_mark39 W hp hL y R g h 9 0 re (by omega) (by omega) (fun j hj => I j hj)⟩
    · refine br_f (nI_ge (b := 20) (by omega) (by decide)) ?_
      have ei : i < 2 ^ 31 := by omega
      have hii : vp_in (nI i) 20 := vp_in_nI (by omega) (by decide)
      have fin : ∀ b, b = decide (i = 0) → ∀ j, j < i + 1 → upd re i (cc_b b) j = cc_b (decide (j = 0)) := by
        intro b eb j hj
        by_cases ej : j = i
        · subst ej; rw [eb]; exact pk_us
        · exact (pk_un ej).trans (I j (by omega))
      by_cases i0 : i = 0
      · refine br_t (by rw [i0]; rfl) (And.intro hii (nm_e (nm_r (e' := nI (i + 1)) (nI_1 i) (ih (i + 1) _ (by omega) (by omega) ?_))))
        rw [nI_clamp ei, ix_n1]; exact fin true (decide_eq_true i0).symm
      · refine br_f (fun z => i0 ((nI_eq ei (by decide)).mp z)) (And.intro hii (nm_e (nm_r (e' := nI (i + 1)) (nI_1 i) (ih (i + 1) _ (by omega) (by omega) ?_))))
        rw [nI_clamp ei, ix_n0]; exact fin false (decide_eq_false i0).symm
theorem yw_mark {post : Int32 → SY → Prop} {P : cc_Pg} (W : cc_wf P) {p : Nat} (hp : p < cc_N P) (hL : b_len p = nI (cc_L P p)) (y : cc_yc P b_kind b_sd b_ss b_st b_sa b_sb) (R : cc_yd P b_fk b_f0 b_f1 b_fb p (cc_L P p)) {c : cc_Cx} {x3 x4 : Int32} (g : cc_gx c x3 x4)
    (h : ∀ re, cc_bm re (cc_rc P p c) → post (nI (cc_sz P p c)) (g_procs, g_limit, g_calls, g_depth, g_cur, g_ok, g_c0, g_c1, g_cb, g_vn, g_built, g_chosen, g_top, g_outs, g_entries, b_len, b_kind, b_sd, b_ss, b_st, b_sa, b_sb, b_fk, b_f0, b_f1, b_fb, b_fact, b_factv, re, b_vp, b_vm, b_vx, b_vy, b_sp, b_pc, b_sm, b_cell, b_outList, b_entryList)) : wpY_mark post (g_procs, g_limit, g_calls, g_depth, g_cur, g_ok, g_c0, g_c1, g_cb, g_vn, g_built, g_chosen, g_top, g_outs, g_entries, b_len, b_kind, b_sd, b_ss, b_st, b_sa, b_sb, b_fk, b_f0, b_f1, b_fb, b_fact, b_factv, b_reach, b_vp, b_vm, b_vx, b_vy, b_sp, b_pc, b_sm, b_cell, b_outList, b_entryList) (nI p) (cc_cm c) x3 x4 :=
  ⟨21, yw_mark6 W hp hL y R g h 21 0 b_reach (by omega) (by omega) (fun j hj => absurd hj (by omega))⟩
theorem yw_mergedMask {post : Int32 → Prop} {p : Nat} (hp : p < 6) {F : Nat → cc_Lt} (r : cc_rf b_fact b_factv F) (h : post (cc_cm (cc_fc F p))) : wpY_mergedMask post (g_procs, g_limit, g_calls, g_depth, g_cur, g_ok, g_c0, g_c1, g_cb, g_vn, g_built, g_chosen, g_top, g_outs, g_entries, b_len, b_kind, b_sd, b_ss, b_st, b_sa, b_sb, b_fk, b_f0, b_f1, b_fb, b_fact, b_factv, b_reach, b_vp, b_vm, b_vx, b_vy, b_sp, b_pc, b_sm, b_cell, b_outList, b_entryList) (nI p) := by
  have e0 := (r (2 * p) (by omega)).1
  have e1 := (r (2 * p + 1) (by omega)).1
  have t17 : ∀ z0 : Int32, (cc_lf (F (2 * p + 1)) = 3 → post (z0 + 2)) → (¬ cc_lf (F (2 * p + 1)) = 3 → post (z0 + 0)) → wY_mergedMask_17 post (nI p) z0 g_procs g_limit g_calls g_depth g_cur g_ok g_c0 g_c1 g_cb g_vn g_built g_chosen g_top g_outs g_entries b_len b_kind b_sd b_ss b_st b_sa b_sb b_fk b_f0 b_f1 b_fb b_fact b_factv b_reach b_vp b_vm b_vx b_vy b_sp b_pc b_sm b_cell b_outList b_entryList := by
    intro z0 h1 h2
    unfold wY_mergedMask_17
    rw [ix_r21, ix_c b_fact (by omega), e1]
    exact And.intro (vp_in_nI (by omega) (by decide)) (br_c h1 h2)
  unfold wpY_mergedMask
  dsimp only
  rw [ix_r20, ix_c b_fact (by omega), e0]
  refine And.intro (vp_in_nI (by omega) (by decide)) (br_c (fun y => t17 1 (fun z => ?_) (fun z => ?_)) (fun y => t17 0 (fun z => ?_) (fun z => ?_)))
  · rw [cc_cm_11 (c := cc_fc F p) (cc_lf_3.mp y) (cc_lf_3.mp z)] at h; exact h
  · rw [cc_cm_10 (c := cc_fc F p) (cc_lf_3.mp y) (Classical.byContradiction fun w => z (cc_lf_3.mpr w))] at h; exact h
  · rw [cc_cm_01 (c := cc_fc F p) (Classical.byContradiction fun w => y (cc_lf_3.mpr w)) (cc_lf_3.mp z)] at h; exact h
  · rw [cc_cm_00 (c := cc_fc F p) (Classical.byContradiction fun w => y (cc_lf_3.mpr w)) (Classical.byContradiction fun w => z (cc_lf_3.mpr w))] at h; exact h
end
end
section
/-! Y: facts -/
abbrev yw_A1 : Type := Int32 → (Nat → Int32) → (Nat → Int32) → (Nat → Int32) → (Nat → Int32) → (Nat → Int32) → (Nat → Int32) → (Nat → Int32) → (Nat → Int32) → (Nat → Int32) → (Nat → Int32) → (Nat → Int32) → (Nat → Int32) → (Nat → Int32) → (Nat → Int32) → (Nat → Int32) → (Nat → Int32) → (Nat → Int32) → (Nat → Int32) → (Nat → Int32) → (Nat → Int32) → (Nat → Int32) → (Nat → Int32) → (Nat → Int32) → (Nat → Int32) → Prop
theorem cc_half (k : Nat) (h : k < 2 ^ 31) : nI k / 2 = nI (k / 2) := pk_div (d := 2) h (by decide) (by decide)
theorem cc_odd (k : Nat) (h : k < 2 ^ 31) : nI k - nI k / 2 * 2 = nI (k % 2) := pk_rem (d := 2) h (by decide) (by decide)
section
variable {g_procs g_limit g_calls g_depth g_cur g_ok g_c0 g_c1 g_cb g_vn g_built g_chosen g_top g_outs g_entries : Int32} {b_len b_kind b_sd b_ss b_st b_sa b_sb b_fk b_f0 b_f1 b_fb b_fact b_factv b_reach b_vp b_vm b_vx b_vy b_sp b_pc b_sm b_cell b_outList b_entryList : Nat → Int32}
theorem yw_f290 {post : SY → Prop} {J39 J47 : yw_J} {J : yw_A1} {x1 x2 x3 x4 x5 : Int32} {k j : Nat} (hk : k < 12) {F : Nat → cc_Lt} {x : Option Int32} (r : cc_rf b_fact b_factv F) (e : cc_mt (F k) x = some none)
    (h : ∀ fa fv, cc_rf fa fv (cc_a1 F k x) → J (nI (j + 1)) b_len b_kind b_sd b_ss b_st b_sa b_sb b_fk b_f0 b_f1 b_fb fa fv b_reach b_vp b_vm b_vx b_vy b_sp b_pc b_sm b_cell b_outList b_entryList) : wY_facts_290 post J39 J47 J x1 x2 x3 x4 x5 (nI j) (nI k) g_procs g_limit g_calls g_depth g_cur g_ok g_c0 g_c1 g_cb g_vn g_built g_chosen g_top g_outs g_entries b_len b_kind b_sd b_ss b_st b_sa b_sb b_fk b_f0 b_f1 b_fb b_fact b_factv b_reach b_vp b_vm b_vx b_vy b_sp b_pc b_sm b_cell b_outList b_entryList := by
  have ek : k < 2 ^ 31 := by omega
  have hik : vp_in (nI k) 12 := vp_in_nI hk (by decide)
  refine And.intro hik (nm_e (And.intro hik (nm_e (nm_r (e' := nI (j + 1)) (nI_1 j) (h _ _ (fun i hi => ?_))))))
  rw [nI_clamp ek]
  by_cases z : i = k
  · subst z; rw [cc_a1_s, e]; exact ⟨pk_us, pk_us⟩
  · rw [cc_a1_n F x z]; exact ⟨(pk_un z).trans (r i hi).1, (pk_un z).trans (r i hi).2⟩
theorem yw_f188 {post : SY → Prop} {J39 J47 : yw_J} {J : yw_A1} {x1 x2 x4 x5 z0 z1 : Int32} {m k s j : Nat} {c : cc_Cx} (g : cc_gx c x4 x5) (hm : m < 48) (hs : s < 192) (ez : z1 + z0 = nI s) {q kk : Nat} (hq : q < 6) (hkk : kk < 2) (hk : 2 * q + kk = k) (ea : b_sa m = nI q) {f : cc_Fm} (rs : cc_ry b_fk b_f0 b_f1 b_fb s f) {F : Nat → cc_Lt} (r : cc_rf b_fact b_factv F)
    (h : ∀ fa fv, cc_rf fa fv (cc_a1 F k (cc_ev f c)) → J (nI (j + 1)) b_len b_kind b_sd b_ss b_st b_sa b_sb b_fk b_f0 b_f1 b_fb fa fv b_reach b_vp b_vm b_vx b_vy b_sp b_pc b_sm b_cell b_outList b_entryList) : wY_facts_188 post J39 J47 J x1 x2 (cc_cm c) x4 x5 (nI j) (nI m) (nI kk) z0 z1 g_procs g_limit g_calls g_depth g_cur g_ok g_c0 g_c1 g_cb g_vn g_built g_chosen g_top g_outs g_entries b_len b_kind b_sd b_ss b_st b_sa b_sb b_fk b_f0 b_f1 b_fb b_fact b_factv b_reach b_vp b_vm b_vx b_vy b_sp b_pc b_sm b_cell b_outList b_entryList := by
  have em : m < 2 ^ 31 := by omega
  have ek : k < 2 ^ 31 := by omega
  have hk12 : k < 12 := by omega
  have hik : vp_in (nI k) 12 := vp_in_nI hk12 (by decide)
  obtain ⟨rk, rv⟩ := r k hk12
  have rk' := (ix_c b_fact ek).trans rk
  have rv' := (ix_c b_factv ek).trans rv
  refine nm_r (e' := nI s) ez (And.intro (vp_in_nI hm (by decide)) (nm_r (e' := nI k) (by rw [ix_c b_sa em, ea, ix_r20, nI_add, hk]) (yw_known hs rs (yw_value hs rs ?_))))
  have same : cc_mt (F k) (cc_ev f c) = F k → J (nI (j + 1)) b_len b_kind b_sd b_ss b_st b_sa b_sb b_fk b_f0 b_f1 b_fb b_fact b_factv b_reach b_vp b_vm b_vx b_vy b_sp b_pc b_sm b_cell b_outList b_entryList := fun e => h _ _ (by rw [cc_a1_id e]; exact r)
  cases ev : cc_ev f c with
  | none =>
    rw [ev] at h
    refine br_t rfl (br_t rfl (yw_f290 hk12 r ?_ h))
    rcases F k with _ | _ | w
    · rfl
    · exact cc_mt_v _
    · rfl
  | some v =>
    rw [ev] at h same
    rw [cc_ev_v ev g]
    refine br_f ix_10 (And.intro hik ?_)
    rw [rk']
    rcases eF : F k with _ | _ | w
    · refine br_t rfl (And.intro hik (nm_e (And.intro hik (nm_e (nm_r (e' := nI (j + 1)) (nI_1 j) (h _ _ (fun i hi => ?_)))))))
      rw [nI_clamp ek]
      by_cases z : i = k
      · subst z; rw [cc_a1_s, eF]; exact ⟨pk_us, pk_us⟩
      · rw [cc_a1_n F _ z]; exact ⟨(pk_un z).trans (r i hi).1, (pk_un z).trans (r i hi).2⟩
    · refine br_f (show ¬ (2 : Int32) = 1 by decide) (br_f ix_10 (And.intro hik ?_))
      rw [rk', eF]
      exact br_f (show ¬ (2 : Int32) = 3 by decide) (nm_r (e' := nI (j + 1)) (nI_1 j) (same (by rw [eF]; exact cc_mt_v _)))
    · refine br_f (show ¬ (3 : Int32) = 1 by decide) (br_f ix_10 (And.intro hik ?_))
      rw [rk', eF]
      refine br_t rfl (And.intro hik ?_)
      rw [rv', eF]
      show (w = v → _) ∧ (¬ w = v → _)
      by_cases ew : w = v
      · exact br_t ew (nm_r (e' := nI (j + 1)) (nI_1 j) (same (by rw [eF, ew]; unfold cc_mt; dsimp only; rw [if_pos rfl])))
      · refine br_f ew (yw_f290 hk12 r ?_ h)
        rw [eF]; unfold cc_mt; dsimp only; rw [if_neg (fun z => ew (Option.some.inj z))]
/-- one of the two arguments of statement i -/
def cc_aw (P : cc_Pg) (p : Nat) (c : cc_Cx) (F : Nat → cc_Lt) (i kk : Nat) : Nat → cc_Lt :=
  if cc_K P (p * 8 + i) = 6 ∧ cc_rc P p c i = true then cc_a1 F (2 * cc_Q P (p * 8 + i) + kk) (cc_ev (cc_fm P (p * 8 + i) (if kk = 0 then cc_S P (p * 8 + i) else cc_T P (p * 8 + i))) c) else F
theorem yw_f109s {post : SY → Prop} {J39 J47 : yw_J} {P : cc_Pg} (W : cc_wf P) {p : Nat} (hp : p < cc_N P) (hL : b_len p = nI (cc_L P p)) (y : cc_yc P b_kind b_sd b_ss b_st b_sa b_sb) (R : cc_yd P b_fk b_f0 b_f1 b_fb p (cc_L P p)) {c : cc_Cx} {x1 x4 x5 : Int32} (g : cc_gx c x4 x5) (hr : cc_bm b_reach (cc_rc P p c)) {F : Nat → cc_Lt} {i kk n : Nat} (hi : i < cc_L P p) (hkk : kk < 2) (r : cc_rf b_fact b_factv F)
    (h : ∀ fa fv, cc_rf fa fv (cc_aw P p c F i kk) → wY_facts_109 post J39 J47 x1 (nI p) (cc_cm c) x4 x5 g_procs g_limit g_calls g_depth g_cur g_ok g_c0 g_c1 g_cb g_vn g_built g_chosen g_top g_outs g_entries n (nI (2 * i + kk + 1)) b_len b_kind b_sd b_ss b_st b_sa b_sb b_fk b_f0 b_f1 b_fb fa fv b_reach b_vp b_vm b_vx b_vy b_sp b_pc b_sm b_cell b_outList b_entryList) :
    wY_facts_109 post J39 J47 x1 (nI p) (cc_cm c) x4 x5 g_procs g_limit g_calls g_depth g_cur g_ok g_c0 g_c1 g_cb g_vn g_built g_chosen g_top g_outs g_entries (n + 1) (nI (2 * i + kk)) b_len b_kind b_sd b_ss b_st b_sa b_sb b_fk b_f0 b_f1 b_fb b_fact b_factv b_reach b_vp b_vm b_vx b_vy b_sp b_pc b_sm b_cell b_outList b_entryList := by
  have h6 : p < 6 := Nat.lt_of_lt_of_le hp W.2.1
  have L8 := W.2.2.1 p h6
  have N6 := W.2.1
  have ej : 2 * i + kk < 2 ^ 31 := by omega
  have e2 : (2 * i + kk) / 2 = i := by omega
  have e3 : (2 * i + kk) % 2 = kk := by omega
  have em : p * 8 + i < 2 ^ 31 := by omega
  have him : vp_in (nI (p * 8 + i)) 48 := vp_in_nI (by omega) (by decide)
  have w1 := W.2.2.2 p i h6 hi
  have y1 := y p i h6 hi
  obtain ⟨-, k3, -⟩ := cc_ky w1 y1
  refine And.intro (vp_in_nI h6 (by decide)) ?_
  rw [ix_c b_len (show p < 2 ^ 31 by omega), hL, cc_odd _ ej, cc_half _ ej, e2, e3, ix_8]
  have eL : nI (cc_L P p) * 2 = nI (cc_L P p * 2) := pk_mul _ 2
  rw [eL]
  refine br_f (nI_ge (show 2 * i + kk < cc_L P p * 2 by omega) (by omega)) (And.intro (by decide) (nm_e (And.intro (by decide) (nm_e (And.intro (by decide) (And.intro (vp_in_nI (by omega) (by decide)) ?_))))))
  rw [ix_c b_reach (show i < 2 ^ 31 by omega), hr i (by omega)]
  unfold cc_aw at h
  cases q : cc_rc P p c i with
  | false =>
    rw [q, if_neg (fun z => nomatch z.2)] at h
    exact br_t rfl (nm_r (e' := nI (2 * i + kk + 1)) (nI_1 _) (h _ _ r))
  | true =>
    refine br_f ix_10 (And.intro him ?_)
    rw [ix_c b_kind em]
    by_cases k6 : cc_K P (p * 8 + i) = 6
    · obtain ⟨z1, z2⟩ := y1.2.2.2.2.2.2.1 k6
      obtain ⟨hQ, hA⟩ := w1.2.2.2.2.1 k6
      rw [if_pos ⟨k6, q⟩] at h
      refine br_t (k3.mpr k6) ?_
      have hSl := w1.2.2.1
      have hTl := w1.2.2.2.1
      by_cases k0 : kk = 0
      · subst k0
        refine br_t rfl (And.intro him ?_)
        rw [ix_c b_ss em, y1.2.1]
        exact yw_f188 g (by omega) (show (p * 8 + i) * 4 + cc_S P (p * 8 + i) < 192 by omega) (ix_4 _ _) (show cc_Q P (p * 8 + i) < 6 by omega) hkk rfl (z2.trans hA) (R i hi _ hSl) r h
      · have k1 : kk = 1 := by omega
        subst k1
        refine br_f ix_10 (And.intro him ?_)
        rw [ix_c b_st em, y1.2.2.1]
        exact yw_f188 g (by omega) (show (p * 8 + i) * 4 + cc_T P (p * 8 + i) < 192 by omega) (ix_4 _ _) (show cc_Q P (p * 8 + i) < 6 by omega) hkk rfl (z2.trans hA) (R i hi _ hTl) r h
    · rw [if_neg (fun z => k6 z.1)] at h
      exact br_f (fun z => k6 (k3.mp z)) (nm_r (e' := nI (2 * i + kk + 1)) (nI_1 _) (h _ _ r))
theorem cc_aw_vs {P : cc_Pg} {p i : Nat} {c : cc_Cx} {F : Nat → cc_Lt} (hi : i < cc_L P p) : cc_aw P p c (cc_aw P p c (cc_vs P p c F i) i 0) i 1 = cc_vs P p c F (i + 1) := by
  unfold cc_aw
  by_cases q : cc_K P (p * 8 + i) = 6 ∧ cc_rc P p c i = true
  · rw [if_pos q, if_pos q, cc_vs_t hi q.1 q.2]; rfl
  · rw [if_neg q, if_neg q, cc_vs_f (fun z => q z.2)]
theorem yw_f109 {post : SY → Prop} {J39 J47 : yw_J} {P : cc_Pg} (W : cc_wf P) {p : Nat} (hp : p < cc_N P) (hL : b_len p = nI (cc_L P p)) (y : cc_yc P b_kind b_sd b_ss b_st b_sa b_sb) (R : cc_yd P b_fk b_f0 b_f1 b_fb p (cc_L P p)) {c : cc_Cx} {x1 x4 x5 : Int32} (g : cc_gx c x4 x5) (hr : cc_bm b_reach (cc_rc P p c)) {F : Nat → cc_Lt}
    (h : ∀ fa fv, cc_rf fa fv (cc_vs P p c F (cc_L P p)) → J47 (nI (p + 1)) g_procs g_limit g_calls g_depth g_cur g_ok g_c0 g_c1 g_cb g_vn g_built g_chosen g_top g_outs g_entries b_len b_kind b_sd b_ss b_st b_sa b_sb b_fk b_f0 b_f1 b_fb fa fv b_reach b_vp b_vm b_vx b_vy b_sp b_pc b_sm b_cell b_outList b_entryList) :
    ∀ (d i : Nat) (fa fv : Nat → Int32), i + d = cc_L P p → cc_rf fa fv (cc_vs P p c F i) → wY_facts_109 post J39 J47 x1 (nI p) (cc_cm c) x4 x5 g_procs g_limit g_calls g_depth g_cur g_ok g_c0 g_c1 g_cb g_vn g_built g_chosen g_top g_outs g_entries (2 * d + 1) (nI (2 * i)) b_len b_kind b_sd b_ss b_st b_sa b_sb b_fk b_f0 b_f1 b_fb fa fv b_reach b_vp b_vm b_vx b_vy b_sp b_pc b_sm b_cell b_outList b_entryList := by
  have h6 : p < 6 := Nat.lt_of_lt_of_le hp W.2.1
  have L8 := W.2.2.1 p h6
  intro d
  induction d with
  | zero =>
    intro i fa fv hi I
    have e : i = cc_L P p := by omega
    subst e
    refine And.intro (vp_in_nI h6 (by decide)) ?_
    rw [ix_c b_len (show p < 2 ^ 31 by omega), hL]
    refine br_t ?_ (nm_r (e' := nI (p + 1)) (nI_1 p) (h fa fv I))
    rw [show nI (cc_L P p) * 2 = nI (2 * cc_L P p) from ix_r20 _]
    exact nI_le (Nat.le_refl _) (by omega)
  | succ d ih =>
    intro i fa fv hi I
    refine yw_f109s (kk := 0) W hp hL y R g hr (by omega) (by omega) I (fun fa1 fv1 r1 => ?_)
    refine yw_f109s (kk := 1) W hp hL y R g hr (by omega) (by omega) r1 (fun fa2 fv2 r2 => ?_)
    rw [cc_aw_vs (by omega)] at r2
    exact ih (i + 1) fa2 fv2 (by omega) r2
theorem yw_f47 {post : SY → Prop} {J39 : yw_J} {P : cc_Pg} (W : cc_wf P) (hL : ∀ p, p < 6 → b_len p = nI (cc_L P p)) (y : cc_yc P b_kind b_sd b_ss b_st b_sa b_sb) (R : cc_yf P b_fk b_f0 b_f1 b_fb) {F : Nat → cc_Lt} {k : Nat}
    (h : ∀ fa fv re, cc_rf fa fv (cc_sp P F (cc_N P)) → J39 (nI (k + 1)) (nI (cc_N P)) g_limit g_calls g_depth g_cur g_ok g_c0 g_c1 g_cb g_vn g_built g_chosen g_top g_outs g_entries b_len b_kind b_sd b_ss b_st b_sa b_sb b_fk b_f0 b_f1 b_fb fa fv re b_vp b_vm b_vx b_vy b_sp b_pc b_sm b_cell b_outList b_entryList) :
    ∀ (n p : Nat) (fa fv re : Nat → Int32), p ≤ cc_N P → cc_N P - p < n → cc_rf fa fv (cc_sp P F p) → wY_facts_47 post J39 (nI k) n (nI p) (nI (cc_N P)) g_limit g_calls g_depth g_cur g_ok g_c0 g_c1 g_cb g_vn g_built g_chosen g_top g_outs g_entries b_len b_kind b_sd b_ss b_st b_sa b_sb b_fk b_f0 b_f1 b_fb fa fv re b_vp b_vm b_vx b_vy b_sp b_pc b_sm b_cell b_outList b_entryList := by
  have N6 := W.2.1
  intro n
  induction n with
  | zero => intro p fa fv re _ z; omega
  | succ n ih =>
    intro p fa fv re hp hn I
    by_cases e : p = cc_N P
    · subst e
      exact br_t (nI_le (Nat.le_refl _) (by omega)) (nm_r (e' := nI (k + 1)) (nI_1 k) (h fa fv re I))
    · have hpN : p < cc_N P := by omega
      have hp6 : p < 6 := by omega
      refine br_f (nI_ge hpN (by omega)) ?_
      rw [ix_r21, ix_r20, ix_c fa (show 2 * p < 2 ^ 31 by omega), (I (2 * p) (by omega)).1]
      refine And.intro (vp_in_nI (by omega) (by decide)) ?_
      by_cases nn : cc_sp P F p (2 * p) = none
      · refine br_t (cc_lf_1.mpr nn) (nm_r (e' := nI (p + 1)) (nI_1 p) (ih (p + 1) fa fv re (by omega) (by omega) ?_))
        rw [cc_sp_n nn]; exact I
      · refine br_f (fun z => nn (cc_lf_1.mp z)) (yw_mergedMask hp6 I (And.intro (vp_in_nI (by omega) (by decide)) (nm_r (e' := cc_cx (cc_fc (cc_sp P F p) p)) ((ix_c fv (by omega)).trans (I (2 * p) (by omega)).2) (And.intro (vp_in_nI (by omega) (by decide)) (nm_r (e' := cc_cy (cc_fc (cc_sp P F p) p)) ((ix_c fv (by omega)).trans (I (2 * p + 1) (by omega)).2) ?_)))))
        refine yw_mark W hpN (hL p hp6) y (R p hpN) (cc_gx0 _) (fun re' hr => ⟨2 * cc_L P p + 1, ?_⟩)
        refine yw_f109 (F := cc_sp P F p) W hpN (hL p hp6) y (R p hpN) (cc_gx0 _) hr (fun fa2 fv2 r2 => ?_) (cc_L P p) 0 fa fv (by omega) I
        exact ih (p + 1) fa2 fv2 re' (by omega) (by omega) (by rw [cc_sp_s nn]; exact r2)
theorem yw_f39 {post : SY → Prop} {P : cc_Pg} (W : cc_wf P) (hL : ∀ p, p < 6 → b_len p = nI (cc_L P p)) (y : cc_yc P b_kind b_sd b_ss b_st b_sa b_sb) (R : cc_yf P b_fk b_f0 b_f1 b_fb)
    (h : ∀ fa fv re, cc_rf fa fv (cc_rd P 24) → post ((nI (cc_N P)), g_limit, g_calls, g_depth, g_cur, g_ok, g_c0, g_c1, g_cb, g_vn, g_built, g_chosen, g_top, g_outs, g_entries, b_len, b_kind, b_sd, b_ss, b_st, b_sa, b_sb, b_fk, b_f0, b_f1, b_fb, fa, fv, re, b_vp, b_vm, b_vx, b_vy, b_sp, b_pc, b_sm, b_cell, b_outList, b_entryList)) :
    ∀ (n k : Nat) (fa fv re : Nat → Int32), k ≤ 24 → 24 - k < n → cc_rf fa fv (cc_rd P k) → wY_facts_39 post n (nI k) (nI (cc_N P)) g_limit g_calls g_depth g_cur g_ok g_c0 g_c1 g_cb g_vn g_built g_chosen g_top g_outs g_entries b_len b_kind b_sd b_ss b_st b_sa b_sb b_fk b_f0 b_f1 b_fb fa fv re b_vp b_vm b_vx b_vy b_sp b_pc b_sm b_cell b_outList b_entryList := by
  have N6 := W.2.1
  intro n
  induction n with
  | zero => intro k fa fv re _ z; omega
  | succ n ih =>
    intro k fa fv re hk hn I
    by_cases e : k = 24
    · subst e
      exact br_t (show (24 : Int32) ≤ nI 24 from Int32.le_refl _) (h fa fv re I)
    · refine br_f (nI_ge (b := 24) (by omega) (by decide)) ⟨7, ?_⟩
      exact yw_f47 (F := cc_rd P k) W hL y R (fun fa2 fv2 re2 r2 => ih (k + 1) fa2 fv2 re2 (by omega) (by omega) r2) 7 0 fa fv re (by omega) (by omega) I
theorem yw_f2f {post : SY → Prop} {P : cc_Pg} (W : cc_wf P) (hL : ∀ p, p < 6 → b_len p = nI (cc_L P p)) (y : cc_yc P b_kind b_sd b_ss b_st b_sa b_sb) (R : cc_yf P b_fk b_f0 b_f1 b_fb)
    (h : ∀ fa fv re, cc_rf fa fv (cc_rd P 24) → post ((nI (cc_N P)), g_limit, g_calls, g_depth, g_cur, g_ok, g_c0, g_c1, g_cb, g_vn, g_built, g_chosen, g_top, g_outs, g_entries, b_len, b_kind, b_sd, b_ss, b_st, b_sa, b_sb, b_fk, b_f0, b_f1, b_fb, fa, fv, re, b_vp, b_vm, b_vx, b_vy, b_sp, b_pc, b_sm, b_cell, b_outList, b_entryList)) :
    ∀ (n k : Nat) (fa fv : Nat → Int32), k ≤ 12 → 12 - k < n → (∀ j, j < k → fa j = cc_lf (cc_F0 j) ∧ fv j = cc_lv (cc_F0 j)) → wY_facts_2 post (nI (cc_N P)) g_limit g_calls g_depth g_cur g_ok g_c0 g_c1 g_cb g_vn g_built g_chosen g_top g_outs g_entries n (nI k) b_len b_kind b_sd b_ss b_st b_sa b_sb b_fk b_f0 b_f1 b_fb fa fv b_reach b_vp b_vm b_vx b_vy b_sp b_pc b_sm b_cell b_outList b_entryList := by
  intro n
  induction n with
  | zero => intro k fa fv _ z; omega
  | succ n ih =>
    intro k fa fv hk hn I
    by_cases e : k = 12
    · subst e
      exact br_t (show (12 : Int32) ≤ nI 12 from Int32.le_refl _) ⟨25, yw_f39 W hL y R h 25 0 fa fv b_reach (by omega) (by omega) (fun j hj => I j hj)⟩
    · refine br_f (nI_ge (b := 12) (by omega) (by decide)) ?_
      have hik : vp_in (nI k) 12 := vp_in_nI (by omega) (by decide)
      have ek : k < 2 ^ 31 := by omega
      have key : ∀ z, z = cc_lf (cc_F0 k) → wY_facts_23 post (wY_facts_2 post (nI (cc_N P)) g_limit g_calls g_depth g_cur g_ok g_c0 g_c1 g_cb g_vn g_built g_chosen g_top g_outs g_entries n) (nI k) z (nI k) (nI (cc_N P)) g_limit g_calls g_depth g_cur g_ok g_c0 g_c1 g_cb g_vn g_built g_chosen g_top g_outs g_entries b_len b_kind b_sd b_ss b_st b_sa b_sb b_fk b_f0 b_f1 b_fb fa fv b_reach b_vp b_vm b_vx b_vy b_sp b_pc b_sm b_cell b_outList b_entryList := by
        intro z ez
        refine And.intro hik (nm_e (And.intro hik (nm_e (nm_r (e' := nI (k + 1)) (nI_1 k) (ih (k + 1) _ _ (by omega) (by omega) (fun j hj => ?_))))))
        rw [nI_clamp ek]
        by_cases ej : j = k
        · subst ej
          refine ⟨pk_us.trans ez, pk_us.trans ?_⟩
          unfold cc_F0; split <;> rfl
        · exact ⟨(pk_un ej).trans (I j (by omega)).1, (pk_un ej).trans (I j (by omega)).2⟩
      by_cases e2 : 2 ≤ k
      · refine br_t (nI_le e2 (by omega)) (key 1 ?_)
        unfold cc_F0; rw [if_neg (by omega)]; rfl
      · refine br_f (nI_ge (b := 2) (by omega) (by decide)) (key 2 ?_)
        unfold cc_F0; rw [if_pos (by omega)]; rfl
theorem yw_facts {post : SY → Prop} {P : cc_Pg} (W : cc_wf P) (hL : ∀ p, p < 6 → b_len p = nI (cc_L P p)) (y : cc_yc P b_kind b_sd b_ss b_st b_sa b_sb) (R : cc_yf P b_fk b_f0 b_f1 b_fb)
    (h : ∀ fa fv re, cc_rf fa fv (cc_rd P 24) → post ((nI (cc_N P)), g_limit, g_calls, g_depth, g_cur, g_ok, g_c0, g_c1, g_cb, g_vn, g_built, g_chosen, g_top, g_outs, g_entries, b_len, b_kind, b_sd, b_ss, b_st, b_sa, b_sb, b_fk, b_f0, b_f1, b_fb, fa, fv, re, b_vp, b_vm, b_vx, b_vy, b_sp, b_pc, b_sm, b_cell, b_outList, b_entryList)) : wpY_facts post ((nI (cc_N P)), g_limit, g_calls, g_depth, g_cur, g_ok, g_c0, g_c1, g_cb, g_vn, g_built, g_chosen, g_top, g_outs, g_entries, b_len, b_kind, b_sd, b_ss, b_st, b_sa, b_sb, b_fk, b_f0, b_f1, b_fb, b_fact, b_factv, b_reach, b_vp, b_vm, b_vx, b_vy, b_sp, b_pc, b_sm, b_cell, b_outList, b_entryList) :=
  ⟨13, yw_f2f W hL y R h 13 0 b_fact b_factv (by omega) (by omega) (fun j hj => absurd hj (by omega))⟩
end
end
section
/-! Y: into, find, collect -/
def cc_cb (x : Int32) (ch : Nat → Bool) : Prop := ∀ q, q < 6 → bt x q = ch q
def cc_v4 (l : List cc_V) (vp vm vx vy : Nat → Int32) : Prop := ∀ (n : Nat) (v : cc_V), l[n]? = some v → vp n = nI v.1 ∧ vm n = cc_cm v.2 ∧ cc_gx v.2 (vx n) (vy n)
def cc_YK (P : cc_Pg) (F : Nat → cc_Lt) (len kd sd ss st sa sb fk f0 f1 fb fa fv : Nat → Int32) : Prop :=
  cc_yc P kd sd ss st sa sb ∧ (∀ p, p < 6 → len p = nI (cc_L P p)) ∧ cc_yf P fk f0 f1 fb ∧ cc_rf fa fv F
theorem cc_v4_ad {l : List cc_V} {vp vm vx vy : Nat → Int32} (h : cc_v4 l vp vm vx vy) (v : cc_V) {x y : Int32} (g : cc_gx v.2 x y) : cc_v4 (l ++ [v]) (upd vp l.length (nI v.1)) (upd vm l.length (cc_cm v.2)) (upd vx l.length x) (upd vy l.length y) := by
  intro n w hw
  by_cases e : n < l.length
  · rw [List.getElem?_append_left e] at hw
    have ne : n ≠ l.length := by omega
    rw [pk_un ne, pk_un ne, pk_un ne, pk_un ne]
    exact h n w hw
  · rw [List.getElem?_append_right (by omega)] at hw
    have e0 : n = l.length := by
      refine Classical.byContradiction fun z => ?_
      rw [List.getElem?_eq_none (by show 1 ≤ _; omega)] at hw; exact nomatch hw
    subst e0
    rw [Nat.sub_self] at hw
    cases Option.some.inj hw
    rw [pk_us, pk_us, pk_us, pk_us]
    exact ⟨rfl, rfl, g⟩
theorem cc_ma_3 {a b c d : Int32} (h : a = c) (k : b = d) : a + b = c + d := by rw [h, k]
section
variable {g_procs g_limit g_calls g_depth g_cur g_ok g_c0 g_c1 g_cb g_vn g_built g_chosen g_top g_outs g_entries : Int32} {b_len b_kind b_sd b_ss b_st b_sa b_sb b_fk b_f0 b_f1 b_fb b_fact b_factv b_reach b_vp b_vm b_vx b_vy b_sp b_pc b_sm b_cell b_outList b_entryList : Nat → Int32}
theorem yw_into {post : Int32 → Prop} {P : cc_Pg} {m i : Nat} (hm : m < 48) (w : cc_w1 P m i) (hN : cc_N P ≤ 6) (k6 : cc_K P m = 6) (y : cc_y1 P b_kind b_sd b_ss b_st b_sa b_sb m i) {c : cc_Cx} (R : ∀ v, v < 4 → cc_ry b_fk b_f0 b_f1 b_fb (m * 4 + v) (cc_fm P m v)) {F : Nat → cc_Lt} (rf : cc_rf b_fact b_factv F) {ch : Nat → Bool} {x : Int32} (hx : cc_cb x ch)
    (h : post (cc_cm (cc_ce P F ch m c))) : wpY_into post (g_procs, g_limit, g_calls, g_depth, g_cur, g_ok, g_c0, g_c1, g_cb, g_vn, g_built, g_chosen, g_top, g_outs, g_entries, b_len, b_kind, b_sd, b_ss, b_st, b_sa, b_sb, b_fk, b_f0, b_f1, b_fb, b_fact, b_factv, b_reach, b_vp, b_vm, b_vx, b_vy, b_sp, b_pc, b_sm, b_cell, b_outList, b_entryList) (nI m) (cc_cm c) x := by
  have em : m < 2 ^ 31 := by omega
  have him : vp_in (nI m) 48 := vp_in_nI hm (by decide)
  obtain ⟨hQ, hA⟩ := w.2.2.2.2.1 k6
  obtain ⟨z1, z2⟩ := y.2.2.2.2.2.2.1 k6
  have hQ6 : cc_Q P m < 6 := by omega
  have hS := w.2.2.1
  have hT := w.2.2.2.1
  refine And.intro him ?_
  rw [ix_c b_sa em, z2, hA, bx_bit x (show cc_Q P m < 32 by omega), hx _ hQ6]
  unfold cc_ce at h
  cases e : ch (cc_Q P m) with
  | false =>
    rw [e, if_neg (fun z => nomatch z)] at h
    exact br_t rfl (And.intro him (yw_mergedMask hQ6 rf h))
  | true =>
    rw [e, if_pos rfl] at h
    refine br_f ix_10 (And.intro him ?_)
    rw [ix_c b_ss em, y.2.1, ix_4]
    refine yw_known (by omega) (R _ hS) (And.intro him ?_)
    rw [ix_c b_st em, y.2.2.1, ix_4]
    refine yw_known (by omega) (R _ hT) ?_
    unfold cc_ar at h
    cases e1 : cc_ev (cc_fm P m (cc_S P m)) c with
    | none =>
      cases e2 : cc_ev (cc_fm P m (cc_T P m)) c with
      | none => rw [e1, e2] at h; exact br_t rfl (br_t rfl h)
      | some v => rw [e1, e2] at h; exact br_t rfl (br_f ix_10 h)
    | some u =>
      cases e2 : cc_ev (cc_fm P m (cc_T P m)) c with
      | none => rw [e1, e2] at h; exact br_f ix_10 (br_t rfl h)
      | some v => rw [e1, e2] at h; exact br_f ix_10 (br_f ix_10 h)
theorem yw_find3 {post : Int32 → Prop} {q : Nat} {d : cc_Cx} {l : List cc_V} {x y : Int32} (g : cc_gx d x y) (hq : q < 6) (hl : l.length ≤ 16) (h6 : ∀ v, v ∈ l → v.1 < 6) (r : cc_v4 l b_vp b_vm b_vx b_vy)
    (h1 : ∀ n : Nat, l[n]? = some (q, d) → post (nI n)) (h0 : (q, d) ∉ l → post (-1)) :
    ∀ (n c : Nat), c ≤ l.length → l.length - c < n → (∀ j : Nat, j < c → l[j]? ≠ some (q, d)) → wY_find_3 post (nI q) (cc_cm d) x y g_procs g_limit g_calls g_depth g_cur g_ok g_c0 g_c1 g_cb (nI l.length) g_built g_chosen g_top g_outs g_entries b_len b_kind b_sd b_ss b_st b_sa b_sb b_fk b_f0 b_f1 b_fb b_fact b_factv b_reach b_vp b_vm b_vx b_vy b_sp b_pc b_sm b_cell b_outList b_entryList n (nI c) := by
  intro n
  induction n with
  | zero => intro c _ z; omega
  | succ n ih =>
    intro c hc hn I
    by_cases e : c = l.length
    · subst e
      refine br_t (nI_le (Nat.le_refl _) (by omega)) (h0 (fun z => ?_))
      obtain ⟨j, hj⟩ := List.getElem?_of_mem z
      have : j < l.length := by
        refine Nat.lt_of_not_le fun y => ?_
        rw [List.getElem?_eq_none y] at hj; exact nomatch hj
      exact I j this hj
    · have hc' : c < l.length := by omega
      have ec : c < 2 ^ 31 := by omega
      have hi : vp_in (nI c) 16 := vp_in_nI (by omega) (by decide)
      have ev := List.getElem?_eq_getElem hc'
      generalize l[c] = w at ev
      obtain ⟨r1, r2, r3⟩ := r c w ev
      have w6 := h6 w (List.mem_of_getElem? ev)
      have next : w ≠ (q, d) → ∀ z, z = nI c + 1 → wY_find_3 post (nI q) (cc_cm d) x y g_procs g_limit g_calls g_depth g_cur g_ok g_c0 g_c1 g_cb (nI l.length) g_built g_chosen g_top g_outs g_entries b_len b_kind b_sd b_ss b_st b_sa b_sb b_fk b_f0 b_f1 b_fb b_fact b_factv b_reach b_vp b_vm b_vx b_vy b_sp b_pc b_sm b_cell b_outList b_entryList n z := by
        intro ne
        refine nm_r (e' := nI (c + 1)) (nI_1 c) (ih (c + 1) (by omega) (by omega) (fun j hj => ?_))
        by_cases ej : j = c
        · subst ej; rw [ev]; exact fun z => ne (Option.some.inj z)
        · exact I j (by omega)
      refine br_f (nI_ge hc' (by omega)) (And.intro hi ?_)
      rw [ix_c b_vp ec, r1]
      by_cases c1 : w.1 = q
      · refine br_t (by rw [c1]) (And.intro hi ?_)
        rw [ix_c b_vm ec, r2]
        by_cases c2 : cc_cm w.2 = cc_cm d
        · refine br_t c2 ?_
          obtain ⟨n1, n2⟩ := cc_cmE c2
          have f51 : w.2.1 = d.1 → wY_find_51 post (wY_find_3 post (nI q) (cc_cm d) x y g_procs g_limit g_calls g_depth g_cur g_ok g_c0 g_c1 g_cb (nI l.length) g_built g_chosen g_top g_outs g_entries b_len b_kind b_sd b_ss b_st b_sa b_sb b_fk b_f0 b_f1 b_fb b_fact b_factv b_reach b_vp b_vm b_vx b_vy b_sp b_pc b_sm b_cell b_outList b_entryList n) (nI q) (cc_cm d) x y (nI c) g_procs g_limit g_calls g_depth g_cur g_ok g_c0 g_c1 g_cb (nI l.length) g_built g_chosen g_top g_outs g_entries b_len b_kind b_sd b_ss b_st b_sa b_sb b_fk b_f0 b_f1 b_fb b_fact b_factv b_reach b_vp b_vm b_vx b_vy b_sp b_pc b_sm b_cell b_outList b_entryList := by
            intro e1
            cases e2 : d.2 with
            | none =>
              refine br_t ((cc_cm2 d).mpr e2) (h1 c ?_)
              have : w = (q, d) := Prod.ext c1 (Prod.ext e1 ((n2.mpr e2).trans e2.symm))
              rw [ev, this]
            | some u =>
              refine br_f (fun z => by rw [(cc_cm2 d).mp z] at e2; exact nomatch e2) (And.intro hi ?_)
              rw [ix_c b_vy ec]
              cases e3 : w.2.2 with
              | none => have := n2.mp e3; rw [e2] at this; exact nomatch this
              | some u' =>
                rw [r3.2 u' e3]
                have ey := g.2 u e2
                by_cases eu : u' = u
                · refine br_t (eu.trans ey.symm) (h1 c ?_)
                  have : w = (q, d) := Prod.ext c1 (Prod.ext e1 (by rw [e2, e3, eu]))
                  rw [ev, this]
                · refine br_f (fun z => eu (z.trans ey)) (next (fun z => eu ?_))
                  rw [z] at e3; exact Option.some.inj (e3.symm.trans e2)
          cases e2 : d.1 with
          | none => exact br_t ((cc_cm1 d).mpr e2) (f51 ((n1.mpr e2).trans e2.symm))
          | some u =>
            refine br_f (fun z => by rw [(cc_cm1 d).mp z] at e2; exact nomatch e2) (And.intro hi ?_)
            rw [ix_c b_vx ec]
            cases e3 : w.2.1 with
            | none => have := n1.mp e3; rw [e2] at this; exact nomatch this
            | some u' =>
              rw [r3.1 u' e3]
              have ey := g.1 u e2
              by_cases eu : u' = u
              · exact br_t (eu.trans ey.symm) (f51 (by rw [e2, e3, eu]))
              · refine br_f (fun z => eu (z.trans ey)) (next (fun z => eu ?_))
                rw [z] at e3; exact Option.some.inj (e3.symm.trans e2)
        · exact br_f c2 (next (fun z => c2 (by rw [z])))
      · exact br_f (fun z => c1 ((nI_eq (by omega) (by omega)).mp z)) (next (fun z => c1 (by rw [z])))
theorem yw_find {post : Int32 → Prop} {q : Nat} {d : cc_Cx} {l : List cc_V} {x y : Int32} (g : cc_gx d x y) (hq : q < 6) (hl : l.length ≤ 16) (h6 : ∀ v, v ∈ l → v.1 < 6) (r : cc_v4 l b_vp b_vm b_vx b_vy)
    (h1 : ∀ n : Nat, l[n]? = some (q, d) → post (nI n)) (h0 : (q, d) ∉ l → post (-1)) : wpY_find post (g_procs, g_limit, g_calls, g_depth, g_cur, g_ok, g_c0, g_c1, g_cb, (nI l.length), g_built, g_chosen, g_top, g_outs, g_entries, b_len, b_kind, b_sd, b_ss, b_st, b_sa, b_sb, b_fk, b_f0, b_f1, b_fb, b_fact, b_factv, b_reach, b_vp, b_vm, b_vx, b_vy, b_sp, b_pc, b_sm, b_cell, b_outList, b_entryList) (nI q) (cc_cm d) x y :=
  ⟨17, yw_find3 g hq hl h6 r h1 h0 17 0 (by omega) (by omega) (fun j hj => absurd hj (by omega))⟩
theorem yw_c296 {post : Int32 → SY → Prop} {J35 J49 : yw_J} {J91 : yw_A2} {x1 x2 x3 x4 : Int32} {i q : Nat} {d : cc_Cx} {l : List cc_V} {x y : Int32} (g : cc_gx d x y) (hq : q < 6) (hl : l.length ≤ 16) (h6 : ∀ v, v ∈ l → v.1 < 6) (r : cc_v4 l b_vp b_vm b_vx b_vy)
    (h1 : (q, d) ∈ l → J91 (nI (i + 1)) (nI l.length) b_len b_kind b_sd b_ss b_st b_sa b_sb b_fk b_f0 b_f1 b_fb b_fact b_factv b_reach b_vp b_vm b_vx b_vy b_sp b_pc b_sm b_cell b_outList b_entryList)
    (h2 : (q, d) ∉ l → l.length < 16 → ∀ vp vm vx vy, cc_v4 (l ++ [(q, d)]) vp vm vx vy → J91 (nI (i + 1)) (nI (l.length + 1)) b_len b_kind b_sd b_ss b_st b_sa b_sb b_fk b_f0 b_f1 b_fb b_fact b_factv b_reach vp vm vx vy b_sp b_pc b_sm b_cell b_outList b_entryList)
    (h3 : (q, d) ∉ l → 16 ≤ l.length → post (-1) (g_procs, g_limit, g_calls, g_depth, g_cur, g_ok, g_c0, g_c1, g_cb, (nI l.length), g_built, g_chosen, g_top, g_outs, g_entries, b_len, b_kind, b_sd, b_ss, b_st, b_sa, b_sb, b_fk, b_f0, b_f1, b_fb, b_fact, b_factv, b_reach, b_vp, b_vm, b_vx, b_vy, b_sp, b_pc, b_sm, b_cell, b_outList, b_entryList)) :
    wY_collect_266 post J35 J49 J91 x1 x2 x3 x4 (nI i) (nI q) (cc_cm d) x y g_procs g_limit g_calls g_depth g_cur g_ok g_c0 g_c1 g_cb (nI l.length) g_built g_chosen g_top g_outs g_entries b_len b_kind b_sd b_ss b_st b_sa b_sb b_fk b_f0 b_f1 b_fb b_fact b_factv b_reach b_vp b_vm b_vx b_vy b_sp b_pc b_sm b_cell b_outList b_entryList := by
  refine yw_find g hq hl h6 r (fun n hn => ?_) (fun no => ?_)
  · have n16 : n < l.length := by
      refine Nat.lt_of_not_le fun y => ?_
      rw [List.getElem?_eq_none y] at hn; exact nomatch hn
    have hn0 : (0 : Int32) ≤ nI n := nI_pos' (by omega)
    exact br_t hn0 (br_t hn0 (nm_r (e' := nI (i + 1)) (nI_1 i) (h1 (List.mem_of_getElem? hn))))
  · have nm : ¬ (0 : Int32) ≤ -1 := by decide
    refine br_f nm ?_
    by_cases l16 : l.length < 16
    · have hi : vp_in (nI l.length) 16 := vp_in_nI l16 (by decide)
      refine br_t (nI_lt l16 (by decide)) (br_f nm (And.intro hi (nm_e (And.intro hi (nm_e (And.intro hi (nm_e (And.intro hi (nm_e (nm_r (e' := nI (l.length + 1)) (nI_1 _) (nm_r (e' := nI (i + 1)) (nI_1 i) ?_)))))))))))
      rw [nI_clamp (show l.length < 2 ^ 31 by omega)]
      exact h2 no l16 _ _ _ _ (cc_v4_ad r (q, d) g)
    · exact br_f (nI_nlt (b := 16) (by omega) (by omega)) (h3 no (by omega))
theorem yw_c91 {post : Int32 → SY → Prop} {J35 J49 : yw_J} {P : cc_Pg} (W : cc_wf P) {F : Nat → cc_Lt} (K : cc_YK P F b_len b_kind b_sd b_ss b_st b_sa b_sb b_fk b_f0 b_f1 b_fb b_fact b_factv) {ch : Nat → Bool} {x1 : Int32} (hx : cc_cb x1 ch) {x2 x3 : Int32} {w : Nat} (hw : w < 16) {v : cc_V} (hv : v.1 < cc_N P) {s : cc_VS} (sv : s.1[w]? = some v) (hr : cc_bm b_reach (cc_rc P v.1 v.2))
    (hov : (cc_xp P F ch v s (cc_L P v.1)).2 = true → ∀ vn vp vm vx vy, post (-1) (g_procs, g_limit, g_calls, g_depth, g_cur, g_ok, g_c0, g_c1, g_cb, vn, g_built, g_chosen, g_top, g_outs, g_entries, b_len, b_kind, b_sd, b_ss, b_st, b_sa, b_sb, b_fk, b_f0, b_f1, b_fb, b_fact, b_factv, b_reach, vp, vm, vx, vy, b_sp, b_pc, b_sm, b_cell, b_outList, b_entryList))
    (h : (cc_xp P F ch v s (cc_L P v.1)).2 = false → ∀ vp vm vx vy, cc_v4 (cc_xp P F ch v s (cc_L P v.1)).1 vp vm vx vy → J49 (nI (w + 1)) g_procs g_limit g_calls g_depth g_cur g_ok g_c0 g_c1 g_cb (nI (cc_xp P F ch v s (cc_L P v.1)).1.length) g_built g_chosen g_top g_outs g_entries b_len b_kind b_sd b_ss b_st b_sa b_sb b_fk b_f0 b_f1 b_fb b_fact b_factv b_reach vp vm vx vy b_sp b_pc b_sm b_cell b_outList b_entryList) :
    ∀ (n i : Nat) (vp vm vx vy : Nat → Int32), i ≤ cc_L P v.1 → cc_L P v.1 - i < n → (cc_xp P F ch v s i).2 = false → cc_v4 (cc_xp P F ch v s i).1 vp vm vx vy → (cc_xp P F ch v s i).1.length ≤ 16 → (∀ u, u ∈ (cc_xp P F ch v s i).1 → u.1 < cc_N P) →
      wY_collect_91 post J35 J49 x1 x2 x3 (nI w) g_procs g_limit g_calls g_depth g_cur g_ok g_c0 g_c1 g_cb g_built g_chosen g_top g_outs g_entries n (nI i) (nI (cc_xp P F ch v s i).1.length) b_len b_kind b_sd b_ss b_st b_sa b_sb b_fk b_f0 b_f1 b_fb b_fact b_factv b_reach vp vm vx vy b_sp b_pc b_sm b_cell b_outList b_entryList := by
  obtain ⟨K1, K2, K3, K4⟩ := K
  have N6 := W.2.1
  have v6 : v.1 < 6 := by omega
  have L8 := W.2.2.1 v.1 v6
  have ew : w < 2 ^ 31 := by omega
  have hiw : vp_in (nI w) 16 := vp_in_nI hw (by decide)
  intro n
  induction n with
  | zero => intro i vp vm vx vy _ z; omega
  | succ n ih =>
    intro i vp vm vx vy hi hn I0 I1 I2 I3
    obtain ⟨r1, r2, r3⟩ := I1 w v ((cc_xp_gr (P := P) (F := F) (ch := ch) v s (i := 0) i (by omega)).1 w v sv)
    unfold wY_collect_91
    rw [ix_c vp ew, r1, ix_c b_len (show v.1 < 2 ^ 31 by omega), K2 v.1 v6]
    refine And.intro hiw (And.intro (vp_in_nI v6 (by decide)) ?_)
    by_cases e : i = cc_L P v.1
    · subst e
      exact br_t (nI_le (Nat.le_refl _) (by omega)) (nm_r (e' := nI (w + 1)) (nI_1 w) (h I0 vp vm vx vy I1))
    · have hiL : i < cc_L P v.1 := by omega
      have em : v.1 * 8 + i < 2 ^ 31 := by omega
      have him : vp_in (nI (v.1 * 8 + i)) 48 := vp_in_nI (by omega) (by decide)
      have w1 := W.2.2.2 v.1 i v6 hiL
      have y1 := K1 v.1 i v6 hiL
      obtain ⟨-, k3, -⟩ := cc_ky w1 y1
      refine br_f (nI_ge hiL (by omega)) (And.intro hiw (nm_r (e' := nI (v.1 * 8 + i)) (ix_8 _ _) (And.intro (vp_in_nI (by omega) (by decide)) ?_)))
      rw [ix_c b_reach (show i < 2 ^ 31 by omega), hr i (by omega)]
      have skip : ¬ (i < cc_L P v.1 ∧ cc_K P (v.1 * 8 + i) = 6 ∧ cc_rc P v.1 v.2 i = true) → ∀ z, z = nI i + 1 → wY_collect_91 post J35 J49 x1 x2 x3 (nI w) g_procs g_limit g_calls g_depth g_cur g_ok g_c0 g_c1 g_cb g_built g_chosen g_top g_outs g_entries n z (nI (cc_xp P F ch v s i).1.length) b_len b_kind b_sd b_ss b_st b_sa b_sb b_fk b_f0 b_f1 b_fb b_fact b_factv b_reach vp vm vx vy b_sp b_pc b_sm b_cell b_outList b_entryList := by
        intro q
        refine nm_r (e' := nI (i + 1)) (nI_1 i) ?_
        have := ih (i + 1) vp vm vx vy (by omega) (by omega)
        rw [cc_xp_f q] at this
        exact this I0 I1 I2 I3
      cases q3 : cc_rc P v.1 v.2 i with
      | false => exact br_t rfl (skip (fun z => by rw [q3] at z; exact nomatch z.2.2))
      | true =>
        refine br_f ix_10 (And.intro him ?_)
        rw [ix_c b_kind em]
        by_cases k6 : cc_K P (v.1 * 8 + i) = 6
        · obtain ⟨z1, z2⟩ := y1.2.2.2.2.2.2.1 k6
          obtain ⟨hQ, hA⟩ := w1.2.2.2.2.1 k6
          have hQ6 : cc_Q P (v.1 * 8 + i) < 6 := by omega
          have Rv := K3 v.1 hv i hiL
          refine br_t (k3.mpr k6) (And.intro him (nm_r (e' := nI (cc_Q P (v.1 * 8 + i))) (by rw [ix_c b_sa em, z2, hA]) (And.intro hiw ?_)))
          rw [ix_c vm ew, r2]
          refine yw_into (F := F) (ch := ch) (by omega) w1 N6 k6 y1 Rv K4 hx (And.intro (by rw [ix_r20]; exact vp_in_nI (by omega) (by decide)) (nm_r (e' := cc_cx (cc_fc F (cc_Q P (v.1 * 8 + i)))) (by rw [ix_r20, ix_c b_factv (by omega)]; exact (K4 _ (by omega)).2) (And.intro (by rw [ix_r21]; exact vp_in_nI (by omega) (by decide)) (nm_r (e' := cc_cy (cc_fc F (cc_Q P (v.1 * 8 + i)))) (by rw [ix_r21, ix_c b_factv (by omega)]; exact (K4 _ (by omega)).2) ?_))))
          have ev := cc_xp_t (P := P) (F := F) (ch := ch) (v := v) (s := s) ⟨hiL, k6, q3⟩
          have fin : ∀ x y, cc_gx (cc_ce P F ch (v.1 * 8 + i) v.2) x y → wY_collect_266 post J35 J49 (wY_collect_91 post J35 J49 x1 x2 x3 (nI w) g_procs g_limit g_calls g_depth g_cur g_ok g_c0 g_c1 g_cb g_built g_chosen g_top g_outs g_entries n) x1 x2 x3 (nI w) (nI i) (nI (cc_Q P (v.1 * 8 + i))) (cc_cm (cc_ce P F ch (v.1 * 8 + i) v.2)) x y g_procs g_limit g_calls g_depth g_cur g_ok g_c0 g_c1 g_cb (nI (cc_xp P F ch v s i).1.length) g_built g_chosen g_top g_outs g_entries b_len b_kind b_sd b_ss b_st b_sa b_sb b_fk b_f0 b_f1 b_fb b_fact b_factv b_reach vp vm vx vy b_sp b_pc b_sm b_cell b_outList b_entryList := by
            intro x y g
            refine yw_c296 g hQ6 I2 (fun u hu => Nat.lt_of_lt_of_le (I3 u hu) N6) I1 (fun mem => ?_) (fun no l16 vp' vm' vx' vy' r' => ?_) (fun no l16 => ?_)
            · have := ih (i + 1) vp vm vx vy (by omega) (by omega)
              rw [ev, cc_i2_in mem] at this
              exact this I0 I1 I2 I3
            · have := ih (i + 1) vp' vm' vx' vy' (by omega) (by omega)
              rw [ev, cc_i2_ad no l16] at this
              dsimp only at this
              rw [List.length_append] at this
              refine this I0 r' (show (cc_xp P F ch v s i).1.length + 1 ≤ 16 by omega) (fun u hu => ?_)
              rcases List.mem_append.mp hu with z | z
              · exact I3 u z
              · rw [List.mem_singleton.mp z]; exact hQ
            · refine hov ?_ _ _ _ _ _
              refine (cc_xp_gr (P := P) (F := F) (ch := ch) v s (i := i + 1) (cc_L P v.1) (by omega)).2 ?_
              rw [ev, cc_i2_ov no l16]
          rw [bx_bit x1 (show cc_Q P (v.1 * 8 + i) < 32 by omega), hx _ hQ6]
          cases ec : ch (cc_Q P (v.1 * 8 + i)) with
          | false =>
            refine br_t rfl (fin _ _ ?_)
            unfold cc_ce; rw [ec, if_neg (fun z => nomatch z)]; exact cc_gx0 _
          | true =>
            refine br_f ix_10 (And.intro him (And.intro hiw (And.intro hiw ?_)))
            rw [ix_c b_ss em, y1.2.1, ix_4, ix_c vx ew, ix_c vy ew]
            refine yw_value (by have := w1.2.2.1; omega) (Rv _ w1.2.2.1) (And.intro him (And.intro hiw (And.intro hiw ?_)))
            rw [ix_c b_st em, y1.2.2.1, ix_4]
            refine yw_value (by have := w1.2.2.2.1; omega) (Rv _ w1.2.2.2.1) (fin _ _ ?_)
            unfold cc_ce; rw [ec, if_pos rfl]
            exact ⟨fun u hu => cc_ev_v hu r3, fun u hu => cc_ev_v hu r3⟩
        · exact br_f (fun z => k6 (k3.mp z)) (skip (fun z => k6 z.2.1))
end
end
section
/-! Y: collect, build -/
section
variable {g_procs g_limit g_calls g_depth g_cur g_ok g_c0 g_c1 g_cb g_vn g_built g_chosen g_top g_outs g_entries : Int32} {b_len b_kind b_sd b_ss b_st b_sa b_sb b_fk b_f0 b_f1 b_fb b_fact b_factv b_reach b_vp b_vm b_vx b_vy b_sp b_pc b_sm b_cell b_outList b_entryList : Nat → Int32}
theorem yw_c49 {post : Int32 → SY → Prop} {J35 : yw_J} {P : cc_Pg} (W : cc_wf P) {F : Nat → cc_Lt} (K : cc_YK P F b_len b_kind b_sd b_ss b_st b_sa b_sb b_fk b_f0 b_f1 b_fb b_fact b_factv) {ch : Nat → Bool} {x1 : Int32} (hx : cc_cb x1 ch) {m now r : Nat} (hm : m ≤ now) (hnow : now = (cc_E P F ch m).1.length) (ho : (cc_E P F ch m).2 = false)
    (hov : cc_ov P F ch = true → ∀ vn vp vm vx vy re, post (-1) (g_procs, g_limit, g_calls, g_depth, g_cur, g_ok, g_c0, g_c1, g_cb, vn, g_built, g_chosen, g_top, g_outs, g_entries, b_len, b_kind, b_sd, b_ss, b_st, b_sa, b_sb, b_fk, b_f0, b_f1, b_fb, b_fact, b_factv, re, vp, vm, vx, vy, b_sp, b_pc, b_sm, b_cell, b_outList, b_entryList))
    (h : (cc_E P F ch now).2 = false → ∀ vp vm vx vy re, cc_v4 (cc_E P F ch now).1 vp vm vx vy → J35 (nI (r + 1)) g_procs g_limit g_calls g_depth g_cur g_ok g_c0 g_c1 g_cb (nI (cc_E P F ch now).1.length) g_built g_chosen g_top g_outs g_entries b_len b_kind b_sd b_ss b_st b_sa b_sb b_fk b_f0 b_f1 b_fb b_fact b_factv re vp vm vx vy b_sp b_pc b_sm b_cell b_outList b_entryList) :
    ∀ (n w k : Nat) (vp vm vx vy re : Nat → Int32), w ≤ now → now - w < n → (w < m ∧ k = m ∨ m ≤ w ∧ k = w) → (cc_E P F ch k).2 = false → cc_v4 (cc_E P F ch k).1 vp vm vx vy →
      wY_collect_49 post J35 x1 (nI r) (nI now) n (nI w) g_procs g_limit g_calls g_depth g_cur g_ok g_c0 g_c1 g_cb (nI (cc_E P F ch k).1.length) g_built g_chosen g_top g_outs g_entries b_len b_kind b_sd b_ss b_st b_sa b_sb b_fk b_f0 b_f1 b_fb b_fact b_factv re vp vm vx vy b_sp b_pc b_sm b_cell b_outList b_entryList := by
  have l16 : now ≤ 16 := by rw [hnow]; exact cc_E_l m
  intro n
  induction n with
  | zero => intro w k vp vm vx vy re _ z; omega
  | succ n ih =>
    intro w k vp vm vx vy re hw hn hk I0 I1
    by_cases e : w = now
    · have ek : k = now := by omega
      subst ek
      rw [e]
      exact br_t (nI_le (Nat.le_refl _) (by omega)) (nm_r (e' := nI (r + 1)) (nI_1 r) (h I0 vp vm vx vy re I1))
    · have hw' : w < now := by omega
      have ew : w < 2 ^ 31 := by omega
      have hiw : vp_in (nI w) 16 := vp_in_nI (by omega) (by decide)
      have hl : w < (cc_E P F ch k).1.length := by
        have := cc_gr_l (cc_E_gr (P := P) (F := F) (ch := ch) (i := m) k (by omega))
        omega
      have ev := List.getElem?_eq_getElem hl
      generalize (cc_E P F ch k).1[w] = v at ev
      obtain ⟨r1, r2, r3⟩ := I1 w v ev
      have vN := cc_E_p W k v (List.mem_of_getElem? ev)
      have N6 := W.2.1
      have L8 := W.2.2.1 v.1 (by omega)
      refine br_f (nI_ge hw' (by omega)) (And.intro hiw (And.intro hiw (And.intro hiw (And.intro hiw ?_))))
      rw [ix_c vp ew, ix_c vm ew, ix_c vx ew, ix_c vy ew, r1, r2]
      refine yw_mark W vN (K.2.1 v.1 (by omega)) K.1 (K.2.2.1 v.1 vN) r3 (fun re' hr => ⟨9, ?_⟩)
      refine yw_c91 W K hx (show w < 16 by omega) vN ev hr (fun o => ?_) (fun o => ?_) 9 0 vp vm vx vy (by omega) (by omega) I0 I1 (cc_E_l k) (cc_E_p W k)
      · intro vn vp vm vx vy
        refine hov ?_ vn vp vm vx vy re'
        rcases hk with ⟨k1, k2⟩ | ⟨k1, k2⟩
        · subst k2
          rw [cc_xp_id (cc_E_cd W (fun v hv => cc_E_6 W hv) k w v k1 (by omega) I0 ev)] at o
          rw [I0] at o; exact nomatch o
        · subst k2
          rw [← cc_xp_L 8 L8, ← cc_E_s I0 ev] at o
          exact (cc_E_gr (P := P) (F := F) (ch := ch) (i := k + 1) 16 (by omega)).2 o
      · rcases hk with ⟨k1, k2⟩ | ⟨k1, k2⟩
        · subst k2
          rw [cc_xp_id (cc_E_cd W (fun v hv => cc_E_6 W hv) k w v k1 (by omega) I0 ev)]
          exact fun vp vm vx vy r => ih (w + 1) k vp vm vx vy re' (by omega) (by omega) (by omega) I0 r
        · subst k2
          rw [← cc_xp_L 8 L8, ← cc_E_s I0 ev] at o ⊢
          exact fun vp vm vx vy r => ih (k + 1) (k + 1) vp vm vx vy re' (by omega) (by omega) (by omega) o r
theorem yw_c377 {post : Int32 → SY → Prop} {P : cc_Pg} (W : cc_wf P) {F : Nat → cc_Lt} (K : cc_YK P F b_len b_kind b_sd b_ss b_st b_sa b_sb b_fk b_f0 b_f1 b_fb b_fact b_factv) {l : List cc_V} (hl : l.length ≤ 16) (hN : ∀ v, v ∈ l → v.1 < cc_N P) (r : cc_v4 l b_vp b_vm b_vx b_vy)
    (h : ∀ re, post (nI (cc_tt P l l.length)) (g_procs, g_limit, g_calls, g_depth, g_cur, g_ok, g_c0, g_c1, g_cb, (nI l.length), g_built, g_chosen, g_top, g_outs, g_entries, b_len, b_kind, b_sd, b_ss, b_st, b_sa, b_sb, b_fk, b_f0, b_f1, b_fb, b_fact, b_factv, re, b_vp, b_vm, b_vx, b_vy, b_sp, b_pc, b_sm, b_cell, b_outList, b_entryList)) :
    ∀ (n w : Nat) (re : Nat → Int32), w ≤ l.length → l.length - w < n → wY_collect_377 post n (nI (cc_tt P l w)) (nI w) g_procs g_limit g_calls g_depth g_cur g_ok g_c0 g_c1 g_cb (nI l.length) g_built g_chosen g_top g_outs g_entries b_len b_kind b_sd b_ss b_st b_sa b_sb b_fk b_f0 b_f1 b_fb b_fact b_factv re b_vp b_vm b_vx b_vy b_sp b_pc b_sm b_cell b_outList b_entryList := by
  intro n
  induction n with
  | zero => intro w re _ z; omega
  | succ n ih =>
    intro w re hw hn
    by_cases e : w = l.length
    · subst e
      exact br_t (nI_le (Nat.le_refl _) (by omega)) (h re)
    · have hw' : w < l.length := by omega
      have ew : w < 2 ^ 31 := by omega
      have hiw : vp_in (nI w) 16 := vp_in_nI (by omega) (by decide)
      have ev := List.getElem?_eq_getElem hw'
      generalize l[w] = v at ev
      obtain ⟨r1, r2, r3⟩ := r w v ev
      have vN := hN v (List.mem_of_getElem? ev)
      have N6 := W.2.1
      refine br_f (nI_ge hw' (by omega)) (And.intro hiw (And.intro hiw (And.intro hiw (And.intro hiw ?_))))
      rw [ix_c b_vp ew, ix_c b_vm ew, ix_c b_vx ew, ix_c b_vy ew, r1, r2]
      refine yw_mark W vN (K.2.1 v.1 (by omega)) K.1 (K.2.2.1 v.1 vN) r3 (fun re' hr => nm_r (e' := nI (cc_tt P l (w + 1))) (by rw [nI_add, cc_tt_s ev]) (nm_r (e' := nI (w + 1)) (nI_1 w) (ih (w + 1) re' (by omega) (by omega))))
theorem yw_c35 {post : Int32 → SY → Prop} {P : cc_Pg} (W : cc_wf P) {F : Nat → cc_Lt} (K : cc_YK P F b_len b_kind b_sd b_ss b_st b_sa b_sb b_fk b_f0 b_f1 b_fb b_fact b_factv) {ch : Nat → Bool} {x1 : Int32} (hx : cc_cb x1 ch)
    (hov : cc_ov P F ch = true → ∀ vn vp vm vx vy re, post (-1) (g_procs, g_limit, g_calls, g_depth, g_cur, g_ok, g_c0, g_c1, g_cb, vn, g_built, g_chosen, g_top, g_outs, g_entries, b_len, b_kind, b_sd, b_ss, b_st, b_sa, b_sb, b_fk, b_f0, b_f1, b_fb, b_fact, b_factv, re, vp, vm, vx, vy, b_sp, b_pc, b_sm, b_cell, b_outList, b_entryList))
    (h : cc_ov P F ch = false → ∀ vp vm vx vy re, cc_v4 (cc_li P F ch) vp vm vx vy → post (nI (cc_to P F ch)) (g_procs, g_limit, g_calls, g_depth, g_cur, g_ok, g_c0, g_c1, g_cb, (nI (cc_li P F ch).length), g_built, g_chosen, g_top, g_outs, g_entries, b_len, b_kind, b_sd, b_ss, b_st, b_sa, b_sb, b_fk, b_f0, b_f1, b_fb, b_fact, b_factv, re, vp, vm, vx, vy, b_sp, b_pc, b_sm, b_cell, b_outList, b_entryList)) :
    ∀ (n r m : Nat) (vp vm vx vy re : Nat → Int32), r ≤ 17 → 17 - r < n → m ≤ (cc_E P F ch m).1.length → (r ≤ m ∨ (cc_E P F ch m).1.length ≤ m) → (cc_E P F ch m).2 = false → cc_v4 (cc_E P F ch m).1 vp vm vx vy →
      wY_collect_35 post x1 n (nI r) g_procs g_limit g_calls g_depth g_cur g_ok g_c0 g_c1 g_cb (nI (cc_E P F ch m).1.length) g_built g_chosen g_top g_outs g_entries b_len b_kind b_sd b_ss b_st b_sa b_sb b_fk b_f0 b_f1 b_fb b_fact b_factv re vp vm vx vy b_sp b_pc b_sm b_cell b_outList b_entryList := by
  intro n
  induction n with
  | zero => intro r m vp vm vx vy re _ z; omega
  | succ n ih =>
    intro r m vp vm vx vy re hr hn hm hc ho I
    have l16 := cc_E_l (P := P) (F := F) (ch := ch) m
    by_cases e : r = 17
    · subst e
      have hle : (cc_E P F ch m).1.length ≤ m := by omega
      have e16 : cc_E P F ch 16 = cc_E P F ch m := cc_E_st (Or.inr hle) 16 (by omega)
      unfold cc_ov cc_li cc_to cc_li at h
      rw [e16] at h
      refine br_t (show (17 : Int32) ≤ nI 17 from Int32.le_refl _) ⟨17, ?_⟩
      exact yw_c377 W K l16 (cc_E_p W m) I (fun re => h ho vp vm vx vy re I) 17 0 re (by omega) (by omega)
    · refine br_f (nI_ge (b := 17) (by omega) (by decide)) ⟨17, ?_⟩
      refine yw_c49 (m := m) (now := (cc_E P F ch m).1.length) W K hx hm rfl ho hov (fun o vp vm vx vy re r' => ?_) 17 0 m vp vm vx vy re (by omega) (by omega) (by omega) ho I
      have g := cc_gr_l (cc_E_gr (P := P) (F := F) (ch := ch) (i := m) (cc_E P F ch m).1.length hm)
      refine ih (r + 1) _ vp vm vx vy re (by omega) (by omega) g ?_ o r'
      by_cases z : m < (cc_E P F ch m).1.length
      · rcases hc with y | y
        · left; omega
        · omega
      · right
        have em : (cc_E P F ch m).1.length = m := by omega
        rw [em, em]; exact Nat.le_refl _
theorem yw_collect {post : Int32 → SY → Prop} {P : cc_Pg} (W : cc_wf P) {F : Nat → cc_Lt} (K : cc_YK P F b_len b_kind b_sd b_ss b_st b_sa b_sb b_fk b_f0 b_f1 b_fb b_fact b_factv) {ch : Nat → Bool} {x1 : Int32} (hx : cc_cb x1 ch)
    (hov : cc_ov P F ch = true → ∀ vn vp vm vx vy re, post (-1) (g_procs, g_limit, g_calls, g_depth, g_cur, g_ok, g_c0, g_c1, g_cb, vn, g_built, g_chosen, g_top, g_outs, g_entries, b_len, b_kind, b_sd, b_ss, b_st, b_sa, b_sb, b_fk, b_f0, b_f1, b_fb, b_fact, b_factv, re, vp, vm, vx, vy, b_sp, b_pc, b_sm, b_cell, b_outList, b_entryList))
    (h : cc_ov P F ch = false → ∀ vp vm vx vy re, cc_v4 (cc_li P F ch) vp vm vx vy → post (nI (cc_to P F ch)) (g_procs, g_limit, g_calls, g_depth, g_cur, g_ok, g_c0, g_c1, g_cb, (nI (cc_li P F ch).length), g_built, g_chosen, g_top, g_outs, g_entries, b_len, b_kind, b_sd, b_ss, b_st, b_sa, b_sb, b_fk, b_f0, b_f1, b_fb, b_fact, b_factv, re, vp, vm, vx, vy, b_sp, b_pc, b_sm, b_cell, b_outList, b_entryList)) :
    wpY_collect post (g_procs, g_limit, g_calls, g_depth, g_cur, g_ok, g_c0, g_c1, g_cb, g_vn, g_built, g_chosen, g_top, g_outs, g_entries, b_len, b_kind, b_sd, b_ss, b_st, b_sa, b_sb, b_fk, b_f0, b_f1, b_fb, b_fact, b_factv, b_reach, b_vp, b_vm, b_vx, b_vy, b_sp, b_pc, b_sm, b_cell, b_outList, b_entryList) x1 := by
  refine nm_e (nm_e (nm_e (nm_e ⟨18, ?_⟩)))
  refine yw_c35 W K hx hov h 18 0 0 _ _ _ _ b_reach (by omega) (by omega) (by omega) (Or.inl (by omega)) rfl (fun n v hv => ?_)
  cases n with
  | zero =>
    cases Option.some.inj hv
    exact ⟨pk_us, pk_us, fun u z => (nomatch z), fun u z => (nomatch z)⟩
  | succ n => exact nomatch hv
theorem cc_cb_or {x : Int32} {ch : Nat → Bool} {p : Nat} (h : cc_cb x ch) (hp : p < 6) : cc_cb (x ||| ((1 : Int32) <<< (nI p &&& 31))) (cc_set ch p true) := by
  intro q hq
  rw [b_or, h q hq, bx_sh (by omega) (by omega)]
  by_cases e : q = p
  · subst e; rw [cc_set_s, decide_eq_true rfl, Bool.or_true]
  · rw [cc_set_n ch true e, decide_eq_false e, Bool.or_false]
theorem cc_to_le {P : cc_Pg} (W : cc_wf P) (F : Nat → cc_Lt) (ch : Nat → Bool) : cc_to P F ch ≤ 144 := by
  have a := cc_tt_le (P := P) W (l := cc_li P F ch) (fun v hv => cc_E_6 W hv) (cc_li P F ch).length
  have b := cc_E_l (P := P) (F := F) (ch := ch) 16
  unfold cc_to
  unfold cc_li at a ⊢
  omega
theorem yw_b31 {post : Int32 → SY → Prop} {P : cc_Pg} (W : cc_wf P) {F : Nat → cc_Lt} (K : cc_YK P F b_len b_kind b_sd b_ss b_st b_sa b_sb b_fk b_f0 b_f1 b_fb b_fact b_factv) {bud : Int32} (h0 : cc_ft P F (fun _ => false) bud)
    (h : ∀ x vp vm vx vy re, cc_cb x (cc_ch P F bud (cc_N P)) → post (nI (cc_to P F (cc_ch P F bud (cc_N P)))) ((nI (cc_N P)), g_limit, g_calls, g_depth, g_cur, g_ok, g_c0, g_c1, g_cb, (nI (cc_li P F (cc_ch P F bud (cc_N P))).length), 1, x, g_top, g_outs, g_entries, b_len, b_kind, b_sd, b_ss, b_st, b_sa, b_sb, b_fk, b_f0, b_f1, b_fb, b_fact, b_factv, re, vp, vm, vx, vy, b_sp, b_pc, b_sm, b_cell, b_outList, b_entryList)) :
    ∀ (n p : Nat) (x vn : Int32) (vp vm vx vy re : Nat → Int32), 1 ≤ p → p ≤ cc_N P → cc_N P - p < n → cc_cb x (cc_ch P F bud p) → wY_build_31 post bud n x (nI p) (nI (cc_N P)) g_limit g_calls g_depth g_cur g_ok g_c0 g_c1 g_cb vn g_built g_chosen g_top g_outs g_entries b_len b_kind b_sd b_ss b_st b_sa b_sb b_fk b_f0 b_f1 b_fb b_fact b_factv re vp vm vx vy b_sp b_pc b_sm b_cell b_outList b_entryList := by
  have N6 := W.2.1
  intro n
  induction n with
  | zero => intro p x vn vp vm vx vy re _ _ z; omega
  | succ n ih =>
    intro p x vn vp vm vx vy re h1 hp hn I
    by_cases e : p = cc_N P
    · subst e
      refine br_t (nI_le (Nat.le_refl _) (by omega)) ?_
      have ft := cc_ch_ft h0 (cc_N P)
      exact yw_collect W K I (fun z => by rw [ft.1] at z; exact nomatch z) (fun _ vp vm vx vy re _ => h x vp vm vx vy re I)
    · have hp6 : p < 6 := by omega
      refine br_f (nI_ge (show p < cc_N P by omega) (by omega)) ?_
      have cb := cc_cb_or I hp6
      have fa : ∀ {a : Nat → Int32}, a = b_fact → a (nI p * 2).toNatClampNeg = cc_lf (F (2 * p)) := fun ea => by
        rw [ea, ix_r20, ix_c b_fact (by omega)]; exact (K.2.2.2 (2 * p) (by omega)).1
      have hi2 : vp_in (nI p * 2) 12 := by rw [ix_r20]; exact vp_in_nI (by omega) (by decide)
      have same : ¬ (1 ≤ p ∧ F (2 * p) ≠ none ∧ cc_ft P F (cc_set (cc_ch P F bud p) p true) bud) → ∀ vn vp vm vx vy re z, z = nI p + 1 → wY_build_31 post bud n x z (nI (cc_N P)) g_limit g_calls g_depth g_cur g_ok g_c0 g_c1 g_cb vn g_built g_chosen g_top g_outs g_entries b_len b_kind b_sd b_ss b_st b_sa b_sb b_fk b_f0 b_f1 b_fb b_fact b_factv re vp vm vx vy b_sp b_pc b_sm b_cell b_outList b_entryList := by
        intro no vn vp vm vx vy re
        refine nm_r (e' := nI (p + 1)) (nI_1 p) (ih (p + 1) x vn vp vm vx vy re (by omega) (by omega) (by omega) ?_)
        rw [cc_ch_f no]; exact I
      refine yw_collect W K cb (fun ov vn vp vm vx vy re => And.intro hi2 ?_) (fun ov vp vm vx vy re r => And.intro hi2 ?_)
      · rw [fa rfl]
        by_cases nn : F (2 * p) = none
        · exact br_t (cc_lf_1.mpr nn) (same (fun z => z.2.1 nn) _ _ _ _ _ _)
        · exact br_f (fun z => nn (cc_lf_1.mp z)) (br_t (by decide) (same (fun z => by rw [z.2.2.1] at ov; exact nomatch ov) _ _ _ _ _ _))
      · rw [fa rfl]
        by_cases nn : F (2 * p) = none
        · exact br_t (cc_lf_1.mpr nn) (same (fun z => z.2.1 nn) _ _ _ _ _ _)
        · have t144 := cc_to_le W F (cc_set (cc_ch P F bud p) p true)
          refine br_f (fun z => nn (cc_lf_1.mp z)) (br_f (nI_pos (by omega)) ?_)
          by_cases c : bud < nI (cc_to P F (cc_set (cc_ch P F bud p) p true))
          · exact br_t c (same (fun z => Int32.not_le.mpr c z.2.2.2) _ _ _ _ _ _)
          · refine br_f c (nm_e (nm_r (e' := nI (p + 1)) (nI_1 p) (ih (p + 1) _ _ vp vm vx vy re (by omega) (by omega) (by omega) ?_)))
            rw [cc_ch_t h1 nn ⟨ov, Int32.not_lt.mp c⟩]; exact cb
theorem yw_build {post : Int32 → SY → Prop} {P : cc_Pg} (W : cc_wf P) (hL : ∀ p, p < 6 → b_len p = nI (cc_L P p)) (y : cc_yc P b_kind b_sd b_ss b_st b_sa b_sb) {bud : Int32}
    (h0 : ∀ ok c0 c1 cb fk f0 f1 fb fa fv vn vp vm vx vy re, cc_yf P fk f0 f1 fb → cc_rf fa fv (cc_rd P 24) → ¬ cc_ft P (cc_rd P 24) (fun _ => false) bud → post (-4) ((nI (cc_N P)), g_limit, g_calls, g_depth, g_cur, ok, c0, c1, cb, vn, g_built, g_chosen, g_top, g_outs, g_entries, b_len, b_kind, b_sd, b_ss, b_st, b_sa, b_sb, fk, f0, f1, fb, fa, fv, re, vp, vm, vx, vy, b_sp, b_pc, b_sm, b_cell, b_outList, b_entryList))
    (h1 : ∀ ok c0 c1 cb fk f0 f1 fb fa fv x vn vp vm vx vy re, cc_yf P fk f0 f1 fb → cc_rf fa fv (cc_rd P 24) → cc_ft P (cc_rd P 24) (fun _ => false) bud → cc_cb x (cc_ch P (cc_rd P 24) bud (cc_N P)) → post (nI (cc_to P (cc_rd P 24) (cc_ch P (cc_rd P 24) bud (cc_N P)))) ((nI (cc_N P)), g_limit, g_calls, g_depth, g_cur, ok, c0, c1, cb, vn, 1, x, g_top, g_outs, g_entries, b_len, b_kind, b_sd, b_ss, b_st, b_sa, b_sb, fk, f0, f1, fb, fa, fv, re, vp, vm, vx, vy, b_sp, b_pc, b_sm, b_cell, b_outList, b_entryList)) :
    wpY_build post ((nI (cc_N P)), g_limit, g_calls, g_depth, g_cur, g_ok, g_c0, g_c1, g_cb, g_vn, g_built, g_chosen, g_top, g_outs, g_entries, b_len, b_kind, b_sd, b_ss, b_st, b_sa, b_sb, b_fk, b_f0, b_f1, b_fb, b_fact, b_factv, b_reach, b_vp, b_vm, b_vx, b_vy, b_sp, b_pc, b_sm, b_cell, b_outList, b_entryList) bud := by
  have N2 := W.1
  have N6 := W.2.1
  refine yw_forms W hL y (fun ok c0 c1 cb fk f0 f1 fb R => ?_)
  refine yw_facts W hL y R (fun fa fv re rf => ?_)
  have K : cc_YK P (cc_rd P 24) b_len b_kind b_sd b_ss b_st b_sa b_sb fk f0 f1 fb fa fv := ⟨y, hL, R, rf⟩
  have z0 : cc_cb 0 (fun _ => false) := fun q _ => b_0 q
  refine yw_collect W K z0 (fun ov vn vp vm vx vy re => ?_) (fun ov vp vm vx vy re r => ?_)
  · exact br_t (by decide) (h0 _ _ _ _ _ _ _ _ _ _ _ _ _ _ _ _ R rf (fun z => by rw [z.1] at ov; exact nomatch ov))
  · have t144 := cc_to_le W (cc_rd P 24) (fun _ => false)
    refine br_f (nI_pos (by omega)) ?_
    by_cases c : nI (cc_to P (cc_rd P 24) (fun _ => false)) ≤ bud
    · refine br_t c ⟨7, ?_⟩
      refine yw_b31 W K ⟨ov, c⟩ (fun x vp vm vx vy re cb => h1 _ _ _ _ _ _ _ _ _ _ x _ vp vm vx vy re R rf ⟨ov, c⟩ cb) 7 1 0 _ vp vm vx vy re (by omega) (by omega) (by omega) ?_
      rw [cc_ch_1]; exact z0
    · exact br_f c (h0 _ _ _ _ _ _ _ _ _ _ _ _ _ _ _ _ R rf (fun z => c z.2))
end
end
section
/-! X: the folded code -/
def cc_nt (P : cc_Pg) (m : Nat) (c : cc_Cx) : Bool := decide (cc_K P m = 5) && (match cc_ev (cc_fm P m (cc_S P m)) c with | none => false | some v => !decide (v = cc_A P m))
def cc_kp (P : cc_Pg) (p : Nat) (c : cc_Cx) (i : Nat) : Bool := (cc_rc P p c i && decide (i < cc_L P p)) && !cc_nt P (p * 8 + i) c
def cc_pl (P : cc_Pg) (v : cc_V) (i : Nat) : Nat := cc_ct (cc_kp P v.1 v.2) i
def cc_n6 (kd d s t a b kd' d' s' t' a' b' : Nat → Int32) (S : Nat → Prop) : Prop := ∀ j, ¬ S j → kd' j = kd j ∧ d' j = d j ∧ s' j = s j ∧ t' j = t j ∧ a' j = a j ∧ b' j = b j
/-- the folded statement in slot k -/
def cc_em (P : cc_Pg) (F : Nat → cc_Lt) (ch : Nat → Bool) (l : List cc_V) (v : cc_V) (m : Nat) (kd d s t a b : Nat → Int32) (k : Nat) : Prop :=
  d k = nI (cc_D P m) ∧
  (cc_K P m ≤ 4 → (∀ u, cc_ev (cc_tf P (cc_fm P m) m) v.2 = some u → kd k = 4 ∧ s k = 0 ∧ t k = 0 ∧ a k = 0 ∧ b k = u) ∧ (cc_ev (cc_tf P (cc_fm P m) m) v.2 = none → kd k = nI (cc_K P m) ∧ s k = nI (cc_S P m) ∧ t k = nI (cc_T P m) ∧ a k = cc_A P m ∧ b k = cc_B P m)) ∧
  (5 ≤ cc_K P m → s k = nI (cc_S P m) ∧ t k = nI (cc_T P m)) ∧
  (cc_K P m = 5 → a k = cc_A P m ∧ b k = nI (cc_pl P v (cc_G P m)) ∧ (cc_ev (cc_fm P m (cc_S P m)) v.2 = none → kd k = 5) ∧ (cc_ev (cc_fm P m (cc_S P m)) v.2 ≠ none → kd k = 8)) ∧
  (cc_K P m = 6 → kd k = 6 ∧ ∃ n : Nat, l[n]? = some (cc_Q P m, cc_ce P F ch m v.2) ∧ a k = nI (6 + n)) ∧
  (cc_K P m = 7 → kd k = 7)
section
variable {kd d s t a b kd' d' s' t' a' b' kd2 d2 s2 t2 a2 b2 : Nat → Int32}
theorem cc_n6_r (S : Nat → Prop) : cc_n6 kd d s t a b kd d s t a b S := fun _ _ => ⟨rfl, rfl, rfl, rfl, rfl, rfl⟩
theorem cc_n6_t {S T U : Nat → Prop} (h : cc_n6 kd d s t a b kd' d' s' t' a' b' S) (k : cc_n6 kd' d' s' t' a' b' kd2 d2 s2 t2 a2 b2 T) (hS : ∀ j, S j → U j) (hT : ∀ j, T j → U j) : cc_n6 kd d s t a b kd2 d2 s2 t2 a2 b2 U := fun j n => by
  obtain ⟨x1, x2, x3, x4, x5, x6⟩ := h j (fun z => n (hS j z))
  obtain ⟨y1, y2, y3, y4, y5, y6⟩ := k j (fun z => n (hT j z))
  exact ⟨y1.trans x1, y2.trans x2, y3.trans x3, y4.trans x4, y5.trans x5, y6.trans x6⟩
theorem cc_em_k {P : cc_Pg} {F : Nat → cc_Lt} {ch : Nat → Bool} {l : List cc_V} {v : cc_V} {m k : Nat} {S : Nat → Prop} (h : cc_n6 kd d s t a b kd' d' s' t' a' b' S) (n : ¬ S k) (e : cc_em P F ch l v m kd d s t a b k) : cc_em P F ch l v m kd' d' s' t' a' b' k := by
  obtain ⟨x1, x2, x3, x4, x5, x6⟩ := h k n
  unfold cc_em at e ⊢
  rw [x1, x2, x3, x4, x5, x6]; exact e
theorem cc_xc_k {P : cc_Pg} (W : cc_wf P) {S : Nat → Prop} (h : cc_n6 kd d s t a b kd' d' s' t' a' b' S) (n : ∀ j, j < 48 → ¬ S j) (e : cc_xc P kd d s t a b) : cc_xc P kd' d' s' t' a' b' := by
  intro p i hp hi
  have L8 := W.2.2.1 p hp
  obtain ⟨x1, x2, x3, x4, x5, x6⟩ := h (p * 8 + i) (n _ (by omega))
  have := e p i hp hi
  unfold cc_x1 at this ⊢
  rw [x1, x2, x3, x4, x5, x6]; exact this
end
theorem cc_nt_t {P : cc_Pg} {m : Nat} {c : cc_Cx} (h : cc_nt P m c = true) : cc_K P m = 5 ∧ ∃ v, cc_ev (cc_fm P m (cc_S P m)) c = some v ∧ v ≠ cc_A P m := by
  unfold cc_nt at h
  rw [Bool.and_eq_true, decide_eq_true_iff] at h
  refine ⟨h.1, ?_⟩
  cases e : cc_ev (cc_fm P m (cc_S P m)) c with
  | none => have := h.2; rw [e] at this; exact nomatch this
  | some v =>
    refine ⟨v, rfl, fun z => ?_⟩
    have := h.2
    rw [e] at this
    dsimp only at this
    rw [decide_eq_true z] at this; exact nomatch this
theorem cc_nt_f {P : cc_Pg} {m : Nat} {c : cc_Cx} (h : cc_nt P m c = false) (k : cc_K P m = 5) : cc_ev (cc_fm P m (cc_S P m)) c = none ∨ cc_ev (cc_fm P m (cc_S P m)) c = some (cc_A P m) := by
  unfold cc_nt at h
  rw [decide_eq_true k, Bool.true_and] at h
  cases e : cc_ev (cc_fm P m (cc_S P m)) c with
  | none => exact Or.inl rfl
  | some v =>
    rw [e] at h
    dsimp only at h
    refine Or.inr (congrArg some (Classical.byContradiction fun z => ?_))
    rw [decide_eq_false z] at h; exact nomatch h
theorem cc_nt_5 {P : cc_Pg} {m : Nat} {c : cc_Cx} (k : cc_K P m ≠ 5) : cc_nt P m c = false := by
  unfold cc_nt; rw [decide_eq_false k]; rfl
theorem cc_bs_e {x y : Int32} {f : Nat → Bool} (h : cc_bs x f) (k : cc_bs y f) : x = y := b_ext fun i hi => (h i hi).trans (k i hi).symm
section
variable {f_LIN f_SKIP f_CALL f_OUT f_JUMP f_RUNNING f_FIRST_VERSION f_MAX_VERSIONS f_procedures f_length f_calls f_depth f_openProc f_analysed f_built f_builtCount f_builtTotal f_workTop f_ctxMask f_ctxX f_ctxY f_argMask f_argX f_argY f_candCount f_candTotal f_overflow f_frames f_outCount f_entryCount : Int32} {a_kind a_d a_s a_t a_a a_b a_unitLen a_unitProc a_unitMask a_unitX a_unitY a_unitSize a_splitNow a_callSites a_opaque a_form0 a_form1 a_formB a_met a_fact a_factValue a_work a_waiting a_trial a_candProc a_candMask a_candX a_candY a_candSize a_place a_frameUnit a_framePc a_vars a_outputs a_entryProc a_entryX a_entryY a_entryMask : Nat → Int32}
theorem xw_kept8 {post : Int32 → Prop} {P : cc_Pg} (W : cc_wf P) {p : Nat} (hp : p < cc_N P) (x : cc_xc P a_kind a_d a_s a_t a_a a_b) (R : cc_xd P a_opaque a_form0 a_form1 a_formB p (cc_L P p)) {c : cc_Cx}
    (h : ∀ z, cc_bs z (cc_kp P p c) → post z) :
    ∀ (n i : Nat) (z : Int32), i ≤ 8 → 8 - i < n → cc_bs z (fun j => (cc_rc P p c j && decide (j < cc_L P p)) && !(decide (j < i) && cc_nt P (p * 8 + j) c)) → wX_keptStatements_8 post (nI p) f_LIN f_SKIP f_CALL f_OUT f_JUMP f_RUNNING f_FIRST_VERSION f_MAX_VERSIONS f_procedures f_length f_calls f_depth f_openProc f_analysed f_built f_builtCount f_builtTotal f_workTop (cc_cm c) (cc_cx c) (cc_cy c) f_argMask f_argX f_argY f_candCount f_candTotal f_overflow f_frames f_outCount f_entryCount a_kind a_d a_s a_t a_a a_b a_unitLen a_unitProc a_unitMask a_unitX a_unitY a_unitSize a_splitNow a_callSites a_opaque a_form0 a_form1 a_formB a_met a_fact a_factValue a_work a_waiting a_trial a_candProc a_candMask a_candX a_candY a_candSize a_place a_frameUnit a_framePc a_vars a_outputs a_entryProc a_entryX a_entryY a_entryMask n z (nI i) := by
  have h6 : p < 6 := Nat.lt_of_lt_of_le hp W.2.1
  have L8 := W.2.2.1 p h6
  intro n
  induction n with
  | zero => intro i z _ y; omega
  | succ n ih =>
    intro i z hi hn I
    by_cases e : i = 8
    · subst e
      refine br_t (show (8 : Int32) ≤ nI 8 from Int32.le_refl _) (h z (fun j hj => ?_))
      rw [I j hj]
      dsimp only
      unfold cc_kp
      by_cases hj : j < cc_L P p
      · rw [decide_eq_true (show j < 8 by omega), Bool.true_and]
      · rw [decide_eq_false hj, Bool.and_false, Bool.false_and, Bool.false_and]
    · refine br_f (nI_ge (b := 8) (by omega) (by decide)) (nm_r (e' := nI (p * 8 + i)) (ix_8 p i) ?_)
      rw [bx_t I (n := i) (by omega), decide_eq_false (show ¬ i < i by omega), Bool.false_and, Bool.not_false, Bool.and_true]
      have keep : (cc_rc P p c i && decide (i < cc_L P p)) = false ∨ cc_nt P (p * 8 + i) c = false → ∀ y, y = nI i + 1 → wX_keptStatements_8 post (nI p) f_LIN f_SKIP f_CALL f_OUT f_JUMP f_RUNNING f_FIRST_VERSION f_MAX_VERSIONS f_procedures f_length f_calls f_depth f_openProc f_analysed f_built f_builtCount f_builtTotal f_workTop (cc_cm c) (cc_cx c) (cc_cy c) f_argMask f_argX f_argY f_candCount f_candTotal f_overflow f_frames f_outCount f_entryCount a_kind a_d a_s a_t a_a a_b a_unitLen a_unitProc a_unitMask a_unitX a_unitY a_unitSize a_splitNow a_callSites a_opaque a_form0 a_form1 a_formB a_met a_fact a_factValue a_work a_waiting a_trial a_candProc a_candMask a_candX a_candY a_candSize a_place a_frameUnit a_framePc a_vars a_outputs a_entryProc a_entryX a_entryY a_entryMask n z y := by
        intro hh
        refine nm_r (e' := nI (i + 1)) (nI_1 i) (ih (i + 1) z (by omega) (by omega) (fun j hj => ?_))
        rw [I j hj]
        dsimp only
        by_cases ej : j = i
        · subst ej
          rcases hh with hh | hh
          · rw [hh, Bool.false_and, Bool.false_and]
          · rw [hh, Bool.and_false, Bool.and_false]
        · by_cases ji : j < i
          · rw [decide_eq_true ji, decide_eq_true (show j < i + 1 by omega)]
          · rw [decide_eq_false ji, decide_eq_false (show ¬ j < i + 1 by omega)]
      cases q : (cc_rc P p c i && decide (i < cc_L P p)) with
      | false => exact br_t rfl (keep (Or.inl q))
      | true =>
        rw [Bool.and_eq_true, decide_eq_true_iff] at q
        obtain ⟨q1, q2⟩ := q
        have em : p * 8 + i < 2 ^ 31 := by omega
        have w1 := W.2.2.2 p i h6 q2
        have x1 := x p i h6 q2
        refine br_f ix_10 (And.intro (vp_in_nI (by omega) (by decide)) ?_)
        rw [ix_c a_kind em, x1.1]
        have w7 := w1.1
        by_cases k5 : cc_K P (p * 8 + i) = 5
        · rw [k5]
          obtain ⟨G1, G2, G3⟩ := w1.2.2.2.2.2 k5
          refine br_t rfl (xw_successors (by omega) (by omega) w1 x1 ((R i q2).1 _ w1.2.2.1) (fun s hs => ?_))
          rw [nI_1]
          rw [nI_1] at keep
          cases nt : cc_nt P (p * 8 + i) c with
          | true =>
            obtain ⟨-, v, ev, hv⟩ := cc_nt_t nt
            refine br_t ?_ (nm_e (nm_r (e' := nI (i + 1)) rfl (ih (i + 1) _ (by omega) (by omega) (fun j hj => ?_))))
            · apply b_ext
              intro j hj
              rw [hs j hj, cc_sc_f k5 ev hv, bx_sh (by omega) hj]
            · rw [b_and, b_xor, bx_sh (by omega) hj, b_m1 j hj, I j hj]
              dsimp only
              by_cases ej : j = i
              · subst ej
                rw [decide_eq_true rfl, nt, decide_eq_true (show j < j + 1 by omega)]
                exact (Bool.and_false _).trans (Bool.and_false _).symm
              · rw [decide_eq_false ej]
                by_cases ji : j < i
                · rw [decide_eq_true ji, decide_eq_true (show j < i + 1 by omega)]; exact Bool.and_true _
                · rw [decide_eq_false ji, decide_eq_false (show ¬ j < i + 1 by omega)]; exact Bool.and_true _
          | false =>
            refine br_f (fun z => ?_) (keep (Or.inr nt))
            have b1 : bt s (cc_G P (p * 8 + i)) = bt ((1 : Int32) <<< (nI (i + 1) &&& 31)) (cc_G P (p * 8 + i)) := by rw [z]
            rw [hs _ (by omega), bx_sh (by omega) (by omega), decide_eq_false (by omega)] at b1
            rcases cc_nt_f nt k5 with ev | ev
            · rw [cc_sc_u k5 ev, decide_eq_true rfl, Bool.or_true] at b1; exact nomatch b1
            · rw [cc_sc_t k5 ev, decide_eq_true rfl] at b1; exact nomatch b1
        · exact br_f (fun z => k5 ((nI_eq (by omega) (by decide)).mp z)) (keep (Or.inr (cc_nt_5 k5)))
theorem xw_kept {post : Int32 → Prop} {P : cc_Pg} (W : cc_wf P) {p : Nat} (hp : p < cc_N P) (hL : a_unitLen p = nI (cc_L P p)) (x : cc_xc P a_kind a_d a_s a_t a_a a_b) (R : cc_xd P a_opaque a_form0 a_form1 a_formB p (cc_L P p)) {c : cc_Cx}
    (h : ∀ z, cc_bs z (cc_kp P p c) → post z) : wpX_keptStatements post (f_LIN, f_SKIP, f_CALL, f_OUT, f_JUMP, f_RUNNING, f_FIRST_VERSION, f_MAX_VERSIONS, f_procedures, f_length, f_calls, f_depth, f_openProc, f_analysed, f_built, f_builtCount, f_builtTotal, f_workTop, (cc_cm c), (cc_cx c), (cc_cy c), f_argMask, f_argX, f_argY, f_candCount, f_candTotal, f_overflow, f_frames, f_outCount, f_entryCount, a_kind, a_d, a_s, a_t, a_a, a_b, a_unitLen, a_unitProc, a_unitMask, a_unitX, a_unitY, a_unitSize, a_splitNow, a_callSites, a_opaque, a_form0, a_form1, a_formB, a_met, a_fact, a_factValue, a_work, a_waiting, a_trial, a_candProc, a_candMask, a_candX, a_candY, a_candSize, a_place, a_frameUnit, a_framePc, a_vars, a_outputs, a_entryProc, a_entryX, a_entryY, a_entryMask) (nI p) := by
  unfold wpX_keptStatements
  refine xw_reached W (Nat.lt_of_lt_of_le hp W.2.1) hL x R (fun z hz => ⟨9, ?_⟩)
  refine xw_kept8 W hp x R h 9 0 z (by omega) (by omega) (fun j hj => ?_)
  rw [hz j hj]
  dsimp only
  rw [decide_eq_false (show ¬ j < 0 by omega), Bool.false_and, Bool.not_false, Bool.and_true]
theorem xw_layOut4 {post : Int32 → SX → Prop} {f : Nat → Bool} {z : Int32} (hz : cc_bs z f)
    (h : ∀ pl, (∀ j, j < 17 → pl j = nI (cc_ct f j)) → post (nI (cc_ct f 17)) (f_LIN, f_SKIP, f_CALL, f_OUT, f_JUMP, f_RUNNING, f_FIRST_VERSION, f_MAX_VERSIONS, f_procedures, f_length, f_calls, f_depth, f_openProc, f_analysed, f_built, f_builtCount, f_builtTotal, f_workTop, f_ctxMask, f_ctxX, f_ctxY, f_argMask, f_argX, f_argY, f_candCount, f_candTotal, f_overflow, f_frames, f_outCount, f_entryCount, a_kind, a_d, a_s, a_t, a_a, a_b, a_unitLen, a_unitProc, a_unitMask, a_unitX, a_unitY, a_unitSize, a_splitNow, a_callSites, a_opaque, a_form0, a_form1, a_formB, a_met, a_fact, a_factValue, a_work, a_waiting, a_trial, a_candProc, a_candMask, a_candX, a_candY, a_candSize, pl, a_frameUnit, a_framePc, a_vars, a_outputs, a_entryProc, a_entryX, a_entryY, a_entryMask)) :
    ∀ (n i : Nat) (pl : Nat → Int32), i ≤ 17 → 17 - i < n → (∀ j, j < i → pl j = nI (cc_ct f j)) → wX_layOut_4 post z f_LIN f_SKIP f_CALL f_OUT f_JUMP f_RUNNING f_FIRST_VERSION f_MAX_VERSIONS f_procedures f_length f_calls f_depth f_openProc f_analysed f_built f_builtCount f_builtTotal f_workTop f_ctxMask f_ctxX f_ctxY f_argMask f_argX f_argY f_candCount f_candTotal f_overflow f_frames f_outCount f_entryCount n (nI (cc_ct f i)) (nI i) a_kind a_d a_s a_t a_a a_b a_unitLen a_unitProc a_unitMask a_unitX a_unitY a_unitSize a_splitNow a_callSites a_opaque a_form0 a_form1 a_formB a_met a_fact a_factValue a_work a_waiting a_trial a_candProc a_candMask a_candX a_candY a_candSize pl a_frameUnit a_framePc a_vars a_outputs a_entryProc a_entryX a_entryY a_entryMask := by
  intro n
  induction n with
  | zero => intro i pl _ y; omega
  | succ n ih =>
    intro i pl hi hn I
    by_cases e : i = 17
    · subst e
      exact br_t (show (17 : Int32) ≤ nI 17 from Int32.le_refl _) (h pl I)
    · refine br_f (nI_ge (b := 17) (by omega) (by decide)) (And.intro (vp_in_nI (by omega) (by decide)) (nm_e (nm_r (e' := nI (cc_ct f (i + 1))) ?_ (nm_r (e' := nI (i + 1)) (nI_1 i) (ih (i + 1) _ (by omega) (by omega) (fun j hj => ?_))))))
      · rw [bx_t hz (n := i) (by omega), cc_b_nI, nI_add]; rfl
      · rw [nI_clamp (show i < 2 ^ 31 by omega)]
        by_cases ej : j = i
        · subst ej; exact pk_us
        · exact (pk_un ej).trans (I j (by omega))
theorem xw_layOut {post : Int32 → SX → Prop} {f : Nat → Bool} {z : Int32} (hz : cc_bs z f)
    (h : ∀ pl, (∀ j, j < 17 → pl j = nI (cc_ct f j)) → post (nI (cc_ct f 17)) (f_LIN, f_SKIP, f_CALL, f_OUT, f_JUMP, f_RUNNING, f_FIRST_VERSION, f_MAX_VERSIONS, f_procedures, f_length, f_calls, f_depth, f_openProc, f_analysed, f_built, f_builtCount, f_builtTotal, f_workTop, f_ctxMask, f_ctxX, f_ctxY, f_argMask, f_argX, f_argY, f_candCount, f_candTotal, f_overflow, f_frames, f_outCount, f_entryCount, a_kind, a_d, a_s, a_t, a_a, a_b, a_unitLen, a_unitProc, a_unitMask, a_unitX, a_unitY, a_unitSize, a_splitNow, a_callSites, a_opaque, a_form0, a_form1, a_formB, a_met, a_fact, a_factValue, a_work, a_waiting, a_trial, a_candProc, a_candMask, a_candX, a_candY, a_candSize, pl, a_frameUnit, a_framePc, a_vars, a_outputs, a_entryProc, a_entryX, a_entryY, a_entryMask)) : wpX_layOut post (f_LIN, f_SKIP, f_CALL, f_OUT, f_JUMP, f_RUNNING, f_FIRST_VERSION, f_MAX_VERSIONS, f_procedures, f_length, f_calls, f_depth, f_openProc, f_analysed, f_built, f_builtCount, f_builtTotal, f_workTop, f_ctxMask, f_ctxX, f_ctxY, f_argMask, f_argX, f_argY, f_candCount, f_candTotal, f_overflow, f_frames, f_outCount, f_entryCount, a_kind, a_d, a_s, a_t, a_a, a_b, a_unitLen, a_unitProc, a_unitMask, a_unitX, a_unitY, a_unitSize, a_splitNow, a_callSites, a_opaque, a_form0, a_form1, a_formB, a_met, a_fact, a_factValue, a_work, a_waiting, a_trial, a_candProc, a_candMask, a_candX, a_candY, a_candSize, a_place, a_frameUnit, a_framePc, a_vars, a_outputs, a_entryProc, a_entryX, a_entryY, a_entryMask) z :=
  ⟨18, xw_layOut4 hz h 18 0 a_place (by omega) (by omega) (fun j hj => absurd hj (by omega))⟩
theorem xw_put {post : SX → Prop} {k : Nat} (hk : k < 176) {k1 d1 s1 t1 a1 b1 : Int32} (h : post (f_LIN, f_SKIP, f_CALL, f_OUT, f_JUMP, f_RUNNING, f_FIRST_VERSION, f_MAX_VERSIONS, f_procedures, f_length, f_calls, f_depth, f_openProc, f_analysed, f_built, f_builtCount, f_builtTotal, f_workTop, f_ctxMask, f_ctxX, f_ctxY, f_argMask, f_argX, f_argY, f_candCount, f_candTotal, f_overflow, f_frames, f_outCount, f_entryCount, (upd a_kind k k1), (upd a_d k d1), (upd a_s k s1), (upd a_t k t1), (upd a_a k a1), (upd a_b k b1), a_unitLen, a_unitProc, a_unitMask, a_unitX, a_unitY, a_unitSize, a_splitNow, a_callSites, a_opaque, a_form0, a_form1, a_formB, a_met, a_fact, a_factValue, a_work, a_waiting, a_trial, a_candProc, a_candMask, a_candX, a_candY, a_candSize, a_place, a_frameUnit, a_framePc, a_vars, a_outputs, a_entryProc, a_entryX, a_entryY, a_entryMask)) : wpX_put post (f_LIN, f_SKIP, f_CALL, f_OUT, f_JUMP, f_RUNNING, f_FIRST_VERSION, f_MAX_VERSIONS, f_procedures, f_length, f_calls, f_depth, f_openProc, f_analysed, f_built, f_builtCount, f_builtTotal, f_workTop, f_ctxMask, f_ctxX, f_ctxY, f_argMask, f_argX, f_argY, f_candCount, f_candTotal, f_overflow, f_frames, f_outCount, f_entryCount, a_kind, a_d, a_s, a_t, a_a, a_b, a_unitLen, a_unitProc, a_unitMask, a_unitX, a_unitY, a_unitSize, a_splitNow, a_callSites, a_opaque, a_form0, a_form1, a_formB, a_met, a_fact, a_factValue, a_work, a_waiting, a_trial, a_candProc, a_candMask, a_candX, a_candY, a_candSize, a_place, a_frameUnit, a_framePc, a_vars, a_outputs, a_entryProc, a_entryX, a_entryY, a_entryMask) (nI k) k1 d1 s1 t1 a1 b1 := by
  have hi : vp_in (nI k) 176 := vp_in_nI hk (by decide)
  refine And.intro hi (nm_e (And.intro hi (nm_e (And.intro hi (nm_e (And.intro hi (nm_e (And.intro hi (nm_e (And.intro hi (nm_e ?_)))))))))))
  rw [nI_clamp (show k < 2 ^ 31 by omega)]
  exact h
theorem xw_emit {post : SX → Prop} {P : cc_Pg} (W : cc_wf P) {F : Nat → cc_Lt} (rf : cc_rf a_fact a_factValue F) {ch : Nat → Bool} (ht : ∀ q, q < 6 → a_trial q = cc_b (ch q)) {l : List cc_V} (hl : l.length ≤ 16) (hN : ∀ w, w ∈ l → w.1 < cc_N P) (r4 : cc_r4 l a_candProc a_candMask a_candX a_candY) {v : cc_V} (hv : v.1 < cc_N P) (hcd : cc_cd P F ch v l) (R : cc_xd P a_opaque a_form0 a_form1 a_formB v.1 (cc_L P v.1)) (hpl : ∀ j, j < 17 → a_place j = nI (cc_pl P v j))
    {i k : Nat} (hi : i < cc_L P v.1) (hrc : cc_rc P v.1 v.2 i = true) (x : cc_x1 P a_kind a_d a_s a_t a_a a_b (v.1 * 8 + i)) (k48 : 48 ≤ k) (hk : k < 176)
    (h : ∀ am ax ay kd d s t a b, cc_n6 a_kind a_d a_s a_t a_a a_b kd d s t a b (fun j => j = k) → cc_em P F ch l v (v.1 * 8 + i) kd d s t a b k → post (f_LIN, f_SKIP, f_CALL, f_OUT, f_JUMP, f_RUNNING, f_FIRST_VERSION, f_MAX_VERSIONS, f_procedures, f_length, f_calls, f_depth, f_openProc, f_analysed, f_built, f_builtCount, f_builtTotal, f_workTop, (cc_cm v.2), (cc_cx v.2), (cc_cy v.2), am, ax, ay, (nI l.length), f_candTotal, f_overflow, f_frames, f_outCount, f_entryCount, kd, d, s, t, a, b, a_unitLen, a_unitProc, a_unitMask, a_unitX, a_unitY, a_unitSize, a_splitNow, a_callSites, a_opaque, a_form0, a_form1, a_formB, a_met, a_fact, a_factValue, a_work, a_waiting, a_trial, a_candProc, a_candMask, a_candX, a_candY, a_candSize, a_place, a_frameUnit, a_framePc, a_vars, a_outputs, a_entryProc, a_entryX, a_entryY, a_entryMask)) :
    wpX_emitStatement post (f_LIN, f_SKIP, f_CALL, f_OUT, f_JUMP, f_RUNNING, f_FIRST_VERSION, f_MAX_VERSIONS, f_procedures, f_length, f_calls, f_depth, f_openProc, f_analysed, f_built, f_builtCount, f_builtTotal, f_workTop, (cc_cm v.2), (cc_cx v.2), (cc_cy v.2), f_argMask, f_argX, f_argY, (nI l.length), f_candTotal, f_overflow, f_frames, f_outCount, f_entryCount, a_kind, a_d, a_s, a_t, a_a, a_b, a_unitLen, a_unitProc, a_unitMask, a_unitX, a_unitY, a_unitSize, a_splitNow, a_callSites, a_opaque, a_form0, a_form1, a_formB, a_met, a_fact, a_factValue, a_work, a_waiting, a_trial, a_candProc, a_candMask, a_candX, a_candY, a_candSize, a_place, a_frameUnit, a_framePc, a_vars, a_outputs, a_entryProc, a_entryX, a_entryY, a_entryMask) (nI (v.1 * 8 + i)) (nI k) := by
  have N6 := W.2.1
  have v6 : v.1 < 6 := by omega
  have L8 := W.2.2.1 v.1 v6
  have w := W.2.2.2 v.1 i v6 hi
  obtain ⟨R1, R4⟩ := R i hi
  generalize hm : v.1 * 8 + i = m at *
  have m48 : m < 48 := by omega
  have em : m < 2 ^ 31 := by omega
  have ek : k < 2 ^ 31 := by omega
  have him : vp_in (nI m) 176 := vp_in_nI (by omega) (by decide)
  have hik : vp_in (nI k) 176 := vp_in_nI hk (by decide)
  have nmk : m ≠ k := by omega
  obtain ⟨x1, x2, x3, x4, x5, x6⟩ := id x
  refine And.intro him (nm_r (e' := nI (cc_K P m)) ((ix_c a_kind em).trans x1) (And.intro him (And.intro him (And.intro him (And.intro him (And.intro him ?_))))))
  rw [ix_c a_d em, ix_c a_s em, ix_c a_t em, ix_c a_a em, ix_c a_b em, x2, x3, x4, x5, x6]
  refine xw_put hk ?_
  have x' : cc_x1 P (upd a_kind k (nI (cc_K P m))) (upd a_d k (nI (cc_D P m))) (upd a_s k (nI (cc_S P m))) (upd a_t k (nI (cc_T P m))) (upd a_a k (cc_A P m)) (upd a_b k (cc_B P m)) m := by
    unfold cc_x1
    rw [pk_un nmk, pk_un nmk, pk_un nmk, pk_un nmk, pk_un nmk, pk_un nmk]
    exact x
  have n6 : cc_n6 a_kind a_d a_s a_t a_a a_b (upd a_kind k (nI (cc_K P m))) (upd a_d k (nI (cc_D P m))) (upd a_s k (nI (cc_S P m))) (upd a_t k (nI (cc_T P m))) (upd a_a k (cc_A P m)) (upd a_b k (cc_B P m)) (fun j => j = k) :=
    fun j hj => ⟨pk_un hj, pk_un hj, pk_un hj, pk_un hj, pk_un hj, pk_un hj⟩
  have w7 := w.1
  have wS := w.2.2.1
  by_cases k4 : 4 < cc_K P m
  · refine br_t (nI_lt k4 (by omega)) ?_
    by_cases k5 : cc_K P m = 5
    · obtain ⟨G1, G2, G3⟩ := w.2.2.2.2.2 k5
      refine br_t (by rw [k5]; rfl) (And.intro him ?_)
      rw [ix_c (upd a_b k (cc_B P m)) em, pk_un nmk, x6, G3, ix_c a_place (show cc_G P m < 2 ^ 31 by omega), hpl _ (by omega), nI_clamp ek]
      refine And.intro (vp_in_nI (by omega) (by decide)) (And.intro hik (nm_e (And.intro him ?_)))
      rw [ix_c (upd a_s k (nI (cc_S P m))) em, pk_un nmk, x3, ix_5]
      refine xw_known (by omega) (R1 _ wS) ?_
      cases ev : cc_ev (cc_fm P m (cc_S P m)) v.2 with
      | none =>
        refine br_t rfl (h _ _ _ _ _ _ _ _ _ (fun j hj => ⟨pk_un hj, pk_un hj, pk_un hj, pk_un hj, pk_un hj, (pk_un hj).trans (pk_un hj)⟩) ⟨pk_us, fun z => absurd z (by omega), fun _ => ⟨pk_us, pk_us⟩, fun _ => ⟨pk_us, pk_us, fun _ => pk_us.trans (by rw [k5]; rfl), fun z => absurd ev z⟩, fun z => absurd z (by omega), fun z => absurd z (by omega)⟩)
      | some u =>
        refine br_f ix_10 (And.intro hik (nm_e ?_))
        refine h _ _ _ _ _ _ _ _ _ (fun j hj => ⟨(pk_un hj).trans (pk_un hj), pk_un hj, pk_un hj, pk_un hj, pk_un hj, (pk_un hj).trans (pk_un hj)⟩) ⟨pk_us, fun z => absurd z (by omega), fun _ => ⟨pk_us, pk_us⟩, fun _ => ⟨pk_us, pk_us, fun z => ?_, fun _ => pk_us⟩, fun z => absurd z (by omega), fun z => absurd z (by omega)⟩
        rw [ev] at z; exact nomatch z
    · refine br_f (fun z => k5 ((nI_eq (by omega) (by decide)).mp z)) ?_
      by_cases k6 : cc_K P m = 6
      · obtain ⟨hQ, hA⟩ := w.2.2.2.2.1 k6
        refine br_t (by rw [k6]; rfl) ?_
        refine xw_calleeContext m48 w N6 k6 x' R1 rf ht (And.intro him ?_)
        rw [ix_c (upd a_a k (cc_A P m)) em, pk_un nmk, x5, hA]
        have mem : (cc_Q P m, cc_ce P F ch m v.2) ∈ l := by
          have := hcd i hi; rw [hm] at this; exact this k6 hrc
        refine xw_intern (by omega) hl (fun w hw => Nat.lt_of_lt_of_le (hN w hw) N6) r4 (fun n hn => And.intro hik (nm_e ?_)) (fun no => absurd mem no) (fun no => absurd mem no)
        rw [nI_clamp ek]
        have e6 : (6 : Int32) + nI n = nI (6 + n) := nI_add 6 n
        rw [e6]
        exact h _ _ _ _ _ _ _ _ _ (fun j hj => ⟨pk_un hj, pk_un hj, pk_un hj, pk_un hj, (pk_un hj).trans (pk_un hj), pk_un hj⟩) ⟨pk_us, fun z => absurd z (by omega), fun _ => ⟨pk_us, pk_us⟩, fun z => absurd z k5, fun _ => ⟨pk_us.trans (by rw [k6]; rfl), n, hn, pk_us⟩, fun z => absurd z (by omega)⟩
      · refine br_f (fun z => k6 ((nI_eq (by omega) (by decide)).mp z)) (h _ _ _ _ _ _ _ _ _ n6 ⟨pk_us, fun z => absurd z (by omega), fun _ => ⟨pk_us, pk_us⟩, fun z => absurd z k5, fun z => absurd z k6, fun z => pk_us.trans (by rw [z]; rfl)⟩)
  · refine br_f (nI_nlt (a := 4) (b := cc_K P m) (by omega) (by decide)) ?_
    refine nm_r (e' := nI (m * 5 + 4)) (ix_5 m 4) (xw_known (by omega) R4 ?_)
    cases ev : cc_ev (cc_tf P (cc_fm P m) m) v.2 with
    | none =>
      refine br_t rfl (h _ _ _ _ _ _ _ _ _ n6 ⟨pk_us, fun _ => ⟨fun u z => ?_, fun _ => ⟨pk_us, pk_us, pk_us, pk_us, pk_us⟩⟩, fun z => absurd z (by omega), fun z => absurd z (by omega), fun z => absurd z (by omega), fun z => absurd z (by omega)⟩)
      rw [ev] at z; exact nomatch z
    | some u =>
      refine br_f ix_10 (xw_valueS (by omega) R4 ev (And.intro him ?_))
      rw [ix_c (upd a_d k (nI (cc_D P m))) em, pk_un nmk, x2]
      refine xw_put hk ?_
      refine h _ _ _ _ _ _ _ _ _ (fun j hj => ⟨(pk_un hj).trans (pk_un hj), (pk_un hj).trans (pk_un hj), (pk_un hj).trans (pk_un hj), (pk_un hj).trans (pk_un hj), (pk_un hj).trans (pk_un hj), (pk_un hj).trans (pk_un hj)⟩) ⟨pk_us, fun _ => ⟨fun u' z => ?_, fun z => ?_⟩, fun z => absurd z (by omega), fun z => absurd z (by omega), fun z => absurd z (by omega), fun z => absurd z (by omega)⟩
      · rw [ev] at z; cases Option.some.inj z
        exact ⟨pk_us, pk_us, pk_us, pk_us, pk_us⟩
      · rw [ev] at z; exact nomatch z
end
end
section
/-! X: emitVersion, commit, build -/
def cc_ut (P : cc_Pg) (F : Nat → cc_Lt) (ch : Nat → Bool) (l : List cc_V) (v : cc_V) (u : Nat) (kd d s t a b ul up um ux uy uz : Nat → Int32) : Prop :=
  up u = nI v.1 ∧ um u = cc_cm v.2 ∧ ux u = cc_cx v.2 ∧ uy u = cc_cy v.2 ∧ uz u = nI (cc_sz P v.1 v.2) ∧ ul u = nI (cc_pl P v 8) ∧
  ∀ i, i < 8 → cc_kp P v.1 v.2 i = true → cc_em P F ch l v (v.1 * 8 + i) kd d s t a b (u * 8 + cc_pl P v i)
theorem cc_kp_t {P : cc_Pg} {p i : Nat} {c : cc_Cx} (h : cc_kp P p c i = true) : cc_rc P p c i = true ∧ i < cc_L P p ∧ cc_nt P (p * 8 + i) c = false := by
  unfold cc_kp at h
  rw [Bool.and_eq_true, Bool.and_eq_true, decide_eq_true_iff] at h
  refine ⟨h.1.1, h.1.2, ?_⟩
  cases e : cc_nt P (p * 8 + i) c with
  | false => rfl
  | true => have := h.2; rw [e] at this; exact nomatch this
theorem cc_kp_hi {P : cc_Pg} (W : cc_wf P) {p i : Nat} {c : cc_Cx} (hp : p < 6) (hi : 8 ≤ i) : cc_kp P p c i = false := by
  have L8 := W.2.2.1 p hp
  cases e : cc_kp P p c i with
  | false => rfl
  | true => have := (cc_kp_t e).2.1; omega
theorem cc_pl_hi {P : cc_Pg} (W : cc_wf P) {v : cc_V} (hv : v.1 < 6) {i : Nat} (hi : 8 ≤ i) : cc_pl P v i = cc_pl P v 8 :=
  cc_ct_0 i hi (fun j h1 _ => cc_kp_hi W hv h1)
theorem cc_pl_L {P : cc_Pg} (W : cc_wf P) {v : cc_V} (hv : v.1 < 6) {i : Nat} (hi : cc_L P v.1 ≤ i) (h8 : i ≤ 8) : cc_pl P v 8 = cc_pl P v i :=
  cc_ct_0 8 h8 (fun j h1 _ => by
    cases e : cc_kp P v.1 v.2 j with
    | false => rfl
    | true => have := (cc_kp_t e).2.1; omega)
theorem cc_pl_7 {P : cc_Pg} {v : cc_V} {i : Nat} (hi : i < 8) (h : cc_kp P v.1 v.2 i = true) : cc_pl P v i < cc_pl P v 8 ∧ cc_pl P v 8 ≤ 8 :=
  ⟨cc_ct_lt hi h, cc_ct_le _ _⟩
section
variable {f_LIN f_SKIP f_CALL f_OUT f_JUMP f_RUNNING f_FIRST_VERSION f_MAX_VERSIONS f_procedures f_length f_calls f_depth f_openProc f_analysed f_built f_builtCount f_builtTotal f_workTop f_ctxMask f_ctxX f_ctxY f_argMask f_argX f_argY f_candCount f_candTotal f_overflow f_frames f_outCount f_entryCount : Int32} {a_kind a_d a_s a_t a_a a_b a_unitLen a_unitProc a_unitMask a_unitX a_unitY a_unitSize a_splitNow a_callSites a_opaque a_form0 a_form1 a_formB a_met a_fact a_factValue a_work a_waiting a_trial a_candProc a_candMask a_candX a_candY a_candSize a_place a_frameUnit a_framePc a_vars a_outputs a_entryProc a_entryX a_entryY a_entryMask : Nat → Int32}
theorem xw_ev111 {post : SX → Prop} {P : cc_Pg} (W : cc_wf P) {F : Nat → cc_Lt} (rf : cc_rf a_fact a_factValue F) {ch : Nat → Bool} (ht : ∀ q, q < 6 → a_trial q = cc_b (ch q)) {l : List cc_V} (hl : l.length ≤ 16) (hN : ∀ w, w ∈ l → w.1 < cc_N P) (r4 : cc_r4 l a_candProc a_candMask a_candX a_candY) {v : cc_V} (hv : v.1 < cc_N P) (hcd : cc_cd P F ch v l) (R : cc_xd P a_opaque a_form0 a_form1 a_formB v.1 (cc_L P v.1)) (hpl : ∀ j, j < 17 → a_place j = nI (cc_pl P v j)) (x : cc_xc P a_kind a_d a_s a_t a_a a_b)
    {u : Nat} (u6 : 6 ≤ u) (hu : u < 22) {z : Int32} (hz : cc_bs z (cc_kp P v.1 v.2))
    (h : ∀ am ax ay kd d s t a b, cc_n6 a_kind a_d a_s a_t a_a a_b kd d s t a b (fun j => u * 8 ≤ j ∧ j < u * 8 + 8) → (∀ i, i < 8 → cc_kp P v.1 v.2 i = true → cc_em P F ch l v (v.1 * 8 + i) kd d s t a b (u * 8 + cc_pl P v i)) → post (f_LIN, f_SKIP, f_CALL, f_OUT, f_JUMP, f_RUNNING, f_FIRST_VERSION, f_MAX_VERSIONS, f_procedures, f_length, f_calls, f_depth, f_openProc, f_analysed, f_built, f_builtCount, f_builtTotal, f_workTop, (cc_cm v.2), (cc_cx v.2), (cc_cy v.2), am, ax, ay, (nI l.length), f_candTotal, f_overflow, f_frames, f_outCount, f_entryCount, kd, d, s, t, a, b, a_unitLen, a_unitProc, a_unitMask, a_unitX, a_unitY, a_unitSize, a_splitNow, a_callSites, a_opaque, a_form0, a_form1, a_formB, a_met, a_fact, a_factValue, a_work, a_waiting, a_trial, a_candProc, a_candMask, a_candX, a_candY, a_candSize, a_place, a_frameUnit, a_framePc, a_vars, a_outputs, a_entryProc, a_entryX, a_entryY, a_entryMask)) :
    ∀ (n i : Nat) (am ax ay : Int32) (kd d s t a b : Nat → Int32), i ≤ 8 → 8 - i < n → cc_n6 a_kind a_d a_s a_t a_a a_b kd d s t a b (fun j => u * 8 ≤ j ∧ j < u * 8 + 8) → (∀ j, j < i → cc_kp P v.1 v.2 j = true → cc_em P F ch l v (v.1 * 8 + j) kd d s t a b (u * 8 + cc_pl P v j)) →
      wX_emitVersion_111 post (nI u) (nI v.1) z n (nI i) f_LIN f_SKIP f_CALL f_OUT f_JUMP f_RUNNING f_FIRST_VERSION f_MAX_VERSIONS f_procedures f_length f_calls f_depth f_openProc f_analysed f_built f_builtCount f_builtTotal f_workTop (cc_cm v.2) (cc_cx v.2) (cc_cy v.2) am ax ay (nI l.length) f_candTotal f_overflow f_frames f_outCount f_entryCount kd d s t a b a_unitLen a_unitProc a_unitMask a_unitX a_unitY a_unitSize a_splitNow a_callSites a_opaque a_form0 a_form1 a_formB a_met a_fact a_factValue a_work a_waiting a_trial a_candProc a_candMask a_candX a_candY a_candSize a_place a_frameUnit a_framePc a_vars a_outputs a_entryProc a_entryX a_entryY a_entryMask := by
  have N6 := W.2.1
  intro n
  induction n with
  | zero => intro i am ax ay kd d s t a b _ y; omega
  | succ n ih =>
    intro i am ax ay kd d s t a b hi hn I1 I2
    by_cases e : i = 8
    · subst e
      exact br_t (show (8 : Int32) ≤ nI 8 from Int32.le_refl _) (h am ax ay kd d s t a b I1 I2)
    · refine br_f (nI_ge (b := 8) (by omega) (by decide)) ?_
      rw [bx_t hz (n := i) (by omega)]
      cases q : cc_kp P v.1 v.2 i with
      | false =>
        refine br_t rfl (nm_r (e' := nI (i + 1)) (nI_1 i) (ih (i + 1) am ax ay kd d s t a b (by omega) (by omega) I1 (fun j hj kj => ?_)))
        refine I2 j ?_ kj
        have : j ≠ i := fun y => by rw [y, q] at kj; exact nomatch kj
        omega
      | true =>
        obtain ⟨q1, q2, q3⟩ := cc_kp_t q
        obtain ⟨p1, p2⟩ := cc_pl_7 (P := P) (v := v) (show i < 8 by omega) q
        refine br_f ix_10 (And.intro (vp_in_nI (by omega) (by decide)) ?_)
        rw [ix_c a_place (show i < 2 ^ 31 by omega), hpl i (by omega), ix_8, ix_8]
        have xk := cc_xc_k W I1 (fun j hj => by omega) x
        refine xw_emit (k := u * 8 + cc_pl P v i) W rf ht hl hN r4 hv hcd R hpl q2 q1 (xk v.1 i (by omega) q2) (by omega) (by omega) (fun am ax ay kd' d' s' t' a' b' n6 em => nm_r (e' := nI (i + 1)) (nI_1 i) (ih (i + 1) am ax ay kd' d' s' t' a' b' (by omega) (by omega) (cc_n6_t I1 n6 (fun _ y => y) (fun j y => by omega)) (fun j hj kj => ?_)))
        by_cases ej : j = i
        · subst ej; exact em
        · have : cc_pl P v j < cc_pl P v i := cc_ct_lt (show j < i by omega) kj
          exact cc_em_k n6 (by omega) (I2 j (by omega) kj)
theorem xw_emitVersion {post : SX → Prop} {P : cc_Pg} (W : cc_wf P) {F : Nat → cc_Lt} (K : cc_XK P F a_kind a_d a_s a_t a_a a_b a_unitLen a_callSites a_opaque a_form0 a_form1 a_formB a_fact a_factValue) {ch : Nat → Bool} (ht : ∀ q, q < 6 → a_trial q = cc_b (ch q)) {l : List cc_V} (hl : l.length ≤ 16) (hN : ∀ w, w ∈ l → w.1 < cc_N P) (r4 : cc_r4 l a_candProc a_candMask a_candX a_candY) {c : Nat} {v : cc_V} (ev : l[c]? = some v) (hcz : a_candSize c = nI (cc_sz P v.1 v.2)) (hcd : cc_cd P F ch v l)
    (h : ∀ cm cx cy am ax ay kd d s t a b pl ul up um ux uy uz, cc_n6 a_kind a_d a_s a_t a_a a_b kd d s t a b (fun j => (6 + c) * 8 ≤ j ∧ j < (6 + c) * 8 + 8) → (∀ j, j ≠ 6 + c → ul j = a_unitLen j ∧ up j = a_unitProc j ∧ um j = a_unitMask j ∧ ux j = a_unitX j ∧ uy j = a_unitY j ∧ uz j = a_unitSize j) → cc_ut P F ch l v (6 + c) kd d s t a b ul up um ux uy uz → post (f_LIN, f_SKIP, f_CALL, f_OUT, f_JUMP, f_RUNNING, f_FIRST_VERSION, f_MAX_VERSIONS, f_procedures, f_length, f_calls, f_depth, f_openProc, f_analysed, f_built, f_builtCount, f_builtTotal, f_workTop, cm, cx, cy, am, ax, ay, (nI l.length), f_candTotal, f_overflow, f_frames, f_outCount, f_entryCount, kd, d, s, t, a, b, ul, up, um, ux, uy, uz, a_splitNow, a_callSites, a_opaque, a_form0, a_form1, a_formB, a_met, a_fact, a_factValue, a_work, a_waiting, a_trial, a_candProc, a_candMask, a_candX, a_candY, a_candSize, pl, a_frameUnit, a_framePc, a_vars, a_outputs, a_entryProc, a_entryX, a_entryY, a_entryMask)) :
    wpX_emitVersion post (f_LIN, f_SKIP, f_CALL, f_OUT, f_JUMP, f_RUNNING, f_FIRST_VERSION, f_MAX_VERSIONS, f_procedures, f_length, f_calls, f_depth, f_openProc, f_analysed, f_built, f_builtCount, f_builtTotal, f_workTop, f_ctxMask, f_ctxX, f_ctxY, f_argMask, f_argX, f_argY, (nI l.length), f_candTotal, f_overflow, f_frames, f_outCount, f_entryCount, a_kind, a_d, a_s, a_t, a_a, a_b, a_unitLen, a_unitProc, a_unitMask, a_unitX, a_unitY, a_unitSize, a_splitNow, a_callSites, a_opaque, a_form0, a_form1, a_formB, a_met, a_fact, a_factValue, a_work, a_waiting, a_trial, a_candProc, a_candMask, a_candX, a_candY, a_candSize, a_place, a_frameUnit, a_framePc, a_vars, a_outputs, a_entryProc, a_entryX, a_entryY, a_entryMask) (nI c) := by
  have N6 := W.2.1
  have hc : c < l.length := by
    refine Nat.lt_of_not_le fun y => ?_
    rw [List.getElem?_eq_none y] at ev; exact nomatch ev
  have ec : c < 2 ^ 31 := by omega
  have eu : 6 + c < 2 ^ 31 := by omega
  have hic : vp_in (nI c) 16 := vp_in_nI (by omega) (by decide)
  have hiu : vp_in (nI (6 + c)) 22 := vp_in_nI (by omega) (by decide)
  have hv := hN v (List.mem_of_getElem? ev)
  have v6 : v.1 < 6 := by omega
  obtain ⟨r1, r2, r3, r4'⟩ := r4 c v ev
  obtain ⟨K1, K2, K3, K4, K5⟩ := K
  refine nm_r (e' := nI (6 + c)) (nI_add 6 c) (And.intro hic (nm_r (e' := nI v.1) ((ix_c a_candProc ec).trans r1) (And.intro hiu (nm_e (And.intro hic (And.intro hiu (nm_e (And.intro hic (And.intro hiu (nm_e (And.intro hic (And.intro hiu (nm_e (And.intro hic (And.intro hiu (nm_e (And.intro hic (And.intro hic (And.intro hic ?_)))))))))))))))))))
  rw [ix_c a_candMask ec, ix_c a_candX ec, ix_c a_candY ec, ix_c a_candSize ec, r2, r3, r4', hcz, nI_clamp eu]
  refine xw_kept (c := v.2) W hv (K2 v.1 v6) K1 (K4 v.1 hv) (fun z hz => ?_)
  refine xw_layOut hz (fun pl hpl => And.intro hiu (nm_e ⟨9, ?_⟩))
  refine xw_ev111 (u := 6 + c) W K5 ht hl hN r4 hv hcd (K4 v.1 hv) hpl K1 (by omega) (by omega) hz (fun am ax ay kd d s t a b n6 em => h _ _ _ am ax ay kd d s t a b pl _ _ _ _ _ _ n6 (fun j hj => ⟨pk_un hj, pk_un hj, pk_un hj, pk_un hj, pk_un hj, pk_un hj⟩) ⟨pk_us, pk_us, pk_us, pk_us, pk_us, pk_us.trans ?_, em⟩) 9 0 f_argMask f_argX f_argY a_kind a_d a_s a_t a_a a_b (by omega) (by omega) (cc_n6_r _) (fun j hj => absurd hj (by omega))
  rw [← cc_pl_hi W v6 (i := 17) (by omega)]; rfl
/-- unit rows below 6 stay -/
def cc_u6 (ul up um ul' up' um' : Nat → Int32) : Prop := ∀ j, j < 6 → ul' j = ul j ∧ up' j = up j ∧ um' j = um j
theorem xw_commit33 {post : SX → Prop} {P : cc_Pg} (W : cc_wf P) {F : Nat → cc_Lt} (K : cc_XK P F a_kind a_d a_s a_t a_a a_b a_unitLen a_callSites a_opaque a_form0 a_form1 a_formB a_fact a_factValue) {ch : Nat → Bool} (ht : ∀ q, q < 6 → a_trial q = cc_b (ch q)) {l : List cc_V} (hl : l.length ≤ 16) (hN : ∀ w, w ∈ l → w.1 < cc_N P) (r4 : cc_r4 l a_candProc a_candMask a_candX a_candY) (hcz : cc_rz P l a_candSize l.length) (hcd : ∀ v, v ∈ l → cc_cd P F ch v l)
    (h : ∀ cm cx cy am ax ay kd d s t a b pl ul up um ux uy uz, cc_n6 a_kind a_d a_s a_t a_a a_b kd d s t a b (fun j => 48 ≤ j) → cc_u6 a_unitLen a_unitProc a_unitMask ul up um → (∀ (n : Nat) (v : cc_V), l[n]? = some v → cc_ut P F ch l v (6 + n) kd d s t a b ul up um ux uy uz) → post (f_LIN, f_SKIP, f_CALL, f_OUT, f_JUMP, f_RUNNING, f_FIRST_VERSION, f_MAX_VERSIONS, f_procedures, f_length, f_calls, f_depth, f_openProc, f_analysed, 1, (nI l.length), f_candTotal, f_workTop, cm, cx, cy, am, ax, ay, (nI l.length), f_candTotal, f_overflow, f_frames, f_outCount, f_entryCount, kd, d, s, t, a, b, ul, up, um, ux, uy, uz, a_splitNow, a_callSites, a_opaque, a_form0, a_form1, a_formB, a_met, a_fact, a_factValue, a_work, a_waiting, a_trial, a_candProc, a_candMask, a_candX, a_candY, a_candSize, pl, a_frameUnit, a_framePc, a_vars, a_outputs, a_entryProc, a_entryX, a_entryY, a_entryMask)) :
    ∀ (n c : Nat) (cm cx cy am ax ay : Int32) (kd d s t a b pl ul up um ux uy uz : Nat → Int32), c ≤ l.length → l.length - c < n → cc_n6 a_kind a_d a_s a_t a_a a_b kd d s t a b (fun j => 48 ≤ j) → cc_u6 a_unitLen a_unitProc a_unitMask ul up um → (∀ (n : Nat) (v : cc_V), n < c → l[n]? = some v → cc_ut P F ch l v (6 + n) kd d s t a b ul up um ux uy uz) →
      wX_commit_33 post (nI l.length) n (nI c) f_LIN f_SKIP f_CALL f_OUT f_JUMP f_RUNNING f_FIRST_VERSION f_MAX_VERSIONS f_procedures f_length f_calls f_depth f_openProc f_analysed f_built f_builtCount f_builtTotal f_workTop cm cx cy am ax ay (nI l.length) f_candTotal f_overflow f_frames f_outCount f_entryCount kd d s t a b ul up um ux uy uz a_splitNow a_callSites a_opaque a_form0 a_form1 a_formB a_met a_fact a_factValue a_work a_waiting a_trial a_candProc a_candMask a_candX a_candY a_candSize pl a_frameUnit a_framePc a_vars a_outputs a_entryProc a_entryX a_entryY a_entryMask := by
  intro n
  induction n with
  | zero => intro c cm cx cy am ax ay kd d s t a b pl ul up um ux uy uz _ y; omega
  | succ n ih =>
    intro c cm cx cy am ax ay kd d s t a b pl ul up um ux uy uz hc hn I1 I2 I3
    by_cases e : c = l.length
    · subst e
      refine br_t (nI_le (Nat.le_refl _) (by omega)) (h cm cx cy am ax ay kd d s t a b pl ul up um ux uy uz I1 I2 (fun n v hv => I3 n v ?_ hv))
      refine Nat.lt_of_not_le fun y => ?_
      rw [List.getElem?_eq_none y] at hv; exact nomatch hv
    · have hc' : c < l.length := by omega
      have ev := List.getElem?_eq_getElem hc'
      generalize l[c] = v at ev
      have K' : cc_XK P F kd d s t a b ul a_callSites a_opaque a_form0 a_form1 a_formB a_fact a_factValue :=
        ⟨cc_xc_k W I1 (fun j hj => by omega) K.1, fun p hp => (I2 p hp).1.trans (K.2.1 p hp), K.2.2⟩
      refine br_f (nI_ge hc' (by omega)) (xw_emitVersion W K' ht hl hN r4 ev (hcz c v hc' ev) (hcd v (List.mem_of_getElem? ev)) (fun cm cx cy am ax ay kd' d' s' t' a' b' pl' ul' up' um' ux' uy' uz' J1 J2 J3 => nm_r (e' := nI (c + 1)) (nI_1 c) (ih (c + 1) cm cx cy am ax ay kd' d' s' t' a' b' pl' ul' up' um' ux' uy' uz' (by omega) (by omega) (cc_n6_t I1 J1 (fun _ y => y) (fun j y => by omega)) (fun j hj => ?_) (fun j w hj hw => ?_))))
      · obtain ⟨z1, z2, z3, -⟩ := J2 j (by omega)
        obtain ⟨y1, y2, y3⟩ := I2 j hj
        exact ⟨z1.trans y1, z2.trans y2, z3.trans y3⟩
      · by_cases ej : j = c
        · subst ej
          rw [ev] at hw; cases Option.some.inj hw
          exact J3
        · obtain ⟨z1, z2, z3, z4, z5, z6⟩ := J2 (6 + j) (by omega)
          obtain ⟨y1, y2, y3, y4, y5, y6, y7⟩ := I3 j w (by omega) hw
          refine ⟨z2.trans y1, z3.trans y2, z4.trans y3, z5.trans y4, z6.trans y5, z1.trans y6, fun i hi ki => cc_em_k J1 ?_ (y7 i hi ki)⟩
          have := cc_pl_7 (P := P) hi ki
          omega
theorem xw_commit2 {post : SX → Prop} {P : cc_Pg} (W : cc_wf P) {F : Nat → cc_Lt} (K : cc_XK P F a_kind a_d a_s a_t a_a a_b a_unitLen a_callSites a_opaque a_form0 a_form1 a_formB a_fact a_factValue) {ch : Nat → Bool} (ht : ∀ q, q < 6 → a_trial q = cc_b (ch q)) {l : List cc_V} (hl : l.length ≤ 16) (hN : ∀ w, w ∈ l → w.1 < cc_N P) (r4 : cc_r4 l a_candProc a_candMask a_candX a_candY) (hcz : cc_rz P l a_candSize l.length) (hcd : ∀ v, v ∈ l → cc_cd P F ch v l)
    (h : ∀ cm cx cy am ax ay kd d s t a b pl ul up um ux uy uz sn, cc_n6 a_kind a_d a_s a_t a_a a_b kd d s t a b (fun j => 48 ≤ j) → cc_u6 a_unitLen a_unitProc a_unitMask ul up um → (∀ (n : Nat) (v : cc_V), l[n]? = some v → cc_ut P F ch l v (6 + n) kd d s t a b ul up um ux uy uz) → (∀ q, q < 6 → sn q = cc_b (ch q)) → post (f_LIN, f_SKIP, f_CALL, f_OUT, f_JUMP, f_RUNNING, f_FIRST_VERSION, f_MAX_VERSIONS, f_procedures, f_length, f_calls, f_depth, f_openProc, f_analysed, 1, (nI l.length), f_candTotal, f_workTop, cm, cx, cy, am, ax, ay, (nI l.length), f_candTotal, f_overflow, f_frames, f_outCount, f_entryCount, kd, d, s, t, a, b, ul, up, um, ux, uy, uz, sn, a_callSites, a_opaque, a_form0, a_form1, a_formB, a_met, a_fact, a_factValue, a_work, a_waiting, a_trial, a_candProc, a_candMask, a_candX, a_candY, a_candSize, pl, a_frameUnit, a_framePc, a_vars, a_outputs, a_entryProc, a_entryX, a_entryY, a_entryMask)) :
    ∀ (n p : Nat) (sn : Nat → Int32), p ≤ 6 → 6 - p < n → (∀ q, q < p → sn q = cc_b (ch q)) → wX_commit_2 post f_LIN f_SKIP f_CALL f_OUT f_JUMP f_RUNNING f_FIRST_VERSION f_MAX_VERSIONS f_procedures f_length f_calls f_depth f_openProc f_analysed f_built f_builtCount f_builtTotal f_workTop f_ctxMask f_ctxX f_ctxY f_argMask f_argX f_argY (nI l.length) f_candTotal f_overflow f_frames f_outCount f_entryCount n (nI p) a_kind a_d a_s a_t a_a a_b a_unitLen a_unitProc a_unitMask a_unitX a_unitY a_unitSize sn a_callSites a_opaque a_form0 a_form1 a_formB a_met a_fact a_factValue a_work a_waiting a_trial a_candProc a_candMask a_candX a_candY a_candSize a_place a_frameUnit a_framePc a_vars a_outputs a_entryProc a_entryX a_entryY a_entryMask := by
  intro n
  induction n with
  | zero => intro p sn _ y; omega
  | succ n ih =>
    intro p sn hp hn I
    by_cases e : p = 6
    · subst e
      refine br_t (show (6 : Int32) ≤ nI 6 from Int32.le_refl _) ⟨17, ?_⟩
      exact xw_commit33 W K ht hl hN r4 hcz hcd (fun cm cx cy am ax ay kd d s t a b pl ul up um ux uy uz J1 J2 J3 => h cm cx cy am ax ay kd d s t a b pl ul up um ux uy uz sn J1 J2 J3 I) 17 0 f_ctxMask f_ctxX f_ctxY f_argMask f_argX f_argY a_kind a_d a_s a_t a_a a_b a_place a_unitLen a_unitProc a_unitMask a_unitX a_unitY a_unitSize (by omega) (by omega) (cc_n6_r _) (fun j _ => ⟨rfl, rfl, rfl⟩) (fun n v hn => absurd hn (by omega))
    · have hi : vp_in (nI p) 6 := vp_in_nI (by omega) (by decide)
      refine br_f (nI_ge (b := 6) (by omega) (by decide)) (And.intro hi (And.intro hi (nm_e (nm_r (e' := nI (p + 1)) (nI_1 p) (ih (p + 1) _ (by omega) (by omega) (fun q hq => ?_))))))
      rw [ix_c a_trial (show p < 2 ^ 31 by omega), ht p (by omega), ix_nb, nI_clamp (show p < 2 ^ 31 by omega)]
      by_cases eq : q = p
      · subst eq; exact pk_us
      · exact (pk_un eq).trans (I q (by omega))
theorem xw_commit {post : SX → Prop} {P : cc_Pg} (W : cc_wf P) {F : Nat → cc_Lt} (K : cc_XK P F a_kind a_d a_s a_t a_a a_b a_unitLen a_callSites a_opaque a_form0 a_form1 a_formB a_fact a_factValue) {ch : Nat → Bool} (ht : ∀ q, q < 6 → a_trial q = cc_b (ch q)) {l : List cc_V} (hl : l.length ≤ 16) (hN : ∀ w, w ∈ l → w.1 < cc_N P) (r4 : cc_r4 l a_candProc a_candMask a_candX a_candY) (hcz : cc_rz P l a_candSize l.length) (hcd : ∀ v, v ∈ l → cc_cd P F ch v l)
    (h : ∀ cm cx cy am ax ay kd d s t a b pl ul up um ux uy uz sn, cc_n6 a_kind a_d a_s a_t a_a a_b kd d s t a b (fun j => 48 ≤ j) → cc_u6 a_unitLen a_unitProc a_unitMask ul up um → (∀ (n : Nat) (v : cc_V), l[n]? = some v → cc_ut P F ch l v (6 + n) kd d s t a b ul up um ux uy uz) → (∀ q, q < 6 → sn q = cc_b (ch q)) → post (f_LIN, f_SKIP, f_CALL, f_OUT, f_JUMP, f_RUNNING, f_FIRST_VERSION, f_MAX_VERSIONS, f_procedures, f_length, f_calls, f_depth, f_openProc, f_analysed, 1, (nI l.length), f_candTotal, f_workTop, cm, cx, cy, am, ax, ay, (nI l.length), f_candTotal, f_overflow, f_frames, f_outCount, f_entryCount, kd, d, s, t, a, b, ul, up, um, ux, uy, uz, sn, a_callSites, a_opaque, a_form0, a_form1, a_formB, a_met, a_fact, a_factValue, a_work, a_waiting, a_trial, a_candProc, a_candMask, a_candX, a_candY, a_candSize, pl, a_frameUnit, a_framePc, a_vars, a_outputs, a_entryProc, a_entryX, a_entryY, a_entryMask)) :
    wpX_commit post (f_LIN, f_SKIP, f_CALL, f_OUT, f_JUMP, f_RUNNING, f_FIRST_VERSION, f_MAX_VERSIONS, f_procedures, f_length, f_calls, f_depth, f_openProc, f_analysed, f_built, f_builtCount, f_builtTotal, f_workTop, f_ctxMask, f_ctxX, f_ctxY, f_argMask, f_argX, f_argY, (nI l.length), f_candTotal, f_overflow, f_frames, f_outCount, f_entryCount, a_kind, a_d, a_s, a_t, a_a, a_b, a_unitLen, a_unitProc, a_unitMask, a_unitX, a_unitY, a_unitSize, a_splitNow, a_callSites, a_opaque, a_form0, a_form1, a_formB, a_met, a_fact, a_factValue, a_work, a_waiting, a_trial, a_candProc, a_candMask, a_candX, a_candY, a_candSize, a_place, a_frameUnit, a_framePc, a_vars, a_outputs, a_entryProc, a_entryX, a_entryY, a_entryMask) :=
  ⟨7, xw_commit2 W K ht hl hN r4 hcz hcd h 7 0 a_splitNow (by omega) (by omega) (fun q hq => absurd hq (by omega))⟩
/-- the list is closed when it has room -/
theorem cc_li_cd {P : cc_Pg} (W : cc_wf P) {F : Nat → cc_Lt} {ch : Nat → Bool} (ho : cc_ov P F ch = false) : ∀ v, v ∈ cc_li P F ch → cc_cd P F ch v (cc_li P F ch) := by
  intro v hv
  obtain ⟨w, hw⟩ := List.getElem?_of_mem hv
  have l16 := cc_E_l (P := P) (F := F) (ch := ch) 16
  have w16 : w < 16 := by
    refine Nat.lt_of_not_le fun y => ?_
    rw [List.getElem?_eq_none (show (cc_li P F ch).length ≤ w from Nat.le_trans l16 y)] at hw; exact nomatch hw
  exact cc_E_cd W (fun v hv => cc_E_6 W hv) 16 w v w16 (Nat.le_refl _) ho hw
theorem xw_build45 {post : Int32 → SX → Prop} {P : cc_Pg} (W : cc_wf P) {F : Nat → cc_Lt} (K : cc_XK P F a_kind a_d a_s a_t a_a a_b a_unitLen a_callSites a_opaque a_form0 a_form1 a_formB a_fact a_factValue) {bud : Int32} (h0 : cc_ft P F (fun _ => false) bud)
    (h : ∀ cm' cx' cy' am ax ay cp cm cx cy tot cz tr kd d s t a b pl ul up um ux uy uz sn, cc_n6 a_kind a_d a_s a_t a_a a_b kd d s t a b (fun j => 48 ≤ j) → cc_u6 a_unitLen a_unitProc a_unitMask ul up um → (∀ (n : Nat) (v : cc_V), (cc_li P F (cc_ch P F bud (cc_N P)))[n]? = some v → cc_ut P F (cc_ch P F bud (cc_N P)) (cc_li P F (cc_ch P F bud (cc_N P))) v (6 + n) kd d s t a b ul up um ux uy uz) → (∀ q, q < 6 → sn q = cc_b (cc_ch P F bud (cc_N P) q)) →
      post (nI (cc_to P F (cc_ch P F bud (cc_N P)))) (f_LIN, f_SKIP, f_CALL, f_OUT, f_JUMP, f_RUNNING, f_FIRST_VERSION, f_MAX_VERSIONS, (nI (cc_N P)), f_length, f_calls, f_depth, f_openProc, f_analysed, 1, (nI (cc_li P F (cc_ch P F bud (cc_N P))).length), (nI (cc_to P F (cc_ch P F bud (cc_N P)))), f_workTop, cm', cx', cy', am, ax, ay, (nI (cc_li P F (cc_ch P F bud (cc_N P))).length), tot, 0, f_frames, f_outCount, f_entryCount, kd, d, s, t, a, b, ul, up, um, ux, uy, uz, sn, a_callSites, a_opaque, a_form0, a_form1, a_formB, a_met, a_fact, a_factValue, a_work, a_waiting, tr, cp, cm, cx, cy, cz, pl, a_frameUnit, a_framePc, a_vars, a_outputs, a_entryProc, a_entryX, a_entryY, a_entryMask)) :
    ∀ (n p : Nat) (cm' cx' cy' am ax ay cc : Int32) (cp cm cx cy : Nat → Int32) (ov tot : Int32) (cz tr : Nat → Int32), 1 ≤ p → p ≤ cc_N P → cc_N P - p < n → (∀ q, q < 6 → tr q = cc_b (cc_ch P F bud p q)) →
      wX_build_45 post bud n (nI p) f_LIN f_SKIP f_CALL f_OUT f_JUMP f_RUNNING f_FIRST_VERSION f_MAX_VERSIONS (nI (cc_N P)) f_length f_calls f_depth f_openProc f_analysed f_built f_builtCount f_builtTotal f_workTop cm' cx' cy' am ax ay cc tot ov f_frames f_outCount f_entryCount a_kind a_d a_s a_t a_a a_b a_unitLen a_unitProc a_unitMask a_unitX a_unitY a_unitSize a_splitNow a_callSites a_opaque a_form0 a_form1 a_formB a_met a_fact a_factValue a_work a_waiting tr cp cm cx cy cz a_place a_frameUnit a_framePc a_vars a_outputs a_entryProc a_entryX a_entryY a_entryMask := by
  have N6 := W.2.1
  intro n
  induction n with
  | zero => intro p cm' cx' cy' am ax ay cc cp cm cx cy ov tot cz tr _ _ y; omega
  | succ n ih =>
    intro p cm' cx' cy' am ax ay cc cp cm cx cy ov tot cz tr h1 hp hn I
    by_cases e : p = cc_N P
    · subst e
      have ft := cc_ch_ft h0 (cc_N P)
      refine br_t (nI_le (Nat.le_refl _) (by omega)) ?_
      refine xw_explore W K I (fun cm' cx' cy' am ax ay cp cm cx cy tot cz r4 tt => ?_)
      obtain ⟨t1, t2⟩ := tt ft.1
      subst t1
      refine xw_commit W K I (cc_E_l 16) (fun w hw => cc_E_p W 16 w hw) r4 t2 (cc_li_cd W ft.1) (fun cm2 cx2 cy2 am ax ay kd d s t a b pl ul up um ux uy uz sn J1 J2 J3 J4 => ?_)
      have := h cm2 cx2 cy2 am ax ay cp cm cx cy (nI (cc_to P F (cc_ch P F bud (cc_N P)))) cz tr kd d s t a b pl ul up um ux uy uz sn J1 J2 J3 J4
      rw [ft.1]
      exact this
    · have hp6 : p < 6 := by omega
      have hip : vp_in (nI p) 6 := vp_in_nI hp6 (by decide)
      have ep : p < 2 ^ 31 := by omega
      refine br_f (nI_ge (show p < cc_N P by omega) (by omega)) ?_
      rw [ix_20, ix_c a_fact (show 2 * p < 2 ^ 31 by omega), (K.2.2.2.2 (2 * p) (by omega)).1]
      refine And.intro (vp_in_nI (by omega) (by decide)) ?_
      by_cases nn : F (2 * p) = none
      · refine br_t (cc_lf_1.mpr nn) (nm_r (e' := nI (p + 1)) (nI_1 p) (ih (p + 1) cm' cx' cy' am ax ay cc cp cm cx cy ov tot cz tr (by omega) (by omega) (by omega) ?_))
        rw [cc_ch_f (fun z => z.2.1 nn)]; exact I
      · refine br_f (fun z => nn (cc_lf_1.mp z)) (And.intro hip (nm_e ?_))
        rw [nI_clamp ep, ix_n1]
        have I' : ∀ q, q < 6 → upd tr p 1 q = cc_b (cc_set (cc_ch P F bud p) p true q) := by
          intro q hq
          by_cases eq : q = p
          · subst eq; rw [cc_set_s]; exact pk_us
          · rw [cc_set_n _ true eq]; exact (pk_un eq).trans (I q hq)
        refine xw_fits W K I' (fun cm' cx' cy' am ax ay cc cp cm cx cy ov tot cz ft => And.intro hip (nm_e (nm_r (e' := nI (p + 1)) (nI_1 p) (ih (p + 1) cm' cx' cy' am ax ay cc cp cm cx cy ov tot cz _ (by omega) (by omega) (by omega) ?_)))) (fun cm' cx' cy' am ax ay cc cp cm cx cy ov tot cz ft => And.intro hip (nm_e (nm_r (e' := nI (p + 1)) (nI_1 p) (ih (p + 1) cm' cx' cy' am ax ay cc cp cm cx cy ov tot cz _ (by omega) (by omega) (by omega) ?_))))
        · intro q hq
          rw [ix_n1, cc_ch_t h1 nn ft]
          by_cases eq : q = p
          · subst eq; rw [cc_set_s]; exact pk_us
          · exact (pk_un eq).trans (I' q hq)
        · intro q hq
          rw [ix_n0, cc_ch_f (fun z => ft z.2.2)]
          by_cases eq : q = p
          · subst eq; rw [cc_ch_hi q q (Nat.le_refl _)]; exact pk_us
          · rw [pk_un eq, pk_un eq]; exact I q hq
theorem xw_build13 {post : Int32 → SX → Prop} {P : cc_Pg} (W : cc_wf P) {F : Nat → cc_Lt} (K : cc_XK P F a_kind a_d a_s a_t a_a a_b a_unitLen a_callSites a_opaque a_form0 a_form1 a_formB a_fact a_factValue) {bud : Int32}
    (h0 : ∀ cm' cx' cy' am ax ay cc cp cm cx cy ov tot cz tr, ¬ cc_ft P F (fun _ => false) bud → post (-4) (f_LIN, f_SKIP, f_CALL, f_OUT, f_JUMP, f_RUNNING, f_FIRST_VERSION, f_MAX_VERSIONS, (nI (cc_N P)), f_length, f_calls, f_depth, f_openProc, f_analysed, f_built, f_builtCount, f_builtTotal, f_workTop, cm', cx', cy', am, ax, ay, cc, tot, ov, f_frames, f_outCount, f_entryCount, a_kind, a_d, a_s, a_t, a_a, a_b, a_unitLen, a_unitProc, a_unitMask, a_unitX, a_unitY, a_unitSize, a_splitNow, a_callSites, a_opaque, a_form0, a_form1, a_formB, a_met, a_fact, a_factValue, a_work, a_waiting, tr, cp, cm, cx, cy, cz, a_place, a_frameUnit, a_framePc, a_vars, a_outputs, a_entryProc, a_entryX, a_entryY, a_entryMask))
    (h : ∀ cm' cx' cy' am ax ay cp cm cx cy tot cz tr kd d s t a b pl ul up um ux uy uz sn, cc_ft P F (fun _ => false) bud → cc_n6 a_kind a_d a_s a_t a_a a_b kd d s t a b (fun j => 48 ≤ j) → cc_u6 a_unitLen a_unitProc a_unitMask ul up um → (∀ (n : Nat) (v : cc_V), (cc_li P F (cc_ch P F bud (cc_N P)))[n]? = some v → cc_ut P F (cc_ch P F bud (cc_N P)) (cc_li P F (cc_ch P F bud (cc_N P))) v (6 + n) kd d s t a b ul up um ux uy uz) → (∀ q, q < 6 → sn q = cc_b (cc_ch P F bud (cc_N P) q)) →
      post (nI (cc_to P F (cc_ch P F bud (cc_N P)))) (f_LIN, f_SKIP, f_CALL, f_OUT, f_JUMP, f_RUNNING, f_FIRST_VERSION, f_MAX_VERSIONS, (nI (cc_N P)), f_length, f_calls, f_depth, f_openProc, f_analysed, 1, (nI (cc_li P F (cc_ch P F bud (cc_N P))).length), (nI (cc_to P F (cc_ch P F bud (cc_N P)))), f_workTop, cm', cx', cy', am, ax, ay, (nI (cc_li P F (cc_ch P F bud (cc_N P))).length), tot, 0, f_frames, f_outCount, f_entryCount, kd, d, s, t, a, b, ul, up, um, ux, uy, uz, sn, a_callSites, a_opaque, a_form0, a_form1, a_formB, a_met, a_fact, a_factValue, a_work, a_waiting, tr, cp, cm, cx, cy, cz, pl, a_frameUnit, a_framePc, a_vars, a_outputs, a_entryProc, a_entryX, a_entryY, a_entryMask)) :
    ∀ (n p : Nat) (tr : Nat → Int32), p ≤ 6 → 6 - p < n → (∀ q, q < p → tr q = 0) → wX_build_13 post bud f_LIN f_SKIP f_CALL f_OUT f_JUMP f_RUNNING f_FIRST_VERSION f_MAX_VERSIONS (nI (cc_N P)) f_length f_calls f_depth f_openProc f_analysed f_built f_builtCount f_builtTotal f_workTop f_ctxMask f_ctxX f_ctxY f_argMask f_argX f_argY f_candCount f_candTotal f_overflow f_frames f_outCount f_entryCount n (nI p) a_kind a_d a_s a_t a_a a_b a_unitLen a_unitProc a_unitMask a_unitX a_unitY a_unitSize a_splitNow a_callSites a_opaque a_form0 a_form1 a_formB a_met a_fact a_factValue a_work a_waiting tr a_candProc a_candMask a_candX a_candY a_candSize a_place a_frameUnit a_framePc a_vars a_outputs a_entryProc a_entryX a_entryY a_entryMask := by
  have N2 := W.1
  have N6 := W.2.1
  intro n
  induction n with
  | zero => intro p tr _ y; omega
  | succ n ih =>
    intro p tr hp hn I
    by_cases e : p = 6
    · subst e
      refine br_t (show (6 : Int32) ≤ nI 6 from Int32.le_refl _) ?_
      refine xw_fits (ch := fun _ => false) W K (fun q hq => I q hq) (fun cm' cx' cy' am ax ay cc cp cm cx cy ov tot cz ft => br_f ix_10 ⟨7, ?_⟩) (fun cm' cx' cy' am ax ay cc cp cm cx cy ov tot cz ft => br_t rfl (h0 cm' cx' cy' am ax ay cc cp cm cx cy ov tot cz tr ft))
      refine xw_build45 W K ft (fun cm' cx' cy' am ax ay cp cm cx cy tot cz tr kd d s t a b pl ul up um ux uy uz sn J1 J2 J3 J4 => h cm' cx' cy' am ax ay cp cm cx cy tot cz tr kd d s t a b pl ul up um ux uy uz sn ft J1 J2 J3 J4) 7 1 cm' cx' cy' am ax ay cc cp cm cx cy ov tot cz tr (by omega) (by omega) (by omega) (fun q hq => ?_)
      rw [cc_ch_1]; exact I q hq
    · refine br_f (nI_ge (b := 6) (by omega) (by decide)) (And.intro (vp_in_nI (by omega) (by decide)) (nm_e (nm_r (e' := nI (p + 1)) (nI_1 p) (ih (p + 1) _ (by omega) (by omega) (fun q hq => ?_)))))
      rw [nI_clamp (show p < 2 ^ 31 by omega), ix_n0]
      by_cases eq : q = p
      · subst eq; exact pk_us
      · exact (pk_un eq).trans (I q (by omega))
end
end
section
/-! X: one step of a run -/
def cc_p4 (va : Nat → Int32) (k : Nat) (x y : Int32) : Nat → Int32 := upd (upd (upd (upd va (k * 4) x) (k * 4 + 1) y) (k * 4 + 2) 0) (k * 4 + 3) 0
/-- the top frame stands at a slot of its unit -/
def cc_xh (k u pc ln S T : Nat) (fu fp ul s t : Nat → Int32) : Prop := k < 16 ∧ u < 22 ∧ fu k = nI u ∧ fp k = nI pc ∧ ul u = nI ln ∧ pc < ln ∧ ln ≤ 8 ∧ s (u * 8 + pc) = nI S ∧ t (u * 8 + pc) = nI T ∧ S < 4 ∧ T < 4
section
variable {f_LIN f_SKIP f_CALL f_OUT f_JUMP f_RUNNING f_FIRST_VERSION f_MAX_VERSIONS f_procedures f_length f_calls f_depth f_openProc f_analysed f_built f_builtCount f_builtTotal f_workTop f_ctxMask f_ctxX f_ctxY f_argMask f_argX f_argY f_candCount f_candTotal f_overflow f_frames f_outCount f_entryCount : Int32} {a_kind a_d a_s a_t a_a a_b a_unitLen a_unitProc a_unitMask a_unitX a_unitY a_unitSize a_splitNow a_callSites a_opaque a_form0 a_form1 a_formB a_met a_fact a_factValue a_work a_waiting a_trial a_candProc a_candMask a_candX a_candY a_candSize a_place a_frameUnit a_framePc a_vars a_outputs a_entryProc a_entryX a_entryY a_entryMask : Nat → Int32}
theorem xw_enter {post : SX → Prop} {n ec u : Nat} {x y : Int32} (hn : n < 16) (hec : ec < 64) (hu : u < 22)
    (h : post (f_LIN, f_SKIP, f_CALL, f_OUT, f_JUMP, f_RUNNING, f_FIRST_VERSION, f_MAX_VERSIONS, f_procedures, f_length, f_calls, f_depth, f_openProc, f_analysed, f_built, f_builtCount, f_builtTotal, f_workTop, f_ctxMask, f_ctxX, f_ctxY, f_argMask, f_argX, f_argY, f_candCount, f_candTotal, f_overflow, (nI (n + 1)), f_outCount, (nI (ec + 1)), a_kind, a_d, a_s, a_t, a_a, a_b, a_unitLen, a_unitProc, a_unitMask, a_unitX, a_unitY, a_unitSize, a_splitNow, a_callSites, a_opaque, a_form0, a_form1, a_formB, a_met, a_fact, a_factValue, a_work, a_waiting, a_trial, a_candProc, a_candMask, a_candX, a_candY, a_candSize, a_place, (upd a_frameUnit n (nI u)), (upd a_framePc n 0), (cc_p4 a_vars n x y), a_outputs, (upd a_entryProc ec (a_unitProc u)), (upd a_entryX ec x), (upd a_entryY ec y), (upd a_entryMask ec (a_unitMask u)))) :
    wpX_enter post (f_LIN, f_SKIP, f_CALL, f_OUT, f_JUMP, f_RUNNING, f_FIRST_VERSION, f_MAX_VERSIONS, f_procedures, f_length, f_calls, f_depth, f_openProc, f_analysed, f_built, f_builtCount, f_builtTotal, f_workTop, f_ctxMask, f_ctxX, f_ctxY, f_argMask, f_argX, f_argY, f_candCount, f_candTotal, f_overflow, (nI n), f_outCount, (nI ec), a_kind, a_d, a_s, a_t, a_a, a_b, a_unitLen, a_unitProc, a_unitMask, a_unitX, a_unitY, a_unitSize, a_splitNow, a_callSites, a_opaque, a_form0, a_form1, a_formB, a_met, a_fact, a_factValue, a_work, a_waiting, a_trial, a_candProc, a_candMask, a_candX, a_candY, a_candSize, a_place, a_frameUnit, a_framePc, a_vars, a_outputs, a_entryProc, a_entryX, a_entryY, a_entryMask) (nI u) x y := by
  have hin : vp_in (nI n) 16 := vp_in_nI hn (by decide)
  have hie : vp_in (nI ec) 64 := vp_in_nI hec (by decide)
  have hiu : vp_in (nI u) 22 := vp_in_nI hu (by decide)
  unfold wpX_enter
  dsimp only
  rw [ix_40, nI_1 (n * 4), ix_52 (n * 4), ix_53 (n * 4), ix_c a_unitProc (show u < 2 ^ 31 by omega), ix_c a_unitMask (show u < 2 ^ 31 by omega), nI_clamp (show n < 2 ^ 31 by omega), nI_clamp (show n * 4 < 2 ^ 31 by omega), nI_clamp (show n * 4 + 1 < 2 ^ 31 by omega), nI_clamp (show n * 4 + 2 < 2 ^ 31 by omega), nI_clamp (show n * 4 + 3 < 2 ^ 31 by omega), nI_clamp (show ec < 2 ^ 31 by omega)]
  exact And.intro hin (nm_e (And.intro hin (nm_e (And.intro (vp_in_nI (by omega) (by decide)) (nm_e (And.intro (vp_in_nI (by omega) (by decide)) (nm_e (And.intro (vp_in_nI (by omega) (by decide)) (nm_e (And.intro (vp_in_nI (by omega) (by decide)) (nm_e (nm_r (e' := nI (n + 1)) (nI_1 n) (And.intro hiu (And.intro hie (nm_e (And.intro hie (nm_e (And.intro hie (nm_e (And.intro hiu (And.intro hie (nm_e (nm_r (e' := nI (ec + 1)) (nI_1 ec) h)))))))))))))))))))))))
theorem xw_leave0 {post : Int32 → SX → Prop} (h : post 0 (f_LIN, f_SKIP, f_CALL, f_OUT, f_JUMP, f_RUNNING, f_FIRST_VERSION, f_MAX_VERSIONS, f_procedures, f_length, f_calls, f_depth, f_openProc, f_analysed, f_built, f_builtCount, f_builtTotal, f_workTop, f_ctxMask, f_ctxX, f_ctxY, f_argMask, f_argX, f_argY, f_candCount, f_candTotal, f_overflow, 0, f_outCount, f_entryCount, a_kind, a_d, a_s, a_t, a_a, a_b, a_unitLen, a_unitProc, a_unitMask, a_unitX, a_unitY, a_unitSize, a_splitNow, a_callSites, a_opaque, a_form0, a_form1, a_formB, a_met, a_fact, a_factValue, a_work, a_waiting, a_trial, a_candProc, a_candMask, a_candX, a_candY, a_candSize, a_place, a_frameUnit, a_framePc, a_vars, a_outputs, a_entryProc, a_entryX, a_entryY, a_entryMask)) : wpX_leave post (f_LIN, f_SKIP, f_CALL, f_OUT, f_JUMP, f_RUNNING, f_FIRST_VERSION, f_MAX_VERSIONS, f_procedures, f_length, f_calls, f_depth, f_openProc, f_analysed, f_built, f_builtCount, f_builtTotal, f_workTop, f_ctxMask, f_ctxX, f_ctxY, f_argMask, f_argX, f_argY, f_candCount, f_candTotal, f_overflow, (nI 1), f_outCount, f_entryCount, a_kind, a_d, a_s, a_t, a_a, a_b, a_unitLen, a_unitProc, a_unitMask, a_unitX, a_unitY, a_unitSize, a_splitNow, a_callSites, a_opaque, a_form0, a_form1, a_formB, a_met, a_fact, a_factValue, a_work, a_waiting, a_trial, a_candProc, a_candMask, a_candX, a_candY, a_candSize, a_place, a_frameUnit, a_framePc, a_vars, a_outputs, a_entryProc, a_entryX, a_entryY, a_entryMask) :=
  nm_r (e' := 0) (nI_pred 0) (br_t rfl h)
theorem xw_leave1 {post : Int32 → SX → Prop} {k u pc D : Nat} (hk : k + 1 < 16) (hu : u < 22) (hpc : pc < 8) (e1 : a_frameUnit k = nI u) (e2 : a_framePc k = nI (pc + 1)) (e3 : a_d (u * 8 + pc) = nI D) (hD : D < 4)
    (h : post (-1) (f_LIN, f_SKIP, f_CALL, f_OUT, f_JUMP, f_RUNNING, f_FIRST_VERSION, f_MAX_VERSIONS, f_procedures, f_length, f_calls, f_depth, f_openProc, f_analysed, f_built, f_builtCount, f_builtTotal, f_workTop, f_ctxMask, f_ctxX, f_ctxY, f_argMask, f_argX, f_argY, f_candCount, f_candTotal, f_overflow, (nI (k + 1)), f_outCount, f_entryCount, a_kind, a_d, a_s, a_t, a_a, a_b, a_unitLen, a_unitProc, a_unitMask, a_unitX, a_unitY, a_unitSize, a_splitNow, a_callSites, a_opaque, a_form0, a_form1, a_formB, a_met, a_fact, a_factValue, a_work, a_waiting, a_trial, a_candProc, a_candMask, a_candX, a_candY, a_candSize, a_place, a_frameUnit, a_framePc, (upd a_vars (k * 4 + D) (a_vars ((k + 1) * 4 + 3))), a_outputs, a_entryProc, a_entryX, a_entryY, a_entryMask)) : wpX_leave post (f_LIN, f_SKIP, f_CALL, f_OUT, f_JUMP, f_RUNNING, f_FIRST_VERSION, f_MAX_VERSIONS, f_procedures, f_length, f_calls, f_depth, f_openProc, f_analysed, f_built, f_builtCount, f_builtTotal, f_workTop, f_ctxMask, f_ctxX, f_ctxY, f_argMask, f_argX, f_argY, f_candCount, f_candTotal, f_overflow, (nI (k + 2)), f_outCount, f_entryCount, a_kind, a_d, a_s, a_t, a_a, a_b, a_unitLen, a_unitProc, a_unitMask, a_unitX, a_unitY, a_unitSize, a_splitNow, a_callSites, a_opaque, a_form0, a_form1, a_formB, a_met, a_fact, a_factValue, a_work, a_waiting, a_trial, a_candProc, a_candMask, a_candX, a_candY, a_candSize, a_place, a_frameUnit, a_framePc, a_vars, a_outputs, a_entryProc, a_entryX, a_entryY, a_entryMask) := by
  have hik : vp_in (nI k) 16 := vp_in_nI (by omega) (by decide)
  have ek : k < 2 ^ 31 := by omega
  have em : u * 8 + pc < 2 ^ 31 := by omega
  have i3 : nI (k + 1) * 4 + 3 = nI ((k + 1) * 4 + 3) := ix_4 (k + 1) 3
  have iD : nI k * 4 + a_d (nI (u * 8 + pc)).toNatClampNeg = nI (k * 4 + D) := by rw [ix_c a_d em, e3, ix_4]
  refine nm_r (e' := nI (k + 1)) (nI_pred (k + 1)) (br_f (nI_ne0 (by omega) (by omega)) (nm_r (e' := nI k) (nI_pred k) (And.intro hik (And.intro hik (nm_r (e' := nI (u * 8 + pc)) ?_ (And.intro (vp_in_nI (by omega) (by decide)) ?_))))))
  · rw [ix_c a_frameUnit ek, ix_c a_framePc ek, e1, e2, ix_8, ← Nat.add_assoc, nI_pred]
  · rw [i3, iD]
    refine And.intro (vp_in_nI (by omega) (by decide)) (And.intro (vp_in_nI (by omega) (by decide)) (nm_e ?_))
    rw [nI_clamp (show k * 4 + D < 2 ^ 31 by omega), nI_clamp (show (k + 1) * 4 + 3 < 2 ^ 31 by omega)]
    exact h
theorem xw_stepL {post : Int32 → SX → Prop} {k u pc ln : Nat} (hk : k < 16) (hu : u < 22) (e1 : a_frameUnit k = nI u) (e2 : a_framePc k = nI pc) (e3 : a_unitLen u = nI ln) (hpc : ln ≤ pc) (hp : pc ≤ 16)
    (h : wpX_leave post (f_LIN, f_SKIP, f_CALL, f_OUT, f_JUMP, f_RUNNING, f_FIRST_VERSION, f_MAX_VERSIONS, f_procedures, f_length, f_calls, f_depth, f_openProc, f_analysed, f_built, f_builtCount, f_builtTotal, f_workTop, f_ctxMask, f_ctxX, f_ctxY, f_argMask, f_argX, f_argY, f_candCount, f_candTotal, f_overflow, (nI (k + 1)), f_outCount, f_entryCount, a_kind, a_d, a_s, a_t, a_a, a_b, a_unitLen, a_unitProc, a_unitMask, a_unitX, a_unitY, a_unitSize, a_splitNow, a_callSites, a_opaque, a_form0, a_form1, a_formB, a_met, a_fact, a_factValue, a_work, a_waiting, a_trial, a_candProc, a_candMask, a_candX, a_candY, a_candSize, a_place, a_frameUnit, a_framePc, a_vars, a_outputs, a_entryProc, a_entryX, a_entryY, a_entryMask)) : wpX_step post (f_LIN, f_SKIP, f_CALL, f_OUT, f_JUMP, f_RUNNING, f_FIRST_VERSION, f_MAX_VERSIONS, f_procedures, f_length, f_calls, f_depth, f_openProc, f_analysed, f_built, f_builtCount, f_builtTotal, f_workTop, f_ctxMask, f_ctxX, f_ctxY, f_argMask, f_argX, f_argY, f_candCount, f_candTotal, f_overflow, (nI (k + 1)), f_outCount, f_entryCount, a_kind, a_d, a_s, a_t, a_a, a_b, a_unitLen, a_unitProc, a_unitMask, a_unitX, a_unitY, a_unitSize, a_splitNow, a_callSites, a_opaque, a_form0, a_form1, a_formB, a_met, a_fact, a_factValue, a_work, a_waiting, a_trial, a_candProc, a_candMask, a_candX, a_candY, a_candSize, a_place, a_frameUnit, a_framePc, a_vars, a_outputs, a_entryProc, a_entryX, a_entryY, a_entryMask) := by
  have hik : vp_in (nI k) 16 := vp_in_nI hk (by decide)
  have ek : k < 2 ^ 31 := by omega
  refine nm_r (e' := nI k) (nI_pred k) (And.intro hik (nm_r (e' := nI u) ((ix_c a_frameUnit ek).trans e1) (And.intro hik (nm_r (e' := nI pc) ((ix_c a_framePc ek).trans e2) (And.intro (vp_in_nI hu (by decide)) ?_)))))
  rw [ix_c a_unitLen (show u < 2 ^ 31 by omega), e3]
  exact br_f (nI_nlt hpc (by omega)) h
theorem xw_stepX {post : Int32 → SX → Prop} {k u pc ln S T : Nat} (H : cc_xh k u pc ln S T a_frameUnit a_framePc a_unitLen a_s a_t)
    (h : wpX_execute post (f_LIN, f_SKIP, f_CALL, f_OUT, f_JUMP, f_RUNNING, f_FIRST_VERSION, f_MAX_VERSIONS, f_procedures, f_length, f_calls, f_depth, f_openProc, f_analysed, f_built, f_builtCount, f_builtTotal, f_workTop, f_ctxMask, f_ctxX, f_ctxY, f_argMask, f_argX, f_argY, f_candCount, f_candTotal, f_overflow, (nI (k + 1)), f_outCount, f_entryCount, a_kind, a_d, a_s, a_t, a_a, a_b, a_unitLen, a_unitProc, a_unitMask, a_unitX, a_unitY, a_unitSize, a_splitNow, a_callSites, a_opaque, a_form0, a_form1, a_formB, a_met, a_fact, a_factValue, a_work, a_waiting, a_trial, a_candProc, a_candMask, a_candX, a_candY, a_candSize, a_place, a_frameUnit, (upd a_framePc k (nI (pc + 1))), a_vars, a_outputs, a_entryProc, a_entryX, a_entryY, a_entryMask) (nI (u * 8 + pc)) (nI k)) : wpX_step post (f_LIN, f_SKIP, f_CALL, f_OUT, f_JUMP, f_RUNNING, f_FIRST_VERSION, f_MAX_VERSIONS, f_procedures, f_length, f_calls, f_depth, f_openProc, f_analysed, f_built, f_builtCount, f_builtTotal, f_workTop, f_ctxMask, f_ctxX, f_ctxY, f_argMask, f_argX, f_argY, f_candCount, f_candTotal, f_overflow, (nI (k + 1)), f_outCount, f_entryCount, a_kind, a_d, a_s, a_t, a_a, a_b, a_unitLen, a_unitProc, a_unitMask, a_unitX, a_unitY, a_unitSize, a_splitNow, a_callSites, a_opaque, a_form0, a_form1, a_formB, a_met, a_fact, a_factValue, a_work, a_waiting, a_trial, a_candProc, a_candMask, a_candX, a_candY, a_candSize, a_place, a_frameUnit, a_framePc, a_vars, a_outputs, a_entryProc, a_entryX, a_entryY, a_entryMask) := by
  obtain ⟨hk, hu, e1, e2, e3, h1, h2, -⟩ := H
  have hik : vp_in (nI k) 16 := vp_in_nI hk (by decide)
  have ek : k < 2 ^ 31 := by omega
  refine nm_r (e' := nI k) (nI_pred k) (And.intro hik (nm_r (e' := nI u) ((ix_c a_frameUnit ek).trans e1) (And.intro hik (nm_r (e' := nI pc) ((ix_c a_framePc ek).trans e2) (And.intro (vp_in_nI hu (by decide)) ?_)))))
  rw [ix_c a_unitLen (show u < 2 ^ 31 by omega), e3]
  refine br_t (nI_lt h1 (by omega)) (And.intro hik (nm_e ?_))
  rw [nI_1 pc, nI_clamp ek, ix_8]
  exact h
theorem xw_exA {post : Int32 → SX → Prop} {k m S T D : Nat} {kk : Int32} (hk16 : k < 16) (hm : m < 176) (hk : a_kind m = kk) (H8 : a_s m = nI S) (H9 : a_t m = nI T) (hS : S < 4) (hT : T < 4) (eD : a_d m = nI D) (hD : D < 4)
    (h : (kk = 4 ∧ post (-1) (f_LIN, f_SKIP, f_CALL, f_OUT, f_JUMP, f_RUNNING, f_FIRST_VERSION, f_MAX_VERSIONS, f_procedures, f_length, f_calls, f_depth, f_openProc, f_analysed, f_built, f_builtCount, f_builtTotal, f_workTop, f_ctxMask, f_ctxX, f_ctxY, f_argMask, f_argX, f_argY, f_candCount, f_candTotal, f_overflow, f_frames, f_outCount, f_entryCount, a_kind, a_d, a_s, a_t, a_a, a_b, a_unitLen, a_unitProc, a_unitMask, a_unitX, a_unitY, a_unitSize, a_splitNow, a_callSites, a_opaque, a_form0, a_form1, a_formB, a_met, a_fact, a_factValue, a_work, a_waiting, a_trial, a_candProc, a_candMask, a_candX, a_candY, a_candSize, a_place, a_frameUnit, a_framePc, (upd a_vars (k * 4 + D) (a_a m * a_vars (k * 4 + S) + a_b m)), a_outputs, a_entryProc, a_entryX, a_entryY, a_entryMask)) ∨ ∃ K, K ≤ 3 ∧ kk = nI K ∧ post (-1) (f_LIN, f_SKIP, f_CALL, f_OUT, f_JUMP, f_RUNNING, f_FIRST_VERSION, f_MAX_VERSIONS, f_procedures, f_length, f_calls, f_depth, f_openProc, f_analysed, f_built, f_builtCount, f_builtTotal, f_workTop, f_ctxMask, f_ctxX, f_ctxY, f_argMask, f_argX, f_argY, f_candCount, f_candTotal, f_overflow, f_frames, f_outCount, f_entryCount, a_kind, a_d, a_s, a_t, a_a, a_b, a_unitLen, a_unitProc, a_unitMask, a_unitX, a_unitY, a_unitSize, a_splitNow, a_callSites, a_opaque, a_form0, a_form1, a_formB, a_met, a_fact, a_factValue, a_work, a_waiting, a_trial, a_candProc, a_candMask, a_candX, a_candY, a_candSize, a_place, a_frameUnit, a_framePc, (upd a_vars (k * 4 + D) (cc_op K (a_vars (k * 4 + S)) (a_vars (k * 4 + T)))), a_outputs, a_entryProc, a_entryX, a_entryY, a_entryMask)) : wpX_execute post (f_LIN, f_SKIP, f_CALL, f_OUT, f_JUMP, f_RUNNING, f_FIRST_VERSION, f_MAX_VERSIONS, f_procedures, f_length, f_calls, f_depth, f_openProc, f_analysed, f_built, f_builtCount, f_builtTotal, f_workTop, f_ctxMask, f_ctxX, f_ctxY, f_argMask, f_argX, f_argY, f_candCount, f_candTotal, f_overflow, f_frames, f_outCount, f_entryCount, a_kind, a_d, a_s, a_t, a_a, a_b, a_unitLen, a_unitProc, a_unitMask, a_unitX, a_unitY, a_unitSize, a_splitNow, a_callSites, a_opaque, a_form0, a_form1, a_formB, a_met, a_fact, a_factValue, a_work, a_waiting, a_trial, a_candProc, a_candMask, a_candX, a_candY, a_candSize, a_place, a_frameUnit, a_framePc, a_vars, a_outputs, a_entryProc, a_entryX, a_entryY, a_entryMask) (nI m) (nI k) := by
  have em : m < 2 ^ 31 := by omega
  have him : vp_in (nI m) 176 := vp_in_nI hm (by decide)
  have iD : nI (k * 4) + a_d (nI m).toNatClampNeg = nI (k * 4 + D) := by rw [ix_c a_d em, eD, nI_add]
  refine And.intro him (nm_r (e' := kk) ((ix_c a_kind em).trans hk) (nm_r (e' := nI (k * 4)) (ix_40 k) (And.intro him (And.intro (by rw [ix_c a_s em, H8, nI_add]; exact vp_in_nI (by omega) (by decide)) (nm_r (e' := a_vars (k * 4 + S)) (by rw [ix_c a_s em, H8, nI_add]; exact ix_c a_vars (by omega)) (And.intro him (And.intro (by rw [ix_c a_t em, H9, nI_add]; exact vp_in_nI (by omega) (by decide)) (nm_r (e' := a_vars (k * 4 + T)) (by rw [ix_c a_t em, H9, nI_add]; exact ix_c a_vars (by omega)) ?_))))))))
  rcases h with ⟨e, h⟩ | ⟨K, hK, e, h⟩
  · subst e
    refine br_f (by decide) (br_f (by decide) (br_f (by decide) (br_f (by decide) (br_t rfl (And.intro him (And.intro him (And.intro him ?_)))))))
    rw [iD]
    refine And.intro (vp_in_nI (by omega) (by decide)) (nm_e ?_)
    rw [nI_clamp (show k * 4 + D < 2 ^ 31 by omega), ix_c a_a em, ix_c a_b em]
    exact h
  · subst e
    have ne : ∀ c, c < 9 → 3 < c → ¬ nI K = nI c := fun c h1 h2 z => by have := (nI_eq (by omega) (by omega)).mp z; omega
    refine br_f (ne 6 (by omega) (by omega)) (br_f (ne 7 (by omega) (by omega)) (br_f (ne 8 (by omega) (by omega)) (br_f (ne 5 (by omega) (by omega)) (br_f (ne 4 (by omega) (by omega)) (And.intro him ?_)))))
    have fin : ∀ z, z = cc_op K (a_vars (k * 4 + S)) (a_vars (k * 4 + T)) → vp_in (nI (k * 4) + a_d (nI m).toNatClampNeg) 64 ∧ ∀ va, va = upd a_vars (nI (k * 4) + a_d (nI m).toNatClampNeg).toNatClampNeg z → post (-1) (f_LIN, f_SKIP, f_CALL, f_OUT, f_JUMP, f_RUNNING, f_FIRST_VERSION, f_MAX_VERSIONS, f_procedures, f_length, f_calls, f_depth, f_openProc, f_analysed, f_built, f_builtCount, f_builtTotal, f_workTop, f_ctxMask, f_ctxX, f_ctxY, f_argMask, f_argX, f_argY, f_candCount, f_candTotal, f_overflow, f_frames, f_outCount, f_entryCount, a_kind, a_d, a_s, a_t, a_a, a_b, a_unitLen, a_unitProc, a_unitMask, a_unitX, a_unitY, a_unitSize, a_splitNow, a_callSites, a_opaque, a_form0, a_form1, a_formB, a_met, a_fact, a_factValue, a_work, a_waiting, a_trial, a_candProc, a_candMask, a_candX, a_candY, a_candSize, a_place, a_frameUnit, a_framePc, va, a_outputs, a_entryProc, a_entryX, a_entryY, a_entryMask) := by
      intro z ez
      rw [iD]
      refine And.intro (vp_in_nI (by omega) (by decide)) (nm_e ?_)
      rw [nI_clamp (show k * 4 + D < 2 ^ 31 by omega), ez]
      exact h
    have k03 : K = 0 ∨ K = 1 ∨ K = 2 ∨ K = 3 := by omega
    rcases k03 with e | e | e | e
    · subst e; exact br_t rfl (fin _ rfl)
    · subst e; exact br_f (show ¬ (1 : Int32) = 0 by decide) (br_t rfl (fin _ rfl))
    · subst e; exact br_f (show ¬ (2 : Int32) = 0 by decide) (br_f (show ¬ (2 : Int32) = 1 by decide) (br_t rfl (fin _ rfl)))
    · subst e
      refine br_f (show ¬ (3 : Int32) = 0 by decide) (br_f (show ¬ (3 : Int32) = 1 by decide) (br_f (show ¬ (3 : Int32) = 2 by decide) (br_c (fun c => fin _ ?_) (fun c => fin _ ?_))))
      · exact (if_pos c).symm
      · exact (if_neg c).symm
theorem xw_exS {post : Int32 → SX → Prop} {k m S T : Nat} {kk : Int32} (hk16 : k < 16) (hm : m < 176) (hk : a_kind m = kk) (H8 : a_s m = nI S) (H9 : a_t m = nI T) (hS : S < 4) (hT : T < 4) (h58 : kk = 5 ∨ kk = 8)
    (h1 : (kk = 8 ∨ a_vars (k * 4 + S) = a_a m) → post (-1) (f_LIN, f_SKIP, f_CALL, f_OUT, f_JUMP, f_RUNNING, f_FIRST_VERSION, f_MAX_VERSIONS, f_procedures, f_length, f_calls, f_depth, f_openProc, f_analysed, f_built, f_builtCount, f_builtTotal, f_workTop, f_ctxMask, f_ctxX, f_ctxY, f_argMask, f_argX, f_argY, f_candCount, f_candTotal, f_overflow, f_frames, f_outCount, f_entryCount, a_kind, a_d, a_s, a_t, a_a, a_b, a_unitLen, a_unitProc, a_unitMask, a_unitX, a_unitY, a_unitSize, a_splitNow, a_callSites, a_opaque, a_form0, a_form1, a_formB, a_met, a_fact, a_factValue, a_work, a_waiting, a_trial, a_candProc, a_candMask, a_candX, a_candY, a_candSize, a_place, a_frameUnit, (upd a_framePc k (a_b m)), a_vars, a_outputs, a_entryProc, a_entryX, a_entryY, a_entryMask)) (h0 : kk = 5 → ¬ a_vars (k * 4 + S) = a_a m → post (-1) (f_LIN, f_SKIP, f_CALL, f_OUT, f_JUMP, f_RUNNING, f_FIRST_VERSION, f_MAX_VERSIONS, f_procedures, f_length, f_calls, f_depth, f_openProc, f_analysed, f_built, f_builtCount, f_builtTotal, f_workTop, f_ctxMask, f_ctxX, f_ctxY, f_argMask, f_argX, f_argY, f_candCount, f_candTotal, f_overflow, f_frames, f_outCount, f_entryCount, a_kind, a_d, a_s, a_t, a_a, a_b, a_unitLen, a_unitProc, a_unitMask, a_unitX, a_unitY, a_unitSize, a_splitNow, a_callSites, a_opaque, a_form0, a_form1, a_formB, a_met, a_fact, a_factValue, a_work, a_waiting, a_trial, a_candProc, a_candMask, a_candX, a_candY, a_candSize, a_place, a_frameUnit, a_framePc, a_vars, a_outputs, a_entryProc, a_entryX, a_entryY, a_entryMask)) : wpX_execute post (f_LIN, f_SKIP, f_CALL, f_OUT, f_JUMP, f_RUNNING, f_FIRST_VERSION, f_MAX_VERSIONS, f_procedures, f_length, f_calls, f_depth, f_openProc, f_analysed, f_built, f_builtCount, f_builtTotal, f_workTop, f_ctxMask, f_ctxX, f_ctxY, f_argMask, f_argX, f_argY, f_candCount, f_candTotal, f_overflow, f_frames, f_outCount, f_entryCount, a_kind, a_d, a_s, a_t, a_a, a_b, a_unitLen, a_unitProc, a_unitMask, a_unitX, a_unitY, a_unitSize, a_splitNow, a_callSites, a_opaque, a_form0, a_form1, a_formB, a_met, a_fact, a_factValue, a_work, a_waiting, a_trial, a_candProc, a_candMask, a_candX, a_candY, a_candSize, a_place, a_frameUnit, a_framePc, a_vars, a_outputs, a_entryProc, a_entryX, a_entryY, a_entryMask) (nI m) (nI k) := by
  have em : m < 2 ^ 31 := by omega
  have him : vp_in (nI m) 176 := vp_in_nI hm (by decide)
  refine And.intro him (nm_r (e' := kk) ((ix_c a_kind em).trans hk) (nm_r (e' := nI (k * 4)) (ix_40 k) (And.intro him (And.intro (by rw [ix_c a_s em, H8, nI_add]; exact vp_in_nI (by omega) (by decide)) (nm_r (e' := a_vars (k * 4 + S)) (by rw [ix_c a_s em, H8, nI_add]; exact ix_c a_vars (by omega)) (And.intro him (And.intro (by rw [ix_c a_t em, H9, nI_add]; exact vp_in_nI (by omega) (by decide)) (nm_r (e' := a_vars (k * 4 + T)) (by rw [ix_c a_t em, H9, nI_add]; exact ix_c a_vars (by omega)) ?_))))))))
  have h106 : (kk = 8 ∨ a_vars (k * 4 + S) = a_a m) → wX_execute_106 post (nI m) (nI k) f_LIN f_SKIP f_CALL f_OUT f_JUMP f_RUNNING f_FIRST_VERSION f_MAX_VERSIONS f_procedures f_length f_calls f_depth f_openProc f_analysed f_built f_builtCount f_builtTotal f_workTop f_ctxMask f_ctxX f_ctxY f_argMask f_argX f_argY f_candCount f_candTotal f_overflow f_frames f_outCount f_entryCount a_kind a_d a_s a_t a_a a_b a_unitLen a_unitProc a_unitMask a_unitX a_unitY a_unitSize a_splitNow a_callSites a_opaque a_form0 a_form1 a_formB a_met a_fact a_factValue a_work a_waiting a_trial a_candProc a_candMask a_candX a_candY a_candSize a_place a_frameUnit a_framePc a_vars a_outputs a_entryProc a_entryX a_entryY a_entryMask := by
    intro c
    refine And.intro him (And.intro (vp_in_nI hk16 (by decide)) (nm_e ?_))
    rw [nI_clamp (show k < 2 ^ 31 by omega), ix_c a_b em]
    exact h1 c
  have h89 : wX_execute_89 post (nI m) (nI k) kk (a_vars (k * 4 + S)) f_LIN f_SKIP f_CALL f_OUT f_JUMP f_RUNNING f_FIRST_VERSION f_MAX_VERSIONS f_procedures f_length f_calls f_depth f_openProc f_analysed f_built f_builtCount f_builtTotal f_workTop f_ctxMask f_ctxX f_ctxY f_argMask f_argX f_argY f_candCount f_candTotal f_overflow f_frames f_outCount f_entryCount a_kind a_d a_s a_t a_a a_b a_unitLen a_unitProc a_unitMask a_unitX a_unitY a_unitSize a_splitNow a_callSites a_opaque a_form0 a_form1 a_formB a_met a_fact a_factValue a_work a_waiting a_trial a_candProc a_candMask a_candX a_candY a_candSize a_place a_frameUnit a_framePc a_vars a_outputs a_entryProc a_entryX a_entryY a_entryMask := by
    refine br_c (fun c => h106 (Or.inl c)) (fun c => And.intro him ?_)
    rw [ix_c a_a em]
    exact br_c (fun d => h106 (Or.inr d)) (fun d => h0 (h58.resolve_right c) d)
  rcases h58 with e | e
  · subst e
    exact br_f (by decide) (br_f (by decide) (br_f (by decide) (br_t rfl h89)))
  · subst e
    exact br_f (by decide) (br_f (by decide) (br_t rfl h89))
theorem xw_exO {post : Int32 → SX → Prop} {k m S T oc : Nat} {kk : Int32} (hk16 : k < 16) (hm : m < 176) (hk : a_kind m = kk) (H8 : a_s m = nI S) (H9 : a_t m = nI T) (hS : S < 4) (hT : T < 4) (h7 : kk = 7) (ho : oc ≤ 16)
    (h1 : oc < 16 → post (-1) (f_LIN, f_SKIP, f_CALL, f_OUT, f_JUMP, f_RUNNING, f_FIRST_VERSION, f_MAX_VERSIONS, f_procedures, f_length, f_calls, f_depth, f_openProc, f_analysed, f_built, f_builtCount, f_builtTotal, f_workTop, f_ctxMask, f_ctxX, f_ctxY, f_argMask, f_argX, f_argY, f_candCount, f_candTotal, f_overflow, f_frames, (nI (oc + 1)), f_entryCount, a_kind, a_d, a_s, a_t, a_a, a_b, a_unitLen, a_unitProc, a_unitMask, a_unitX, a_unitY, a_unitSize, a_splitNow, a_callSites, a_opaque, a_form0, a_form1, a_formB, a_met, a_fact, a_factValue, a_work, a_waiting, a_trial, a_candProc, a_candMask, a_candX, a_candY, a_candSize, a_place, a_frameUnit, a_framePc, a_vars, (upd a_outputs oc (a_vars (k * 4 + S))), a_entryProc, a_entryX, a_entryY, a_entryMask)) (h0 : ¬ oc < 16 → post 3 (f_LIN, f_SKIP, f_CALL, f_OUT, f_JUMP, f_RUNNING, f_FIRST_VERSION, f_MAX_VERSIONS, f_procedures, f_length, f_calls, f_depth, f_openProc, f_analysed, f_built, f_builtCount, f_builtTotal, f_workTop, f_ctxMask, f_ctxX, f_ctxY, f_argMask, f_argX, f_argY, f_candCount, f_candTotal, f_overflow, f_frames, (nI oc), f_entryCount, a_kind, a_d, a_s, a_t, a_a, a_b, a_unitLen, a_unitProc, a_unitMask, a_unitX, a_unitY, a_unitSize, a_splitNow, a_callSites, a_opaque, a_form0, a_form1, a_formB, a_met, a_fact, a_factValue, a_work, a_waiting, a_trial, a_candProc, a_candMask, a_candX, a_candY, a_candSize, a_place, a_frameUnit, a_framePc, a_vars, a_outputs, a_entryProc, a_entryX, a_entryY, a_entryMask)) : wpX_execute post (f_LIN, f_SKIP, f_CALL, f_OUT, f_JUMP, f_RUNNING, f_FIRST_VERSION, f_MAX_VERSIONS, f_procedures, f_length, f_calls, f_depth, f_openProc, f_analysed, f_built, f_builtCount, f_builtTotal, f_workTop, f_ctxMask, f_ctxX, f_ctxY, f_argMask, f_argX, f_argY, f_candCount, f_candTotal, f_overflow, f_frames, (nI oc), f_entryCount, a_kind, a_d, a_s, a_t, a_a, a_b, a_unitLen, a_unitProc, a_unitMask, a_unitX, a_unitY, a_unitSize, a_splitNow, a_callSites, a_opaque, a_form0, a_form1, a_formB, a_met, a_fact, a_factValue, a_work, a_waiting, a_trial, a_candProc, a_candMask, a_candX, a_candY, a_candSize, a_place, a_frameUnit, a_framePc, a_vars, a_outputs, a_entryProc, a_entryX, a_entryY, a_entryMask) (nI m) (nI k) := by
  have em : m < 2 ^ 31 := by omega
  have him : vp_in (nI m) 176 := vp_in_nI hm (by decide)
  refine And.intro him (nm_r (e' := kk) ((ix_c a_kind em).trans hk) (nm_r (e' := nI (k * 4)) (ix_40 k) (And.intro him (And.intro (by rw [ix_c a_s em, H8, nI_add]; exact vp_in_nI (by omega) (by decide)) (nm_r (e' := a_vars (k * 4 + S)) (by rw [ix_c a_s em, H8, nI_add]; exact ix_c a_vars (by omega)) (And.intro him (And.intro (by rw [ix_c a_t em, H9, nI_add]; exact vp_in_nI (by omega) (by decide)) (nm_r (e' := a_vars (k * 4 + T)) (by rw [ix_c a_t em, H9, nI_add]; exact ix_c a_vars (by omega)) ?_))))))))
  subst h7
  refine br_f (by decide) (br_t rfl ?_)
  by_cases c : oc < 16
  · refine br_t (nI_lt c (by decide)) (And.intro (vp_in_nI c (by decide)) (nm_e (nm_r (e' := nI (oc + 1)) (nI_1 oc) ?_)))
    rw [nI_clamp (show oc < 2 ^ 31 by omega)]
    exact h1 c
  · exact br_f (nI_nlt (b := 16) (by omega) (by omega)) (h0 c)
theorem xw_exC {post : Int32 → SX → Prop} {k m S T u n ec cal dep : Nat} {kk : Int32} (hk16 : k < 16) (hm : m < 176) (hk : a_kind m = kk) (H8 : a_s m = nI S) (H9 : a_t m = nI T) (hS : S < 4) (hT : T < 4) (h6 : kk = 6) (ea : a_a m = nI u) (hu : u < 22) (hec : ec ≤ 64) (hcal : cal ≤ 64) (hdep : dep ≤ 16) (hn : n ≤ 16)
    (h1 : ec < cal → n < dep → post (-1) (f_LIN, f_SKIP, f_CALL, f_OUT, f_JUMP, f_RUNNING, f_FIRST_VERSION, f_MAX_VERSIONS, f_procedures, f_length, (nI cal), (nI dep), f_openProc, f_analysed, f_built, f_builtCount, f_builtTotal, f_workTop, f_ctxMask, f_ctxX, f_ctxY, f_argMask, f_argX, f_argY, f_candCount, f_candTotal, f_overflow, (nI (n + 1)), f_outCount, (nI (ec + 1)), a_kind, a_d, a_s, a_t, a_a, a_b, a_unitLen, a_unitProc, a_unitMask, a_unitX, a_unitY, a_unitSize, a_splitNow, a_callSites, a_opaque, a_form0, a_form1, a_formB, a_met, a_fact, a_factValue, a_work, a_waiting, a_trial, a_candProc, a_candMask, a_candX, a_candY, a_candSize, a_place, (upd a_frameUnit n (nI u)), (upd a_framePc n 0), (cc_p4 a_vars n (a_vars (k * 4 + S)) (a_vars (k * 4 + T))), a_outputs, (upd a_entryProc ec (a_unitProc u)), (upd a_entryX ec (a_vars (k * 4 + S))), (upd a_entryY ec (a_vars (k * 4 + T))), (upd a_entryMask ec (a_unitMask u))))
    (h2 : ec < cal → ¬ n < dep → post 2 (f_LIN, f_SKIP, f_CALL, f_OUT, f_JUMP, f_RUNNING, f_FIRST_VERSION, f_MAX_VERSIONS, f_procedures, f_length, (nI cal), (nI dep), f_openProc, f_analysed, f_built, f_builtCount, f_builtTotal, f_workTop, f_ctxMask, f_ctxX, f_ctxY, f_argMask, f_argX, f_argY, f_candCount, f_candTotal, f_overflow, (nI n), f_outCount, (nI ec), a_kind, a_d, a_s, a_t, a_a, a_b, a_unitLen, a_unitProc, a_unitMask, a_unitX, a_unitY, a_unitSize, a_splitNow, a_callSites, a_opaque, a_form0, a_form1, a_formB, a_met, a_fact, a_factValue, a_work, a_waiting, a_trial, a_candProc, a_candMask, a_candX, a_candY, a_candSize, a_place, a_frameUnit, a_framePc, a_vars, a_outputs, a_entryProc, a_entryX, a_entryY, a_entryMask))
    (h3 : ¬ ec < cal → post 1 (f_LIN, f_SKIP, f_CALL, f_OUT, f_JUMP, f_RUNNING, f_FIRST_VERSION, f_MAX_VERSIONS, f_procedures, f_length, (nI cal), (nI dep), f_openProc, f_analysed, f_built, f_builtCount, f_builtTotal, f_workTop, f_ctxMask, f_ctxX, f_ctxY, f_argMask, f_argX, f_argY, f_candCount, f_candTotal, f_overflow, (nI n), f_outCount, (nI ec), a_kind, a_d, a_s, a_t, a_a, a_b, a_unitLen, a_unitProc, a_unitMask, a_unitX, a_unitY, a_unitSize, a_splitNow, a_callSites, a_opaque, a_form0, a_form1, a_formB, a_met, a_fact, a_factValue, a_work, a_waiting, a_trial, a_candProc, a_candMask, a_candX, a_candY, a_candSize, a_place, a_frameUnit, a_framePc, a_vars, a_outputs, a_entryProc, a_entryX, a_entryY, a_entryMask)) : wpX_execute post (f_LIN, f_SKIP, f_CALL, f_OUT, f_JUMP, f_RUNNING, f_FIRST_VERSION, f_MAX_VERSIONS, f_procedures, f_length, (nI cal), (nI dep), f_openProc, f_analysed, f_built, f_builtCount, f_builtTotal, f_workTop, f_ctxMask, f_ctxX, f_ctxY, f_argMask, f_argX, f_argY, f_candCount, f_candTotal, f_overflow, (nI n), f_outCount, (nI ec), a_kind, a_d, a_s, a_t, a_a, a_b, a_unitLen, a_unitProc, a_unitMask, a_unitX, a_unitY, a_unitSize, a_splitNow, a_callSites, a_opaque, a_form0, a_form1, a_formB, a_met, a_fact, a_factValue, a_work, a_waiting, a_trial, a_candProc, a_candMask, a_candX, a_candY, a_candSize, a_place, a_frameUnit, a_framePc, a_vars, a_outputs, a_entryProc, a_entryX, a_entryY, a_entryMask) (nI m) (nI k) := by
  have em : m < 2 ^ 31 := by omega
  have him : vp_in (nI m) 176 := vp_in_nI hm (by decide)
  refine And.intro him (nm_r (e' := kk) ((ix_c a_kind em).trans hk) (nm_r (e' := nI (k * 4)) (ix_40 k) (And.intro him (And.intro (by rw [ix_c a_s em, H8, nI_add]; exact vp_in_nI (by omega) (by decide)) (nm_r (e' := a_vars (k * 4 + S)) (by rw [ix_c a_s em, H8, nI_add]; exact ix_c a_vars (by omega)) (And.intro him (And.intro (by rw [ix_c a_t em, H9, nI_add]; exact vp_in_nI (by omega) (by decide)) (nm_r (e' := a_vars (k * 4 + T)) (by rw [ix_c a_t em, H9, nI_add]; exact ix_c a_vars (by omega)) ?_))))))))
  subst h6
  refine br_t rfl (And.intro him ?_)
  rw [ix_c a_a em, ea]
  by_cases c : ec < cal
  · refine br_t (nI_lt c (by omega)) ?_
    by_cases d : n < dep
    · exact br_t (nI_lt d (by omega)) (xw_enter (by omega) (by omega) hu (h1 c d))
    · exact br_f (nI_nlt (by omega) (by omega)) (h2 c d)
  · exact br_f (nI_nlt (by omega) (by omega)) (h3 c)
theorem xw_go {post : Int32 → SX → Prop} {n x5 : Nat} (hx : x5 < 640) (h : wpX_step (fun r u => match u with | (f_LIN, f_SKIP, f_CALL, f_OUT, f_JUMP, f_RUNNING, f_FIRST_VERSION, f_MAX_VERSIONS, f_procedures, f_length, f_calls, f_depth, f_openProc, f_analysed, f_built, f_builtCount, f_builtTotal, f_workTop, f_ctxMask, f_ctxX, f_ctxY, f_argMask, f_argX, f_argY, f_candCount, f_candTotal, f_overflow, f_frames, f_outCount, f_entryCount, a_kind, a_d, a_s, a_t, a_a, a_b, a_unitLen, a_unitProc, a_unitMask, a_unitX, a_unitY, a_unitSize, a_splitNow, a_callSites, a_opaque, a_form0, a_form1, a_formB, a_met, a_fact, a_factValue, a_work, a_waiting, a_trial, a_candProc, a_candMask, a_candX, a_candY, a_candSize, a_place, a_frameUnit, a_framePc, a_vars, a_outputs, a_entryProc, a_entryX, a_entryY, a_entryMask) => ∀ z, z = nI x5 + 1 → wX_run_64 post n r z f_LIN f_SKIP f_CALL f_OUT f_JUMP f_RUNNING f_FIRST_VERSION f_MAX_VERSIONS f_procedures f_length f_calls f_depth f_openProc f_analysed f_built f_builtCount f_builtTotal f_workTop f_ctxMask f_ctxX f_ctxY f_argMask f_argX f_argY f_candCount f_candTotal f_overflow f_frames f_outCount f_entryCount a_kind a_d a_s a_t a_a a_b a_unitLen a_unitProc a_unitMask a_unitX a_unitY a_unitSize a_splitNow a_callSites a_opaque a_form0 a_form1 a_formB a_met a_fact a_factValue a_work a_waiting a_trial a_candProc a_candMask a_candX a_candY a_candSize a_place a_frameUnit a_framePc a_vars a_outputs a_entryProc a_entryX a_entryY a_entryMask) (f_LIN, f_SKIP, f_CALL, f_OUT, f_JUMP, f_RUNNING, f_FIRST_VERSION, f_MAX_VERSIONS, f_procedures, f_length, f_calls, f_depth, f_openProc, f_analysed, f_built, f_builtCount, f_builtTotal, f_workTop, f_ctxMask, f_ctxX, f_ctxY, f_argMask, f_argX, f_argY, f_candCount, f_candTotal, f_overflow, f_frames, f_outCount, f_entryCount, a_kind, a_d, a_s, a_t, a_a, a_b, a_unitLen, a_unitProc, a_unitMask, a_unitX, a_unitY, a_unitSize, a_splitNow, a_callSites, a_opaque, a_form0, a_form1, a_formB, a_met, a_fact, a_factValue, a_work, a_waiting, a_trial, a_candProc, a_candMask, a_candX, a_candY, a_candSize, a_place, a_frameUnit, a_framePc, a_vars, a_outputs, a_entryProc, a_entryX, a_entryY, a_entryMask)) : wX_run_64 post (n + 1) (-1) (nI x5) f_LIN f_SKIP f_CALL f_OUT f_JUMP f_RUNNING f_FIRST_VERSION f_MAX_VERSIONS f_procedures f_length f_calls f_depth f_openProc f_analysed f_built f_builtCount f_builtTotal f_workTop f_ctxMask f_ctxX f_ctxY f_argMask f_argX f_argY f_candCount f_candTotal f_overflow f_frames f_outCount f_entryCount a_kind a_d a_s a_t a_a a_b a_unitLen a_unitProc a_unitMask a_unitX a_unitY a_unitSize a_splitNow a_callSites a_opaque a_form0 a_form1 a_formB a_met a_fact a_factValue a_work a_waiting a_trial a_candProc a_candMask a_candX a_candY a_candSize a_place a_frameUnit a_framePc a_vars a_outputs a_entryProc a_entryX a_entryY a_entryMask :=
  br_f (nI_ge (b := 640) hx (by decide)) (br_t rfl h)
theorem xw_end {post : Int32 → SX → Prop} {n : Nat} {r x5 : Int32} (hr : ¬ r = -1) (h : post r (f_LIN, f_SKIP, f_CALL, f_OUT, f_JUMP, f_RUNNING, f_FIRST_VERSION, f_MAX_VERSIONS, f_procedures, f_length, f_calls, f_depth, f_openProc, f_analysed, f_built, f_builtCount, f_builtTotal, f_workTop, f_ctxMask, f_ctxX, f_ctxY, f_argMask, f_argX, f_argY, f_candCount, f_candTotal, f_overflow, f_frames, f_outCount, f_entryCount, a_kind, a_d, a_s, a_t, a_a, a_b, a_unitLen, a_unitProc, a_unitMask, a_unitX, a_unitY, a_unitSize, a_splitNow, a_callSites, a_opaque, a_form0, a_form1, a_formB, a_met, a_fact, a_factValue, a_work, a_waiting, a_trial, a_candProc, a_candMask, a_candX, a_candY, a_candSize, a_place, a_frameUnit, a_framePc, a_vars, a_outputs, a_entryProc, a_entryX, a_entryY, a_entryMask)) : wX_run_64 post (n + 1) r x5 f_LIN f_SKIP f_CALL f_OUT f_JUMP f_RUNNING f_FIRST_VERSION f_MAX_VERSIONS f_procedures f_length f_calls f_depth f_openProc f_analysed f_built f_builtCount f_builtTotal f_workTop f_ctxMask f_ctxX f_ctxY f_argMask f_argX f_argY f_candCount f_candTotal f_overflow f_frames f_outCount f_entryCount a_kind a_d a_s a_t a_a a_b a_unitLen a_unitProc a_unitMask a_unitX a_unitY a_unitSize a_splitNow a_callSites a_opaque a_form0 a_form1 a_formB a_met a_fact a_factValue a_work a_waiting a_trial a_candProc a_candMask a_candX a_candY a_candSize a_place a_frameUnit a_framePc a_vars a_outputs a_entryProc a_entryX a_entryY a_entryMask :=
  br_c (fun _ => h) (fun _ => br_f hr h)
end
end
section
/-! Y: one step of a run -/
theorem cc_uu (f : Nat → Int32) (k : Nat) (a b : Int32) : upd (upd f k a) k b = upd f k b := by
  funext j
  by_cases e : j = k
  · subst e; exact pk_us.trans pk_us.symm
  · exact (pk_un e).trans ((pk_un e).trans (pk_un e).symm)
def cc_e4 (el : Nat → Int32) (e : Nat) (p x y m : Int32) : Nat → Int32 := upd (upd (upd (upd el (e * 4) p) (e * 4 + 1) x) (e * 4 + 2) y) (e * 4 + 3) m
/-- what a statement that writes yields -/
def cc_ex (P : cc_Pg) (m : Nat) (l r : Int32) : Int32 := if cc_K P m = 4 then cc_A P m * l + cc_B P m else cc_op (cc_K P m) l r
section
variable {g_procs g_limit g_calls g_depth g_cur g_ok g_c0 g_c1 g_cb g_vn g_built g_chosen g_top g_outs g_entries : Int32} {b_len b_kind b_sd b_ss b_st b_sa b_sb b_fk b_f0 b_f1 b_fb b_fact b_factv b_reach b_vp b_vm b_vx b_vy b_sp b_pc b_sm b_cell b_outList b_entryList : Nat → Int32}
theorem yw_enter {post : SY → Prop} {es k : Nat} {p x y m t : Int32} (het : t + 1 = nI k) (hk : k < 16) (hes : es < 64)
    (h : post (g_procs, g_limit, g_calls, g_depth, g_cur, g_ok, g_c0, g_c1, g_cb, g_vn, g_built, g_chosen, (nI k), g_outs, (nI (es + 1)), b_len, b_kind, b_sd, b_ss, b_st, b_sa, b_sb, b_fk, b_f0, b_f1, b_fb, b_fact, b_factv, b_reach, b_vp, b_vm, b_vx, b_vy, (upd b_sp k p), (upd b_pc k 0), (upd b_sm k m), (cc_p4 b_cell k x y), b_outList, (cc_e4 b_entryList es p x y m))) :
    wpY_enter post (g_procs, g_limit, g_calls, g_depth, g_cur, g_ok, g_c0, g_c1, g_cb, g_vn, g_built, g_chosen, t, g_outs, (nI es), b_len, b_kind, b_sd, b_ss, b_st, b_sa, b_sb, b_fk, b_f0, b_f1, b_fb, b_fact, b_factv, b_reach, b_vp, b_vm, b_vx, b_vy, b_sp, b_pc, b_sm, b_cell, b_outList, b_entryList) p x y m := by
  have hik : vp_in (nI k) 16 := vp_in_nI hk (by decide)
  refine nm_r (e' := nI (es * 4)) (ix_40 es) ?_
  rw [nI_1 (es * 4), ix_52 (es * 4), ix_53 (es * 4), nI_clamp (show es * 4 < 2 ^ 31 by omega), nI_clamp (show es * 4 + 1 < 2 ^ 31 by omega), nI_clamp (show es * 4 + 2 < 2 ^ 31 by omega), nI_clamp (show es * 4 + 3 < 2 ^ 31 by omega)]
  refine And.intro (vp_in_nI (by omega) (by decide)) (nm_e (And.intro (vp_in_nI (by omega) (by decide)) (nm_e (And.intro (vp_in_nI (by omega) (by decide)) (nm_e (And.intro (vp_in_nI (by omega) (by decide)) (nm_e (nm_r (e' := nI (es + 1)) (nI_1 es) (nm_r (e' := nI k) het ?_)))))))))
  rw [ix_40, nI_1 (k * 4), ix_52 (k * 4), ix_53 (k * 4), nI_clamp (show k < 2 ^ 31 by omega), nI_clamp (show k * 4 < 2 ^ 31 by omega), nI_clamp (show k * 4 + 1 < 2 ^ 31 by omega), nI_clamp (show k * 4 + 2 < 2 ^ 31 by omega), nI_clamp (show k * 4 + 3 < 2 ^ 31 by omega)]
  exact And.intro hik (nm_e (And.intro hik (nm_e (And.intro hik (nm_e (And.intro (vp_in_nI (by omega) (by decide)) (nm_e (And.intro (vp_in_nI (by omega) (by decide)) (nm_e (And.intro (vp_in_nI (by omega) (by decide)) (nm_e (And.intro (vp_in_nI (by omega) (by decide)) (nm_e h)))))))))))))
theorem yr_A {post : Int32 → SY → Prop} {P : cc_Pg} (W : cc_wf P) {k p i x4 n : Nat} {md : Int32} (hx : x4 < 1000) (hk : k < 16) (hp : p < 6) (e1 : b_sp k = nI p) (e2 : b_pc k = nI i) (hL : b_len p = nI (cc_L P p)) (hi : i < cc_L P p) (y : cc_y1 P b_kind b_sd b_ss b_st b_sa b_sb (p * 8 + i) i) (k4 : cc_K P (p * 8 + i) ≤ 4)
    (h : wY_run_53 post md n (nI (x4 + 1)) g_procs g_limit g_calls g_depth g_cur g_ok g_c0 g_c1 g_cb g_vn g_built g_chosen (nI k) g_outs g_entries b_len b_kind b_sd b_ss b_st b_sa b_sb b_fk b_f0 b_f1 b_fb b_fact b_factv b_reach b_vp b_vm b_vx b_vy b_sp (upd b_pc k (nI (i + 1))) b_sm (upd b_cell (k * 4 + cc_D P (p * 8 + i)) (cc_ex P (p * 8 + i) (b_cell (k * 4 + cc_S P (p * 8 + i))) (b_cell (k * 4 + cc_T P (p * 8 + i))))) b_outList b_entryList) :
    wY_run_53 post md (n + 1) (nI x4) g_procs g_limit g_calls g_depth g_cur g_ok g_c0 g_c1 g_cb g_vn g_built g_chosen (nI k) g_outs g_entries b_len b_kind b_sd b_ss b_st b_sa b_sb b_fk b_f0 b_f1 b_fb b_fact b_factv b_reach b_vp b_vm b_vx b_vy b_sp b_pc b_sm b_cell b_outList b_entryList := by
  obtain ⟨w1, w2, w3, w4, w5, w6⟩ := W.2.2.2 p i hp hi; obtain ⟨ky2, ky3, ky0, ky1, ky4⟩ := cc_ky (W.2.2.2 p i hp hi) y; have L8 := W.2.2.1 p hp; have ek : k < 2 ^ 31 := (by omega); have em : p * 8 + i < 2 ^ 31 := (by omega); have hik : vp_in (nI k) 16 := vp_in_nI hk (by decide); have him : vp_in (nI (p * 8 + i)) 48 := vp_in_nI (by omega) (by decide)
  have iD : vp_in (nI (k * 4 + cc_D P (p * 8 + i))) 64 := vp_in_nI (by omega) (by decide)
  have eD : k * 4 + cc_D P (p * 8 + i) < 2 ^ 31 := by omega
  have fin : ∀ z, z = cc_ex P (p * 8 + i) (b_cell (k * 4 + cc_S P (p * 8 + i))) (b_cell (k * 4 + cc_T P (p * 8 + i))) → vp_in (nI (k * 4 + cc_D P (p * 8 + i))) 64 ∧ ∀ ce, ce = upd b_cell (nI (k * 4 + cc_D P (p * 8 + i))).toNatClampNeg z → ∀ w, w = nI x4 + 1 → wY_run_53 post md n w g_procs g_limit g_calls g_depth g_cur g_ok g_c0 g_c1 g_cb g_vn g_built g_chosen (nI k) g_outs g_entries b_len b_kind b_sd b_ss b_st b_sa b_sb b_fk b_f0 b_f1 b_fb b_fact b_factv b_reach b_vp b_vm b_vx b_vy b_sp (upd b_pc k (nI (i + 1))) b_sm ce b_outList b_entryList := by
    intro z ez
    refine And.intro iD (nm_e (nm_r (e' := nI (x4 + 1)) (nI_1 x4) ?_))
    rw [nI_clamp eD, ez]; exact h
  refine br_f (nI_ge (b := 1000) hx (by decide)) (And.intro hik (nm_r (e' := nI p) ((ix_c b_sp ek).trans e1) (And.intro hik (nm_r (e' := nI i) ((ix_c b_pc ek).trans e2) (nm_r (e' := nI (k * 4)) (ix_40 k) (And.intro (vp_in_nI hp (by decide)) ?_))))))
  rw [ix_c b_len (show p < 2 ^ 31 by omega), hL]
  refine br_t (nI_lt hi (by omega)) (nm_r (e' := nI (p * 8 + i)) (ix_8 p i) (And.intro him (nm_r (e' := b_kind (p * 8 + i)) (ix_c b_kind em) (And.intro him (nm_r (e' := b_sa (p * 8 + i)) (ix_c b_sa em) (And.intro him (nm_r (e' := nI (k * 4 + cc_D P (p * 8 + i))) (by rw [ix_c b_sd em, y.1, nI_add]) (And.intro him (And.intro (by rw [ix_c b_ss em, y.2.1, nI_add]; exact vp_in_nI (by omega) (by decide)) (nm_r (e' := b_cell (k * 4 + cc_S P (p * 8 + i))) (by rw [ix_c b_ss em, y.2.1, nI_add]; exact ix_c b_cell (by omega)) (And.intro him (And.intro (by rw [ix_c b_st em, y.2.2.1, nI_add]; exact vp_in_nI (by omega) (by decide)) (nm_r (e' := b_cell (k * 4 + cc_T P (p * 8 + i))) (by rw [ix_c b_st em, y.2.2.1, nI_add]; exact ix_c b_cell (by omega)) (And.intro hik (nm_r (e' := upd b_pc k (nI (i + 1))) (by rw [nI_1, nI_clamp ek]) ?_)))))))))))))))
  by_cases e4 : cc_K P (p * 8 + i) = 4
  · obtain ⟨z1, z2, z3⟩ := y.2.2.2.2.1 e4
    refine br_t (ky0.mpr e4) (And.intro him (fin _ ?_))
    rw [ix_c b_sb em, z2, z3]; unfold cc_ex; rw [if_pos e4]
  · have k3 : cc_K P (p * 8 + i) ≤ 3 := by omega
    obtain ⟨z1, z2⟩ := y.2.2.2.1 k3
    refine br_f (fun z => e4 (ky0.mp z)) (br_t (ky1.mpr k3) ?_)
    rw [z2]
    unfold cc_ex at fin
    rw [if_neg e4] at fin
    generalize cc_K P (p * 8 + i) = K at fin k3
    have k03 : K = 0 ∨ K = 1 ∨ K = 2 ∨ K = 3 := by omega
    rcases k03 with e | e | e | e
    · subst e; exact br_t rfl (fin _ rfl)
    · subst e; exact br_f (show ¬ (1 : Int32) = 0 by decide) (br_t rfl (fin _ rfl))
    · subst e; exact br_f (show ¬ (2 : Int32) = 0 by decide) (br_f (show ¬ (2 : Int32) = 1 by decide) (br_t rfl (fin _ rfl)))
    · subst e
      refine br_f (show ¬ (3 : Int32) = 0 by decide) (br_f (show ¬ (3 : Int32) = 1 by decide) (br_f (show ¬ (3 : Int32) = 2 by decide) (br_c (fun c => fin _ ?_) (fun c => fin _ ?_))))
      · exact (if_pos c).symm
      · exact (if_neg c).symm
theorem yr_S {post : Int32 → SY → Prop} {P : cc_Pg} (W : cc_wf P) {k p i x4 n : Nat} {md : Int32} (hx : x4 < 1000) (hk : k < 16) (hp : p < 6) (e1 : b_sp k = nI p) (e2 : b_pc k = nI i) (hL : b_len p = nI (cc_L P p)) (hi : i < cc_L P p) (y : cc_y1 P b_kind b_sd b_ss b_st b_sa b_sb (p * 8 + i) i) (k5 : cc_K P (p * 8 + i) = 5)
    (h1 : b_cell (k * 4 + cc_S P (p * 8 + i)) = cc_A P (p * 8 + i) → wY_run_53 post md n (nI (x4 + 1)) g_procs g_limit g_calls g_depth g_cur g_ok g_c0 g_c1 g_cb g_vn g_built g_chosen (nI k) g_outs g_entries b_len b_kind b_sd b_ss b_st b_sa b_sb b_fk b_f0 b_f1 b_fb b_fact b_factv b_reach b_vp b_vm b_vx b_vy b_sp (upd b_pc k (nI (cc_G P (p * 8 + i)))) b_sm b_cell b_outList b_entryList)
    (h0 : ¬ b_cell (k * 4 + cc_S P (p * 8 + i)) = cc_A P (p * 8 + i) → wY_run_53 post md n (nI (x4 + 1)) g_procs g_limit g_calls g_depth g_cur g_ok g_c0 g_c1 g_cb g_vn g_built g_chosen (nI k) g_outs g_entries b_len b_kind b_sd b_ss b_st b_sa b_sb b_fk b_f0 b_f1 b_fb b_fact b_factv b_reach b_vp b_vm b_vx b_vy b_sp (upd b_pc k (nI (i + 1))) b_sm b_cell b_outList b_entryList) :
    wY_run_53 post md (n + 1) (nI x4) g_procs g_limit g_calls g_depth g_cur g_ok g_c0 g_c1 g_cb g_vn g_built g_chosen (nI k) g_outs g_entries b_len b_kind b_sd b_ss b_st b_sa b_sb b_fk b_f0 b_f1 b_fb b_fact b_factv b_reach b_vp b_vm b_vx b_vy b_sp b_pc b_sm b_cell b_outList b_entryList := by
  obtain ⟨w1, w2, w3, w4, w5, w6⟩ := W.2.2.2 p i hp hi; obtain ⟨ky2, ky3, ky0, ky1, ky4⟩ := cc_ky (W.2.2.2 p i hp hi) y; have L8 := W.2.2.1 p hp; have ek : k < 2 ^ 31 := (by omega); have em : p * 8 + i < 2 ^ 31 := (by omega); have hik : vp_in (nI k) 16 := vp_in_nI hk (by decide); have him : vp_in (nI (p * 8 + i)) 48 := vp_in_nI (by omega) (by decide)
  obtain ⟨z1, z2, z3⟩ := y.2.2.2.2.2.1 k5
  obtain ⟨G1, G2, G3⟩ := w6 k5
  refine br_f (nI_ge (b := 1000) hx (by decide)) (And.intro hik (nm_r (e' := nI p) ((ix_c b_sp ek).trans e1) (And.intro hik (nm_r (e' := nI i) ((ix_c b_pc ek).trans e2) (nm_r (e' := nI (k * 4)) (ix_40 k) (And.intro (vp_in_nI hp (by decide)) ?_))))))
  rw [ix_c b_len (show p < 2 ^ 31 by omega), hL]
  refine br_t (nI_lt hi (by omega)) (nm_r (e' := nI (p * 8 + i)) (ix_8 p i) (And.intro him (nm_r (e' := b_kind (p * 8 + i)) (ix_c b_kind em) (And.intro him (nm_r (e' := b_sa (p * 8 + i)) (ix_c b_sa em) (And.intro him (nm_r (e' := nI (k * 4 + cc_D P (p * 8 + i))) (by rw [ix_c b_sd em, y.1, nI_add]) (And.intro him (And.intro (by rw [ix_c b_ss em, y.2.1, nI_add]; exact vp_in_nI (by omega) (by decide)) (nm_r (e' := b_cell (k * 4 + cc_S P (p * 8 + i))) (by rw [ix_c b_ss em, y.2.1, nI_add]; exact ix_c b_cell (by omega)) (And.intro him (And.intro (by rw [ix_c b_st em, y.2.2.1, nI_add]; exact vp_in_nI (by omega) (by decide)) (nm_r (e' := b_cell (k * 4 + cc_T P (p * 8 + i))) (by rw [ix_c b_st em, y.2.2.1, nI_add]; exact ix_c b_cell (by omega)) (And.intro hik (nm_r (e' := upd b_pc k (nI (i + 1))) (by rw [nI_1, nI_clamp ek]) ?_)))))))))))))))
  refine br_f (fun z => by have := ky0.mp z; omega) (br_f (fun z => by have := ky1.mp z; omega) (br_t (ky2.mpr k5) ?_))
  rw [z2]
  refine br_c (fun c => And.intro him (And.intro hik (nm_r (e' := upd b_pc k (nI (cc_G P (p * 8 + i)))) ?_ (nm_r (e' := nI (x4 + 1)) (nI_1 x4) (h1 c))))) (fun c => nm_r (e' := nI (x4 + 1)) (nI_1 x4) (h0 c))
  rw [ix_c b_sb em, z3, nI_1, nI_add, nI_clamp ek, cc_uu]
  congr 2
  omega
theorem yr_O {post : Int32 → SY → Prop} {P : cc_Pg} (W : cc_wf P) {k p i x4 n : Nat} {md : Int32} (hx : x4 < 1000) (hk : k < 16) (hp : p < 6) (e1 : b_sp k = nI p) (e2 : b_pc k = nI i) (hL : b_len p = nI (cc_L P p)) (hi : i < cc_L P p) (y : cc_y1 P b_kind b_sd b_ss b_st b_sa b_sb (p * 8 + i) i) {oc : Nat} (ho : oc ≤ 16) (k7 : cc_K P (p * 8 + i) = 7)
    (h1 : oc < 16 → wY_run_53 post md n (nI (x4 + 1)) g_procs g_limit g_calls g_depth g_cur g_ok g_c0 g_c1 g_cb g_vn g_built g_chosen (nI k) (nI (oc + 1)) g_entries b_len b_kind b_sd b_ss b_st b_sa b_sb b_fk b_f0 b_f1 b_fb b_fact b_factv b_reach b_vp b_vm b_vx b_vy b_sp (upd b_pc k (nI (i + 1))) b_sm b_cell (upd b_outList oc (b_cell (k * 4 + cc_S P (p * 8 + i)))) b_entryList)
    (h0 : ¬ oc < 16 → post 3 (g_procs, g_limit, g_calls, g_depth, g_cur, g_ok, g_c0, g_c1, g_cb, g_vn, g_built, g_chosen, (nI k), (nI oc), g_entries, b_len, b_kind, b_sd, b_ss, b_st, b_sa, b_sb, b_fk, b_f0, b_f1, b_fb, b_fact, b_factv, b_reach, b_vp, b_vm, b_vx, b_vy, b_sp, (upd b_pc k (nI (i + 1))), b_sm, b_cell, b_outList, b_entryList)) :
    wY_run_53 post md (n + 1) (nI x4) g_procs g_limit g_calls g_depth g_cur g_ok g_c0 g_c1 g_cb g_vn g_built g_chosen (nI k) (nI oc) g_entries b_len b_kind b_sd b_ss b_st b_sa b_sb b_fk b_f0 b_f1 b_fb b_fact b_factv b_reach b_vp b_vm b_vx b_vy b_sp b_pc b_sm b_cell b_outList b_entryList := by
  obtain ⟨w1, w2, w3, w4, w5, w6⟩ := W.2.2.2 p i hp hi; obtain ⟨ky2, ky3, ky0, ky1, ky4⟩ := cc_ky (W.2.2.2 p i hp hi) y; have L8 := W.2.2.1 p hp; have ek : k < 2 ^ 31 := (by omega); have em : p * 8 + i < 2 ^ 31 := (by omega); have hik : vp_in (nI k) 16 := vp_in_nI hk (by decide); have him : vp_in (nI (p * 8 + i)) 48 := vp_in_nI (by omega) (by decide)
  refine br_f (nI_ge (b := 1000) hx (by decide)) (And.intro hik (nm_r (e' := nI p) ((ix_c b_sp ek).trans e1) (And.intro hik (nm_r (e' := nI i) ((ix_c b_pc ek).trans e2) (nm_r (e' := nI (k * 4)) (ix_40 k) (And.intro (vp_in_nI hp (by decide)) ?_))))))
  rw [ix_c b_len (show p < 2 ^ 31 by omega), hL]
  refine br_t (nI_lt hi (by omega)) (nm_r (e' := nI (p * 8 + i)) (ix_8 p i) (And.intro him (nm_r (e' := b_kind (p * 8 + i)) (ix_c b_kind em) (And.intro him (nm_r (e' := b_sa (p * 8 + i)) (ix_c b_sa em) (And.intro him (nm_r (e' := nI (k * 4 + cc_D P (p * 8 + i))) (by rw [ix_c b_sd em, y.1, nI_add]) (And.intro him (And.intro (by rw [ix_c b_ss em, y.2.1, nI_add]; exact vp_in_nI (by omega) (by decide)) (nm_r (e' := b_cell (k * 4 + cc_S P (p * 8 + i))) (by rw [ix_c b_ss em, y.2.1, nI_add]; exact ix_c b_cell (by omega)) (And.intro him (And.intro (by rw [ix_c b_st em, y.2.2.1, nI_add]; exact vp_in_nI (by omega) (by decide)) (nm_r (e' := b_cell (k * 4 + cc_T P (p * 8 + i))) (by rw [ix_c b_st em, y.2.2.1, nI_add]; exact ix_c b_cell (by omega)) (And.intro hik (nm_r (e' := upd b_pc k (nI (i + 1))) (by rw [nI_1, nI_clamp ek]) ?_)))))))))))))))
  refine br_f (fun z => by have := ky0.mp z; omega) (br_f (fun z => by have := ky1.mp z; omega) (br_f (fun z => by have := ky2.mp z; omega) (br_t (ky4.mpr k7) ?_)))
  by_cases c : oc < 16
  · refine br_t (nI_lt c (by decide)) (And.intro (vp_in_nI c (by decide)) (nm_e (nm_r (e' := nI (oc + 1)) (nI_1 oc) (nm_r (e' := nI (x4 + 1)) (nI_1 x4) ?_))))
    rw [nI_clamp (show oc < 2 ^ 31 by omega)]
    exact h1 c
  · exact br_f (nI_nlt (b := 16) (by omega) (by omega)) (h0 c)
theorem yr_C {post : Int32 → SY → Prop} {P : cc_Pg} (W : cc_wf P) {k p i x4 n : Nat} {md : Int32} (hx : x4 < 1000) (hk : k < 16) (hp : p < 6) (e1 : b_sp k = nI p) (e2 : b_pc k = nI i) (hL : b_len p = nI (cc_L P p)) (hi : i < cc_L P p) (y : cc_y1 P b_kind b_sd b_ss b_st b_sa b_sb (p * 8 + i) i) {ec cal dep : Nat} {cx : cc_Cx} (hec : ec ≤ 64) (hcal : cal ≤ 64) (hdep : dep ≤ 16) (k6 : cc_K P (p * 8 + i) = 6)
    (hm1 : md = 1 → ∀ R : Int32 → Prop, R (cc_cm cx) → wpY_into R (g_procs, g_limit, (nI cal), (nI dep), g_cur, g_ok, g_c0, g_c1, g_cb, g_vn, g_built, g_chosen, (nI k), g_outs, (nI ec), b_len, b_kind, b_sd, b_ss, b_st, b_sa, b_sb, b_fk, b_f0, b_f1, b_fb, b_fact, b_factv, b_reach, b_vp, b_vm, b_vx, b_vy, b_sp, (upd b_pc k (nI (i + 1))), b_sm, b_cell, b_outList, b_entryList) (nI (p * 8 + i)) (b_sm k) g_chosen) (hm0 : ¬ md = 1 → cc_cm cx = 0)
    (h1 : ec < cal → k + 1 < dep → wY_run_53 post md n (nI (x4 + 1)) g_procs g_limit (nI cal) (nI dep) g_cur g_ok g_c0 g_c1 g_cb g_vn g_built g_chosen (nI (k + 1)) g_outs (nI (ec + 1)) b_len b_kind b_sd b_ss b_st b_sa b_sb b_fk b_f0 b_f1 b_fb b_fact b_factv b_reach b_vp b_vm b_vx b_vy (upd b_sp (k + 1) (nI (cc_Q P (p * 8 + i)))) (upd (upd b_pc k (nI (i + 1))) (k + 1) 0) (upd b_sm (k + 1) (cc_cm cx)) (cc_p4 b_cell (k + 1) (b_cell (k * 4 + cc_S P (p * 8 + i))) (b_cell (k * 4 + cc_T P (p * 8 + i)))) b_outList (cc_e4 b_entryList ec (nI (cc_Q P (p * 8 + i))) (b_cell (k * 4 + cc_S P (p * 8 + i))) (b_cell (k * 4 + cc_T P (p * 8 + i))) (cc_cm cx)))
    (h2 : ec < cal → ¬ k + 1 < dep → post 2 (g_procs, g_limit, (nI cal), (nI dep), g_cur, g_ok, g_c0, g_c1, g_cb, g_vn, g_built, g_chosen, (nI k), g_outs, (nI ec), b_len, b_kind, b_sd, b_ss, b_st, b_sa, b_sb, b_fk, b_f0, b_f1, b_fb, b_fact, b_factv, b_reach, b_vp, b_vm, b_vx, b_vy, b_sp, (upd b_pc k (nI (i + 1))), b_sm, b_cell, b_outList, b_entryList))
    (h3 : ¬ ec < cal → post 1 (g_procs, g_limit, (nI cal), (nI dep), g_cur, g_ok, g_c0, g_c1, g_cb, g_vn, g_built, g_chosen, (nI k), g_outs, (nI ec), b_len, b_kind, b_sd, b_ss, b_st, b_sa, b_sb, b_fk, b_f0, b_f1, b_fb, b_fact, b_factv, b_reach, b_vp, b_vm, b_vx, b_vy, b_sp, (upd b_pc k (nI (i + 1))), b_sm, b_cell, b_outList, b_entryList)) :
    wY_run_53 post md (n + 1) (nI x4) g_procs g_limit (nI cal) (nI dep) g_cur g_ok g_c0 g_c1 g_cb g_vn g_built g_chosen (nI k) g_outs (nI ec) b_len b_kind b_sd b_ss b_st b_sa b_sb b_fk b_f0 b_f1 b_fb b_fact b_factv b_reach b_vp b_vm b_vx b_vy b_sp b_pc b_sm b_cell b_outList b_entryList := by
  obtain ⟨w1, w2, w3, w4, w5, w6⟩ := W.2.2.2 p i hp hi; obtain ⟨ky2, ky3, ky0, ky1, ky4⟩ := cc_ky (W.2.2.2 p i hp hi) y; have L8 := W.2.2.1 p hp; have ek : k < 2 ^ 31 := (by omega); have em : p * 8 + i < 2 ^ 31 := (by omega); have hik : vp_in (nI k) 16 := vp_in_nI hk (by decide); have him : vp_in (nI (p * 8 + i)) 48 := vp_in_nI (by omega) (by decide)
  obtain ⟨z1, z2⟩ := y.2.2.2.2.2.2.1 k6
  obtain ⟨hQ, hA⟩ := w5 k6
  refine br_f (nI_ge (b := 1000) hx (by decide)) (And.intro hik (nm_r (e' := nI p) ((ix_c b_sp ek).trans e1) (And.intro hik (nm_r (e' := nI i) ((ix_c b_pc ek).trans e2) (nm_r (e' := nI (k * 4)) (ix_40 k) (And.intro (vp_in_nI hp (by decide)) ?_))))))
  rw [ix_c b_len (show p < 2 ^ 31 by omega), hL]
  refine br_t (nI_lt hi (by omega)) (nm_r (e' := nI (p * 8 + i)) (ix_8 p i) (And.intro him (nm_r (e' := b_kind (p * 8 + i)) (ix_c b_kind em) (And.intro him (nm_r (e' := b_sa (p * 8 + i)) (ix_c b_sa em) (And.intro him (nm_r (e' := nI (k * 4 + cc_D P (p * 8 + i))) (by rw [ix_c b_sd em, y.1, nI_add]) (And.intro him (And.intro (by rw [ix_c b_ss em, y.2.1, nI_add]; exact vp_in_nI (by omega) (by decide)) (nm_r (e' := b_cell (k * 4 + cc_S P (p * 8 + i))) (by rw [ix_c b_ss em, y.2.1, nI_add]; exact ix_c b_cell (by omega)) (And.intro him (And.intro (by rw [ix_c b_st em, y.2.2.1, nI_add]; exact vp_in_nI (by omega) (by decide)) (nm_r (e' := b_cell (k * 4 + cc_T P (p * 8 + i))) (by rw [ix_c b_st em, y.2.2.1, nI_add]; exact ix_c b_cell (by omega)) (And.intro hik (nm_r (e' := upd b_pc k (nI (i + 1))) (by rw [nI_1, nI_clamp ek]) ?_)))))))))))))))
  refine br_f (fun z => by have := ky0.mp z; omega) (br_f (fun z => by have := ky1.mp z; omega) (br_f (fun z => by have := ky2.mp z; omega) (br_f (fun z => by have := ky4.mp z; omega) ?_)))
  by_cases c : ec < cal
  · refine br_t (nI_lt c (by omega)) ?_
    by_cases d : k + 1 < dep
    · refine br_t (by rw [nI_1]; exact nI_lt d (by omega)) ?_
      rw [z2, hA]
      have f498 : wY_run_498 post (wY_run_53 post md n) md (nI x4) (nI (cc_Q P (p * 8 + i))) (b_cell (k * 4 + cc_S P (p * 8 + i))) (b_cell (k * 4 + cc_T P (p * 8 + i))) (cc_cm cx) g_procs g_limit (nI cal) (nI dep) g_cur g_ok g_c0 g_c1 g_cb g_vn g_built g_chosen (nI k) g_outs (nI ec) b_len b_kind b_sd b_ss b_st b_sa b_sb b_fk b_f0 b_f1 b_fb b_fact b_factv b_reach b_vp b_vm b_vx b_vy b_sp (upd b_pc k (nI (i + 1))) b_sm b_cell b_outList b_entryList :=
        yw_enter (k := k + 1) (nI_1 k) (by omega) (by omega) (nm_r (e' := nI (x4 + 1)) (nI_1 x4) (h1 c d))
      by_cases m1 : md = 1
      · refine br_t m1 (And.intro hik ?_)
        rw [ix_c b_sm ek]
        exact hm1 m1 _ f498
      · rw [hm0 m1] at f498
        exact br_f m1 f498
    · exact br_f (by rw [nI_1]; exact nI_nlt (by omega) (by omega)) (h2 c d)
  · exact br_f (nI_nlt (by omega) (by omega)) (h3 c)
theorem yr_L0 {post : Int32 → SY → Prop} {P : cc_Pg} {p i x4 n : Nat} {md : Int32} (hx : x4 < 1000) (hp : p < 6) (e1 : b_sp 0 = nI p) (e2 : b_pc 0 = nI i) (hL : b_len p = nI (cc_L P p)) (hi : cc_L P p ≤ i) (hi16 : i ≤ 16)
    (h : post 0 (g_procs, g_limit, g_calls, g_depth, g_cur, g_ok, g_c0, g_c1, g_cb, g_vn, g_built, g_chosen, (-1), g_outs, g_entries, b_len, b_kind, b_sd, b_ss, b_st, b_sa, b_sb, b_fk, b_f0, b_f1, b_fb, b_fact, b_factv, b_reach, b_vp, b_vm, b_vx, b_vy, b_sp, b_pc, b_sm, b_cell, b_outList, b_entryList)) : wY_run_53 post md (n + 1) (nI x4) g_procs g_limit g_calls g_depth g_cur g_ok g_c0 g_c1 g_cb g_vn g_built g_chosen (nI 0) g_outs g_entries b_len b_kind b_sd b_ss b_st b_sa b_sb b_fk b_f0 b_f1 b_fb b_fact b_factv b_reach b_vp b_vm b_vx b_vy b_sp b_pc b_sm b_cell b_outList b_entryList := by
  have ek : 0 < 2 ^ 31 := by omega
  have hik : vp_in (nI 0) 16 := vp_in_nI (by omega) (by decide)
  refine br_f (nI_ge (b := 1000) hx (by decide)) (And.intro hik (nm_r (e' := nI p) ((ix_c b_sp ek).trans e1) (And.intro hik (nm_r (e' := nI i) ((ix_c b_pc ek).trans e2) (nm_e (And.intro (vp_in_nI hp (by decide)) ?_))))))
  rw [ix_c b_len (show p < 2 ^ 31 by omega), hL]
  exact br_f (nI_nlt hi (by omega)) (nm_r (e' := -1) (by decide) (br_f (by decide) h))
theorem yr_L1 {post : Int32 → SY → Prop} {P : cc_Pg} {k p i q j D x4 n : Nat} {md : Int32} (hx : x4 < 1000) (hk : k + 1 < 16) (hp : p < 6) (e1 : b_sp (k + 1) = nI p) (e2 : b_pc (k + 1) = nI i) (hL : b_len p = nI (cc_L P p)) (hi : cc_L P p ≤ i) (hi16 : i ≤ 16)
    (hq : q < 6) (hj : j < 8) (e3 : b_sp k = nI q) (e4 : b_pc k = nI (j + 1)) (e5 : b_sd (q * 8 + j) = nI D) (hD : D < 4)
    (h : wY_run_53 post md n (nI (x4 + 1)) g_procs g_limit g_calls g_depth g_cur g_ok g_c0 g_c1 g_cb g_vn g_built g_chosen (nI k) g_outs g_entries b_len b_kind b_sd b_ss b_st b_sa b_sb b_fk b_f0 b_f1 b_fb b_fact b_factv b_reach b_vp b_vm b_vx b_vy b_sp b_pc b_sm (upd b_cell (k * 4 + D) (b_cell ((k + 1) * 4 + 3))) b_outList b_entryList) : wY_run_53 post md (n + 1) (nI x4) g_procs g_limit g_calls g_depth g_cur g_ok g_c0 g_c1 g_cb g_vn g_built g_chosen (nI (k + 1)) g_outs g_entries b_len b_kind b_sd b_ss b_st b_sa b_sb b_fk b_f0 b_f1 b_fb b_fact b_factv b_reach b_vp b_vm b_vx b_vy b_sp b_pc b_sm b_cell b_outList b_entryList := by
  have ek : k + 1 < 2 ^ 31 := by omega
  have ek' : k < 2 ^ 31 := by omega
  have em : q * 8 + j < 2 ^ 31 := by omega
  have hik : vp_in (nI (k + 1)) 16 := vp_in_nI hk (by decide)
  have hik' : vp_in (nI k) 16 := vp_in_nI (by omega) (by decide)
  have i3 : nI ((k + 1) * 4) + 3 = nI ((k + 1) * 4 + 3) := ix_53 _
  have iD : nI k * 4 + b_sd (nI (q * 8 + j)).toNatClampNeg = nI (k * 4 + D) := by rw [ix_c b_sd em, e5, ix_4]
  refine br_f (nI_ge (b := 1000) hx (by decide)) (And.intro hik (nm_r (e' := nI p) ((ix_c b_sp ek).trans e1) (And.intro hik (nm_r (e' := nI i) ((ix_c b_pc ek).trans e2) (nm_r (e' := nI ((k + 1) * 4)) (ix_40 (k + 1)) (And.intro (vp_in_nI hp (by decide)) ?_))))))
  rw [ix_c b_len (show p < 2 ^ 31 by omega), hL]
  refine br_f (nI_nlt hi (by omega)) (nm_r (e' := nI k) (nI_pred k) (br_t (nI_pos' ek') (And.intro hik' (And.intro hik' (nm_r (e' := nI (q * 8 + j)) ?_ (And.intro (vp_in_nI (by omega) (by decide)) ?_))))))
  · rw [ix_c b_sp ek', ix_c b_pc ek', e3, e4, ix_8, ← Nat.add_assoc, nI_pred]
  · rw [i3, iD]
    refine And.intro (vp_in_nI (by omega) (by decide)) (And.intro (vp_in_nI (by omega) (by decide)) (nm_e (nm_r (e' := nI (x4 + 1)) (nI_1 x4) ?_)))
    rw [nI_clamp (show k * 4 + D < 2 ^ 31 by omega), nI_clamp (show (k + 1) * 4 + 3 < 2 ^ 31 by omega)]
    exact h
end
end
section
/-! the run: what stays alike -/
def cc_LR (oc ec : Nat) (ou ep ex ey em ol el : Nat → Int32) : Prop := (∀ j, j < oc → ol j = ou j) ∧ ∀ j, j < ec → el (j * 4) = ep j ∧ el (j * 4 + 1) = ex j ∧ el (j * 4 + 2) = ey j ∧ el (j * 4 + 3) = em j
theorem cc_LR_o {oc ec : Nat} {ou ep ex ey em ol el : Nat → Int32} {z : Int32} (h : cc_LR oc ec ou ep ex ey em ol el) : cc_LR (oc + 1) ec (upd ou oc z) ep ex ey em (upd ol oc z) el := by
  refine ⟨fun j hj => ?_, h.2⟩
  by_cases e : j = oc
  · subst e; exact pk_us.trans pk_us.symm
  · rw [pk_un e, pk_un e]; exact h.1 j (by omega)
theorem cc_LR_e {oc ec : Nat} {ou ep ex ey em ol el : Nat → Int32} {p x y m : Int32} (h : cc_LR oc ec ou ep ex ey em ol el) : cc_LR oc (ec + 1) ou (upd ep ec p) (upd ex ec x) (upd ey ec y) (upd em ec m) ol (cc_e4 el ec p x y m) := by
  refine ⟨h.1, fun j hj => ?_⟩
  unfold cc_e4
  by_cases e : j = ec
  · subst e
    refine ⟨?_, ?_, ?_, pk_us.trans pk_us.symm⟩
    · rw [pk_un (by omega), pk_un (by omega), pk_un (by omega)]; exact pk_us.trans pk_us.symm
    · rw [pk_un (by omega), pk_un (by omega)]; exact pk_us.trans pk_us.symm
    · rw [pk_un (by omega)]; exact pk_us.trans pk_us.symm
  · obtain ⟨a, b, c, d⟩ := h.2 j (by omega)
    rw [pk_un e, pk_un e, pk_un e, pk_un e]
    refine ⟨?_, ?_, ?_, ?_⟩
    · rw [pk_un (by omega), pk_un (by omega), pk_un (by omega), pk_un (by omega)]; exact a
    · rw [pk_un (by omega), pk_un (by omega), pk_un (by omega), pk_un (by omega)]; exact b
    · rw [pk_un (by omega), pk_un (by omega), pk_un (by omega), pk_un (by omega)]; exact c
    · rw [pk_un (by omega), pk_un (by omega), pk_un (by omega), pk_un (by omega)]; exact d
section
variable {f_LIN f_SKIP f_CALL f_OUT f_JUMP f_RUNNING f_FIRST_VERSION f_MAX_VERSIONS f_procedures f_length f_calls f_depth f_openProc f_analysed f_built f_builtCount f_builtTotal f_workTop f_ctxMask f_ctxX f_ctxY f_argMask f_argX f_argY f_candCount f_candTotal f_overflow f_frames f_outCount f_entryCount : Int32} {a_kind a_d a_s a_t a_a a_b a_unitLen a_unitProc a_unitMask a_unitX a_unitY a_unitSize a_splitNow a_callSites a_opaque a_form0 a_form1 a_formB a_met a_fact a_factValue a_work a_waiting a_trial a_candProc a_candMask a_candX a_candY a_candSize a_place a_frameUnit a_framePc a_vars a_outputs a_entryProc a_entryX a_entryY a_entryMask : Nat → Int32}
variable {g_procs g_limit g_calls g_depth g_cur g_ok g_c0 g_c1 g_cb g_vn g_built g_chosen g_top g_outs g_entries : Int32} {b_len b_kind b_sd b_ss b_st b_sa b_sb b_fk b_f0 b_f1 b_fb b_fact b_factv b_reach b_vp b_vm b_vx b_vy b_sp b_pc b_sm b_cell b_outList b_entryList : Nat → Int32}
theorem st_A {P : cc_Pg} (W : cc_wf P) {cal dep oc ec M : Nat} {md : Int32} {k p i : Nat} (hp : p < 6) (hL : b_len p = nI (cc_L P p)) (hi : i < cc_L P p) (y : cc_y1 P b_kind b_sd b_ss b_st b_sa b_sb (p * 8 + i) i) {fu fp va ou ep ex ey em sp pc sm ce ol el : Nat → Int32} (e1 : sp k = nI p) (e2 : pc k = nI i) {u pcx ln S T : Nat} (H : cc_xh k u pcx ln S T fu fp a_unitLen a_s a_t) (eD : a_d (u * 8 + pcx) = nI (cc_D P (p * 8 + i))) (k4 : cc_K P (p * 8 + i) ≤ 4) {z : Int32} (hz : z = cc_ex P (p * 8 + i) (ce (k * 4 + cc_S P (p * 8 + i))) (ce (k * 4 + cc_T P (p * 8 + i))))
    (hx : (a_kind (u * 8 + pcx) = 4 ∧ a_a (u * 8 + pcx) * va (k * 4 + S) + a_b (u * 8 + pcx) = z) ∨ ∃ K, K ≤ 3 ∧ a_kind (u * 8 + pcx) = nI K ∧ cc_op K (va (k * 4 + S)) (va (k * 4 + T)) = z)
    (O : ∃ (r fr' : Int32) (oc' ec' : Nat) (fu' fp' va' ou' ep' ex' ey' em' : Nat → Int32) (tp' : Int32) (sp' pc' sm' ce' ol' el' : Nat → Int32), oc' ≤ 16 ∧ ec' ≤ 64 ∧ cc_LR oc' ec' ou' ep' ex' ey' em' ol' el' ∧ (∀ (post : Int32 → SX → Prop) (nn x5 : Nat), M < nn → x5 + M ≤ 639 → post r (f_LIN, f_SKIP, f_CALL, f_OUT, f_JUMP, f_RUNNING, f_FIRST_VERSION, f_MAX_VERSIONS, f_procedures, f_length, (nI cal), (nI dep), f_openProc, f_analysed, f_built, f_builtCount, f_builtTotal, f_workTop, f_ctxMask, f_ctxX, f_ctxY, f_argMask, f_argX, f_argY, f_candCount, f_candTotal, f_overflow, fr', (nI oc'), (nI ec'), a_kind, a_d, a_s, a_t, a_a, a_b, a_unitLen, a_unitProc, a_unitMask, a_unitX, a_unitY, a_unitSize, a_splitNow, a_callSites, a_opaque, a_form0, a_form1, a_formB, a_met, a_fact, a_factValue, a_work, a_waiting, a_trial, a_candProc, a_candMask, a_candX, a_candY, a_candSize, a_place, fu', fp', va', ou', ep', ex', ey', em') → wX_run_64 post nn (-1) (nI x5) f_LIN f_SKIP f_CALL f_OUT f_JUMP f_RUNNING f_FIRST_VERSION f_MAX_VERSIONS f_procedures f_length (nI cal) (nI dep) f_openProc f_analysed f_built f_builtCount f_builtTotal f_workTop f_ctxMask f_ctxX f_ctxY f_argMask f_argX f_argY f_candCount f_candTotal f_overflow (nI (k + 1)) (nI oc) (nI ec) a_kind a_d a_s a_t a_a a_b a_unitLen a_unitProc a_unitMask a_unitX a_unitY a_unitSize a_splitNow a_callSites a_opaque a_form0 a_form1 a_formB a_met a_fact a_factValue a_work a_waiting a_trial a_candProc a_candMask a_candX a_candY a_candSize a_place fu (upd fp k (nI (pcx + 1))) (upd va (k * 4 + cc_D P (p * 8 + i)) z) ou ep ex ey em) ∧ (∀ (post : Int32 → SY → Prop) (nn x4 : Nat), M < nn → x4 + M ≤ 999 → post r (g_procs, g_limit, (nI cal), (nI dep), g_cur, g_ok, g_c0, g_c1, g_cb, g_vn, g_built, g_chosen, tp', (nI oc'), (nI ec'), b_len, b_kind, b_sd, b_ss, b_st, b_sa, b_sb, b_fk, b_f0, b_f1, b_fb, b_fact, b_factv, b_reach, b_vp, b_vm, b_vx, b_vy, sp', pc', sm', ce', ol', el') → wY_run_53 post md nn (nI x4) g_procs g_limit (nI cal) (nI dep) g_cur g_ok g_c0 g_c1 g_cb g_vn g_built g_chosen (nI k) (nI oc) (nI ec) b_len b_kind b_sd b_ss b_st b_sa b_sb b_fk b_f0 b_f1 b_fb b_fact b_factv b_reach b_vp b_vm b_vx b_vy sp (upd pc k (nI (i + 1))) sm (upd ce (k * 4 + cc_D P (p * 8 + i)) z) ol el)) :
    ∃ (r fr' : Int32) (oc' ec' : Nat) (fu' fp' va' ou' ep' ex' ey' em' : Nat → Int32) (tp' : Int32) (sp' pc' sm' ce' ol' el' : Nat → Int32), oc' ≤ 16 ∧ ec' ≤ 64 ∧ cc_LR oc' ec' ou' ep' ex' ey' em' ol' el' ∧ (∀ (post : Int32 → SX → Prop) (nn x5 : Nat), (M + 1) < nn → x5 + (M + 1) ≤ 639 → post r (f_LIN, f_SKIP, f_CALL, f_OUT, f_JUMP, f_RUNNING, f_FIRST_VERSION, f_MAX_VERSIONS, f_procedures, f_length, (nI cal), (nI dep), f_openProc, f_analysed, f_built, f_builtCount, f_builtTotal, f_workTop, f_ctxMask, f_ctxX, f_ctxY, f_argMask, f_argX, f_argY, f_candCount, f_candTotal, f_overflow, fr', (nI oc'), (nI ec'), a_kind, a_d, a_s, a_t, a_a, a_b, a_unitLen, a_unitProc, a_unitMask, a_unitX, a_unitY, a_unitSize, a_splitNow, a_callSites, a_opaque, a_form0, a_form1, a_formB, a_met, a_fact, a_factValue, a_work, a_waiting, a_trial, a_candProc, a_candMask, a_candX, a_candY, a_candSize, a_place, fu', fp', va', ou', ep', ex', ey', em') → wX_run_64 post nn (-1) (nI x5) f_LIN f_SKIP f_CALL f_OUT f_JUMP f_RUNNING f_FIRST_VERSION f_MAX_VERSIONS f_procedures f_length (nI cal) (nI dep) f_openProc f_analysed f_built f_builtCount f_builtTotal f_workTop f_ctxMask f_ctxX f_ctxY f_argMask f_argX f_argY f_candCount f_candTotal f_overflow (nI (k + 1)) (nI oc) (nI ec) a_kind a_d a_s a_t a_a a_b a_unitLen a_unitProc a_unitMask a_unitX a_unitY a_unitSize a_splitNow a_callSites a_opaque a_form0 a_form1 a_formB a_met a_fact a_factValue a_work a_waiting a_trial a_candProc a_candMask a_candX a_candY a_candSize a_place fu fp va ou ep ex ey em) ∧ (∀ (post : Int32 → SY → Prop) (nn x4 : Nat), (M + 1) < nn → x4 + (M + 1) ≤ 999 → post r (g_procs, g_limit, (nI cal), (nI dep), g_cur, g_ok, g_c0, g_c1, g_cb, g_vn, g_built, g_chosen, tp', (nI oc'), (nI ec'), b_len, b_kind, b_sd, b_ss, b_st, b_sa, b_sb, b_fk, b_f0, b_f1, b_fb, b_fact, b_factv, b_reach, b_vp, b_vm, b_vx, b_vy, sp', pc', sm', ce', ol', el') → wY_run_53 post md nn (nI x4) g_procs g_limit (nI cal) (nI dep) g_cur g_ok g_c0 g_c1 g_cb g_vn g_built g_chosen (nI k) (nI oc) (nI ec) b_len b_kind b_sd b_ss b_st b_sa b_sb b_fk b_f0 b_f1 b_fb b_fact b_factv b_reach b_vp b_vm b_vx b_vy sp pc sm ce ol el) := by
  obtain ⟨r, fr', oc', ec', fu', fp', va', ou', ep', ex', ey', em', tp', sp', pc', sm', ce', ol', el', q1, q2, q3, hX, hY⟩ := O
  have w2 := (W.2.2.2 p i hp hi).2.1
  refine ⟨r, fr', oc', ec', fu', fp', va', ou', ep', ex', ey', em', tp', sp', pc', sm', ce', ol', el', q1, q2, q3, fun post nn x5 kn kx kp => ?_, fun post nn x4 kn kx kp => ?_⟩
  · obtain ⟨nn, rfl⟩ : ∃ w, nn = w + 1 := ⟨nn - 1, by omega⟩
    refine xw_go (by omega) (xw_stepX H (xw_exA H.1 (by have := H.2.1; have := H.2.2.2.2.2.1; have := H.2.2.2.2.2.2.1; omega) rfl H.2.2.2.2.2.2.2.1 H.2.2.2.2.2.2.2.2.1 H.2.2.2.2.2.2.2.2.2.1 H.2.2.2.2.2.2.2.2.2.2 eD w2 ?_))
    have fin := hX post nn (x5 + 1) (by omega) (by omega) kp
    rcases hx with ⟨a, b⟩ | ⟨K, a, b, c⟩
    · left
      refine ⟨a, nm_r (e' := nI (x5 + 1)) (nI_1 x5) ?_⟩
      rw [b]; exact fin
    · right
      refine ⟨K, a, b, nm_r (e' := nI (x5 + 1)) (nI_1 x5) ?_⟩
      rw [c]; exact fin
  · obtain ⟨nn, rfl⟩ : ∃ w, nn = w + 1 := ⟨nn - 1, by omega⟩
    refine yr_A W (by omega) H.1 hp e1 e2 hL hi y k4 ?_
    rw [← hz]
    exact hY post nn (x4 + 1) (by omega) (by omega) kp
theorem st_D {P : cc_Pg} (W : cc_wf P) {cal dep oc ec M : Nat} {md : Int32} {k p i : Nat} (hp : p < 6) (hL : b_len p = nI (cc_L P p)) (hi : i < cc_L P p) (y : cc_y1 P b_kind b_sd b_ss b_st b_sa b_sb (p * 8 + i) i) {fu fp va ou ep ex ey em sp pc sm ce ol el : Nat → Int32} (e1 : sp k = nI p) (e2 : pc k = nI i) (hk : k < 16) (k5 : cc_K P (p * 8 + i) = 5) (hc : ¬ ce (k * 4 + cc_S P (p * 8 + i)) = cc_A P (p * 8 + i))
    (O : ∃ (r fr' : Int32) (oc' ec' : Nat) (fu' fp' va' ou' ep' ex' ey' em' : Nat → Int32) (tp' : Int32) (sp' pc' sm' ce' ol' el' : Nat → Int32), oc' ≤ 16 ∧ ec' ≤ 64 ∧ cc_LR oc' ec' ou' ep' ex' ey' em' ol' el' ∧ (∀ (post : Int32 → SX → Prop) (nn x5 : Nat), M < nn → x5 + M ≤ 639 → post r (f_LIN, f_SKIP, f_CALL, f_OUT, f_JUMP, f_RUNNING, f_FIRST_VERSION, f_MAX_VERSIONS, f_procedures, f_length, (nI cal), (nI dep), f_openProc, f_analysed, f_built, f_builtCount, f_builtTotal, f_workTop, f_ctxMask, f_ctxX, f_ctxY, f_argMask, f_argX, f_argY, f_candCount, f_candTotal, f_overflow, fr', (nI oc'), (nI ec'), a_kind, a_d, a_s, a_t, a_a, a_b, a_unitLen, a_unitProc, a_unitMask, a_unitX, a_unitY, a_unitSize, a_splitNow, a_callSites, a_opaque, a_form0, a_form1, a_formB, a_met, a_fact, a_factValue, a_work, a_waiting, a_trial, a_candProc, a_candMask, a_candX, a_candY, a_candSize, a_place, fu', fp', va', ou', ep', ex', ey', em') → wX_run_64 post nn (-1) (nI x5) f_LIN f_SKIP f_CALL f_OUT f_JUMP f_RUNNING f_FIRST_VERSION f_MAX_VERSIONS f_procedures f_length (nI cal) (nI dep) f_openProc f_analysed f_built f_builtCount f_builtTotal f_workTop f_ctxMask f_ctxX f_ctxY f_argMask f_argX f_argY f_candCount f_candTotal f_overflow (nI (k + 1)) (nI oc) (nI ec) a_kind a_d a_s a_t a_a a_b a_unitLen a_unitProc a_unitMask a_unitX a_unitY a_unitSize a_splitNow a_callSites a_opaque a_form0 a_form1 a_formB a_met a_fact a_factValue a_work a_waiting a_trial a_candProc a_candMask a_candX a_candY a_candSize a_place fu fp va ou ep ex ey em) ∧ (∀ (post : Int32 → SY → Prop) (nn x4 : Nat), M < nn → x4 + M ≤ 999 → post r (g_procs, g_limit, (nI cal), (nI dep), g_cur, g_ok, g_c0, g_c1, g_cb, g_vn, g_built, g_chosen, tp', (nI oc'), (nI ec'), b_len, b_kind, b_sd, b_ss, b_st, b_sa, b_sb, b_fk, b_f0, b_f1, b_fb, b_fact, b_factv, b_reach, b_vp, b_vm, b_vx, b_vy, sp', pc', sm', ce', ol', el') → wY_run_53 post md nn (nI x4) g_procs g_limit (nI cal) (nI dep) g_cur g_ok g_c0 g_c1 g_cb g_vn g_built g_chosen (nI k) (nI oc) (nI ec) b_len b_kind b_sd b_ss b_st b_sa b_sb b_fk b_f0 b_f1 b_fb b_fact b_factv b_reach b_vp b_vm b_vx b_vy sp (upd pc k (nI (i + 1))) sm ce ol el)) : ∃ (r fr' : Int32) (oc' ec' : Nat) (fu' fp' va' ou' ep' ex' ey' em' : Nat → Int32) (tp' : Int32) (sp' pc' sm' ce' ol' el' : Nat → Int32), oc' ≤ 16 ∧ ec' ≤ 64 ∧ cc_LR oc' ec' ou' ep' ex' ey' em' ol' el' ∧ (∀ (post : Int32 → SX → Prop) (nn x5 : Nat), (M + 1) < nn → x5 + (M + 1) ≤ 639 → post r (f_LIN, f_SKIP, f_CALL, f_OUT, f_JUMP, f_RUNNING, f_FIRST_VERSION, f_MAX_VERSIONS, f_procedures, f_length, (nI cal), (nI dep), f_openProc, f_analysed, f_built, f_builtCount, f_builtTotal, f_workTop, f_ctxMask, f_ctxX, f_ctxY, f_argMask, f_argX, f_argY, f_candCount, f_candTotal, f_overflow, fr', (nI oc'), (nI ec'), a_kind, a_d, a_s, a_t, a_a, a_b, a_unitLen, a_unitProc, a_unitMask, a_unitX, a_unitY, a_unitSize, a_splitNow, a_callSites, a_opaque, a_form0, a_form1, a_formB, a_met, a_fact, a_factValue, a_work, a_waiting, a_trial, a_candProc, a_candMask, a_candX, a_candY, a_candSize, a_place, fu', fp', va', ou', ep', ex', ey', em') → wX_run_64 post nn (-1) (nI x5) f_LIN f_SKIP f_CALL f_OUT f_JUMP f_RUNNING f_FIRST_VERSION f_MAX_VERSIONS f_procedures f_length (nI cal) (nI dep) f_openProc f_analysed f_built f_builtCount f_builtTotal f_workTop f_ctxMask f_ctxX f_ctxY f_argMask f_argX f_argY f_candCount f_candTotal f_overflow (nI (k + 1)) (nI oc) (nI ec) a_kind a_d a_s a_t a_a a_b a_unitLen a_unitProc a_unitMask a_unitX a_unitY a_unitSize a_splitNow a_callSites a_opaque a_form0 a_form1 a_formB a_met a_fact a_factValue a_work a_waiting a_trial a_candProc a_candMask a_candX a_candY a_candSize a_place fu fp va ou ep ex ey em) ∧ (∀ (post : Int32 → SY → Prop) (nn x4 : Nat), (M + 1) < nn → x4 + (M + 1) ≤ 999 → post r (g_procs, g_limit, (nI cal), (nI dep), g_cur, g_ok, g_c0, g_c1, g_cb, g_vn, g_built, g_chosen, tp', (nI oc'), (nI ec'), b_len, b_kind, b_sd, b_ss, b_st, b_sa, b_sb, b_fk, b_f0, b_f1, b_fb, b_fact, b_factv, b_reach, b_vp, b_vm, b_vx, b_vy, sp', pc', sm', ce', ol', el') → wY_run_53 post md nn (nI x4) g_procs g_limit (nI cal) (nI dep) g_cur g_ok g_c0 g_c1 g_cb g_vn g_built g_chosen (nI k) (nI oc) (nI ec) b_len b_kind b_sd b_ss b_st b_sa b_sb b_fk b_f0 b_f1 b_fb b_fact b_factv b_reach b_vp b_vm b_vx b_vy sp pc sm ce ol el) := by
  obtain ⟨r, fr', oc', ec', fu', fp', va', ou', ep', ex', ey', em', tp', sp', pc', sm', ce', ol', el', q1, q2, q3, hX, hY⟩ := O
  refine ⟨r, fr', oc', ec', fu', fp', va', ou', ep', ex', ey', em', tp', sp', pc', sm', ce', ol', el', q1, q2, q3, fun post nn x5 kn kx kp => ?_, fun post nn x4 kn kx kp => ?_⟩
  · exact hX post nn x5 (by omega) (by omega) kp
  · obtain ⟨nn, rfl⟩ : ∃ w, nn = w + 1 := ⟨nn - 1, by omega⟩
    exact yr_S W (by omega) hk hp e1 e2 hL hi y k5 (fun z => absurd z hc) (fun _ => hY post nn (x4 + 1) (by omega) (by omega) kp)
theorem st_S0 {P : cc_Pg} (W : cc_wf P) {cal dep oc ec M : Nat} {md : Int32} {k p i : Nat} (hp : p < 6) (hL : b_len p = nI (cc_L P p)) (hi : i < cc_L P p) (y : cc_y1 P b_kind b_sd b_ss b_st b_sa b_sb (p * 8 + i) i) {fu fp va ou ep ex ey em sp pc sm ce ol el : Nat → Int32} (e1 : sp k = nI p) (e2 : pc k = nI i) {u pcx ln S T : Nat} (H : cc_xh k u pcx ln S T fu fp a_unitLen a_s a_t) (k5 : cc_K P (p * 8 + i) = 5) (hc : ¬ ce (k * 4 + cc_S P (p * 8 + i)) = cc_A P (p * 8 + i)) (hx : a_kind (u * 8 + pcx) = 5) (hx2 : ¬ va (k * 4 + S) = a_a (u * 8 + pcx))
    (O : ∃ (r fr' : Int32) (oc' ec' : Nat) (fu' fp' va' ou' ep' ex' ey' em' : Nat → Int32) (tp' : Int32) (sp' pc' sm' ce' ol' el' : Nat → Int32), oc' ≤ 16 ∧ ec' ≤ 64 ∧ cc_LR oc' ec' ou' ep' ex' ey' em' ol' el' ∧ (∀ (post : Int32 → SX → Prop) (nn x5 : Nat), M < nn → x5 + M ≤ 639 → post r (f_LIN, f_SKIP, f_CALL, f_OUT, f_JUMP, f_RUNNING, f_FIRST_VERSION, f_MAX_VERSIONS, f_procedures, f_length, (nI cal), (nI dep), f_openProc, f_analysed, f_built, f_builtCount, f_builtTotal, f_workTop, f_ctxMask, f_ctxX, f_ctxY, f_argMask, f_argX, f_argY, f_candCount, f_candTotal, f_overflow, fr', (nI oc'), (nI ec'), a_kind, a_d, a_s, a_t, a_a, a_b, a_unitLen, a_unitProc, a_unitMask, a_unitX, a_unitY, a_unitSize, a_splitNow, a_callSites, a_opaque, a_form0, a_form1, a_formB, a_met, a_fact, a_factValue, a_work, a_waiting, a_trial, a_candProc, a_candMask, a_candX, a_candY, a_candSize, a_place, fu', fp', va', ou', ep', ex', ey', em') → wX_run_64 post nn (-1) (nI x5) f_LIN f_SKIP f_CALL f_OUT f_JUMP f_RUNNING f_FIRST_VERSION f_MAX_VERSIONS f_procedures f_length (nI cal) (nI dep) f_openProc f_analysed f_built f_builtCount f_builtTotal f_workTop f_ctxMask f_ctxX f_ctxY f_argMask f_argX f_argY f_candCount f_candTotal f_overflow (nI (k + 1)) (nI oc) (nI ec) a_kind a_d a_s a_t a_a a_b a_unitLen a_unitProc a_unitMask a_unitX a_unitY a_unitSize a_splitNow a_callSites a_opaque a_form0 a_form1 a_formB a_met a_fact a_factValue a_work a_waiting a_trial a_candProc a_candMask a_candX a_candY a_candSize a_place fu (upd fp k (nI (pcx + 1))) va ou ep ex ey em) ∧ (∀ (post : Int32 → SY → Prop) (nn x4 : Nat), M < nn → x4 + M ≤ 999 → post r (g_procs, g_limit, (nI cal), (nI dep), g_cur, g_ok, g_c0, g_c1, g_cb, g_vn, g_built, g_chosen, tp', (nI oc'), (nI ec'), b_len, b_kind, b_sd, b_ss, b_st, b_sa, b_sb, b_fk, b_f0, b_f1, b_fb, b_fact, b_factv, b_reach, b_vp, b_vm, b_vx, b_vy, sp', pc', sm', ce', ol', el') → wY_run_53 post md nn (nI x4) g_procs g_limit (nI cal) (nI dep) g_cur g_ok g_c0 g_c1 g_cb g_vn g_built g_chosen (nI k) (nI oc) (nI ec) b_len b_kind b_sd b_ss b_st b_sa b_sb b_fk b_f0 b_f1 b_fb b_fact b_factv b_reach b_vp b_vm b_vx b_vy sp (upd pc k (nI (i + 1))) sm ce ol el)) : ∃ (r fr' : Int32) (oc' ec' : Nat) (fu' fp' va' ou' ep' ex' ey' em' : Nat → Int32) (tp' : Int32) (sp' pc' sm' ce' ol' el' : Nat → Int32), oc' ≤ 16 ∧ ec' ≤ 64 ∧ cc_LR oc' ec' ou' ep' ex' ey' em' ol' el' ∧ (∀ (post : Int32 → SX → Prop) (nn x5 : Nat), (M + 1) < nn → x5 + (M + 1) ≤ 639 → post r (f_LIN, f_SKIP, f_CALL, f_OUT, f_JUMP, f_RUNNING, f_FIRST_VERSION, f_MAX_VERSIONS, f_procedures, f_length, (nI cal), (nI dep), f_openProc, f_analysed, f_built, f_builtCount, f_builtTotal, f_workTop, f_ctxMask, f_ctxX, f_ctxY, f_argMask, f_argX, f_argY, f_candCount, f_candTotal, f_overflow, fr', (nI oc'), (nI ec'), a_kind, a_d, a_s, a_t, a_a, a_b, a_unitLen, a_unitProc, a_unitMask, a_unitX, a_unitY, a_unitSize, a_splitNow, a_callSites, a_opaque, a_form0, a_form1, a_formB, a_met, a_fact, a_factValue, a_work, a_waiting, a_trial, a_candProc, a_candMask, a_candX, a_candY, a_candSize, a_place, fu', fp', va', ou', ep', ex', ey', em') → wX_run_64 post nn (-1) (nI x5) f_LIN f_SKIP f_CALL f_OUT f_JUMP f_RUNNING f_FIRST_VERSION f_MAX_VERSIONS f_procedures f_length (nI cal) (nI dep) f_openProc f_analysed f_built f_builtCount f_builtTotal f_workTop f_ctxMask f_ctxX f_ctxY f_argMask f_argX f_argY f_candCount f_candTotal f_overflow (nI (k + 1)) (nI oc) (nI ec) a_kind a_d a_s a_t a_a a_b a_unitLen a_unitProc a_unitMask a_unitX a_unitY a_unitSize a_splitNow a_callSites a_opaque a_form0 a_form1 a_formB a_met a_fact a_factValue a_work a_waiting a_trial a_candProc a_candMask a_candX a_candY a_candSize a_place fu fp va ou ep ex ey em) ∧ (∀ (post : Int32 → SY → Prop) (nn x4 : Nat), (M + 1) < nn → x4 + (M + 1) ≤ 999 → post r (g_procs, g_limit, (nI cal), (nI dep), g_cur, g_ok, g_c0, g_c1, g_cb, g_vn, g_built, g_chosen, tp', (nI oc'), (nI ec'), b_len, b_kind, b_sd, b_ss, b_st, b_sa, b_sb, b_fk, b_f0, b_f1, b_fb, b_fact, b_factv, b_reach, b_vp, b_vm, b_vx, b_vy, sp', pc', sm', ce', ol', el') → wY_run_53 post md nn (nI x4) g_procs g_limit (nI cal) (nI dep) g_cur g_ok g_c0 g_c1 g_cb g_vn g_built g_chosen (nI k) (nI oc) (nI ec) b_len b_kind b_sd b_ss b_st b_sa b_sb b_fk b_f0 b_f1 b_fb b_fact b_factv b_reach b_vp b_vm b_vx b_vy sp pc sm ce ol el) := by
  obtain ⟨r, fr', oc', ec', fu', fp', va', ou', ep', ex', ey', em', tp', sp', pc', sm', ce', ol', el', q1, q2, q3, hX, hY⟩ := O
  refine ⟨r, fr', oc', ec', fu', fp', va', ou', ep', ex', ey', em', tp', sp', pc', sm', ce', ol', el', q1, q2, q3, fun post nn x5 kn kx kp => ?_, fun post nn x4 kn kx kp => ?_⟩
  · obtain ⟨nn, rfl⟩ : ∃ w, nn = w + 1 := ⟨nn - 1, by omega⟩
    refine xw_go (by omega) (xw_stepX H (xw_exS H.1 (by have := H.2.1; have := H.2.2.2.2.2.1; have := H.2.2.2.2.2.2.1; omega) hx H.2.2.2.2.2.2.2.1 H.2.2.2.2.2.2.2.2.1 H.2.2.2.2.2.2.2.2.2.1 H.2.2.2.2.2.2.2.2.2.2 (Or.inl rfl) (fun z => ?_) (fun _ _ => nm_r (e' := nI (x5 + 1)) (nI_1 x5) (hX post nn (x5 + 1) (by omega) (by omega) kp))))
    rcases z with z | z
    · exact absurd z (by decide)
    · exact absurd z hx2
  · obtain ⟨nn, rfl⟩ : ∃ w, nn = w + 1 := ⟨nn - 1, by omega⟩
    exact yr_S W (by omega) H.1 hp e1 e2 hL hi y k5 (fun z => absurd z hc) (fun _ => hY post nn (x4 + 1) (by omega) (by omega) kp)
theorem st_S1 {P : cc_Pg} (W : cc_wf P) {cal dep oc ec M : Nat} {md : Int32} {k p i : Nat} (hp : p < 6) (hL : b_len p = nI (cc_L P p)) (hi : i < cc_L P p) (y : cc_y1 P b_kind b_sd b_ss b_st b_sa b_sb (p * 8 + i) i) {fu fp va ou ep ex ey em sp pc sm ce ol el : Nat → Int32} (e1 : sp k = nI p) (e2 : pc k = nI i) {u pcx ln S T : Nat} (H : cc_xh k u pcx ln S T fu fp a_unitLen a_s a_t) {g : Nat} (k5 : cc_K P (p * 8 + i) = 5) (hc : ce (k * 4 + cc_S P (p * 8 + i)) = cc_A P (p * 8 + i)) (hx : a_kind (u * 8 + pcx) = 5 ∧ va (k * 4 + S) = a_a (u * 8 + pcx) ∨ a_kind (u * 8 + pcx) = 8) (hb : a_b (u * 8 + pcx) = nI g)
    (O : ∃ (r fr' : Int32) (oc' ec' : Nat) (fu' fp' va' ou' ep' ex' ey' em' : Nat → Int32) (tp' : Int32) (sp' pc' sm' ce' ol' el' : Nat → Int32), oc' ≤ 16 ∧ ec' ≤ 64 ∧ cc_LR oc' ec' ou' ep' ex' ey' em' ol' el' ∧ (∀ (post : Int32 → SX → Prop) (nn x5 : Nat), M < nn → x5 + M ≤ 639 → post r (f_LIN, f_SKIP, f_CALL, f_OUT, f_JUMP, f_RUNNING, f_FIRST_VERSION, f_MAX_VERSIONS, f_procedures, f_length, (nI cal), (nI dep), f_openProc, f_analysed, f_built, f_builtCount, f_builtTotal, f_workTop, f_ctxMask, f_ctxX, f_ctxY, f_argMask, f_argX, f_argY, f_candCount, f_candTotal, f_overflow, fr', (nI oc'), (nI ec'), a_kind, a_d, a_s, a_t, a_a, a_b, a_unitLen, a_unitProc, a_unitMask, a_unitX, a_unitY, a_unitSize, a_splitNow, a_callSites, a_opaque, a_form0, a_form1, a_formB, a_met, a_fact, a_factValue, a_work, a_waiting, a_trial, a_candProc, a_candMask, a_candX, a_candY, a_candSize, a_place, fu', fp', va', ou', ep', ex', ey', em') → wX_run_64 post nn (-1) (nI x5) f_LIN f_SKIP f_CALL f_OUT f_JUMP f_RUNNING f_FIRST_VERSION f_MAX_VERSIONS f_procedures f_length (nI cal) (nI dep) f_openProc f_analysed f_built f_builtCount f_builtTotal f_workTop f_ctxMask f_ctxX f_ctxY f_argMask f_argX f_argY f_candCount f_candTotal f_overflow (nI (k + 1)) (nI oc) (nI ec) a_kind a_d a_s a_t a_a a_b a_unitLen a_unitProc a_unitMask a_unitX a_unitY a_unitSize a_splitNow a_callSites a_opaque a_form0 a_form1 a_formB a_met a_fact a_factValue a_work a_waiting a_trial a_candProc a_candMask a_candX a_candY a_candSize a_place fu (upd fp k (nI g)) va ou ep ex ey em) ∧ (∀ (post : Int32 → SY → Prop) (nn x4 : Nat), M < nn → x4 + M ≤ 999 → post r (g_procs, g_limit, (nI cal), (nI dep), g_cur, g_ok, g_c0, g_c1, g_cb, g_vn, g_built, g_chosen, tp', (nI oc'), (nI ec'), b_len, b_kind, b_sd, b_ss, b_st, b_sa, b_sb, b_fk, b_f0, b_f1, b_fb, b_fact, b_factv, b_reach, b_vp, b_vm, b_vx, b_vy, sp', pc', sm', ce', ol', el') → wY_run_53 post md nn (nI x4) g_procs g_limit (nI cal) (nI dep) g_cur g_ok g_c0 g_c1 g_cb g_vn g_built g_chosen (nI k) (nI oc) (nI ec) b_len b_kind b_sd b_ss b_st b_sa b_sb b_fk b_f0 b_f1 b_fb b_fact b_factv b_reach b_vp b_vm b_vx b_vy sp (upd pc k (nI (cc_G P (p * 8 + i)))) sm ce ol el)) : ∃ (r fr' : Int32) (oc' ec' : Nat) (fu' fp' va' ou' ep' ex' ey' em' : Nat → Int32) (tp' : Int32) (sp' pc' sm' ce' ol' el' : Nat → Int32), oc' ≤ 16 ∧ ec' ≤ 64 ∧ cc_LR oc' ec' ou' ep' ex' ey' em' ol' el' ∧ (∀ (post : Int32 → SX → Prop) (nn x5 : Nat), (M + 1) < nn → x5 + (M + 1) ≤ 639 → post r (f_LIN, f_SKIP, f_CALL, f_OUT, f_JUMP, f_RUNNING, f_FIRST_VERSION, f_MAX_VERSIONS, f_procedures, f_length, (nI cal), (nI dep), f_openProc, f_analysed, f_built, f_builtCount, f_builtTotal, f_workTop, f_ctxMask, f_ctxX, f_ctxY, f_argMask, f_argX, f_argY, f_candCount, f_candTotal, f_overflow, fr', (nI oc'), (nI ec'), a_kind, a_d, a_s, a_t, a_a, a_b, a_unitLen, a_unitProc, a_unitMask, a_unitX, a_unitY, a_unitSize, a_splitNow, a_callSites, a_opaque, a_form0, a_form1, a_formB, a_met, a_fact, a_factValue, a_work, a_waiting, a_trial, a_candProc, a_candMask, a_candX, a_candY, a_candSize, a_place, fu', fp', va', ou', ep', ex', ey', em') → wX_run_64 post nn (-1) (nI x5) f_LIN f_SKIP f_CALL f_OUT f_JUMP f_RUNNING f_FIRST_VERSION f_MAX_VERSIONS f_procedures f_length (nI cal) (nI dep) f_openProc f_analysed f_built f_builtCount f_builtTotal f_workTop f_ctxMask f_ctxX f_ctxY f_argMask f_argX f_argY f_candCount f_candTotal f_overflow (nI (k + 1)) (nI oc) (nI ec) a_kind a_d a_s a_t a_a a_b a_unitLen a_unitProc a_unitMask a_unitX a_unitY a_unitSize a_splitNow a_callSites a_opaque a_form0 a_form1 a_formB a_met a_fact a_factValue a_work a_waiting a_trial a_candProc a_candMask a_candX a_candY a_candSize a_place fu fp va ou ep ex ey em) ∧ (∀ (post : Int32 → SY → Prop) (nn x4 : Nat), (M + 1) < nn → x4 + (M + 1) ≤ 999 → post r (g_procs, g_limit, (nI cal), (nI dep), g_cur, g_ok, g_c0, g_c1, g_cb, g_vn, g_built, g_chosen, tp', (nI oc'), (nI ec'), b_len, b_kind, b_sd, b_ss, b_st, b_sa, b_sb, b_fk, b_f0, b_f1, b_fb, b_fact, b_factv, b_reach, b_vp, b_vm, b_vx, b_vy, sp', pc', sm', ce', ol', el') → wY_run_53 post md nn (nI x4) g_procs g_limit (nI cal) (nI dep) g_cur g_ok g_c0 g_c1 g_cb g_vn g_built g_chosen (nI k) (nI oc) (nI ec) b_len b_kind b_sd b_ss b_st b_sa b_sb b_fk b_f0 b_f1 b_fb b_fact b_factv b_reach b_vp b_vm b_vx b_vy sp pc sm ce ol el) := by
  obtain ⟨r, fr', oc', ec', fu', fp', va', ou', ep', ex', ey', em', tp', sp', pc', sm', ce', ol', el', q1, q2, q3, hX, hY⟩ := O
  refine ⟨r, fr', oc', ec', fu', fp', va', ou', ep', ex', ey', em', tp', sp', pc', sm', ce', ol', el', q1, q2, q3, fun post nn x5 kn kx kp => ?_, fun post nn x4 kn kx kp => ?_⟩
  · obtain ⟨nn, rfl⟩ : ∃ w, nn = w + 1 := ⟨nn - 1, by omega⟩
    refine xw_go (by omega) (xw_stepX H (xw_exS H.1 (by have := H.2.1; have := H.2.2.2.2.2.1; have := H.2.2.2.2.2.2.1; omega) rfl H.2.2.2.2.2.2.2.1 H.2.2.2.2.2.2.2.2.1 H.2.2.2.2.2.2.2.2.2.1 H.2.2.2.2.2.2.2.2.2.2 (hx.imp And.left id) (fun z => nm_r (e' := nI (x5 + 1)) (nI_1 x5) ?_) (fun z1 z2 => ?_)))
    · rw [cc_uu, hb]
      exact hX post nn (x5 + 1) (by omega) (by omega) kp
    · rcases hx with ⟨-, y2⟩ | y1
      · exact absurd y2 z2
      · rw [y1] at z1; exact absurd z1 (by decide)
  · obtain ⟨nn, rfl⟩ : ∃ w, nn = w + 1 := ⟨nn - 1, by omega⟩
    exact yr_S W (by omega) H.1 hp e1 e2 hL hi y k5 (fun _ => hY post nn (x4 + 1) (by omega) (by omega) kp) (fun z => absurd hc z)
theorem st_O1 {P : cc_Pg} (W : cc_wf P) {cal dep oc ec M : Nat} {md : Int32} {k p i : Nat} (hp : p < 6) (hL : b_len p = nI (cc_L P p)) (hi : i < cc_L P p) (y : cc_y1 P b_kind b_sd b_ss b_st b_sa b_sb (p * 8 + i) i) {fu fp va ou ep ex ey em sp pc sm ce ol el : Nat → Int32} (e1 : sp k = nI p) (e2 : pc k = nI i) {u pcx ln S T : Nat} (H : cc_xh k u pcx ln S T fu fp a_unitLen a_s a_t) (ho : oc < 16) (k7 : cc_K P (p * 8 + i) = 7) {z : Int32} (hc : ce (k * 4 + cc_S P (p * 8 + i)) = z) (hx : a_kind (u * 8 + pcx) = 7) (hx2 : va (k * 4 + S) = z)
    (O : ∃ (r fr' : Int32) (oc' ec' : Nat) (fu' fp' va' ou' ep' ex' ey' em' : Nat → Int32) (tp' : Int32) (sp' pc' sm' ce' ol' el' : Nat → Int32), oc' ≤ 16 ∧ ec' ≤ 64 ∧ cc_LR oc' ec' ou' ep' ex' ey' em' ol' el' ∧ (∀ (post : Int32 → SX → Prop) (nn x5 : Nat), M < nn → x5 + M ≤ 639 → post r (f_LIN, f_SKIP, f_CALL, f_OUT, f_JUMP, f_RUNNING, f_FIRST_VERSION, f_MAX_VERSIONS, f_procedures, f_length, (nI cal), (nI dep), f_openProc, f_analysed, f_built, f_builtCount, f_builtTotal, f_workTop, f_ctxMask, f_ctxX, f_ctxY, f_argMask, f_argX, f_argY, f_candCount, f_candTotal, f_overflow, fr', (nI oc'), (nI ec'), a_kind, a_d, a_s, a_t, a_a, a_b, a_unitLen, a_unitProc, a_unitMask, a_unitX, a_unitY, a_unitSize, a_splitNow, a_callSites, a_opaque, a_form0, a_form1, a_formB, a_met, a_fact, a_factValue, a_work, a_waiting, a_trial, a_candProc, a_candMask, a_candX, a_candY, a_candSize, a_place, fu', fp', va', ou', ep', ex', ey', em') → wX_run_64 post nn (-1) (nI x5) f_LIN f_SKIP f_CALL f_OUT f_JUMP f_RUNNING f_FIRST_VERSION f_MAX_VERSIONS f_procedures f_length (nI cal) (nI dep) f_openProc f_analysed f_built f_builtCount f_builtTotal f_workTop f_ctxMask f_ctxX f_ctxY f_argMask f_argX f_argY f_candCount f_candTotal f_overflow (nI (k + 1)) (nI (oc + 1)) (nI ec) a_kind a_d a_s a_t a_a a_b a_unitLen a_unitProc a_unitMask a_unitX a_unitY a_unitSize a_splitNow a_callSites a_opaque a_form0 a_form1 a_formB a_met a_fact a_factValue a_work a_waiting a_trial a_candProc a_candMask a_candX a_candY a_candSize a_place fu (upd fp k (nI (pcx + 1))) va (upd ou oc z) ep ex ey em) ∧ (∀ (post : Int32 → SY → Prop) (nn x4 : Nat), M < nn → x4 + M ≤ 999 → post r (g_procs, g_limit, (nI cal), (nI dep), g_cur, g_ok, g_c0, g_c1, g_cb, g_vn, g_built, g_chosen, tp', (nI oc'), (nI ec'), b_len, b_kind, b_sd, b_ss, b_st, b_sa, b_sb, b_fk, b_f0, b_f1, b_fb, b_fact, b_factv, b_reach, b_vp, b_vm, b_vx, b_vy, sp', pc', sm', ce', ol', el') → wY_run_53 post md nn (nI x4) g_procs g_limit (nI cal) (nI dep) g_cur g_ok g_c0 g_c1 g_cb g_vn g_built g_chosen (nI k) (nI (oc + 1)) (nI ec) b_len b_kind b_sd b_ss b_st b_sa b_sb b_fk b_f0 b_f1 b_fb b_fact b_factv b_reach b_vp b_vm b_vx b_vy sp (upd pc k (nI (i + 1))) sm ce (upd ol oc z) el)) : ∃ (r fr' : Int32) (oc' ec' : Nat) (fu' fp' va' ou' ep' ex' ey' em' : Nat → Int32) (tp' : Int32) (sp' pc' sm' ce' ol' el' : Nat → Int32), oc' ≤ 16 ∧ ec' ≤ 64 ∧ cc_LR oc' ec' ou' ep' ex' ey' em' ol' el' ∧ (∀ (post : Int32 → SX → Prop) (nn x5 : Nat), (M + 1) < nn → x5 + (M + 1) ≤ 639 → post r (f_LIN, f_SKIP, f_CALL, f_OUT, f_JUMP, f_RUNNING, f_FIRST_VERSION, f_MAX_VERSIONS, f_procedures, f_length, (nI cal), (nI dep), f_openProc, f_analysed, f_built, f_builtCount, f_builtTotal, f_workTop, f_ctxMask, f_ctxX, f_ctxY, f_argMask, f_argX, f_argY, f_candCount, f_candTotal, f_overflow, fr', (nI oc'), (nI ec'), a_kind, a_d, a_s, a_t, a_a, a_b, a_unitLen, a_unitProc, a_unitMask, a_unitX, a_unitY, a_unitSize, a_splitNow, a_callSites, a_opaque, a_form0, a_form1, a_formB, a_met, a_fact, a_factValue, a_work, a_waiting, a_trial, a_candProc, a_candMask, a_candX, a_candY, a_candSize, a_place, fu', fp', va', ou', ep', ex', ey', em') → wX_run_64 post nn (-1) (nI x5) f_LIN f_SKIP f_CALL f_OUT f_JUMP f_RUNNING f_FIRST_VERSION f_MAX_VERSIONS f_procedures f_length (nI cal) (nI dep) f_openProc f_analysed f_built f_builtCount f_builtTotal f_workTop f_ctxMask f_ctxX f_ctxY f_argMask f_argX f_argY f_candCount f_candTotal f_overflow (nI (k + 1)) (nI oc) (nI ec) a_kind a_d a_s a_t a_a a_b a_unitLen a_unitProc a_unitMask a_unitX a_unitY a_unitSize a_splitNow a_callSites a_opaque a_form0 a_form1 a_formB a_met a_fact a_factValue a_work a_waiting a_trial a_candProc a_candMask a_candX a_candY a_candSize a_place fu fp va ou ep ex ey em) ∧ (∀ (post : Int32 → SY → Prop) (nn x4 : Nat), (M + 1) < nn → x4 + (M + 1) ≤ 999 → post r (g_procs, g_limit, (nI cal), (nI dep), g_cur, g_ok, g_c0, g_c1, g_cb, g_vn, g_built, g_chosen, tp', (nI oc'), (nI ec'), b_len, b_kind, b_sd, b_ss, b_st, b_sa, b_sb, b_fk, b_f0, b_f1, b_fb, b_fact, b_factv, b_reach, b_vp, b_vm, b_vx, b_vy, sp', pc', sm', ce', ol', el') → wY_run_53 post md nn (nI x4) g_procs g_limit (nI cal) (nI dep) g_cur g_ok g_c0 g_c1 g_cb g_vn g_built g_chosen (nI k) (nI oc) (nI ec) b_len b_kind b_sd b_ss b_st b_sa b_sb b_fk b_f0 b_f1 b_fb b_fact b_factv b_reach b_vp b_vm b_vx b_vy sp pc sm ce ol el) := by
  obtain ⟨r, fr', oc', ec', fu', fp', va', ou', ep', ex', ey', em', tp', sp', pc', sm', ce', ol', el', q1, q2, q3, hX, hY⟩ := O
  refine ⟨r, fr', oc', ec', fu', fp', va', ou', ep', ex', ey', em', tp', sp', pc', sm', ce', ol', el', q1, q2, q3, fun post nn x5 kn kx kp => ?_, fun post nn x4 kn kx kp => ?_⟩
  · obtain ⟨nn, rfl⟩ : ∃ w, nn = w + 1 := ⟨nn - 1, by omega⟩
    refine xw_go (by omega) (xw_stepX H (xw_exO H.1 (by have := H.2.1; have := H.2.2.2.2.2.1; have := H.2.2.2.2.2.2.1; omega) hx H.2.2.2.2.2.2.2.1 H.2.2.2.2.2.2.2.2.1 H.2.2.2.2.2.2.2.2.2.1 H.2.2.2.2.2.2.2.2.2.2 rfl (by omega) (fun _ => nm_r (e' := nI (x5 + 1)) (nI_1 x5) ?_) (fun z => absurd ho z)))
    rw [hx2]; exact hX post nn (x5 + 1) (by omega) (by omega) kp
  · obtain ⟨nn, rfl⟩ : ∃ w, nn = w + 1 := ⟨nn - 1, by omega⟩
    refine yr_O W (by omega) H.1 hp e1 e2 hL hi y (by omega) k7 (fun _ => ?_) (fun z => absurd ho z)
    rw [hc]; exact hY post nn (x4 + 1) (by omega) (by omega) kp
theorem st_O0 {P : cc_Pg} (W : cc_wf P) {cal dep oc ec M : Nat} {md : Int32} {k p i : Nat} (hp : p < 6) (hL : b_len p = nI (cc_L P p)) (hi : i < cc_L P p) (y : cc_y1 P b_kind b_sd b_ss b_st b_sa b_sb (p * 8 + i) i) {fu fp va ou ep ex ey em sp pc sm ce ol el : Nat → Int32} (e1 : sp k = nI p) (e2 : pc k = nI i) {u pcx ln S T : Nat} (H : cc_xh k u pcx ln S T fu fp a_unitLen a_s a_t) (ho : ¬ oc < 16) (ho2 : oc ≤ 16) (hec : ec ≤ 64) (lr : cc_LR oc ec ou ep ex ey em ol el) (k7 : cc_K P (p * 8 + i) = 7) (hx : a_kind (u * 8 + pcx) = 7) : ∃ (r fr' : Int32) (oc' ec' : Nat) (fu' fp' va' ou' ep' ex' ey' em' : Nat → Int32) (tp' : Int32) (sp' pc' sm' ce' ol' el' : Nat → Int32), oc' ≤ 16 ∧ ec' ≤ 64 ∧ cc_LR oc' ec' ou' ep' ex' ey' em' ol' el' ∧ (∀ (post : Int32 → SX → Prop) (nn x5 : Nat), (M + 1) < nn → x5 + (M + 1) ≤ 639 → post r (f_LIN, f_SKIP, f_CALL, f_OUT, f_JUMP, f_RUNNING, f_FIRST_VERSION, f_MAX_VERSIONS, f_procedures, f_length, (nI cal), (nI dep), f_openProc, f_analysed, f_built, f_builtCount, f_builtTotal, f_workTop, f_ctxMask, f_ctxX, f_ctxY, f_argMask, f_argX, f_argY, f_candCount, f_candTotal, f_overflow, fr', (nI oc'), (nI ec'), a_kind, a_d, a_s, a_t, a_a, a_b, a_unitLen, a_unitProc, a_unitMask, a_unitX, a_unitY, a_unitSize, a_splitNow, a_callSites, a_opaque, a_form0, a_form1, a_formB, a_met, a_fact, a_factValue, a_work, a_waiting, a_trial, a_candProc, a_candMask, a_candX, a_candY, a_candSize, a_place, fu', fp', va', ou', ep', ex', ey', em') → wX_run_64 post nn (-1) (nI x5) f_LIN f_SKIP f_CALL f_OUT f_JUMP f_RUNNING f_FIRST_VERSION f_MAX_VERSIONS f_procedures f_length (nI cal) (nI dep) f_openProc f_analysed f_built f_builtCount f_builtTotal f_workTop f_ctxMask f_ctxX f_ctxY f_argMask f_argX f_argY f_candCount f_candTotal f_overflow (nI (k + 1)) (nI oc) (nI ec) a_kind a_d a_s a_t a_a a_b a_unitLen a_unitProc a_unitMask a_unitX a_unitY a_unitSize a_splitNow a_callSites a_opaque a_form0 a_form1 a_formB a_met a_fact a_factValue a_work a_waiting a_trial a_candProc a_candMask a_candX a_candY a_candSize a_place fu fp va ou ep ex ey em) ∧ (∀ (post : Int32 → SY → Prop) (nn x4 : Nat), (M + 1) < nn → x4 + (M + 1) ≤ 999 → post r (g_procs, g_limit, (nI cal), (nI dep), g_cur, g_ok, g_c0, g_c1, g_cb, g_vn, g_built, g_chosen, tp', (nI oc'), (nI ec'), b_len, b_kind, b_sd, b_ss, b_st, b_sa, b_sb, b_fk, b_f0, b_f1, b_fb, b_fact, b_factv, b_reach, b_vp, b_vm, b_vx, b_vy, sp', pc', sm', ce', ol', el') → wY_run_53 post md nn (nI x4) g_procs g_limit (nI cal) (nI dep) g_cur g_ok g_c0 g_c1 g_cb g_vn g_built g_chosen (nI k) (nI oc) (nI ec) b_len b_kind b_sd b_ss b_st b_sa b_sb b_fk b_f0 b_f1 b_fb b_fact b_factv b_reach b_vp b_vm b_vx b_vy sp pc sm ce ol el) := by
  refine ⟨3, nI (k + 1), oc, ec, fu, upd fp k (nI (pcx + 1)), va, ou, ep, ex, ey, em, nI k, sp, upd pc k (nI (i + 1)), sm, ce, ol, el, ho2, hec, lr, fun post nn x5 kn kx kp => ?_, fun post nn x4 kn kx kp => ?_⟩
  · obtain ⟨nn, rfl⟩ : ∃ w, nn = w + 2 := ⟨nn - 2, by omega⟩
    exact xw_go (by omega) (xw_stepX H (xw_exO H.1 (by have := H.2.1; have := H.2.2.2.2.2.1; have := H.2.2.2.2.2.2.1; omega) hx H.2.2.2.2.2.2.2.1 H.2.2.2.2.2.2.2.2.1 H.2.2.2.2.2.2.2.2.2.1 H.2.2.2.2.2.2.2.2.2.2 rfl ho2 (fun z => absurd z ho) (fun _ => nm_e (xw_end (by decide) kp))))
  · obtain ⟨nn, rfl⟩ : ∃ w, nn = w + 1 := ⟨nn - 1, by omega⟩
    exact yr_O W (by omega) H.1 hp e1 e2 hL hi y ho2 k7 (fun z => absurd z ho) (fun _ => kp)
theorem st_C1 {P : cc_Pg} (W : cc_wf P) {cal dep oc ec M : Nat} {md : Int32} {k p i : Nat} (hp : p < 6) (hL : b_len p = nI (cc_L P p)) (hi : i < cc_L P p) (y : cc_y1 P b_kind b_sd b_ss b_st b_sa b_sb (p * 8 + i) i) {fu fp va ou ep ex ey em sp pc sm ce ol el : Nat → Int32} (e1 : sp k = nI p) (e2 : pc k = nI i) {u pcx ln S T : Nat} (H : cc_xh k u pcx ln S T fu fp a_unitLen a_s a_t) (hec : ec ≤ 64) (hcal : cal ≤ 64) (hdep : dep ≤ 16) (k6 : cc_K P (p * 8 + i) = 6) {cx : cc_Cx} (hm1 : md = 1 → ∀ (es : Nat) (R : Int32 → Prop), R (cc_cm cx) → wpY_into R (g_procs, g_limit, (nI cal), (nI dep), g_cur, g_ok, g_c0, g_c1, g_cb, g_vn, g_built, g_chosen, (nI k), (nI oc), (nI es), b_len, b_kind, b_sd, b_ss, b_st, b_sa, b_sb, b_fk, b_f0, b_f1, b_fb, b_fact, b_factv, b_reach, b_vp, b_vm, b_vx, b_vy, sp, (upd pc k (nI (i + 1))), sm, ce, ol, el) (nI (p * 8 + i)) (sm k) g_chosen) (hm0 : ¬ md = 1 → cc_cm cx = 0) {u2 : Nat} (hx : a_kind (u * 8 + pcx) = 6) (ea : a_a (u * 8 + pcx) = nI u2) (hu2 : u2 < 22) (c1 : ec < cal) (c2 : k + 1 < dep) {x0 y0 : Int32} (cS : ce (k * 4 + cc_S P (p * 8 + i)) = x0) (cT : ce (k * 4 + cc_T P (p * 8 + i)) = y0) (vS : va (k * 4 + S) = x0) (vT : va (k * 4 + T) = y0) (up2 : a_unitProc u2 = nI (cc_Q P (p * 8 + i))) (um2 : a_unitMask u2 = cc_cm cx)
    (O : ∃ (r fr' : Int32) (oc' ec' : Nat) (fu' fp' va' ou' ep' ex' ey' em' : Nat → Int32) (tp' : Int32) (sp' pc' sm' ce' ol' el' : Nat → Int32), oc' ≤ 16 ∧ ec' ≤ 64 ∧ cc_LR oc' ec' ou' ep' ex' ey' em' ol' el' ∧ (∀ (post : Int32 → SX → Prop) (nn x5 : Nat), M < nn → x5 + M ≤ 639 → post r (f_LIN, f_SKIP, f_CALL, f_OUT, f_JUMP, f_RUNNING, f_FIRST_VERSION, f_MAX_VERSIONS, f_procedures, f_length, (nI cal), (nI dep), f_openProc, f_analysed, f_built, f_builtCount, f_builtTotal, f_workTop, f_ctxMask, f_ctxX, f_ctxY, f_argMask, f_argX, f_argY, f_candCount, f_candTotal, f_overflow, fr', (nI oc'), (nI ec'), a_kind, a_d, a_s, a_t, a_a, a_b, a_unitLen, a_unitProc, a_unitMask, a_unitX, a_unitY, a_unitSize, a_splitNow, a_callSites, a_opaque, a_form0, a_form1, a_formB, a_met, a_fact, a_factValue, a_work, a_waiting, a_trial, a_candProc, a_candMask, a_candX, a_candY, a_candSize, a_place, fu', fp', va', ou', ep', ex', ey', em') → wX_run_64 post nn (-1) (nI x5) f_LIN f_SKIP f_CALL f_OUT f_JUMP f_RUNNING f_FIRST_VERSION f_MAX_VERSIONS f_procedures f_length (nI cal) (nI dep) f_openProc f_analysed f_built f_builtCount f_builtTotal f_workTop f_ctxMask f_ctxX f_ctxY f_argMask f_argX f_argY f_candCount f_candTotal f_overflow (nI (k + 1 + 1)) (nI oc) (nI (ec + 1)) a_kind a_d a_s a_t a_a a_b a_unitLen a_unitProc a_unitMask a_unitX a_unitY a_unitSize a_splitNow a_callSites a_opaque a_form0 a_form1 a_formB a_met a_fact a_factValue a_work a_waiting a_trial a_candProc a_candMask a_candX a_candY a_candSize a_place (upd fu (k + 1) (nI u2)) (upd (upd fp k (nI (pcx + 1))) (k + 1) 0) (cc_p4 va (k + 1) x0 y0) ou (upd ep ec (nI (cc_Q P (p * 8 + i)))) (upd ex ec x0) (upd ey ec y0) (upd em ec (cc_cm cx))) ∧ (∀ (post : Int32 → SY → Prop) (nn x4 : Nat), M < nn → x4 + M ≤ 999 → post r (g_procs, g_limit, (nI cal), (nI dep), g_cur, g_ok, g_c0, g_c1, g_cb, g_vn, g_built, g_chosen, tp', (nI oc'), (nI ec'), b_len, b_kind, b_sd, b_ss, b_st, b_sa, b_sb, b_fk, b_f0, b_f1, b_fb, b_fact, b_factv, b_reach, b_vp, b_vm, b_vx, b_vy, sp', pc', sm', ce', ol', el') → wY_run_53 post md nn (nI x4) g_procs g_limit (nI cal) (nI dep) g_cur g_ok g_c0 g_c1 g_cb g_vn g_built g_chosen (nI (k + 1)) (nI oc) (nI (ec + 1)) b_len b_kind b_sd b_ss b_st b_sa b_sb b_fk b_f0 b_f1 b_fb b_fact b_factv b_reach b_vp b_vm b_vx b_vy (upd sp (k + 1) (nI (cc_Q P (p * 8 + i)))) (upd (upd pc k (nI (i + 1))) (k + 1) 0) (upd sm (k + 1) (cc_cm cx)) (cc_p4 ce (k + 1) x0 y0) ol (cc_e4 el ec (nI (cc_Q P (p * 8 + i))) x0 y0 (cc_cm cx)))) : ∃ (r fr' : Int32) (oc' ec' : Nat) (fu' fp' va' ou' ep' ex' ey' em' : Nat → Int32) (tp' : Int32) (sp' pc' sm' ce' ol' el' : Nat → Int32), oc' ≤ 16 ∧ ec' ≤ 64 ∧ cc_LR oc' ec' ou' ep' ex' ey' em' ol' el' ∧ (∀ (post : Int32 → SX → Prop) (nn x5 : Nat), (M + 1) < nn → x5 + (M + 1) ≤ 639 → post r (f_LIN, f_SKIP, f_CALL, f_OUT, f_JUMP, f_RUNNING, f_FIRST_VERSION, f_MAX_VERSIONS, f_procedures, f_length, (nI cal), (nI dep), f_openProc, f_analysed, f_built, f_builtCount, f_builtTotal, f_workTop, f_ctxMask, f_ctxX, f_ctxY, f_argMask, f_argX, f_argY, f_candCount, f_candTotal, f_overflow, fr', (nI oc'), (nI ec'), a_kind, a_d, a_s, a_t, a_a, a_b, a_unitLen, a_unitProc, a_unitMask, a_unitX, a_unitY, a_unitSize, a_splitNow, a_callSites, a_opaque, a_form0, a_form1, a_formB, a_met, a_fact, a_factValue, a_work, a_waiting, a_trial, a_candProc, a_candMask, a_candX, a_candY, a_candSize, a_place, fu', fp', va', ou', ep', ex', ey', em') → wX_run_64 post nn (-1) (nI x5) f_LIN f_SKIP f_CALL f_OUT f_JUMP f_RUNNING f_FIRST_VERSION f_MAX_VERSIONS f_procedures f_length (nI cal) (nI dep) f_openProc f_analysed f_built f_builtCount f_builtTotal f_workTop f_ctxMask f_ctxX f_ctxY f_argMask f_argX f_argY f_candCount f_candTotal f_overflow (nI (k + 1)) (nI oc) (nI ec) a_kind a_d a_s a_t a_a a_b a_unitLen a_unitProc a_unitMask a_unitX a_unitY a_unitSize a_splitNow a_callSites a_opaque a_form0 a_form1 a_formB a_met a_fact a_factValue a_work a_waiting a_trial a_candProc a_candMask a_candX a_candY a_candSize a_place fu fp va ou ep ex ey em) ∧ (∀ (post : Int32 → SY → Prop) (nn x4 : Nat), (M + 1) < nn → x4 + (M + 1) ≤ 999 → post r (g_procs, g_limit, (nI cal), (nI dep), g_cur, g_ok, g_c0, g_c1, g_cb, g_vn, g_built, g_chosen, tp', (nI oc'), (nI ec'), b_len, b_kind, b_sd, b_ss, b_st, b_sa, b_sb, b_fk, b_f0, b_f1, b_fb, b_fact, b_factv, b_reach, b_vp, b_vm, b_vx, b_vy, sp', pc', sm', ce', ol', el') → wY_run_53 post md nn (nI x4) g_procs g_limit (nI cal) (nI dep) g_cur g_ok g_c0 g_c1 g_cb g_vn g_built g_chosen (nI k) (nI oc) (nI ec) b_len b_kind b_sd b_ss b_st b_sa b_sb b_fk b_f0 b_f1 b_fb b_fact b_factv b_reach b_vp b_vm b_vx b_vy sp pc sm ce ol el) := by
  obtain ⟨r, fr', oc', ec', fu', fp', va', ou', ep', ex', ey', em', tp', sp', pc', sm', ce', ol', el', q1, q2, q3, hX, hY⟩ := O
  refine ⟨r, fr', oc', ec', fu', fp', va', ou', ep', ex', ey', em', tp', sp', pc', sm', ce', ol', el', q1, q2, q3, fun post nn x5 kn kx kp => ?_, fun post nn x4 kn kx kp => ?_⟩
  · obtain ⟨nn, rfl⟩ : ∃ w, nn = w + 1 := ⟨nn - 1, by omega⟩
    refine xw_go (by omega) (xw_stepX H (xw_exC H.1 (by have := H.2.1; have := H.2.2.2.2.2.1; have := H.2.2.2.2.2.2.1; omega) hx H.2.2.2.2.2.2.2.1 H.2.2.2.2.2.2.2.2.1 H.2.2.2.2.2.2.2.2.2.1 H.2.2.2.2.2.2.2.2.2.2 rfl ea hu2 hec hcal hdep (by have := H.1; omega) (fun _ _ => nm_r (e' := nI (x5 + 1)) (nI_1 x5) ?_) (fun _ z => absurd c2 z) (fun z => absurd c1 z)))
    rw [vS, vT, up2, um2]
    exact hX post nn (x5 + 1) (by omega) (by omega) kp
  · obtain ⟨nn, rfl⟩ : ∃ w, nn = w + 1 := ⟨nn - 1, by omega⟩
    refine yr_C W (by omega) H.1 hp e1 e2 hL hi y hec hcal hdep k6 (fun z R h => hm1 z ec R h) hm0 (fun _ _ => ?_) (fun _ z => absurd c2 z) (fun z => absurd c1 z)
    rw [cS, cT]
    exact hY post nn (x4 + 1) (by omega) (by omega) kp
theorem st_C2 {P : cc_Pg} (W : cc_wf P) {cal dep oc ec M : Nat} {md : Int32} {k p i : Nat} (hp : p < 6) (hL : b_len p = nI (cc_L P p)) (hi : i < cc_L P p) (y : cc_y1 P b_kind b_sd b_ss b_st b_sa b_sb (p * 8 + i) i) {fu fp va ou ep ex ey em sp pc sm ce ol el : Nat → Int32} (e1 : sp k = nI p) (e2 : pc k = nI i) {u pcx ln S T : Nat} (H : cc_xh k u pcx ln S T fu fp a_unitLen a_s a_t) (hec : ec ≤ 64) (hcal : cal ≤ 64) (hdep : dep ≤ 16) (k6 : cc_K P (p * 8 + i) = 6) {cx : cc_Cx} (hm1 : md = 1 → ∀ (es : Nat) (R : Int32 → Prop), R (cc_cm cx) → wpY_into R (g_procs, g_limit, (nI cal), (nI dep), g_cur, g_ok, g_c0, g_c1, g_cb, g_vn, g_built, g_chosen, (nI k), (nI oc), (nI es), b_len, b_kind, b_sd, b_ss, b_st, b_sa, b_sb, b_fk, b_f0, b_f1, b_fb, b_fact, b_factv, b_reach, b_vp, b_vm, b_vx, b_vy, sp, (upd pc k (nI (i + 1))), sm, ce, ol, el) (nI (p * 8 + i)) (sm k) g_chosen) (hm0 : ¬ md = 1 → cc_cm cx = 0) {u2 : Nat} (hx : a_kind (u * 8 + pcx) = 6) (ea : a_a (u * 8 + pcx) = nI u2) (hu2 : u2 < 22) (lr : cc_LR oc ec ou ep ex ey em ol el) (ho2 : oc ≤ 16) (c1 : ec < cal) (c2 : ¬ k + 1 < dep) : ∃ (r fr' : Int32) (oc' ec' : Nat) (fu' fp' va' ou' ep' ex' ey' em' : Nat → Int32) (tp' : Int32) (sp' pc' sm' ce' ol' el' : Nat → Int32), oc' ≤ 16 ∧ ec' ≤ 64 ∧ cc_LR oc' ec' ou' ep' ex' ey' em' ol' el' ∧ (∀ (post : Int32 → SX → Prop) (nn x5 : Nat), (M + 1) < nn → x5 + (M + 1) ≤ 639 → post r (f_LIN, f_SKIP, f_CALL, f_OUT, f_JUMP, f_RUNNING, f_FIRST_VERSION, f_MAX_VERSIONS, f_procedures, f_length, (nI cal), (nI dep), f_openProc, f_analysed, f_built, f_builtCount, f_builtTotal, f_workTop, f_ctxMask, f_ctxX, f_ctxY, f_argMask, f_argX, f_argY, f_candCount, f_candTotal, f_overflow, fr', (nI oc'), (nI ec'), a_kind, a_d, a_s, a_t, a_a, a_b, a_unitLen, a_unitProc, a_unitMask, a_unitX, a_unitY, a_unitSize, a_splitNow, a_callSites, a_opaque, a_form0, a_form1, a_formB, a_met, a_fact, a_factValue, a_work, a_waiting, a_trial, a_candProc, a_candMask, a_candX, a_candY, a_candSize, a_place, fu', fp', va', ou', ep', ex', ey', em') → wX_run_64 post nn (-1) (nI x5) f_LIN f_SKIP f_CALL f_OUT f_JUMP f_RUNNING f_FIRST_VERSION f_MAX_VERSIONS f_procedures f_length (nI cal) (nI dep) f_openProc f_analysed f_built f_builtCount f_builtTotal f_workTop f_ctxMask f_ctxX f_ctxY f_argMask f_argX f_argY f_candCount f_candTotal f_overflow (nI (k + 1)) (nI oc) (nI ec) a_kind a_d a_s a_t a_a a_b a_unitLen a_unitProc a_unitMask a_unitX a_unitY a_unitSize a_splitNow a_callSites a_opaque a_form0 a_form1 a_formB a_met a_fact a_factValue a_work a_waiting a_trial a_candProc a_candMask a_candX a_candY a_candSize a_place fu fp va ou ep ex ey em) ∧ (∀ (post : Int32 → SY → Prop) (nn x4 : Nat), (M + 1) < nn → x4 + (M + 1) ≤ 999 → post r (g_procs, g_limit, (nI cal), (nI dep), g_cur, g_ok, g_c0, g_c1, g_cb, g_vn, g_built, g_chosen, tp', (nI oc'), (nI ec'), b_len, b_kind, b_sd, b_ss, b_st, b_sa, b_sb, b_fk, b_f0, b_f1, b_fb, b_fact, b_factv, b_reach, b_vp, b_vm, b_vx, b_vy, sp', pc', sm', ce', ol', el') → wY_run_53 post md nn (nI x4) g_procs g_limit (nI cal) (nI dep) g_cur g_ok g_c0 g_c1 g_cb g_vn g_built g_chosen (nI k) (nI oc) (nI ec) b_len b_kind b_sd b_ss b_st b_sa b_sb b_fk b_f0 b_f1 b_fb b_fact b_factv b_reach b_vp b_vm b_vx b_vy sp pc sm ce ol el) := by
  refine ⟨2, nI (k + 1), oc, ec, fu, upd fp k (nI (pcx + 1)), va, ou, ep, ex, ey, em, nI k, sp, upd pc k (nI (i + 1)), sm, ce, ol, el, ho2, hec, lr, fun post nn x5 kn kx kp => ?_, fun post nn x4 kn kx kp => ?_⟩
  · obtain ⟨nn, rfl⟩ : ∃ w, nn = w + 2 := ⟨nn - 2, by omega⟩
    exact xw_go (by omega) (xw_stepX H (xw_exC H.1 (by have := H.2.1; have := H.2.2.2.2.2.1; have := H.2.2.2.2.2.2.1; omega) hx H.2.2.2.2.2.2.2.1 H.2.2.2.2.2.2.2.2.1 H.2.2.2.2.2.2.2.2.2.1 H.2.2.2.2.2.2.2.2.2.2 rfl ea hu2 hec hcal hdep (by have := H.1; omega) (fun _ z => absurd z c2) (fun _ _ => nm_e (xw_end (by decide) kp)) (fun z => absurd c1 z)))
  · obtain ⟨nn, rfl⟩ : ∃ w, nn = w + 1 := ⟨nn - 1, by omega⟩
    exact yr_C W (by omega) H.1 hp e1 e2 hL hi y hec hcal hdep k6 (fun z R h => hm1 z ec R h) hm0 (fun _ z => absurd z c2) (fun _ _ => kp) (fun z => absurd c1 z)
theorem st_C3 {P : cc_Pg} (W : cc_wf P) {cal dep oc ec M : Nat} {md : Int32} {k p i : Nat} (hp : p < 6) (hL : b_len p = nI (cc_L P p)) (hi : i < cc_L P p) (y : cc_y1 P b_kind b_sd b_ss b_st b_sa b_sb (p * 8 + i) i) {fu fp va ou ep ex ey em sp pc sm ce ol el : Nat → Int32} (e1 : sp k = nI p) (e2 : pc k = nI i) {u pcx ln S T : Nat} (H : cc_xh k u pcx ln S T fu fp a_unitLen a_s a_t) (hec : ec ≤ 64) (hcal : cal ≤ 64) (hdep : dep ≤ 16) (k6 : cc_K P (p * 8 + i) = 6) {cx : cc_Cx} (hm1 : md = 1 → ∀ (es : Nat) (R : Int32 → Prop), R (cc_cm cx) → wpY_into R (g_procs, g_limit, (nI cal), (nI dep), g_cur, g_ok, g_c0, g_c1, g_cb, g_vn, g_built, g_chosen, (nI k), (nI oc), (nI es), b_len, b_kind, b_sd, b_ss, b_st, b_sa, b_sb, b_fk, b_f0, b_f1, b_fb, b_fact, b_factv, b_reach, b_vp, b_vm, b_vx, b_vy, sp, (upd pc k (nI (i + 1))), sm, ce, ol, el) (nI (p * 8 + i)) (sm k) g_chosen) (hm0 : ¬ md = 1 → cc_cm cx = 0) {u2 : Nat} (hx : a_kind (u * 8 + pcx) = 6) (ea : a_a (u * 8 + pcx) = nI u2) (hu2 : u2 < 22) (lr : cc_LR oc ec ou ep ex ey em ol el) (ho2 : oc ≤ 16) (c1 : ¬ ec < cal) : ∃ (r fr' : Int32) (oc' ec' : Nat) (fu' fp' va' ou' ep' ex' ey' em' : Nat → Int32) (tp' : Int32) (sp' pc' sm' ce' ol' el' : Nat → Int32), oc' ≤ 16 ∧ ec' ≤ 64 ∧ cc_LR oc' ec' ou' ep' ex' ey' em' ol' el' ∧ (∀ (post : Int32 → SX → Prop) (nn x5 : Nat), (M + 1) < nn → x5 + (M + 1) ≤ 639 → post r (f_LIN, f_SKIP, f_CALL, f_OUT, f_JUMP, f_RUNNING, f_FIRST_VERSION, f_MAX_VERSIONS, f_procedures, f_length, (nI cal), (nI dep), f_openProc, f_analysed, f_built, f_builtCount, f_builtTotal, f_workTop, f_ctxMask, f_ctxX, f_ctxY, f_argMask, f_argX, f_argY, f_candCount, f_candTotal, f_overflow, fr', (nI oc'), (nI ec'), a_kind, a_d, a_s, a_t, a_a, a_b, a_unitLen, a_unitProc, a_unitMask, a_unitX, a_unitY, a_unitSize, a_splitNow, a_callSites, a_opaque, a_form0, a_form1, a_formB, a_met, a_fact, a_factValue, a_work, a_waiting, a_trial, a_candProc, a_candMask, a_candX, a_candY, a_candSize, a_place, fu', fp', va', ou', ep', ex', ey', em') → wX_run_64 post nn (-1) (nI x5) f_LIN f_SKIP f_CALL f_OUT f_JUMP f_RUNNING f_FIRST_VERSION f_MAX_VERSIONS f_procedures f_length (nI cal) (nI dep) f_openProc f_analysed f_built f_builtCount f_builtTotal f_workTop f_ctxMask f_ctxX f_ctxY f_argMask f_argX f_argY f_candCount f_candTotal f_overflow (nI (k + 1)) (nI oc) (nI ec) a_kind a_d a_s a_t a_a a_b a_unitLen a_unitProc a_unitMask a_unitX a_unitY a_unitSize a_splitNow a_callSites a_opaque a_form0 a_form1 a_formB a_met a_fact a_factValue a_work a_waiting a_trial a_candProc a_candMask a_candX a_candY a_candSize a_place fu fp va ou ep ex ey em) ∧ (∀ (post : Int32 → SY → Prop) (nn x4 : Nat), (M + 1) < nn → x4 + (M + 1) ≤ 999 → post r (g_procs, g_limit, (nI cal), (nI dep), g_cur, g_ok, g_c0, g_c1, g_cb, g_vn, g_built, g_chosen, tp', (nI oc'), (nI ec'), b_len, b_kind, b_sd, b_ss, b_st, b_sa, b_sb, b_fk, b_f0, b_f1, b_fb, b_fact, b_factv, b_reach, b_vp, b_vm, b_vx, b_vy, sp', pc', sm', ce', ol', el') → wY_run_53 post md nn (nI x4) g_procs g_limit (nI cal) (nI dep) g_cur g_ok g_c0 g_c1 g_cb g_vn g_built g_chosen (nI k) (nI oc) (nI ec) b_len b_kind b_sd b_ss b_st b_sa b_sb b_fk b_f0 b_f1 b_fb b_fact b_factv b_reach b_vp b_vm b_vx b_vy sp pc sm ce ol el) := by
  refine ⟨1, nI (k + 1), oc, ec, fu, upd fp k (nI (pcx + 1)), va, ou, ep, ex, ey, em, nI k, sp, upd pc k (nI (i + 1)), sm, ce, ol, el, ho2, hec, lr, fun post nn x5 kn kx kp => ?_, fun post nn x4 kn kx kp => ?_⟩
  · obtain ⟨nn, rfl⟩ : ∃ w, nn = w + 2 := ⟨nn - 2, by omega⟩
    exact xw_go (by omega) (xw_stepX H (xw_exC H.1 (by have := H.2.1; have := H.2.2.2.2.2.1; have := H.2.2.2.2.2.2.1; omega) hx H.2.2.2.2.2.2.2.1 H.2.2.2.2.2.2.2.2.1 H.2.2.2.2.2.2.2.2.2.1 H.2.2.2.2.2.2.2.2.2.2 rfl ea hu2 hec hcal hdep (by have := H.1; omega) (fun z => absurd z c1) (fun z => absurd z c1) (fun _ => nm_e (xw_end (by decide) kp))))
  · obtain ⟨nn, rfl⟩ : ∃ w, nn = w + 1 := ⟨nn - 1, by omega⟩
    exact yr_C W (by omega) H.1 hp e1 e2 hL hi y hec hcal hdep k6 (fun z R h => hm1 z ec R h) hm0 (fun z => absurd z c1) (fun z => absurd z c1) (fun _ => kp)
theorem st_L0 {P : cc_Pg} {cal dep oc ec M : Nat} {md : Int32} {p i u pcx ln : Nat} (hp : p < 6) (hL : b_len p = nI (cc_L P p)) (hi : cc_L P p ≤ i) (hi16 : i ≤ 16) {fu fp va ou ep ex ey em sp pc sm ce ol el : Nat → Int32} (hu : u < 22) (hl : ln ≤ pcx) (hpx : pcx ≤ 16) (f3 : a_unitLen u = nI ln) (e1 : sp 0 = nI p) (e2 : pc 0 = nI i) (f1 : fu 0 = nI u) (f2 : fp 0 = nI pcx) (ho2 : oc ≤ 16) (hec : ec ≤ 64) (lr : cc_LR oc ec ou ep ex ey em ol el) :
    ∃ (r fr' : Int32) (oc' ec' : Nat) (fu' fp' va' ou' ep' ex' ey' em' : Nat → Int32) (tp' : Int32) (sp' pc' sm' ce' ol' el' : Nat → Int32), oc' ≤ 16 ∧ ec' ≤ 64 ∧ cc_LR oc' ec' ou' ep' ex' ey' em' ol' el' ∧ (∀ (post : Int32 → SX → Prop) (nn x5 : Nat), (M + 1) < nn → x5 + (M + 1) ≤ 639 → post r (f_LIN, f_SKIP, f_CALL, f_OUT, f_JUMP, f_RUNNING, f_FIRST_VERSION, f_MAX_VERSIONS, f_procedures, f_length, (nI cal), (nI dep), f_openProc, f_analysed, f_built, f_builtCount, f_builtTotal, f_workTop, f_ctxMask, f_ctxX, f_ctxY, f_argMask, f_argX, f_argY, f_candCount, f_candTotal, f_overflow, fr', (nI oc'), (nI ec'), a_kind, a_d, a_s, a_t, a_a, a_b, a_unitLen, a_unitProc, a_unitMask, a_unitX, a_unitY, a_unitSize, a_splitNow, a_callSites, a_opaque, a_form0, a_form1, a_formB, a_met, a_fact, a_factValue, a_work, a_waiting, a_trial, a_candProc, a_candMask, a_candX, a_candY, a_candSize, a_place, fu', fp', va', ou', ep', ex', ey', em') → wX_run_64 post nn (-1) (nI x5) f_LIN f_SKIP f_CALL f_OUT f_JUMP f_RUNNING f_FIRST_VERSION f_MAX_VERSIONS f_procedures f_length (nI cal) (nI dep) f_openProc f_analysed f_built f_builtCount f_builtTotal f_workTop f_ctxMask f_ctxX f_ctxY f_argMask f_argX f_argY f_candCount f_candTotal f_overflow (nI 1) (nI oc) (nI ec) a_kind a_d a_s a_t a_a a_b a_unitLen a_unitProc a_unitMask a_unitX a_unitY a_unitSize a_splitNow a_callSites a_opaque a_form0 a_form1 a_formB a_met a_fact a_factValue a_work a_waiting a_trial a_candProc a_candMask a_candX a_candY a_candSize a_place fu fp va ou ep ex ey em) ∧ (∀ (post : Int32 → SY → Prop) (nn x4 : Nat), (M + 1) < nn → x4 + (M + 1) ≤ 999 → post r (g_procs, g_limit, (nI cal), (nI dep), g_cur, g_ok, g_c0, g_c1, g_cb, g_vn, g_built, g_chosen, tp', (nI oc'), (nI ec'), b_len, b_kind, b_sd, b_ss, b_st, b_sa, b_sb, b_fk, b_f0, b_f1, b_fb, b_fact, b_factv, b_reach, b_vp, b_vm, b_vx, b_vy, sp', pc', sm', ce', ol', el') → wY_run_53 post md nn (nI x4) g_procs g_limit (nI cal) (nI dep) g_cur g_ok g_c0 g_c1 g_cb g_vn g_built g_chosen (nI 0) (nI oc) (nI ec) b_len b_kind b_sd b_ss b_st b_sa b_sb b_fk b_f0 b_f1 b_fb b_fact b_factv b_reach b_vp b_vm b_vx b_vy sp pc sm ce ol el) := by
  refine ⟨0, 0, oc, ec, fu, fp, va, ou, ep, ex, ey, em, -1, sp, pc, sm, ce, ol, el, ho2, hec, lr, fun post nn x5 kn kx kp => ?_, fun post nn x4 kn kx kp => ?_⟩
  · obtain ⟨nn, rfl⟩ : ∃ w, nn = w + 2 := ⟨nn - 2, by omega⟩
    exact xw_go (by omega) (xw_stepL (k := 0) (by omega) hu f1 f2 f3 hl hpx (xw_leave0 (nm_e (xw_end (by decide) kp))))
  · obtain ⟨nn, rfl⟩ : ∃ w, nn = w + 1 := ⟨nn - 1, by omega⟩
    exact yr_L0 (by omega) hp e1 e2 hL hi hi16 kp
theorem st_L1 {P : cc_Pg} {cal dep oc ec M : Nat} {md : Int32} {p i u pcx ln : Nat} (hp : p < 6) (hL : b_len p = nI (cc_L P p)) (hi : cc_L P p ≤ i) (hi16 : i ≤ 16) {fu fp va ou ep ex ey em sp pc sm ce ol el : Nat → Int32} (hu : u < 22) (hl : ln ≤ pcx) (hpx : pcx ≤ 16) (f3 : a_unitLen u = nI ln) {k q j u2 px2 D : Nat} (hk : k + 1 < 16) (e1 : sp (k + 1) = nI p) (e2 : pc (k + 1) = nI i) (f1 : fu (k + 1) = nI u) (f2 : fp (k + 1) = nI pcx) (hq : q < 6) (hj : j < 8) (e3 : sp k = nI q) (e4 : pc k = nI (j + 1)) (e5 : b_sd (q * 8 + j) = nI D) (hD : D < 4)
    (hu2 : u2 < 22) (hp2 : px2 < 8) (f4 : fu k = nI u2) (f5 : fp k = nI (px2 + 1)) (f6 : a_d (u2 * 8 + px2) = nI D) {z : Int32} (hz : va ((k + 1) * 4 + 3) = z) (hz2 : ce ((k + 1) * 4 + 3) = z)
    (O : ∃ (r fr' : Int32) (oc' ec' : Nat) (fu' fp' va' ou' ep' ex' ey' em' : Nat → Int32) (tp' : Int32) (sp' pc' sm' ce' ol' el' : Nat → Int32), oc' ≤ 16 ∧ ec' ≤ 64 ∧ cc_LR oc' ec' ou' ep' ex' ey' em' ol' el' ∧ (∀ (post : Int32 → SX → Prop) (nn x5 : Nat), M < nn → x5 + M ≤ 639 → post r (f_LIN, f_SKIP, f_CALL, f_OUT, f_JUMP, f_RUNNING, f_FIRST_VERSION, f_MAX_VERSIONS, f_procedures, f_length, (nI cal), (nI dep), f_openProc, f_analysed, f_built, f_builtCount, f_builtTotal, f_workTop, f_ctxMask, f_ctxX, f_ctxY, f_argMask, f_argX, f_argY, f_candCount, f_candTotal, f_overflow, fr', (nI oc'), (nI ec'), a_kind, a_d, a_s, a_t, a_a, a_b, a_unitLen, a_unitProc, a_unitMask, a_unitX, a_unitY, a_unitSize, a_splitNow, a_callSites, a_opaque, a_form0, a_form1, a_formB, a_met, a_fact, a_factValue, a_work, a_waiting, a_trial, a_candProc, a_candMask, a_candX, a_candY, a_candSize, a_place, fu', fp', va', ou', ep', ex', ey', em') → wX_run_64 post nn (-1) (nI x5) f_LIN f_SKIP f_CALL f_OUT f_JUMP f_RUNNING f_FIRST_VERSION f_MAX_VERSIONS f_procedures f_length (nI cal) (nI dep) f_openProc f_analysed f_built f_builtCount f_builtTotal f_workTop f_ctxMask f_ctxX f_ctxY f_argMask f_argX f_argY f_candCount f_candTotal f_overflow (nI (k + 1)) (nI oc) (nI ec) a_kind a_d a_s a_t a_a a_b a_unitLen a_unitProc a_unitMask a_unitX a_unitY a_unitSize a_splitNow a_callSites a_opaque a_form0 a_form1 a_formB a_met a_fact a_factValue a_work a_waiting a_trial a_candProc a_candMask a_candX a_candY a_candSize a_place fu fp (upd va (k * 4 + D) z) ou ep ex ey em) ∧ (∀ (post : Int32 → SY → Prop) (nn x4 : Nat), M < nn → x4 + M ≤ 999 → post r (g_procs, g_limit, (nI cal), (nI dep), g_cur, g_ok, g_c0, g_c1, g_cb, g_vn, g_built, g_chosen, tp', (nI oc'), (nI ec'), b_len, b_kind, b_sd, b_ss, b_st, b_sa, b_sb, b_fk, b_f0, b_f1, b_fb, b_fact, b_factv, b_reach, b_vp, b_vm, b_vx, b_vy, sp', pc', sm', ce', ol', el') → wY_run_53 post md nn (nI x4) g_procs g_limit (nI cal) (nI dep) g_cur g_ok g_c0 g_c1 g_cb g_vn g_built g_chosen (nI k) (nI oc) (nI ec) b_len b_kind b_sd b_ss b_st b_sa b_sb b_fk b_f0 b_f1 b_fb b_fact b_factv b_reach b_vp b_vm b_vx b_vy sp pc sm (upd ce (k * 4 + D) z) ol el)) :
    ∃ (r fr' : Int32) (oc' ec' : Nat) (fu' fp' va' ou' ep' ex' ey' em' : Nat → Int32) (tp' : Int32) (sp' pc' sm' ce' ol' el' : Nat → Int32), oc' ≤ 16 ∧ ec' ≤ 64 ∧ cc_LR oc' ec' ou' ep' ex' ey' em' ol' el' ∧ (∀ (post : Int32 → SX → Prop) (nn x5 : Nat), (M + 1) < nn → x5 + (M + 1) ≤ 639 → post r (f_LIN, f_SKIP, f_CALL, f_OUT, f_JUMP, f_RUNNING, f_FIRST_VERSION, f_MAX_VERSIONS, f_procedures, f_length, (nI cal), (nI dep), f_openProc, f_analysed, f_built, f_builtCount, f_builtTotal, f_workTop, f_ctxMask, f_ctxX, f_ctxY, f_argMask, f_argX, f_argY, f_candCount, f_candTotal, f_overflow, fr', (nI oc'), (nI ec'), a_kind, a_d, a_s, a_t, a_a, a_b, a_unitLen, a_unitProc, a_unitMask, a_unitX, a_unitY, a_unitSize, a_splitNow, a_callSites, a_opaque, a_form0, a_form1, a_formB, a_met, a_fact, a_factValue, a_work, a_waiting, a_trial, a_candProc, a_candMask, a_candX, a_candY, a_candSize, a_place, fu', fp', va', ou', ep', ex', ey', em') → wX_run_64 post nn (-1) (nI x5) f_LIN f_SKIP f_CALL f_OUT f_JUMP f_RUNNING f_FIRST_VERSION f_MAX_VERSIONS f_procedures f_length (nI cal) (nI dep) f_openProc f_analysed f_built f_builtCount f_builtTotal f_workTop f_ctxMask f_ctxX f_ctxY f_argMask f_argX f_argY f_candCount f_candTotal f_overflow (nI (k + 2)) (nI oc) (nI ec) a_kind a_d a_s a_t a_a a_b a_unitLen a_unitProc a_unitMask a_unitX a_unitY a_unitSize a_splitNow a_callSites a_opaque a_form0 a_form1 a_formB a_met a_fact a_factValue a_work a_waiting a_trial a_candProc a_candMask a_candX a_candY a_candSize a_place fu fp va ou ep ex ey em) ∧ (∀ (post : Int32 → SY → Prop) (nn x4 : Nat), (M + 1) < nn → x4 + (M + 1) ≤ 999 → post r (g_procs, g_limit, (nI cal), (nI dep), g_cur, g_ok, g_c0, g_c1, g_cb, g_vn, g_built, g_chosen, tp', (nI oc'), (nI ec'), b_len, b_kind, b_sd, b_ss, b_st, b_sa, b_sb, b_fk, b_f0, b_f1, b_fb, b_fact, b_factv, b_reach, b_vp, b_vm, b_vx, b_vy, sp', pc', sm', ce', ol', el') → wY_run_53 post md nn (nI x4) g_procs g_limit (nI cal) (nI dep) g_cur g_ok g_c0 g_c1 g_cb g_vn g_built g_chosen (nI (k + 1)) (nI oc) (nI ec) b_len b_kind b_sd b_ss b_st b_sa b_sb b_fk b_f0 b_f1 b_fb b_fact b_factv b_reach b_vp b_vm b_vx b_vy sp pc sm ce ol el) := by
  obtain ⟨r, fr', oc', ec', fu', fp', va', ou', ep', ex', ey', em', tp', sp', pc', sm', ce', ol', el', q1, q2, q3, hX, hY⟩ := O
  refine ⟨r, fr', oc', ec', fu', fp', va', ou', ep', ex', ey', em', tp', sp', pc', sm', ce', ol', el', q1, q2, q3, fun post nn x5 kn kx kp => ?_, fun post nn x4 kn kx kp => ?_⟩
  · obtain ⟨nn, rfl⟩ : ∃ w, nn = w + 1 := ⟨nn - 1, by omega⟩
    refine xw_go (by omega) (xw_stepL (k := k + 1) hk hu f1 f2 f3 hl hpx (xw_leave1 hk hu2 hp2 f4 f5 f6 hD (nm_r (e' := nI (x5 + 1)) (nI_1 x5) ?_)))
    rw [hz]
    exact hX post nn (x5 + 1) (by omega) (by omega) kp
  · obtain ⟨nn, rfl⟩ : ∃ w, nn = w + 1 := ⟨nn - 1, by omega⟩
    refine yr_L1 (by omega) hk hp e1 e2 hL hi hi16 hq hj e3 e4 e5 hD ?_
    rw [hz2]
    exact hY post nn (x4 + 1) (by omega) (by omega) kp
end
end
section
/-! the run: the simulation's interface and its frames -/
abbrev cc_G4 : Type := Nat × Nat × Int32 × Int32
def cc_ug (g : Nat → cc_G4) (k : Nat) (r : cc_G4) : Nat → cc_G4 := fun f => if f = k then r else g f
theorem cc_ug_s (g : Nat → cc_G4) (k : Nat) (r : cc_G4) : cc_ug g k r k = r := if_pos rfl
theorem cc_ug_n (g : Nat → cc_G4) {k f : Nat} (r : cc_G4) (h : f ≠ k) : cc_ug g k r f = g f := if_neg h
def cc_tm (n : Nat) : Nat := 9 - min n 8
def cc_ps (g : Nat → cc_G4) : Nat → Nat
  | 0 => 0
  | n + 1 => cc_ps g n + cc_tm (g n).2.1
theorem cc_ps_cg {g h : Nat → cc_G4} : ∀ n, (∀ f, f < n → g f = h f) → cc_ps g n = cc_ps h n
  | 0, _ => rfl
  | n + 1, e => by rw [cc_ps, cc_ps, cc_ps_cg n (fun f hf => e f (by omega)), e n (by omega)]
theorem cc_ps_u (g : Nat → cc_G4) (k : Nat) (r : cc_G4) : cc_ps (cc_ug g k r) (k + 1) = cc_ps g k + cc_tm r.2.1 := by
  rw [cc_ps, cc_ug_s, cc_ps_cg (g := cc_ug g k r) (h := g) k (fun f hf => cc_ug_n g r (by omega))]
theorem cc_tm_1 (n : Nat) : 1 ≤ cc_tm n := by unfold cc_tm; omega
theorem cc_tm_s {i j : Nat} (h : i < 8) (k : i < j) : cc_tm j + 1 ≤ cc_tm i := by unfold cc_tm; omega
theorem cc_tm_0 : cc_tm 0 = 9 := rfl
def cc_sl (P : cc_Pg) (U : Nat → Prop) (vu : Nat → cc_V) (pl : Nat → Nat → Nat) (cf : Nat → cc_Cx → cc_Cx) (kd d s t a b : Nat → Int32) (u m k : Nat) (c : cc_Cx) : Prop :=
  d k = nI (cc_D P m) ∧
  (cc_K P m ≤ 4 → (∃ w, cc_ev (cc_tf P (cc_fm P m) m) c = some w ∧ kd k = 4 ∧ s k = nI 0 ∧ t k = nI 0 ∧ a k = 0 ∧ b k = w) ∨ (kd k = nI (cc_K P m) ∧ s k = nI (cc_S P m) ∧ t k = nI (cc_T P m) ∧ a k = cc_A P m ∧ b k = cc_B P m)) ∧
  (5 ≤ cc_K P m → s k = nI (cc_S P m) ∧ t k = nI (cc_T P m)) ∧
  (cc_K P m = 5 → a k = cc_A P m ∧ b k = nI (pl u (cc_G P m)) ∧ (kd k = 5 ∨ kd k = 8 ∧ cc_ev (cc_fm P m (cc_S P m)) c = some (cc_A P m))) ∧
  (cc_K P m = 6 → kd k = 6 ∧ ∃ u', a k = nI u' ∧ U u' ∧ vu u' = (cc_Q P m, cf m c)) ∧
  (cc_K P m = 7 → kd k = 7)
def cc_SM (P : cc_Pg) (U : Nat → Prop) (vu : Nat → cc_V) (pl : Nat → Nat → Nat) (ln : Nat → Nat) (cf : Nat → cc_Cx → cc_Cx) (Z : Nat → Int32 → Int32 → Prop) (kd d s t a b ul up um : Nat → Int32) : Prop :=
  (∀ u, U u → u < 22 ∧ (vu u).1 < cc_N P ∧ up u = nI (vu u).1 ∧ um u = cc_cm (vu u).2 ∧ ul u = nI (ln u) ∧ ln u ≤ 8 ∧ pl u 0 = 0 ∧ (∀ i, i ≤ 16 → pl u i ≤ 16) ∧ (∀ i, cc_L P (vu u).1 ≤ i → i ≤ 16 → ln u ≤ pl u i) ∧
    ∀ i, i < cc_L P (vu u).1 → cc_rc P (vu u).1 (vu u).2 i = true →
      (pl u i < ln u ∧ pl u (i + 1) = pl u i + 1 ∧ cc_sl P U vu pl cf kd d s t a b u ((vu u).1 * 8 + i) (u * 8 + pl u i) (vu u).2) ∨ (cc_nt P ((vu u).1 * 8 + i) (vu u).2 = true ∧ pl u (i + 1) = pl u i)) ∧
  (∀ p i c x y lx ly, p < cc_N P → i < cc_L P p → cc_K P (p * 8 + i) = 6 → cc_rc P p (some x, some y) i = true → cc_gx c x y → Z p x y → cc_hf (cc_fm P (p * 8 + i) (cc_S P (p * 8 + i))) x y lx → cc_hf (cc_fm P (p * 8 + i) (cc_T P (p * 8 + i))) x y ly → cc_gx (cf (p * 8 + i) c) lx ly ∧ Z (cc_Q P (p * 8 + i)) lx ly)
/-- the variables at place k fit the forms before statement i -/
def cc_hv (P : cc_Pg) (m : Nat) (x y : Int32) (va : Nat → Int32) (k : Nat) : Prop := ∀ v, v < 4 → cc_hf (cc_fm P m v) x y (va (k * 4 + v))
def cc_q1 (U : Nat → Prop) (vu : Nat → cc_V) (pl : Nat → Nat → Nat) (Z : Nat → Int32 → Int32 → Prop) (r : cc_G4) (f : Nat) (fu fp va sp pc sm ce : Nat → Int32) : Prop :=
  U r.1 ∧ r.2.1 ≤ 16 ∧ cc_gx (vu r.1).2 r.2.2.1 r.2.2.2 ∧ Z (vu r.1).1 r.2.2.1 r.2.2.2 ∧ fu f = nI r.1 ∧ fp f = nI (pl r.1 r.2.1) ∧ sp f = nI (vu r.1).1 ∧ pc f = nI r.2.1 ∧ sm f = cc_cm (vu r.1).2 ∧ ∀ j, j < 4 → ce (f * 4 + j) = va (f * 4 + j)
def cc_q2 (P : cc_Pg) (vu : Nat → cc_V) (r : cc_G4) (f : Nat) (va : Nat → Int32) : Prop :=
  r.2.1 < cc_L P (vu r.1).1 → cc_rc P (vu r.1).1 (some r.2.2.1, some r.2.2.2) r.2.1 = true ∧ cc_hv P ((vu r.1).1 * 8 + r.2.1) r.2.2.1 r.2.2.2 va f
def cc_q3 (P : cc_Pg) (vu : Nat → cc_V) (pl : Nat → Nat → Nat) (d : Nat → Int32) (r : cc_G4) (f : Nat) (va : Nat → Int32) : Prop :=
  ∃ i, r.2.1 = i + 1 ∧ i < cc_L P (vu r.1).1 ∧ cc_K P ((vu r.1).1 * 8 + i) = 6 ∧ cc_rc P (vu r.1).1 (some r.2.2.1, some r.2.2.2) i = true ∧ cc_hv P ((vu r.1).1 * 8 + i) r.2.2.1 r.2.2.2 va f ∧ pl r.1 i < 8 ∧ pl r.1 (i + 1) = pl r.1 i + 1 ∧ d (r.1 * 8 + pl r.1 i) = nI (cc_D P ((vu r.1).1 * 8 + i))
def cc_FR (P : cc_Pg) (U : Nat → Prop) (vu : Nat → cc_V) (pl : Nat → Nat → Nat) (Z : Nat → Int32 → Int32 → Prop) (d : Nat → Int32) (k : Nat) (g : Nat → cc_G4) (fu fp va sp pc sm ce : Nat → Int32) : Prop :=
  k < 16 ∧ (∀ f, f ≤ k → cc_q1 U vu pl Z (g f) f fu fp va sp pc sm ce) ∧ cc_q2 P vu (g k) k va ∧ ∀ f, f < k → cc_q3 P vu pl d (g f) f va
theorem cc_hv_cg {P : cc_Pg} {m : Nat} {x y : Int32} {va va' : Nat → Int32} {k : Nat} (h : cc_hv P m x y va k) (e : ∀ v, v < 4 → va' (k * 4 + v) = va (k * 4 + v)) : cc_hv P m x y va' k := fun v hv => by rw [e v hv]; exact h v hv
theorem cc_q3_cg {P : cc_Pg} {vu : Nat → cc_V} {pl : Nat → Nat → Nat} {d : Nat → Int32} {r : cc_G4} {f : Nat} {va va' : Nat → Int32} (h : cc_q3 P vu pl d r f va) (e : ∀ v, v < 4 → va' (f * 4 + v) = va (f * 4 + v)) : cc_q3 P vu pl d r f va' := by
  obtain ⟨i, a1, a2, a3, a4, a5, a6⟩ := h
  exact ⟨i, a1, a2, a3, a4, cc_hv_cg a5 e, a6⟩
theorem cc_cle_gx {c : cc_Cx} {x y : Int32} (h : cc_gx c x y) : cc_cle (some x, some y) c := by
  constructor
  · cases e : c.1 with
    | none => exact Or.inl rfl
    | some v => exact Or.inr (congrArg some (h.1 v e))
  · cases e : c.2 with
    | none => exact Or.inl rfl
    | some v => exact Or.inr (congrArg some (h.2 v e))
theorem cc_hf_or {f g : cc_Fm} {x y z : Int32} (e : f = none ∨ f = g) (h : cc_hf g x y z) : cc_hf f x y z := by
  rcases e with e | e
  · rw [e]; exact cc_hf_n _ _ _
  · rw [e]; exact h
section
variable {P : cc_Pg} {U : Nat → Prop} {vu : Nat → cc_V} {pl : Nat → Nat → Nat} {Z : Nat → Int32 → Int32 → Prop} {d : Nat → Int32} {k : Nat} {g : Nat → cc_G4} {fu fp va sp pc sm ce fp' va' pc' ce' : Nat → Int32}
theorem cc_adv (F : cc_FR P U vu pl Z d k g fu fp va sp pc sm ce) {u i j : Nat} {x y : Int32} (hg : g k = (u, i, x, y)) (h16 : j ≤ 16) (hfp : fp' k = nI (pl u j)) (hfo : ∀ f, f < k → fp' f = fp f) (hpc : pc' k = nI j) (hpo : ∀ f, f < k → pc' f = pc f)
    (hva : ∀ f, f < k → ∀ v, v < 4 → va' (f * 4 + v) = va (f * 4 + v)) (hce : ∀ f, f < k → ∀ v, v < 4 → ce' (f * 4 + v) = ce (f * 4 + v)) (hcv : ∀ v, v < 4 → ce' (k * 4 + v) = va' (k * 4 + v)) (ht : cc_q2 P vu (u, j, x, y) k va') :
    cc_FR P U vu pl Z d k (cc_ug g k (u, j, x, y)) fu fp' va' sp pc' sm ce' := by
  obtain ⟨F1, F2, F3, F4⟩ := F
  refine ⟨F1, fun f hf => ?_, by rw [cc_ug_s]; exact ht, fun f hf => ?_⟩
  · by_cases e : f = k
    · subst e
      rw [cc_ug_s]
      have h := F2 f (Nat.le_refl _)
      rw [hg] at h
      obtain ⟨a1, a2, a3, a4, a5, a6, a7, a8, a9, a10⟩ := h
      exact ⟨a1, h16, a3, a4, a5, hfp, a7, hpc, a9, hcv⟩
    · rw [cc_ug_n g _ e]
      have hfk : f < k := by omega
      obtain ⟨a1, a2, a3, a4, a5, a6, a7, a8, a9, a10⟩ := F2 f hf
      exact ⟨a1, a2, a3, a4, a5, (hfo f hfk).trans a6, a7, (hpo f hfk).trans a8, a9, fun j hj => by rw [hva f hfk j hj, hce f hfk j hj]; exact a10 j hj⟩
  · rw [cc_ug_n g _ (by omega)]
    exact cc_q3_cg (F4 f hf) (hva f hf)
theorem cc_p4_n (va : Nat → Int32) (n : Nat) (x y : Int32) {j : Nat} (h : j < n * 4 ∨ n * 4 + 3 < j) : cc_p4 va n x y j = va j := by
  unfold cc_p4
  rw [pk_un (by omega), pk_un (by omega), pk_un (by omega), pk_un (by omega)]
theorem cc_p4_0 (va : Nat → Int32) (n : Nat) (x y : Int32) : cc_p4 va n x y (n * 4 + 0) = x := by
  unfold cc_p4
  rw [pk_un (by omega), pk_un (by omega), pk_un (by omega)]; exact pk_us
theorem cc_p4_1 (va : Nat → Int32) (n : Nat) (x y : Int32) : cc_p4 va n x y (n * 4 + 1) = y := by
  unfold cc_p4
  rw [pk_un (by omega), pk_un (by omega)]; exact pk_us
theorem cc_p4_2 (va : Nat → Int32) (n : Nat) (x y : Int32) : cc_p4 va n x y (n * 4 + 2) = 0 := by
  unfold cc_p4
  rw [pk_un (by omega)]; exact pk_us
theorem cc_p4_3 (va : Nat → Int32) (n : Nat) (x y : Int32) : cc_p4 va n x y (n * 4 + 3) = 0 := pk_us
theorem cc_p4_e (va ce : Nat → Int32) (n : Nat) (x y : Int32) {v : Nat} (hv : v < 4) : cc_p4 ce n x y (n * 4 + v) = cc_p4 va n x y (n * 4 + v) := by
  have : v = 0 ∨ v = 1 ∨ v = 2 ∨ v = 3 := by omega
  rcases this with e | e | e | e
  · subst e; rw [cc_p4_0, cc_p4_0]
  · subst e; rw [cc_p4_1, cc_p4_1]
  · subst e; rw [cc_p4_2, cc_p4_2]
  · subst e; rw [cc_p4_3, cc_p4_3]
theorem cc_p4_hv (P : cc_Pg) (p : Nat) (va : Nat → Int32) (n : Nat) (x y : Int32) : cc_hv P (p * 8 + 0) x y (cc_p4 va n x y) n := by
  intro v hv
  rw [cc_fm_0]
  intro t ht
  cases Option.some.inj ht
  have : v = 0 ∨ v = 1 ∨ v = 2 ∨ v = 3 := by omega
  rcases this with e | e | e | e
  · subst e; rw [cc_p4_0]; show x = 1 * x + 0 * y + 0; grind
  · subst e; rw [cc_p4_1]; show y = 0 * x + 1 * y + 0; grind
  · subst e; rw [cc_p4_2]; show 0 = 0 * x + 0 * y + 0; grind
  · subst e; rw [cc_p4_3]; show 0 = 0 * x + 0 * y + 0; grind
theorem cc_psh (F : cc_FR P U vu pl Z d k g fu fp va sp pc sm ce) {u i u2 : Nat} {x y lx ly : Int32} (hg : g k = (u, i, x, y)) (hk : k + 1 < 16) (h16 : i + 1 ≤ 16) (ht : cc_q3 P vu pl d (u, i + 1, x, y) k va) (hU : U u2) (hgx : cc_gx (vu u2).2 lx ly) (hZ : Z (vu u2).1 lx ly) (hp0 : pl u2 0 = 0) {px : Nat} (hpx : px = pl u (i + 1)) :
    cc_FR P U vu pl Z d (k + 1) (cc_ug (cc_ug g k (u, i + 1, x, y)) (k + 1) (u2, 0, lx, ly)) (upd fu (k + 1) (nI u2)) (upd (upd fp k (nI px)) (k + 1) 0) (cc_p4 va (k + 1) lx ly) (upd sp (k + 1) (nI (vu u2).1)) (upd (upd pc k (nI (i + 1))) (k + 1) 0) (upd sm (k + 1) (cc_cm (vu u2).2)) (cc_p4 ce (k + 1) lx ly) := by
  obtain ⟨F1, F2, F3, F4⟩ := F
  refine ⟨hk, fun f hf => ?_, ?_, fun f hf => ?_⟩
  · by_cases e : f = k + 1
    · subst e
      rw [cc_ug_s]
      refine ⟨hU, by show 0 ≤ 16; omega, hgx, hZ, pk_us, ?_, pk_us, pk_us, pk_us, fun j hj => cc_p4_e va ce (k + 1) lx ly hj⟩
      show _ = nI (pl u2 0)
      rw [hp0]; exact pk_us
    · rw [cc_ug_n _ _ e]
      unfold cc_q1
      rw [pk_un e, pk_un e, pk_un e, pk_un e, pk_un e]
      by_cases e2 : f = k
      · subst e2
        rw [cc_ug_s]
        have h := F2 f (Nat.le_refl _)
        rw [hg] at h
        obtain ⟨a1, a2, a3, a4, a5, a6, a7, a8, a9, a10⟩ := h
        refine ⟨a1, h16, a3, a4, a5, pk_us.trans (by rw [hpx]), a7, pk_us, a9, fun j hj => ?_⟩
        rw [cc_p4_n _ _ _ _ (by omega), cc_p4_n _ _ _ _ (by omega)]; exact a10 j hj
      · rw [cc_ug_n _ _ e2, pk_un e2, pk_un e2]
        obtain ⟨a1, a2, a3, a4, a5, a6, a7, a8, a9, a10⟩ := F2 f (by omega)
        refine ⟨a1, a2, a3, a4, a5, a6, a7, a8, a9, fun j hj => ?_⟩
        rw [cc_p4_n _ _ _ _ (by omega), cc_p4_n _ _ _ _ (by omega)]; exact a10 j hj
  · rw [cc_ug_s]
    exact fun _ => ⟨cc_rc_0 _ _ _, cc_p4_hv P _ va (k + 1) lx ly⟩
  · rw [cc_ug_n _ _ (by omega)]
    refine cc_q3_cg (va := va) ?_ (fun v hv => cc_p4_n _ _ _ _ (by omega))
    by_cases e2 : f = k
    · subst e2; rw [cc_ug_s]; exact ht
    · rw [cc_ug_n _ _ e2]; exact F4 f (by omega)
end
end
section
/-! the run: the simulation -/
section
variable {P : cc_Pg} {p i k : Nat} {x y : Int32} {va : Nat → Int32}
theorem cc_nx (W : cc_wf P) (hp : p < 6) (hi : i < cc_L P p) (r : cc_rc P p (some x, some y) i = true) (k5 : cc_K P (p * 8 + i) ≠ 5) (h : ∀ v, v < 4 → cc_hf (cc_af P (cc_fm P (p * 8 + i)) (p * 8 + i) v) x y (va (k * 4 + v))) :
    i + 1 < cc_L P p → cc_rc P p (some x, some y) (i + 1) = true ∧ cc_hv P (p * 8 + (i + 1)) x y va k := by
  intro h1
  have L8 := W.2.2.1 p hp
  refine ⟨cc_rc_s W hp hi r ?_, fun v hv => cc_hf_or (cc_fm_ft P p v (by omega)) (h v hv)⟩
  rw [cc_sc_n k5]; exact decide_eq_true rfl
theorem cc_gxc (x y : Int32) : cc_gx (some x, some y) x y := ⟨fun _ h => Option.some.inj h, fun _ h => Option.some.inj h⟩
theorem cc_nx5 (W : cc_wf P) (hp : p < 6) (hi : i < cc_L P p) (r : cc_rc P p (some x, some y) i = true) (k5 : cc_K P (p * 8 + i) = 5) (h : cc_hv P (p * 8 + i) x y va k) (hne : ¬ va (k * 4 + cc_S P (p * 8 + i)) = cc_A P (p * 8 + i)) :
    i + 1 < cc_L P p → cc_rc P p (some x, some y) (i + 1) = true ∧ cc_hv P (p * 8 + (i + 1)) x y va k := by
  intro h1
  have L8 := W.2.2.1 p hp
  have w := W.2.2.2 p i hp hi
  refine ⟨cc_rc_s W hp hi r ?_, fun v hv => cc_hf_or (cc_fm_ft P p v (by omega)) ?_⟩
  · cases e : cc_ev (cc_fm P (p * 8 + i) (cc_S P (p * 8 + i))) (some x, some y) with
    | none => rw [cc_sc_u k5 e, decide_eq_true rfl]; rfl
    | some z =>
      have ez := cc_hf_ev (h _ w.2.2.1) (cc_gxc x y) e
      rw [cc_sc_f k5 e (by rw [← ez]; exact hne)]; exact decide_eq_true rfl
  · have : cc_af P (cc_fm P (p * 8 + i)) (p * 8 + i) v = cc_fm P (p * 8 + i) v := by unfold cc_af; rw [if_neg (fun z => z.1 k5)]
    rw [this]; exact h v hv
theorem cc_nxG (W : cc_wf P) (hp : p < 6) (hi : i < cc_L P p) (r : cc_rc P p (some x, some y) i = true) (k5 : cc_K P (p * 8 + i) = 5) (h : cc_hv P (p * 8 + i) x y va k) (hne : va (k * 4 + cc_S P (p * 8 + i)) = cc_A P (p * 8 + i)) :
    cc_G P (p * 8 + i) < cc_L P p → cc_rc P p (some x, some y) (cc_G P (p * 8 + i)) = true ∧ cc_hv P (p * 8 + cc_G P (p * 8 + i)) x y va k := by
  intro h1
  have L8 := W.2.2.1 p hp
  have w := W.2.2.2 p i hp hi
  obtain ⟨G1, G2, -⟩ := w.2.2.2.2.2 k5
  refine ⟨cc_rc_s W hp hi r ?_, fun v hv => cc_hf_or (cc_fm_sk P p v (by omega) (by omega) k5 rfl) (h v hv)⟩
  cases e : cc_ev (cc_fm P (p * 8 + i) (cc_S P (p * 8 + i))) (some x, some y) with
  | none => rw [cc_sc_u k5 e, decide_eq_true (show cc_G P (p * 8 + i) = cc_G P (p * 8 + i) from rfl), Bool.or_true]
  | some z =>
    have ez := cc_hf_ev (h _ w.2.2.1) (cc_gxc x y) e
    rw [hne] at ez
    rw [← ez] at e
    rw [cc_sc_t k5 e]; exact decide_eq_true rfl
/-- the result of a statement that writes fits its form -/
theorem cc_ex_hf {m : Nat} {l r : Int32} (k4 : cc_K P m ≤ 4) (hl : cc_hf (cc_fm P m (cc_S P m)) x y l) (hr : cc_hf (cc_fm P m (cc_T P m)) x y r) : cc_hf (cc_tf P (cc_fm P m) m) x y (cc_ex P m l r) := by
  unfold cc_tf cc_ex
  by_cases e : cc_K P m = 4
  · rw [if_pos e, if_pos e]; exact cc_ln_s hl
  · rw [if_neg e, if_neg e, if_neg (by omega)]; exact cc_bd_s hl hr
end
section
variable {f_LIN f_SKIP f_CALL f_OUT f_JUMP f_RUNNING f_FIRST_VERSION f_MAX_VERSIONS f_procedures f_length f_calls f_depth f_openProc f_analysed f_built f_builtCount f_builtTotal f_workTop f_ctxMask f_ctxX f_ctxY f_argMask f_argX f_argY f_candCount f_candTotal f_overflow f_frames f_outCount f_entryCount : Int32} {a_kind a_d a_s a_t a_a a_b a_unitLen a_unitProc a_unitMask a_unitX a_unitY a_unitSize a_splitNow a_callSites a_opaque a_form0 a_form1 a_formB a_met a_fact a_factValue a_work a_waiting a_trial a_candProc a_candMask a_candX a_candY a_candSize a_place a_frameUnit a_framePc a_vars a_outputs a_entryProc a_entryX a_entryY a_entryMask : Nat → Int32}
variable {g_procs g_limit g_calls g_depth g_cur g_ok g_c0 g_c1 g_cb g_vn g_built g_chosen g_top g_outs g_entries : Int32} {b_len b_kind b_sd b_ss b_st b_sa b_sb b_fk b_f0 b_f1 b_fb b_fact b_factv b_reach b_vp b_vm b_vx b_vy b_sp b_pc b_sm b_cell b_outList b_entryList : Nat → Int32}
theorem sm_main {P : cc_Pg} (W : cc_wf P) {U : Nat → Prop} {vu : Nat → cc_V} {pl : Nat → Nat → Nat} {ln : Nat → Nat} {cf : Nat → cc_Cx → cc_Cx} {Z : Nat → Int32 → Int32 → Prop} (SM : cc_SM P U vu pl ln cf Z a_kind a_d a_s a_t a_a a_b a_unitLen a_unitProc a_unitMask)
    (hL : ∀ p, p < 6 → b_len p = nI (cc_L P p)) (y : cc_yc P b_kind b_sd b_ss b_st b_sa b_sb) {cal dep : Nat} (hcal : cal ≤ 64) (hdep : dep ≤ 16) {md : Int32}
    (hm1 : md = 1 → ∀ (p i : Nat) (c : cc_Cx), p < cc_N P → i < cc_L P p → cc_K P (p * 8 + i) = 6 → ∀ (tp os es : Int32) (sp pc sm ce ol el : Nat → Int32) (R : Int32 → Prop), R (cc_cm (cf (p * 8 + i) c)) → wpY_into R (g_procs, g_limit, (nI cal), (nI dep), g_cur, g_ok, g_c0, g_c1, g_cb, g_vn, g_built, g_chosen, tp, os, es, b_len, b_kind, b_sd, b_ss, b_st, b_sa, b_sb, b_fk, b_f0, b_f1, b_fb, b_fact, b_factv, b_reach, b_vp, b_vm, b_vx, b_vy, sp, pc, sm, ce, ol, el) (nI (p * 8 + i)) (cc_cm c) g_chosen)
    (hm0 : ¬ md = 1 → ∀ m c, cc_cm (cf m c) = 0) :
    ∀ (M k : Nat) (g : Nat → cc_G4) (oc ec : Nat) (fu fp va ou ep ex ey em sp pc sm ce ol el : Nat → Int32), (64 - ec) * 9 + cc_ps g (k + 1) ≤ M → cc_FR P U vu pl Z a_d k g fu fp va sp pc sm ce → cc_LR oc ec ou ep ex ey em ol el → oc ≤ 16 → ec ≤ 64 →
      ∃ (r fr' : Int32) (oc' ec' : Nat) (fu' fp' va' ou' ep' ex' ey' em' : Nat → Int32) (tp' : Int32) (sp' pc' sm' ce' ol' el' : Nat → Int32), oc' ≤ 16 ∧ ec' ≤ 64 ∧ cc_LR oc' ec' ou' ep' ex' ey' em' ol' el' ∧ (∀ (post : Int32 → SX → Prop) (nn x5 : Nat), M < nn → x5 + M ≤ 639 → post r (f_LIN, f_SKIP, f_CALL, f_OUT, f_JUMP, f_RUNNING, f_FIRST_VERSION, f_MAX_VERSIONS, f_procedures, f_length, (nI cal), (nI dep), f_openProc, f_analysed, f_built, f_builtCount, f_builtTotal, f_workTop, f_ctxMask, f_ctxX, f_ctxY, f_argMask, f_argX, f_argY, f_candCount, f_candTotal, f_overflow, fr', (nI oc'), (nI ec'), a_kind, a_d, a_s, a_t, a_a, a_b, a_unitLen, a_unitProc, a_unitMask, a_unitX, a_unitY, a_unitSize, a_splitNow, a_callSites, a_opaque, a_form0, a_form1, a_formB, a_met, a_fact, a_factValue, a_work, a_waiting, a_trial, a_candProc, a_candMask, a_candX, a_candY, a_candSize, a_place, fu', fp', va', ou', ep', ex', ey', em') → wX_run_64 post nn (-1) (nI x5) f_LIN f_SKIP f_CALL f_OUT f_JUMP f_RUNNING f_FIRST_VERSION f_MAX_VERSIONS f_procedures f_length (nI cal) (nI dep) f_openProc f_analysed f_built f_builtCount f_builtTotal f_workTop f_ctxMask f_ctxX f_ctxY f_argMask f_argX f_argY f_candCount f_candTotal f_overflow (nI (k + 1)) (nI oc) (nI ec) a_kind a_d a_s a_t a_a a_b a_unitLen a_unitProc a_unitMask a_unitX a_unitY a_unitSize a_splitNow a_callSites a_opaque a_form0 a_form1 a_formB a_met a_fact a_factValue a_work a_waiting a_trial a_candProc a_candMask a_candX a_candY a_candSize a_place fu fp va ou ep ex ey em) ∧ (∀ (post : Int32 → SY → Prop) (nn x4 : Nat), M < nn → x4 + M ≤ 999 → post r (g_procs, g_limit, (nI cal), (nI dep), g_cur, g_ok, g_c0, g_c1, g_cb, g_vn, g_built, g_chosen, tp', (nI oc'), (nI ec'), b_len, b_kind, b_sd, b_ss, b_st, b_sa, b_sb, b_fk, b_f0, b_f1, b_fb, b_fact, b_factv, b_reach, b_vp, b_vm, b_vx, b_vy, sp', pc', sm', ce', ol', el') → wY_run_53 post md nn (nI x4) g_procs g_limit (nI cal) (nI dep) g_cur g_ok g_c0 g_c1 g_cb g_vn g_built g_chosen (nI k) (nI oc) (nI ec) b_len b_kind b_sd b_ss b_st b_sa b_sb b_fk b_f0 b_f1 b_fb b_fact b_factv b_reach b_vp b_vm b_vx b_vy sp pc sm ce ol el) := by
  obtain ⟨SM1, SM2⟩ := SM
  have N6 := W.2.1
  intro M
  induction M with
  | zero =>
    intro k g oc ec fu fp va ou ep ex ey em sp pc sm ce ol el hM
    rw [cc_ps] at hM
    have := cc_tm_1 (g k).2.1
    omega
  | succ M ih =>
    intro k g oc ec fu fp va ou ep ex ey em sp pc sm ce ol el hM F lr ho hec
    obtain ⟨F1, F2, F3, F4⟩ := id F
    rcases hg : g k with ⟨u, i, x, yy⟩
    rcases hv : vu u with ⟨p, c⟩
    have fk : U u ∧ i ≤ 16 ∧ cc_gx c x yy ∧ Z p x yy ∧ fu k = nI u ∧ fp k = nI (pl u i) ∧ sp k = nI p ∧ pc k = nI i ∧ sm k = cc_cm c ∧ ∀ j, j < 4 → ce (k * 4 + j) = va (k * 4 + j) := by
      have h := F2 k (Nat.le_refl _)
      rw [hg] at h; unfold cc_q1 at h; dsimp only at h; rw [hv] at h; exact h
    have top : i < cc_L P p → cc_rc P p (some x, some yy) i = true ∧ cc_hv P (p * 8 + i) x yy va k := by
      have h := F3
      rw [hg] at h; unfold cc_q2 at h; dsimp only at h; rw [hv] at h; exact h
    obtain ⟨hU, h16, hgx, hZ, b1, b2, b3, b4, b5, b6⟩ := fk
    have su := SM1 u hU
    rw [hv] at su
    dsimp only at su
    obtain ⟨u22, pN, up1, um1, ul1, ln8, pl0, pl16, plL, slots⟩ := su
    have p6 : p < 6 := by omega
    have L8 := W.2.2.1 p p6
    rw [cc_ps, hg] at hM
    dsimp only at hM
    by_cases hi : i < cc_L P p
    · obtain ⟨rcc, hvv⟩ := top hi
      have rcv : cc_rc P p c i = true := cc_rc_mono (cc_cle_gx hgx) rcc
      have w := W.2.2.2 p i p6 hi
      have y1 := y p i p6 hi
      have wS := w.2.2.1
      have wT := w.2.2.2.1
      have eS := b6 _ wS
      have eT := b6 _ wT
      have adv : ∀ (j : Nat) (fp2 va2 ce2 ou2 ol2 : Nat → Int32) (oc2 : Nat), j ≤ 16 → i < j → fp2 k = nI (pl u j) → (∀ f, f < k → fp2 f = fp f) → (∀ f, f < k → ∀ v, v < 4 → va2 (f * 4 + v) = va (f * 4 + v)) → (∀ f, f < k → ∀ v, v < 4 → ce2 (f * 4 + v) = ce (f * 4 + v)) → (∀ v, v < 4 → ce2 (k * 4 + v) = va2 (k * 4 + v)) →
          (j < cc_L P p → cc_rc P p (some x, some yy) j = true ∧ cc_hv P (p * 8 + j) x yy va2 k) → cc_LR oc2 ec ou2 ep ex ey em ol2 el → oc2 ≤ 16 →
          ∃ (r fr' : Int32) (oc' ec' : Nat) (fu' fp' va' ou' ep' ex' ey' em' : Nat → Int32) (tp' : Int32) (sp' pc' sm' ce' ol' el' : Nat → Int32), oc' ≤ 16 ∧ ec' ≤ 64 ∧ cc_LR oc' ec' ou' ep' ex' ey' em' ol' el' ∧ (∀ (post : Int32 → SX → Prop) (nn x5 : Nat), M < nn → x5 + M ≤ 639 → post r (f_LIN, f_SKIP, f_CALL, f_OUT, f_JUMP, f_RUNNING, f_FIRST_VERSION, f_MAX_VERSIONS, f_procedures, f_length, (nI cal), (nI dep), f_openProc, f_analysed, f_built, f_builtCount, f_builtTotal, f_workTop, f_ctxMask, f_ctxX, f_ctxY, f_argMask, f_argX, f_argY, f_candCount, f_candTotal, f_overflow, fr', (nI oc'), (nI ec'), a_kind, a_d, a_s, a_t, a_a, a_b, a_unitLen, a_unitProc, a_unitMask, a_unitX, a_unitY, a_unitSize, a_splitNow, a_callSites, a_opaque, a_form0, a_form1, a_formB, a_met, a_fact, a_factValue, a_work, a_waiting, a_trial, a_candProc, a_candMask, a_candX, a_candY, a_candSize, a_place, fu', fp', va', ou', ep', ex', ey', em') → wX_run_64 post nn (-1) (nI x5) f_LIN f_SKIP f_CALL f_OUT f_JUMP f_RUNNING f_FIRST_VERSION f_MAX_VERSIONS f_procedures f_length (nI cal) (nI dep) f_openProc f_analysed f_built f_builtCount f_builtTotal f_workTop f_ctxMask f_ctxX f_ctxY f_argMask f_argX f_argY f_candCount f_candTotal f_overflow (nI (k + 1)) (nI oc2) (nI ec) a_kind a_d a_s a_t a_a a_b a_unitLen a_unitProc a_unitMask a_unitX a_unitY a_unitSize a_splitNow a_callSites a_opaque a_form0 a_form1 a_formB a_met a_fact a_factValue a_work a_waiting a_trial a_candProc a_candMask a_candX a_candY a_candSize a_place fu fp2 va2 ou2 ep ex ey em) ∧ (∀ (post : Int32 → SY → Prop) (nn x4 : Nat), M < nn → x4 + M ≤ 999 → post r (g_procs, g_limit, (nI cal), (nI dep), g_cur, g_ok, g_c0, g_c1, g_cb, g_vn, g_built, g_chosen, tp', (nI oc'), (nI ec'), b_len, b_kind, b_sd, b_ss, b_st, b_sa, b_sb, b_fk, b_f0, b_f1, b_fb, b_fact, b_factv, b_reach, b_vp, b_vm, b_vx, b_vy, sp', pc', sm', ce', ol', el') → wY_run_53 post md nn (nI x4) g_procs g_limit (nI cal) (nI dep) g_cur g_ok g_c0 g_c1 g_cb g_vn g_built g_chosen (nI k) (nI oc2) (nI ec) b_len b_kind b_sd b_ss b_st b_sa b_sb b_fk b_f0 b_f1 b_fb b_fact b_factv b_reach b_vp b_vm b_vx b_vy sp (upd pc k (nI j)) sm ce2 ol2 el) := by
        intro j fp2 va2 ce2 ou2 ol2 oc2 j16 ij hfp hfo hva hce hcv ht lr' ho'
        refine ih k (cc_ug g k (u, j, x, yy)) oc2 ec fu fp2 va2 ou2 ep ex ey em sp (upd pc k (nI j)) sm ce2 ol2 el ?_ (cc_adv F hg j16 hfp hfo pk_us (fun f hf => pk_un (by omega)) hva hce hcv ?_) lr' ho' hec
        · rw [cc_ps_u]
          have := cc_tm_s (show i < 8 by omega) ij
          dsimp only
          omega
        · unfold cc_q2; dsimp only; rw [hv]; exact ht
      rcases slots i hi rcv with ⟨sl1, sl2, sl3⟩ | ⟨nt, sl2⟩
      · obtain ⟨s1, s2, s3, s4, s5, s6⟩ := sl3
        have fo : ∀ z, ∀ f, f < k → upd fp k z f = fp f := fun z f hf => pk_un (by omega)
        by_cases k4 : cc_K P (p * 8 + i) ≤ 4
        · have hfz := cc_ex_hf (P := P) k4 (hvv _ wS) (hvv _ wT)
          have wD := w.2.1
          generalize hz : cc_ex P (p * 8 + i) (va (k * 4 + cc_S P (p * 8 + i))) (va (k * 4 + cc_T P (p * 8 + i))) = z at hfz
          have hz' : z = cc_ex P (p * 8 + i) (ce (k * 4 + cc_S P (p * 8 + i))) (ce (k * 4 + cc_T P (p * 8 + i))) := by rw [eS, eT]; exact hz.symm
          have O := adv (i + 1) (upd fp k (nI (pl u i + 1))) (upd va (k * 4 + cc_D P (p * 8 + i)) z) (upd ce (k * 4 + cc_D P (p * 8 + i)) z) ou ol oc (by omega) (by omega) (by rw [sl2]; exact pk_us) (fo _) (fun f hf v hv' => pk_un (by omega)) (fun f hf v hv' => pk_un (by omega)) (fun v hv' => by
              by_cases ev : v = cc_D P (p * 8 + i)
              · subst ev; exact pk_us.trans pk_us.symm
              · rw [pk_un (by omega), pk_un (by omega)]; exact b6 v hv') (cc_nx W p6 hi rcc (by omega) (fun v hv' => by
              unfold cc_af
              by_cases ev : v = cc_D P (p * 8 + i)
              · rw [if_pos ⟨by omega, by omega, ev⟩, ev, pk_us]; exact hfz
              · rw [if_neg (fun q => ev q.2.2), pk_un (by omega)]; exact hvv v hv')) lr ho
          rcases s2 k4 with ⟨w0, ew, c1, c2, c3, c4, c5⟩ | ⟨c1, c2, c3, c4, c5⟩
          · refine st_A W p6 (hL p p6) hi y1 b3 b4 (u := u) (pcx := pl u i) (ln := ln u) (S := 0) (T := 0) ⟨F1, u22, b1, b2, ul1, sl1, ln8, c2, c3, by omega, by omega⟩ s1 k4 hz' (Or.inl ⟨c1, ?_⟩) O
            have ezw := cc_hf_ev hfz hgx ew
            rw [c4, c5, ezw, cc_mul0]; exact Int32.zero_add _
          · refine st_A W p6 (hL p p6) hi y1 b3 b4 (u := u) (pcx := pl u i) (ln := ln u) (S := cc_S P (p * 8 + i)) (T := cc_T P (p * 8 + i)) ⟨F1, u22, b1, b2, ul1, sl1, ln8, c2, c3, wS, wT⟩ s1 k4 hz' ?_ O
            by_cases e4 : cc_K P (p * 8 + i) = 4
            · left
              rw [c1, c4, c5, e4]
              refine ⟨rfl, ?_⟩
              rw [← hz]; unfold cc_ex; rw [if_pos e4]
            · right
              refine ⟨cc_K P (p * 8 + i), by omega, c1, ?_⟩
              rw [← hz]; unfold cc_ex; rw [if_neg e4]
        · obtain ⟨c2, c3⟩ := s3 (by omega)
          have H : cc_xh k u (pl u i) (ln u) (cc_S P (p * 8 + i)) (cc_T P (p * 8 + i)) fu fp a_unitLen a_s a_t := ⟨F1, u22, b1, b2, ul1, sl1, ln8, c2, c3, wS, wT⟩
          have stay : ∀ (j : Nat) (ou2 ol2 : Nat → Int32) (oc2 : Nat), j ≤ 16 → i < j → (j < cc_L P p → cc_rc P p (some x, some yy) j = true ∧ cc_hv P (p * 8 + j) x yy va k) → cc_LR oc2 ec ou2 ep ex ey em ol2 el → oc2 ≤ 16 →
              ∃ (r fr' : Int32) (oc' ec' : Nat) (fu' fp' va' ou' ep' ex' ey' em' : Nat → Int32) (tp' : Int32) (sp' pc' sm' ce' ol' el' : Nat → Int32), oc' ≤ 16 ∧ ec' ≤ 64 ∧ cc_LR oc' ec' ou' ep' ex' ey' em' ol' el' ∧ (∀ (post : Int32 → SX → Prop) (nn x5 : Nat), M < nn → x5 + M ≤ 639 → post r (f_LIN, f_SKIP, f_CALL, f_OUT, f_JUMP, f_RUNNING, f_FIRST_VERSION, f_MAX_VERSIONS, f_procedures, f_length, (nI cal), (nI dep), f_openProc, f_analysed, f_built, f_builtCount, f_builtTotal, f_workTop, f_ctxMask, f_ctxX, f_ctxY, f_argMask, f_argX, f_argY, f_candCount, f_candTotal, f_overflow, fr', (nI oc'), (nI ec'), a_kind, a_d, a_s, a_t, a_a, a_b, a_unitLen, a_unitProc, a_unitMask, a_unitX, a_unitY, a_unitSize, a_splitNow, a_callSites, a_opaque, a_form0, a_form1, a_formB, a_met, a_fact, a_factValue, a_work, a_waiting, a_trial, a_candProc, a_candMask, a_candX, a_candY, a_candSize, a_place, fu', fp', va', ou', ep', ex', ey', em') → wX_run_64 post nn (-1) (nI x5) f_LIN f_SKIP f_CALL f_OUT f_JUMP f_RUNNING f_FIRST_VERSION f_MAX_VERSIONS f_procedures f_length (nI cal) (nI dep) f_openProc f_analysed f_built f_builtCount f_builtTotal f_workTop f_ctxMask f_ctxX f_ctxY f_argMask f_argX f_argY f_candCount f_candTotal f_overflow (nI (k + 1)) (nI oc2) (nI ec) a_kind a_d a_s a_t a_a a_b a_unitLen a_unitProc a_unitMask a_unitX a_unitY a_unitSize a_splitNow a_callSites a_opaque a_form0 a_form1 a_formB a_met a_fact a_factValue a_work a_waiting a_trial a_candProc a_candMask a_candX a_candY a_candSize a_place fu (upd fp k (nI (pl u j))) va ou2 ep ex ey em) ∧ (∀ (post : Int32 → SY → Prop) (nn x4 : Nat), M < nn → x4 + M ≤ 999 → post r (g_procs, g_limit, (nI cal), (nI dep), g_cur, g_ok, g_c0, g_c1, g_cb, g_vn, g_built, g_chosen, tp', (nI oc'), (nI ec'), b_len, b_kind, b_sd, b_ss, b_st, b_sa, b_sb, b_fk, b_f0, b_f1, b_fb, b_fact, b_factv, b_reach, b_vp, b_vm, b_vx, b_vy, sp', pc', sm', ce', ol', el') → wY_run_53 post md nn (nI x4) g_procs g_limit (nI cal) (nI dep) g_cur g_ok g_c0 g_c1 g_cb g_vn g_built g_chosen (nI k) (nI oc2) (nI ec) b_len b_kind b_sd b_ss b_st b_sa b_sb b_fk b_f0 b_f1 b_fb b_fact b_factv b_reach b_vp b_vm b_vx b_vy sp (upd pc k (nI j)) sm ce ol2 el) :=
            fun j ou2 ol2 oc2 h1 h2 h3 h4 h5 => adv j _ va ce ou2 ol2 oc2 h1 h2 pk_us (fo _) (fun _ _ _ _ => rfl) (fun _ _ _ _ => rfl) b6 h3 h4 h5
          have w7 := w.1
          by_cases k5 : cc_K P (p * 8 + i) = 5
          · obtain ⟨G1, G2, G3⟩ := w.2.2.2.2.2 k5
            obtain ⟨d1, d2, d3⟩ := s4 k5
            by_cases hA : va (k * 4 + cc_S P (p * 8 + i)) = cc_A P (p * 8 + i)
            · refine st_S1 W p6 (hL p p6) hi y1 b3 b4 H k5 (eS.trans hA) ?_ d2 (stay (cc_G P (p * 8 + i)) ou ol oc (by omega) (by omega) (cc_nxG W p6 hi rcc k5 hvv hA) lr ho)
              rcases d3 with d3 | d3
              · exact Or.inl ⟨d3, hA.trans d1.symm⟩
              · exact Or.inr d3.1
            · have O := stay (i + 1) ou ol oc (by omega) (by omega) (cc_nx5 W p6 hi rcc k5 hvv hA) lr ho
              rw [sl2] at O
              refine st_S0 W p6 (hL p p6) hi y1 b3 b4 H k5 (fun q => hA (eS.symm.trans q)) ?_ (fun q => hA (q.trans d1)) O
              rcases d3 with d3 | d3
              · exact d3
              · exact absurd (cc_hf_ev (hvv _ wS) hgx d3.2) hA
          · have afe : ∀ v, v < 4 → cc_K P (p * 8 + i) = 7 → cc_hf (cc_af P (cc_fm P (p * 8 + i)) (p * 8 + i) v) x yy (va (k * 4 + v)) := by
              intro v hv' e7
              unfold cc_af; rw [if_neg (fun q => q.2.1 e7)]; exact hvv v hv'
            by_cases k7 : cc_K P (p * 8 + i) = 7
            · by_cases o16 : oc < 16
              · have O := stay (i + 1) (upd ou oc (va (k * 4 + cc_S P (p * 8 + i)))) (upd ol oc (va (k * 4 + cc_S P (p * 8 + i)))) (oc + 1) (by omega) (by omega) (cc_nx W p6 hi rcc k5 (fun v hv' => afe v hv' k7)) (cc_LR_o lr) (by omega)
                rw [sl2] at O
                exact st_O1 W p6 (hL p p6) hi y1 b3 b4 H o16 k7 eS (s6 k7) rfl O
              · exact st_O0 W p6 (hL p p6) hi y1 b3 b4 H o16 ho hec lr k7 (s6 k7)
            · have k6 : cc_K P (p * 8 + i) = 6 := by omega
              obtain ⟨d1, u2, d2, hU2, hv2⟩ := s5 k6
              obtain ⟨hQ, hA⟩ := w.2.2.2.2.1 k6
              have su2 := SM1 u2 hU2
              rw [hv2] at su2
              dsimp only at su2
              obtain ⟨u222, pN2, up2, um2, ul2, ln82, pl02, -⟩ := su2
              obtain ⟨g2, Z2⟩ := SM2 p i c x yy _ _ pN hi k6 rcc hgx hZ (hvv _ wS) (hvv _ wT)
              have hm1' : md = 1 → ∀ (es : Nat) (R : Int32 → Prop), R (cc_cm (cf (p * 8 + i) c)) → wpY_into R (g_procs, g_limit, (nI cal), (nI dep), g_cur, g_ok, g_c0, g_c1, g_cb, g_vn, g_built, g_chosen, (nI k), (nI oc), (nI es), b_len, b_kind, b_sd, b_ss, b_st, b_sa, b_sb, b_fk, b_f0, b_f1, b_fb, b_fact, b_factv, b_reach, b_vp, b_vm, b_vx, b_vy, sp, (upd pc k (nI (i + 1))), sm, ce, ol, el) (nI (p * 8 + i)) (sm k) g_chosen := by
                intro m1 es R hR
                rw [b5]
                exact hm1 m1 p i c pN hi k6 _ _ _ _ _ _ _ _ _ R hR
              by_cases c1 : ec < cal
              · by_cases c2' : k + 1 < dep
                · refine st_C1 W p6 (hL p p6) hi y1 b3 b4 H hec hcal hdep k6 hm1' (fun q => hm0 q _ _) d1 d2 u222 c1 c2' eS eT rfl rfl up2 um2 ?_
                  have psh := cc_psh (px := pl u i + 1) (lx := va (k * 4 + cc_S P (p * 8 + i))) (ly := va (k * 4 + cc_T P (p * 8 + i))) F hg (show k + 1 < 16 by omega) (by omega) ?_ hU2 (by rw [hv2]; exact g2) (by rw [hv2]; exact Z2) pl02 sl2.symm
                  · rw [hv2] at psh
                    dsimp only at psh
                    refine ih (k + 1) _ oc (ec + 1) _ _ _ _ _ _ _ _ _ _ _ _ _ _ ?_ psh (cc_LR_e lr) ho (by omega)
                    rw [cc_ps_u, cc_ps_u]
                    have := cc_tm_s (show i < 8 by omega) (show i < i + 1 by omega)
                    dsimp only
                    rw [cc_tm_0]
                    omega
                  · unfold cc_q3
                    dsimp only
                    rw [hv]
                    exact ⟨i, rfl, hi, k6, rcc, hvv, by omega, sl2, s1⟩
                · exact st_C2 W p6 (hL p p6) hi y1 b3 b4 H hec hcal hdep k6 hm1' (fun q => hm0 q _ _) d1 d2 u222 lr ho c1 c2'
              · exact st_C3 W p6 (hL p p6) hi y1 b3 b4 H hec hcal hdep k6 hm1' (fun q => hm0 q _ _) d1 d2 u222 lr ho c1
      · obtain ⟨k5, wv, ew, hw⟩ := cc_nt_t nt
        have hA : ¬ va (k * 4 + cc_S P (p * 8 + i)) = cc_A P (p * 8 + i) := by
          rw [cc_hf_ev (hvv _ wS) hgx ew]; exact hw
        exact st_D W p6 (hL p p6) hi y1 b3 b4 F1 k5 (fun q => hA (eS.symm.trans q)) (adv (i + 1) fp va ce ou ol oc (by omega) (by omega) (by rw [sl2]; exact b2) (fun _ _ => rfl) (fun _ _ _ _ => rfl) (fun _ _ _ _ => rfl) b6 (cc_nx5 W p6 hi rcc k5 hvv hA) lr ho)
    · have hiL : cc_L P p ≤ i := by omega
      cases k with
      | zero => exact st_L0 p6 (hL p p6) hiL h16 u22 (plL i hiL h16) (pl16 i h16) ul1 b3 b4 b1 b2 ho hec lr
      | succ k =>
        rcases hg2 : g k with ⟨u2, j2, x2, y2⟩
        rcases hv2 : vu u2 with ⟨q, c2⟩
        have f3 : ∃ j, j2 = j + 1 ∧ j < cc_L P q ∧ cc_K P (q * 8 + j) = 6 ∧ cc_rc P q (some x2, some y2) j = true ∧ cc_hv P (q * 8 + j) x2 y2 va k ∧ pl u2 j < 8 ∧ pl u2 (j + 1) = pl u2 j + 1 ∧ a_d (u2 * 8 + pl u2 j) = nI (cc_D P (q * 8 + j)) := by
          have h := F4 k (by omega)
          rw [hg2] at h; unfold cc_q3 at h; dsimp only at h; rw [hv2] at h; exact h
        have fk2 : U u2 ∧ j2 ≤ 16 ∧ cc_gx c2 x2 y2 ∧ Z q x2 y2 ∧ fu k = nI u2 ∧ fp k = nI (pl u2 j2) ∧ sp k = nI q ∧ pc k = nI j2 ∧ sm k = cc_cm c2 ∧ ∀ j, j < 4 → ce (k * 4 + j) = va (k * 4 + j) := by
          have h := F2 k (by omega)
          rw [hg2] at h; unfold cc_q1 at h; dsimp only at h; rw [hv2] at h; exact h
        obtain ⟨j, ej, hj, k6, rj, hvj, pj8, pj1, dj⟩ := f3
        subst ej
        obtain ⟨hU2, j16, gx2, Z2, a1, a2, a3, a4, a5, a6⟩ := fk2
        have su2 := SM1 u2 hU2
        rw [hv2] at su2
        dsimp only at su2
        have q6 : q < 6 := by have := su2.2.1; omega
        have Lq8 := W.2.2.1 q q6
        have wq := W.2.2.2 q j q6 hj
        have wD := wq.2.1
        have yq := y q j q6 hj
        have e3 := b6 3 (by omega)
        generalize hz : va ((k + 1) * 4 + 3) = z at e3
        refine st_L1 p6 (hL p p6) hiL h16 u22 (plL i hiL h16) (pl16 i h16) ul1 F1 b3 b4 b1 b2 q6 (by omega) a3 a4 yq.1 wD su2.1 pj8 a1 (by rw [a2, pj1]) dj hz e3 ?_
        have ps1 : cc_ps g (k + 1) + 1 ≤ cc_ps g (k + 1) + cc_tm i := by have := cc_tm_1 i; omega
        refine ih k g oc ec fu fp _ ou ep ex ey em sp pc sm _ ol el (by omega) ⟨by omega, fun f hf => ?_, ?_, fun f hf => ?_⟩ lr ho hec
        · obtain ⟨r1, r2, r3, r4, r5, r6, r7, r8, r9, r10⟩ := F2 f (by omega)
          refine ⟨r1, r2, r3, r4, r5, r6, r7, r8, r9, fun v hv' => ?_⟩
          by_cases ef : f * 4 + v = k * 4 + cc_D P (q * 8 + j)
          · rw [ef]; exact pk_us.trans pk_us.symm
          · rw [pk_un ef, pk_un ef]; exact r10 v hv'
        · rw [hg2]
          unfold cc_q2
          dsimp only
          rw [hv2]
          dsimp only
          refine cc_nx W q6 hj rj (by omega) (fun v hv' => ?_)
          unfold cc_af
          by_cases ev : v = cc_D P (q * 8 + j)
          · rw [if_pos ⟨by omega, by omega, ev⟩]
            unfold cc_tf; rw [if_neg (by omega), if_pos (by omega)]; exact cc_hf_n _ _ _
          · rw [if_neg (fun q => ev q.2.2), pk_un (by omega)]; exact hvj v hv'
        · exact cc_q3_cg (F4 f (by omega)) (fun v hv' => pk_un (by omega))
end
end
section
/-! the two modes of a run -/
theorem cc_SM0 {P : cc_Pg} (W : cc_wf P) {kd d s t a b ul up um : Nat → Int32} (x : cc_xc P kd d s t a b) (hul : ∀ p, p < 6 → ul p = nI (cc_L P p)) (hup : ∀ p, p < 6 → up p = nI p) (hum : ∀ p, p < 6 → um p = 0) :
    cc_SM P (fun u => u < cc_N P) (fun u => (u, (none, none))) (fun _ i => i) (cc_L P) (fun _ _ => (none, none)) (fun _ _ _ => True) kd d s t a b ul up um := by
  have N6 := W.2.1
  refine ⟨fun u hu => ?_, fun p i c x y lx ly _ _ _ _ _ _ _ _ => ⟨⟨fun v z => (nomatch z), fun v z => (nomatch z)⟩, trivial⟩⟩
  have u6 : u < 6 := by omega
  have L8 := W.2.2.1 u u6
  refine ⟨by omega, hu, hup u u6, hum u u6, hul u u6, L8, rfl, fun i hi => hi, fun i hi _ => hi, fun i hi _ => Or.inl ⟨hi, rfl, ?_⟩⟩
  dsimp only at hi ⊢
  have w := W.2.2.2 u i u6 hi
  obtain ⟨x1, x2, x3, x4, x5, x6⟩ := x u i u6 hi
  refine ⟨x2, fun _ => Or.inr ⟨x1, x3, x4, x5, x6⟩, fun _ => ⟨x3, x4⟩, fun k5 => ⟨x5, ?_, Or.inl ?_⟩, fun k6 => ⟨?_, cc_Q P (u * 8 + i), ?_, (w.2.2.2.2.1 k6).1, rfl⟩, fun k7 => ?_⟩
  · rw [x6]; exact (w.2.2.2.2.2 k5).2.2
  · rw [x1, k5]; rfl
  · rw [x1, k6]; rfl
  · rw [x5]; exact (w.2.2.2.2.1 k6).2
  · rw [x1, k7]; rfl
/-- facts hold of the arguments -/
def cc_Z1 (F : Nat → cc_Lt) (p : Nat) (x y : Int32) : Prop := F (2 * p) ≠ none ∧ F (2 * p + 1) ≠ none ∧ cc_gx (cc_fc F p) x y
theorem cc_le_v {e : Option Int32} {a : cc_Lt} {v : Int32} (h : cc_le (some e) a) (k : cc_lc a = some v) : e = some v := by
  rcases h with h | h | h
  · exact nomatch h
  · rw [h] at k; exact nomatch k
  · rw [← h] at k; exact k
def cc_vu (l : List cc_V) (u : Nat) : cc_V := (l[u - 6]?).getD (0, (none, none))
theorem cc_SM1 {P : cc_Pg} (W : cc_wf P) {F : Nat → cc_Lt} {ch : Nat → Bool} (hF : cc_cl P F) {kd d s t a b ul up um ux uy uz : Nat → Int32} (hut : ∀ (n : Nat) (v : cc_V), (cc_li P F ch)[n]? = some v → cc_ut P F ch (cc_li P F ch) v (6 + n) kd d s t a b ul up um ux uy uz) :
    cc_SM P (fun u => 6 ≤ u ∧ u < 6 + (cc_li P F ch).length) (cc_vu (cc_li P F ch)) (fun u i => cc_pl P (cc_vu (cc_li P F ch) u) i) (fun u => cc_pl P (cc_vu (cc_li P F ch) u) 8) (cc_ce P F ch) (cc_Z1 F) kd d s t a b ul up um := by
  have N6 := W.2.1
  have l16 : (cc_li P F ch).length ≤ 16 := cc_E_l 16
  refine ⟨fun u hu => ?_, fun p i c x y lx ly hp hi k6 rcc hgx hZ hS hT => ?_⟩
  · obtain ⟨n, rfl⟩ : ∃ n, u = 6 + n := ⟨u - 6, by omega⟩
    have hn : n < (cc_li P F ch).length := by omega
    have ev := List.getElem?_eq_getElem hn
    generalize (cc_li P F ch)[n] = v at ev
    have evu : cc_vu (cc_li P F ch) (6 + n) = v := by
      unfold cc_vu
      rw [show 6 + n - 6 = n by omega, ev]; rfl
    have vN : v.1 < cc_N P := cc_E_p W 16 v (List.mem_of_getElem? ev)
    have v6 : v.1 < 6 := by omega
    have L8 := W.2.2.1 v.1 v6
    obtain ⟨t1, t2, t3, t4, t5, t6, t7⟩ := hut n v ev
    dsimp only
    rw [evu]
    refine ⟨by omega, vN, t1, t2, t6, cc_ct_le _ _, rfl, fun i hi => Nat.le_trans (cc_ct_le _ _) hi, fun i h1 h2 => ?_, fun i hi rci => ?_⟩
    · by_cases h8 : i ≤ 8
      · rw [cc_pl_L W v6 h1 h8]; exact Nat.le_refl _
      · exact cc_ct_up _ i (by omega)
    · have i8 : i < 8 := by omega
      cases q : cc_kp P v.1 v.2 i with
      | false =>
        right
        refine ⟨?_, ?_⟩
        · unfold cc_kp at q
          rw [rci, decide_eq_true hi, Bool.true_and, Bool.true_and] at q
          cases e : cc_nt P (v.1 * 8 + i) v.2 with
          | true => rfl
          | false => rw [e] at q; exact nomatch q
        · show cc_ct _ (i + 1) = cc_ct _ i
          rw [cc_ct, q]; rfl
      | true =>
        left
        obtain ⟨q1, q2, q3⟩ := cc_kp_t q
        have em := t7 i i8 q
        refine ⟨(cc_pl_7 i8 q).1, ?_, ?_⟩
        · show cc_ct _ (i + 1) = cc_ct _ i + 1
          rw [cc_ct, q]; rfl
        · obtain ⟨m1, m2, m3, m4, m5, m6⟩ := em
          refine ⟨m1, fun k4 => ?_, m3, fun k5 => ⟨(m4 k5).1, ?_, ?_⟩, fun k6 => ?_, m6⟩
          · obtain ⟨n1, n2⟩ := m2 k4
            cases e : cc_ev (cc_tf P (cc_fm P (v.1 * 8 + i)) (v.1 * 8 + i)) v.2 with
            | some w =>
              obtain ⟨o1, o2, o3, o4, o5⟩ := n1 w e
              exact Or.inl ⟨w, rfl, o1, o2, o3, o4, o5⟩
            | none => exact Or.inr (n2 e)
          · dsimp only; rw [evu]; exact (m4 k5).2.1
          · rcases cc_nt_f q3 k5 with e | e
            · exact Or.inl ((m4 k5).2.2.1 e)
            · exact Or.inr ⟨(m4 k5).2.2.2 (by rw [e]; exact fun z => nomatch z), e⟩
          · obtain ⟨o1, n', o2, o3⟩ := m5 k6
            have n16 : n' < (cc_li P F ch).length := by
              refine Nat.lt_of_not_le fun y => ?_
              rw [List.getElem?_eq_none y] at o2; exact nomatch o2
            refine ⟨o1, 6 + n', o3, ⟨by omega, by omega⟩, ?_⟩
            unfold cc_vu
            rw [show 6 + n' - 6 = n' by omega, o2]; rfl
  · obtain ⟨z1, z2, z3⟩ := hZ
    have p6 : p < 6 := by omega
    obtain ⟨o1, o2⟩ := hF.2.2.2 p hp z1 i hi k6 (cc_rc_mono (cc_cle_gx z3) rcc)
    have ZQ : cc_Z1 F (cc_Q P (p * 8 + i)) lx ly := by
      refine ⟨cc_le_nn o1 (fun z => nomatch z), cc_le_nn o2 (fun z => nomatch z), fun v hv => ?_, fun v hv => ?_⟩
      · exact cc_hf_ev hS z3 (cc_le_v o1 hv)
      · exact cc_hf_ev hT z3 (cc_le_v o2 hv)
    refine ⟨?_, ZQ⟩
    unfold cc_ce
    by_cases e : ch (cc_Q P (p * 8 + i)) = true
    · rw [if_pos e]
      exact ⟨fun v hv => cc_hf_ev hS hgx hv, fun v hv => cc_hf_ev hT hgx hv⟩
    · rw [if_neg e]; exact ZQ.2.2
section
variable {f_LIN f_SKIP f_CALL f_OUT f_JUMP f_RUNNING f_FIRST_VERSION f_MAX_VERSIONS f_procedures f_length f_calls f_depth f_openProc f_analysed f_built f_builtCount f_builtTotal f_workTop f_ctxMask f_ctxX f_ctxY f_argMask f_argX f_argY f_candCount f_candTotal f_overflow f_frames f_outCount f_entryCount : Int32} {a_kind a_d a_s a_t a_a a_b a_unitLen a_unitProc a_unitMask a_unitX a_unitY a_unitSize a_splitNow a_callSites a_opaque a_form0 a_form1 a_formB a_met a_fact a_factValue a_work a_waiting a_trial a_candProc a_candMask a_candX a_candY a_candSize a_place a_frameUnit a_framePc a_vars a_outputs a_entryProc a_entryX a_entryY a_entryMask : Nat → Int32}
variable {g_procs g_limit g_calls g_depth g_cur g_ok g_c0 g_c1 g_cb g_vn g_built g_chosen g_top g_outs g_entries : Int32} {b_len b_kind b_sd b_ss b_st b_sa b_sb b_fk b_f0 b_f1 b_fb b_fact b_factv b_reach b_vp b_vm b_vx b_vy b_sp b_pc b_sm b_cell b_outList b_entryList : Nat → Int32}
theorem rn_go {P : cc_Pg} (W : cc_wf P) {U : Nat → Prop} {vu : Nat → cc_V} {pl : Nat → Nat → Nat} {ln : Nat → Nat} {cf : Nat → cc_Cx → cc_Cx} {Z : Nat → Int32 → Int32 → Prop} (SM : cc_SM P U vu pl ln cf Z a_kind a_d a_s a_t a_a a_b a_unitLen a_unitProc a_unitMask)
    (hL : ∀ p, p < 6 → b_len p = nI (cc_L P p)) (y : cc_yc P b_kind b_sd b_ss b_st b_sa b_sb) {cal dep : Nat} (hcal : cal ≤ 64) (hdep : dep ≤ 16) {md : Int32}
    (hm1 : md = 1 → ∀ (p i : Nat) (c : cc_Cx), p < cc_N P → i < cc_L P p → cc_K P (p * 8 + i) = 6 → ∀ (tp os es : Int32) (sp pc sm ce ol el : Nat → Int32) (R : Int32 → Prop), R (cc_cm (cf (p * 8 + i) c)) → wpY_into R (g_procs, g_limit, (nI cal), (nI dep), g_cur, g_ok, g_c0, g_c1, g_cb, g_vn, g_built, g_chosen, tp, os, es, b_len, b_kind, b_sd, b_ss, b_st, b_sa, b_sb, b_fk, b_f0, b_f1, b_fb, b_fact, b_factv, b_reach, b_vp, b_vm, b_vx, b_vy, sp, pc, sm, ce, ol, el) (nI (p * 8 + i)) (cc_cm c) g_chosen)
    (hm0 : ¬ md = 1 → ∀ m c, cc_cm (cf m c) = 0) {u0 : Nat} (hu0 : U u0) (hv0 : vu u0 = (0, (none, none))) {vx vy : Int32} (hZ0 : Z 0 vx vy) :
    ∃ (r fr' : Int32) (oc' ec' : Nat) (fu' fp' va' ou' ep' ex' ey' em' : Nat → Int32) (tp' : Int32) (sp' pc' sm' ce' ol' el' : Nat → Int32), oc' ≤ 16 ∧ ec' ≤ 64 ∧ cc_LR oc' ec' ou' ep' ex' ey' em' ol' el' ∧
      (∀ post : Int32 → SX → Prop, post r (f_LIN, f_SKIP, f_CALL, f_OUT, f_JUMP, f_RUNNING, f_FIRST_VERSION, f_MAX_VERSIONS, f_procedures, f_length, (nI cal), (nI dep), f_openProc, f_analysed, f_built, f_builtCount, f_builtTotal, f_workTop, f_ctxMask, f_ctxX, f_ctxY, f_argMask, f_argX, f_argY, f_candCount, f_candTotal, f_overflow, fr', (nI oc'), (nI ec'), a_kind, a_d, a_s, a_t, a_a, a_b, a_unitLen, a_unitProc, a_unitMask, a_unitX, a_unitY, a_unitSize, a_splitNow, a_callSites, a_opaque, a_form0, a_form1, a_formB, a_met, a_fact, a_factValue, a_work, a_waiting, a_trial, a_candProc, a_candMask, a_candX, a_candY, a_candSize, a_place, fu', fp', va', ou', ep', ex', ey', em') → wX_run_53 post vx vy (nI u0) f_LIN f_SKIP f_CALL f_OUT f_JUMP f_RUNNING f_FIRST_VERSION f_MAX_VERSIONS f_procedures f_length (nI cal) (nI dep) f_openProc f_analysed f_built f_builtCount f_builtTotal f_workTop f_ctxMask f_ctxX f_ctxY f_argMask f_argX f_argY f_candCount f_candTotal f_overflow 0 0 0 a_kind a_d a_s a_t a_a a_b a_unitLen a_unitProc a_unitMask a_unitX a_unitY a_unitSize a_splitNow a_callSites a_opaque a_form0 a_form1 a_formB a_met a_fact a_factValue a_work a_waiting a_trial a_candProc a_candMask a_candX a_candY a_candSize a_place a_frameUnit a_framePc a_vars a_outputs a_entryProc a_entryX a_entryY a_entryMask) ∧
      (∀ post : Int32 → SY → Prop, post r (g_procs, g_limit, (nI cal), (nI dep), g_cur, g_ok, g_c0, g_c1, g_cb, g_vn, g_built, g_chosen, tp', (nI oc'), (nI ec'), b_len, b_kind, b_sd, b_ss, b_st, b_sa, b_sb, b_fk, b_f0, b_f1, b_fb, b_fact, b_factv, b_reach, b_vp, b_vm, b_vx, b_vy, sp', pc', sm', ce', ol', el') → wY_run_27 post md vx vy g_procs g_limit (nI cal) (nI dep) g_cur g_ok g_c0 g_c1 g_cb g_vn g_built g_chosen g_top g_outs g_entries b_len b_kind b_sd b_ss b_st b_sa b_sb b_fk b_f0 b_f1 b_fb b_fact b_factv b_reach b_vp b_vm b_vx b_vy b_sp b_pc b_sm b_cell b_outList b_entryList) := by
  have su := SM.1 u0 hu0
  rw [hv0] at su
  obtain ⟨u22, -, up0, um0, -, -, pl0, -⟩ := su
  have F : cc_FR P U vu pl Z a_d 0 (fun _ => (u0, 0, vx, vy)) (upd a_frameUnit 0 (nI u0)) (upd a_framePc 0 0) (cc_p4 a_vars 0 vx vy) (upd b_sp 0 0) (upd b_pc 0 0) (upd b_sm 0 0) (cc_p4 b_cell 0 vx vy) := by
    refine ⟨by omega, fun f hf => ?_, fun _ => ⟨cc_rc_0 _ _ _, cc_p4_hv P _ a_vars 0 vx vy⟩, fun f hf => absurd hf (by omega)⟩
    have e : f = 0 := by omega
    subst e
    unfold cc_q1
    dsimp only
    rw [hv0, pl0]
    exact ⟨hu0, by omega, ⟨fun v z => (nomatch z), fun v z => (nomatch z)⟩, hZ0, pk_us, pk_us, pk_us, pk_us, pk_us, fun j hj => cc_p4_e a_vars b_cell 0 vx vy hj⟩
  have O : ∃ (r fr' : Int32) (oc' ec' : Nat) (fu' fp' va' ou' ep' ex' ey' em' : Nat → Int32) (tp' : Int32) (sp' pc' sm' ce' ol' el' : Nat → Int32), oc' ≤ 16 ∧ ec' ≤ 64 ∧ cc_LR oc' ec' ou' ep' ex' ey' em' ol' el' ∧ (∀ (post : Int32 → SX → Prop) (nn x5 : Nat), 576 < nn → x5 + 576 ≤ 639 → post r (f_LIN, f_SKIP, f_CALL, f_OUT, f_JUMP, f_RUNNING, f_FIRST_VERSION, f_MAX_VERSIONS, f_procedures, f_length, (nI cal), (nI dep), f_openProc, f_analysed, f_built, f_builtCount, f_builtTotal, f_workTop, f_ctxMask, f_ctxX, f_ctxY, f_argMask, f_argX, f_argY, f_candCount, f_candTotal, f_overflow, fr', (nI oc'), (nI ec'), a_kind, a_d, a_s, a_t, a_a, a_b, a_unitLen, a_unitProc, a_unitMask, a_unitX, a_unitY, a_unitSize, a_splitNow, a_callSites, a_opaque, a_form0, a_form1, a_formB, a_met, a_fact, a_factValue, a_work, a_waiting, a_trial, a_candProc, a_candMask, a_candX, a_candY, a_candSize, a_place, fu', fp', va', ou', ep', ex', ey', em') → wX_run_64 post nn (-1) (nI x5) f_LIN f_SKIP f_CALL f_OUT f_JUMP f_RUNNING f_FIRST_VERSION f_MAX_VERSIONS f_procedures f_length (nI cal) (nI dep) f_openProc f_analysed f_built f_builtCount f_builtTotal f_workTop f_ctxMask f_ctxX f_ctxY f_argMask f_argX f_argY f_candCount f_candTotal f_overflow (nI (0 + 1)) (nI 0) (nI 1) a_kind a_d a_s a_t a_a a_b a_unitLen a_unitProc a_unitMask a_unitX a_unitY a_unitSize a_splitNow a_callSites a_opaque a_form0 a_form1 a_formB a_met a_fact a_factValue a_work a_waiting a_trial a_candProc a_candMask a_candX a_candY a_candSize a_place (upd a_frameUnit 0 (nI u0)) (upd a_framePc 0 0) (cc_p4 a_vars 0 vx vy) a_outputs (upd a_entryProc 0 0) (upd a_entryX 0 vx) (upd a_entryY 0 vy) (upd a_entryMask 0 0)) ∧ (∀ (post : Int32 → SY → Prop) (nn x4 : Nat), 576 < nn → x4 + 576 ≤ 999 → post r (g_procs, g_limit, (nI cal), (nI dep), g_cur, g_ok, g_c0, g_c1, g_cb, g_vn, g_built, g_chosen, tp', (nI oc'), (nI ec'), b_len, b_kind, b_sd, b_ss, b_st, b_sa, b_sb, b_fk, b_f0, b_f1, b_fb, b_fact, b_factv, b_reach, b_vp, b_vm, b_vx, b_vy, sp', pc', sm', ce', ol', el') → wY_run_53 post md nn (nI x4) g_procs g_limit (nI cal) (nI dep) g_cur g_ok g_c0 g_c1 g_cb g_vn g_built g_chosen (nI 0) (nI 0) (nI 1) b_len b_kind b_sd b_ss b_st b_sa b_sb b_fk b_f0 b_f1 b_fb b_fact b_factv b_reach b_vp b_vm b_vx b_vy (upd b_sp 0 0) (upd b_pc 0 0) (upd b_sm 0 0) (cc_p4 b_cell 0 vx vy) b_outList (cc_e4 b_entryList 0 0 vx vy 0)) := sm_main (md := md) W SM hL y hcal hdep hm1 hm0 576 0 (fun _ => (u0, 0, vx, vy)) 0 1 (upd a_frameUnit 0 (nI u0)) (upd a_framePc 0 0) (cc_p4 a_vars 0 vx vy) a_outputs (upd a_entryProc 0 0) (upd a_entryX 0 vx) (upd a_entryY 0 vy) (upd a_entryMask 0 0) (upd b_sp 0 0) (upd b_pc 0 0) (upd b_sm 0 0) (cc_p4 b_cell 0 vx vy) b_outList (cc_e4 b_entryList 0 0 vx vy 0) (show (64 - 1) * 9 + (0 + cc_tm 0) ≤ 576 by decide) F (cc_LR_e (ec := 0) ⟨fun j hj => absurd hj (by omega), fun j hj => absurd hj (by omega)⟩) (by omega) (by omega)
  obtain ⟨r, fr', oc', ec', fu', fp', va', ou', ep', ex', ey', em', tp', sp', pc', sm', ce', ol', el', q1, q2, q3, hX, hY⟩ := O
  refine ⟨r, fr', oc', ec', fu', fp', va', ou', ep', ex', ey', em', tp', sp', pc', sm', ce', ol', el', q1, q2, q3, fun post h => ?_, fun post h => ?_⟩
  · refine xw_enter (n := 0) (ec := 0) (by omega) (by omega) u22 ⟨577, ?_⟩
    rw [up0, um0]
    exact hX post 577 0 (by omega) (by omega) h
  · exact yw_enter (es := 0) (k := 0) (by decide) (by omega) (by omega) ⟨577, hY post 577 0 (by omega) (by omega) h⟩
end
end
section
/-! feeding: one statement more -/
def cc_ad (P : cc_Pg) (p k d s t : Nat) (a b : Int32) : cc_Pg :=
  (cc_N P, (fun q => if q = p then cc_L P p + 1 else cc_L P q), (fun m => if m = p * 8 + cc_L P p then k else cc_K P m), (fun m => if m = p * 8 + cc_L P p then d else cc_D P m), (fun m => if m = p * 8 + cc_L P p then s else cc_S P m), (fun m => if m = p * 8 + cc_L P p then t else cc_T P m), (fun m => if m = p * 8 + cc_L P p then a else cc_A P m), (fun m => if m = p * 8 + cc_L P p then b else cc_B P m))
section
variable {P : cc_Pg} {p k d s t : Nat} {a b : Int32}
theorem ad_L (q : Nat) : cc_L (cc_ad P p k d s t a b) q = if q = p then cc_L P p + 1 else cc_L P q := rfl
theorem ad_Lp : cc_L (cc_ad P p k d s t a b) p = cc_L P p + 1 := if_pos rfl
theorem ad_Ln {q : Nat} (h : q ≠ p) : cc_L (cc_ad P p k d s t a b) q = cc_L P q := if_neg h
theorem ad_o {m : Nat} (h : m ≠ p * 8 + cc_L P p) : cc_K (cc_ad P p k d s t a b) m = cc_K P m ∧ cc_D (cc_ad P p k d s t a b) m = cc_D P m ∧ cc_S (cc_ad P p k d s t a b) m = cc_S P m ∧ cc_T (cc_ad P p k d s t a b) m = cc_T P m ∧ cc_A (cc_ad P p k d s t a b) m = cc_A P m ∧ cc_B (cc_ad P p k d s t a b) m = cc_B P m :=
  ⟨if_neg h, if_neg h, if_neg h, if_neg h, if_neg h, if_neg h⟩
theorem ad_n : cc_K (cc_ad P p k d s t a b) (p * 8 + cc_L P p) = k ∧ cc_D (cc_ad P p k d s t a b) (p * 8 + cc_L P p) = d ∧ cc_S (cc_ad P p k d s t a b) (p * 8 + cc_L P p) = s ∧ cc_T (cc_ad P p k d s t a b) (p * 8 + cc_L P p) = t ∧ cc_A (cc_ad P p k d s t a b) (p * 8 + cc_L P p) = a ∧ cc_B (cc_ad P p k d s t a b) (p * 8 + cc_L P p) = b :=
  ⟨if_pos rfl, if_pos rfl, if_pos rfl, if_pos rfl, if_pos rfl, if_pos rfl⟩
/-- an old statement lies elsewhere -/
theorem ad_ne (W : cc_wf P) (hL : cc_L P p < 8) {q i : Nat} (hq : q < 6) (hi : i < cc_L P q) : q * 8 + i ≠ p * 8 + cc_L P p := by
  have := W.2.2.1 q hq
  by_cases e : q = p
  · subst e; omega
  · omega
theorem ad_c (W : cc_wf P) (hL : cc_L P p < 8) {q i : Nat} (hq : q < 6) (hi : i < cc_L (cc_ad P p k d s t a b) q) : (i < cc_L P q ∧ q * 8 + i ≠ p * 8 + cc_L P p) ∨ (q = p ∧ i = cc_L P p) := by
  by_cases e : q = p
  · subst e
    rw [ad_Lp] at hi
    by_cases e2 : i = cc_L P q
    · exact Or.inr ⟨rfl, e2⟩
    · have : i < cc_L P q := by omega
      exact Or.inl ⟨this, ad_ne W hL hq this⟩
  · rw [ad_Ln e] at hi
    exact Or.inl ⟨hi, ad_ne W hL hq hi⟩
theorem ad_wf (W : cc_wf P) (hL : cc_L P p < 8) (hk : k ≤ 7) (hd : d < 4) (hs : s < 4) (ht : t < 4) (h6 : k = 6 → a.toNatClampNeg < cc_N P ∧ a = nI a.toNatClampNeg) (h5 : k = 5 → cc_L P p + 2 ≤ b.toNatClampNeg ∧ b.toNatClampNeg ≤ cc_L P p + 9 ∧ b = nI b.toNatClampNeg) : cc_wf (cc_ad P p k d s t a b) := by
  refine ⟨W.1, W.2.1, fun q hq => ?_, fun q i hq hi => ?_⟩
  · by_cases e : q = p
    · subst e; rw [ad_Lp]; omega
    · rw [ad_Ln e]; exact W.2.2.1 q hq
  · rcases ad_c W hL hq hi with ⟨h1, h2⟩ | ⟨h1, h2⟩
    · obtain ⟨e1, e2, e3, e4, e5, e6⟩ := ad_o (k := k) (d := d) (s := s) (t := t) (a := a) (b := b) h2
      have w := W.2.2.2 q i hq h1
      unfold cc_w1 cc_Q cc_G at w ⊢
      rw [e1, e2, e3, e4, e5, e6]; exact w
    · subst h1; subst h2
      obtain ⟨e1, e2, e3, e4, e5, e6⟩ := ad_n (P := P) (p := q) (k := k) (d := d) (s := s) (t := t) (a := a) (b := b)
      unfold cc_w1 cc_Q cc_G
      rw [e1, e2, e3, e4, e5, e6]; exact ⟨hk, hd, hs, ht, h6, h5⟩
theorem ad_xc (W : cc_wf P) (hL : cc_L P p < 8) {kd dd ss tt aa bb : Nat → Int32} (x : cc_xc P kd dd ss tt aa bb) : cc_xc (cc_ad P p k d s t a b) (upd kd (p * 8 + cc_L P p) (nI k)) (upd dd (p * 8 + cc_L P p) (nI d)) (upd ss (p * 8 + cc_L P p) (nI s)) (upd tt (p * 8 + cc_L P p) (nI t)) (upd aa (p * 8 + cc_L P p) a) (upd bb (p * 8 + cc_L P p) b) := by
  intro q i hq hi
  rcases ad_c W hL hq hi with ⟨h1, h2⟩ | ⟨h1, h2⟩
  · obtain ⟨e1, e2, e3, e4, e5, e6⟩ := ad_o (k := k) (d := d) (s := s) (t := t) (a := a) (b := b) h2
    have w := x q i hq h1
    unfold cc_x1 at w ⊢
    rw [e1, e2, e3, e4, e5, e6, pk_un h2, pk_un h2, pk_un h2, pk_un h2, pk_un h2, pk_un h2]; exact w
  · subst h1; subst h2
    obtain ⟨e1, e2, e3, e4, e5, e6⟩ := ad_n (P := P) (p := q) (k := k) (d := d) (s := s) (t := t) (a := a) (b := b)
    unfold cc_x1
    rw [e1, e2, e3, e4, e5, e6]; exact ⟨pk_us, pk_us, pk_us, pk_us, pk_us, pk_us⟩
theorem ad_yc (W : cc_wf P) (hL : cc_L P p < 8) {kd sd ss st sa sb : Nat → Int32} (x : cc_yc P kd sd ss st sa sb) {kk va vb : Int32}
    (h : (k ≤ 3 → kk = 1 ∧ va = nI k) ∧ (k = 4 → kk = 0 ∧ va = a ∧ vb = b) ∧ (k = 5 → kk = 2 ∧ va = a ∧ vb = nI (b.toNatClampNeg - (cc_L P p + 1))) ∧ (k = 6 → kk = 3 ∧ va = a) ∧ (k = 7 → kk = 4)) :
    cc_yc (cc_ad P p k d s t a b) (upd kd (p * 8 + cc_L P p) kk) (upd sd (p * 8 + cc_L P p) (nI d)) (upd ss (p * 8 + cc_L P p) (nI s)) (upd st (p * 8 + cc_L P p) (nI t)) (upd sa (p * 8 + cc_L P p) va) (upd sb (p * 8 + cc_L P p) vb) := by
  intro q i hq hi
  rcases ad_c W hL hq hi with ⟨h1, h2⟩ | ⟨h1, h2⟩
  · obtain ⟨e1, e2, e3, e4, e5, e6⟩ := ad_o (k := k) (d := d) (s := s) (t := t) (a := a) (b := b) h2
    have w := x q i hq h1
    unfold cc_y1 cc_G at w ⊢
    rw [e1, e2, e3, e4, e5, e6, pk_un h2, pk_un h2, pk_un h2, pk_un h2, pk_un h2, pk_un h2]; exact w
  · subst h1; subst h2
    obtain ⟨e1, e2, e3, e4, e5, e6⟩ := ad_n (P := P) (p := q) (k := k) (d := d) (s := s) (t := t) (a := a) (b := b)
    unfold cc_y1 cc_G
    rw [e1, e2, e3, e4, e5, e6, pk_us, pk_us, pk_us, pk_us, pk_us, pk_us]; exact ⟨rfl, rfl, rfl, h⟩
theorem ad_len {ul : Nat → Int32} (h : ∀ q, q < 6 → ul q = nI (cc_L P q)) : ∀ q, q < 6 → upd ul p (nI (cc_L P p + 1)) q = nI (cc_L (cc_ad P p k d s t a b) q) := by
  intro q hq
  by_cases e : q = p
  · subst e; rw [ad_Lp]; exact pk_us
  · rw [ad_Ln e]; exact (pk_un e).trans (h q hq)
theorem ad_cs (W : cc_wf P) (hL : cc_L P p < 8) {cs : Nat → Int32} (h : cc_cs P cs) (k6 : k ≠ 6) : cc_cs (cc_ad P p k d s t a b) cs := by
  intro q hq i hi
  rw [h q hq i hi]
  dsimp only
  by_cases hi2 : i < cc_L (cc_ad P p k d s t a b) q
  · rcases ad_c W hL hq hi2 with ⟨h1, h2⟩ | ⟨h1, h2⟩
    · rw [(ad_o (k := k) (d := d) (s := s) (t := t) (a := a) (b := b) h2).1, decide_eq_true h1, decide_eq_true hi2]
    · subst h1; subst h2
      rw [ad_n.1, decide_eq_false (show ¬ cc_L P q < cc_L P q by omega), decide_eq_false k6, Bool.false_and, Bool.and_false]
  · have h1 : ¬ i < cc_L P q := by
      intro z
      apply hi2
      by_cases e : q = p
      · subst e; rw [ad_Lp]; omega
      · rw [ad_Ln e]; exact z
    rw [decide_eq_false h1, decide_eq_false hi2, Bool.false_and, Bool.false_and]
theorem ad_cs6 (W : cc_wf P) (hp : p < 6) (hL : cc_L P p < 8) {cs : Nat → Int32} (h : cc_cs P cs) : cc_cs (cc_ad P p 6 d s t a b) (upd cs p (cs p ||| ((1 : Int32) <<< (nI (cc_L P p) &&& 31)))) := by
  intro q hq i hi
  dsimp only
  by_cases e : q = p
  · subst e
    rw [pk_us, b_or, h q hq i hi, bx_sh (by omega) hi, ad_Lp]
    dsimp only
    by_cases e2 : i = cc_L P q
    · subst e2
      rw [ad_n.1, decide_eq_true rfl, decide_eq_true (show cc_L P q < cc_L P q + 1 by omega), Bool.or_true]; rfl
    · rw [decide_eq_false e2, Bool.or_false]
      by_cases h1 : i < cc_L P q
      · rw [(ad_o (k := 6) (d := d) (s := s) (t := t) (a := a) (b := b) (ad_ne W hL hq h1)).1, decide_eq_true h1, decide_eq_true (show i < cc_L P q + 1 by omega)]
      · rw [decide_eq_false h1, decide_eq_false (show ¬ i < cc_L P q + 1 by omega), Bool.false_and, Bool.false_and]
  · rw [pk_un e, h q hq i hi, ad_Ln e]
    dsimp only
    by_cases h1 : i < cc_L P q
    · rw [(ad_o (k := 6) (d := d) (s := s) (t := t) (a := a) (b := b) (ad_ne W hL hq h1)).1]
    · rw [decide_eq_false h1, Bool.false_and, Bool.false_and]
end
/-- small variables -/
def cc_sm (x : Int32) : Prop := ∃ a, a < 4 ∧ x = nI a
theorem bx_m4 : ∀ i, i < 32 → bt (-4) i = decide (2 ≤ i) := by decide +kernel
theorem bx_3 : ∀ i, i < 32 → bt 3 i = decide (i < 2) := by decide +kernel
theorem cc_or0 (x y m : Int32) : ((x ||| y) &&& m = 0) ↔ x &&& m = 0 ∧ y &&& m = 0 := by
  constructor
  · intro h
    have hb : ∀ i, ((bt x i || bt y i) && bt m i) = false := fun i => by
      have : bt ((x ||| y) &&& m) i = bt 0 i := by rw [h]
      rw [b_and, b_or, b_0] at this; exact this
    constructor
    · apply b_ext; intro i _
      have := hb i
      rw [b_and, b_0]
      revert this; cases bt x i <;> cases bt y i <;> cases bt m i <;> intro z <;> first | rfl | exact z
    · apply b_ext; intro i _
      have := hb i
      rw [b_and, b_0]
      revert this; cases bt x i <;> cases bt y i <;> cases bt m i <;> intro z <;> first | rfl | exact z
  · rintro ⟨h, k⟩
    apply b_ext; intro i _
    have h1 : bt (x &&& m) i = bt 0 i := by rw [h]
    have h2 : bt (y &&& m) i = bt 0 i := by rw [k]
    rw [b_and, b_0] at h1 h2
    rw [b_and, b_or, b_0]
    revert h1 h2; cases bt x i <;> cases bt y i <;> cases bt m i <;> intro z w <;> first | rfl | exact z | exact w
theorem cc_sm_i (x : Int32) : x &&& (-4) = 0 ↔ cc_sm x := by
  constructor
  · intro h
    have e : x = x &&& 3 := by
      apply b_ext
      intro i hi
      rw [b_and, bx_3 i hi]
      by_cases c : i < 2
      · rw [decide_eq_true c, Bool.and_true]
      · have : bt (x &&& (-4)) i = bt 0 i := by rw [h]
        rw [b_and, bx_m4 i hi, b_0, decide_eq_true (show 2 ≤ i by omega), Bool.and_true] at this
        rw [this]; rfl
    obtain ⟨j, hj, ej⟩ := pk_andE x (m := 3) 2 (by decide)
    exact ⟨j, hj, e.trans ej⟩
  · rintro ⟨a, ha, rfl⟩
    have : a = 0 ∨ a = 1 ∨ a = 2 ∨ a = 3 := by omega
    rcases this with e | e | e | e <;> subst e <;> decide
theorem cc_sm_3 (x y z : Int32) : (((x ||| y) ||| z) &&& (-4) = 0) ↔ cc_sm x ∧ cc_sm y ∧ cc_sm z := by
  rw [cc_or0, cc_or0, cc_sm_i, cc_sm_i, cc_sm_i, and_assoc]
theorem cc_sm_0 : cc_sm 0 := ⟨0, by omega, rfl⟩
theorem cc_sm_c {A B : Prop} {x : Int32} (h1 : cc_sm x → A) (h0 : ¬ cc_sm x → B) : (x < 0 → B) ∧ (¬ x < 0 → (3 < x → B) ∧ (¬ 3 < x → A)) := by
  refine br_c (fun c => h0 ?_) (fun c => br_c (fun c2 => h0 ?_) (fun c2 => h1 ?_))
  · rintro ⟨a, ha, rfl⟩; exact nI_pos (by omega) c
  · rintro ⟨a, ha, rfl⟩; exact nI_nlt (a := 3) (b := a) (by omega) (by decide) c2
  · obtain ⟨j, hj, e⟩ := nI_of2 (M := 3) (n := 3) (by decide) c (Int32.not_lt.mp c2)
    exact ⟨j, by omega, e⟩
theorem cc_sm_c2 {A B : Prop} {x : Int32} (h1 : cc_sm x → A) (h0 : ¬ cc_sm x → B) : (x < 0 → B) ∧ (¬ x < 0 → (x ≤ 3 → A) ∧ (¬ x ≤ 3 → B)) := by
  refine br_c (fun c => h0 ?_) (fun c => br_c (fun c2 => h1 ?_) (fun c2 => h0 ?_))
  · rintro ⟨a, ha, rfl⟩; exact nI_pos (by omega) c
  · obtain ⟨j, hj, e⟩ := nI_of2 (M := 3) (n := 3) (by decide) c c2
    exact ⟨j, by omega, e⟩
  · rintro ⟨a, ha, rfl⟩; exact c2 (nI_le (b := 3) (by omega) (by decide))
section
variable {f_LIN f_SKIP f_CALL f_OUT f_JUMP f_RUNNING f_FIRST_VERSION f_MAX_VERSIONS f_procedures f_length f_calls f_depth f_openProc f_analysed f_built f_builtCount f_builtTotal f_workTop f_ctxMask f_ctxX f_ctxY f_argMask f_argX f_argY f_candCount f_candTotal f_overflow f_frames f_outCount f_entryCount : Int32} {a_kind a_d a_s a_t a_a a_b a_unitLen a_unitProc a_unitMask a_unitX a_unitY a_unitSize a_splitNow a_callSites a_opaque a_form0 a_form1 a_formB a_met a_fact a_factValue a_work a_waiting a_trial a_candProc a_candMask a_candX a_candY a_candSize a_place a_frameUnit a_framePc a_vars a_outputs a_entryProc a_entryX a_entryY a_entryMask : Nat → Int32}
theorem xw_isProc {post : Int32 → Prop} {N : Nat} (hN : N ≤ 6) {x : Int32} (h1 : ∀ q, q < N → x = nI q → post 1) (h0 : (¬ ∃ q, q < N ∧ x = nI q) → post 0) : wpX_isProcedure post (f_LIN, f_SKIP, f_CALL, f_OUT, f_JUMP, f_RUNNING, f_FIRST_VERSION, f_MAX_VERSIONS, (nI N), f_length, f_calls, f_depth, f_openProc, f_analysed, f_built, f_builtCount, f_builtTotal, f_workTop, f_ctxMask, f_ctxX, f_ctxY, f_argMask, f_argX, f_argY, f_candCount, f_candTotal, f_overflow, f_frames, f_outCount, f_entryCount, a_kind, a_d, a_s, a_t, a_a, a_b, a_unitLen, a_unitProc, a_unitMask, a_unitX, a_unitY, a_unitSize, a_splitNow, a_callSites, a_opaque, a_form0, a_form1, a_formB, a_met, a_fact, a_factValue, a_work, a_waiting, a_trial, a_candProc, a_candMask, a_candX, a_candY, a_candSize, a_place, a_frameUnit, a_framePc, a_vars, a_outputs, a_entryProc, a_entryX, a_entryY, a_entryMask) x := by
  refine br_c (fun c => h0 ?_) (fun c => br_c (fun c2 => h0 ?_) (fun c2 => ?_))
  · rintro ⟨q, hq, rfl⟩; exact nI_pos (by omega) c
  · rintro ⟨q, hq, rfl⟩; exact nI_ge hq (by omega) c2
  · obtain ⟨j, hj, rfl⟩ := nI_of c
    refine h1 j ?_ rfl
    refine Nat.lt_of_not_le fun z => c2 (nI_le z hj)
theorem xw_isFull {post : Int32 → Prop} {op lim Lp : Nat} (hop : op < 6) (hlim : lim ≤ 8) (hLp : Lp ≤ 8) (hL : a_unitLen op = nI Lp) (h0 : Lp < lim → post 0) (h1 : ¬ Lp < lim → post 1) : wpX_isFull post (f_LIN, f_SKIP, f_CALL, f_OUT, f_JUMP, f_RUNNING, f_FIRST_VERSION, f_MAX_VERSIONS, f_procedures, (nI lim), f_calls, f_depth, (nI op), f_analysed, f_built, f_builtCount, f_builtTotal, f_workTop, f_ctxMask, f_ctxX, f_ctxY, f_argMask, f_argX, f_argY, f_candCount, f_candTotal, f_overflow, f_frames, f_outCount, f_entryCount, a_kind, a_d, a_s, a_t, a_a, a_b, a_unitLen, a_unitProc, a_unitMask, a_unitX, a_unitY, a_unitSize, a_splitNow, a_callSites, a_opaque, a_form0, a_form1, a_formB, a_met, a_fact, a_factValue, a_work, a_waiting, a_trial, a_candProc, a_candMask, a_candX, a_candY, a_candSize, a_place, a_frameUnit, a_framePc, a_vars, a_outputs, a_entryProc, a_entryX, a_entryY, a_entryMask) := by
  refine And.intro (vp_in_nI (by omega) (by decide)) ?_
  rw [ix_c a_unitLen (show op < 2 ^ 31 by omega), hL]
  exact br_c (fun c => h0 ((nI_ltI (by omega) (by omega)).mp c)) (fun c => h1 (fun z => c (nI_lt z (by omega))))
theorem xw_badVar {post : Int32 → Prop} {x y z : Int32} (h0 : cc_sm x → cc_sm y → cc_sm z → post 0) (h1 : ¬ (cc_sm x ∧ cc_sm y ∧ cc_sm z) → post 1) : wpX_badVariables post (f_LIN, f_SKIP, f_CALL, f_OUT, f_JUMP, f_RUNNING, f_FIRST_VERSION, f_MAX_VERSIONS, f_procedures, f_length, f_calls, f_depth, f_openProc, f_analysed, f_built, f_builtCount, f_builtTotal, f_workTop, f_ctxMask, f_ctxX, f_ctxY, f_argMask, f_argX, f_argY, f_candCount, f_candTotal, f_overflow, f_frames, f_outCount, f_entryCount, a_kind, a_d, a_s, a_t, a_a, a_b, a_unitLen, a_unitProc, a_unitMask, a_unitX, a_unitY, a_unitSize, a_splitNow, a_callSites, a_opaque, a_form0, a_form1, a_formB, a_met, a_fact, a_factValue, a_work, a_waiting, a_trial, a_candProc, a_candMask, a_candX, a_candY, a_candSize, a_place, a_frameUnit, a_framePc, a_vars, a_outputs, a_entryProc, a_entryX, a_entryY, a_entryMask) x y z :=
  br_c (fun c => by obtain ⟨a, b, d⟩ := (cc_sm_3 x y z).mp c; exact h0 a b d) (fun c => h1 (fun w => c ((cc_sm_3 x y z).mpr w)))
theorem xw_append {post : Int32 → SX → Prop} {op Lp : Nat} (hop : op < 6) (hLp : Lp < 8) (hL : a_unitLen op = nI Lp) {k1 d1 s1 t1 a1 b1 : Int32}
    (h : post (nI Lp) (f_LIN, f_SKIP, f_CALL, f_OUT, f_JUMP, f_RUNNING, f_FIRST_VERSION, f_MAX_VERSIONS, f_procedures, f_length, f_calls, f_depth, (nI op), 0, 0, f_builtCount, f_builtTotal, f_workTop, f_ctxMask, f_ctxX, f_ctxY, f_argMask, f_argX, f_argY, f_candCount, f_candTotal, f_overflow, f_frames, f_outCount, f_entryCount, (upd a_kind (op * 8 + Lp) k1), (upd a_d (op * 8 + Lp) d1), (upd a_s (op * 8 + Lp) s1), (upd a_t (op * 8 + Lp) t1), (upd a_a (op * 8 + Lp) a1), (upd a_b (op * 8 + Lp) b1), (upd a_unitLen op (nI (Lp + 1))), a_unitProc, a_unitMask, a_unitX, a_unitY, a_unitSize, a_splitNow, a_callSites, a_opaque, a_form0, a_form1, a_formB, a_met, a_fact, a_factValue, a_work, a_waiting, a_trial, a_candProc, a_candMask, a_candX, a_candY, a_candSize, a_place, a_frameUnit, a_framePc, a_vars, a_outputs, a_entryProc, a_entryX, a_entryY, a_entryMask)) : wpX_append post (f_LIN, f_SKIP, f_CALL, f_OUT, f_JUMP, f_RUNNING, f_FIRST_VERSION, f_MAX_VERSIONS, f_procedures, f_length, f_calls, f_depth, (nI op), f_analysed, f_built, f_builtCount, f_builtTotal, f_workTop, f_ctxMask, f_ctxX, f_ctxY, f_argMask, f_argX, f_argY, f_candCount, f_candTotal, f_overflow, f_frames, f_outCount, f_entryCount, a_kind, a_d, a_s, a_t, a_a, a_b, a_unitLen, a_unitProc, a_unitMask, a_unitX, a_unitY, a_unitSize, a_splitNow, a_callSites, a_opaque, a_form0, a_form1, a_formB, a_met, a_fact, a_factValue, a_work, a_waiting, a_trial, a_candProc, a_candMask, a_candX, a_candY, a_candSize, a_place, a_frameUnit, a_framePc, a_vars, a_outputs, a_entryProc, a_entryX, a_entryY, a_entryMask) k1 d1 s1 t1 a1 b1 := by
  have hio : vp_in (nI op) 22 := vp_in_nI (by omega) (by decide)
  refine And.intro hio (nm_r (e' := nI Lp) ((ix_c a_unitLen (by omega)).trans hL) ?_)
  rw [ix_8]
  refine xw_put (by omega) (And.intro hio (nm_e ?_))
  rw [nI_1, nI_clamp (show op < 2 ^ 31 by omega)]
  exact h
end
section
variable {g_procs g_limit g_calls g_depth g_cur g_ok g_c0 g_c1 g_cb g_vn g_built g_chosen g_top g_outs g_entries : Int32} {b_len b_kind b_sd b_ss b_st b_sa b_sb b_fk b_f0 b_f1 b_fb b_fact b_factv b_reach b_vp b_vm b_vx b_vy b_sp b_pc b_sm b_cell b_outList b_entryList : Nat → Int32}
theorem yw_add {post : Int32 → SY → Prop} {op lim Lp : Nat} (hop : op < 6) (hlim : lim ≤ 8) (hLp : Lp ≤ 8) (hL : b_len op = nI Lp) {k1 d1 s1 t1 a1 b1 gd : Int32}
    (hF : ¬ Lp < lim → post (-1) (g_procs, (nI lim), g_calls, g_depth, (nI op), g_ok, g_c0, g_c1, g_cb, g_vn, g_built, g_chosen, g_top, g_outs, g_entries, b_len, b_kind, b_sd, b_ss, b_st, b_sa, b_sb, b_fk, b_f0, b_f1, b_fb, b_fact, b_factv, b_reach, b_vp, b_vm, b_vx, b_vy, b_sp, b_pc, b_sm, b_cell, b_outList, b_entryList)) (hB : Lp < lim → ¬ (¬ gd = 0 ∧ cc_sm d1 ∧ cc_sm s1 ∧ cc_sm t1) → post (-2) (g_procs, (nI lim), g_calls, g_depth, (nI op), g_ok, g_c0, g_c1, g_cb, g_vn, g_built, g_chosen, g_top, g_outs, g_entries, b_len, b_kind, b_sd, b_ss, b_st, b_sa, b_sb, b_fk, b_f0, b_f1, b_fb, b_fact, b_factv, b_reach, b_vp, b_vm, b_vx, b_vy, b_sp, b_pc, b_sm, b_cell, b_outList, b_entryList))
    (hG : Lp < lim → ¬ gd = 0 → cc_sm d1 → cc_sm s1 → cc_sm t1 → post (nI Lp) (g_procs, (nI lim), g_calls, g_depth, (nI op), g_ok, g_c0, g_c1, g_cb, g_vn, 0, g_chosen, g_top, g_outs, g_entries, (upd b_len op (nI (Lp + 1))), (upd b_kind (op * 8 + Lp) k1), (upd b_sd (op * 8 + Lp) d1), (upd b_ss (op * 8 + Lp) s1), (upd b_st (op * 8 + Lp) t1), (upd b_sa (op * 8 + Lp) a1), (upd b_sb (op * 8 + Lp) b1), b_fk, b_f0, b_f1, b_fb, b_fact, b_factv, b_reach, b_vp, b_vm, b_vx, b_vy, b_sp, b_pc, b_sm, b_cell, b_outList, b_entryList)) :
    wpY_add post (g_procs, (nI lim), g_calls, g_depth, (nI op), g_ok, g_c0, g_c1, g_cb, g_vn, g_built, g_chosen, g_top, g_outs, g_entries, b_len, b_kind, b_sd, b_ss, b_st, b_sa, b_sb, b_fk, b_f0, b_f1, b_fb, b_fact, b_factv, b_reach, b_vp, b_vm, b_vx, b_vy, b_sp, b_pc, b_sm, b_cell, b_outList, b_entryList) k1 d1 s1 t1 a1 b1 gd := by
  have hio : vp_in (nI op) 6 := vp_in_nI hop (by decide)
  refine And.intro hio (nm_r (e' := nI Lp) ((ix_c b_len (by omega)).trans hL) (nm_r (e' := nI (op * 8 + Lp)) (ix_8 op Lp) ?_))
  by_cases c : Lp < lim
  · refine br_t (nI_lt c (by omega)) ?_
    have him : vp_in (nI (op * 8 + Lp)) 48 := vp_in_nI (by omega) (by decide)
    refine br_c (fun g => hB c (fun w => w.1 g)) (fun g => cc_sm_c (fun hd => cc_sm_c (fun hs => cc_sm_c2 (fun ht => ?_) (fun z => hB c (fun w => z w.2.2.2))) (fun z => hB c (fun w => z w.2.2.1))) (fun z => hB c (fun w => z w.2.1)))
    refine And.intro him (nm_e (And.intro him (nm_e (And.intro him (nm_e (And.intro him (nm_e (And.intro him (nm_e (And.intro him (nm_e (And.intro hio (nm_e ?_)))))))))))))
    rw [nI_1, nI_clamp (show op < 2 ^ 31 by omega), nI_clamp (show op * 8 + Lp < 2 ^ 31 by omega)]
    exact hG c g hd hs ht
  · exact br_f (nI_nlt (by omega) (by omega)) (hF c)
end
end
section
/-! the relation -/
def rl_1 (P : cc_Pg) (lim cal dep op oc ec : Nat) (an bu : Bool) (f_procedures f_length f_calls f_depth f_openProc f_analysed f_built f_outCount f_entryCount g_procs g_limit g_calls g_depth g_cur g_built g_outs g_entries : Int32) : Prop :=
  f_procedures = nI (cc_N P) ∧ f_length = nI lim ∧ f_calls = nI cal ∧ f_depth = nI dep ∧ f_openProc = nI op ∧ f_analysed = cc_b an ∧ f_built = cc_b bu ∧ f_outCount = nI oc ∧ f_entryCount = nI ec ∧
  g_procs = nI (cc_N P) ∧ g_limit = nI lim ∧ g_calls = nI cal ∧ g_depth = nI dep ∧ g_cur = nI op ∧ g_built = cc_b bu ∧ g_outs = nI oc ∧ g_entries = nI ec ∧ lim ≤ 8 ∧ cal ≤ 64 ∧ dep ≤ 16 ∧ op < cc_N P ∧ oc ≤ 16 ∧ ec ≤ 64
def rl_2 (P : cc_Pg) (kd d s t a b ul up um cs wa len yk sd ss st sa sb : Nat → Int32) : Prop :=
  cc_wf P ∧ cc_xc P kd d s t a b ∧ (∀ p, p < 6 → ul p = nI (cc_L P p)) ∧ (∀ p, p < 6 → up p = nI p) ∧ (∀ p, p < 6 → um p = 0) ∧ cc_cs P cs ∧ (∀ q, q < 6 → wa q = 0) ∧ cc_yc P yk sd ss st sa sb ∧ (∀ p, p < 6 → len p = nI (cc_L P p))
def rl_3 (P : cc_Pg) (o g0 g1 gB fa fv : Nat → Int32) : Prop := cc_xf P o g0 g1 gB ∧ cc_rf fa fv (cc_rd P 24)
def rl_4 (P : cc_Pg) (bc bt : Int32) (kd d s t a b ul up um ux uy uz sn : Nat → Int32) (cs : Int32) (fk f0 f1 fb fa fv : Nat → Int32) : Prop := ∃ ch : Nat → Bool,
  cc_yf P fk f0 f1 fb ∧ cc_rf fa fv (cc_rd P 24) ∧ cc_ov P (cc_rd P 24) ch = false ∧ cc_cb cs ch ∧ (∀ q, q < 6 → sn q = cc_b (ch q)) ∧ bc = nI (cc_li P (cc_rd P 24) ch).length ∧ bt = nI (cc_to P (cc_rd P 24) ch) ∧
  ∀ (n : Nat) (v : cc_V), (cc_li P (cc_rd P 24) ch)[n]? = some v → cc_ut P (cc_rd P 24) ch (cc_li P (cc_rd P 24) ch) v (6 + n) kd d s t a b ul up um ux uy uz
def i_Rel (k : Nat) (u : SX) (v : SY) : Prop := match u, v with
  | (f_LIN, f_SKIP, f_CALL, f_OUT, f_JUMP, f_RUNNING, f_FIRST_VERSION, f_MAX_VERSIONS, f_procedures, f_length, f_calls, f_depth, f_openProc, f_analysed, f_built, f_builtCount, f_builtTotal, f_workTop, f_ctxMask, f_ctxX, f_ctxY, f_argMask, f_argX, f_argY, f_candCount, f_candTotal, f_overflow, f_frames, f_outCount, f_entryCount, a_kind, a_d, a_s, a_t, a_a, a_b, a_unitLen, a_unitProc, a_unitMask, a_unitX, a_unitY, a_unitSize, a_splitNow, a_callSites, a_opaque, a_form0, a_form1, a_formB, a_met, a_fact, a_factValue, a_work, a_waiting, a_trial, a_candProc, a_candMask, a_candX, a_candY, a_candSize, a_place, a_frameUnit, a_framePc, a_vars, a_outputs, a_entryProc, a_entryX, a_entryY, a_entryMask), (g_procs, g_limit, g_calls, g_depth, g_cur, g_ok, g_c0, g_c1, g_cb, g_vn, g_built, g_chosen, g_top, g_outs, g_entries, b_len, b_kind, b_sd, b_ss, b_st, b_sa, b_sb, b_fk, b_f0, b_f1, b_fb, b_fact, b_factv, b_reach, b_vp, b_vm, b_vx, b_vy, b_sp, b_pc, b_sm, b_cell, b_outList, b_entryList) => ∃ (P : cc_Pg) (lim cal dep op oc ec : Nat) (an bu : Bool), rl_1 P lim cal dep op oc ec an bu f_procedures f_length f_calls f_depth f_openProc f_analysed f_built f_outCount f_entryCount g_procs g_limit g_calls g_depth g_cur g_built g_outs g_entries ∧ rl_2 P a_kind a_d a_s a_t a_a a_b a_unitLen a_unitProc a_unitMask a_callSites a_waiting b_len b_kind b_sd b_ss b_st b_sa b_sb ∧ (an = true → rl_3 P a_opaque a_form0 a_form1 a_formB a_fact a_factValue) ∧ (bu = true → an = true ∧ rl_4 P f_builtCount f_builtTotal a_kind a_d a_s a_t a_a a_b a_unitLen a_unitProc a_unitMask a_unitX a_unitY a_unitSize a_splitNow g_chosen b_fk b_f0 b_f1 b_fb b_fact b_factv) ∧ cc_LR oc ec a_outputs a_entryProc a_entryX a_entryY a_entryMask b_outList b_entryList
theorem i_up {k : Nat} {u : SX} {v : SY} (h : i_Rel k u v) : i_Rel (k + 5) u v := h
theorem rl_el {k : Nat} {Q : SX → SY → Prop} (h : ∀ (f_LIN f_SKIP f_CALL f_OUT f_JUMP f_RUNNING f_FIRST_VERSION f_MAX_VERSIONS f_procedures f_length f_calls f_depth f_openProc f_analysed f_built f_builtCount f_builtTotal f_workTop f_ctxMask f_ctxX f_ctxY f_argMask f_argX f_argY f_candCount f_candTotal f_overflow f_frames f_outCount f_entryCount : Int32) (a_kind a_d a_s a_t a_a a_b a_unitLen a_unitProc a_unitMask a_unitX a_unitY a_unitSize a_splitNow a_callSites a_opaque a_form0 a_form1 a_formB a_met a_fact a_factValue a_work a_waiting a_trial a_candProc a_candMask a_candX a_candY a_candSize a_place a_frameUnit a_framePc a_vars a_outputs a_entryProc a_entryX a_entryY a_entryMask : Nat → Int32) (g_procs g_limit g_calls g_depth g_cur g_ok g_c0 g_c1 g_cb g_vn g_built g_chosen g_top g_outs g_entries : Int32) (b_len b_kind b_sd b_ss b_st b_sa b_sb b_fk b_f0 b_f1 b_fb b_fact b_factv b_reach b_vp b_vm b_vx b_vy b_sp b_pc b_sm b_cell b_outList b_entryList : Nat → Int32), i_Rel k (f_LIN, f_SKIP, f_CALL, f_OUT, f_JUMP, f_RUNNING, f_FIRST_VERSION, f_MAX_VERSIONS, f_procedures, f_length, f_calls, f_depth, f_openProc, f_analysed, f_built, f_builtCount, f_builtTotal, f_workTop, f_ctxMask, f_ctxX, f_ctxY, f_argMask, f_argX, f_argY, f_candCount, f_candTotal, f_overflow, f_frames, f_outCount, f_entryCount, a_kind, a_d, a_s, a_t, a_a, a_b, a_unitLen, a_unitProc, a_unitMask, a_unitX, a_unitY, a_unitSize, a_splitNow, a_callSites, a_opaque, a_form0, a_form1, a_formB, a_met, a_fact, a_factValue, a_work, a_waiting, a_trial, a_candProc, a_candMask, a_candX, a_candY, a_candSize, a_place, a_frameUnit, a_framePc, a_vars, a_outputs, a_entryProc, a_entryX, a_entryY, a_entryMask) (g_procs, g_limit, g_calls, g_depth, g_cur, g_ok, g_c0, g_c1, g_cb, g_vn, g_built, g_chosen, g_top, g_outs, g_entries, b_len, b_kind, b_sd, b_ss, b_st, b_sa, b_sb, b_fk, b_f0, b_f1, b_fb, b_fact, b_factv, b_reach, b_vp, b_vm, b_vx, b_vy, b_sp, b_pc, b_sm, b_cell, b_outList, b_entryList) → Q (f_LIN, f_SKIP, f_CALL, f_OUT, f_JUMP, f_RUNNING, f_FIRST_VERSION, f_MAX_VERSIONS, f_procedures, f_length, f_calls, f_depth, f_openProc, f_analysed, f_built, f_builtCount, f_builtTotal, f_workTop, f_ctxMask, f_ctxX, f_ctxY, f_argMask, f_argX, f_argY, f_candCount, f_candTotal, f_overflow, f_frames, f_outCount, f_entryCount, a_kind, a_d, a_s, a_t, a_a, a_b, a_unitLen, a_unitProc, a_unitMask, a_unitX, a_unitY, a_unitSize, a_splitNow, a_callSites, a_opaque, a_form0, a_form1, a_formB, a_met, a_fact, a_factValue, a_work, a_waiting, a_trial, a_candProc, a_candMask, a_candX, a_candY, a_candSize, a_place, a_frameUnit, a_framePc, a_vars, a_outputs, a_entryProc, a_entryX, a_entryY, a_entryMask) (g_procs, g_limit, g_calls, g_depth, g_cur, g_ok, g_c0, g_c1, g_cb, g_vn, g_built, g_chosen, g_top, g_outs, g_entries, b_len, b_kind, b_sd, b_ss, b_st, b_sa, b_sb, b_fk, b_f0, b_f1, b_fb, b_fact, b_factv, b_reach, b_vp, b_vm, b_vx, b_vy, b_sp, b_pc, b_sm, b_cell, b_outList, b_entryList)) (u : SX) (v : SY) (I : i_Rel k u v) : Q u v :=
  match u, v, I with
  | (f_LIN, f_SKIP, f_CALL, f_OUT, f_JUMP, f_RUNNING, f_FIRST_VERSION, f_MAX_VERSIONS, f_procedures, f_length, f_calls, f_depth, f_openProc, f_analysed, f_built, f_builtCount, f_builtTotal, f_workTop, f_ctxMask, f_ctxX, f_ctxY, f_argMask, f_argX, f_argY, f_candCount, f_candTotal, f_overflow, f_frames, f_outCount, f_entryCount, a_kind, a_d, a_s, a_t, a_a, a_b, a_unitLen, a_unitProc, a_unitMask, a_unitX, a_unitY, a_unitSize, a_splitNow, a_callSites, a_opaque, a_form0, a_form1, a_formB, a_met, a_fact, a_factValue, a_work, a_waiting, a_trial, a_candProc, a_candMask, a_candX, a_candY, a_candSize, a_place, a_frameUnit, a_framePc, a_vars, a_outputs, a_entryProc, a_entryX, a_entryY, a_entryMask), (g_procs, g_limit, g_calls, g_depth, g_cur, g_ok, g_c0, g_c1, g_cb, g_vn, g_built, g_chosen, g_top, g_outs, g_entries, b_len, b_kind, b_sd, b_ss, b_st, b_sa, b_sb, b_fk, b_f0, b_f1, b_fb, b_fact, b_factv, b_reach, b_vp, b_vm, b_vx, b_vy, b_sp, b_pc, b_sm, b_cell, b_outList, b_entryList), I => h f_LIN f_SKIP f_CALL f_OUT f_JUMP f_RUNNING f_FIRST_VERSION f_MAX_VERSIONS f_procedures f_length f_calls f_depth f_openProc f_analysed f_built f_builtCount f_builtTotal f_workTop f_ctxMask f_ctxX f_ctxY f_argMask f_argX f_argY f_candCount f_candTotal f_overflow f_frames f_outCount f_entryCount a_kind a_d a_s a_t a_a a_b a_unitLen a_unitProc a_unitMask a_unitX a_unitY a_unitSize a_splitNow a_callSites a_opaque a_form0 a_form1 a_formB a_met a_fact a_factValue a_work a_waiting a_trial a_candProc a_candMask a_candX a_candY a_candSize a_place a_frameUnit a_framePc a_vars a_outputs a_entryProc a_entryX a_entryY a_entryMask g_procs g_limit g_calls g_depth g_cur g_ok g_c0 g_c1 g_cb g_vn g_built g_chosen g_top g_outs g_entries b_len b_kind b_sd b_ss b_st b_sa b_sb b_fk b_f0 b_f1 b_fb b_fact b_factv b_reach b_vp b_vm b_vx b_vy b_sp b_pc b_sm b_cell b_outList b_entryList I
section
variable {f_LIN f_SKIP f_CALL f_OUT f_JUMP f_RUNNING f_FIRST_VERSION f_MAX_VERSIONS f_procedures f_length f_calls f_depth f_openProc f_analysed f_built f_builtCount f_builtTotal f_workTop f_ctxMask f_ctxX f_ctxY f_argMask f_argX f_argY f_candCount f_candTotal f_overflow f_frames f_outCount f_entryCount : Int32} {a_kind a_d a_s a_t a_a a_b a_unitLen a_unitProc a_unitMask a_unitX a_unitY a_unitSize a_splitNow a_callSites a_opaque a_form0 a_form1 a_formB a_met a_fact a_factValue a_work a_waiting a_trial a_candProc a_candMask a_candX a_candY a_candSize a_place a_frameUnit a_framePc a_vars a_outputs a_entryProc a_entryX a_entryY a_entryMask : Nat → Int32}
variable {g_procs g_limit g_calls g_depth g_cur g_ok g_c0 g_c1 g_cb g_vn g_built g_chosen g_top g_outs g_entries : Int32} {b_len b_kind b_sd b_ss b_st b_sa b_sb b_fk b_f0 b_f1 b_fb b_fact b_factv b_reach b_vp b_vm b_vx b_vy b_sp b_pc b_sm b_cell b_outList b_entryList : Nat → Int32}
theorem rl_mk {k : Nat} (P : cc_Pg) (lim cal dep op oc ec : Nat) (an bu : Bool) (h1 : rl_1 P lim cal dep op oc ec an bu f_procedures f_length f_calls f_depth f_openProc f_analysed f_built f_outCount f_entryCount g_procs g_limit g_calls g_depth g_cur g_built g_outs g_entries) (h2 : rl_2 P a_kind a_d a_s a_t a_a a_b a_unitLen a_unitProc a_unitMask a_callSites a_waiting b_len b_kind b_sd b_ss b_st b_sa b_sb) (h3 : an = true → rl_3 P a_opaque a_form0 a_form1 a_formB a_fact a_factValue) (h4 : bu = true → an = true ∧ rl_4 P f_builtCount f_builtTotal a_kind a_d a_s a_t a_a a_b a_unitLen a_unitProc a_unitMask a_unitX a_unitY a_unitSize a_splitNow g_chosen b_fk b_f0 b_f1 b_fb b_fact b_factv) (h5 : cc_LR oc ec a_outputs a_entryProc a_entryX a_entryY a_entryMask b_outList b_entryList) : i_Rel k (f_LIN, f_SKIP, f_CALL, f_OUT, f_JUMP, f_RUNNING, f_FIRST_VERSION, f_MAX_VERSIONS, f_procedures, f_length, f_calls, f_depth, f_openProc, f_analysed, f_built, f_builtCount, f_builtTotal, f_workTop, f_ctxMask, f_ctxX, f_ctxY, f_argMask, f_argX, f_argY, f_candCount, f_candTotal, f_overflow, f_frames, f_outCount, f_entryCount, a_kind, a_d, a_s, a_t, a_a, a_b, a_unitLen, a_unitProc, a_unitMask, a_unitX, a_unitY, a_unitSize, a_splitNow, a_callSites, a_opaque, a_form0, a_form1, a_formB, a_met, a_fact, a_factValue, a_work, a_waiting, a_trial, a_candProc, a_candMask, a_candX, a_candY, a_candSize, a_place, a_frameUnit, a_framePc, a_vars, a_outputs, a_entryProc, a_entryX, a_entryY, a_entryMask) (g_procs, g_limit, g_calls, g_depth, g_cur, g_ok, g_c0, g_c1, g_cb, g_vn, g_built, g_chosen, g_top, g_outs, g_entries, b_len, b_kind, b_sd, b_ss, b_st, b_sa, b_sb, b_fk, b_f0, b_f1, b_fb, b_fact, b_factv, b_reach, b_vp, b_vm, b_vx, b_vy, b_sp, b_pc, b_sm, b_cell, b_outList, b_entryList) :=
  Exists.intro P ⟨lim, cal, dep, op, oc, ec, an, bu, h1, h2, h3, h4, h5⟩
theorem rl_add {kk : Nat} {P : cc_Pg} (h2 : rl_2 P a_kind a_d a_s a_t a_a a_b a_unitLen a_unitProc a_unitMask a_callSites a_waiting b_len b_kind b_sd b_ss b_st b_sa b_sb) {lim cal dep op oc ec : Nat} (hlim : lim ≤ 8) (hcal : cal ≤ 64) (hdep : dep ≤ 16) (hop : op < cc_N P) (hoc : oc ≤ 16) (hec : ec ≤ 64) (h5 : cc_LR oc ec a_outputs a_entryProc a_entryX a_entryY a_entryMask b_outList b_entryList) {k d s t : Nat} {a b : Int32} (hL : cc_L P op < 8) (hk : k ≤ 7) (hd : d < 4) (hs : s < 4) (ht : t < 4)
    (h6 : k = 6 → a.toNatClampNeg < cc_N P ∧ a = nI a.toNatClampNeg) (h5' : k = 5 → cc_L P op + 2 ≤ b.toNatClampNeg ∧ b.toNatClampNeg ≤ cc_L P op + 9 ∧ b = nI b.toNatClampNeg) {cs : Nat → Int32} (hcs : cc_cs (cc_ad P op k d s t a b) cs) {k2 va vb : Int32}
    (hy : (k ≤ 3 → k2 = 1 ∧ va = nI k) ∧ (k = 4 → k2 = 0 ∧ va = a ∧ vb = b) ∧ (k = 5 → k2 = 2 ∧ va = a ∧ vb = nI (b.toNatClampNeg - (cc_L P op + 1))) ∧ (k = 6 → k2 = 3 ∧ va = a) ∧ (k = 7 → k2 = 4)) :
    i_Rel kk (f_LIN, f_SKIP, f_CALL, f_OUT, f_JUMP, f_RUNNING, f_FIRST_VERSION, f_MAX_VERSIONS, (nI (cc_N P)), (nI lim), (nI cal), (nI dep), (nI op), 0, 0, f_builtCount, f_builtTotal, f_workTop, f_ctxMask, f_ctxX, f_ctxY, f_argMask, f_argX, f_argY, f_candCount, f_candTotal, f_overflow, f_frames, (nI oc), (nI ec), (upd a_kind (op * 8 + cc_L P op) (nI k)), (upd a_d (op * 8 + cc_L P op) (nI d)), (upd a_s (op * 8 + cc_L P op) (nI s)), (upd a_t (op * 8 + cc_L P op) (nI t)), (upd a_a (op * 8 + cc_L P op) a), (upd a_b (op * 8 + cc_L P op) b), (upd a_unitLen op (nI (cc_L P op + 1))), a_unitProc, a_unitMask, a_unitX, a_unitY, a_unitSize, a_splitNow, cs, a_opaque, a_form0, a_form1, a_formB, a_met, a_fact, a_factValue, a_work, a_waiting, a_trial, a_candProc, a_candMask, a_candX, a_candY, a_candSize, a_place, a_frameUnit, a_framePc, a_vars, a_outputs, a_entryProc, a_entryX, a_entryY, a_entryMask)
      ((nI (cc_N P)), (nI lim), (nI cal), (nI dep), (nI op), g_ok, g_c0, g_c1, g_cb, g_vn, 0, g_chosen, g_top, (nI oc), (nI ec), (upd b_len op (nI (cc_L P op + 1))), (upd b_kind (op * 8 + cc_L P op) k2), (upd b_sd (op * 8 + cc_L P op) (nI d)), (upd b_ss (op * 8 + cc_L P op) (nI s)), (upd b_st (op * 8 + cc_L P op) (nI t)), (upd b_sa (op * 8 + cc_L P op) va), (upd b_sb (op * 8 + cc_L P op) vb), b_fk, b_f0, b_f1, b_fb, b_fact, b_factv, b_reach, b_vp, b_vm, b_vx, b_vy, b_sp, b_pc, b_sm, b_cell, b_outList, b_entryList) := by
  obtain ⟨W, x, hul, hup, hum, -, hwa, y, hlen⟩ := h2
  exact rl_mk (cc_ad P op k d s t a b) lim cal dep op oc ec false false ⟨rfl, rfl, rfl, rfl, rfl, rfl, rfl, rfl, rfl, rfl, rfl, rfl, rfl, rfl, rfl, rfl, rfl, hlim, hcal, hdep, hop, hoc, hec⟩
    ⟨ad_wf W hL hk hd hs ht h6 h5', ad_xc W hL x, ad_len hul, hup, hum, hcs, hwa, ad_yc W hL y hy, ad_len hlen⟩ (fun z => nomatch z) (fun z => nomatch z) h5
end
section
variable {f_LIN f_SKIP f_CALL f_OUT f_JUMP f_RUNNING f_FIRST_VERSION f_MAX_VERSIONS f_procedures f_length f_calls f_depth f_openProc f_analysed f_built f_builtCount f_builtTotal f_workTop f_ctxMask f_ctxX f_ctxY f_argMask f_argX f_argY f_candCount f_candTotal f_overflow f_frames f_outCount f_entryCount : Int32} {a_kind a_d a_s a_t a_a a_b a_unitLen a_unitProc a_unitMask a_unitX a_unitY a_unitSize a_splitNow a_callSites a_opaque a_form0 a_form1 a_formB a_met a_fact a_factValue a_work a_waiting a_trial a_candProc a_candMask a_candX a_candY a_candSize a_place a_frameUnit a_framePc a_vars a_outputs a_entryProc a_entryX a_entryY a_entryMask : Nat → Int32}
theorem xw_lin {post : Int32 → SX → Prop} {op lim Lp : Nat} (hop : op < 6) (hlim : lim ≤ 8) (hLp : Lp ≤ 8) (hL : a_unitLen op = nI Lp) {v1 v2 v3 v4 : Int32} (hF : ¬ Lp < lim → post (-1) (f_LIN, f_SKIP, f_CALL, f_OUT, f_JUMP, f_RUNNING, f_FIRST_VERSION, f_MAX_VERSIONS, f_procedures, (nI lim), f_calls, f_depth, (nI op), f_analysed, f_built, f_builtCount, f_builtTotal, f_workTop, f_ctxMask, f_ctxX, f_ctxY, f_argMask, f_argX, f_argY, f_candCount, f_candTotal, f_overflow, f_frames, f_outCount, f_entryCount, a_kind, a_d, a_s, a_t, a_a, a_b, a_unitLen, a_unitProc, a_unitMask, a_unitX, a_unitY, a_unitSize, a_splitNow, a_callSites, a_opaque, a_form0, a_form1, a_formB, a_met, a_fact, a_factValue, a_work, a_waiting, a_trial, a_candProc, a_candMask, a_candX, a_candY, a_candSize, a_place, a_frameUnit, a_framePc, a_vars, a_outputs, a_entryProc, a_entryX, a_entryY, a_entryMask)) (hB : Lp < lim → ¬ (cc_sm v1 ∧ cc_sm v2) → post (-2) (f_LIN, f_SKIP, f_CALL, f_OUT, f_JUMP, f_RUNNING, f_FIRST_VERSION, f_MAX_VERSIONS, f_procedures, (nI lim), f_calls, f_depth, (nI op), f_analysed, f_built, f_builtCount, f_builtTotal, f_workTop, f_ctxMask, f_ctxX, f_ctxY, f_argMask, f_argX, f_argY, f_candCount, f_candTotal, f_overflow, f_frames, f_outCount, f_entryCount, a_kind, a_d, a_s, a_t, a_a, a_b, a_unitLen, a_unitProc, a_unitMask, a_unitX, a_unitY, a_unitSize, a_splitNow, a_callSites, a_opaque, a_form0, a_form1, a_formB, a_met, a_fact, a_factValue, a_work, a_waiting, a_trial, a_candProc, a_candMask, a_candX, a_candY, a_candSize, a_place, a_frameUnit, a_framePc, a_vars, a_outputs, a_entryProc, a_entryX, a_entryY, a_entryMask))
    (hG : Lp < lim → cc_sm v1 → cc_sm v2 → post (nI Lp) (f_LIN, f_SKIP, f_CALL, f_OUT, f_JUMP, f_RUNNING, f_FIRST_VERSION, f_MAX_VERSIONS, f_procedures, (nI lim), f_calls, f_depth, (nI op), 0, 0, f_builtCount, f_builtTotal, f_workTop, f_ctxMask, f_ctxX, f_ctxY, f_argMask, f_argX, f_argY, f_candCount, f_candTotal, f_overflow, f_frames, f_outCount, f_entryCount, (upd a_kind (op * 8 + Lp) 4), (upd a_d (op * 8 + Lp) v1), (upd a_s (op * 8 + Lp) v2), (upd a_t (op * 8 + Lp) 0), (upd a_a (op * 8 + Lp) v3), (upd a_b (op * 8 + Lp) v4), (upd a_unitLen op (nI (Lp + 1))), a_unitProc, a_unitMask, a_unitX, a_unitY, a_unitSize, a_splitNow, a_callSites, a_opaque, a_form0, a_form1, a_formB, a_met, a_fact, a_factValue, a_work, a_waiting, a_trial, a_candProc, a_candMask, a_candX, a_candY, a_candSize, a_place, a_frameUnit, a_framePc, a_vars, a_outputs, a_entryProc, a_entryX, a_entryY, a_entryMask)) :
    wpX_lin post (f_LIN, f_SKIP, f_CALL, f_OUT, f_JUMP, f_RUNNING, f_FIRST_VERSION, f_MAX_VERSIONS, f_procedures, (nI lim), f_calls, f_depth, (nI op), f_analysed, f_built, f_builtCount, f_builtTotal, f_workTop, f_ctxMask, f_ctxX, f_ctxY, f_argMask, f_argX, f_argY, f_candCount, f_candTotal, f_overflow, f_frames, f_outCount, f_entryCount, a_kind, a_d, a_s, a_t, a_a, a_b, a_unitLen, a_unitProc, a_unitMask, a_unitX, a_unitY, a_unitSize, a_splitNow, a_callSites, a_opaque, a_form0, a_form1, a_formB, a_met, a_fact, a_factValue, a_work, a_waiting, a_trial, a_candProc, a_candMask, a_candX, a_candY, a_candSize, a_place, a_frameUnit, a_framePc, a_vars, a_outputs, a_entryProc, a_entryX, a_entryY, a_entryMask) v1 v2 v3 v4 := by
  unfold wpX_lin
  exact xw_isFull hop hlim hLp hL (fun c => br_t rfl (xw_badVar (fun s1 s2 _ => br_t rfl (xw_append hop (by omega) hL (hG c s1 s2))) (fun nb => br_f ix_10 (hB c (fun z => nb ⟨z.1, z.2, cc_sm_0⟩))))) (fun c => br_f ix_10 (hF c))
theorem xw_out {post : Int32 → SX → Prop} {op lim Lp : Nat} (hop : op < 6) (hlim : lim ≤ 8) (hLp : Lp ≤ 8) (hL : a_unitLen op = nI Lp) {v1 : Int32} (hF : ¬ Lp < lim → post (-1) (f_LIN, f_SKIP, f_CALL, f_OUT, f_JUMP, f_RUNNING, f_FIRST_VERSION, f_MAX_VERSIONS, f_procedures, (nI lim), f_calls, f_depth, (nI op), f_analysed, f_built, f_builtCount, f_builtTotal, f_workTop, f_ctxMask, f_ctxX, f_ctxY, f_argMask, f_argX, f_argY, f_candCount, f_candTotal, f_overflow, f_frames, f_outCount, f_entryCount, a_kind, a_d, a_s, a_t, a_a, a_b, a_unitLen, a_unitProc, a_unitMask, a_unitX, a_unitY, a_unitSize, a_splitNow, a_callSites, a_opaque, a_form0, a_form1, a_formB, a_met, a_fact, a_factValue, a_work, a_waiting, a_trial, a_candProc, a_candMask, a_candX, a_candY, a_candSize, a_place, a_frameUnit, a_framePc, a_vars, a_outputs, a_entryProc, a_entryX, a_entryY, a_entryMask)) (hB : Lp < lim → ¬ cc_sm v1 → post (-2) (f_LIN, f_SKIP, f_CALL, f_OUT, f_JUMP, f_RUNNING, f_FIRST_VERSION, f_MAX_VERSIONS, f_procedures, (nI lim), f_calls, f_depth, (nI op), f_analysed, f_built, f_builtCount, f_builtTotal, f_workTop, f_ctxMask, f_ctxX, f_ctxY, f_argMask, f_argX, f_argY, f_candCount, f_candTotal, f_overflow, f_frames, f_outCount, f_entryCount, a_kind, a_d, a_s, a_t, a_a, a_b, a_unitLen, a_unitProc, a_unitMask, a_unitX, a_unitY, a_unitSize, a_splitNow, a_callSites, a_opaque, a_form0, a_form1, a_formB, a_met, a_fact, a_factValue, a_work, a_waiting, a_trial, a_candProc, a_candMask, a_candX, a_candY, a_candSize, a_place, a_frameUnit, a_framePc, a_vars, a_outputs, a_entryProc, a_entryX, a_entryY, a_entryMask))
    (hG : Lp < lim → cc_sm v1 → post (nI Lp) (f_LIN, f_SKIP, f_CALL, f_OUT, f_JUMP, f_RUNNING, f_FIRST_VERSION, f_MAX_VERSIONS, f_procedures, (nI lim), f_calls, f_depth, (nI op), 0, 0, f_builtCount, f_builtTotal, f_workTop, f_ctxMask, f_ctxX, f_ctxY, f_argMask, f_argX, f_argY, f_candCount, f_candTotal, f_overflow, f_frames, f_outCount, f_entryCount, (upd a_kind (op * 8 + Lp) 7), (upd a_d (op * 8 + Lp) 0), (upd a_s (op * 8 + Lp) v1), (upd a_t (op * 8 + Lp) 0), (upd a_a (op * 8 + Lp) 0), (upd a_b (op * 8 + Lp) 0), (upd a_unitLen op (nI (Lp + 1))), a_unitProc, a_unitMask, a_unitX, a_unitY, a_unitSize, a_splitNow, a_callSites, a_opaque, a_form0, a_form1, a_formB, a_met, a_fact, a_factValue, a_work, a_waiting, a_trial, a_candProc, a_candMask, a_candX, a_candY, a_candSize, a_place, a_frameUnit, a_framePc, a_vars, a_outputs, a_entryProc, a_entryX, a_entryY, a_entryMask)) :
    wpX_out post (f_LIN, f_SKIP, f_CALL, f_OUT, f_JUMP, f_RUNNING, f_FIRST_VERSION, f_MAX_VERSIONS, f_procedures, (nI lim), f_calls, f_depth, (nI op), f_analysed, f_built, f_builtCount, f_builtTotal, f_workTop, f_ctxMask, f_ctxX, f_ctxY, f_argMask, f_argX, f_argY, f_candCount, f_candTotal, f_overflow, f_frames, f_outCount, f_entryCount, a_kind, a_d, a_s, a_t, a_a, a_b, a_unitLen, a_unitProc, a_unitMask, a_unitX, a_unitY, a_unitSize, a_splitNow, a_callSites, a_opaque, a_form0, a_form1, a_formB, a_met, a_fact, a_factValue, a_work, a_waiting, a_trial, a_candProc, a_candMask, a_candX, a_candY, a_candSize, a_place, a_frameUnit, a_framePc, a_vars, a_outputs, a_entryProc, a_entryX, a_entryY, a_entryMask) v1 := by
  unfold wpX_out
  exact xw_isFull hop hlim hLp hL (fun c => br_t rfl (xw_badVar (fun _ s2 _ => br_t rfl (xw_append hop (by omega) hL (hG c s2))) (fun nb => br_f ix_10 (hB c (fun z => nb ⟨cc_sm_0, z, cc_sm_0⟩))))) (fun c => br_f ix_10 (hF c))
theorem xw_op {post : Int32 → SX → Prop} {op lim Lp : Nat} (hop : op < 6) (hlim : lim ≤ 8) (hLp : Lp ≤ 8) (hL : a_unitLen op = nI Lp) {v1 v2 v3 v4 : Int32} (hF : ¬ Lp < lim → post (-1) (f_LIN, f_SKIP, f_CALL, f_OUT, f_JUMP, f_RUNNING, f_FIRST_VERSION, f_MAX_VERSIONS, f_procedures, (nI lim), f_calls, f_depth, (nI op), f_analysed, f_built, f_builtCount, f_builtTotal, f_workTop, f_ctxMask, f_ctxX, f_ctxY, f_argMask, f_argX, f_argY, f_candCount, f_candTotal, f_overflow, f_frames, f_outCount, f_entryCount, a_kind, a_d, a_s, a_t, a_a, a_b, a_unitLen, a_unitProc, a_unitMask, a_unitX, a_unitY, a_unitSize, a_splitNow, a_callSites, a_opaque, a_form0, a_form1, a_formB, a_met, a_fact, a_factValue, a_work, a_waiting, a_trial, a_candProc, a_candMask, a_candX, a_candY, a_candSize, a_place, a_frameUnit, a_framePc, a_vars, a_outputs, a_entryProc, a_entryX, a_entryY, a_entryMask)) (hB : Lp < lim → ¬ (cc_sm v1 ∧ cc_sm v2 ∧ cc_sm v3 ∧ cc_sm v4) → post (-2) (f_LIN, f_SKIP, f_CALL, f_OUT, f_JUMP, f_RUNNING, f_FIRST_VERSION, f_MAX_VERSIONS, f_procedures, (nI lim), f_calls, f_depth, (nI op), f_analysed, f_built, f_builtCount, f_builtTotal, f_workTop, f_ctxMask, f_ctxX, f_ctxY, f_argMask, f_argX, f_argY, f_candCount, f_candTotal, f_overflow, f_frames, f_outCount, f_entryCount, a_kind, a_d, a_s, a_t, a_a, a_b, a_unitLen, a_unitProc, a_unitMask, a_unitX, a_unitY, a_unitSize, a_splitNow, a_callSites, a_opaque, a_form0, a_form1, a_formB, a_met, a_fact, a_factValue, a_work, a_waiting, a_trial, a_candProc, a_candMask, a_candX, a_candY, a_candSize, a_place, a_frameUnit, a_framePc, a_vars, a_outputs, a_entryProc, a_entryX, a_entryY, a_entryMask))
    (hG : Lp < lim → cc_sm v1 → cc_sm v2 → cc_sm v3 → cc_sm v4 → post (nI Lp) (f_LIN, f_SKIP, f_CALL, f_OUT, f_JUMP, f_RUNNING, f_FIRST_VERSION, f_MAX_VERSIONS, f_procedures, (nI lim), f_calls, f_depth, (nI op), 0, 0, f_builtCount, f_builtTotal, f_workTop, f_ctxMask, f_ctxX, f_ctxY, f_argMask, f_argX, f_argY, f_candCount, f_candTotal, f_overflow, f_frames, f_outCount, f_entryCount, (upd a_kind (op * 8 + Lp) v1), (upd a_d (op * 8 + Lp) v2), (upd a_s (op * 8 + Lp) v3), (upd a_t (op * 8 + Lp) v4), (upd a_a (op * 8 + Lp) 0), (upd a_b (op * 8 + Lp) 0), (upd a_unitLen op (nI (Lp + 1))), a_unitProc, a_unitMask, a_unitX, a_unitY, a_unitSize, a_splitNow, a_callSites, a_opaque, a_form0, a_form1, a_formB, a_met, a_fact, a_factValue, a_work, a_waiting, a_trial, a_candProc, a_candMask, a_candX, a_candY, a_candSize, a_place, a_frameUnit, a_framePc, a_vars, a_outputs, a_entryProc, a_entryX, a_entryY, a_entryMask)) :
    wpX_op post (f_LIN, f_SKIP, f_CALL, f_OUT, f_JUMP, f_RUNNING, f_FIRST_VERSION, f_MAX_VERSIONS, f_procedures, (nI lim), f_calls, f_depth, (nI op), f_analysed, f_built, f_builtCount, f_builtTotal, f_workTop, f_ctxMask, f_ctxX, f_ctxY, f_argMask, f_argX, f_argY, f_candCount, f_candTotal, f_overflow, f_frames, f_outCount, f_entryCount, a_kind, a_d, a_s, a_t, a_a, a_b, a_unitLen, a_unitProc, a_unitMask, a_unitX, a_unitY, a_unitSize, a_splitNow, a_callSites, a_opaque, a_form0, a_form1, a_formB, a_met, a_fact, a_factValue, a_work, a_waiting, a_trial, a_candProc, a_candMask, a_candX, a_candY, a_candSize, a_place, a_frameUnit, a_framePc, a_vars, a_outputs, a_entryProc, a_entryX, a_entryY, a_entryMask) v1 v2 v3 v4 := by
  unfold wpX_op
  exact xw_isFull hop hlim hLp hL (fun c => br_t rfl (cc_sm_c (fun k1 => xw_badVar (fun s1 s2 s3 => br_t rfl (xw_append hop (by omega) hL (hG c k1 s1 s2 s3))) (fun nb => br_f ix_10 (hB c (fun z => nb z.2)))) (fun z => hB c (fun w => z w.1)))) (fun c => br_f ix_10 (hF c))
theorem xw_skip {post : Int32 → SX → Prop} {op lim Lp : Nat} (hop : op < 6) (hlim : lim ≤ 8) (hLp : Lp ≤ 8) (hL : a_unitLen op = nI Lp) {v1 v2 v3 : Int32} (hF : ¬ Lp < lim → post (-1) (f_LIN, f_SKIP, f_CALL, f_OUT, f_JUMP, f_RUNNING, f_FIRST_VERSION, f_MAX_VERSIONS, f_procedures, (nI lim), f_calls, f_depth, (nI op), f_analysed, f_built, f_builtCount, f_builtTotal, f_workTop, f_ctxMask, f_ctxX, f_ctxY, f_argMask, f_argX, f_argY, f_candCount, f_candTotal, f_overflow, f_frames, f_outCount, f_entryCount, a_kind, a_d, a_s, a_t, a_a, a_b, a_unitLen, a_unitProc, a_unitMask, a_unitX, a_unitY, a_unitSize, a_splitNow, a_callSites, a_opaque, a_form0, a_form1, a_formB, a_met, a_fact, a_factValue, a_work, a_waiting, a_trial, a_candProc, a_candMask, a_candX, a_candY, a_candSize, a_place, a_frameUnit, a_framePc, a_vars, a_outputs, a_entryProc, a_entryX, a_entryY, a_entryMask)) (hB : Lp < lim → ¬ ((∃ n, 1 ≤ n ∧ n ≤ 8 ∧ v3 = nI n) ∧ cc_sm v1) → post (-2) (f_LIN, f_SKIP, f_CALL, f_OUT, f_JUMP, f_RUNNING, f_FIRST_VERSION, f_MAX_VERSIONS, f_procedures, (nI lim), f_calls, f_depth, (nI op), f_analysed, f_built, f_builtCount, f_builtTotal, f_workTop, f_ctxMask, f_ctxX, f_ctxY, f_argMask, f_argX, f_argY, f_candCount, f_candTotal, f_overflow, f_frames, f_outCount, f_entryCount, a_kind, a_d, a_s, a_t, a_a, a_b, a_unitLen, a_unitProc, a_unitMask, a_unitX, a_unitY, a_unitSize, a_splitNow, a_callSites, a_opaque, a_form0, a_form1, a_formB, a_met, a_fact, a_factValue, a_work, a_waiting, a_trial, a_candProc, a_candMask, a_candX, a_candY, a_candSize, a_place, a_frameUnit, a_framePc, a_vars, a_outputs, a_entryProc, a_entryX, a_entryY, a_entryMask))
    (hG : Lp < lim → ∀ n, 1 ≤ n → n ≤ 8 → v3 = nI n → cc_sm v1 → post (nI Lp) (f_LIN, f_SKIP, f_CALL, f_OUT, f_JUMP, f_RUNNING, f_FIRST_VERSION, f_MAX_VERSIONS, f_procedures, (nI lim), f_calls, f_depth, (nI op), 0, 0, f_builtCount, f_builtTotal, f_workTop, f_ctxMask, f_ctxX, f_ctxY, f_argMask, f_argX, f_argY, f_candCount, f_candTotal, f_overflow, f_frames, f_outCount, f_entryCount, (upd a_kind (op * 8 + Lp) 5), (upd a_d (op * 8 + Lp) 0), (upd a_s (op * 8 + Lp) v1), (upd a_t (op * 8 + Lp) 0), (upd a_a (op * 8 + Lp) v2), (upd a_b (op * 8 + Lp) (nI (Lp + 1 + n))), (upd a_unitLen op (nI (Lp + 1))), a_unitProc, a_unitMask, a_unitX, a_unitY, a_unitSize, a_splitNow, a_callSites, a_opaque, a_form0, a_form1, a_formB, a_met, a_fact, a_factValue, a_work, a_waiting, a_trial, a_candProc, a_candMask, a_candX, a_candY, a_candSize, a_place, a_frameUnit, a_framePc, a_vars, a_outputs, a_entryProc, a_entryX, a_entryY, a_entryMask)) :
    wpX_skip post (f_LIN, f_SKIP, f_CALL, f_OUT, f_JUMP, f_RUNNING, f_FIRST_VERSION, f_MAX_VERSIONS, f_procedures, (nI lim), f_calls, f_depth, (nI op), f_analysed, f_built, f_builtCount, f_builtTotal, f_workTop, f_ctxMask, f_ctxX, f_ctxY, f_argMask, f_argX, f_argY, f_candCount, f_candTotal, f_overflow, f_frames, f_outCount, f_entryCount, a_kind, a_d, a_s, a_t, a_a, a_b, a_unitLen, a_unitProc, a_unitMask, a_unitX, a_unitY, a_unitSize, a_splitNow, a_callSites, a_opaque, a_form0, a_form1, a_formB, a_met, a_fact, a_factValue, a_work, a_waiting, a_trial, a_candProc, a_candMask, a_candX, a_candY, a_candSize, a_place, a_frameUnit, a_framePc, a_vars, a_outputs, a_entryProc, a_entryX, a_entryY, a_entryMask) v1 v2 v3 := by
  unfold wpX_skip
  refine xw_isFull hop hlim hLp hL (fun c => br_t rfl (br_c (fun z => hB c ?_) (fun z => br_c (fun z2 => hB c ?_) (fun z2 => xw_badVar (fun _ s2 _ => br_t rfl (And.intro (vp_in_nI (by omega) (by decide)) ?_)) (fun nb => br_f ix_10 (hB c (fun w => nb ⟨cc_sm_0, w.2, cc_sm_0⟩))))))) (fun c => br_f ix_10 (hF c))
  · rintro ⟨⟨n, h1, h2, rfl⟩, -⟩; exact nI_nlt (b := 1) h1 (by omega) z
  · rintro ⟨⟨n, h1, h2, rfl⟩, -⟩; exact nI_nlt (a := 8) h2 (by decide) z2
  · have hne : ¬ v3 < 0 := fun w => z (Int32.lt_of_lt_of_le w (by decide))
    obtain ⟨n, hn, rfl⟩ := nI_of2 (M := 8) (n := 8) (by decide) hne (Int32.not_lt.mp z2)
    have n1 : 1 ≤ n := by
      refine Nat.le_of_not_lt fun w => z ?_
      exact nI_lt (b := 1) w (by decide)
    rw [ix_c a_unitLen (show op < 2 ^ 31 by omega), hL, nI_1, nI_add]
    exact xw_append hop (by omega) hL (hG c n n1 hn rfl s2)
theorem xw_call {post : Int32 → SX → Prop} {N op lim Lp : Nat} (hN : N ≤ 6) (hop : op < 6) (hlim : lim ≤ 8) (hLp : Lp ≤ 8) (hL : a_unitLen op = nI Lp) {v1 v2 v3 v4 : Int32} (hF : ¬ Lp < lim → post (-1) (f_LIN, f_SKIP, f_CALL, f_OUT, f_JUMP, f_RUNNING, f_FIRST_VERSION, f_MAX_VERSIONS, (nI N), (nI lim), f_calls, f_depth, (nI op), f_analysed, f_built, f_builtCount, f_builtTotal, f_workTop, f_ctxMask, f_ctxX, f_ctxY, f_argMask, f_argX, f_argY, f_candCount, f_candTotal, f_overflow, f_frames, f_outCount, f_entryCount, a_kind, a_d, a_s, a_t, a_a, a_b, a_unitLen, a_unitProc, a_unitMask, a_unitX, a_unitY, a_unitSize, a_splitNow, a_callSites, a_opaque, a_form0, a_form1, a_formB, a_met, a_fact, a_factValue, a_work, a_waiting, a_trial, a_candProc, a_candMask, a_candX, a_candY, a_candSize, a_place, a_frameUnit, a_framePc, a_vars, a_outputs, a_entryProc, a_entryX, a_entryY, a_entryMask)) (hB : Lp < lim → ¬ ((∃ q, q < N ∧ v1 = nI q) ∧ cc_sm v2 ∧ cc_sm v3 ∧ cc_sm v4) → post (-2) (f_LIN, f_SKIP, f_CALL, f_OUT, f_JUMP, f_RUNNING, f_FIRST_VERSION, f_MAX_VERSIONS, (nI N), (nI lim), f_calls, f_depth, (nI op), f_analysed, f_built, f_builtCount, f_builtTotal, f_workTop, f_ctxMask, f_ctxX, f_ctxY, f_argMask, f_argX, f_argY, f_candCount, f_candTotal, f_overflow, f_frames, f_outCount, f_entryCount, a_kind, a_d, a_s, a_t, a_a, a_b, a_unitLen, a_unitProc, a_unitMask, a_unitX, a_unitY, a_unitSize, a_splitNow, a_callSites, a_opaque, a_form0, a_form1, a_formB, a_met, a_fact, a_factValue, a_work, a_waiting, a_trial, a_candProc, a_candMask, a_candX, a_candY, a_candSize, a_place, a_frameUnit, a_framePc, a_vars, a_outputs, a_entryProc, a_entryX, a_entryY, a_entryMask))
    (hG : Lp < lim → ∀ q, q < N → v1 = nI q → cc_sm v2 → cc_sm v3 → cc_sm v4 → post (nI Lp) (f_LIN, f_SKIP, f_CALL, f_OUT, f_JUMP, f_RUNNING, f_FIRST_VERSION, f_MAX_VERSIONS, (nI N), (nI lim), f_calls, f_depth, (nI op), 0, 0, f_builtCount, f_builtTotal, f_workTop, f_ctxMask, f_ctxX, f_ctxY, f_argMask, f_argX, f_argY, f_candCount, f_candTotal, f_overflow, f_frames, f_outCount, f_entryCount, (upd a_kind (op * 8 + Lp) 6), (upd a_d (op * 8 + Lp) v2), (upd a_s (op * 8 + Lp) v3), (upd a_t (op * 8 + Lp) v4), (upd a_a (op * 8 + Lp) (nI q)), (upd a_b (op * 8 + Lp) 0), (upd a_unitLen op (nI (Lp + 1))), a_unitProc, a_unitMask, a_unitX, a_unitY, a_unitSize, a_splitNow, (upd a_callSites op (a_callSites op ||| ((1 : Int32) <<< (nI Lp &&& 31)))), a_opaque, a_form0, a_form1, a_formB, a_met, a_fact, a_factValue, a_work, a_waiting, a_trial, a_candProc, a_candMask, a_candX, a_candY, a_candSize, a_place, a_frameUnit, a_framePc, a_vars, a_outputs, a_entryProc, a_entryX, a_entryY, a_entryMask)) :
    wpX_call post (f_LIN, f_SKIP, f_CALL, f_OUT, f_JUMP, f_RUNNING, f_FIRST_VERSION, f_MAX_VERSIONS, (nI N), (nI lim), f_calls, f_depth, (nI op), f_analysed, f_built, f_builtCount, f_builtTotal, f_workTop, f_ctxMask, f_ctxX, f_ctxY, f_argMask, f_argX, f_argY, f_candCount, f_candTotal, f_overflow, f_frames, f_outCount, f_entryCount, a_kind, a_d, a_s, a_t, a_a, a_b, a_unitLen, a_unitProc, a_unitMask, a_unitX, a_unitY, a_unitSize, a_splitNow, a_callSites, a_opaque, a_form0, a_form1, a_formB, a_met, a_fact, a_factValue, a_work, a_waiting, a_trial, a_candProc, a_candMask, a_candX, a_candY, a_candSize, a_place, a_frameUnit, a_framePc, a_vars, a_outputs, a_entryProc, a_entryX, a_entryY, a_entryMask) v1 v2 v3 v4 := by
  unfold wpX_call
  refine xw_isFull hop hlim hLp hL (fun c => br_t rfl (xw_isProc hN (fun q hq e => ?_) (fun no => br_t rfl (hB c (fun w => no w.1))))) (fun c => br_f ix_10 (hF c))
  subst e
  have hio : vp_in (nI op) 6 := vp_in_nI hop (by decide)
  refine br_f ix_10 (xw_badVar (fun s1 s2 s3 => br_t rfl (xw_append hop (by omega) hL (And.intro hio (And.intro hio (nm_e ?_))))) (fun nb => br_f ix_10 (hB c (fun w => nb w.2))))
  rw [ix_c a_callSites (show op < 2 ^ 31 by omega), nI_clamp (show op < 2 ^ 31 by omega)]
  exact hG c q hq rfl s1 s2 s3
end
end
section
/-! the constructors and the feeding methods -/
def cc_c3 (x lo hi : Int32) : Int32 := if lo ≤ x then (if x ≤ hi then x else hi) else lo
theorem cc_c3_w {x lo hi : Int32} {post : Int32 → Prop} (h : post (cc_c3 x lo hi)) : ((lo ≤ x → (x ≤ hi → post x) ∧ (¬ x ≤ hi → post hi)) ∧ (¬ lo ≤ x → post lo)) := by
  unfold cc_c3 at h
  refine br_c (fun c => br_c (fun c2 => ?_) (fun c2 => ?_)) (fun c => ?_)
  · rw [if_pos c, if_pos c2] at h; exact h
  · rw [if_pos c, if_neg c2] at h; exact h
  · rw [if_neg c] at h; exact h
theorem cc_c3_n {lo hi : Nat} (x : Int32) (h : lo ≤ hi) (hh : hi < 2 ^ 31) : ∃ n, lo ≤ n ∧ n ≤ hi ∧ cc_c3 x (nI lo) (nI hi) = nI n := by
  unfold cc_c3
  by_cases c : nI lo ≤ x
  · rw [if_pos c]
    by_cases c2 : x ≤ nI hi
    · rw [if_pos c2]
      have c3 : ¬ x < 0 := Int32.not_lt.mpr (Int32.le_trans (nI_pos' (by omega)) c)
      obtain ⟨j, hj, rfl⟩ := nI_of c3
      exact ⟨j, (nI_leI (by omega) hj).mp c, (nI_leI hj hh).mp c2, rfl⟩
    · rw [if_neg c2]; exact ⟨hi, h, Nat.le_refl _, rfl⟩
  · rw [if_neg c]; exact ⟨lo, Nat.le_refl _, h, rfl⟩
section
variable {f_LIN f_SKIP f_CALL f_OUT f_JUMP f_RUNNING f_FIRST_VERSION f_MAX_VERSIONS f_procedures f_length f_calls f_depth f_openProc f_analysed f_built f_builtCount f_builtTotal f_workTop f_ctxMask f_ctxX f_ctxY f_argMask f_argX f_argY f_candCount f_candTotal f_overflow f_frames f_outCount f_entryCount : Int32} {a_kind a_d a_s a_t a_a a_b a_unitLen a_unitProc a_unitMask a_unitX a_unitY a_unitSize a_splitNow a_callSites a_opaque a_form0 a_form1 a_formB a_met a_fact a_factValue a_work a_waiting a_trial a_candProc a_candMask a_candX a_candY a_candSize a_place a_frameUnit a_framePc a_vars a_outputs a_entryProc a_entryX a_entryY a_entryMask : Nat → Int32}
theorem xw_clamp {post : Int32 → Prop} {x lo hi : Int32} (h : post (cc_c3 x lo hi)) : wpX_clamp post (f_LIN, f_SKIP, f_CALL, f_OUT, f_JUMP, f_RUNNING, f_FIRST_VERSION, f_MAX_VERSIONS, f_procedures, f_length, f_calls, f_depth, f_openProc, f_analysed, f_built, f_builtCount, f_builtTotal, f_workTop, f_ctxMask, f_ctxX, f_ctxY, f_argMask, f_argX, f_argY, f_candCount, f_candTotal, f_overflow, f_frames, f_outCount, f_entryCount, a_kind, a_d, a_s, a_t, a_a, a_b, a_unitLen, a_unitProc, a_unitMask, a_unitX, a_unitY, a_unitSize, a_splitNow, a_callSites, a_opaque, a_form0, a_form1, a_formB, a_met, a_fact, a_factValue, a_work, a_waiting, a_trial, a_candProc, a_candMask, a_candX, a_candY, a_candSize, a_place, a_frameUnit, a_framePc, a_vars, a_outputs, a_entryProc, a_entryX, a_entryY, a_entryMask) x lo hi := cc_c3_w h
theorem xw_init416 {post : SX → Prop} (h : ∀ up, (∀ j, j < 6 → up j = nI j) → post (f_LIN, f_SKIP, f_CALL, f_OUT, f_JUMP, f_RUNNING, f_FIRST_VERSION, f_MAX_VERSIONS, f_procedures, f_length, f_calls, f_depth, f_openProc, f_analysed, f_built, f_builtCount, f_builtTotal, f_workTop, f_ctxMask, f_ctxX, f_ctxY, f_argMask, f_argX, f_argY, f_candCount, f_candTotal, f_overflow, f_frames, f_outCount, f_entryCount, a_kind, a_d, a_s, a_t, a_a, a_b, a_unitLen, up, a_unitMask, a_unitX, a_unitY, a_unitSize, a_splitNow, a_callSites, a_opaque, a_form0, a_form1, a_formB, a_met, a_fact, a_factValue, a_work, a_waiting, a_trial, a_candProc, a_candMask, a_candX, a_candY, a_candSize, a_place, a_frameUnit, a_framePc, a_vars, a_outputs, a_entryProc, a_entryX, a_entryY, a_entryMask)) :
    ∀ (n i : Nat) (up : Nat → Int32), i ≤ 6 → 6 - i < n → (∀ j, j < i → up j = nI j) → wX_init_416 post f_LIN f_SKIP f_CALL f_OUT f_JUMP f_RUNNING f_FIRST_VERSION f_MAX_VERSIONS f_procedures f_length f_calls f_depth f_openProc f_analysed f_built f_builtCount f_builtTotal f_workTop f_ctxMask f_ctxX f_ctxY f_argMask f_argX f_argY f_candCount f_candTotal f_overflow f_frames f_outCount f_entryCount n (nI i) a_kind a_d a_s a_t a_a a_b a_unitLen up a_unitMask a_unitX a_unitY a_unitSize a_splitNow a_callSites a_opaque a_form0 a_form1 a_formB a_met a_fact a_factValue a_work a_waiting a_trial a_candProc a_candMask a_candX a_candY a_candSize a_place a_frameUnit a_framePc a_vars a_outputs a_entryProc a_entryX a_entryY a_entryMask := by
  intro n
  induction n with
  | zero => intro i up _ z; omega
  | succ n ih =>
    intro i up hi hn I
    by_cases e : i = 6
    · subst e
      exact br_t (show (6 : Int32) ≤ nI 6 from Int32.le_refl _) (h up I)
    · refine br_f (nI_ge (b := 6) (by omega) (by decide)) (And.intro (vp_in_nI (by omega) (by decide)) (nm_e (nm_r (e' := nI (i + 1)) (nI_1 i) (ih (i + 1) _ (by omega) (by omega) (fun j hj => ?_)))))
      rw [nI_clamp (show i < 2 ^ 31 by omega)]
      by_cases ej : j = i
      · subst ej; exact pk_us
      · exact (pk_un ej).trans (I j (by omega))
end
section
variable {g_procs g_limit g_calls g_depth g_cur g_ok g_c0 g_c1 g_cb g_vn g_built g_chosen g_top g_outs g_entries : Int32} {b_len b_kind b_sd b_ss b_st b_sa b_sb b_fk b_f0 b_f1 b_fb b_fact b_factv b_reach b_vp b_vm b_vx b_vy b_sp b_pc b_sm b_cell b_outList b_entryList : Nat → Int32}
theorem yw_init275 {post : SY → Prop} {x4 z0 : Int32} (h : post (g_procs, g_limit, z0, (cc_c3 x4 4 16), g_cur, g_ok, g_c0, g_c1, g_cb, g_vn, g_built, g_chosen, g_top, g_outs, g_entries, b_len, b_kind, b_sd, b_ss, b_st, b_sa, b_sb, b_fk, b_f0, b_f1, b_fb, b_fact, b_factv, b_reach, b_vp, b_vm, b_vx, b_vy, b_sp, b_pc, b_sm, b_cell, b_outList, b_entryList)) : wY_init_275 post x4 z0 g_procs g_limit g_calls g_depth g_cur g_ok g_c0 g_c1 g_cb g_vn g_built g_chosen g_top g_outs g_entries b_len b_kind b_sd b_ss b_st b_sa b_sb b_fk b_f0 b_f1 b_fb b_fact b_factv b_reach b_vp b_vm b_vx b_vy b_sp b_pc b_sm b_cell b_outList b_entryList := cc_c3_w (post := fun z => post (g_procs, g_limit, z0, z, g_cur, g_ok, g_c0, g_c1, g_cb, g_vn, g_built, g_chosen, g_top, g_outs, g_entries, b_len, b_kind, b_sd, b_ss, b_st, b_sa, b_sb, b_fk, b_f0, b_f1, b_fb, b_fact, b_factv, b_reach, b_vp, b_vm, b_vx, b_vy, b_sp, b_pc, b_sm, b_cell, b_outList, b_entryList)) h
theorem yw_init248 {post : SY → Prop} {x3 x4 z0 : Int32} (h : post (g_procs, z0, (cc_c3 x3 8 64), (cc_c3 x4 4 16), g_cur, g_ok, g_c0, g_c1, g_cb, g_vn, g_built, g_chosen, g_top, g_outs, g_entries, b_len, b_kind, b_sd, b_ss, b_st, b_sa, b_sb, b_fk, b_f0, b_f1, b_fb, b_fact, b_factv, b_reach, b_vp, b_vm, b_vx, b_vy, b_sp, b_pc, b_sm, b_cell, b_outList, b_entryList)) : wY_init_248 post x3 x4 z0 g_procs g_limit g_calls g_depth g_cur g_ok g_c0 g_c1 g_cb g_vn g_built g_chosen g_top g_outs g_entries b_len b_kind b_sd b_ss b_st b_sa b_sb b_fk b_f0 b_f1 b_fb b_fact b_factv b_reach b_vp b_vm b_vx b_vy b_sp b_pc b_sm b_cell b_outList b_entryList := cc_c3_w (post := fun z => wY_init_275 post x4 z g_procs z0 g_calls g_depth g_cur g_ok g_c0 g_c1 g_cb g_vn g_built g_chosen g_top g_outs g_entries b_len b_kind b_sd b_ss b_st b_sa b_sb b_fk b_f0 b_f1 b_fb b_fact b_factv b_reach b_vp b_vm b_vx b_vy b_sp b_pc b_sm b_cell b_outList b_entryList) (yw_init275 h)
theorem yw_init223 {post : SY → Prop} {x2 x3 x4 z0 : Int32} (h : post (z0, (cc_c3 x2 2 8), (cc_c3 x3 8 64), (cc_c3 x4 4 16), g_cur, g_ok, g_c0, g_c1, g_cb, g_vn, g_built, g_chosen, g_top, g_outs, g_entries, b_len, b_kind, b_sd, b_ss, b_st, b_sa, b_sb, b_fk, b_f0, b_f1, b_fb, b_fact, b_factv, b_reach, b_vp, b_vm, b_vx, b_vy, b_sp, b_pc, b_sm, b_cell, b_outList, b_entryList)) : wY_init_223 post x2 x3 x4 z0 g_procs g_limit g_calls g_depth g_cur g_ok g_c0 g_c1 g_cb g_vn g_built g_chosen g_top g_outs g_entries b_len b_kind b_sd b_ss b_st b_sa b_sb b_fk b_f0 b_f1 b_fb b_fact b_factv b_reach b_vp b_vm b_vx b_vy b_sp b_pc b_sm b_cell b_outList b_entryList := cc_c3_w (post := fun z => wY_init_248 post x3 x4 z z0 g_limit g_calls g_depth g_cur g_ok g_c0 g_c1 g_cb g_vn g_built g_chosen g_top g_outs g_entries b_len b_kind b_sd b_ss b_st b_sa b_sb b_fk b_f0 b_f1 b_fb b_fact b_factv b_reach b_vp b_vm b_vx b_vy b_sp b_pc b_sm b_cell b_outList b_entryList) (yw_init248 h)
end
theorem yw_init {post : SY → Prop} {p0 p1 p2 p3 : Int32} (h : post (cc_c3 p0 2 6, cc_c3 p1 2 8, cc_c3 p2 8 64, cc_c3 p3 4 16, 0, 0, 0, 0, 0, 0, 0, 0, 0, 0, 0, (fun _ => 0), (fun _ => 0), (fun _ => 0), (fun _ => 0), (fun _ => 0), (fun _ => 0), (fun _ => 0), (fun _ => 0), (fun _ => 0), (fun _ => 0), (fun _ => 0), (fun _ => 0), (fun _ => 0), (fun _ => 0), (fun _ => 0), (fun _ => 0), (fun _ => 0), (fun _ => 0), (fun _ => 0), (fun _ => 0), (fun _ => 0), (fun _ => 0), (fun _ => 0), (fun _ => 0))) : wpY_init post p0 p1 p2 p3 :=
  cc_c3_w (post := fun z => wY_init_223 post p1 p2 p3 z 0 0 0 0 0 0 0 0 0 0 0 0 0 0 0 (fun _ => 0) (fun _ => 0) (fun _ => 0) (fun _ => 0) (fun _ => 0) (fun _ => 0) (fun _ => 0) (fun _ => 0) (fun _ => 0) (fun _ => 0) (fun _ => 0) (fun _ => 0) (fun _ => 0) (fun _ => 0) (fun _ => 0) (fun _ => 0) (fun _ => 0) (fun _ => 0) (fun _ => 0) (fun _ => 0) (fun _ => 0) (fun _ => 0) (fun _ => 0) (fun _ => 0)) (yw_init223 h)
theorem i_vc0 (k0 : Int32) (k1 : Int32) (k2 : Int32) (k3 : Int32) : wpX_init (fun u => wpY_init (fun v => i_Rel 4 u v) k0 k1 k2 k3) k0 k1 k2 k3 := by
  unfold wpX_init
  refine xw_clamp (xw_clamp (xw_clamp (xw_clamp ⟨7, ?_⟩)))
  refine xw_init416 (fun up hup => yw_init ?_) 7 0 (fun _ => 0) (by omega) (by omega) (fun j hj => absurd hj (by omega))
  obtain ⟨N, n1, n2, eN⟩ := cc_c3_n (lo := 2) (hi := 6) k0 (by omega) (by omega)
  obtain ⟨lim, l1, l2, el⟩ := cc_c3_n (lo := 2) (hi := 8) k1 (by omega) (by omega)
  obtain ⟨cal, c1, c2, ec⟩ := cc_c3_n (lo := 8) (hi := 64) k2 (by omega) (by omega)
  obtain ⟨dep, d1, d2, ed⟩ := cc_c3_n (lo := 4) (hi := 16) k3 (by omega) (by omega)
  refine rl_mk (N, (fun _ => 0), (fun _ => 0), (fun _ => 0), (fun _ => 0), (fun _ => 0), (fun _ => 0), (fun _ => 0)) lim cal dep 0 0 0 false false ⟨eN, el, ec, ed, rfl, rfl, rfl, rfl, rfl, eN, el, ec, ed, rfl, rfl, rfl, rfl, l2, c2, d2, by show 0 < N; omega, by omega, by omega⟩ ⟨⟨n1, n2, fun p _ => by show 0 ≤ 8; omega, fun p i _ hi => absurd hi (Nat.not_lt_zero _)⟩, fun p i _ hi => absurd hi (Nat.not_lt_zero _), fun p _ => rfl, hup, fun p _ => rfl, fun p _ i hi => ?_, fun q _ => rfl, fun p i _ hi => absurd hi (Nat.not_lt_zero _), fun p _ => rfl⟩ (fun z => nomatch z) (fun z => nomatch z) ⟨fun j hj => absurd hj (Nat.not_lt_zero _), fun j hj => absurd hj (Nat.not_lt_zero _)⟩
  rw [b_0]
  exact (Bool.false_and _).symm
theorem cc_pr_c {A B : Prop} {N : Nat} (hN : N ≤ 6) {x : Int32} (h1 : ∀ q, q < N → x = nI q → A) (h0 : (¬ ∃ q, q < N ∧ x = nI q) → B) : (x < 0 → B) ∧ (¬ x < 0 → (nI N ≤ x → B) ∧ (¬ nI N ≤ x → A)) := by
  refine br_c (fun c => h0 ?_) (fun c => br_c (fun c2 => h0 ?_) (fun c2 => ?_))
  · rintro ⟨q, hq, rfl⟩; exact nI_pos (by omega) c
  · rintro ⟨q, hq, rfl⟩; exact nI_ge hq (by omega) c2
  · obtain ⟨j, hj, rfl⟩ := nI_of c
    exact h1 j (Nat.lt_of_not_le fun z => c2 (nI_le z hj)) rfl
theorem cc_18_c {A B : Prop} {x : Int32} (h1 : (∃ n, 1 ≤ n ∧ n ≤ 8 ∧ x = nI n) → A) (h0 : (¬ ∃ n, 1 ≤ n ∧ n ≤ 8 ∧ x = nI n) → B) : (x < 1 → B) ∧ (¬ x < 1 → (8 < x → B) ∧ (¬ 8 < x → A)) := by
  refine br_c (fun c => h0 ?_) (fun c => br_c (fun c2 => h0 ?_) (fun c2 => ?_))
  · rintro ⟨q, g1, g2, rfl⟩; exact nI_nlt (b := 1) g1 (by omega) c
  · rintro ⟨q, g1, g2, rfl⟩; exact nI_nlt (a := 8) g2 (by decide) c2
  · have hne : ¬ x < 0 := fun w => c (Int32.lt_of_lt_of_le w (by decide))
    obtain ⟨n, hn, rfl⟩ := nI_of2 (M := 8) (n := 8) (by decide) hne (Int32.not_lt.mp c2)
    exact h1 ⟨n, Nat.le_of_not_lt fun w => c (nI_lt (b := 1) w (by decide)), hn, rfl⟩
theorem i_vc_open {k : Nat} {u : SX} {v : SY} (I : i_Rel k u v) (hk : k + 5 ≤ 2564) (v1 : Int32) : wpX_open (fun r u' => wpY_open (fun r' v' => r' = r ∧ i_Rel (k + 5) u' v') v v1) u v1 := by
  refine rl_el (Q := fun u v => wpX_open (fun r u' => wpY_open (fun r' v' => r' = r ∧ i_Rel (k + 5) u' v') v v1) u v1) ?_ u v I
  rintro f_LIN f_SKIP f_CALL f_OUT f_JUMP f_RUNNING f_FIRST_VERSION f_MAX_VERSIONS f_procedures f_length f_calls f_depth f_openProc f_analysed f_built f_builtCount f_builtTotal f_workTop f_ctxMask f_ctxX f_ctxY f_argMask f_argX f_argY f_candCount f_candTotal f_overflow f_frames f_outCount f_entryCount a_kind a_d a_s a_t a_a a_b a_unitLen a_unitProc a_unitMask a_unitX a_unitY a_unitSize a_splitNow a_callSites a_opaque a_form0 a_form1 a_formB a_met a_fact a_factValue a_work a_waiting a_trial a_candProc a_candMask a_candX a_candY a_candSize a_place a_frameUnit a_framePc a_vars a_outputs a_entryProc a_entryX a_entryY a_entryMask g_procs g_limit g_calls g_depth g_cur g_ok g_c0 g_c1 g_cb g_vn g_built g_chosen g_top g_outs g_entries b_len b_kind b_sd b_ss b_st b_sa b_sb b_fk b_f0 b_f1 b_fb b_fact b_factv b_reach b_vp b_vm b_vx b_vy b_sp b_pc b_sm b_cell b_outList b_entryList ⟨P, lim, cal, dep, op, oc, ec, an, bu, R1, R2, R3, R4, R5⟩
  obtain ⟨rfl, rfl, rfl, rfl, rfl, rfl, rfl, rfl, rfl, rfl, rfl, rfl, rfl, rfl, rfl, rfl, rfl, hlim, hcal, hdep, hop, hoc, hec⟩ := R1
  have N6 := R2.1.2.1
  unfold wpX_open
  refine xw_isProc N6 (fun q hq e => br_f ix_10 ?_) (fun no => br_t rfl ?_)
  · subst e
    exact br_f (nI_pos (by omega)) (br_t (nI_lt hq (by omega)) ⟨rfl, rl_mk P lim cal dep q oc ec an bu ⟨rfl, rfl, rfl, rfl, rfl, rfl, rfl, rfl, rfl, rfl, rfl, rfl, rfl, rfl, rfl, rfl, rfl, hlim, hcal, hdep, hq, hoc, hec⟩ R2 R3 R4 R5⟩)
  · refine br_c (fun _ => ⟨rfl, rl_mk P lim cal dep op oc ec an bu ⟨rfl, rfl, rfl, rfl, rfl, rfl, rfl, rfl, rfl, rfl, rfl, rfl, rfl, rfl, rfl, rfl, rfl, hlim, hcal, hdep, hop, hoc, hec⟩ R2 R3 R4 R5⟩) (fun c => br_c (fun c2 => absurd ?_ no) (fun _ => ⟨rfl, rl_mk P lim cal dep op oc ec an bu ⟨rfl, rfl, rfl, rfl, rfl, rfl, rfl, rfl, rfl, rfl, rfl, rfl, rfl, rfl, rfl, rfl, rfl, hlim, hcal, hdep, hop, hoc, hec⟩ R2 R3 R4 R5⟩))
    obtain ⟨j, hj, rfl⟩ := nI_of c
    exact ⟨j, (nI_ltI hj (by omega)).mp c2, rfl⟩
theorem i_vc_lin {k : Nat} {u : SX} {v : SY} (I : i_Rel k u v) (hk : k + 5 ≤ 2564) (v1 : Int32) (v2 : Int32) (v3 : Int32) (v4 : Int32) : wpX_lin (fun r u' => wpY_lin (fun r' v' => r' = r ∧ i_Rel (k + 5) u' v') v v1 v2 v3 v4) u v1 v2 v3 v4 := by
  refine rl_el (Q := fun u v => wpX_lin (fun r u' => wpY_lin (fun r' v' => r' = r ∧ i_Rel (k + 5) u' v') v v1 v2 v3 v4) u v1 v2 v3 v4) ?_ u v I
  rintro f_LIN f_SKIP f_CALL f_OUT f_JUMP f_RUNNING f_FIRST_VERSION f_MAX_VERSIONS f_procedures f_length f_calls f_depth f_openProc f_analysed f_built f_builtCount f_builtTotal f_workTop f_ctxMask f_ctxX f_ctxY f_argMask f_argX f_argY f_candCount f_candTotal f_overflow f_frames f_outCount f_entryCount a_kind a_d a_s a_t a_a a_b a_unitLen a_unitProc a_unitMask a_unitX a_unitY a_unitSize a_splitNow a_callSites a_opaque a_form0 a_form1 a_formB a_met a_fact a_factValue a_work a_waiting a_trial a_candProc a_candMask a_candX a_candY a_candSize a_place a_frameUnit a_framePc a_vars a_outputs a_entryProc a_entryX a_entryY a_entryMask g_procs g_limit g_calls g_depth g_cur g_ok g_c0 g_c1 g_cb g_vn g_built g_chosen g_top g_outs g_entries b_len b_kind b_sd b_ss b_st b_sa b_sb b_fk b_f0 b_f1 b_fb b_fact b_factv b_reach b_vp b_vm b_vx b_vy b_sp b_pc b_sm b_cell b_outList b_entryList ⟨P, lim, cal, dep, op, oc, ec, an, bu, R1, R2, R3, R4, R5⟩
  obtain ⟨rfl, rfl, rfl, rfl, rfl, rfl, rfl, rfl, rfl, rfl, rfl, rfl, rfl, rfl, rfl, rfl, rfl, hlim, hcal, hdep, hop, hoc, hec⟩ := R1
  obtain ⟨W, x, hul, hup, hum, hcs, hwa, y, hlen⟩ := id R2
  have N6 := W.2.1; have op6 : op < 6 := Nat.lt_of_lt_of_le hop N6; have L8 := W.2.2.1 op op6
  refine xw_lin op6 hlim L8 (hul op op6) (fun c => ?_) (fun c nb => ?_) (fun c s1 s2 => ?_)
  · unfold wpY_lin
    exact yw_add op6 hlim L8 (hlen op op6) (fun _ => ⟨rfl, rl_mk P lim cal dep op oc ec an bu ⟨rfl, rfl, rfl, rfl, rfl, rfl, rfl, rfl, rfl, rfl, rfl, rfl, rfl, rfl, rfl, rfl, rfl, hlim, hcal, hdep, hop, hoc, hec⟩ R2 R3 R4 R5⟩) (fun z => absurd z c) (fun z => absurd z c)
  · unfold wpY_lin
    exact yw_add op6 hlim L8 (hlen op op6) (fun z => absurd c z) (fun _ _ => ⟨rfl, rl_mk P lim cal dep op oc ec an bu ⟨rfl, rfl, rfl, rfl, rfl, rfl, rfl, rfl, rfl, rfl, rfl, rfl, rfl, rfl, rfl, rfl, rfl, hlim, hcal, hdep, hop, hoc, hec⟩ R2 R3 R4 R5⟩) (fun _ _ h1 h2 _ => absurd ⟨h1, h2⟩ nb)
  · unfold wpY_lin
    refine yw_add op6 hlim L8 (hlen op op6) (fun z => absurd c z) (fun _ nb => absurd ⟨ix_10, s1, s2, cc_sm_0⟩ nb) (fun _ _ _ _ _ => ⟨rfl, ?_⟩)
    obtain ⟨d, hd, rfl⟩ := s1
    obtain ⟨s, hs, rfl⟩ := s2
    exact rl_add (k := 4) (d := d) (s := s) (t := 0) R2 hlim hcal hdep hop hoc hec R5 (by omega) (by omega) hd hs (by omega) (fun z => absurd z (by omega)) (fun z => absurd z (by omega)) (ad_cs W (by omega) hcs (by omega)) ⟨fun z => absurd z (by omega), fun _ => ⟨rfl, rfl, rfl⟩, fun z => absurd z (by omega), fun z => absurd z (by omega), fun z => absurd z (by omega)⟩
theorem i_vc_out {k : Nat} {u : SX} {v : SY} (I : i_Rel k u v) (hk : k + 5 ≤ 2564) (v1 : Int32) : wpX_out (fun r u' => wpY_out (fun r' v' => r' = r ∧ i_Rel (k + 5) u' v') v v1) u v1 := by
  refine rl_el (Q := fun u v => wpX_out (fun r u' => wpY_out (fun r' v' => r' = r ∧ i_Rel (k + 5) u' v') v v1) u v1) ?_ u v I
  rintro f_LIN f_SKIP f_CALL f_OUT f_JUMP f_RUNNING f_FIRST_VERSION f_MAX_VERSIONS f_procedures f_length f_calls f_depth f_openProc f_analysed f_built f_builtCount f_builtTotal f_workTop f_ctxMask f_ctxX f_ctxY f_argMask f_argX f_argY f_candCount f_candTotal f_overflow f_frames f_outCount f_entryCount a_kind a_d a_s a_t a_a a_b a_unitLen a_unitProc a_unitMask a_unitX a_unitY a_unitSize a_splitNow a_callSites a_opaque a_form0 a_form1 a_formB a_met a_fact a_factValue a_work a_waiting a_trial a_candProc a_candMask a_candX a_candY a_candSize a_place a_frameUnit a_framePc a_vars a_outputs a_entryProc a_entryX a_entryY a_entryMask g_procs g_limit g_calls g_depth g_cur g_ok g_c0 g_c1 g_cb g_vn g_built g_chosen g_top g_outs g_entries b_len b_kind b_sd b_ss b_st b_sa b_sb b_fk b_f0 b_f1 b_fb b_fact b_factv b_reach b_vp b_vm b_vx b_vy b_sp b_pc b_sm b_cell b_outList b_entryList ⟨P, lim, cal, dep, op, oc, ec, an, bu, R1, R2, R3, R4, R5⟩
  obtain ⟨rfl, rfl, rfl, rfl, rfl, rfl, rfl, rfl, rfl, rfl, rfl, rfl, rfl, rfl, rfl, rfl, rfl, hlim, hcal, hdep, hop, hoc, hec⟩ := R1
  obtain ⟨W, x, hul, hup, hum, hcs, hwa, y, hlen⟩ := id R2
  have N6 := W.2.1; have op6 : op < 6 := Nat.lt_of_lt_of_le hop N6; have L8 := W.2.2.1 op op6
  refine xw_out op6 hlim L8 (hul op op6) (fun c => ?_) (fun c nb => ?_) (fun c s1 => ?_)
  · unfold wpY_out
    exact yw_add op6 hlim L8 (hlen op op6) (fun _ => ⟨rfl, rl_mk P lim cal dep op oc ec an bu ⟨rfl, rfl, rfl, rfl, rfl, rfl, rfl, rfl, rfl, rfl, rfl, rfl, rfl, rfl, rfl, rfl, rfl, hlim, hcal, hdep, hop, hoc, hec⟩ R2 R3 R4 R5⟩) (fun z => absurd z c) (fun z => absurd z c)
  · unfold wpY_out
    exact yw_add op6 hlim L8 (hlen op op6) (fun z => absurd c z) (fun _ _ => ⟨rfl, rl_mk P lim cal dep op oc ec an bu ⟨rfl, rfl, rfl, rfl, rfl, rfl, rfl, rfl, rfl, rfl, rfl, rfl, rfl, rfl, rfl, rfl, rfl, hlim, hcal, hdep, hop, hoc, hec⟩ R2 R3 R4 R5⟩) (fun _ _ _ h2 _ => absurd h2 nb)
  · unfold wpY_out
    refine yw_add op6 hlim L8 (hlen op op6) (fun z => absurd c z) (fun _ nb => absurd ⟨ix_10, cc_sm_0, s1, cc_sm_0⟩ nb) (fun _ _ _ _ _ => ⟨rfl, ?_⟩)
    obtain ⟨s, hs, rfl⟩ := s1
    exact rl_add (k := 7) (d := 0) (s := s) (t := 0) R2 hlim hcal hdep hop hoc hec R5 (by omega) (by omega) (by omega) hs (by omega) (fun z => absurd z (by omega)) (fun z => absurd z (by omega)) (ad_cs W (by omega) hcs (by omega)) ⟨fun z => absurd z (by omega), fun z => absurd z (by omega), fun z => absurd z (by omega), fun z => absurd z (by omega), fun _ => rfl⟩
theorem i_vc_op {k : Nat} {u : SX} {v : SY} (I : i_Rel k u v) (hk : k + 5 ≤ 2564) (v1 : Int32) (v2 : Int32) (v3 : Int32) (v4 : Int32) : wpX_op (fun r u' => wpY_op (fun r' v' => r' = r ∧ i_Rel (k + 5) u' v') v v1 v2 v3 v4) u v1 v2 v3 v4 := by
  refine rl_el (Q := fun u v => wpX_op (fun r u' => wpY_op (fun r' v' => r' = r ∧ i_Rel (k + 5) u' v') v v1 v2 v3 v4) u v1 v2 v3 v4) ?_ u v I
  rintro f_LIN f_SKIP f_CALL f_OUT f_JUMP f_RUNNING f_FIRST_VERSION f_MAX_VERSIONS f_procedures f_length f_calls f_depth f_openProc f_analysed f_built f_builtCount f_builtTotal f_workTop f_ctxMask f_ctxX f_ctxY f_argMask f_argX f_argY f_candCount f_candTotal f_overflow f_frames f_outCount f_entryCount a_kind a_d a_s a_t a_a a_b a_unitLen a_unitProc a_unitMask a_unitX a_unitY a_unitSize a_splitNow a_callSites a_opaque a_form0 a_form1 a_formB a_met a_fact a_factValue a_work a_waiting a_trial a_candProc a_candMask a_candX a_candY a_candSize a_place a_frameUnit a_framePc a_vars a_outputs a_entryProc a_entryX a_entryY a_entryMask g_procs g_limit g_calls g_depth g_cur g_ok g_c0 g_c1 g_cb g_vn g_built g_chosen g_top g_outs g_entries b_len b_kind b_sd b_ss b_st b_sa b_sb b_fk b_f0 b_f1 b_fb b_fact b_factv b_reach b_vp b_vm b_vx b_vy b_sp b_pc b_sm b_cell b_outList b_entryList ⟨P, lim, cal, dep, op, oc, ec, an, bu, R1, R2, R3, R4, R5⟩
  obtain ⟨rfl, rfl, rfl, rfl, rfl, rfl, rfl, rfl, rfl, rfl, rfl, rfl, rfl, rfl, rfl, rfl, rfl, hlim, hcal, hdep, hop, hoc, hec⟩ := R1
  obtain ⟨W, x, hul, hup, hum, hcs, hwa, y, hlen⟩ := id R2
  have N6 := W.2.1; have op6 : op < 6 := Nat.lt_of_lt_of_le hop N6; have L8 := W.2.2.1 op op6
  refine xw_op op6 hlim L8 (hul op op6) (fun c => ?_) (fun c nb => ?_) (fun c s1 s2 s3 s4 => ?_)
  · unfold wpY_op wY_op_21 wY_op_22
    exact cc_sm_c (fun _ => yw_add op6 hlim L8 (hlen op op6) (fun _ => ⟨rfl, rl_mk P lim cal dep op oc ec an bu ⟨rfl, rfl, rfl, rfl, rfl, rfl, rfl, rfl, rfl, rfl, rfl, rfl, rfl, rfl, rfl, rfl, rfl, hlim, hcal, hdep, hop, hoc, hec⟩ R2 R3 R4 R5⟩) (fun z => absurd z c) (fun z => absurd z c)) (fun _ => yw_add op6 hlim L8 (hlen op op6) (fun _ => ⟨rfl, rl_mk P lim cal dep op oc ec an bu ⟨rfl, rfl, rfl, rfl, rfl, rfl, rfl, rfl, rfl, rfl, rfl, rfl, rfl, rfl, rfl, rfl, rfl, hlim, hcal, hdep, hop, hoc, hec⟩ R2 R3 R4 R5⟩) (fun z => absurd z c) (fun z => absurd z c))
  · unfold wpY_op wY_op_21 wY_op_22
    exact cc_sm_c (fun s1 => yw_add op6 hlim L8 (hlen op op6) (fun z => absurd c z) (fun _ _ => ⟨rfl, rl_mk P lim cal dep op oc ec an bu ⟨rfl, rfl, rfl, rfl, rfl, rfl, rfl, rfl, rfl, rfl, rfl, rfl, rfl, rfl, rfl, rfl, rfl, hlim, hcal, hdep, hop, hoc, hec⟩ R2 R3 R4 R5⟩) (fun _ _ h1 h2 h3 => absurd ⟨s1, h1, h2, h3⟩ nb)) (fun _ => yw_add op6 hlim L8 (hlen op op6) (fun z => absurd c z) (fun _ _ => ⟨rfl, rl_mk P lim cal dep op oc ec an bu ⟨rfl, rfl, rfl, rfl, rfl, rfl, rfl, rfl, rfl, rfl, rfl, rfl, rfl, rfl, rfl, rfl, rfl, hlim, hcal, hdep, hop, hoc, hec⟩ R2 R3 R4 R5⟩) (fun _ g => absurd rfl g))
  · unfold wpY_op wY_op_21 wY_op_22
    refine cc_sm_c (fun _ => yw_add op6 hlim L8 (hlen op op6) (fun z => absurd c z) (fun _ nb => absurd ⟨ix_10, s2, s3, s4⟩ nb) (fun _ _ _ _ _ => ⟨rfl, ?_⟩)) (fun no => absurd s1 no)
    obtain ⟨K, hK, rfl⟩ := s1
    obtain ⟨d, hd, rfl⟩ := s2
    obtain ⟨s, hs, rfl⟩ := s3
    obtain ⟨t, ht, rfl⟩ := s4
    exact rl_add (k := K) (d := d) (s := s) (t := t) R2 hlim hcal hdep hop hoc hec R5 (by omega) (by omega) hd hs ht (fun z => absurd z (by omega)) (fun z => absurd z (by omega)) (ad_cs W (by omega) hcs (by omega)) ⟨fun _ => ⟨rfl, rfl⟩, fun z => absurd z (by omega), fun z => absurd z (by omega), fun z => absurd z (by omega), fun z => absurd z (by omega)⟩
theorem i_vc_skip {k : Nat} {u : SX} {v : SY} (I : i_Rel k u v) (hk : k + 5 ≤ 2564) (v1 : Int32) (v2 : Int32) (v3 : Int32) : wpX_skip (fun r u' => wpY_skip (fun r' v' => r' = r ∧ i_Rel (k + 5) u' v') v v1 v2 v3) u v1 v2 v3 := by
  refine rl_el (Q := fun u v => wpX_skip (fun r u' => wpY_skip (fun r' v' => r' = r ∧ i_Rel (k + 5) u' v') v v1 v2 v3) u v1 v2 v3) ?_ u v I
  rintro f_LIN f_SKIP f_CALL f_OUT f_JUMP f_RUNNING f_FIRST_VERSION f_MAX_VERSIONS f_procedures f_length f_calls f_depth f_openProc f_analysed f_built f_builtCount f_builtTotal f_workTop f_ctxMask f_ctxX f_ctxY f_argMask f_argX f_argY f_candCount f_candTotal f_overflow f_frames f_outCount f_entryCount a_kind a_d a_s a_t a_a a_b a_unitLen a_unitProc a_unitMask a_unitX a_unitY a_unitSize a_splitNow a_callSites a_opaque a_form0 a_form1 a_formB a_met a_fact a_factValue a_work a_waiting a_trial a_candProc a_candMask a_candX a_candY a_candSize a_place a_frameUnit a_framePc a_vars a_outputs a_entryProc a_entryX a_entryY a_entryMask g_procs g_limit g_calls g_depth g_cur g_ok g_c0 g_c1 g_cb g_vn g_built g_chosen g_top g_outs g_entries b_len b_kind b_sd b_ss b_st b_sa b_sb b_fk b_f0 b_f1 b_fb b_fact b_factv b_reach b_vp b_vm b_vx b_vy b_sp b_pc b_sm b_cell b_outList b_entryList ⟨P, lim, cal, dep, op, oc, ec, an, bu, R1, R2, R3, R4, R5⟩
  obtain ⟨rfl, rfl, rfl, rfl, rfl, rfl, rfl, rfl, rfl, rfl, rfl, rfl, rfl, rfl, rfl, rfl, rfl, hlim, hcal, hdep, hop, hoc, hec⟩ := R1
  obtain ⟨W, x, hul, hup, hum, hcs, hwa, y, hlen⟩ := id R2
  have N6 := W.2.1; have op6 : op < 6 := Nat.lt_of_lt_of_le hop N6; have L8 := W.2.2.1 op op6
  refine xw_skip op6 hlim L8 (hul op op6) (fun c => ?_) (fun c nb => ?_) (fun c n n1 n8 en s1 => ?_)
  · unfold wpY_skip wY_skip_22 wY_skip_23
    exact cc_18_c (fun _ => yw_add op6 hlim L8 (hlen op op6) (fun _ => ⟨rfl, rl_mk P lim cal dep op oc ec an bu ⟨rfl, rfl, rfl, rfl, rfl, rfl, rfl, rfl, rfl, rfl, rfl, rfl, rfl, rfl, rfl, rfl, rfl, hlim, hcal, hdep, hop, hoc, hec⟩ R2 R3 R4 R5⟩) (fun z => absurd z c) (fun z => absurd z c)) (fun _ => yw_add op6 hlim L8 (hlen op op6) (fun _ => ⟨rfl, rl_mk P lim cal dep op oc ec an bu ⟨rfl, rfl, rfl, rfl, rfl, rfl, rfl, rfl, rfl, rfl, rfl, rfl, rfl, rfl, rfl, rfl, rfl, hlim, hcal, hdep, hop, hoc, hec⟩ R2 R3 R4 R5⟩) (fun z => absurd z c) (fun z => absurd z c))
  · unfold wpY_skip wY_skip_22 wY_skip_23
    exact cc_18_c (fun s1 => yw_add op6 hlim L8 (hlen op op6) (fun z => absurd c z) (fun _ _ => ⟨rfl, rl_mk P lim cal dep op oc ec an bu ⟨rfl, rfl, rfl, rfl, rfl, rfl, rfl, rfl, rfl, rfl, rfl, rfl, rfl, rfl, rfl, rfl, rfl, hlim, hcal, hdep, hop, hoc, hec⟩ R2 R3 R4 R5⟩) (fun _ _ _ h2 _ => absurd ⟨s1, h2⟩ nb)) (fun _ => yw_add op6 hlim L8 (hlen op op6) (fun z => absurd c z) (fun _ _ => ⟨rfl, rl_mk P lim cal dep op oc ec an bu ⟨rfl, rfl, rfl, rfl, rfl, rfl, rfl, rfl, rfl, rfl, rfl, rfl, rfl, rfl, rfl, rfl, rfl, hlim, hcal, hdep, hop, hoc, hec⟩ R2 R3 R4 R5⟩) (fun _ g => absurd rfl g))
  · unfold wpY_skip wY_skip_22 wY_skip_23
    refine cc_18_c (fun _ => yw_add op6 hlim L8 (hlen op op6) (fun z => absurd c z) (fun _ nb => absurd ⟨ix_10, cc_sm_0, s1, cc_sm_0⟩ nb) (fun _ _ _ _ _ => ⟨rfl, ?_⟩)) (fun no => absurd ⟨n, n1, n8, en⟩ no)
    obtain ⟨s, hs, rfl⟩ := s1
    subst en
    have eb : (nI (cc_L P op + 1 + n)).toNatClampNeg = cc_L P op + 1 + n := nI_clamp (by omega)
    refine rl_add (k := 5) (d := 0) (s := s) (t := 0) R2 hlim hcal hdep hop hoc hec R5 (by omega) (by omega) (by omega) hs (by omega) (fun z => absurd z (by omega)) (fun _ => ?_) (ad_cs W (by omega) hcs (by omega)) ⟨fun z => absurd z (by omega), fun z => absurd z (by omega), fun _ => ⟨rfl, rfl, ?_⟩, fun z => absurd z (by omega), fun z => absurd z (by omega)⟩
    · rw [eb]; exact ⟨by omega, by omega, rfl⟩
    · rw [eb]; congr 1; omega
theorem i_vc_call {k : Nat} {u : SX} {v : SY} (I : i_Rel k u v) (hk : k + 5 ≤ 2564) (v1 : Int32) (v2 : Int32) (v3 : Int32) (v4 : Int32) : wpX_call (fun r u' => wpY_call (fun r' v' => r' = r ∧ i_Rel (k + 5) u' v') v v1 v2 v3 v4) u v1 v2 v3 v4 := by
  refine rl_el (Q := fun u v => wpX_call (fun r u' => wpY_call (fun r' v' => r' = r ∧ i_Rel (k + 5) u' v') v v1 v2 v3 v4) u v1 v2 v3 v4) ?_ u v I
  rintro f_LIN f_SKIP f_CALL f_OUT f_JUMP f_RUNNING f_FIRST_VERSION f_MAX_VERSIONS f_procedures f_length f_calls f_depth f_openProc f_analysed f_built f_builtCount f_builtTotal f_workTop f_ctxMask f_ctxX f_ctxY f_argMask f_argX f_argY f_candCount f_candTotal f_overflow f_frames f_outCount f_entryCount a_kind a_d a_s a_t a_a a_b a_unitLen a_unitProc a_unitMask a_unitX a_unitY a_unitSize a_splitNow a_callSites a_opaque a_form0 a_form1 a_formB a_met a_fact a_factValue a_work a_waiting a_trial a_candProc a_candMask a_candX a_candY a_candSize a_place a_frameUnit a_framePc a_vars a_outputs a_entryProc a_entryX a_entryY a_entryMask g_procs g_limit g_calls g_depth g_cur g_ok g_c0 g_c1 g_cb g_vn g_built g_chosen g_top g_outs g_entries b_len b_kind b_sd b_ss b_st b_sa b_sb b_fk b_f0 b_f1 b_fb b_fact b_factv b_reach b_vp b_vm b_vx b_vy b_sp b_pc b_sm b_cell b_outList b_entryList ⟨P, lim, cal, dep, op, oc, ec, an, bu, R1, R2, R3, R4, R5⟩
  obtain ⟨rfl, rfl, rfl, rfl, rfl, rfl, rfl, rfl, rfl, rfl, rfl, rfl, rfl, rfl, rfl, rfl, rfl, hlim, hcal, hdep, hop, hoc, hec⟩ := R1
  obtain ⟨W, x, hul, hup, hum, hcs, hwa, y, hlen⟩ := id R2
  have N6 := W.2.1; have op6 : op < 6 := Nat.lt_of_lt_of_le hop N6; have L8 := W.2.2.1 op op6
  refine xw_call N6 op6 hlim L8 (hul op op6) (fun c => ?_) (fun c nb => ?_) (fun c q hq eq s2 s3 s4 => ?_)
  · unfold wpY_call wY_call_24 wY_call_25
    exact cc_pr_c N6 (fun _ _ _ => yw_add op6 hlim L8 (hlen op op6) (fun _ => ⟨rfl, rl_mk P lim cal dep op oc ec an bu ⟨rfl, rfl, rfl, rfl, rfl, rfl, rfl, rfl, rfl, rfl, rfl, rfl, rfl, rfl, rfl, rfl, rfl, hlim, hcal, hdep, hop, hoc, hec⟩ R2 R3 R4 R5⟩) (fun z => absurd z c) (fun z => absurd z c)) (fun _ => yw_add op6 hlim L8 (hlen op op6) (fun _ => ⟨rfl, rl_mk P lim cal dep op oc ec an bu ⟨rfl, rfl, rfl, rfl, rfl, rfl, rfl, rfl, rfl, rfl, rfl, rfl, rfl, rfl, rfl, rfl, rfl, hlim, hcal, hdep, hop, hoc, hec⟩ R2 R3 R4 R5⟩) (fun z => absurd z c) (fun z => absurd z c))
  · unfold wpY_call wY_call_24 wY_call_25
    exact cc_pr_c N6 (fun q hq eq => yw_add op6 hlim L8 (hlen op op6) (fun z => absurd c z) (fun _ _ => ⟨rfl, rl_mk P lim cal dep op oc ec an bu ⟨rfl, rfl, rfl, rfl, rfl, rfl, rfl, rfl, rfl, rfl, rfl, rfl, rfl, rfl, rfl, rfl, rfl, hlim, hcal, hdep, hop, hoc, hec⟩ R2 R3 R4 R5⟩) (fun _ _ h1 h2 h3 => absurd ⟨⟨q, hq, eq⟩, h1, h2, h3⟩ nb)) (fun _ => yw_add op6 hlim L8 (hlen op op6) (fun z => absurd c z) (fun _ _ => ⟨rfl, rl_mk P lim cal dep op oc ec an bu ⟨rfl, rfl, rfl, rfl, rfl, rfl, rfl, rfl, rfl, rfl, rfl, rfl, rfl, rfl, rfl, rfl, rfl, hlim, hcal, hdep, hop, hoc, hec⟩ R2 R3 R4 R5⟩) (fun _ g => absurd rfl g))
  · unfold wpY_call wY_call_24 wY_call_25
    refine cc_pr_c N6 (fun _ _ _ => yw_add op6 hlim L8 (hlen op op6) (fun z => absurd c z) (fun _ nb => absurd ⟨ix_10, s2, s3, s4⟩ nb) (fun _ _ _ _ _ => ⟨rfl, ?_⟩)) (fun no => absurd ⟨q, hq, eq⟩ no)
    obtain ⟨d, hd, rfl⟩ := s2
    obtain ⟨s, hs, rfl⟩ := s3
    obtain ⟨t, ht, rfl⟩ := s4
    subst eq
    have eb : (nI q).toNatClampNeg = q := nI_clamp (by omega)
    refine rl_add (k := 6) (d := d) (s := s) (t := t) R2 hlim hcal hdep hop hoc hec R5 (by omega) (by omega) hd hs ht (fun _ => ?_) (fun z => absurd z (by omega)) (ad_cs6 W op6 (by omega) hcs) ⟨fun z => absurd z (by omega), fun z => absurd z (by omega), fun z => absurd z (by omega), fun _ => ⟨rfl, rfl⟩, fun z => absurd z (by omega)⟩
    rw [eb]; exact ⟨hq, rfl⟩
end
section
/-! the questions -/
theorem cc_ix (x : Int32) : x < 0 ∨ ∃ j : Nat, j < 2 ^ 31 ∧ x = nI j := by
  by_cases c : x < 0
  · exact Or.inl c
  · exact Or.inr (nI_of c)
theorem i_vc_output {k : Nat} {u : SX} {v : SY} (I : i_Rel k u v) (hk : k + 5 ≤ 2564) (v1 : Int32) : wpX_output (fun r => wpY_output (fun r' => r' = r ∧ i_Rel (k + 5) u v) v v1) u v1 := by
  refine rl_el (Q := fun u v => wpX_output (fun r => wpY_output (fun r' => r' = r ∧ i_Rel (k + 5) u v) v v1) u v1) ?_ u v I
  rintro f_LIN f_SKIP f_CALL f_OUT f_JUMP f_RUNNING f_FIRST_VERSION f_MAX_VERSIONS f_procedures f_length f_calls f_depth f_openProc f_analysed f_built f_builtCount f_builtTotal f_workTop f_ctxMask f_ctxX f_ctxY f_argMask f_argX f_argY f_candCount f_candTotal f_overflow f_frames f_outCount f_entryCount a_kind a_d a_s a_t a_a a_b a_unitLen a_unitProc a_unitMask a_unitX a_unitY a_unitSize a_splitNow a_callSites a_opaque a_form0 a_form1 a_formB a_met a_fact a_factValue a_work a_waiting a_trial a_candProc a_candMask a_candX a_candY a_candSize a_place a_frameUnit a_framePc a_vars a_outputs a_entryProc a_entryX a_entryY a_entryMask g_procs g_limit g_calls g_depth g_cur g_ok g_c0 g_c1 g_cb g_vn g_built g_chosen g_top g_outs g_entries b_len b_kind b_sd b_ss b_st b_sa b_sb b_fk b_f0 b_f1 b_fb b_fact b_factv b_reach b_vp b_vm b_vx b_vy b_sp b_pc b_sm b_cell b_outList b_entryList ⟨P, lim, cal, dep, op, oc, ec, an, bu, R1, R2, R3, R4, R5⟩
  obtain ⟨rfl, rfl, rfl, rfl, rfl, rfl, rfl, rfl, rfl, rfl, rfl, rfl, rfl, rfl, rfl, rfl, rfl, hlim, hcal, hdep, hop, hoc, hec⟩ := R1
  obtain ⟨W, x, hul, hup, hum, hcs, hwa, y, hlen⟩ := id R2
  rcases cc_ix v1 with c | ⟨j, hj, rfl⟩
  · exact br_t c (br_t c ⟨rfl, rl_mk P lim cal dep op oc ec an bu ⟨rfl, rfl, rfl, rfl, rfl, rfl, rfl, rfl, rfl, rfl, rfl, rfl, rfl, rfl, rfl, rfl, rfl, hlim, hcal, hdep, hop, hoc, hec⟩ R2 R3 R4 R5⟩)
  · refine br_f (nI_pos hj) ?_
    by_cases c : oc ≤ j
    · exact br_t (nI_le c hj) (br_f (nI_pos hj) (br_f (nI_nlt c hj) ⟨rfl, rl_mk P lim cal dep op oc ec an bu ⟨rfl, rfl, rfl, rfl, rfl, rfl, rfl, rfl, rfl, rfl, rfl, rfl, rfl, rfl, rfl, rfl, rfl, hlim, hcal, hdep, hop, hoc, hec⟩ R2 R3 R4 R5⟩))
    · have hi : vp_in (nI j) 16 := vp_in_nI (by omega) (by decide)
      refine br_f (nI_ge (Nat.lt_of_not_le c) (by omega)) (And.intro hi (br_f (nI_pos hj) (br_t (nI_lt (by omega) (by omega)) (And.intro hi ⟨?_, rl_mk P lim cal dep op oc ec an bu ⟨rfl, rfl, rfl, rfl, rfl, rfl, rfl, rfl, rfl, rfl, rfl, rfl, rfl, rfl, rfl, rfl, rfl, hlim, hcal, hdep, hop, hoc, hec⟩ R2 R3 R4 R5⟩))))
      rw [ix_c a_outputs hj, ix_c b_outList hj]
      exact R5.1 j (by omega)
theorem i_vc_entry {k : Nat} {u : SX} {v : SY} (I : i_Rel k u v) (hk : k + 5 ≤ 2564) (v1 : Int32) (v2 : Int32) : wpX_entry (fun r => wpY_entry (fun r' => r' = r ∧ i_Rel (k + 5) u v) v v1 v2) u v1 v2 := by
  refine rl_el (Q := fun u v => wpX_entry (fun r => wpY_entry (fun r' => r' = r ∧ i_Rel (k + 5) u v) v v1 v2) u v1 v2) ?_ u v I
  rintro f_LIN f_SKIP f_CALL f_OUT f_JUMP f_RUNNING f_FIRST_VERSION f_MAX_VERSIONS f_procedures f_length f_calls f_depth f_openProc f_analysed f_built f_builtCount f_builtTotal f_workTop f_ctxMask f_ctxX f_ctxY f_argMask f_argX f_argY f_candCount f_candTotal f_overflow f_frames f_outCount f_entryCount a_kind a_d a_s a_t a_a a_b a_unitLen a_unitProc a_unitMask a_unitX a_unitY a_unitSize a_splitNow a_callSites a_opaque a_form0 a_form1 a_formB a_met a_fact a_factValue a_work a_waiting a_trial a_candProc a_candMask a_candX a_candY a_candSize a_place a_frameUnit a_framePc a_vars a_outputs a_entryProc a_entryX a_entryY a_entryMask g_procs g_limit g_calls g_depth g_cur g_ok g_c0 g_c1 g_cb g_vn g_built g_chosen g_top g_outs g_entries b_len b_kind b_sd b_ss b_st b_sa b_sb b_fk b_f0 b_f1 b_fb b_fact b_factv b_reach b_vp b_vm b_vx b_vy b_sp b_pc b_sm b_cell b_outList b_entryList ⟨P, lim, cal, dep, op, oc, ec, an, bu, R1, R2, R3, R4, R5⟩
  obtain ⟨rfl, rfl, rfl, rfl, rfl, rfl, rfl, rfl, rfl, rfl, rfl, rfl, rfl, rfl, rfl, rfl, rfl, hlim, hcal, hdep, hop, hoc, hec⟩ := R1
  obtain ⟨W, x, hul, hup, hum, hcs, hwa, y, hlen⟩ := id R2
  rcases cc_ix v1 with c | ⟨j, hj, rfl⟩
  · exact br_t c (br_t c ⟨rfl, rl_mk P lim cal dep op oc ec an bu ⟨rfl, rfl, rfl, rfl, rfl, rfl, rfl, rfl, rfl, rfl, rfl, rfl, rfl, rfl, rfl, rfl, rfl, hlim, hcal, hdep, hop, hoc, hec⟩ R2 R3 R4 R5⟩)
  · refine br_f (nI_pos hj) ?_
    by_cases c : j < ec
    · have hi : vp_in (nI j) 64 := vp_in_nI (by omega) (by decide)
      obtain ⟨e0, e1, e2, e3⟩ := R5.2 j c
      have yes : ∀ (n : Nat) (r : Int32), n ≤ 3 → b_entryList (j * 4 + n) = r → wpY_entry (fun r' => r' = r ∧ i_Rel (k + 5) (f_LIN, f_SKIP, f_CALL, f_OUT, f_JUMP, f_RUNNING, f_FIRST_VERSION, f_MAX_VERSIONS, (nI (cc_N P)), (nI lim), (nI cal), (nI dep), (nI op), (cc_b an), (cc_b bu), f_builtCount, f_builtTotal, f_workTop, f_ctxMask, f_ctxX, f_ctxY, f_argMask, f_argX, f_argY, f_candCount, f_candTotal, f_overflow, f_frames, (nI oc), (nI ec), a_kind, a_d, a_s, a_t, a_a, a_b, a_unitLen, a_unitProc, a_unitMask, a_unitX, a_unitY, a_unitSize, a_splitNow, a_callSites, a_opaque, a_form0, a_form1, a_formB, a_met, a_fact, a_factValue, a_work, a_waiting, a_trial, a_candProc, a_candMask, a_candX, a_candY, a_candSize, a_place, a_frameUnit, a_framePc, a_vars, a_outputs, a_entryProc, a_entryX, a_entryY, a_entryMask) ((nI (cc_N P)), (nI lim), (nI cal), (nI dep), (nI op), g_ok, g_c0, g_c1, g_cb, g_vn, (cc_b bu), g_chosen, g_top, (nI oc), (nI ec), b_len, b_kind, b_sd, b_ss, b_st, b_sa, b_sb, b_fk, b_f0, b_f1, b_fb, b_fact, b_factv, b_reach, b_vp, b_vm, b_vx, b_vy, b_sp, b_pc, b_sm, b_cell, b_outList, b_entryList)) ((nI (cc_N P)), (nI lim), (nI cal), (nI dep), (nI op), g_ok, g_c0, g_c1, g_cb, g_vn, (cc_b bu), g_chosen, g_top, (nI oc), (nI ec), b_len, b_kind, b_sd, b_ss, b_st, b_sa, b_sb, b_fk, b_f0, b_f1, b_fb, b_fact, b_factv, b_reach, b_vp, b_vm, b_vx, b_vy, b_sp, b_pc, b_sm, b_cell, b_outList, b_entryList) (nI j) (nI n) := by
        intro n r hn er
        refine br_f (nI_pos hj) (br_f (nI_ge c (by omega)) (br_f (nI_pos (by omega)) (br_t (nI_le (b := 3) hn (by decide)) ?_)))
        rw [ix_4]
        refine And.intro (vp_in_nI (by omega) (by decide)) ⟨?_, rl_mk P lim cal dep op oc ec an bu ⟨rfl, rfl, rfl, rfl, rfl, rfl, rfl, rfl, rfl, rfl, rfl, rfl, rfl, rfl, rfl, rfl, rfl, hlim, hcal, hdep, hop, hoc, hec⟩ R2 R3 R4 R5⟩
        rw [ix_c b_entryList (by omega)]; exact er
      refine br_t (nI_lt c (by omega)) ?_
      rcases cc_ix v2 with d | ⟨n, hn, rfl⟩
      · have ne : ∀ m : Nat, m < 4 → ¬ v2 = nI m := fun m hm z => by rw [z] at d; exact nI_pos (by omega) d
        exact br_f (ne 0 (by omega)) (br_f (ne 1 (by omega)) (br_f (ne 2 (by omega)) (br_f (ne 3 (by omega)) (br_f (nI_pos hj) (br_f (nI_ge c (by omega)) (br_t d ⟨rfl, rl_mk P lim cal dep op oc ec an bu ⟨rfl, rfl, rfl, rfl, rfl, rfl, rfl, rfl, rfl, rfl, rfl, rfl, rfl, rfl, rfl, rfl, rfl, hlim, hcal, hdep, hop, hoc, hec⟩ R2 R3 R4 R5⟩))))))
      · by_cases n0 : n = 0
        · subst n0; refine br_t rfl (And.intro hi ?_); rw [ix_c a_entryProc hj]; exact yes 0 _ (by omega) e0
        · refine br_f (fun z => n0 ((nI_eq hn (by decide)).mp z)) ?_
          by_cases n1 : n = 1
          · subst n1; refine br_t rfl (And.intro hi ?_); rw [ix_c a_entryX hj]; exact yes 1 _ (by omega) e1
          · refine br_f (fun z => n1 ((nI_eq hn (by decide)).mp z)) ?_
            by_cases n2 : n = 2
            · subst n2; refine br_t rfl (And.intro hi ?_); rw [ix_c a_entryY hj]; exact yes 2 _ (by omega) e2
            · refine br_f (fun z => n2 ((nI_eq hn (by decide)).mp z)) ?_
              by_cases n3 : n = 3
              · subst n3; refine br_t rfl (And.intro hi ?_); rw [ix_c a_entryMask hj]; exact yes 3 _ (by omega) e3
              · exact br_f (fun z => n3 ((nI_eq hn (by decide)).mp z)) (br_f (nI_pos hj) (br_f (nI_ge c (by omega)) (br_f (nI_pos hn) (br_f (nI_ge (a := 3) (by omega) hn) ⟨rfl, rl_mk P lim cal dep op oc ec an bu ⟨rfl, rfl, rfl, rfl, rfl, rfl, rfl, rfl, rfl, rfl, rfl, rfl, rfl, rfl, rfl, rfl, rfl, hlim, hcal, hdep, hop, hoc, hec⟩ R2 R3 R4 R5⟩))))
    · exact br_f (nI_nlt (by omega) hj) (br_f (nI_pos hj) (br_t (nI_le (by omega) hj) ⟨rfl, rl_mk P lim cal dep op oc ec an bu ⟨rfl, rfl, rfl, rfl, rfl, rfl, rfl, rfl, rfl, rfl, rfl, rfl, rfl, rfl, rfl, rfl, rfl, hlim, hcal, hdep, hop, hoc, hec⟩ R2 R3 R4 R5⟩))
theorem i_vc_param {k : Nat} {u : SX} {v : SY} (I : i_Rel k u v) (hk : k + 5 ≤ 2564) (v1 : Int32) (v2 : Int32) (v3 : Int32) : wpX_param (fun r => wpY_param (fun r' => r' = r ∧ i_Rel (k + 5) u v) v v1 v2 v3) u v1 v2 v3 := by
  refine rl_el (Q := fun u v => wpX_param (fun r => wpY_param (fun r' => r' = r ∧ i_Rel (k + 5) u v) v v1 v2 v3) u v1 v2 v3) ?_ u v I
  rintro f_LIN f_SKIP f_CALL f_OUT f_JUMP f_RUNNING f_FIRST_VERSION f_MAX_VERSIONS f_procedures f_length f_calls f_depth f_openProc f_analysed f_built f_builtCount f_builtTotal f_workTop f_ctxMask f_ctxX f_ctxY f_argMask f_argX f_argY f_candCount f_candTotal f_overflow f_frames f_outCount f_entryCount a_kind a_d a_s a_t a_a a_b a_unitLen a_unitProc a_unitMask a_unitX a_unitY a_unitSize a_splitNow a_callSites a_opaque a_form0 a_form1 a_formB a_met a_fact a_factValue a_work a_waiting a_trial a_candProc a_candMask a_candX a_candY a_candSize a_place a_frameUnit a_framePc a_vars a_outputs a_entryProc a_entryX a_entryY a_entryMask g_procs g_limit g_calls g_depth g_cur g_ok g_c0 g_c1 g_cb g_vn g_built g_chosen g_top g_outs g_entries b_len b_kind b_sd b_ss b_st b_sa b_sb b_fk b_f0 b_f1 b_fb b_fact b_factv b_reach b_vp b_vm b_vx b_vy b_sp b_pc b_sm b_cell b_outList b_entryList ⟨P, lim, cal, dep, op, oc, ec, an, bu, R1, R2, R3, R4, R5⟩
  obtain ⟨rfl, rfl, rfl, rfl, rfl, rfl, rfl, rfl, rfl, rfl, rfl, rfl, rfl, rfl, rfl, rfl, rfl, hlim, hcal, hdep, hop, hoc, hec⟩ := R1
  obtain ⟨W, x, hul, hup, hum, hcs, hwa, y, hlen⟩ := id R2
  have N6 := W.2.1
  cases bu with
  | false => exact br_t rfl (br_t rfl ⟨rfl, rl_mk P lim cal dep op oc ec an false ⟨rfl, rfl, rfl, rfl, rfl, rfl, rfl, rfl, rfl, rfl, rfl, rfl, rfl, rfl, rfl, rfl, rfl, hlim, hcal, hdep, hop, hoc, hec⟩ R2 R3 R4 R5⟩)
  | true =>
    obtain ⟨ea, ch, yf, rfy, ov, ccb, hsn, -⟩ := R4 rfl
    obtain ⟨xf, rfx⟩ := R3 ea
    have same : ∀ r : Int32, r = r ∧ i_Rel (k + 5) (f_LIN, f_SKIP, f_CALL, f_OUT, f_JUMP, f_RUNNING, f_FIRST_VERSION, f_MAX_VERSIONS, (nI (cc_N P)), (nI lim), (nI cal), (nI dep), (nI op), (cc_b an), (cc_b true), f_builtCount, f_builtTotal, f_workTop, f_ctxMask, f_ctxX, f_ctxY, f_argMask, f_argX, f_argY, f_candCount, f_candTotal, f_overflow, f_frames, (nI oc), (nI ec), a_kind, a_d, a_s, a_t, a_a, a_b, a_unitLen, a_unitProc, a_unitMask, a_unitX, a_unitY, a_unitSize, a_splitNow, a_callSites, a_opaque, a_form0, a_form1, a_formB, a_met, a_fact, a_factValue, a_work, a_waiting, a_trial, a_candProc, a_candMask, a_candX, a_candY, a_candSize, a_place, a_frameUnit, a_framePc, a_vars, a_outputs, a_entryProc, a_entryX, a_entryY, a_entryMask) ((nI (cc_N P)), (nI lim), (nI cal), (nI dep), (nI op), g_ok, g_c0, g_c1, g_cb, g_vn, (cc_b true), g_chosen, g_top, (nI oc), (nI ec), b_len, b_kind, b_sd, b_ss, b_st, b_sa, b_sb, b_fk, b_f0, b_f1, b_fb, b_fact, b_factv, b_reach, b_vp, b_vm, b_vx, b_vy, b_sp, b_pc, b_sm, b_cell, b_outList, b_entryList) :=
      fun r => ⟨rfl, rl_mk P lim cal dep op oc ec an true ⟨rfl, rfl, rfl, rfl, rfl, rfl, rfl, rfl, rfl, rfl, rfl, rfl, rfl, rfl, rfl, rfl, rfl, hlim, hcal, hdep, hop, hoc, hec⟩ R2 R3 R4 R5⟩
    refine br_f ix_10 (xw_isProc N6 (fun q hq e => br_f ix_10 ?_) (fun no => br_t rfl (br_f ix_10 (cc_pr_c N6 (fun q hq e => absurd ⟨q, hq, e⟩ no) (fun _ => same 0)))))
    subst e
    have yq : ∀ {A B : Prop}, A → (nI q < 0 → B) ∧ (¬ nI q < 0 → (nI (cc_N P) ≤ nI q → B) ∧ (¬ nI (cc_N P) ≤ nI q → A)) := fun a => br_f (nI_pos (by omega)) (br_f (nI_ge hq (by omega)) a)
    rcases cc_ix v2 with d | ⟨n, hn, rfl⟩
    · exact br_t d (br_f ix_10 (yq (br_t d (same 0))))
    · refine br_f (nI_pos hn) ?_
      by_cases n1 : n ≤ 1
      · have hi : vp_in (nI (2 * q + n)) 12 := vp_in_nI (by omega) (by decide)
        have e2 : 2 * nI q + nI n = nI (2 * q + n) := by rw [ix_20, nI_add]
        have e3 : nI q * 2 + nI n = nI (2 * q + n) := by rw [ix_r20, nI_add]
        refine br_t (nI_le (b := 1) n1 (by decide)) ?_
        rw [e2, ix_c a_fact (show 2 * q + n < 2 ^ 31 by omega), ix_c a_factValue (show 2 * q + n < 2 ^ 31 by omega), (rfx (2 * q + n) (by omega)).1, (rfx (2 * q + n) (by omega)).2]
        have yn : ∀ {A B : Prop}, A → (nI n < 0 → B) ∧ (¬ nI n < 0 → (1 < nI n → B) ∧ (¬ 1 < nI n → A)) := fun a => br_f (nI_pos hn) (br_f (nI_nlt (a := 1) n1 (by decide)) a)
        by_cases p0 : v3 = 0
        · subst p0
          refine br_t rfl (And.intro hi (br_f ix_10 (yq (yn (br_f (by decide) (br_t (by decide) (br_t rfl ?_)))))))
          rw [e3, ix_c b_fact (show 2 * q + n < 2 ^ 31 by omega), (rfy (2 * q + n) (by omega)).1]
          exact And.intro hi (same _)
        · refine br_f p0 ?_
          by_cases p1 : v3 = 1
          · subst p1
            refine br_t rfl (And.intro hi (br_f ix_10 (yq (yn (br_f (by decide) (br_t (by decide) (br_f ix_10 ?_)))))))
            rw [e3, ix_c b_factv (show 2 * q + n < 2 ^ 31 by omega), (rfy (2 * q + n) (by omega)).2]
            exact And.intro hi (same _)
          · refine br_f p1 (br_f ix_10 (yq (yn (br_c (fun _ => same 0) (fun c => br_c (fun c2 => ?_) (fun _ => same 0))))))
            obtain ⟨m, hm, rfl⟩ := nI_of2 (M := 1) (n := 1) (by decide) c c2
            have : m = 0 ∨ m = 1 := by omega
            rcases this with z | z
            · subst z; exact absurd rfl p0
            · subst z; exact absurd rfl p1
      · exact br_f (nI_ge (a := 1) (by omega) hn) (br_f ix_10 (yq (br_f (nI_pos hn) (br_t (nI_lt (a := 1) (by omega) hn) (same 0)))))
theorem i_vc_split {k : Nat} {u : SX} {v : SY} (I : i_Rel k u v) (hk : k + 5 ≤ 2564) (v1 : Int32) : wpX_split (fun r => wpY_split (fun r' => r' = r ∧ i_Rel (k + 5) u v) v v1) u v1 := by
  refine rl_el (Q := fun u v => wpX_split (fun r => wpY_split (fun r' => r' = r ∧ i_Rel (k + 5) u v) v v1) u v1) ?_ u v I
  rintro f_LIN f_SKIP f_CALL f_OUT f_JUMP f_RUNNING f_FIRST_VERSION f_MAX_VERSIONS f_procedures f_length f_calls f_depth f_openProc f_analysed f_built f_builtCount f_builtTotal f_workTop f_ctxMask f_ctxX f_ctxY f_argMask f_argX f_argY f_candCount f_candTotal f_overflow f_frames f_outCount f_entryCount a_kind a_d a_s a_t a_a a_b a_unitLen a_unitProc a_unitMask a_unitX a_unitY a_unitSize a_splitNow a_callSites a_opaque a_form0 a_form1 a_formB a_met a_fact a_factValue a_work a_waiting a_trial a_candProc a_candMask a_candX a_candY a_candSize a_place a_frameUnit a_framePc a_vars a_outputs a_entryProc a_entryX a_entryY a_entryMask g_procs g_limit g_calls g_depth g_cur g_ok g_c0 g_c1 g_cb g_vn g_built g_chosen g_top g_outs g_entries b_len b_kind b_sd b_ss b_st b_sa b_sb b_fk b_f0 b_f1 b_fb b_fact b_factv b_reach b_vp b_vm b_vx b_vy b_sp b_pc b_sm b_cell b_outList b_entryList ⟨P, lim, cal, dep, op, oc, ec, an, bu, R1, R2, R3, R4, R5⟩
  obtain ⟨rfl, rfl, rfl, rfl, rfl, rfl, rfl, rfl, rfl, rfl, rfl, rfl, rfl, rfl, rfl, rfl, rfl, hlim, hcal, hdep, hop, hoc, hec⟩ := R1
  obtain ⟨W, x, hul, hup, hum, hcs, hwa, y, hlen⟩ := id R2
  have N6 := W.2.1
  cases bu with
  | false => exact br_t rfl (br_t rfl ⟨rfl, rl_mk P lim cal dep op oc ec an false ⟨rfl, rfl, rfl, rfl, rfl, rfl, rfl, rfl, rfl, rfl, rfl, rfl, rfl, rfl, rfl, rfl, rfl, hlim, hcal, hdep, hop, hoc, hec⟩ R2 R3 R4 R5⟩)
  | true =>
    obtain ⟨ea, ch, yf, rfy, ov, ccb, hsn, -⟩ := R4 rfl
    have same : ∀ r : Int32, r = r ∧ i_Rel (k + 5) (f_LIN, f_SKIP, f_CALL, f_OUT, f_JUMP, f_RUNNING, f_FIRST_VERSION, f_MAX_VERSIONS, (nI (cc_N P)), (nI lim), (nI cal), (nI dep), (nI op), (cc_b an), (cc_b true), f_builtCount, f_builtTotal, f_workTop, f_ctxMask, f_ctxX, f_ctxY, f_argMask, f_argX, f_argY, f_candCount, f_candTotal, f_overflow, f_frames, (nI oc), (nI ec), a_kind, a_d, a_s, a_t, a_a, a_b, a_unitLen, a_unitProc, a_unitMask, a_unitX, a_unitY, a_unitSize, a_splitNow, a_callSites, a_opaque, a_form0, a_form1, a_formB, a_met, a_fact, a_factValue, a_work, a_waiting, a_trial, a_candProc, a_candMask, a_candX, a_candY, a_candSize, a_place, a_frameUnit, a_framePc, a_vars, a_outputs, a_entryProc, a_entryX, a_entryY, a_entryMask) ((nI (cc_N P)), (nI lim), (nI cal), (nI dep), (nI op), g_ok, g_c0, g_c1, g_cb, g_vn, (cc_b true), g_chosen, g_top, (nI oc), (nI ec), b_len, b_kind, b_sd, b_ss, b_st, b_sa, b_sb, b_fk, b_f0, b_f1, b_fb, b_fact, b_factv, b_reach, b_vp, b_vm, b_vx, b_vy, b_sp, b_pc, b_sm, b_cell, b_outList, b_entryList) :=
      fun r => ⟨rfl, rl_mk P lim cal dep op oc ec an true ⟨rfl, rfl, rfl, rfl, rfl, rfl, rfl, rfl, rfl, rfl, rfl, rfl, rfl, rfl, rfl, rfl, rfl, hlim, hcal, hdep, hop, hoc, hec⟩ R2 R3 R4 R5⟩
    refine br_f ix_10 (xw_isProc N6 (fun q hq e => br_f ix_10 ?_) (fun no => br_t rfl (br_f ix_10 (cc_pr_c N6 (fun q hq e => absurd ⟨q, hq, e⟩ no) (fun _ => same 0)))))
    subst e
    have q6 : q < 6 := by omega
    have yq : ∀ {A B : Prop}, A → (nI q < 0 → B) ∧ (¬ nI q < 0 → (nI (cc_N P) ≤ nI q → B) ∧ (¬ nI (cc_N P) ≤ nI q → A)) := fun a => br_f (nI_pos (by omega)) (br_f (nI_ge hq (by omega)) a)
    refine And.intro (vp_in_nI q6 (by decide)) ?_
    rw [ix_c a_splitNow (show q < 2 ^ 31 by omega), hsn q q6]
    cases ec2 : ch q with
    | false =>
      refine br_t rfl (br_f ix_10 (yq (br_t ?_ (same 0))))
      rw [bx_bit _ (show q < 32 by omega), ccb q q6, ec2]; rfl
    | true =>
      refine br_f ix_10 (br_f ix_10 (yq (br_f ?_ (same 1))))
      rw [bx_bit _ (show q < 32 by omega), ccb q q6, ec2]; exact ix_10
theorem i_vc_count {k : Nat} {u : SX} {v : SY} (I : i_Rel k u v) (hk : k + 5 ≤ 2564) (v1 : Int32) : wpX_count (fun r => wpY_count (fun r' v' => r' = r ∧ i_Rel (k + 5) u v') v v1) u v1 := by
  refine rl_el (Q := fun u v => wpX_count (fun r => wpY_count (fun r' v' => r' = r ∧ i_Rel (k + 5) u v') v v1) u v1) ?_ u v I
  rintro f_LIN f_SKIP f_CALL f_OUT f_JUMP f_RUNNING f_FIRST_VERSION f_MAX_VERSIONS f_procedures f_length f_calls f_depth f_openProc f_analysed f_built f_builtCount f_builtTotal f_workTop f_ctxMask f_ctxX f_ctxY f_argMask f_argX f_argY f_candCount f_candTotal f_overflow f_frames f_outCount f_entryCount a_kind a_d a_s a_t a_a a_b a_unitLen a_unitProc a_unitMask a_unitX a_unitY a_unitSize a_splitNow a_callSites a_opaque a_form0 a_form1 a_formB a_met a_fact a_factValue a_work a_waiting a_trial a_candProc a_candMask a_candX a_candY a_candSize a_place a_frameUnit a_framePc a_vars a_outputs a_entryProc a_entryX a_entryY a_entryMask g_procs g_limit g_calls g_depth g_cur g_ok g_c0 g_c1 g_cb g_vn g_built g_chosen g_top g_outs g_entries b_len b_kind b_sd b_ss b_st b_sa b_sb b_fk b_f0 b_f1 b_fb b_fact b_factv b_reach b_vp b_vm b_vx b_vy b_sp b_pc b_sm b_cell b_outList b_entryList ⟨P, lim, cal, dep, op, oc, ec, an, bu, R1, R2, R3, R4, R5⟩
  obtain ⟨rfl, rfl, rfl, rfl, rfl, rfl, rfl, rfl, rfl, rfl, rfl, rfl, rfl, rfl, rfl, rfl, rfl, hlim, hcal, hdep, hop, hoc, hec⟩ := R1
  obtain ⟨W, x, hul, hup, hum, hcs, hwa, y, hlen⟩ := id R2
  by_cases p0 : v1 = 0
  · exact br_t p0 (br_t p0 ⟨rfl, rl_mk P lim cal dep op oc ec an bu ⟨rfl, rfl, rfl, rfl, rfl, rfl, rfl, rfl, rfl, rfl, rfl, rfl, rfl, rfl, rfl, rfl, rfl, hlim, hcal, hdep, hop, hoc, hec⟩ R2 R3 R4 R5⟩)
  · refine br_f p0 ?_
    by_cases p1 : v1 = 1
    · exact br_t p1 (br_f p0 (br_t p1 ⟨rfl, rl_mk P lim cal dep op oc ec an bu ⟨rfl, rfl, rfl, rfl, rfl, rfl, rfl, rfl, rfl, rfl, rfl, rfl, rfl, rfl, rfl, rfl, rfl, hlim, hcal, hdep, hop, hoc, hec⟩ R2 R3 R4 R5⟩))
    · refine br_f p1 ?_
      cases bu with
      | false => exact br_t rfl (br_f p0 (br_f p1 (br_t rfl ⟨rfl, rl_mk P lim cal dep op oc ec an false ⟨rfl, rfl, rfl, rfl, rfl, rfl, rfl, rfl, rfl, rfl, rfl, rfl, rfl, rfl, rfl, rfl, rfl, hlim, hcal, hdep, hop, hoc, hec⟩ R2 R3 R4 R5⟩)))
      | true =>
        obtain ⟨ea, ch, yf, rfy, ov, ccb, hsn, hbc, hbt, -⟩ := R4 rfl
        have K : cc_YK P (cc_rd P 24) b_len b_kind b_sd b_ss b_st b_sa b_sb b_fk b_f0 b_f1 b_fb b_fact b_factv := ⟨y, hlen, yf, rfy⟩
        refine br_f ix_10 ?_
        by_cases p2 : v1 = 2
        · refine br_t p2 (br_f p0 (br_f p1 (br_f ix_10 (br_t p2 ?_))))
          unfold wY_count_38
          exact yw_collect W K ccb (fun z => by rw [ov] at z; exact nomatch z) (fun _ vp vm vx vy re _ => br_t p2 ⟨hbc.symm, rl_mk P lim cal dep op oc ec an true ⟨rfl, rfl, rfl, rfl, rfl, rfl, rfl, rfl, rfl, rfl, rfl, rfl, rfl, rfl, rfl, rfl, rfl, hlim, hcal, hdep, hop, hoc, hec⟩ R2 R3 R4 R5⟩)
        · refine br_f p2 ?_
          by_cases p3 : v1 = 3
          · refine br_t p3 (br_f p0 (br_f p1 (br_f ix_10 (br_f p2 (br_t p3 ?_)))))
            unfold wY_count_38
            exact yw_collect W K ccb (fun z => by rw [ov] at z; exact nomatch z) (fun _ vp vm vx vy re _ => br_f p2 ⟨hbt.symm, rl_mk P lim cal dep op oc ec an true ⟨rfl, rfl, rfl, rfl, rfl, rfl, rfl, rfl, rfl, rfl, rfl, rfl, rfl, rfl, rfl, rfl, rfl, hlim, hcal, hdep, hop, hoc, hec⟩ R2 R3 R4 R5⟩)
          · exact br_f p3 (br_f p0 (br_f p1 (br_f ix_10 (br_f p2 (br_f p3 ⟨rfl, rl_mk P lim cal dep op oc ec an true ⟨rfl, rfl, rfl, rfl, rfl, rfl, rfl, rfl, rfl, rfl, rfl, rfl, rfl, rfl, rfl, rfl, rfl, hlim, hcal, hdep, hop, hoc, hec⟩ R2 R3 R4 R5⟩)))))
end
section
/-! jump functions and versions asked for -/
def cc_cl4 (f : cc_Fm) : Int32 := match f with
  | none => 1
  | some t => if t.1 = 0 ∧ t.2.1 = 0 then 2 else if ((t.1 = 1 ∧ t.2.1 = 0) ∨ (t.1 = 0 ∧ t.2.1 = 1)) ∧ t.2.2 = 0 then 3 else 4
def cc_jv (f : cc_Fm) (p : Int32) : Int32 := if p = 0 then cc_cl4 f else if p = 1 then cc_f0 f else if p = 2 then cc_f1 f else if p = 3 then cc_fb f else 0
section
variable {f_LIN f_SKIP f_CALL f_OUT f_JUMP f_RUNNING f_FIRST_VERSION f_MAX_VERSIONS f_procedures f_length f_calls f_depth f_openProc f_analysed f_built f_builtCount f_builtTotal f_workTop f_ctxMask f_ctxX f_ctxY f_argMask f_argX f_argY f_candCount f_candTotal f_overflow f_frames f_outCount f_entryCount : Int32} {a_kind a_d a_s a_t a_a a_b a_unitLen a_unitProc a_unitMask a_unitX a_unitY a_unitSize a_splitNow a_callSites a_opaque a_form0 a_form1 a_formB a_met a_fact a_factValue a_work a_waiting a_trial a_candProc a_candMask a_candX a_candY a_candSize a_place a_frameUnit a_framePc a_vars a_outputs a_entryProc a_entryX a_entryY a_entryMask : Nat → Int32}
theorem xw_cl79 {post : Int32 → Prop} {k : Nat} (hk : k < 240) {t : cc_F3} (r : cc_rx a_opaque a_form0 a_form1 a_formB k (some t)) (h3 : t.2.2 = 0 → post 3) (h4 : ¬ t.2.2 = 0 → post 4) : wX_classify_79 post (nI k) f_LIN f_SKIP f_CALL f_OUT f_JUMP f_RUNNING f_FIRST_VERSION f_MAX_VERSIONS f_procedures f_length f_calls f_depth f_openProc f_analysed f_built f_builtCount f_builtTotal f_workTop f_ctxMask f_ctxX f_ctxY f_argMask f_argX f_argY f_candCount f_candTotal f_overflow f_frames f_outCount f_entryCount a_kind a_d a_s a_t a_a a_b a_unitLen a_unitProc a_unitMask a_unitX a_unitY a_unitSize a_splitNow a_callSites a_opaque a_form0 a_form1 a_formB a_met a_fact a_factValue a_work a_waiting a_trial a_candProc a_candMask a_candX a_candY a_candSize a_place a_frameUnit a_framePc a_vars a_outputs a_entryProc a_entryX a_entryY a_entryMask := by
  refine And.intro (vp_in_nI hk (by decide)) ?_
  rw [ix_c a_formB (show k < 2 ^ 31 by omega), r.2.2.2]
  exact br_c h3 h4
theorem xw_cl45 {post : Int32 → Prop} {k : Nat} (hk : k < 240) {t : cc_F3} (r : cc_rx a_opaque a_form0 a_form1 a_formB k (some t)) {b : Bool} (h : (b = true ∨ (t.1 = 0 ∧ t.2.1 = 1)) → (t.2.2 = 0 → post 3) ∧ (¬ t.2.2 = 0 → post 4)) (h0 : ¬ (b = true ∨ (t.1 = 0 ∧ t.2.1 = 1)) → post 4) : wX_classify_45 post (nI k) (cc_b b) f_LIN f_SKIP f_CALL f_OUT f_JUMP f_RUNNING f_FIRST_VERSION f_MAX_VERSIONS f_procedures f_length f_calls f_depth f_openProc f_analysed f_built f_builtCount f_builtTotal f_workTop f_ctxMask f_ctxX f_ctxY f_argMask f_argX f_argY f_candCount f_candTotal f_overflow f_frames f_outCount f_entryCount a_kind a_d a_s a_t a_a a_b a_unitLen a_unitProc a_unitMask a_unitX a_unitY a_unitSize a_splitNow a_callSites a_opaque a_form0 a_form1 a_formB a_met a_fact a_factValue a_work a_waiting a_trial a_candProc a_candMask a_candX a_candY a_candSize a_place a_frameUnit a_framePc a_vars a_outputs a_entryProc a_entryX a_entryY a_entryMask := by
  have ek : k < 2 ^ 31 := by omega
  have hi : vp_in (nI k) 240 := vp_in_nI hk (by decide)
  have h70 : ∀ z : Bool, (z = true ↔ (t.1 = 0 ∧ t.2.1 = 1)) → wX_classify_70 post (nI k) (cc_b b) (cc_b z) f_LIN f_SKIP f_CALL f_OUT f_JUMP f_RUNNING f_FIRST_VERSION f_MAX_VERSIONS f_procedures f_length f_calls f_depth f_openProc f_analysed f_built f_builtCount f_builtTotal f_workTop f_ctxMask f_ctxX f_ctxY f_argMask f_argX f_argY f_candCount f_candTotal f_overflow f_frames f_outCount f_entryCount a_kind a_d a_s a_t a_a a_b a_unitLen a_unitProc a_unitMask a_unitX a_unitY a_unitSize a_splitNow a_callSites a_opaque a_form0 a_form1 a_formB a_met a_fact a_factValue a_work a_waiting a_trial a_candProc a_candMask a_candX a_candY a_candSize a_place a_frameUnit a_framePc a_vars a_outputs a_entryProc a_entryX a_entryY a_entryMask := by
    intro z hz
    cases b with
    | true => exact br_f ix_10 (xw_cl79 hk r (h (Or.inl rfl)).1 (h (Or.inl rfl)).2)
    | false =>
      refine br_t rfl ?_
      cases z with
      | false => exact br_t rfl (h0 (fun w => w.elim (fun y => nomatch y) (fun y => nomatch hz.mpr y)))
      | true => exact br_f ix_10 (xw_cl79 hk r (h (Or.inr (hz.mp rfl))).1 (h (Or.inr (hz.mp rfl))).2)
  refine And.intro hi ?_
  rw [ix_c a_form0 ek, r.2.1]
  by_cases c0 : t.1 = 0
  · refine br_t c0 (And.intro hi ?_)
    rw [ix_c a_form1 ek, r.2.2.1]
    by_cases c1 : t.2.1 = 1
    · exact br_t c1 (h70 true ⟨fun _ => ⟨c0, c1⟩, fun _ => rfl⟩)
    · exact br_f c1 (h70 false ⟨fun z => (nomatch z), fun z => absurd z.2 c1⟩)
  · exact br_f c0 (h70 false ⟨fun z => (nomatch z), fun z => absurd z.1 c0⟩)
theorem xw_classify {post : Int32 → Prop} {k : Nat} (hk : k < 240) {f : cc_Fm} (r : cc_rx a_opaque a_form0 a_form1 a_formB k f) (h : post (cc_cl4 f)) : wpX_classify post (f_LIN, f_SKIP, f_CALL, f_OUT, f_JUMP, f_RUNNING, f_FIRST_VERSION, f_MAX_VERSIONS, f_procedures, f_length, f_calls, f_depth, f_openProc, f_analysed, f_built, f_builtCount, f_builtTotal, f_workTop, f_ctxMask, f_ctxX, f_ctxY, f_argMask, f_argX, f_argY, f_candCount, f_candTotal, f_overflow, f_frames, f_outCount, f_entryCount, a_kind, a_d, a_s, a_t, a_a, a_b, a_unitLen, a_unitProc, a_unitMask, a_unitX, a_unitY, a_unitSize, a_splitNow, a_callSites, a_opaque, a_form0, a_form1, a_formB, a_met, a_fact, a_factValue, a_work, a_waiting, a_trial, a_candProc, a_candMask, a_candX, a_candY, a_candSize, a_place, a_frameUnit, a_framePc, a_vars, a_outputs, a_entryProc, a_entryX, a_entryY, a_entryMask) (nI k) := by
  have ek : k < 2 ^ 31 := by omega
  have hi : vp_in (nI k) 240 := vp_in_nI hk (by decide)
  refine And.intro hi ?_
  cases f with
  | none => exact br_f (by rw [ix_c a_opaque ek, r.1]; exact ix_10) h
  | some t =>
    refine br_t ((ix_c a_opaque ek).trans r.1) (xw_isConstant hk r ?_)
    unfold cc_cl4 at h
    dsimp only at h
    by_cases c : t.1 = 0 ∧ t.2.1 = 0
    · rw [if_pos c] at h
      rw [show cc_ik (some t) = true from decide_eq_true c]
      exact br_f ix_10 h
    · rw [if_neg c] at h
      rw [show cc_ik (some t) = false from decide_eq_false c]
      refine br_t rfl (And.intro hi ?_)
      have go : ∀ b : Bool, (b = true ↔ (t.1 = 1 ∧ t.2.1 = 0)) → wX_classify_45 post (nI k) (cc_b b) f_LIN f_SKIP f_CALL f_OUT f_JUMP f_RUNNING f_FIRST_VERSION f_MAX_VERSIONS f_procedures f_length f_calls f_depth f_openProc f_analysed f_built f_builtCount f_builtTotal f_workTop f_ctxMask f_ctxX f_ctxY f_argMask f_argX f_argY f_candCount f_candTotal f_overflow f_frames f_outCount f_entryCount a_kind a_d a_s a_t a_a a_b a_unitLen a_unitProc a_unitMask a_unitX a_unitY a_unitSize a_splitNow a_callSites a_opaque a_form0 a_form1 a_formB a_met a_fact a_factValue a_work a_waiting a_trial a_candProc a_candMask a_candX a_candY a_candSize a_place a_frameUnit a_framePc a_vars a_outputs a_entryProc a_entryX a_entryY a_entryMask := by
        intro b hb
        refine xw_cl45 hk r (fun w => ⟨fun z => ?_, fun z => ?_⟩) (fun w => ?_)
        · rw [if_pos ⟨w.imp hb.mp id, z⟩] at h; exact h
        · rw [if_neg (fun q => z q.2)] at h; exact h
        · rw [if_neg (fun q => w (q.1.imp hb.mpr id))] at h; exact h
      rw [ix_c a_form0 ek, r.2.1]
      by_cases c0 : t.1 = 1
      · refine br_t c0 (And.intro hi ?_)
        rw [ix_c a_form1 ek, r.2.2.1]
        by_cases c1 : t.2.1 = 0
        · exact br_t c1 (go true ⟨fun _ => ⟨c0, c1⟩, fun _ => rfl⟩)
        · exact br_f c1 (go false ⟨fun z => (nomatch z), fun z => absurd z.2 c1⟩)
      · exact br_f c0 (go false ⟨fun z => (nomatch z), fun z => absurd z.1 c0⟩)
theorem xw_jump87 {post : Int32 → Prop} {m s : Nat} (hm : m < 48) (hs : s < 4) {f : cc_Fm} (r : cc_rx a_opaque a_form0 a_form1 a_formB (m * 5 + s) f) {p : Int32} (h : post (cc_jv f p)) : wX_jump_87 post p (nI s) (nI (m * 5)) f_LIN f_SKIP f_CALL f_OUT f_JUMP f_RUNNING f_FIRST_VERSION f_MAX_VERSIONS f_procedures f_length f_calls f_depth f_openProc f_analysed f_built f_builtCount f_builtTotal f_workTop f_ctxMask f_ctxX f_ctxY f_argMask f_argX f_argY f_candCount f_candTotal f_overflow f_frames f_outCount f_entryCount a_kind a_d a_s a_t a_a a_b a_unitLen a_unitProc a_unitMask a_unitX a_unitY a_unitSize a_splitNow a_callSites a_opaque a_form0 a_form1 a_formB a_met a_fact a_factValue a_work a_waiting a_trial a_candProc a_candMask a_candX a_candY a_candSize a_place a_frameUnit a_framePc a_vars a_outputs a_entryProc a_entryX a_entryY a_entryMask := by
  have ek : m * 5 + s < 2 ^ 31 := by omega
  have hi : vp_in (nI (m * 5 + s)) 240 := vp_in_nI (by omega) (by decide)
  refine nm_r (e' := nI (m * 5 + s)) (nI_add _ _) ?_
  rw [ix_c a_form0 ek, ix_c a_form1 ek, ix_c a_formB ek, r.2.1, r.2.2.1, r.2.2.2]
  unfold cc_jv at h
  by_cases p0 : p = 0
  · rw [if_pos p0] at h; exact br_t p0 (xw_classify (by omega) r h)
  · rw [if_neg p0] at h; refine br_f p0 ?_
    by_cases p1 : p = 1
    · rw [if_pos p1] at h; exact br_t p1 (And.intro hi h)
    · rw [if_neg p1] at h; refine br_f p1 ?_
      by_cases p2 : p = 2
      · rw [if_pos p2] at h; exact br_t p2 (And.intro hi h)
      · rw [if_neg p2] at h; refine br_f p2 ?_
        by_cases p3 : p = 3
        · rw [if_pos p3] at h; exact br_t p3 (And.intro hi h)
        · rw [if_neg p3] at h; exact br_f p3 h
end
section
variable {g_procs g_limit g_calls g_depth g_cur g_ok g_c0 g_c1 g_cb g_vn g_built g_chosen g_top g_outs g_entries : Int32} {b_len b_kind b_sd b_ss b_st b_sa b_sb b_fk b_f0 b_f1 b_fb b_fact b_factv b_reach b_vp b_vm b_vx b_vy b_sp b_pc b_sm b_cell b_outList b_entryList : Nat → Int32}
theorem yw_jump183 {post : Int32 → Prop} {k : Nat} (hk : k < 192) {t : cc_F3} (r : cc_ry b_fk b_f0 b_f1 b_fb k (some t)) (c : ¬ (t.1 = 0 ∧ t.2.1 = 0)) (h : post (cc_cl4 (some t))) : wY_jump_183 post (nI k) g_procs g_limit g_calls g_depth g_cur g_ok g_c0 g_c1 g_cb g_vn g_built g_chosen g_top g_outs g_entries b_len b_kind b_sd b_ss b_st b_sa b_sb b_fk b_f0 b_f1 b_fb b_fact b_factv b_reach b_vp b_vm b_vx b_vy b_sp b_pc b_sm b_cell b_outList b_entryList := by
  have ek : k < 2 ^ 31 := by omega
  have hi : vp_in (nI k) 192 := vp_in_nI hk (by decide)
  unfold cc_cl4 at h
  dsimp only at h
  rw [if_neg c] at h
  have h214 : ¬ (t.1 = 1 ∧ t.2.1 = 0) → t.2.2 = 0 → wY_jump_214 post (nI k) g_procs g_limit g_calls g_depth g_cur g_ok g_c0 g_c1 g_cb g_vn g_built g_chosen g_top g_outs g_entries b_len b_kind b_sd b_ss b_st b_sa b_sb b_fk b_f0 b_f1 b_fb b_fact b_factv b_reach b_vp b_vm b_vx b_vy b_sp b_pc b_sm b_cell b_outList b_entryList := by
    intro n1 z
    refine And.intro hi ?_
    rw [ix_c b_f0 ek, r.2.1]
    by_cases c0 : t.1 = 0
    · refine br_t c0 (And.intro hi ?_)
      rw [ix_c b_f1 ek, r.2.2.1]
      by_cases c1 : t.2.1 = 1
      · rw [if_pos ⟨Or.inr ⟨c0, c1⟩, z⟩] at h; exact br_t c1 h
      · rw [if_neg (fun q => q.1.elim n1 (fun w => c1 w.2))] at h; exact br_f c1 h
    · rw [if_neg (fun q => q.1.elim n1 (fun w => c0 w.1))] at h; exact br_f c0 h
  refine And.intro hi ?_
  rw [ix_c b_fb ek, r.2.2.2]
  by_cases z : t.2.2 = 0
  · refine br_t z (And.intro hi ?_)
    rw [ix_c b_f0 ek, r.2.1]
    by_cases c0 : t.1 = 1
    · refine br_t c0 (And.intro hi ?_)
      rw [ix_c b_f1 ek, r.2.2.1]
      by_cases c1 : t.2.1 = 0
      · rw [if_pos ⟨Or.inl ⟨c0, c1⟩, z⟩] at h; exact br_t c1 h
      · exact br_f c1 (h214 (fun w => c1 w.2) z)
    · exact br_f c0 (h214 (fun w => c0 w.1) z)
  · rw [if_neg (fun q => z q.2)] at h
    exact br_f z h
theorem yw_jump77 {post : Int32 → Prop} {P : cc_Pg} {m i s : Nat} (hm : m < 48) (hs : s < 4) (w : cc_w1 P m i) (y : cc_y1 P b_kind b_sd b_ss b_st b_sa b_sb m i) {f : cc_Fm} (r : cc_ry b_fk b_f0 b_f1 b_fb (m * 4 + s) f) {p : Int32} (h : cc_K P m = 6 → post (cc_jv f p)) (h0 : cc_K P m ≠ 6 → post 0) : wY_jump_77 post p (nI m) (nI s) (nI (m * 4)) g_procs g_limit g_calls g_depth g_cur g_ok g_c0 g_c1 g_cb g_vn g_built g_chosen g_top g_outs g_entries b_len b_kind b_sd b_ss b_st b_sa b_sb b_fk b_f0 b_f1 b_fb b_fact b_factv b_reach b_vp b_vm b_vx b_vy b_sp b_pc b_sm b_cell b_outList b_entryList := by
  have ek : m * 4 + s < 2 ^ 31 := by omega
  have hi : vp_in (nI (m * 4 + s)) 192 := vp_in_nI (by omega) (by decide)
  obtain ⟨-, k3, -⟩ := cc_ky w y
  refine nm_r (e' := nI (m * 4 + s)) (nI_add _ _) (And.intro (vp_in_nI hm (by decide)) ?_)
  rw [ix_c b_kind (show m < 2 ^ 31 by omega)]
  by_cases k6 : cc_K P m = 6
  · replace h := h k6
    unfold cc_jv at h
    refine br_t (k3.mpr k6) ?_
    have out : (∀ n : Nat, n ≤ 3 → ¬ p = nI n) → post 0 := by
      intro ne
      rw [if_neg (show ¬ p = 0 from ne 0 (by omega)), if_neg (show ¬ p = 1 from ne 1 (by omega)), if_neg (show ¬ p = 2 from ne 2 (by omega)), if_neg (show ¬ p = 3 from ne 3 (by omega))] at h; exact h
    refine br_c (fun c => out (fun n hn e => ?_)) (fun c => br_c (fun c2 => ?_) (fun c2 => out (fun n hn e => ?_)))
    · rw [e] at c; exact nI_pos (by omega) c
    · obtain ⟨n, hn, rfl⟩ := nI_of2 (M := 3) (n := 3) (by decide) c c2
      rw [ix_c b_f0 ek, ix_c b_f1 ek, ix_c b_fb ek, ix_c b_fk ek, r.1, r.2.1, r.2.2.1, r.2.2.2]
      have : n = 0 ∨ n = 1 ∨ n = 2 ∨ n = 3 := by omega
      rcases this with e | e | e | e
      · subst e
        rw [if_pos (show nI 0 = 0 from rfl)] at h
        refine br_t (by decide) (And.intro hi ?_)
        cases f with
        | none => exact br_t rfl h
        | some t =>
          refine br_f ix_10 (And.intro hi ?_)
          show (t.1 = 0 → _) ∧ (¬ t.1 = 0 → _)
          by_cases c0 : t.1 = 0
          · refine br_t c0 (And.intro hi ?_)
            show (t.2.1 = 0 → _) ∧ (¬ t.2.1 = 0 → _)
            by_cases c1 : t.2.1 = 0
            · unfold cc_cl4 at h
              dsimp only at h
              rw [if_pos ⟨c0, c1⟩] at h
              exact br_t c1 h
            · exact br_f c1 (yw_jump183 (by omega) r (fun q => c1 q.2) h)
          · exact br_f c0 (yw_jump183 (by omega) r (fun q => c0 q.1) h)
      · subst e
        rw [if_neg (show ¬ nI 1 = 0 by decide), if_pos (show nI 1 = 1 from rfl)] at h
        exact br_f (by decide) (br_t rfl (And.intro hi h))
      · subst e
        rw [if_neg (show ¬ nI 2 = 0 by decide), if_neg (show ¬ nI 2 = 1 by decide), if_pos (show nI 2 = 2 from rfl)] at h
        exact br_f (by decide) (br_f (by decide) (br_t rfl (And.intro hi h)))
      · subst e
        rw [if_neg (show ¬ nI 3 = 0 by decide), if_neg (show ¬ nI 3 = 1 by decide), if_neg (show ¬ nI 3 = 2 by decide), if_pos (show nI 3 = 3 from rfl)] at h
        exact br_f (by decide) (br_f (by decide) (br_f (by decide) (And.intro hi h)))
    · rw [e] at c2; exact c2 (nI_le (b := 3) hn (by decide))
  · exact br_f (fun z => k6 (k3.mp z)) (h0 k6)
end
theorem i_vc_jump {k : Nat} {u : SX} {v : SY} (I : i_Rel k u v) (hk : k + 5 ≤ 2564) (v1 : Int32) (v2 : Int32) (v3 : Int32) (v4 : Int32) : wpX_jump (fun r => wpY_jump (fun r' => r' = r ∧ i_Rel (k + 5) u v) v v1 v2 v3 v4) u v1 v2 v3 v4 := by
  refine rl_el (Q := fun u v => wpX_jump (fun r => wpY_jump (fun r' => r' = r ∧ i_Rel (k + 5) u v) v v1 v2 v3 v4) u v1 v2 v3 v4) ?_ u v I
  rintro f_LIN f_SKIP f_CALL f_OUT f_JUMP f_RUNNING f_FIRST_VERSION f_MAX_VERSIONS f_procedures f_length f_calls f_depth f_openProc f_analysed f_built f_builtCount f_builtTotal f_workTop f_ctxMask f_ctxX f_ctxY f_argMask f_argX f_argY f_candCount f_candTotal f_overflow f_frames f_outCount f_entryCount a_kind a_d a_s a_t a_a a_b a_unitLen a_unitProc a_unitMask a_unitX a_unitY a_unitSize a_splitNow a_callSites a_opaque a_form0 a_form1 a_formB a_met a_fact a_factValue a_work a_waiting a_trial a_candProc a_candMask a_candX a_candY a_candSize a_place a_frameUnit a_framePc a_vars a_outputs a_entryProc a_entryX a_entryY a_entryMask g_procs g_limit g_calls g_depth g_cur g_ok g_c0 g_c1 g_cb g_vn g_built g_chosen g_top g_outs g_entries b_len b_kind b_sd b_ss b_st b_sa b_sb b_fk b_f0 b_f1 b_fb b_fact b_factv b_reach b_vp b_vm b_vx b_vy b_sp b_pc b_sm b_cell b_outList b_entryList ⟨P, lim, cal, dep, op, oc, ec, an, bu, R1, R2, R3, R4, R5⟩
  obtain ⟨rfl, rfl, rfl, rfl, rfl, rfl, rfl, rfl, rfl, rfl, rfl, rfl, rfl, rfl, rfl, rfl, rfl, hlim, hcal, hdep, hop, hoc, hec⟩ := R1
  obtain ⟨W, x, hul, hup, hum, hcs, hwa, y, hlen⟩ := id R2
  have N6 := W.2.1
  cases bu with
  | false => exact br_t rfl (br_t rfl ⟨rfl, rl_mk P lim cal dep op oc ec an false ⟨rfl, rfl, rfl, rfl, rfl, rfl, rfl, rfl, rfl, rfl, rfl, rfl, rfl, rfl, rfl, rfl, rfl, hlim, hcal, hdep, hop, hoc, hec⟩ R2 R3 R4 R5⟩)
  | true =>
    obtain ⟨ea, ch, yf, rfy, ov, ccb, hsn, -⟩ := R4 rfl
    obtain ⟨xf, rfx⟩ := R3 ea
    have same : ∀ r : Int32, r = r ∧ i_Rel (k + 5) (f_LIN, f_SKIP, f_CALL, f_OUT, f_JUMP, f_RUNNING, f_FIRST_VERSION, f_MAX_VERSIONS, (nI (cc_N P)), (nI lim), (nI cal), (nI dep), (nI op), (cc_b an), (cc_b true), f_builtCount, f_builtTotal, f_workTop, f_ctxMask, f_ctxX, f_ctxY, f_argMask, f_argX, f_argY, f_candCount, f_candTotal, f_overflow, f_frames, (nI oc), (nI ec), a_kind, a_d, a_s, a_t, a_a, a_b, a_unitLen, a_unitProc, a_unitMask, a_unitX, a_unitY, a_unitSize, a_splitNow, a_callSites, a_opaque, a_form0, a_form1, a_formB, a_met, a_fact, a_factValue, a_work, a_waiting, a_trial, a_candProc, a_candMask, a_candX, a_candY, a_candSize, a_place, a_frameUnit, a_framePc, a_vars, a_outputs, a_entryProc, a_entryX, a_entryY, a_entryMask) ((nI (cc_N P)), (nI lim), (nI cal), (nI dep), (nI op), g_ok, g_c0, g_c1, g_cb, g_vn, (cc_b true), g_chosen, g_top, (nI oc), (nI ec), b_len, b_kind, b_sd, b_ss, b_st, b_sa, b_sb, b_fk, b_f0, b_f1, b_fb, b_fact, b_factv, b_reach, b_vp, b_vm, b_vx, b_vy, b_sp, b_pc, b_sm, b_cell, b_outList, b_entryList) := fun r => ⟨rfl, rl_mk P lim cal dep op oc ec an true ⟨rfl, rfl, rfl, rfl, rfl, rfl, rfl, rfl, rfl, rfl, rfl, rfl, rfl, rfl, rfl, rfl, rfl, hlim, hcal, hdep, hop, hoc, hec⟩ R2 R3 R4 R5⟩
    refine br_f ix_10 (xw_isProc N6 (fun q hq e => br_f ix_10 ?_) (fun no => br_t rfl (br_f ix_10 (cc_pr_c N6 (fun q hq e => absurd ⟨q, hq, e⟩ no) (fun _ => same 0)))))
    subst e
    have q6 : q < 6 := by omega
    have L8 := W.2.2.1 q q6
    have yq : ∀ {A B : Prop}, A → (nI q < 0 → B) ∧ (¬ nI q < 0 → (nI (cc_N P) ≤ nI q → B) ∧ (¬ nI (cc_N P) ≤ nI q → A)) := fun a => br_f (nI_pos (by omega)) (br_f (nI_ge hq (by omega)) a)
    rcases cc_ix v2 with d | ⟨i, hi, rfl⟩
    · exact br_t d (br_f ix_10 (yq (br_t d (same 0))))
    · have elY : b_len (nI q).toNatClampNeg = nI (cc_L P q) := (ix_c b_len (by omega)).trans (hlen q q6)
      refine br_f (nI_pos hi) (And.intro (vp_in_nI (by omega) (by decide)) ?_)
      rw [ix_c a_unitLen (show q < 2 ^ 31 by omega), hul q q6]
      by_cases iL : i < cc_L P q
      · have em : q * 8 + i < 2 ^ 31 := by omega
        have him : vp_in (nI (q * 8 + i)) 176 := vp_in_nI (by omega) (by decide)
        have himY : vp_in (nI (q * 8 + i)) 48 := vp_in_nI (by omega) (by decide)
        have w := W.2.2.2 q i q6 iL
        have x1 := x q i q6 iL
        have y1 := y q i q6 iL
        have wS := w.2.2.1
        have wT := w.2.2.2.1
        have w7 := w.1
        have rX := (xf q hq i iL).1
        have rY := yf q hq i iL
        have yi : ∀ {A B : Prop}, A → (nI i < 0 → B) ∧ (¬ nI i < 0 → vp_in (nI q) 6 ∧ ((b_len (nI q).toNatClampNeg ≤ nI i → B) ∧ (¬ b_len (nI q).toNatClampNeg ≤ nI i → A))) := fun a => br_f (nI_pos hi) (And.intro (vp_in_nI q6 (by decide)) (br_f (by rw [elY]; exact nI_ge iL (by omega)) a))
        refine br_t (nI_lt iL (by omega)) (nm_r (e' := nI (q * 8 + i)) (ix_8 q i) (And.intro him ?_))
        rw [ix_c a_kind em, x1.1]
        have k0 : cc_K P (q * 8 + i) ≠ 6 → wpY_jump (fun r' => r' = 0 ∧ i_Rel (k + 5) (f_LIN, f_SKIP, f_CALL, f_OUT, f_JUMP, f_RUNNING, f_FIRST_VERSION, f_MAX_VERSIONS, (nI (cc_N P)), (nI lim), (nI cal), (nI dep), (nI op), (cc_b an), (cc_b true), f_builtCount, f_builtTotal, f_workTop, f_ctxMask, f_ctxX, f_ctxY, f_argMask, f_argX, f_argY, f_candCount, f_candTotal, f_overflow, f_frames, (nI oc), (nI ec), a_kind, a_d, a_s, a_t, a_a, a_b, a_unitLen, a_unitProc, a_unitMask, a_unitX, a_unitY, a_unitSize, a_splitNow, a_callSites, a_opaque, a_form0, a_form1, a_formB, a_met, a_fact, a_factValue, a_work, a_waiting, a_trial, a_candProc, a_candMask, a_candX, a_candY, a_candSize, a_place, a_frameUnit, a_framePc, a_vars, a_outputs, a_entryProc, a_entryX, a_entryY, a_entryMask) ((nI (cc_N P)), (nI lim), (nI cal), (nI dep), (nI op), g_ok, g_c0, g_c1, g_cb, g_vn, (cc_b true), g_chosen, g_top, (nI oc), (nI ec), b_len, b_kind, b_sd, b_ss, b_st, b_sa, b_sb, b_fk, b_f0, b_f1, b_fb, b_fact, b_factv, b_reach, b_vp, b_vm, b_vx, b_vy, b_sp, b_pc, b_sm, b_cell, b_outList, b_entryList)) ((nI (cc_N P)), (nI lim), (nI cal), (nI dep), (nI op), g_ok, g_c0, g_c1, g_cb, g_vn, (cc_b true), g_chosen, g_top, (nI oc), (nI ec), b_len, b_kind, b_sd, b_ss, b_st, b_sa, b_sb, b_fk, b_f0, b_f1, b_fb, b_fact, b_factv, b_reach, b_vp, b_vm, b_vx, b_vy, b_sp, b_pc, b_sm, b_cell, b_outList, b_entryList) (nI q) (nI i) v3 v4 := by
          intro k6
          refine br_f ix_10 (yq (yi (br_c (fun _ => same 0) (fun _ => br_c (fun _ => nm_r (e' := nI (q * 8 + i)) (ix_8 q i) (br_c (fun _ => And.intro himY ?_) (fun _ => And.intro himY ?_))) (fun _ => same 0)))))
          · rw [ix_c b_ss em, y1.2.1, ix_40]
            exact yw_jump77 (by omega) wS w y1 (rY _ wS) (fun z => absurd z k6) (fun _ => same 0)
          · rw [ix_c b_st em, y1.2.2.1, ix_40]
            exact yw_jump77 (by omega) wT w y1 (rY _ wT) (fun z => absurd z k6) (fun _ => same 0)
        by_cases k6 : cc_K P (q * 8 + i) = 6
        · rw [k6]
          refine br_t rfl ?_
          by_cases a0 : v3 = 0
          · subst a0
            refine br_f (by decide) (br_t (by decide) (br_t rfl (And.intro him ?_)))
            rw [ix_c a_s em, x1.2.2.1, ix_50]
            refine xw_jump87 (by omega) wS (rX _ wS) (br_f ix_10 (yq (yi (br_f (by decide) (br_t (by decide) (nm_r (e' := nI (q * 8 + i)) (ix_8 q i) (br_t rfl (And.intro himY ?_))))))))
            rw [ix_c b_ss em, y1.2.1, ix_40]
            exact yw_jump77 (by omega) wS w y1 (rY _ wS) (fun _ => same _) (fun z => absurd k6 z)
          · by_cases a1 : v3 = 1
            · subst a1
              refine br_f (by decide) (br_t (by decide) (br_f ix_10 (And.intro him ?_)))
              rw [ix_c a_t em, x1.2.2.2.1, ix_50]
              refine xw_jump87 (by omega) wT (rX _ wT) (br_f ix_10 (yq (yi (br_f (by decide) (br_t (by decide) (nm_r (e' := nI (q * 8 + i)) (ix_8 q i) (br_f ix_10 (And.intro himY ?_))))))))
              rw [ix_c b_st em, y1.2.2.1, ix_40]
              exact yw_jump77 (by omega) wT w y1 (rY _ wT) (fun _ => same _) (fun z => absurd k6 z)
            · refine br_c (fun c => br_f ix_10 (yq (yi (br_t c (same 0))))) (fun c => br_c (fun c2 => ?_) (fun c2 => br_f ix_10 (yq (yi (br_f c (br_f c2 (same 0)))))))
              obtain ⟨m, hm, rfl⟩ := nI_of2 (M := 1) (n := 1) (by decide) c c2
              have : m = 0 ∨ m = 1 := by omega
              rcases this with z | z
              · subst z; exact absurd rfl a0
              · subst z; exact absurd rfl a1
        · exact br_f (fun z => k6 ((nI_eq (by omega) (by decide)).mp z)) (k0 k6)
      · exact br_f (nI_nlt (by omega) hi) (br_f ix_10 (yq (br_f (nI_pos hi) (And.intro (vp_in_nI q6 (by decide)) (br_t (by rw [elY]; exact nI_le (by omega) hi) (same 0))))))
end
section
/-! versions, runs -/
theorem cc_mk4 {j : Nat} (hj : j ≤ 3) (x y : Int32) : ∃ d : cc_Cx, nI j = cc_cm d ∧ (d.1 = none ∨ d.1 = some x) ∧ (d.2 = none ∨ d.2 = some y) := by
  have : j = 0 ∨ j = 1 ∨ j = 2 ∨ j = 3 := by omega
  rcases this with e | e | e | e
  · subst e; exact ⟨(none, none), rfl, Or.inl rfl, Or.inl rfl⟩
  · subst e; exact ⟨(some x, none), rfl, Or.inr rfl, Or.inl rfl⟩
  · subst e; exact ⟨(none, some y), rfl, Or.inl rfl, Or.inr rfl⟩
  · subst e; exact ⟨(some x, some y), rfl, Or.inr rfl, Or.inr rfl⟩
theorem cc_mk_gx {d : cc_Cx} {x y : Int32} (h : d.1 = none ∨ d.1 = some x) (k : d.2 = none ∨ d.2 = some y) : cc_gx d x y := by
  constructor
  · intro v hv
    rcases h with h | h
    · rw [h] at hv; exact nomatch hv
    · rw [h] at hv; exact Option.some.inj hv
  · intro v hv
    rcases k with k | k
    · rw [k] at hv; exact nomatch hv
    · rw [k] at hv; exact Option.some.inj hv
section
variable {f_LIN f_SKIP f_CALL f_OUT f_JUMP f_RUNNING f_FIRST_VERSION f_MAX_VERSIONS f_procedures f_length f_calls f_depth f_openProc f_analysed f_built f_builtCount f_builtTotal f_workTop f_ctxMask f_ctxX f_ctxY f_argMask f_argX f_argY f_candCount f_candTotal f_overflow f_frames f_outCount f_entryCount : Int32} {a_kind a_d a_s a_t a_a a_b a_unitLen a_unitProc a_unitMask a_unitX a_unitY a_unitSize a_splitNow a_callSites a_opaque a_form0 a_form1 a_formB a_met a_fact a_factValue a_work a_waiting a_trial a_candProc a_candMask a_candX a_candY a_candSize a_place a_frameUnit a_framePc a_vars a_outputs a_entryProc a_entryX a_entryY a_entryMask : Nat → Int32}
theorem xw_ver56 {post : Int32 → Prop} {P : cc_Pg} {q : Nat} {d : cc_Cx} {l : List cc_V} (hq : q < 6) (hl : l.length ≤ 16) (h6 : ∀ v, v ∈ l → v.1 < 6) (r : ∀ (n : Nat) (v : cc_V), l[n]? = some v → a_unitProc (6 + n) = nI v.1 ∧ a_unitMask (6 + n) = cc_cm v.2 ∧ a_unitX (6 + n) = cc_cx v.2 ∧ a_unitY (6 + n) = cc_cy v.2 ∧ a_unitSize (6 + n) = nI (cc_sz P v.1 v.2))
    (h1 : (q, d) ∈ l → post (nI (cc_sz P q d))) (h0 : (q, d) ∉ l → post 0) :
    ∀ (n c : Nat), c ≤ l.length → l.length - c < n → (∀ j : Nat, j < c → l[j]? ≠ some (q, d)) → wX_version_56 post (nI q) (cc_cm d) (cc_cx d) (cc_cy d) f_LIN f_SKIP f_CALL f_OUT f_JUMP f_RUNNING f_FIRST_VERSION f_MAX_VERSIONS f_procedures f_length f_calls f_depth f_openProc f_analysed f_built (nI l.length) f_builtTotal f_workTop f_ctxMask f_ctxX f_ctxY f_argMask f_argX f_argY f_candCount f_candTotal f_overflow f_frames f_outCount f_entryCount a_kind a_d a_s a_t a_a a_b a_unitLen a_unitProc a_unitMask a_unitX a_unitY a_unitSize a_splitNow a_callSites a_opaque a_form0 a_form1 a_formB a_met a_fact a_factValue a_work a_waiting a_trial a_candProc a_candMask a_candX a_candY a_candSize a_place a_frameUnit a_framePc a_vars a_outputs a_entryProc a_entryX a_entryY a_entryMask n (nI c) := by
  intro n
  induction n with
  | zero => intro c _ z; omega
  | succ n ih =>
    intro c hc hn I
    by_cases e : c = l.length
    · subst e
      refine br_t (nI_le (Nat.le_refl _) (by omega)) (h0 (fun z => ?_))
      obtain ⟨j, hj⟩ := List.getElem?_of_mem z
      have : j < l.length := by
        refine Nat.lt_of_not_le fun y => ?_
        rw [List.getElem?_eq_none y] at hj; exact nomatch hj
      exact I j this hj
    · have hc' : c < l.length := by omega
      have ec : 6 + c < 2 ^ 31 := by omega
      have hi : vp_in (nI (6 + c)) 22 := vp_in_nI (by omega) (by decide)
      have ev := List.getElem?_eq_getElem hc'
      generalize l[c] = w at ev
      obtain ⟨r1, r2, r3, r4, r5⟩ := r c w ev
      have w6 := h6 w (List.mem_of_getElem? ev)
      have next : w ≠ (q, d) → ∀ z, z = nI c + 1 → wX_version_56 post (nI q) (cc_cm d) (cc_cx d) (cc_cy d) f_LIN f_SKIP f_CALL f_OUT f_JUMP f_RUNNING f_FIRST_VERSION f_MAX_VERSIONS f_procedures f_length f_calls f_depth f_openProc f_analysed f_built (nI l.length) f_builtTotal f_workTop f_ctxMask f_ctxX f_ctxY f_argMask f_argX f_argY f_candCount f_candTotal f_overflow f_frames f_outCount f_entryCount a_kind a_d a_s a_t a_a a_b a_unitLen a_unitProc a_unitMask a_unitX a_unitY a_unitSize a_splitNow a_callSites a_opaque a_form0 a_form1 a_formB a_met a_fact a_factValue a_work a_waiting a_trial a_candProc a_candMask a_candX a_candY a_candSize a_place a_frameUnit a_framePc a_vars a_outputs a_entryProc a_entryX a_entryY a_entryMask n z := by
        intro ne
        refine nm_r (e' := nI (c + 1)) (nI_1 c) (ih (c + 1) (by omega) (by omega) (fun j hj => ?_))
        by_cases ej : j = c
        · subst ej; rw [ev]; exact fun z => ne (Option.some.inj z)
        · exact I j (by omega)
      refine br_f (nI_ge hc' (by omega)) (nm_r (e' := nI (6 + c)) (nI_add 6 c) (And.intro hi ?_))
      rw [ix_c a_unitProc ec, r1]
      by_cases c1 : w.1 = q
      · refine br_t (by rw [c1]) (And.intro hi ?_)
        rw [ix_c a_unitMask ec, r2]
        by_cases c2 : cc_cm w.2 = cc_cm d
        · refine br_t c2 (And.intro hi ?_)
          rw [ix_c a_unitX ec, r3]
          by_cases c3 : cc_cx w.2 = cc_cx d
          · refine br_t c3 (And.intro hi ?_)
            rw [ix_c a_unitY ec, r4]
            by_cases c4 : cc_cy w.2 = cc_cy d
            · have ew : w = (q, d) := Prod.ext c1 (cc_cxE c2 c3 c4)
              refine br_t c4 (And.intro hi ?_)
              rw [ix_c a_unitSize ec, r5, ew]
              exact h1 (by rw [← ew]; exact List.mem_of_getElem? ev)
            · exact br_f c4 (next (fun z => c4 (by rw [z])))
          · exact br_f c3 (next (fun z => c3 (by rw [z])))
        · exact br_f c2 (next (fun z => c2 (by rw [z])))
      · exact br_f (fun z => c1 ((nI_eq (by omega) (by omega)).mp z)) (next (fun z => c1 (by rw [z])))
end
theorem i_vc_version {k : Nat} {u : SX} {v : SY} (I : i_Rel k u v) (hk : k + 5 ≤ 2564) (v1 : Int32) (v2 : Int32) (v3 : Int32) (v4 : Int32) : wpX_version (fun r => wpY_version (fun r' v' => r' = r ∧ i_Rel (k + 5) u v') v v1 v2 v3 v4) u v1 v2 v3 v4 := by
  refine rl_el (Q := fun u v => wpX_version (fun r => wpY_version (fun r' v' => r' = r ∧ i_Rel (k + 5) u v') v v1 v2 v3 v4) u v1 v2 v3 v4) ?_ u v I
  rintro f_LIN f_SKIP f_CALL f_OUT f_JUMP f_RUNNING f_FIRST_VERSION f_MAX_VERSIONS f_procedures f_length f_calls f_depth f_openProc f_analysed f_built f_builtCount f_builtTotal f_workTop f_ctxMask f_ctxX f_ctxY f_argMask f_argX f_argY f_candCount f_candTotal f_overflow f_frames f_outCount f_entryCount a_kind a_d a_s a_t a_a a_b a_unitLen a_unitProc a_unitMask a_unitX a_unitY a_unitSize a_splitNow a_callSites a_opaque a_form0 a_form1 a_formB a_met a_fact a_factValue a_work a_waiting a_trial a_candProc a_candMask a_candX a_candY a_candSize a_place a_frameUnit a_framePc a_vars a_outputs a_entryProc a_entryX a_entryY a_entryMask g_procs g_limit g_calls g_depth g_cur g_ok g_c0 g_c1 g_cb g_vn g_built g_chosen g_top g_outs g_entries b_len b_kind b_sd b_ss b_st b_sa b_sb b_fk b_f0 b_f1 b_fb b_fact b_factv b_reach b_vp b_vm b_vx b_vy b_sp b_pc b_sm b_cell b_outList b_entryList ⟨P, lim, cal, dep, op, oc, ec, an, bu, R1, R2, R3, R4, R5⟩
  obtain ⟨rfl, rfl, rfl, rfl, rfl, rfl, rfl, rfl, rfl, rfl, rfl, rfl, rfl, rfl, rfl, rfl, rfl, hlim, hcal, hdep, hop, hoc, hec⟩ := R1
  obtain ⟨W, x, hul, hup, hum, hcs, hwa, y, hlen⟩ := id R2
  have N6 := W.2.1
  cases bu with
  | false => exact br_t rfl (br_t rfl ⟨rfl, rl_mk P lim cal dep op oc ec an false ⟨rfl, rfl, rfl, rfl, rfl, rfl, rfl, rfl, rfl, rfl, rfl, rfl, rfl, rfl, rfl, rfl, rfl, hlim, hcal, hdep, hop, hoc, hec⟩ R2 R3 R4 R5⟩)
  | true =>
    obtain ⟨ea, ch, yf, rfy, ov, ccb, hsn, hbc, hbt, hut⟩ := R4 rfl
    have K : cc_YK P (cc_rd P 24) b_len b_kind b_sd b_ss b_st b_sa b_sb b_fk b_f0 b_f1 b_fb b_fact b_factv := ⟨y, hlen, yf, rfy⟩
    have same : ∀ r : Int32, r = r ∧ i_Rel (k + 5) (f_LIN, f_SKIP, f_CALL, f_OUT, f_JUMP, f_RUNNING, f_FIRST_VERSION, f_MAX_VERSIONS, (nI (cc_N P)), (nI lim), (nI cal), (nI dep), (nI op), (cc_b an), (cc_b true), f_builtCount, f_builtTotal, f_workTop, f_ctxMask, f_ctxX, f_ctxY, f_argMask, f_argX, f_argY, f_candCount, f_candTotal, f_overflow, f_frames, (nI oc), (nI ec), a_kind, a_d, a_s, a_t, a_a, a_b, a_unitLen, a_unitProc, a_unitMask, a_unitX, a_unitY, a_unitSize, a_splitNow, a_callSites, a_opaque, a_form0, a_form1, a_formB, a_met, a_fact, a_factValue, a_work, a_waiting, a_trial, a_candProc, a_candMask, a_candX, a_candY, a_candSize, a_place, a_frameUnit, a_framePc, a_vars, a_outputs, a_entryProc, a_entryX, a_entryY, a_entryMask) ((nI (cc_N P)), (nI lim), (nI cal), (nI dep), (nI op), g_ok, g_c0, g_c1, g_cb, g_vn, (cc_b true), g_chosen, g_top, (nI oc), (nI ec), b_len, b_kind, b_sd, b_ss, b_st, b_sa, b_sb, b_fk, b_f0, b_f1, b_fb, b_fact, b_factv, b_reach, b_vp, b_vm, b_vx, b_vy, b_sp, b_pc, b_sm, b_cell, b_outList, b_entryList) := fun r => ⟨rfl, rl_mk P lim cal dep op oc ec an true ⟨rfl, rfl, rfl, rfl, rfl, rfl, rfl, rfl, rfl, rfl, rfl, rfl, rfl, rfl, rfl, rfl, rfl, hlim, hcal, hdep, hop, hoc, hec⟩ R2 R3 R4 R5⟩
    refine br_f ix_10 (xw_isProc N6 (fun q hq e => br_f ix_10 ?_) (fun no => br_t rfl (br_f ix_10 (cc_pr_c N6 (fun q hq e => absurd ⟨q, hq, e⟩ no) (fun _ => same 0)))))
    subst e
    have q6 : q < 6 := by omega
    have yq : ∀ {A B : Prop}, A → (nI q < 0 → B) ∧ (¬ nI q < 0 → (nI (cc_N P) ≤ nI q → B) ∧ (¬ nI (cc_N P) ≤ nI q → A)) := fun a => br_f (nI_pos (by omega)) (br_f (nI_ge hq (by omega)) a)
    refine br_c (fun c => br_f ix_10 (yq (br_t c (same 0)))) (fun c => br_c (fun c2 => ?_) (fun c2 => br_f ix_10 (yq (br_f c (br_f c2 (same 0))))))
    obtain ⟨j, hj, rfl⟩ := nI_of2 (M := 3) (n := 3) (by decide) c c2
    obtain ⟨d, ed, dx, dy⟩ := cc_mk4 hj v3 v4
    rw [ed] at c c2 ⊢
    have g := cc_mk_gx dx dy
    have l16 : (cc_li P (cc_rd P 24) ch).length ≤ 16 := cc_E_l 16
    have h6 : ∀ v, v ∈ cc_li P (cc_rd P 24) ch → v.1 < 6 := fun v hv => cc_E_6 W hv
    have f56 : ∃ n, wX_version_56 (fun r => wpY_version (fun r' v' => r' = r ∧ i_Rel (k + 5) (f_LIN, f_SKIP, f_CALL, f_OUT, f_JUMP, f_RUNNING, f_FIRST_VERSION, f_MAX_VERSIONS, (nI (cc_N P)), (nI lim), (nI cal), (nI dep), (nI op), (cc_b an), (cc_b true), f_builtCount, f_builtTotal, f_workTop, f_ctxMask, f_ctxX, f_ctxY, f_argMask, f_argX, f_argY, f_candCount, f_candTotal, f_overflow, f_frames, (nI oc), (nI ec), a_kind, a_d, a_s, a_t, a_a, a_b, a_unitLen, a_unitProc, a_unitMask, a_unitX, a_unitY, a_unitSize, a_splitNow, a_callSites, a_opaque, a_form0, a_form1, a_formB, a_met, a_fact, a_factValue, a_work, a_waiting, a_trial, a_candProc, a_candMask, a_candX, a_candY, a_candSize, a_place, a_frameUnit, a_framePc, a_vars, a_outputs, a_entryProc, a_entryX, a_entryY, a_entryMask) v') ((nI (cc_N P)), (nI lim), (nI cal), (nI dep), (nI op), g_ok, g_c0, g_c1, g_cb, g_vn, (cc_b true), g_chosen, g_top, (nI oc), (nI ec), b_len, b_kind, b_sd, b_ss, b_st, b_sa, b_sb, b_fk, b_f0, b_f1, b_fb, b_fact, b_factv, b_reach, b_vp, b_vm, b_vx, b_vy, b_sp, b_pc, b_sm, b_cell, b_outList, b_entryList) (nI q) (cc_cm d) v3 v4) (nI q) (cc_cm d) (cc_cx d) (cc_cy d) f_LIN f_SKIP f_CALL f_OUT f_JUMP f_RUNNING f_FIRST_VERSION f_MAX_VERSIONS (nI (cc_N P)) (nI lim) (nI cal) (nI dep) (nI op) (cc_b an) (cc_b true) f_builtCount f_builtTotal f_workTop f_ctxMask f_ctxX f_ctxY f_argMask f_argX f_argY f_candCount f_candTotal f_overflow f_frames (nI oc) (nI ec) a_kind a_d a_s a_t a_a a_b a_unitLen a_unitProc a_unitMask a_unitX a_unitY a_unitSize a_splitNow a_callSites a_opaque a_form0 a_form1 a_formB a_met a_fact a_factValue a_work a_waiting a_trial a_candProc a_candMask a_candX a_candY a_candSize a_place a_frameUnit a_framePc a_vars a_outputs a_entryProc a_entryX a_entryY a_entryMask n 0 := by
      refine ⟨17, ?_⟩
      rw [hbc]
      refine xw_ver56 (P := P) q6 l16 h6 (fun n v hv => ?_) (fun mem => ?_) (fun no => ?_) 17 0 (by omega) (by omega) (fun j hj => absurd hj (by omega))
      · obtain ⟨t1, t2, t3, t4, t5, -⟩ := hut n v hv
        exact ⟨t1, t2, t3, t4, t5⟩
      · refine br_f ix_10 (yq (br_f c (br_t c2 ?_)))
        refine yw_collect W K ccb (fun z => by rw [ov] at z; exact nomatch z) (fun _ vp vm vx vy re r4 => ?_)
        refine yw_find g q6 l16 h6 r4 (fun n hn => ?_) (fun no => absurd mem no)
        have n16 : n < (cc_li P (cc_rd P 24) ch).length := by
          refine Nat.lt_of_not_le fun y => ?_
          rw [List.getElem?_eq_none y] at hn; exact nomatch hn
        refine br_t (nI_pos' (by omega)) (yw_mark W hq (hlen q q6) y (yf q hq) g (fun re' _ => ⟨rfl, ?_⟩))
        rw [← hbc]
        exact rl_mk P lim cal dep op oc ec an true ⟨rfl, rfl, rfl, rfl, rfl, rfl, rfl, rfl, rfl, rfl, rfl, rfl, rfl, rfl, rfl, rfl, rfl, hlim, hcal, hdep, hop, hoc, hec⟩ R2 R3 R4 R5
      · refine br_f ix_10 (yq (br_f c (br_t c2 ?_)))
        refine yw_collect W K ccb (fun z => by rw [ov] at z; exact nomatch z) (fun _ vp vm vx vy re r4 => ?_)
        refine yw_find g q6 l16 h6 r4 (fun n hn => absurd (List.mem_of_getElem? hn) no) (fun _ => br_f (by decide) ⟨rfl, ?_⟩)
        rw [← hbc]
        exact rl_mk P lim cal dep op oc ec an true ⟨rfl, rfl, rfl, rfl, rfl, rfl, rfl, rfl, rfl, rfl, rfl, rfl, rfl, rfl, rfl, rfl, rfl, hlim, hcal, hdep, hop, hoc, hec⟩ R2 R3 R4 R5
    have f37 : wX_version_37 (fun r => wpY_version (fun r' v' => r' = r ∧ i_Rel (k + 5) (f_LIN, f_SKIP, f_CALL, f_OUT, f_JUMP, f_RUNNING, f_FIRST_VERSION, f_MAX_VERSIONS, (nI (cc_N P)), (nI lim), (nI cal), (nI dep), (nI op), (cc_b an), (cc_b true), f_builtCount, f_builtTotal, f_workTop, f_ctxMask, f_ctxX, f_ctxY, f_argMask, f_argX, f_argY, f_candCount, f_candTotal, f_overflow, f_frames, (nI oc), (nI ec), a_kind, a_d, a_s, a_t, a_a, a_b, a_unitLen, a_unitProc, a_unitMask, a_unitX, a_unitY, a_unitSize, a_splitNow, a_callSites, a_opaque, a_form0, a_form1, a_formB, a_met, a_fact, a_factValue, a_work, a_waiting, a_trial, a_candProc, a_candMask, a_candX, a_candY, a_candSize, a_place, a_frameUnit, a_framePc, a_vars, a_outputs, a_entryProc, a_entryX, a_entryY, a_entryMask) v') ((nI (cc_N P)), (nI lim), (nI cal), (nI dep), (nI op), g_ok, g_c0, g_c1, g_cb, g_vn, (cc_b true), g_chosen, g_top, (nI oc), (nI ec), b_len, b_kind, b_sd, b_ss, b_st, b_sa, b_sb, b_fk, b_f0, b_f1, b_fb, b_fact, b_factv, b_reach, b_vp, b_vm, b_vx, b_vy, b_sp, b_pc, b_sm, b_cell, b_outList, b_entryList) (nI q) (cc_cm d) v3 v4) (nI q) (cc_cm d) v4 (cc_cx d) f_LIN f_SKIP f_CALL f_OUT f_JUMP f_RUNNING f_FIRST_VERSION f_MAX_VERSIONS (nI (cc_N P)) (nI lim) (nI cal) (nI dep) (nI op) (cc_b an) (cc_b true) f_builtCount f_builtTotal f_workTop f_ctxMask f_ctxX f_ctxY f_argMask f_argX f_argY f_candCount f_candTotal f_overflow f_frames (nI oc) (nI ec) a_kind a_d a_s a_t a_a a_b a_unitLen a_unitProc a_unitMask a_unitX a_unitY a_unitSize a_splitNow a_callSites a_opaque a_form0 a_form1 a_formB a_met a_fact a_factValue a_work a_waiting a_trial a_candProc a_candMask a_candX a_candY a_candSize a_place a_frameUnit a_framePc a_vars a_outputs a_entryProc a_entryX a_entryY a_entryMask := by
      rcases dy with e | e
      · have ey : cc_cy d = 0 := by unfold cc_cy; rw [e]; rfl
        rw [ey] at f56
        exact br_t ((cc_cm2 d).mpr e) f56
      · have ey : cc_cy d = v4 := by unfold cc_cy; rw [e]; rfl
        rw [ey] at f56
        exact br_f (fun z => by rw [(cc_cm2 d).mp z] at e; exact nomatch e) f56
    rcases dx with e | e
    · have ex : cc_cx d = 0 := by unfold cc_cx; rw [e]; rfl
      rw [ex] at f37
      exact br_t ((cc_cm1 d).mpr e) f37
    · have ex : cc_cx d = v3 := by unfold cc_cx; rw [e]; rfl
      rw [ex] at f37
      exact br_f (fun z => by rw [(cc_cm1 d).mp z] at e; exact nomatch e) f37
theorem i_vc_run {k : Nat} {u : SX} {v : SY} (I : i_Rel k u v) (hk : k + 5 ≤ 2564) (v1 : Int32) (v2 : Int32) (v3 : Int32) : wpX_run (fun r u' => wpY_run (fun r' v' => r' = r ∧ i_Rel (k + 5) u' v') v v1 v2 v3) u v1 v2 v3 := by
  refine rl_el (Q := fun u v => wpX_run (fun r u' => wpY_run (fun r' v' => r' = r ∧ i_Rel (k + 5) u' v') v v1 v2 v3) u v1 v2 v3) ?_ u v I
  rintro f_LIN f_SKIP f_CALL f_OUT f_JUMP f_RUNNING f_FIRST_VERSION f_MAX_VERSIONS f_procedures f_length f_calls f_depth f_openProc f_analysed f_built f_builtCount f_builtTotal f_workTop f_ctxMask f_ctxX f_ctxY f_argMask f_argX f_argY f_candCount f_candTotal f_overflow f_frames f_outCount f_entryCount a_kind a_d a_s a_t a_a a_b a_unitLen a_unitProc a_unitMask a_unitX a_unitY a_unitSize a_splitNow a_callSites a_opaque a_form0 a_form1 a_formB a_met a_fact a_factValue a_work a_waiting a_trial a_candProc a_candMask a_candX a_candY a_candSize a_place a_frameUnit a_framePc a_vars a_outputs a_entryProc a_entryX a_entryY a_entryMask g_procs g_limit g_calls g_depth g_cur g_ok g_c0 g_c1 g_cb g_vn g_built g_chosen g_top g_outs g_entries b_len b_kind b_sd b_ss b_st b_sa b_sb b_fk b_f0 b_f1 b_fb b_fact b_factv b_reach b_vp b_vm b_vx b_vy b_sp b_pc b_sm b_cell b_outList b_entryList ⟨P, lim, cal, dep, op, oc, ec, an, bu, R1, R2, R3, R4, R5⟩
  obtain ⟨rfl, rfl, rfl, rfl, rfl, rfl, rfl, rfl, rfl, rfl, rfl, rfl, rfl, rfl, rfl, rfl, rfl, hlim, hcal, hdep, hop, hoc, hec⟩ := R1
  obtain ⟨W, x, hul, hup, hum, hcs, hwa, y, hlen⟩ := id R2
  have N2 := W.1
  have N6 := W.2.1
  by_cases m0 : v1 = 0
  · subst m0
    have SM := cc_SM0 W x hul hup hum
    obtain ⟨r, fr', oc', ec', fu', fp', va', ou', ep', ex', ey', em', tp', sp', pc', sm', ce', ol', el', q1, q2, q3, hX, hY⟩ := rn_go (md := 0) (f_LIN := f_LIN) (f_SKIP := f_SKIP) (f_CALL := f_CALL) (f_OUT := f_OUT) (f_JUMP := f_JUMP) (f_RUNNING := f_RUNNING) (f_FIRST_VERSION := f_FIRST_VERSION) (f_MAX_VERSIONS := f_MAX_VERSIONS) (f_procedures := nI (cc_N P)) (f_length := nI lim) (f_openProc := nI op) (f_analysed := cc_b an) (f_built := cc_b bu) (f_builtCount := f_builtCount) (f_builtTotal := f_builtTotal) (f_workTop := f_workTop) (f_ctxMask := f_ctxMask) (f_ctxX := f_ctxX) (f_ctxY := f_ctxY) (f_argMask := f_argMask) (f_argX := f_argX) (f_argY := f_argY) (f_candCount := f_candCount) (f_candTotal := f_candTotal) (f_overflow := f_overflow) (a_unitX := a_unitX) (a_unitY := a_unitY) (a_unitSize := a_unitSize) (a_splitNow := a_splitNow) (a_callSites := a_callSites) (a_opaque := a_opaque) (a_form0 := a_form0) (a_form1 := a_form1) (a_formB := a_formB) (a_met := a_met) (a_fact := a_fact) (a_factValue := a_factValue) (a_work := a_work) (a_waiting := a_waiting) (a_trial := a_trial) (a_candProc := a_candProc) (a_candMask := a_candMask) (a_candX := a_candX) (a_candY := a_candY) (a_candSize := a_candSize) (a_place := a_place) (a_frameUnit := a_frameUnit) (a_framePc := a_framePc) (a_vars := a_vars) (a_outputs := a_outputs) (a_entryProc := a_entryProc) (a_entryX := a_entryX) (a_entryY := a_entryY) (a_entryMask := a_entryMask) (g_procs := nI (cc_N P)) (g_limit := nI lim) (g_cur := nI op) (g_ok := g_ok) (g_c0 := g_c0) (g_c1 := g_c1) (g_cb := g_cb) (g_vn := g_vn) (g_built := cc_b bu) (g_chosen := g_chosen) (g_top := g_top) (g_outs := nI oc) (g_entries := nI ec) (b_fk := b_fk) (b_f0 := b_f0) (b_f1 := b_f1) (b_fb := b_fb) (b_fact := b_fact) (b_factv := b_factv) (b_reach := b_reach) (b_vp := b_vp) (b_vm := b_vm) (b_vx := b_vx) (b_vy := b_vy) (b_sp := b_sp) (b_pc := b_pc) (b_sm := b_sm) (b_cell := b_cell) (b_outList := b_outList) (b_entryList := b_entryList) W SM hlen y hcal hdep (fun z => absurd z (by decide)) (fun _ _ _ => rfl) (u0 := 0) (by omega) rfl (vx := v2) (vy := v3) trivial
    refine br_t rfl (br_f (by decide) (br_t rfl (hX _ (br_t rfl (br_f (by decide) (hY _ ⟨rfl, ?_⟩))))))
    exact rl_mk P lim cal dep op oc' ec' an bu ⟨rfl, rfl, rfl, rfl, rfl, rfl, rfl, rfl, rfl, rfl, rfl, rfl, rfl, rfl, rfl, rfl, rfl, hlim, hcal, hdep, hop, q1, q2⟩ R2 R3 R4 q3
  · by_cases m1 : v1 = 1
    · subst m1
      cases bu with
      | false => exact br_f m0 (br_t rfl (br_t rfl (br_t rfl (br_f m0 (br_t rfl (br_t rfl (br_t rfl ⟨rfl, rl_mk P lim cal dep op oc ec an false ⟨rfl, rfl, rfl, rfl, rfl, rfl, rfl, rfl, rfl, rfl, rfl, rfl, rfl, rfl, rfl, rfl, rfl, hlim, hcal, hdep, hop, hoc, hec⟩ R2 R3 R4 R5⟩)))))))
      | true =>
        obtain ⟨ea, ch, yf, rfy, ov, ccb, hsn, hbc, hbt, hut⟩ := R4 rfl
        have ls := cc_rd_ls W
        have SM := cc_SM1 W ls.1 hut
        have l1 : 1 ≤ (cc_li P (cc_rd P 24) ch).length := cc_E_1l 16
        have hv0 : cc_vu (cc_li P (cc_rd P 24) ch) 6 = (0, (none, none)) := by
          unfold cc_vu
          rw [show 6 - 6 = 0 from rfl, show (cc_li P (cc_rd P 24) ch)[0]? = some (0, (none, none)) from cc_E_0 16]; rfl
        have hZ : cc_Z1 (cc_rd P 24) 0 v2 v3 := by
          refine ⟨?_, ?_, ?_⟩
          · show cc_rd P 24 0 ≠ none
            rw [ls.1.1]; exact fun z => nomatch z
          · show cc_rd P 24 1 ≠ none
            rw [ls.1.2.1]; exact fun z => nomatch z
          · have e : cc_fc (cc_rd P 24) 0 = (none, none) := by
              show (cc_lc (cc_rd P 24 0), cc_lc (cc_rd P 24 1)) = _
              rw [ls.1.1, ls.1.2.1]; rfl
            rw [e]; exact ⟨fun v z => (nomatch z), fun v z => (nomatch z)⟩
        have hinto : (1 : Int32) = 1 → ∀ (p i : Nat) (c : cc_Cx), p < cc_N P → i < cc_L P p → cc_K P (p * 8 + i) = 6 → ∀ (tp os es : Int32) (sp pc sm ce ol el : Nat → Int32) (R : Int32 → Prop), R (cc_cm (cc_ce P (cc_rd P 24) ch (p * 8 + i) c)) → wpY_into R ((nI (cc_N P)), (nI lim), (nI cal), (nI dep), (nI op), g_ok, g_c0, g_c1, g_cb, g_vn, (cc_b true), g_chosen, tp, os, es, b_len, b_kind, b_sd, b_ss, b_st, b_sa, b_sb, b_fk, b_f0, b_f1, b_fb, b_fact, b_factv, b_reach, b_vp, b_vm, b_vx, b_vy, sp, pc, sm, ce, ol, el) (nI (p * 8 + i)) (cc_cm c) g_chosen := by
          intro _ p i c hp hi k6 tp os es sp pc sm ce ol el R hR
          have p6 : p < 6 := by omega
          have L8 := W.2.2.1 p p6
          exact yw_into (F := cc_rd P 24) (ch := ch) (by omega) (W.2.2.2 p i p6 hi) N6 k6 (y p i p6 hi) (yf p hp i hi) rfy ccb hR
        obtain ⟨r, fr', oc', ec', fu', fp', va', ou', ep', ex', ey', em', tp', sp', pc', sm', ce', ol', el', q1, q2, q3, hX, hY⟩ := rn_go (md := 1) (f_LIN := f_LIN) (f_SKIP := f_SKIP) (f_CALL := f_CALL) (f_OUT := f_OUT) (f_JUMP := f_JUMP) (f_RUNNING := f_RUNNING) (f_FIRST_VERSION := f_FIRST_VERSION) (f_MAX_VERSIONS := f_MAX_VERSIONS) (f_procedures := nI (cc_N P)) (f_length := nI lim) (f_openProc := nI op) (f_analysed := cc_b an) (f_built := cc_b true) (f_builtCount := f_builtCount) (f_builtTotal := f_builtTotal) (f_workTop := f_workTop) (f_ctxMask := f_ctxMask) (f_ctxX := f_ctxX) (f_ctxY := f_ctxY) (f_argMask := f_argMask) (f_argX := f_argX) (f_argY := f_argY) (f_candCount := f_candCount) (f_candTotal := f_candTotal) (f_overflow := f_overflow) (a_unitX := a_unitX) (a_unitY := a_unitY) (a_unitSize := a_unitSize) (a_splitNow := a_splitNow) (a_callSites := a_callSites) (a_opaque := a_opaque) (a_form0 := a_form0) (a_form1 := a_form1) (a_formB := a_formB) (a_met := a_met) (a_fact := a_fact) (a_factValue := a_factValue) (a_work := a_work) (a_waiting := a_waiting) (a_trial := a_trial) (a_candProc := a_candProc) (a_candMask := a_candMask) (a_candX := a_candX) (a_candY := a_candY) (a_candSize := a_candSize) (a_place := a_place) (a_frameUnit := a_frameUnit) (a_framePc := a_framePc) (a_vars := a_vars) (a_outputs := a_outputs) (a_entryProc := a_entryProc) (a_entryX := a_entryX) (a_entryY := a_entryY) (a_entryMask := a_entryMask) (g_procs := nI (cc_N P)) (g_limit := nI lim) (g_cur := nI op) (g_ok := g_ok) (g_c0 := g_c0) (g_c1 := g_c1) (g_cb := g_cb) (g_vn := g_vn) (g_built := cc_b true) (g_chosen := g_chosen) (g_top := g_top) (g_outs := nI oc) (g_entries := nI ec) (b_fk := b_fk) (b_f0 := b_f0) (b_f1 := b_f1) (b_fb := b_fb) (b_fact := b_fact) (b_factv := b_factv) (b_reach := b_reach) (b_vp := b_vp) (b_vm := b_vm) (b_vx := b_vx) (b_vy := b_vy) (b_sp := b_sp) (b_pc := b_pc) (b_sm := b_sm) (b_cell := b_cell) (b_outList := b_outList) (b_entryList := b_entryList) W SM hlen y hcal hdep hinto (fun z => absurd rfl z) (u0 := 6) ⟨by omega, by omega⟩ hv0 (vx := v2) (vy := v3) hZ
        refine br_f m0 (br_t rfl (br_t rfl (br_f ix_10 (br_f m0 (hX _ (br_f m0 (br_t rfl (br_t rfl (br_f ix_10 (hY _ ⟨rfl, ?_⟩))))))))))
        exact rl_mk P lim cal dep op oc' ec' an true ⟨rfl, rfl, rfl, rfl, rfl, rfl, rfl, rfl, rfl, rfl, rfl, rfl, rfl, rfl, rfl, rfl, rfl, hlim, hcal, hdep, hop, q1, q2⟩ R2 R3 R4 q3
    · exact br_f m0 (br_f m1 (br_f m0 (br_f m1 ⟨rfl, rl_mk P lim cal dep op oc ec an bu ⟨rfl, rfl, rfl, rfl, rfl, rfl, rfl, rfl, rfl, rfl, rfl, rfl, rfl, rfl, rfl, rfl, rfl, hlim, hcal, hdep, hop, hoc, hec⟩ R2 R3 R4 R5⟩)))
end
section
/-! build -/
section
variable {f_LIN f_SKIP f_CALL f_OUT f_JUMP f_RUNNING f_FIRST_VERSION f_MAX_VERSIONS f_procedures f_length f_calls f_depth f_openProc f_analysed f_built f_builtCount f_builtTotal f_workTop f_ctxMask f_ctxX f_ctxY f_argMask f_argX f_argY f_candCount f_candTotal f_overflow f_frames f_outCount f_entryCount : Int32} {a_kind a_d a_s a_t a_a a_b a_unitLen a_unitProc a_unitMask a_unitX a_unitY a_unitSize a_splitNow a_callSites a_opaque a_form0 a_form1 a_formB a_met a_fact a_factValue a_work a_waiting a_trial a_candProc a_candMask a_candX a_candY a_candSize a_place a_frameUnit a_framePc a_vars a_outputs a_entryProc a_entryX a_entryY a_entryMask : Nat → Int32}
variable {g_procs g_limit g_calls g_depth g_cur g_ok g_c0 g_c1 g_cb g_vn g_built g_chosen g_top g_outs g_entries : Int32} {b_len b_kind b_sd b_ss b_st b_sa b_sb b_fk b_f0 b_f1 b_fb b_fact b_factv b_reach b_vp b_vm b_vx b_vy b_sp b_pc b_sm b_cell b_outList b_entryList : Nat → Int32}
theorem bd_core {kk : Nat} {P : cc_Pg} {lim cal dep op oc ec : Nat} {bu : Bool} {bud : Int32} (hlim : lim ≤ 8) (hcal : cal ≤ 64) (hdep : dep ≤ 16) (hop : op < cc_N P) (hoc : oc ≤ 16) (hec : ec ≤ 64) (R2 : rl_2 P a_kind a_d a_s a_t a_a a_b a_unitLen a_unitProc a_unitMask a_callSites a_waiting b_len b_kind b_sd b_ss b_st b_sa b_sb) (R3 : rl_3 P a_opaque a_form0 a_form1 a_formB a_fact a_factValue) (R4 : bu = true → rl_4 P f_builtCount f_builtTotal a_kind a_d a_s a_t a_a a_b a_unitLen a_unitProc a_unitMask a_unitX a_unitY a_unitSize a_splitNow g_chosen b_fk b_f0 b_f1 b_fb b_fact b_factv) (R5 : cc_LR oc ec a_outputs a_entryProc a_entryX a_entryY a_entryMask b_outList b_entryList) :
    wX_build_13 (fun r u' => wpY_build (fun r' v' => r' = r ∧ i_Rel kk u' v') ((nI (cc_N P)), (nI lim), (nI cal), (nI dep), (nI op), g_ok, g_c0, g_c1, g_cb, g_vn, (cc_b bu), g_chosen, g_top, (nI oc), (nI ec), b_len, b_kind, b_sd, b_ss, b_st, b_sa, b_sb, b_fk, b_f0, b_f1, b_fb, b_fact, b_factv, b_reach, b_vp, b_vm, b_vx, b_vy, b_sp, b_pc, b_sm, b_cell, b_outList, b_entryList) bud) bud f_LIN f_SKIP f_CALL f_OUT f_JUMP f_RUNNING f_FIRST_VERSION f_MAX_VERSIONS (nI (cc_N P)) (nI lim) (nI cal) (nI dep) (nI op) 1 (cc_b bu) f_builtCount f_builtTotal f_workTop f_ctxMask f_ctxX f_ctxY f_argMask f_argX f_argY f_candCount f_candTotal f_overflow f_frames (nI oc) (nI ec) 7 0 a_kind a_d a_s a_t a_a a_b a_unitLen a_unitProc a_unitMask a_unitX a_unitY a_unitSize a_splitNow a_callSites a_opaque a_form0 a_form1 a_formB a_met a_fact a_factValue a_work a_waiting a_trial a_candProc a_candMask a_candX a_candY a_candSize a_place a_frameUnit a_framePc a_vars a_outputs a_entryProc a_entryX a_entryY a_entryMask := by
  obtain ⟨W, x, hul, hup, hum, hcs, hwa, y, hlen⟩ := id R2
  have K : cc_XK P (cc_rd P 24) a_kind a_d a_s a_t a_a a_b a_unitLen a_callSites a_opaque a_form0 a_form1 a_formB a_fact a_factValue := ⟨x, hul, hcs, R3.1, R3.2⟩
  refine xw_build13 W K (fun cm' cx' cy' am ax ay cc cp cm cx cy ov tot cz tr nft => ?_) (fun cm' cx' cy' am ax ay cp cm cx cy tot cz tr kd d s t a b pl ul up um ux uy uz sn ft n6 u6 hut hsn => ?_) 7 0 a_trial (by omega) (by omega) (fun q hq => absurd hq (by omega))
  · refine yw_build W hlen y (fun ok c0 c1 cb fk f0 f1 fb fa fv vn vp vm vx vy re yf rfy _ => ⟨rfl, ?_⟩) (fun ok c0 c1 cb fk f0 f1 fb fa fv w vn vp vm vx vy re yf rfy ft => absurd ft nft)
    refine rl_mk P lim cal dep op oc ec true bu ⟨rfl, rfl, rfl, rfl, rfl, rfl, rfl, rfl, rfl, rfl, rfl, rfl, rfl, rfl, rfl, rfl, rfl, hlim, hcal, hdep, hop, hoc, hec⟩ R2 (fun _ => R3) (fun z => ⟨rfl, ?_⟩) R5
    obtain ⟨ch, -, -, h3⟩ := R4 z
    exact ⟨ch, yf, rfy, h3⟩
  · refine yw_build W hlen y (fun ok c0 c1 cb fk f0 f1 fb fa fv vn vp vm vx vy re _ _ nft => absurd ft nft) (fun ok c0 c1 cb fk f0 f1 fb fa fv w vn vp vm vx vy re yf rfy _ ccb => ⟨rfl, ?_⟩)
    refine rl_mk P lim cal dep op oc ec true true ⟨rfl, rfl, rfl, rfl, rfl, rfl, rfl, rfl, rfl, rfl, rfl, rfl, rfl, rfl, rfl, rfl, rfl, hlim, hcal, hdep, hop, hoc, hec⟩ ⟨W, cc_xc_k W n6 (fun j hj => by omega) x, fun p hp => (u6 p hp).1.trans (hul p hp), fun p hp => (u6 p hp).2.1.trans (hup p hp), fun p hp => (u6 p hp).2.2.trans (hum p hp), hcs, hwa, y, hlen⟩ (fun _ => R3) (fun _ => ⟨rfl, cc_ch P (cc_rd P 24) bud (cc_N P), yf, rfy, (cc_ch_ft ft (cc_N P)).1, ccb, hsn, rfl, rfl, hut⟩) R5
end
theorem i_vc_build {k : Nat} {u : SX} {v : SY} (I : i_Rel k u v) (hk : k + 5 ≤ 2564) (v1 : Int32) : wpX_build (fun r u' => wpY_build (fun r' v' => r' = r ∧ i_Rel (k + 5) u' v') v v1) u v1 := by
  refine rl_el (Q := fun u v => wpX_build (fun r u' => wpY_build (fun r' v' => r' = r ∧ i_Rel (k + 5) u' v') v v1) u v1) ?_ u v I
  rintro f_LIN f_SKIP f_CALL f_OUT f_JUMP f_RUNNING f_FIRST_VERSION f_MAX_VERSIONS f_procedures f_length f_calls f_depth f_openProc f_analysed f_built f_builtCount f_builtTotal f_workTop f_ctxMask f_ctxX f_ctxY f_argMask f_argX f_argY f_candCount f_candTotal f_overflow f_frames f_outCount f_entryCount a_kind a_d a_s a_t a_a a_b a_unitLen a_unitProc a_unitMask a_unitX a_unitY a_unitSize a_splitNow a_callSites a_opaque a_form0 a_form1 a_formB a_met a_fact a_factValue a_work a_waiting a_trial a_candProc a_candMask a_candX a_candY a_candSize a_place a_frameUnit a_framePc a_vars a_outputs a_entryProc a_entryX a_entryY a_entryMask g_procs g_limit g_calls g_depth g_cur g_ok g_c0 g_c1 g_cb g_vn g_built g_chosen g_top g_outs g_entries b_len b_kind b_sd b_ss b_st b_sa b_sb b_fk b_f0 b_f1 b_fb b_fact b_factv b_reach b_vp b_vm b_vx b_vy b_sp b_pc b_sm b_cell b_outList b_entryList ⟨P, lim, cal, dep, op, oc, ec, an, bu, R1, R2, R3, R4, R5⟩
  obtain ⟨rfl, rfl, rfl, rfl, rfl, rfl, rfl, rfl, rfl, rfl, rfl, rfl, rfl, rfl, rfl, rfl, rfl, hlim, hcal, hdep, hop, hoc, hec⟩ := R1
  obtain ⟨W, x, hul, hup, hum, hcs, hwa, y, hlen⟩ := id R2
  cases an with
  | true =>
    refine br_f ix_10 ⟨7, ?_⟩
    exact bd_core hlim hcal hdep hop hoc hec R2 (R3 rfl) (fun z => (R4 z).2) R5
  | false =>
    have nb : bu = false := by
      cases bu with
      | false => rfl
      | true => exact (nomatch (R4 rfl).1)
    subst nb
    refine br_t rfl (xw_analyse W hul x hcs hwa (fun cm cx cy am ax ay o g0 g1 gB mt fa fv wk wa F xf ls rf hwa' => ⟨7, ?_⟩))
    have eF : F = cc_rd P 24 := cc_ls_u ls (cc_rd_ls W)
    subst eF
    exact bd_core (bu := false) hlim hcal hdep hop hoc hec ⟨W, x, hul, hup, hum, hcs, hwa', y, hlen⟩ ⟨xf, rf⟩ (fun z => nomatch z) R5
end
