section
/-! pure rows to paste: stores, nI and lN arithmetic, masks, shifts, narrowing, branches by naturals (pk_le, pk_lt, pk_eq), loops (lp1 .. lp16: the measure of the state; rp1 ..: recursion), negatives. Take what you need -/
theorem pk_us {f : Nat → Int32} {k : Nat} {x : Int32} : upd f k x k = x := if_pos rfl
theorem pk_un {f : Nat → Int32} {k j : Nat} {x : Int32} (h : j ≠ k) : upd f k x j = f j := if_neg h
theorem pk_uLs {f : Nat → Int64} {k : Nat} {x : Int64} : vp_updL f k x k = x := if_pos rfl
theorem pk_uLn {f : Nat → Int64} {k j : Nat} {x : Int64} (h : j ≠ k) : vp_updL f k x j = f j := if_neg h
theorem pk_sub {a b : Nat} (h : b ≤ a) : nI a - nI b = nI (a - b) := by
  obtain ⟨c, rfl⟩ : ∃ c, a = c + b := ⟨a - b, by omega⟩
  rw [← nI_add, Int32.add_sub_cancel, Nat.add_sub_cancel]
theorem pk_m1 (n : Nat) : nI (n + 1) + (-1) = nI n := by
  rw [← nI_1, Int32.add_assoc, show (1 : Int32) + (-1) = 0 from rfl, Int32.add_zero]
theorem pk_mul (a b : Nat) : nI a * nI b = nI (a * b) := (Int32.ofNat_mul a b).symm
theorem pk_div {a d : Nat} (ha : a < 2 ^ 31) (h0 : 0 < d) (hd : d < 2 ^ 31) : nI a / nI d = nI (a / d) := by
  apply Int32.toInt_inj.mp
  rw [lg_idiv_nonneg (by rw [nI_toInt ha]; omega) (by rw [nI_toInt hd]; omega), nI_toInt ha, nI_toInt hd, nI_toInt (Nat.lt_of_le_of_lt (Nat.div_le_self a d) ha)]
  first | rfl | exact (Int.natCast_ediv _ _).symm
theorem pk_rem {a d : Nat} (ha : a < 2 ^ 31) (h0 : 0 < d) (hd : d < 2 ^ 31) : nI a - nI a / nI d * nI d = nI (a % d) := by
  rw [pk_div ha h0 hd, pk_mul, pk_sub (Nat.div_mul_le_self a d)]
  exact congrArg nI (by have := Nat.div_add_mod' a d; omega)
theorem pk_sub_toInt {a b : Nat} (ha : a < 2 ^ 30) (hb : b < 2 ^ 30) : (nI a - nI b).toInt = (a : Int) - b := by
  rw [Int32.toInt_sub, nI_toInt (by omega), nI_toInt (by omega)]
  exact Int.bmod_eq_of_le (by omega) (by omega)
theorem pk_sneg {a b : Nat} (hb : b < 2 ^ 30) (h : a < b) : nI a - nI b < 0 := by
  rw [Int32.lt_iff_toInt_lt, pk_sub_toInt (by omega) hb, show (0 : Int32).toInt = 0 from by decide]
  omega
theorem pk_ix (x : Int32) {n : Nat} (hn : n < 2 ^ 31) : x < 0 ∨ nI n ≤ x ∨ ∃ j : Nat, j < n ∧ x = nI j := by
  by_cases h : x < 0
  · exact Or.inl h
  · obtain ⟨j, hj, rfl⟩ := nI_of h
    by_cases h2 : j < n
    · exact Or.inr (Or.inr ⟨j, h2, rfl⟩)
    · exact Or.inr (Or.inl (nI_le (by omega) hj))
theorem pk_le {x y : Int32} {A B : Prop} (a b : Nat) (f : a ≤ b → A) (g : b < a → B) (hx : x = nI a := by rfl) (hy : y = nI b := by rfl) (ha : a < 2 ^ 31 := by omega) (hb : b < 2 ^ 31 := by omega) : (x ≤ y → A) ∧ (¬ x ≤ y → B) := by
  subst hx hy
  rw [nI_leI ha hb]
  exact ⟨f, fun z => g (by omega)⟩
theorem pk_lt {x y : Int32} {A B : Prop} (a b : Nat) (f : a < b → A) (g : b ≤ a → B) (hx : x = nI a := by rfl) (hy : y = nI b := by rfl) (ha : a < 2 ^ 31 := by omega) (hb : b < 2 ^ 31 := by omega) : (x < y → A) ∧ (¬ x < y → B) := by
  subst hx hy
  rw [nI_ltI ha hb]
  exact ⟨f, fun z => g (by omega)⟩
theorem pk_eq {x y : Int32} {A B : Prop} (a b : Nat) (f : a = b → A) (g : a ≠ b → B) (hx : x = nI a := by rfl) (hy : y = nI b := by rfl) (ha : a < 2 ^ 31 := by omega) (hb : b < 2 ^ 31 := by omega) : (x = y → A) ∧ (¬ x = y → B) := by
  subst hx hy
  rw [nI_eq ha hb]
  exact ⟨f, g⟩
theorem pk_in {x : Int32} (n N : Nat) (h : n < N) (hx : x = nI n := by rfl) (hN : N < 2 ^ 31 := by omega) : vp_in x N := by
  subst hx
  exact vp_in_nI h hN
theorem pk_cl {x : Int32} (n : Nat) (hx : x = nI n := by rfl) (h : n < 2 ^ 31 := by omega) : x.toNatClampNeg = n := by
  subst hx
  exact nI_clamp h
theorem pk_tn {n : Nat} (h : n < 2 ^ 32) : (nI n).toBitVec.toNat = n := Nat.mod_eq_of_lt h
theorem pk_and (x : Int32) {m : Int32} (k : Nat) (hm : m.toBitVec.toNat = 2 ^ k - 1) : x &&& m = nI (x.toBitVec.toNat % 2 ^ k) := by
  apply Int32.toBitVec_inj.mp
  apply BitVec.eq_of_toNat_eq
  rw [Int32.toBitVec_and, BitVec.toNat_and, hm, Nat.and_two_pow_sub_one_eq_mod]
  show _ = (BitVec.ofNat 32 _).toNat
  rw [BitVec.toNat_ofNat]
  exact (Nat.mod_eq_of_lt (Nat.lt_of_le_of_lt (Nat.mod_le _ _) x.toBitVec.isLt)).symm
theorem pk_andN {n : Nat} (h : n < 2 ^ 32) {m : Int32} (k : Nat) (hm : m.toBitVec.toNat = 2 ^ k - 1) : nI n &&& m = nI (n % 2 ^ k) := by
  rw [pk_and _ k hm, pk_tn h]
theorem pk_andE (x : Int32) {m : Int32} (k : Nat) (hm : m.toBitVec.toNat = 2 ^ k - 1) : ∃ j : Nat, j < 2 ^ k ∧ x &&& m = nI j := ⟨_, Nat.mod_lt _ (Nat.two_pow_pos k), pk_and x k hm⟩
theorem pk_andIn (x : Int32) {m : Int32} (k : Nat) (hm : m.toBitVec.toNat = 2 ^ k - 1) (hk : k ≤ 30) : vp_in (x &&& m) (2 ^ k) := by
  obtain ⟨j, hj, e⟩ := pk_andE x k hm
  rw [e]
  exact vp_in_nI hj (Nat.lt_of_le_of_lt (Nat.pow_le_pow_right (by decide) hk) (by decide))
theorem pk_shl (a s : Int32) (k : Nat) (hs : (s.toBitVec.smod 32).toNat = k) : (a <<< s).toBitVec.toNat = a.toBitVec.toNat * 2 ^ k % 2 ^ 32 := by
  show (a.toBitVec <<< (s.toBitVec.smod 32).toNat).toNat = _
  rw [hs, BitVec.toNat_shiftLeft, Nat.shiftLeft_eq]
theorem pk_shlN {n : Nat} (s : Int32) (k : Nat) (hs : (s.toBitVec.smod 32).toNat = k) (h : n * 2 ^ k < 2 ^ 32) : nI n <<< s = nI (n * 2 ^ k) := by
  apply Int32.toBitVec_inj.mp
  apply BitVec.eq_of_toNat_eq
  have hn : n < 2 ^ 32 := Nat.lt_of_le_of_lt (Nat.le_mul_of_pos_right n (Nat.two_pow_pos k)) h
  rw [pk_shl _ _ k hs, pk_tn hn, pk_tn h, Nat.mod_eq_of_lt h]
theorem pk_shr (a s : Int32) (k : Nat) (hs : (s.toBitVec.smod 32).toNat = k) : (a >>> s).toInt = a.toInt >>> k := by
  show (a.toBitVec.sshiftRight (s.toBitVec.smod 32).toNat).toInt = _
  rw [hs, BitVec.toInt_sshiftRight]
  rfl
theorem pk_shrN {n : Nat} (h : n < 2 ^ 31) (s : Int32) (k : Nat) (hs : (s.toBitVec.smod 32).toNat = k) : nI n >>> s = nI (n / 2 ^ k) := by
  apply Int32.toInt_inj.mp
  have h2 : n / 2 ^ k ≤ n := Nat.div_le_self _ _
  rw [pk_shr _ _ k hs, nI_toInt h, nI_toInt (by omega), Int.shiftRight_eq_div_pow]
  rfl
theorem pk_ushr (x s : Int32) (k : Nat) (hs : ((s.toUInt32 &&& Int32.toUInt32 31).toBitVec % 32).toNat = k) : (x.toUInt32 >>> (s.toUInt32 &&& Int32.toUInt32 31)).toInt32.toBitVec.toNat = x.toBitVec.toNat / 2 ^ k := by
  have e : (x.toUInt32 >>> (s.toUInt32 &&& Int32.toUInt32 31)).toInt32.toBitVec = x.toBitVec >>> k := by
    rw [← hs]
    exact UInt32.toBitVec_shiftRight _ _
  rw [e, BitVec.toNat_ushiftRight, Nat.shiftRight_eq_div_pow]
theorem pk_ushrN {n : Nat} (hn : n < 2 ^ 32) (s : Int32) (k : Nat) (hs : ((s.toUInt32 &&& Int32.toUInt32 31).toBitVec % 32).toNat = k) : ((nI n).toUInt32 >>> (s.toUInt32 &&& Int32.toUInt32 31)).toInt32 = nI (n / 2 ^ k) := by
  apply Int32.toBitVec_inj.mp
  apply BitVec.eq_of_toNat_eq
  rw [pk_ushr _ s k hs, pk_tn hn, pk_tn (Nat.lt_of_le_of_lt (Nat.div_le_self _ _) hn)]
theorem pk_nb (z : Int32) : narrow .byte (.int z.toInt8.toInt32) = .int z.toInt8.toInt32 := congrArg Value.int (by simp)
theorem pk_ns (z : Int32) : narrow .short (.int z.toInt16.toInt32) = .int z.toInt16.toInt32 := congrArg Value.int (by simp)
theorem pk_fb (r : Int32) : fits .byte (.int r.toInt8.toInt32) = true := by
  have ⟨a, b⟩ := lg_i2b_range r
  have h1 : (-128 : Int32).toInt = -128 := by decide
  have h2 : (127 : Int32).toInt = 127 := by decide
  simp only [fits, Bool.and_eq_true, decide_eq_true_eq, Int32.le_iff_toInt_le, h1, h2]
  omega
theorem pk_fs (r : Int32) : fits .short (.int r.toInt16.toInt32) = true := by
  have ⟨a, b⟩ := lg_i2s_range r
  have h1 : (-32768 : Int32).toInt = -32768 := by decide
  have h2 : (32767 : Int32).toInt = 32767 := by decide
  simp only [fits, Bool.and_eq_true, decide_eq_true_eq, Int32.le_iff_toInt_le, h1, h2]
  omega
theorem pk_charN {q : Nat} (hq : q < 65536) : narrow .char (.int (nI q)) = .int (nI q) ∧ fits .char (.int (nI q)) = true := by
  constructor
  · have e : (nI q).toUInt32.toUInt16.toUInt32.toInt32 = nI q := by
      apply Int32.toBitVec_inj.mp
      apply BitVec.eq_of_toNat_eq
      show (nI q).toUInt32.toUInt16.toUInt32.toNat = q % 2 ^ 32
      rw [UInt16.toNat_toUInt32, UInt32.toNat_toUInt16, show (nI q).toUInt32.toNat = q % 2 ^ 32 from rfl]
      omega
    exact congrArg Value.int e
  · have a : (0 : Int32) ≤ nI q := nI_pos' (by omega)
    have b : nI q ≤ 65535 := nI_le (b := 65535) (by omega) (by decide)
    show (decide ((0 : Int32) ≤ nI q) && decide (nI q ≤ 65535)) = true
    rw [decide_eq_true a, decide_eq_true b]
    rfl
theorem pk_char (x : Int32) : (x.toUInt32 % 65536).toInt32 = nI (x.toBitVec.toNat % 65536) := by
  apply Int32.toBitVec_inj.mp
  apply BitVec.eq_of_toNat_eq
  rw [pk_tn (by omega)]
  show (x.toUInt32 % 65536).toNat = _
  rw [UInt32.toNat_mod]
  rfl
theorem pk_nc (x : Int32) : narrow .char (.int (x.toUInt32 % 65536).toInt32) = .int (x.toUInt32 % 65536).toInt32 := by
  rw [pk_char]
  exact (pk_charN (Nat.mod_lt _ (by decide))).1
theorem pk_fc (x : Int32) : fits .char (.int (x.toUInt32 % 65536).toInt32) = true := by
  rw [pk_char]
  exact (pk_charN (Nat.mod_lt _ (by decide))).2
theorem pk_vb (z : Int32) : vp_nar .byte z.toInt8.toInt32 = z.toInt8.toInt32 := by rw [vp_nar_byte]; simp
theorem pk_vs (z : Int32) : vp_nar .short z.toInt16.toInt32 = z.toInt16.toInt32 := by rw [vp_nar_short]; simp
theorem pk_vc (z : Int32) : vp_nar .char (z.toUInt32 % 65536).toInt32 = (z.toUInt32 % 65536).toInt32 := Value.int.inj (pk_nc z)
theorem pk_lT {n : Nat} (h : n < 2 ^ 63) : (lN n).toInt = (n : Int) := lg_ofNat_toInt h
theorem pk_lLT {a b : Nat} (ha : a < 2 ^ 63) (hb : b < 2 ^ 63) : lN a < lN b ↔ a < b := by
  rw [Int64.lt_iff_toInt_lt, pk_lT ha, pk_lT hb]; omega
theorem pk_lLE {a b : Nat} (ha : a < 2 ^ 63) (hb : b < 2 ^ 63) : lN a ≤ lN b ↔ a ≤ b := by
  rw [Int64.le_iff_toInt_le, pk_lT ha, pk_lT hb]; omega
theorem pk_lEQ {a b : Nat} (ha : a < 2 ^ 63) (hb : b < 2 ^ 63) : lN a = lN b ↔ a = b := by
  rw [← Int64.toInt_inj, pk_lT ha, pk_lT hb]; omega
theorem pk_lOf {x : Int64} (h : ¬ x < 0) : ∃ k : Nat, k < 2 ^ 63 ∧ x = lN k := by
  rw [Int64.lt_iff_toInt_lt] at h
  have h0 : (0 : Int64).toInt = 0 := by decide
  have hx := Int64.toInt_lt x
  refine ⟨x.toInt.toNat, by omega, Int64.toInt_inj.mp ?_⟩
  rw [pk_lT (by omega)]
  omega
theorem pk_lDiv {a b : Nat} (ha : a < 2 ^ 63) (h0 : 0 < b) (hb : b < 2 ^ 63) : lN a / lN b = lN (a / b) := by
  apply Int64.toInt_inj.mp
  rw [lg_ldiv_nonneg (by rw [pk_lT ha]; omega) (by rw [pk_lT hb]; omega), pk_lT ha, pk_lT hb, pk_lT (Nat.lt_of_le_of_lt (Nat.div_le_self a b) ha)]
  rfl
theorem pk_lRem {a b : Nat} (ha : a < 2 ^ 63) (h0 : 0 < b) (hb : b < 2 ^ 63) : lN a - lN a / lN b * lN b = lN (a % b) := by
  rw [pk_lDiv ha h0 hb, lN_mul, lN_sub (Nat.div_mul_le_self a b)]
  exact congrArg lN (by have := Nat.div_add_mod' a b; omega)
theorem pk_loop {σ : Type} (W : Nat → Nat → σ → Prop) (I : Nat → σ → Prop) (e i0 : Nat) (s : σ) (hi : i0 ≤ e) (h0 : I i0 s) (hx : ∀ n s, I e s → W (n + 1) e s)
    (hs : ∀ n i s, i < e → I i s → (∀ s', I (i + 1) s' → W n (i + 1) s') → W (n + 1) i s) : ∃ n, W n i0 s :=
  ⟨e + 1, loop_i W I e hx hs (e + 1) i0 s hi (by omega) h0⟩
theorem pk_loopD {σ : Type} (W : Nat → Nat → σ → Prop) (I : Nat → σ → Prop) (hx : ∀ n s, I 0 s → W (n + 1) 0 s)
    (hs : ∀ n i s, I (i + 1) s → (∀ s', I i s' → W n i s') → W (n + 1) (i + 1) s) : ∀ (e : Nat) (s : σ), I e s → W (e + 1) e s := by
  intro e
  induction e with
  | zero => exact fun s h => hx 0 s h
  | succ e ih => exact fun s h => hs (e + 1) e s h (fun s' h' => ih s' h')
theorem lp1 {A1 : Type} (W : Nat → A1 → Prop) (I : A1 → Prop) (μ : A1 → Nat) (hs : ∀ (n : Nat) (a1 : A1), I a1 → (∀ (b1 : A1), I b1 → μ b1 < μ a1 → W n b1) → W (n + 1) a1) (a1 : A1) (h : I a1) : ∃ n, W n a1 :=
  loop_m (σ := A1) (fun n s => W n s) (fun s => I s) (fun s => μ s) (fun n s hI hk => hs n s hI (fun b1 h9 hm => hk b1 h9 hm)) a1 h
theorem lp2 {A1 A2 : Type} (W : Nat → A1 → A2 → Prop) (I : A1 → A2 → Prop) (μ : A1 → A2 → Nat) (hs : ∀ (n : Nat) (a1 : A1) (a2 : A2), I a1 a2 → (∀ (b1 : A1) (b2 : A2), I b1 b2 → μ b1 b2 < μ a1 a2 → W n b1 b2) → W (n + 1) a1 a2) (a1 : A1) (a2 : A2) (h : I a1 a2) : ∃ n, W n a1 a2 :=
  loop_m (σ := A1 × A2) (fun n s => W n s.1 s.2) (fun s => I s.1 s.2) (fun s => μ s.1 s.2) (fun n s hI hk => hs n s.1 s.2 hI (fun b1 b2 h9 hm => hk (b1, b2) h9 hm)) (a1, a2) h
theorem lp3 {A1 A2 A3 : Type} (W : Nat → A1 → A2 → A3 → Prop) (I : A1 → A2 → A3 → Prop) (μ : A1 → A2 → A3 → Nat) (hs : ∀ (n : Nat) (a1 : A1) (a2 : A2) (a3 : A3), I a1 a2 a3 → (∀ (b1 : A1) (b2 : A2) (b3 : A3), I b1 b2 b3 → μ b1 b2 b3 < μ a1 a2 a3 → W n b1 b2 b3) → W (n + 1) a1 a2 a3) (a1 : A1) (a2 : A2) (a3 : A3) (h : I a1 a2 a3) : ∃ n, W n a1 a2 a3 :=
  loop_m (σ := A1 × A2 × A3) (fun n s => W n s.1 s.2.1 s.2.2) (fun s => I s.1 s.2.1 s.2.2) (fun s => μ s.1 s.2.1 s.2.2) (fun n s hI hk => hs n s.1 s.2.1 s.2.2 hI (fun b1 b2 b3 h9 hm => hk (b1, b2, b3) h9 hm)) (a1, a2, a3) h
theorem lp4 {A1 A2 A3 A4 : Type} (W : Nat → A1 → A2 → A3 → A4 → Prop) (I : A1 → A2 → A3 → A4 → Prop) (μ : A1 → A2 → A3 → A4 → Nat) (hs : ∀ (n : Nat) (a1 : A1) (a2 : A2) (a3 : A3) (a4 : A4), I a1 a2 a3 a4 → (∀ (b1 : A1) (b2 : A2) (b3 : A3) (b4 : A4), I b1 b2 b3 b4 → μ b1 b2 b3 b4 < μ a1 a2 a3 a4 → W n b1 b2 b3 b4) → W (n + 1) a1 a2 a3 a4) (a1 : A1) (a2 : A2) (a3 : A3) (a4 : A4) (h : I a1 a2 a3 a4) : ∃ n, W n a1 a2 a3 a4 :=
  loop_m (σ := A1 × A2 × A3 × A4) (fun n s => W n s.1 s.2.1 s.2.2.1 s.2.2.2) (fun s => I s.1 s.2.1 s.2.2.1 s.2.2.2) (fun s => μ s.1 s.2.1 s.2.2.1 s.2.2.2) (fun n s hI hk => hs n s.1 s.2.1 s.2.2.1 s.2.2.2 hI (fun b1 b2 b3 b4 h9 hm => hk (b1, b2, b3, b4) h9 hm)) (a1, a2, a3, a4) h
theorem lp5 {A1 A2 A3 A4 A5 : Type} (W : Nat → A1 → A2 → A3 → A4 → A5 → Prop) (I : A1 → A2 → A3 → A4 → A5 → Prop) (μ : A1 → A2 → A3 → A4 → A5 → Nat) (hs : ∀ (n : Nat) (a1 : A1) (a2 : A2) (a3 : A3) (a4 : A4) (a5 : A5), I a1 a2 a3 a4 a5 → (∀ (b1 : A1) (b2 : A2) (b3 : A3) (b4 : A4) (b5 : A5), I b1 b2 b3 b4 b5 → μ b1 b2 b3 b4 b5 < μ a1 a2 a3 a4 a5 → W n b1 b2 b3 b4 b5) → W (n + 1) a1 a2 a3 a4 a5) (a1 : A1) (a2 : A2) (a3 : A3) (a4 : A4) (a5 : A5) (h : I a1 a2 a3 a4 a5) : ∃ n, W n a1 a2 a3 a4 a5 :=
  loop_m (σ := A1 × A2 × A3 × A4 × A5) (fun n s => W n s.1 s.2.1 s.2.2.1 s.2.2.2.1 s.2.2.2.2) (fun s => I s.1 s.2.1 s.2.2.1 s.2.2.2.1 s.2.2.2.2) (fun s => μ s.1 s.2.1 s.2.2.1 s.2.2.2.1 s.2.2.2.2) (fun n s hI hk => hs n s.1 s.2.1 s.2.2.1 s.2.2.2.1 s.2.2.2.2 hI (fun b1 b2 b3 b4 b5 h9 hm => hk (b1, b2, b3, b4, b5) h9 hm)) (a1, a2, a3, a4, a5) h
theorem lp6 {A1 A2 A3 A4 A5 A6 : Type} (W : Nat → A1 → A2 → A3 → A4 → A5 → A6 → Prop) (I : A1 → A2 → A3 → A4 → A5 → A6 → Prop) (μ : A1 → A2 → A3 → A4 → A5 → A6 → Nat) (hs : ∀ (n : Nat) (a1 : A1) (a2 : A2) (a3 : A3) (a4 : A4) (a5 : A5) (a6 : A6), I a1 a2 a3 a4 a5 a6 → (∀ (b1 : A1) (b2 : A2) (b3 : A3) (b4 : A4) (b5 : A5) (b6 : A6), I b1 b2 b3 b4 b5 b6 → μ b1 b2 b3 b4 b5 b6 < μ a1 a2 a3 a4 a5 a6 → W n b1 b2 b3 b4 b5 b6) → W (n + 1) a1 a2 a3 a4 a5 a6) (a1 : A1) (a2 : A2) (a3 : A3) (a4 : A4) (a5 : A5) (a6 : A6) (h : I a1 a2 a3 a4 a5 a6) : ∃ n, W n a1 a2 a3 a4 a5 a6 :=
  loop_m (σ := A1 × A2 × A3 × A4 × A5 × A6) (fun n s => W n s.1 s.2.1 s.2.2.1 s.2.2.2.1 s.2.2.2.2.1 s.2.2.2.2.2) (fun s => I s.1 s.2.1 s.2.2.1 s.2.2.2.1 s.2.2.2.2.1 s.2.2.2.2.2) (fun s => μ s.1 s.2.1 s.2.2.1 s.2.2.2.1 s.2.2.2.2.1 s.2.2.2.2.2) (fun n s hI hk => hs n s.1 s.2.1 s.2.2.1 s.2.2.2.1 s.2.2.2.2.1 s.2.2.2.2.2 hI (fun b1 b2 b3 b4 b5 b6 h9 hm => hk (b1, b2, b3, b4, b5, b6) h9 hm)) (a1, a2, a3, a4, a5, a6) h
theorem lp7 {A1 A2 A3 A4 A5 A6 A7 : Type} (W : Nat → A1 → A2 → A3 → A4 → A5 → A6 → A7 → Prop) (I : A1 → A2 → A3 → A4 → A5 → A6 → A7 → Prop) (μ : A1 → A2 → A3 → A4 → A5 → A6 → A7 → Nat) (hs : ∀ (n : Nat) (a1 : A1) (a2 : A2) (a3 : A3) (a4 : A4) (a5 : A5) (a6 : A6) (a7 : A7), I a1 a2 a3 a4 a5 a6 a7 → (∀ (b1 : A1) (b2 : A2) (b3 : A3) (b4 : A4) (b5 : A5) (b6 : A6) (b7 : A7), I b1 b2 b3 b4 b5 b6 b7 → μ b1 b2 b3 b4 b5 b6 b7 < μ a1 a2 a3 a4 a5 a6 a7 → W n b1 b2 b3 b4 b5 b6 b7) → W (n + 1) a1 a2 a3 a4 a5 a6 a7) (a1 : A1) (a2 : A2) (a3 : A3) (a4 : A4) (a5 : A5) (a6 : A6) (a7 : A7) (h : I a1 a2 a3 a4 a5 a6 a7) : ∃ n, W n a1 a2 a3 a4 a5 a6 a7 :=
  loop_m (σ := A1 × A2 × A3 × A4 × A5 × A6 × A7) (fun n s => W n s.1 s.2.1 s.2.2.1 s.2.2.2.1 s.2.2.2.2.1 s.2.2.2.2.2.1 s.2.2.2.2.2.2) (fun s => I s.1 s.2.1 s.2.2.1 s.2.2.2.1 s.2.2.2.2.1 s.2.2.2.2.2.1 s.2.2.2.2.2.2) (fun s => μ s.1 s.2.1 s.2.2.1 s.2.2.2.1 s.2.2.2.2.1 s.2.2.2.2.2.1 s.2.2.2.2.2.2) (fun n s hI hk => hs n s.1 s.2.1 s.2.2.1 s.2.2.2.1 s.2.2.2.2.1 s.2.2.2.2.2.1 s.2.2.2.2.2.2 hI (fun b1 b2 b3 b4 b5 b6 b7 h9 hm => hk (b1, b2, b3, b4, b5, b6, b7) h9 hm)) (a1, a2, a3, a4, a5, a6, a7) h
theorem lp8 {A1 A2 A3 A4 A5 A6 A7 A8 : Type} (W : Nat → A1 → A2 → A3 → A4 → A5 → A6 → A7 → A8 → Prop) (I : A1 → A2 → A3 → A4 → A5 → A6 → A7 → A8 → Prop) (μ : A1 → A2 → A3 → A4 → A5 → A6 → A7 → A8 → Nat) (hs : ∀ (n : Nat) (a1 : A1) (a2 : A2) (a3 : A3) (a4 : A4) (a5 : A5) (a6 : A6) (a7 : A7) (a8 : A8), I a1 a2 a3 a4 a5 a6 a7 a8 → (∀ (b1 : A1) (b2 : A2) (b3 : A3) (b4 : A4) (b5 : A5) (b6 : A6) (b7 : A7) (b8 : A8), I b1 b2 b3 b4 b5 b6 b7 b8 → μ b1 b2 b3 b4 b5 b6 b7 b8 < μ a1 a2 a3 a4 a5 a6 a7 a8 → W n b1 b2 b3 b4 b5 b6 b7 b8) → W (n + 1) a1 a2 a3 a4 a5 a6 a7 a8) (a1 : A1) (a2 : A2) (a3 : A3) (a4 : A4) (a5 : A5) (a6 : A6) (a7 : A7) (a8 : A8) (h : I a1 a2 a3 a4 a5 a6 a7 a8) : ∃ n, W n a1 a2 a3 a4 a5 a6 a7 a8 :=
  loop_m (σ := A1 × A2 × A3 × A4 × A5 × A6 × A7 × A8) (fun n s => W n s.1 s.2.1 s.2.2.1 s.2.2.2.1 s.2.2.2.2.1 s.2.2.2.2.2.1 s.2.2.2.2.2.2.1 s.2.2.2.2.2.2.2) (fun s => I s.1 s.2.1 s.2.2.1 s.2.2.2.1 s.2.2.2.2.1 s.2.2.2.2.2.1 s.2.2.2.2.2.2.1 s.2.2.2.2.2.2.2) (fun s => μ s.1 s.2.1 s.2.2.1 s.2.2.2.1 s.2.2.2.2.1 s.2.2.2.2.2.1 s.2.2.2.2.2.2.1 s.2.2.2.2.2.2.2) (fun n s hI hk => hs n s.1 s.2.1 s.2.2.1 s.2.2.2.1 s.2.2.2.2.1 s.2.2.2.2.2.1 s.2.2.2.2.2.2.1 s.2.2.2.2.2.2.2 hI (fun b1 b2 b3 b4 b5 b6 b7 b8 h9 hm => hk (b1, b2, b3, b4, b5, b6, b7, b8) h9 hm)) (a1, a2, a3, a4, a5, a6, a7, a8) h
theorem lp9 {A1 A2 A3 A4 A5 A6 A7 A8 A9 : Type} (W : Nat → A1 → A2 → A3 → A4 → A5 → A6 → A7 → A8 → A9 → Prop) (I : A1 → A2 → A3 → A4 → A5 → A6 → A7 → A8 → A9 → Prop) (μ : A1 → A2 → A3 → A4 → A5 → A6 → A7 → A8 → A9 → Nat) (hs : ∀ (n : Nat) (a1 : A1) (a2 : A2) (a3 : A3) (a4 : A4) (a5 : A5) (a6 : A6) (a7 : A7) (a8 : A8) (a9 : A9), I a1 a2 a3 a4 a5 a6 a7 a8 a9 → (∀ (b1 : A1) (b2 : A2) (b3 : A3) (b4 : A4) (b5 : A5) (b6 : A6) (b7 : A7) (b8 : A8) (b9 : A9), I b1 b2 b3 b4 b5 b6 b7 b8 b9 → μ b1 b2 b3 b4 b5 b6 b7 b8 b9 < μ a1 a2 a3 a4 a5 a6 a7 a8 a9 → W n b1 b2 b3 b4 b5 b6 b7 b8 b9) → W (n + 1) a1 a2 a3 a4 a5 a6 a7 a8 a9) (a1 : A1) (a2 : A2) (a3 : A3) (a4 : A4) (a5 : A5) (a6 : A6) (a7 : A7) (a8 : A8) (a9 : A9) (h : I a1 a2 a3 a4 a5 a6 a7 a8 a9) : ∃ n, W n a1 a2 a3 a4 a5 a6 a7 a8 a9 :=
  loop_m (σ := A1 × A2 × A3 × A4 × A5 × A6 × A7 × A8 × A9) (fun n s => W n s.1 s.2.1 s.2.2.1 s.2.2.2.1 s.2.2.2.2.1 s.2.2.2.2.2.1 s.2.2.2.2.2.2.1 s.2.2.2.2.2.2.2.1 s.2.2.2.2.2.2.2.2) (fun s => I s.1 s.2.1 s.2.2.1 s.2.2.2.1 s.2.2.2.2.1 s.2.2.2.2.2.1 s.2.2.2.2.2.2.1 s.2.2.2.2.2.2.2.1 s.2.2.2.2.2.2.2.2) (fun s => μ s.1 s.2.1 s.2.2.1 s.2.2.2.1 s.2.2.2.2.1 s.2.2.2.2.2.1 s.2.2.2.2.2.2.1 s.2.2.2.2.2.2.2.1 s.2.2.2.2.2.2.2.2) (fun n s hI hk => hs n s.1 s.2.1 s.2.2.1 s.2.2.2.1 s.2.2.2.2.1 s.2.2.2.2.2.1 s.2.2.2.2.2.2.1 s.2.2.2.2.2.2.2.1 s.2.2.2.2.2.2.2.2 hI (fun b1 b2 b3 b4 b5 b6 b7 b8 b9 h9 hm => hk (b1, b2, b3, b4, b5, b6, b7, b8, b9) h9 hm)) (a1, a2, a3, a4, a5, a6, a7, a8, a9) h
theorem lp10 {A1 A2 A3 A4 A5 A6 A7 A8 A9 A10 : Type} (W : Nat → A1 → A2 → A3 → A4 → A5 → A6 → A7 → A8 → A9 → A10 → Prop) (I : A1 → A2 → A3 → A4 → A5 → A6 → A7 → A8 → A9 → A10 → Prop) (μ : A1 → A2 → A3 → A4 → A5 → A6 → A7 → A8 → A9 → A10 → Nat) (hs : ∀ (n : Nat) (a1 : A1) (a2 : A2) (a3 : A3) (a4 : A4) (a5 : A5) (a6 : A6) (a7 : A7) (a8 : A8) (a9 : A9) (a10 : A10), I a1 a2 a3 a4 a5 a6 a7 a8 a9 a10 → (∀ (b1 : A1) (b2 : A2) (b3 : A3) (b4 : A4) (b5 : A5) (b6 : A6) (b7 : A7) (b8 : A8) (b9 : A9) (b10 : A10), I b1 b2 b3 b4 b5 b6 b7 b8 b9 b10 → μ b1 b2 b3 b4 b5 b6 b7 b8 b9 b10 < μ a1 a2 a3 a4 a5 a6 a7 a8 a9 a10 → W n b1 b2 b3 b4 b5 b6 b7 b8 b9 b10) → W (n + 1) a1 a2 a3 a4 a5 a6 a7 a8 a9 a10) (a1 : A1) (a2 : A2) (a3 : A3) (a4 : A4) (a5 : A5) (a6 : A6) (a7 : A7) (a8 : A8) (a9 : A9) (a10 : A10) (h : I a1 a2 a3 a4 a5 a6 a7 a8 a9 a10) : ∃ n, W n a1 a2 a3 a4 a5 a6 a7 a8 a9 a10 :=
  loop_m (σ := A1 × A2 × A3 × A4 × A5 × A6 × A7 × A8 × A9 × A10) (fun n s => W n s.1 s.2.1 s.2.2.1 s.2.2.2.1 s.2.2.2.2.1 s.2.2.2.2.2.1 s.2.2.2.2.2.2.1 s.2.2.2.2.2.2.2.1 s.2.2.2.2.2.2.2.2.1 s.2.2.2.2.2.2.2.2.2) (fun s => I s.1 s.2.1 s.2.2.1 s.2.2.2.1 s.2.2.2.2.1 s.2.2.2.2.2.1 s.2.2.2.2.2.2.1 s.2.2.2.2.2.2.2.1 s.2.2.2.2.2.2.2.2.1 s.2.2.2.2.2.2.2.2.2) (fun s => μ s.1 s.2.1 s.2.2.1 s.2.2.2.1 s.2.2.2.2.1 s.2.2.2.2.2.1 s.2.2.2.2.2.2.1 s.2.2.2.2.2.2.2.1 s.2.2.2.2.2.2.2.2.1 s.2.2.2.2.2.2.2.2.2) (fun n s hI hk => hs n s.1 s.2.1 s.2.2.1 s.2.2.2.1 s.2.2.2.2.1 s.2.2.2.2.2.1 s.2.2.2.2.2.2.1 s.2.2.2.2.2.2.2.1 s.2.2.2.2.2.2.2.2.1 s.2.2.2.2.2.2.2.2.2 hI (fun b1 b2 b3 b4 b5 b6 b7 b8 b9 b10 h9 hm => hk (b1, b2, b3, b4, b5, b6, b7, b8, b9, b10) h9 hm)) (a1, a2, a3, a4, a5, a6, a7, a8, a9, a10) h
theorem lp11 {A1 A2 A3 A4 A5 A6 A7 A8 A9 A10 A11 : Type} (W : Nat → A1 → A2 → A3 → A4 → A5 → A6 → A7 → A8 → A9 → A10 → A11 → Prop) (I : A1 → A2 → A3 → A4 → A5 → A6 → A7 → A8 → A9 → A10 → A11 → Prop) (μ : A1 → A2 → A3 → A4 → A5 → A6 → A7 → A8 → A9 → A10 → A11 → Nat) (hs : ∀ (n : Nat) (a1 : A1) (a2 : A2) (a3 : A3) (a4 : A4) (a5 : A5) (a6 : A6) (a7 : A7) (a8 : A8) (a9 : A9) (a10 : A10) (a11 : A11), I a1 a2 a3 a4 a5 a6 a7 a8 a9 a10 a11 → (∀ (b1 : A1) (b2 : A2) (b3 : A3) (b4 : A4) (b5 : A5) (b6 : A6) (b7 : A7) (b8 : A8) (b9 : A9) (b10 : A10) (b11 : A11), I b1 b2 b3 b4 b5 b6 b7 b8 b9 b10 b11 → μ b1 b2 b3 b4 b5 b6 b7 b8 b9 b10 b11 < μ a1 a2 a3 a4 a5 a6 a7 a8 a9 a10 a11 → W n b1 b2 b3 b4 b5 b6 b7 b8 b9 b10 b11) → W (n + 1) a1 a2 a3 a4 a5 a6 a7 a8 a9 a10 a11) (a1 : A1) (a2 : A2) (a3 : A3) (a4 : A4) (a5 : A5) (a6 : A6) (a7 : A7) (a8 : A8) (a9 : A9) (a10 : A10) (a11 : A11) (h : I a1 a2 a3 a4 a5 a6 a7 a8 a9 a10 a11) : ∃ n, W n a1 a2 a3 a4 a5 a6 a7 a8 a9 a10 a11 :=
  loop_m (σ := A1 × A2 × A3 × A4 × A5 × A6 × A7 × A8 × A9 × A10 × A11) (fun n s => W n s.1 s.2.1 s.2.2.1 s.2.2.2.1 s.2.2.2.2.1 s.2.2.2.2.2.1 s.2.2.2.2.2.2.1 s.2.2.2.2.2.2.2.1 s.2.2.2.2.2.2.2.2.1 s.2.2.2.2.2.2.2.2.2.1 s.2.2.2.2.2.2.2.2.2.2) (fun s => I s.1 s.2.1 s.2.2.1 s.2.2.2.1 s.2.2.2.2.1 s.2.2.2.2.2.1 s.2.2.2.2.2.2.1 s.2.2.2.2.2.2.2.1 s.2.2.2.2.2.2.2.2.1 s.2.2.2.2.2.2.2.2.2.1 s.2.2.2.2.2.2.2.2.2.2) (fun s => μ s.1 s.2.1 s.2.2.1 s.2.2.2.1 s.2.2.2.2.1 s.2.2.2.2.2.1 s.2.2.2.2.2.2.1 s.2.2.2.2.2.2.2.1 s.2.2.2.2.2.2.2.2.1 s.2.2.2.2.2.2.2.2.2.1 s.2.2.2.2.2.2.2.2.2.2) (fun n s hI hk => hs n s.1 s.2.1 s.2.2.1 s.2.2.2.1 s.2.2.2.2.1 s.2.2.2.2.2.1 s.2.2.2.2.2.2.1 s.2.2.2.2.2.2.2.1 s.2.2.2.2.2.2.2.2.1 s.2.2.2.2.2.2.2.2.2.1 s.2.2.2.2.2.2.2.2.2.2 hI (fun b1 b2 b3 b4 b5 b6 b7 b8 b9 b10 b11 h9 hm => hk (b1, b2, b3, b4, b5, b6, b7, b8, b9, b10, b11) h9 hm)) (a1, a2, a3, a4, a5, a6, a7, a8, a9, a10, a11) h
theorem lp12 {A1 A2 A3 A4 A5 A6 A7 A8 A9 A10 A11 A12 : Type} (W : Nat → A1 → A2 → A3 → A4 → A5 → A6 → A7 → A8 → A9 → A10 → A11 → A12 → Prop) (I : A1 → A2 → A3 → A4 → A5 → A6 → A7 → A8 → A9 → A10 → A11 → A12 → Prop) (μ : A1 → A2 → A3 → A4 → A5 → A6 → A7 → A8 → A9 → A10 → A11 → A12 → Nat) (hs : ∀ (n : Nat) (a1 : A1) (a2 : A2) (a3 : A3) (a4 : A4) (a5 : A5) (a6 : A6) (a7 : A7) (a8 : A8) (a9 : A9) (a10 : A10) (a11 : A11) (a12 : A12), I a1 a2 a3 a4 a5 a6 a7 a8 a9 a10 a11 a12 → (∀ (b1 : A1) (b2 : A2) (b3 : A3) (b4 : A4) (b5 : A5) (b6 : A6) (b7 : A7) (b8 : A8) (b9 : A9) (b10 : A10) (b11 : A11) (b12 : A12), I b1 b2 b3 b4 b5 b6 b7 b8 b9 b10 b11 b12 → μ b1 b2 b3 b4 b5 b6 b7 b8 b9 b10 b11 b12 < μ a1 a2 a3 a4 a5 a6 a7 a8 a9 a10 a11 a12 → W n b1 b2 b3 b4 b5 b6 b7 b8 b9 b10 b11 b12) → W (n + 1) a1 a2 a3 a4 a5 a6 a7 a8 a9 a10 a11 a12) (a1 : A1) (a2 : A2) (a3 : A3) (a4 : A4) (a5 : A5) (a6 : A6) (a7 : A7) (a8 : A8) (a9 : A9) (a10 : A10) (a11 : A11) (a12 : A12) (h : I a1 a2 a3 a4 a5 a6 a7 a8 a9 a10 a11 a12) : ∃ n, W n a1 a2 a3 a4 a5 a6 a7 a8 a9 a10 a11 a12 :=
  loop_m (σ := A1 × A2 × A3 × A4 × A5 × A6 × A7 × A8 × A9 × A10 × A11 × A12) (fun n s => W n s.1 s.2.1 s.2.2.1 s.2.2.2.1 s.2.2.2.2.1 s.2.2.2.2.2.1 s.2.2.2.2.2.2.1 s.2.2.2.2.2.2.2.1 s.2.2.2.2.2.2.2.2.1 s.2.2.2.2.2.2.2.2.2.1 s.2.2.2.2.2.2.2.2.2.2.1 s.2.2.2.2.2.2.2.2.2.2.2) (fun s => I s.1 s.2.1 s.2.2.1 s.2.2.2.1 s.2.2.2.2.1 s.2.2.2.2.2.1 s.2.2.2.2.2.2.1 s.2.2.2.2.2.2.2.1 s.2.2.2.2.2.2.2.2.1 s.2.2.2.2.2.2.2.2.2.1 s.2.2.2.2.2.2.2.2.2.2.1 s.2.2.2.2.2.2.2.2.2.2.2) (fun s => μ s.1 s.2.1 s.2.2.1 s.2.2.2.1 s.2.2.2.2.1 s.2.2.2.2.2.1 s.2.2.2.2.2.2.1 s.2.2.2.2.2.2.2.1 s.2.2.2.2.2.2.2.2.1 s.2.2.2.2.2.2.2.2.2.1 s.2.2.2.2.2.2.2.2.2.2.1 s.2.2.2.2.2.2.2.2.2.2.2) (fun n s hI hk => hs n s.1 s.2.1 s.2.2.1 s.2.2.2.1 s.2.2.2.2.1 s.2.2.2.2.2.1 s.2.2.2.2.2.2.1 s.2.2.2.2.2.2.2.1 s.2.2.2.2.2.2.2.2.1 s.2.2.2.2.2.2.2.2.2.1 s.2.2.2.2.2.2.2.2.2.2.1 s.2.2.2.2.2.2.2.2.2.2.2 hI (fun b1 b2 b3 b4 b5 b6 b7 b8 b9 b10 b11 b12 h9 hm => hk (b1, b2, b3, b4, b5, b6, b7, b8, b9, b10, b11, b12) h9 hm)) (a1, a2, a3, a4, a5, a6, a7, a8, a9, a10, a11, a12) h
theorem lp13 {A1 A2 A3 A4 A5 A6 A7 A8 A9 A10 A11 A12 A13 : Type} (W : Nat → A1 → A2 → A3 → A4 → A5 → A6 → A7 → A8 → A9 → A10 → A11 → A12 → A13 → Prop) (I : A1 → A2 → A3 → A4 → A5 → A6 → A7 → A8 → A9 → A10 → A11 → A12 → A13 → Prop) (μ : A1 → A2 → A3 → A4 → A5 → A6 → A7 → A8 → A9 → A10 → A11 → A12 → A13 → Nat) (hs : ∀ (n : Nat) (a1 : A1) (a2 : A2) (a3 : A3) (a4 : A4) (a5 : A5) (a6 : A6) (a7 : A7) (a8 : A8) (a9 : A9) (a10 : A10) (a11 : A11) (a12 : A12) (a13 : A13), I a1 a2 a3 a4 a5 a6 a7 a8 a9 a10 a11 a12 a13 → (∀ (b1 : A1) (b2 : A2) (b3 : A3) (b4 : A4) (b5 : A5) (b6 : A6) (b7 : A7) (b8 : A8) (b9 : A9) (b10 : A10) (b11 : A11) (b12 : A12) (b13 : A13), I b1 b2 b3 b4 b5 b6 b7 b8 b9 b10 b11 b12 b13 → μ b1 b2 b3 b4 b5 b6 b7 b8 b9 b10 b11 b12 b13 < μ a1 a2 a3 a4 a5 a6 a7 a8 a9 a10 a11 a12 a13 → W n b1 b2 b3 b4 b5 b6 b7 b8 b9 b10 b11 b12 b13) → W (n + 1) a1 a2 a3 a4 a5 a6 a7 a8 a9 a10 a11 a12 a13) (a1 : A1) (a2 : A2) (a3 : A3) (a4 : A4) (a5 : A5) (a6 : A6) (a7 : A7) (a8 : A8) (a9 : A9) (a10 : A10) (a11 : A11) (a12 : A12) (a13 : A13) (h : I a1 a2 a3 a4 a5 a6 a7 a8 a9 a10 a11 a12 a13) : ∃ n, W n a1 a2 a3 a4 a5 a6 a7 a8 a9 a10 a11 a12 a13 :=
  loop_m (σ := A1 × A2 × A3 × A4 × A5 × A6 × A7 × A8 × A9 × A10 × A11 × A12 × A13) (fun n s => W n s.1 s.2.1 s.2.2.1 s.2.2.2.1 s.2.2.2.2.1 s.2.2.2.2.2.1 s.2.2.2.2.2.2.1 s.2.2.2.2.2.2.2.1 s.2.2.2.2.2.2.2.2.1 s.2.2.2.2.2.2.2.2.2.1 s.2.2.2.2.2.2.2.2.2.2.1 s.2.2.2.2.2.2.2.2.2.2.2.1 s.2.2.2.2.2.2.2.2.2.2.2.2) (fun s => I s.1 s.2.1 s.2.2.1 s.2.2.2.1 s.2.2.2.2.1 s.2.2.2.2.2.1 s.2.2.2.2.2.2.1 s.2.2.2.2.2.2.2.1 s.2.2.2.2.2.2.2.2.1 s.2.2.2.2.2.2.2.2.2.1 s.2.2.2.2.2.2.2.2.2.2.1 s.2.2.2.2.2.2.2.2.2.2.2.1 s.2.2.2.2.2.2.2.2.2.2.2.2) (fun s => μ s.1 s.2.1 s.2.2.1 s.2.2.2.1 s.2.2.2.2.1 s.2.2.2.2.2.1 s.2.2.2.2.2.2.1 s.2.2.2.2.2.2.2.1 s.2.2.2.2.2.2.2.2.1 s.2.2.2.2.2.2.2.2.2.1 s.2.2.2.2.2.2.2.2.2.2.1 s.2.2.2.2.2.2.2.2.2.2.2.1 s.2.2.2.2.2.2.2.2.2.2.2.2) (fun n s hI hk => hs n s.1 s.2.1 s.2.2.1 s.2.2.2.1 s.2.2.2.2.1 s.2.2.2.2.2.1 s.2.2.2.2.2.2.1 s.2.2.2.2.2.2.2.1 s.2.2.2.2.2.2.2.2.1 s.2.2.2.2.2.2.2.2.2.1 s.2.2.2.2.2.2.2.2.2.2.1 s.2.2.2.2.2.2.2.2.2.2.2.1 s.2.2.2.2.2.2.2.2.2.2.2.2 hI (fun b1 b2 b3 b4 b5 b6 b7 b8 b9 b10 b11 b12 b13 h9 hm => hk (b1, b2, b3, b4, b5, b6, b7, b8, b9, b10, b11, b12, b13) h9 hm)) (a1, a2, a3, a4, a5, a6, a7, a8, a9, a10, a11, a12, a13) h
theorem lp14 {A1 A2 A3 A4 A5 A6 A7 A8 A9 A10 A11 A12 A13 A14 : Type} (W : Nat → A1 → A2 → A3 → A4 → A5 → A6 → A7 → A8 → A9 → A10 → A11 → A12 → A13 → A14 → Prop) (I : A1 → A2 → A3 → A4 → A5 → A6 → A7 → A8 → A9 → A10 → A11 → A12 → A13 → A14 → Prop) (μ : A1 → A2 → A3 → A4 → A5 → A6 → A7 → A8 → A9 → A10 → A11 → A12 → A13 → A14 → Nat) (hs : ∀ (n : Nat) (a1 : A1) (a2 : A2) (a3 : A3) (a4 : A4) (a5 : A5) (a6 : A6) (a7 : A7) (a8 : A8) (a9 : A9) (a10 : A10) (a11 : A11) (a12 : A12) (a13 : A13) (a14 : A14), I a1 a2 a3 a4 a5 a6 a7 a8 a9 a10 a11 a12 a13 a14 → (∀ (b1 : A1) (b2 : A2) (b3 : A3) (b4 : A4) (b5 : A5) (b6 : A6) (b7 : A7) (b8 : A8) (b9 : A9) (b10 : A10) (b11 : A11) (b12 : A12) (b13 : A13) (b14 : A14), I b1 b2 b3 b4 b5 b6 b7 b8 b9 b10 b11 b12 b13 b14 → μ b1 b2 b3 b4 b5 b6 b7 b8 b9 b10 b11 b12 b13 b14 < μ a1 a2 a3 a4 a5 a6 a7 a8 a9 a10 a11 a12 a13 a14 → W n b1 b2 b3 b4 b5 b6 b7 b8 b9 b10 b11 b12 b13 b14) → W (n + 1) a1 a2 a3 a4 a5 a6 a7 a8 a9 a10 a11 a12 a13 a14) (a1 : A1) (a2 : A2) (a3 : A3) (a4 : A4) (a5 : A5) (a6 : A6) (a7 : A7) (a8 : A8) (a9 : A9) (a10 : A10) (a11 : A11) (a12 : A12) (a13 : A13) (a14 : A14) (h : I a1 a2 a3 a4 a5 a6 a7 a8 a9 a10 a11 a12 a13 a14) : ∃ n, W n a1 a2 a3 a4 a5 a6 a7 a8 a9 a10 a11 a12 a13 a14 :=
  loop_m (σ := A1 × A2 × A3 × A4 × A5 × A6 × A7 × A8 × A9 × A10 × A11 × A12 × A13 × A14) (fun n s => W n s.1 s.2.1 s.2.2.1 s.2.2.2.1 s.2.2.2.2.1 s.2.2.2.2.2.1 s.2.2.2.2.2.2.1 s.2.2.2.2.2.2.2.1 s.2.2.2.2.2.2.2.2.1 s.2.2.2.2.2.2.2.2.2.1 s.2.2.2.2.2.2.2.2.2.2.1 s.2.2.2.2.2.2.2.2.2.2.2.1 s.2.2.2.2.2.2.2.2.2.2.2.2.1 s.2.2.2.2.2.2.2.2.2.2.2.2.2) (fun s => I s.1 s.2.1 s.2.2.1 s.2.2.2.1 s.2.2.2.2.1 s.2.2.2.2.2.1 s.2.2.2.2.2.2.1 s.2.2.2.2.2.2.2.1 s.2.2.2.2.2.2.2.2.1 s.2.2.2.2.2.2.2.2.2.1 s.2.2.2.2.2.2.2.2.2.2.1 s.2.2.2.2.2.2.2.2.2.2.2.1 s.2.2.2.2.2.2.2.2.2.2.2.2.1 s.2.2.2.2.2.2.2.2.2.2.2.2.2) (fun s => μ s.1 s.2.1 s.2.2.1 s.2.2.2.1 s.2.2.2.2.1 s.2.2.2.2.2.1 s.2.2.2.2.2.2.1 s.2.2.2.2.2.2.2.1 s.2.2.2.2.2.2.2.2.1 s.2.2.2.2.2.2.2.2.2.1 s.2.2.2.2.2.2.2.2.2.2.1 s.2.2.2.2.2.2.2.2.2.2.2.1 s.2.2.2.2.2.2.2.2.2.2.2.2.1 s.2.2.2.2.2.2.2.2.2.2.2.2.2) (fun n s hI hk => hs n s.1 s.2.1 s.2.2.1 s.2.2.2.1 s.2.2.2.2.1 s.2.2.2.2.2.1 s.2.2.2.2.2.2.1 s.2.2.2.2.2.2.2.1 s.2.2.2.2.2.2.2.2.1 s.2.2.2.2.2.2.2.2.2.1 s.2.2.2.2.2.2.2.2.2.2.1 s.2.2.2.2.2.2.2.2.2.2.2.1 s.2.2.2.2.2.2.2.2.2.2.2.2.1 s.2.2.2.2.2.2.2.2.2.2.2.2.2 hI (fun b1 b2 b3 b4 b5 b6 b7 b8 b9 b10 b11 b12 b13 b14 h9 hm => hk (b1, b2, b3, b4, b5, b6, b7, b8, b9, b10, b11, b12, b13, b14) h9 hm)) (a1, a2, a3, a4, a5, a6, a7, a8, a9, a10, a11, a12, a13, a14) h
theorem lp15 {A1 A2 A3 A4 A5 A6 A7 A8 A9 A10 A11 A12 A13 A14 A15 : Type} (W : Nat → A1 → A2 → A3 → A4 → A5 → A6 → A7 → A8 → A9 → A10 → A11 → A12 → A13 → A14 → A15 → Prop) (I : A1 → A2 → A3 → A4 → A5 → A6 → A7 → A8 → A9 → A10 → A11 → A12 → A13 → A14 → A15 → Prop) (μ : A1 → A2 → A3 → A4 → A5 → A6 → A7 → A8 → A9 → A10 → A11 → A12 → A13 → A14 → A15 → Nat) (hs : ∀ (n : Nat) (a1 : A1) (a2 : A2) (a3 : A3) (a4 : A4) (a5 : A5) (a6 : A6) (a7 : A7) (a8 : A8) (a9 : A9) (a10 : A10) (a11 : A11) (a12 : A12) (a13 : A13) (a14 : A14) (a15 : A15), I a1 a2 a3 a4 a5 a6 a7 a8 a9 a10 a11 a12 a13 a14 a15 → (∀ (b1 : A1) (b2 : A2) (b3 : A3) (b4 : A4) (b5 : A5) (b6 : A6) (b7 : A7) (b8 : A8) (b9 : A9) (b10 : A10) (b11 : A11) (b12 : A12) (b13 : A13) (b14 : A14) (b15 : A15), I b1 b2 b3 b4 b5 b6 b7 b8 b9 b10 b11 b12 b13 b14 b15 → μ b1 b2 b3 b4 b5 b6 b7 b8 b9 b10 b11 b12 b13 b14 b15 < μ a1 a2 a3 a4 a5 a6 a7 a8 a9 a10 a11 a12 a13 a14 a15 → W n b1 b2 b3 b4 b5 b6 b7 b8 b9 b10 b11 b12 b13 b14 b15) → W (n + 1) a1 a2 a3 a4 a5 a6 a7 a8 a9 a10 a11 a12 a13 a14 a15) (a1 : A1) (a2 : A2) (a3 : A3) (a4 : A4) (a5 : A5) (a6 : A6) (a7 : A7) (a8 : A8) (a9 : A9) (a10 : A10) (a11 : A11) (a12 : A12) (a13 : A13) (a14 : A14) (a15 : A15) (h : I a1 a2 a3 a4 a5 a6 a7 a8 a9 a10 a11 a12 a13 a14 a15) : ∃ n, W n a1 a2 a3 a4 a5 a6 a7 a8 a9 a10 a11 a12 a13 a14 a15 :=
  loop_m (σ := A1 × A2 × A3 × A4 × A5 × A6 × A7 × A8 × A9 × A10 × A11 × A12 × A13 × A14 × A15) (fun n s => W n s.1 s.2.1 s.2.2.1 s.2.2.2.1 s.2.2.2.2.1 s.2.2.2.2.2.1 s.2.2.2.2.2.2.1 s.2.2.2.2.2.2.2.1 s.2.2.2.2.2.2.2.2.1 s.2.2.2.2.2.2.2.2.2.1 s.2.2.2.2.2.2.2.2.2.2.1 s.2.2.2.2.2.2.2.2.2.2.2.1 s.2.2.2.2.2.2.2.2.2.2.2.2.1 s.2.2.2.2.2.2.2.2.2.2.2.2.2.1 s.2.2.2.2.2.2.2.2.2.2.2.2.2.2) (fun s => I s.1 s.2.1 s.2.2.1 s.2.2.2.1 s.2.2.2.2.1 s.2.2.2.2.2.1 s.2.2.2.2.2.2.1 s.2.2.2.2.2.2.2.1 s.2.2.2.2.2.2.2.2.1 s.2.2.2.2.2.2.2.2.2.1 s.2.2.2.2.2.2.2.2.2.2.1 s.2.2.2.2.2.2.2.2.2.2.2.1 s.2.2.2.2.2.2.2.2.2.2.2.2.1 s.2.2.2.2.2.2.2.2.2.2.2.2.2.1 s.2.2.2.2.2.2.2.2.2.2.2.2.2.2) (fun s => μ s.1 s.2.1 s.2.2.1 s.2.2.2.1 s.2.2.2.2.1 s.2.2.2.2.2.1 s.2.2.2.2.2.2.1 s.2.2.2.2.2.2.2.1 s.2.2.2.2.2.2.2.2.1 s.2.2.2.2.2.2.2.2.2.1 s.2.2.2.2.2.2.2.2.2.2.1 s.2.2.2.2.2.2.2.2.2.2.2.1 s.2.2.2.2.2.2.2.2.2.2.2.2.1 s.2.2.2.2.2.2.2.2.2.2.2.2.2.1 s.2.2.2.2.2.2.2.2.2.2.2.2.2.2) (fun n s hI hk => hs n s.1 s.2.1 s.2.2.1 s.2.2.2.1 s.2.2.2.2.1 s.2.2.2.2.2.1 s.2.2.2.2.2.2.1 s.2.2.2.2.2.2.2.1 s.2.2.2.2.2.2.2.2.1 s.2.2.2.2.2.2.2.2.2.1 s.2.2.2.2.2.2.2.2.2.2.1 s.2.2.2.2.2.2.2.2.2.2.2.1 s.2.2.2.2.2.2.2.2.2.2.2.2.1 s.2.2.2.2.2.2.2.2.2.2.2.2.2.1 s.2.2.2.2.2.2.2.2.2.2.2.2.2.2 hI (fun b1 b2 b3 b4 b5 b6 b7 b8 b9 b10 b11 b12 b13 b14 b15 h9 hm => hk (b1, b2, b3, b4, b5, b6, b7, b8, b9, b10, b11, b12, b13, b14, b15) h9 hm)) (a1, a2, a3, a4, a5, a6, a7, a8, a9, a10, a11, a12, a13, a14, a15) h
theorem lp16 {A1 A2 A3 A4 A5 A6 A7 A8 A9 A10 A11 A12 A13 A14 A15 A16 : Type} (W : Nat → A1 → A2 → A3 → A4 → A5 → A6 → A7 → A8 → A9 → A10 → A11 → A12 → A13 → A14 → A15 → A16 → Prop) (I : A1 → A2 → A3 → A4 → A5 → A6 → A7 → A8 → A9 → A10 → A11 → A12 → A13 → A14 → A15 → A16 → Prop) (μ : A1 → A2 → A3 → A4 → A5 → A6 → A7 → A8 → A9 → A10 → A11 → A12 → A13 → A14 → A15 → A16 → Nat) (hs : ∀ (n : Nat) (a1 : A1) (a2 : A2) (a3 : A3) (a4 : A4) (a5 : A5) (a6 : A6) (a7 : A7) (a8 : A8) (a9 : A9) (a10 : A10) (a11 : A11) (a12 : A12) (a13 : A13) (a14 : A14) (a15 : A15) (a16 : A16), I a1 a2 a3 a4 a5 a6 a7 a8 a9 a10 a11 a12 a13 a14 a15 a16 → (∀ (b1 : A1) (b2 : A2) (b3 : A3) (b4 : A4) (b5 : A5) (b6 : A6) (b7 : A7) (b8 : A8) (b9 : A9) (b10 : A10) (b11 : A11) (b12 : A12) (b13 : A13) (b14 : A14) (b15 : A15) (b16 : A16), I b1 b2 b3 b4 b5 b6 b7 b8 b9 b10 b11 b12 b13 b14 b15 b16 → μ b1 b2 b3 b4 b5 b6 b7 b8 b9 b10 b11 b12 b13 b14 b15 b16 < μ a1 a2 a3 a4 a5 a6 a7 a8 a9 a10 a11 a12 a13 a14 a15 a16 → W n b1 b2 b3 b4 b5 b6 b7 b8 b9 b10 b11 b12 b13 b14 b15 b16) → W (n + 1) a1 a2 a3 a4 a5 a6 a7 a8 a9 a10 a11 a12 a13 a14 a15 a16) (a1 : A1) (a2 : A2) (a3 : A3) (a4 : A4) (a5 : A5) (a6 : A6) (a7 : A7) (a8 : A8) (a9 : A9) (a10 : A10) (a11 : A11) (a12 : A12) (a13 : A13) (a14 : A14) (a15 : A15) (a16 : A16) (h : I a1 a2 a3 a4 a5 a6 a7 a8 a9 a10 a11 a12 a13 a14 a15 a16) : ∃ n, W n a1 a2 a3 a4 a5 a6 a7 a8 a9 a10 a11 a12 a13 a14 a15 a16 :=
  loop_m (σ := A1 × A2 × A3 × A4 × A5 × A6 × A7 × A8 × A9 × A10 × A11 × A12 × A13 × A14 × A15 × A16) (fun n s => W n s.1 s.2.1 s.2.2.1 s.2.2.2.1 s.2.2.2.2.1 s.2.2.2.2.2.1 s.2.2.2.2.2.2.1 s.2.2.2.2.2.2.2.1 s.2.2.2.2.2.2.2.2.1 s.2.2.2.2.2.2.2.2.2.1 s.2.2.2.2.2.2.2.2.2.2.1 s.2.2.2.2.2.2.2.2.2.2.2.1 s.2.2.2.2.2.2.2.2.2.2.2.2.1 s.2.2.2.2.2.2.2.2.2.2.2.2.2.1 s.2.2.2.2.2.2.2.2.2.2.2.2.2.2.1 s.2.2.2.2.2.2.2.2.2.2.2.2.2.2.2) (fun s => I s.1 s.2.1 s.2.2.1 s.2.2.2.1 s.2.2.2.2.1 s.2.2.2.2.2.1 s.2.2.2.2.2.2.1 s.2.2.2.2.2.2.2.1 s.2.2.2.2.2.2.2.2.1 s.2.2.2.2.2.2.2.2.2.1 s.2.2.2.2.2.2.2.2.2.2.1 s.2.2.2.2.2.2.2.2.2.2.2.1 s.2.2.2.2.2.2.2.2.2.2.2.2.1 s.2.2.2.2.2.2.2.2.2.2.2.2.2.1 s.2.2.2.2.2.2.2.2.2.2.2.2.2.2.1 s.2.2.2.2.2.2.2.2.2.2.2.2.2.2.2) (fun s => μ s.1 s.2.1 s.2.2.1 s.2.2.2.1 s.2.2.2.2.1 s.2.2.2.2.2.1 s.2.2.2.2.2.2.1 s.2.2.2.2.2.2.2.1 s.2.2.2.2.2.2.2.2.1 s.2.2.2.2.2.2.2.2.2.1 s.2.2.2.2.2.2.2.2.2.2.1 s.2.2.2.2.2.2.2.2.2.2.2.1 s.2.2.2.2.2.2.2.2.2.2.2.2.1 s.2.2.2.2.2.2.2.2.2.2.2.2.2.1 s.2.2.2.2.2.2.2.2.2.2.2.2.2.2.1 s.2.2.2.2.2.2.2.2.2.2.2.2.2.2.2) (fun n s hI hk => hs n s.1 s.2.1 s.2.2.1 s.2.2.2.1 s.2.2.2.2.1 s.2.2.2.2.2.1 s.2.2.2.2.2.2.1 s.2.2.2.2.2.2.2.1 s.2.2.2.2.2.2.2.2.1 s.2.2.2.2.2.2.2.2.2.1 s.2.2.2.2.2.2.2.2.2.2.1 s.2.2.2.2.2.2.2.2.2.2.2.1 s.2.2.2.2.2.2.2.2.2.2.2.2.1 s.2.2.2.2.2.2.2.2.2.2.2.2.2.1 s.2.2.2.2.2.2.2.2.2.2.2.2.2.2.1 s.2.2.2.2.2.2.2.2.2.2.2.2.2.2.2 hI (fun b1 b2 b3 b4 b5 b6 b7 b8 b9 b10 b11 b12 b13 b14 b15 b16 h9 hm => hk (b1, b2, b3, b4, b5, b6, b7, b8, b9, b10, b11, b12, b13, b14, b15, b16) h9 hm)) (a1, a2, a3, a4, a5, a6, a7, a8, a9, a10, a11, a12, a13, a14, a15, a16) h
theorem pk_least (P : Nat → Prop) (h : ∃ k, P k) : ∃ k, P k ∧ ∀ j, j < k → ¬ P j := by
  obtain ⟨k, hk⟩ := h
  induction k using Nat.strongRecOn with
  | ind k ih =>
    by_cases e : ∃ j, j < k ∧ P j
    · obtain ⟨j, hj, pj⟩ := e
      exact ih j hj pj
    · exact ⟨k, hk, fun j hj pj => e ⟨j, hj, pj⟩⟩
theorem rp1 {ρ A1 : Type} (W : Nat → (ρ → Prop) → A1 → Prop) (ok : A1 → Prop) (μ : A1 → Nat) (val : A1 → ρ)
    (hs : ∀ (d : Nat) (post : ρ → Prop) (a1 : A1), ok a1 → post (val a1) → (∀ (post' : ρ → Prop) (b1 : A1), ok b1 → μ b1 < μ a1 → post' (val b1) → W d post' b1) → W (d + 1) post a1) :
    ∀ (d : Nat) (post : ρ → Prop) (a1 : A1), ok a1 → μ a1 < d → post (val a1) → W d post a1 := by
  intro d
  induction d with
  | zero => intro post a1 _ h; omega
  | succ d ih =>
    intro post a1 ho hm hp
    exact hs d post a1 ho hp (fun post' b1 ho' hm' hp' => ih post' b1 ho' (by omega) hp')
theorem rp2 {ρ A1 A2 : Type} (W : Nat → (ρ → Prop) → A1 → A2 → Prop) (ok : A1 → A2 → Prop) (μ : A1 → A2 → Nat) (val : A1 → A2 → ρ)
    (hs : ∀ (d : Nat) (post : ρ → Prop) (a1 : A1) (a2 : A2), ok a1 a2 → post (val a1 a2) → (∀ (post' : ρ → Prop) (b1 : A1) (b2 : A2), ok b1 b2 → μ b1 b2 < μ a1 a2 → post' (val b1 b2) → W d post' b1 b2) → W (d + 1) post a1 a2) :
    ∀ (d : Nat) (post : ρ → Prop) (a1 : A1) (a2 : A2), ok a1 a2 → μ a1 a2 < d → post (val a1 a2) → W d post a1 a2 := by
  intro d
  induction d with
  | zero => intro post a1 a2 _ h; omega
  | succ d ih =>
    intro post a1 a2 ho hm hp
    exact hs d post a1 a2 ho hp (fun post' b1 b2 ho' hm' hp' => ih post' b1 b2 ho' (by omega) hp')
theorem rp3 {ρ A1 A2 A3 : Type} (W : Nat → (ρ → Prop) → A1 → A2 → A3 → Prop) (ok : A1 → A2 → A3 → Prop) (μ : A1 → A2 → A3 → Nat) (val : A1 → A2 → A3 → ρ)
    (hs : ∀ (d : Nat) (post : ρ → Prop) (a1 : A1) (a2 : A2) (a3 : A3), ok a1 a2 a3 → post (val a1 a2 a3) → (∀ (post' : ρ → Prop) (b1 : A1) (b2 : A2) (b3 : A3), ok b1 b2 b3 → μ b1 b2 b3 < μ a1 a2 a3 → post' (val b1 b2 b3) → W d post' b1 b2 b3) → W (d + 1) post a1 a2 a3) :
    ∀ (d : Nat) (post : ρ → Prop) (a1 : A1) (a2 : A2) (a3 : A3), ok a1 a2 a3 → μ a1 a2 a3 < d → post (val a1 a2 a3) → W d post a1 a2 a3 := by
  intro d
  induction d with
  | zero => intro post a1 a2 a3 _ h; omega
  | succ d ih =>
    intro post a1 a2 a3 ho hm hp
    exact hs d post a1 a2 a3 ho hp (fun post' b1 b2 b3 ho' hm' hp' => ih post' b1 b2 b3 ho' (by omega) hp')
theorem rp4 {ρ A1 A2 A3 A4 : Type} (W : Nat → (ρ → Prop) → A1 → A2 → A3 → A4 → Prop) (ok : A1 → A2 → A3 → A4 → Prop) (μ : A1 → A2 → A3 → A4 → Nat) (val : A1 → A2 → A3 → A4 → ρ)
    (hs : ∀ (d : Nat) (post : ρ → Prop) (a1 : A1) (a2 : A2) (a3 : A3) (a4 : A4), ok a1 a2 a3 a4 → post (val a1 a2 a3 a4) → (∀ (post' : ρ → Prop) (b1 : A1) (b2 : A2) (b3 : A3) (b4 : A4), ok b1 b2 b3 b4 → μ b1 b2 b3 b4 < μ a1 a2 a3 a4 → post' (val b1 b2 b3 b4) → W d post' b1 b2 b3 b4) → W (d + 1) post a1 a2 a3 a4) :
    ∀ (d : Nat) (post : ρ → Prop) (a1 : A1) (a2 : A2) (a3 : A3) (a4 : A4), ok a1 a2 a3 a4 → μ a1 a2 a3 a4 < d → post (val a1 a2 a3 a4) → W d post a1 a2 a3 a4 := by
  intro d
  induction d with
  | zero => intro post a1 a2 a3 a4 _ h; omega
  | succ d ih =>
    intro post a1 a2 a3 a4 ho hm hp
    exact hs d post a1 a2 a3 a4 ho hp (fun post' b1 b2 b3 b4 ho' hm' hp' => ih post' b1 b2 b3 b4 ho' (by omega) hp')
theorem rp5 {ρ A1 A2 A3 A4 A5 : Type} (W : Nat → (ρ → Prop) → A1 → A2 → A3 → A4 → A5 → Prop) (ok : A1 → A2 → A3 → A4 → A5 → Prop) (μ : A1 → A2 → A3 → A4 → A5 → Nat) (val : A1 → A2 → A3 → A4 → A5 → ρ)
    (hs : ∀ (d : Nat) (post : ρ → Prop) (a1 : A1) (a2 : A2) (a3 : A3) (a4 : A4) (a5 : A5), ok a1 a2 a3 a4 a5 → post (val a1 a2 a3 a4 a5) → (∀ (post' : ρ → Prop) (b1 : A1) (b2 : A2) (b3 : A3) (b4 : A4) (b5 : A5), ok b1 b2 b3 b4 b5 → μ b1 b2 b3 b4 b5 < μ a1 a2 a3 a4 a5 → post' (val b1 b2 b3 b4 b5) → W d post' b1 b2 b3 b4 b5) → W (d + 1) post a1 a2 a3 a4 a5) :
    ∀ (d : Nat) (post : ρ → Prop) (a1 : A1) (a2 : A2) (a3 : A3) (a4 : A4) (a5 : A5), ok a1 a2 a3 a4 a5 → μ a1 a2 a3 a4 a5 < d → post (val a1 a2 a3 a4 a5) → W d post a1 a2 a3 a4 a5 := by
  intro d
  induction d with
  | zero => intro post a1 a2 a3 a4 a5 _ h; omega
  | succ d ih =>
    intro post a1 a2 a3 a4 a5 ho hm hp
    exact hs d post a1 a2 a3 a4 a5 ho hp (fun post' b1 b2 b3 b4 b5 ho' hm' hp' => ih post' b1 b2 b3 b4 b5 ho' (by omega) hp')
theorem rp6 {ρ A1 A2 A3 A4 A5 A6 : Type} (W : Nat → (ρ → Prop) → A1 → A2 → A3 → A4 → A5 → A6 → Prop) (ok : A1 → A2 → A3 → A4 → A5 → A6 → Prop) (μ : A1 → A2 → A3 → A4 → A5 → A6 → Nat) (val : A1 → A2 → A3 → A4 → A5 → A6 → ρ)
    (hs : ∀ (d : Nat) (post : ρ → Prop) (a1 : A1) (a2 : A2) (a3 : A3) (a4 : A4) (a5 : A5) (a6 : A6), ok a1 a2 a3 a4 a5 a6 → post (val a1 a2 a3 a4 a5 a6) → (∀ (post' : ρ → Prop) (b1 : A1) (b2 : A2) (b3 : A3) (b4 : A4) (b5 : A5) (b6 : A6), ok b1 b2 b3 b4 b5 b6 → μ b1 b2 b3 b4 b5 b6 < μ a1 a2 a3 a4 a5 a6 → post' (val b1 b2 b3 b4 b5 b6) → W d post' b1 b2 b3 b4 b5 b6) → W (d + 1) post a1 a2 a3 a4 a5 a6) :
    ∀ (d : Nat) (post : ρ → Prop) (a1 : A1) (a2 : A2) (a3 : A3) (a4 : A4) (a5 : A5) (a6 : A6), ok a1 a2 a3 a4 a5 a6 → μ a1 a2 a3 a4 a5 a6 < d → post (val a1 a2 a3 a4 a5 a6) → W d post a1 a2 a3 a4 a5 a6 := by
  intro d
  induction d with
  | zero => intro post a1 a2 a3 a4 a5 a6 _ h; omega
  | succ d ih =>
    intro post a1 a2 a3 a4 a5 a6 ho hm hp
    exact hs d post a1 a2 a3 a4 a5 a6 ho hp (fun post' b1 b2 b3 b4 b5 b6 ho' hm' hp' => ih post' b1 b2 b3 b4 b5 b6 ho' (by omega) hp')
theorem rec_p {σ ρ : Type} (W : Nat → (ρ → Prop) → σ → Prop) (ok : σ → Prop) (μ : σ → Nat) (val : σ → ρ)
    (hs : ∀ d s post, ok s → post (val s) → (∀ s' post', ok s' → μ s' < μ s → post' (val s') → W d post' s') → W (d + 1) post s) :
    ∀ d s post, ok s → μ s < d → post (val s) → W d post s := by
  intro d
  induction d with
  | zero => intro s post _ h; omega
  | succ d ih =>
    intro s post ho hm hp
    exact hs d s post ho hp (fun s' post' ho' hm' hp' => ih s' post' ho' (by omega) hp')
theorem rec_q {σ ρ : Type} (W : Nat → (ρ → Prop) → σ → Prop) (ok : σ → Prop) (μ : σ → Nat) (Q : σ → ρ → Prop)
    (hs : ∀ d s post, ok s → (∀ r, Q s r → post r) → (∀ s' post', ok s' → μ s' < μ s → (∀ r, Q s' r → post' r) → W d post' s') → W (d + 1) post s) :
    ∀ d s post, ok s → μ s < d → (∀ r, Q s r → post r) → W d post s := by
  intro d
  induction d with
  | zero => intro s post _ h; omega
  | succ d ih =>
    intro s post ho hm hp
    exact hs d s post ho hp (fun s' post' ho' hm' hp' => ih s' post' ho' (by omega) hp')
def bx_sum (f : Nat → Int32) : Nat → Int32
  | 0 => 0
  | n + 1 => bx_sum f n + f n
theorem ek_u {A : Prop} {B : Nat → Prop} {k N : Nat} (hk : k < N) (h : B k) : (some k = none → A) ∧ (∀ y : Nat, some k = some y → (y < N ∧ B y)) :=
  ⟨fun z => absurd z (Option.some_ne_none k), fun _ e => (by cases e; exact ⟨hk, h⟩)⟩
theorem ek_nu {A : Prop} {B : Nat → Prop} (h : A) : ((none : Option Nat) = none → A) ∧ (∀ y : Nat, (none : Option Nat) = some y → B y) :=
  ⟨fun _ => h, fun _ e => (by cases e)⟩
theorem ek_if {c d A B : Prop} (e : c ↔ d) (f : d → A) (g : ¬ d → B) : (c → A) ∧ (¬ c → B) :=
  ⟨fun z => f (e.mp z), fun z => g (fun y => z (e.mpr y))⟩
theorem ek_v {α : Sort _} {P : α → Prop} {a b : α} (e : a = b) (h : P b) : P a := e ▸ h
theorem co_some {x : Option Nat} {A : Prop} {B : Nat → Prop} (i : Nat) (h : B i) (hx : x = some i := by rfl) : (x = none → A) ∧ (∀ y : Nat, x = some y → B y) := by
  subst hx
  exact ⟨fun e => (nomatch e), fun y e => Option.some.inj e ▸ h⟩
theorem co_none {x : Option Nat} {A : Prop} {B : Nat → Prop} (h : A) (hx : x = none := by rfl) : (x = none → A) ∧ (∀ y : Nat, x = some y → B y) := by
  subst hx
  exact ⟨fun _ => h, fun y e => (nomatch e)⟩
theorem co_any {x : Option Nat} {A : Prop} {B : Nat → Prop} (hn : x = none → A) (hs : ∀ i : Nat, x = some i → B i) : (x = none → A) ∧ (∀ y : Nat, x = some y → B y) := ⟨hn, hs⟩
theorem co_2 {P : Nat → Prop} (h0 : P 0) (h1 : P 1) {i : Nat} (hi : i < 2) : P i :=
  match i, hi with
  | 0, _ => h0
  | 1, _ => h1
theorem co_3 {P : Nat → Prop} (h0 : P 0) (h1 : P 1) (h2 : P 2) {i : Nat} (hi : i < 3) : P i :=
  match i, hi with
  | 0, _ => h0
  | 1, _ => h1
  | 2, _ => h2
theorem co_4 {P : Nat → Prop} (h0 : P 0) (h1 : P 1) (h2 : P 2) (h3 : P 3) {i : Nat} (hi : i < 4) : P i :=
  match i, hi with
  | 0, _ => h0
  | 1, _ => h1
  | 2, _ => h2
  | 3, _ => h3
theorem co_dec {N : Nat} {P : Nat → Prop} [DecidablePred P] (h : (List.range N).all (fun i => decide (P i)) = true) {i : Nat} (hi : i < N) : P i := by
  have := List.all_eq_true.mp h i (List.mem_range.mpr hi)
  exact of_decide_eq_true this
theorem co_tab {α : Type} {l : List α} {d : α} {P : α → Prop} (h : ∀ a, a ∈ l → P a) {i : Nat} (hi : i < l.length) : P (l.getD i d) := by
  rw [List.getD_eq_getElem?_getD, List.getElem?_eq_getElem hi]
  exact h _ (List.getElem_mem hi)
theorem pk_mu {x : Int32} {L : Nat} (h0 : ¬ x < 0) (h : ¬ nI L ≤ x) (hL : L < 2 ^ 31) : ∃ j : Nat, j < L ∧ x = nI j ∧ x + 1 = nI (j + 1) ∧ x.toNatClampNeg = j ∧ L - (x + 1).toNatClampNeg < L - x.toNatClampNeg := by
  obtain ⟨j, hj, rfl⟩ := nI_of h0
  have hl : j < L := Nat.not_le.mp fun q => h (nI_le q hj)
  refine ⟨j, hl, rfl, nI_1 j, nI_clamp hj, ?_⟩
  rw [nI_1, nI_clamp (by omega), nI_clamp hj]
  omega
theorem op_s {α : Type} {r : Option α} {A : Prop} {B : α → Prop} {y : α} (h : r = some y) (b : B y) : (r = none → A) ∧ ∀ z, r = some z → B z :=
  ⟨fun e => (by rw [h] at e; cases e), fun z e => (by rw [h] at e; cases e; exact b)⟩
def l_holds {α : Type} (a : Nat → Option Nat) (LP : List Nat) (p : Nat → α) (c : Nat) (b : Nat → α) : Prop :=
  ∀ j, j < c → ∃ y, a j = some y ∧ y ∈ LP ∧ p y = b j
theorem l_holds_0 {α : Type} {a : Nat → Option Nat} {LP : List Nat} {p b : Nat → α} : l_holds a LP p 0 b := fun j h => absurd h (Nat.not_lt_zero j)
theorem l_in_new (LP : List Nat) (q : Nat) : q ∈ LP ++ [q] := List.mem_append.mpr (Or.inr (List.mem_singleton.mpr rfl))
def l_sum (b : Nat → Int32) : Nat → Int32
  | 0 => 0
  | k + 1 => l_sum b k + b k
theorem sb_shr0 (x : Int32) : x >>> ((0 : Int32) &&& 31) = x := by
  rw [show ((0 : Int32) &&& 31) = 0 by decide]
  simp
theorem sb_shl0 (x : Int32) : x <<< ((0 : Int32) &&& 31) = x := by
  rw [show ((0 : Int32) &&& 31) = 0 by decide]
  simp
theorem sb_cl0 : (0 : Int32).toNatClampNeg = 0 := by decide
theorem sb_m1 {p : Nat} (h : 0 < p) : nI p + (-1) = nI (p - 1) := by
  obtain ⟨q, rfl⟩ : ∃ q, p = q + 1 := ⟨p - 1, by omega⟩
  exact pk_m1 q
def sb_b (c : Nat) : Int32 := (nI c).toInt8.toInt32
theorem sb_byte : ∀ c, c < 256 → sb_b c &&& 255 = nI c ∧ ((nI c).toUInt32 % 65536).toInt32 = nI c ∧ nI c ≤ 255 := by decide +kernel
def sb_Fit (a : Nat → Int32) : Prop := ∀ j, fits .byte (.int (a j)) = true
def sb_Lat (t : Nat → Nat) (n : Nat) (a : Nat → Int32) : Prop := ∀ j, j < n → t j < 256 ∧ a j = sb_b (t j)
theorem sb_fitB (c : Nat) : fits .byte (.int (sb_b c)) = true := pk_fb _
theorem sb_fit0 : sb_Fit (fun _ => 0) := fun _ => by
  show fits .byte (.int 0) = true
  decide
theorem sb_fitU {a : Nat → Int32} {k : Nat} {x : Int32} (h : sb_Fit a) (hx : fits .byte (.int x) = true) : sb_Fit (upd a k x) := by
  intro j
  by_cases e : j = k
  · subst e
    rw [pk_us]
    exact hx
  · rw [pk_un e]
    exact h j
def sb_cat (t : Nat → Nat) (n : Nat) (s : Nat → Nat) : Nat → Nat := fun j => if j < n then t j else s (j - n)
theorem sb_cat_lo {t s : Nat → Nat} {n j : Nat} (h : j < n) : sb_cat t n s j = t j := if_pos h
theorem sb_cat_hi {t s : Nat → Nat} {n j : Nat} : sb_cat t n s (n + j) = s j := by
  show (if n + j < n then t (n + j) else s (n + j - n)) = s j
  rw [if_neg (by omega), Nat.add_sub_cancel_left]
theorem sb_latPut {t s : Nat → Nat} {n w : Nat} {a a' : Nat → Int32} (h : sb_Lat t n a) (hk : ∀ j, j < n → a' j = a j) (hs : ∀ i, i < w → s i < 256 ∧ a' (n + i) = sb_b (s i)) : sb_Lat (sb_cat t n s) (n + w) a' := by
  intro j hj
  by_cases e : j < n
  · rw [sb_cat_lo e, hk j e]
    exact h j e
  · obtain ⟨i, rfl⟩ : ∃ i, j = n + i := ⟨j - n, by omega⟩
    rw [sb_cat_hi]
    exact hs i (by omega)
theorem sb_latKeep {t : Nat → Nat} {n : Nat} {a a' : Nat → Int32} (h : sb_Lat t n a) (hk : ∀ j, j < n → a' j = a j) : sb_Lat t n a' := fun j hj => by
  rw [hk j hj]
  exact h j hj
def sb_cap (q m : Nat) : Nat := if q ≤ m then m else if 2 * m + 2 < q then q else 2 * m + 2
def sb_Room (q m mc ms : Nat) : Prop := q ≤ m ∨ (1 ≤ mc ∧ sb_cap q m ≤ ms ∧ sb_cap q m ≤ 65536)
theorem sb_cap_ge (q m : Nat) : q ≤ sb_cap q m := by
  unfold sb_cap
  split
  · omega
  · split <;> omega
theorem sb_cap_gem (q m : Nat) : m ≤ sb_cap q m := by
  unfold sb_cap
  split
  · omega
  · split <;> omega
theorem sb_cap_le {q m mc ms : Nat} (hm : m ≤ 65536) (hr : sb_Room q m mc ms) : sb_cap q m ≤ 65536 := by
  rcases hr with h | h
  · rw [sb_cap, if_pos h]
    exact hm
  · exact h.2.2
theorem sb_at {P : Int32 → Prop} {x y : Int32} (e : x = y) (h : P y) : P x := e ▸ h
def sb_dg (w : Nat) : Nat := if w < 10 then 1 else if w < 100 then 2 else if w < 1000 then 3 else if w < 10000 then 4 else if w < 100000 then 5 else if w < 1000000 then 6 else if w < 10000000 then 7 else if w < 100000000 then 8 else if w < 1000000000 then 9 else 10
def sb_dec (v : Nat) : Nat → Nat := fun i => 48 + v / 10 ^ (sb_dg v - 1 - i) % 10
theorem sb_dg_in (w : Nat) : 1 ≤ sb_dg w ∧ sb_dg w ≤ 10 := by
  unfold sb_dg
  constructor <;> (repeat' split) <;> omega
theorem sb_dg100 {w : Nat} (h : 100 ≤ w) (hw : w < 2 ^ 31) : sb_dg w = sb_dg (w / 100) + 2 := by
  rw [sb_dg, sb_dg, if_neg (show ¬ w < 10 by omega), if_neg (show ¬ w < 100 by omega)]
  by_cases h3 : w < 1000
  · rw [if_pos h3, if_pos (show w / 100 < 10 by omega)]
  rw [if_neg h3, if_neg (show ¬ w / 100 < 10 by omega)]
  by_cases h4 : w < 10000
  · rw [if_pos h4, if_pos (show w / 100 < 100 by omega)]
  rw [if_neg h4, if_neg (show ¬ w / 100 < 100 by omega)]
  by_cases h5 : w < 100000
  · rw [if_pos h5, if_pos (show w / 100 < 1000 by omega)]
  rw [if_neg h5, if_neg (show ¬ w / 100 < 1000 by omega)]
  by_cases h6 : w < 1000000
  · rw [if_pos h6, if_pos (show w / 100 < 10000 by omega)]
  rw [if_neg h6, if_neg (show ¬ w / 100 < 10000 by omega)]
  by_cases h7 : w < 10000000
  · rw [if_pos h7, if_pos (show w / 100 < 100000 by omega)]
  rw [if_neg h7, if_neg (show ¬ w / 100 < 100000 by omega)]
  by_cases h8 : w < 100000000
  · rw [if_pos h8, if_pos (show w / 100 < 1000000 by omega)]
  rw [if_neg h8, if_neg (show ¬ w / 100 < 1000000 by omega)]
  by_cases h9 : w < 1000000000
  · rw [if_pos h9, if_pos (show w / 100 < 10000000 by omega)]
  rw [if_neg h9, if_neg (show ¬ w / 100 < 10000000 by omega)]
  rw [if_pos (show w / 100 < 100000000 by omega)]
theorem sb_negT {w : Nat} (h : w < 2 ^ 31) : (-nI w).toInt = -(w : Int) := by
  rw [Int32.toInt_neg, nI_toInt h]
  exact Int.bmod_eq_of_le (by omega) (by omega)
theorem sb_nle {a b : Nat} (ha : a < 2 ^ 31) (hb : b < 2 ^ 31) : -nI a ≤ -nI b ↔ b ≤ a := by
  rw [Int32.le_iff_toInt_le, sb_negT ha, sb_negT hb]
  omega
theorem sb_nlt {a b : Nat} (ha : a < 2 ^ 31) (hb : b < 2 ^ 31) : -nI a < -nI b ↔ b < a := by
  rw [Int32.lt_iff_toInt_lt, sb_negT ha, sb_negT hb]
  omega
theorem sb_cmp {A B : Prop} {x : Int32} (v c : Nat) (f : c ≤ v → A) (g : v < c → B) (hv : v < 2 ^ 31) (hx : x = -nI c := by rfl) (hc : c < 2 ^ 31 := by omega) : (-nI v ≤ x → A) ∧ (¬ -nI v ≤ x → B) := by
  subst hx
  rw [sb_nle hv hc]
  exact ⟨f, fun z => g (by omega)⟩
theorem sb_ndiv {w : Nat} (hw : w < 2 ^ 31) : (-nI w) / 100 = -nI (w / 100) := by
  apply Int32.toInt_inj.mp
  have h100 : (100 : Int32).toInt = 100 := by decide
  rw [Int32.toInt_div, sb_negT hw, h100, sb_negT (by omega), Int.neg_tdiv, Int.tdiv_eq_ediv_of_nonneg (by omega), Int.bmod_eq_of_le (by omega) (by omega)]
  omega
theorem sb_nrem {w : Nat} (hw : w < 2 ^ 31) : (-nI (w / 100)) * 100 - (-nI w) = nI (w % 100) := by
  have h := pk_rem (a := w) (d := 100) hw (by decide) (by decide)
  rw [pk_div hw (by decide) (by decide)] at h
  rw [← h]
  show (-nI (w / 100)) * nI 100 - (-nI w) = nI w - nI (w / 100) * nI 100
  rw [Int32.neg_mul, Int32.sub_neg, Int32.add_comm, ← Int32.sub_eq_add_neg]
end
section
/-! rows on bits, shifts and unsigned numbers, to paste: each family out of a closed proof of our own, whole with what it rests on; each by itself clean at Lean in its own claim (generation 39, form 5). Take a family whole -/
/-! ===== Int32 by its bits: bt x i ===== -/
def bt (x : Int32) (i : Nat) : Bool := x.toBitVec.getLsbD i
theorem b_ext {x y : Int32} (h : ∀ i, i < 32 → bt x i = bt y i) : x = y := Int32.toBitVec_inj.mp (BitVec.eq_of_getLsbD_eq (fun i hi => h i hi))
theorem b_or (x y : Int32) (i : Nat) : bt (x ||| y) i = (bt x i || bt y i) := by unfold bt; rw [Int32.toBitVec_or, BitVec.getLsbD_or]
theorem b_and (x y : Int32) (i : Nat) : bt (x &&& y) i = (bt x i && bt y i) := by unfold bt; rw [Int32.toBitVec_and, BitVec.getLsbD_and]
theorem b_xor (x y : Int32) (i : Nat) : bt (x ^^^ y) i = (bt x i ^^ bt y i) := by unfold bt; rw [Int32.toBitVec_xor, BitVec.getLsbD_xor]
theorem b_big {x : Int32} {i : Nat} (h : 32 ≤ i) : bt x i = false := BitVec.getLsbD_of_ge _ _ h
theorem b_255 (i : Nat) : bt 255 i = decide (i < 8) := by
  rcases Nat.lt_or_ge i 32 with h | h
  · exact (by decide +kernel : ∀ i, i < 32 → bt 255 i = decide (i < 8)) i h
  · rw [b_big h, decide_eq_false (by omega)]
theorem b_65535 (i : Nat) : bt 65535 i = decide (i < 16) := by
  rcases Nat.lt_or_ge i 32 with h | h
  · exact (by decide +kernel : ∀ i, i < 32 → bt 65535 i = decide (i < 16)) i h
  · rw [b_big h, decide_eq_false (by omega)]
theorem b_m1 : ∀ i, i < 32 → bt (-1) i = true := by decide +kernel
theorem b_0 (i : Nat) : bt 0 i = false := BitVec.getLsbD_zero
theorem s_l : ∀ n, n < 32 → ((nI n &&& 31).toBitVec.smod 32).toNat = n := by decide +kernel
theorem s_u : ∀ n, n < 32 → (((nI n).toUInt32 &&& Int32.toUInt32 31).toBitVec % 32).toNat = n := by decide +kernel
theorem b_shl (n : Nat) (hn : n < 32) (x : Int32) {i : Nat} (hi : i < 32) : bt (x <<< (nI n &&& 31)) i = (decide (n ≤ i) && bt x (i - n)) := by
  unfold bt
  rw [Int32.toBitVec_shiftLeft]
  show (x.toBitVec <<< ((nI n &&& 31).toBitVec.smod 32).toNat).getLsbD i = _
  rw [s_l n hn, BitVec.getLsbD_shiftLeft]
  rcases Nat.lt_or_ge i n with h | h
  · simp [h, Nat.not_le.mpr h]
  · simp [hi, h, Nat.not_lt.mpr h]
theorem b_ushr (n : Nat) (hn : n < 32) (x : Int32) (i : Nat) : bt ((x.toUInt32 >>> ((nI n).toUInt32 &&& Int32.toUInt32 31)).toInt32) i = bt x (n + i) := by
  show (x.toUInt32 >>> ((nI n).toUInt32 &&& Int32.toUInt32 31)).toBitVec.getLsbD i = x.toUInt32.toBitVec.getLsbD (n + i)
  rw [UInt32.toBitVec_shiftRight]
  show (x.toUInt32.toBitVec >>> (((nI n).toUInt32 &&& Int32.toUInt32 31).toBitVec % 32).toNat).getLsbD i = _
  rw [s_u n hn, BitVec.getLsbD_ushiftRight]
theorem b_sshr (n : Nat) (hn : n < 32) (x : Int32) {i : Nat} (hi : i < 32) : bt (x >>> (nI n &&& 31)) i = if n + i < 32 then bt x (n + i) else bt x 31 := by
  unfold bt
  rw [Int32.toBitVec_shiftRight]
  show (x.toBitVec.sshiftRight ((nI n &&& 31).toBitVec.smod 32).toNat).getLsbD i = _
  rw [s_l n hn, BitVec.getLsbD_sshiftRight, BitVec.msb_eq_getLsbD_last]
  simp [hi]
theorem b_shl8 (x : Int32) {i : Nat} (hi : i < 32) : bt (x <<< ((8 : Int32) &&& 31)) i = (decide (8 ≤ i) && bt x (i - 8)) := b_shl 8 (by omega) x hi
theorem b_shl16 (x : Int32) {i : Nat} (hi : i < 32) : bt (x <<< ((16 : Int32) &&& 31)) i = (decide (16 ≤ i) && bt x (i - 16)) := b_shl 16 (by omega) x hi
theorem b_shl24 (x : Int32) {i : Nat} (hi : i < 32) : bt (x <<< ((24 : Int32) &&& 31)) i = (decide (24 ≤ i) && bt x (i - 24)) := b_shl 24 (by omega) x hi
theorem b_sshr8 (x : Int32) {i : Nat} (hi : i < 32) : bt (x >>> ((8 : Int32) &&& 31)) i = if 8 + i < 32 then bt x (8 + i) else bt x 31 := b_sshr 8 (by omega) x hi
/-! ===== nI under and, xor, >>>, one bit, 65535 ===== -/
theorem nx_and (a b : Nat) : nI a &&& nI b = nI (a &&& b) := by
  apply Int32.toBitVec_inj.1
  show BitVec.ofNat 32 a &&& BitVec.ofNat 32 b = BitVec.ofNat 32 (a &&& b)
  apply BitVec.eq_of_getLsbD_eq
  intro i hi
  simp [hi]
theorem nx_xor (a b : Nat) : nI a ^^^ nI b = nI (a ^^^ b) := by
  apply Int32.toBitVec_inj.1
  show BitVec.ofNat 32 a ^^^ BitVec.ofNat 32 b = BitVec.ofNat 32 (a ^^^ b)
  apply BitVec.eq_of_getLsbD_eq
  intro i hi
  simp [hi]
theorem nx_cnt : ∀ j : Fin 32, (UInt32.ofNat j.val &&& Int32.toUInt32 31).toNat % 32 = j.val := by decide +kernel
theorem nx_ush {k j : Nat} (hk : k < 65536) (hj : j < 32) : ((nI k).toUInt32 >>> ((nI j).toUInt32 &&& Int32.toUInt32 31)).toInt32 = nI (k >>> j) := by
  have hs : k >>> j ≤ k := by
    rw [Nat.shiftRight_eq_div_pow]
    exact Nat.div_le_self _ _
  have e2 : UInt32.ofNat k >>> (UInt32.ofNat j &&& Int32.toUInt32 31) = UInt32.ofNat (k >>> j) := by
    apply UInt32.toNat_inj.1
    have h1 : (UInt32.ofNat k).toNat = k := Nat.mod_eq_of_lt (by omega)
    have h2 : (UInt32.ofNat (k >>> j)).toNat = k >>> j := Nat.mod_eq_of_lt (by omega)
    rw [UInt32.toNat_shiftRight, nx_cnt ⟨j, hj⟩, h1, h2]
  show (UInt32.ofNat k >>> (UInt32.ofNat j &&& Int32.toUInt32 31)).toInt32 = _
  rw [e2]
  rfl
theorem nx_bit {k j : Nat} (hk : k < 65536) (hj : j < 16) : (((nI k).toUInt32 >>> ((nI j).toUInt32 &&& Int32.toUInt32 31)).toInt32 &&& 1) = 0 ↔ k.testBit j = false := by
  rw [nx_ush hk (by omega)]
  show nI (k >>> j) &&& nI 1 = 0 ↔ _
  rw [nx_and, Nat.and_one_is_mod, ← nI_0, nI_eq (by omega) (by omega), Nat.testBit_eq_decide_div_mod_eq, Nat.shiftRight_eq_div_pow, decide_eq_false_iff_not]
  generalize k / 2 ^ j = z
  omega
theorem nx_mod (k : Nat) : nI k &&& 65535 = nI (k % 65536) := by
  show nI k &&& nI 65535 = _
  rw [nx_and, show (65535 : Nat) = 2 ^ 16 - 1 from rfl, Nat.and_two_pow_sub_one_eq_mod]
theorem nx_m16 {k : Nat} (h : k < 65536) : nI k &&& 65535 = nI k := by rw [nx_mod, Nat.mod_eq_of_lt h]
theorem nx_mask (x : Int32) : ∃ k, k < 65536 ∧ x &&& 65535 = nI k := by
  have e : x = nI x.toBitVec.toNat := by
    apply Int32.toBitVec_inj.1
    show x.toBitVec = BitVec.ofNat 32 x.toBitVec.toNat
    simp
  refine ⟨x.toBitVec.toNat % 65536, Nat.mod_lt _ (by omega), ?_⟩
  rw [← nx_mod, ← e]
/-! ===== Int32 as a set of bits: test, set ===== -/
def nf_M (m : Int32) : Nat := 4294967296 - m.toBitVec.toNat
theorem nf_sh : ∀ l, l < 32 → ((1 : Int32) <<< (nI l &&& 31)).toBitVec = BitVec.twoPow 32 l := by decide +kernel
theorem nf_sl : ∀ l, l < 32 → (((nI l).toUInt32 &&& Int32.toUInt32 31).toBitVec % 32).toNat = l := by decide +kernel
theorem nf_tp : ∀ l, l < 32 → BitVec.twoPow 32 l ≠ 0#32 := by decide +kernel
theorem nf_bit (m : Int32) (l : Nat) (hl : l < 32) : ((m.toUInt32 >>> ((nI l).toUInt32 &&& Int32.toUInt32 31)).toInt32 &&& 1) = 0 ↔ (m &&& ((1 : Int32) <<< (nI l &&& 31))) = 0 := by
  have e : ((m.toUInt32 >>> ((nI l).toUInt32 &&& Int32.toUInt32 31)).toInt32).toBitVec = m.toBitVec >>> l := by
    show m.toBitVec >>> (((nI l).toUInt32 &&& Int32.toUInt32 31).toBitVec % 32) = m.toBitVec >>> l
    rw [BitVec.ushiftRight_eq', nf_sl l hl]
  rw [← Int32.toBitVec_inj, ← Int32.toBitVec_inj, Int32.toBitVec_and, Int32.toBitVec_and, nf_sh l hl, e, BitVec.and_twoPow]
  show (m.toBitVec >>> l &&& 1#32) = 0#32 ↔ _ = 0#32
  rw [BitVec.and_one_eq_setWidth_ofBool_getLsbD, BitVec.getLsbD_ushiftRight, Nat.add_zero]
  cases hb : m.toBitVec.getLsbD l
  · exact ⟨fun _ => by simp, fun _ => by decide⟩
  · exact ⟨fun z => absurd z (by decide), fun z => absurd ((if_pos rfl).symm.trans z) (nf_tp l hl)⟩
theorem nf_gr (m k : Int32) (h : m &&& k = 0) (hk : k ≠ 0) : nf_M (m ||| k) < nf_M m := by
  have hm := m.toBitVec.isLt
  have hm' := (m ||| k).toBitVec.isLt
  have h1 : m.toBitVec.toNat ≤ (m ||| k).toBitVec.toNat := by
    rw [Int32.toBitVec_or, BitVec.toNat_or]
    exact Nat.left_le_or
  have h2 : m.toBitVec.toNat ≠ (m ||| k).toBitVec.toNat := by
    intro e
    have e2 : m = m ||| k := Int32.toBitVec_inj.mp (BitVec.eq_of_toNat_eq e)
    apply hk
    apply Int32.toBitVec_inj.mp
    show k.toBitVec = 0#32
    apply BitVec.eq_of_getLsbD_eq
    intro i hi
    have a : m.toBitVec.getLsbD i = (m.toBitVec.getLsbD i || k.toBitVec.getLsbD i) := by rw [← BitVec.getLsbD_or, ← Int32.toBitVec_or, ← e2]
    have b : (m.toBitVec.getLsbD i && k.toBitVec.getLsbD i) = false := by
      rw [← BitVec.getLsbD_and, ← Int32.toBitVec_and, h]
      exact BitVec.getLsbD_zero
    rw [BitVec.getLsbD_zero]
    revert a b
    cases m.toBitVec.getLsbD i <;> cases k.toBitVec.getLsbD i <;> simp
  unfold nf_M
  omega
/-! ===== a byte read unsigned ===== -/
theorem bp_b (x : Int32) : x.toInt8.toInt32 &&& 255 = x &&& 255 := by
  apply Int32.toBitVec_inj.mp
  rw [Int32.toBitVec_and, Int32.toBitVec_and, Int8.toBitVec_toInt32, Int32.toBitVec_toInt8]
  apply BitVec.eq_of_getLsbD_eq
  intro i hi
  rw [BitVec.getLsbD_and, BitVec.getLsbD_and]
  have hm : ∀ i < 32, 8 ≤ i → (255 : Int32).toBitVec.getLsbD i = false := by decide
  rcases Nat.lt_or_ge i 8 with z | z
  · rw [BitVec.getLsbD_signExtend, BitVec.getLsbD_signExtend, if_pos z, if_pos hi]
    simp only [z, hi, decide_true, Bool.true_and]
  · rw [hm i hi z]; simp
/-! ===== the char cast and 65535 ===== -/
theorem em_w (v : Int32) : ∃ w : Nat, w < 65536 ∧ (v.toUInt32 % 65536).toInt32 = nI w ∧ v &&& 65535 = nI w := by
  have hr := lw_u16_r v
  have h0 : (0 : Int32).toInt = 0 := by decide
  obtain ⟨w, h1, h2⟩ := nI_of (x := lw_u16 v) (by rw [Int32.lt_iff_toInt_lt]; omega)
  have h3 : (v.toUInt32 % 65536).toInt32 = nI w := h2
  rw [h2, nI_toInt h1] at hr
  exact ⟨w, by omega, h3, by rw [← lg_i2c_mask, ← lg_i2c_nf, h3]⟩
/-! ===== Int64 as a set of bits: test, set, clear ===== -/
theorem ts_nf {x : Bool} (h : ¬ x = false) : x = true := by cases x <;> first | rfl | exact absurd rfl h
theorem ts_nt {x : Bool} (h : ¬ x = true) : x = false := by cases x <;> first | rfl | exact absurd rfl h
theorem ts_bit {w : Int64} {s : UInt64} {j : Nat} (hj : j < 64) (hs : s.toNat = j) : ((w.toUInt64 >>> s).toInt64 &&& 1) = 0 ↔ w.toBitVec.getLsbD j = false := by
  have e : (w.toUInt64 >>> s).toInt64.toBitVec = w.toBitVec >>> j := by
    apply BitVec.eq_of_toNat_eq
    show (w.toUInt64 >>> s).toNat = _
    rw [UInt64.toNat_shiftRight, hs, Nat.mod_eq_of_lt hj, BitVec.toNat_ushiftRight]
    rfl
  rw [← Int64.toBitVec_inj, Int64.toBitVec_and, e]
  show w.toBitVec >>> j &&& 1#64 = 0#64 ↔ _
  constructor
  · intro h
    have t := congrArg (fun x => x.getLsbD 0) h
    simpa using t
  · intro h
    apply BitVec.eq_of_getLsbD_eq
    intro i hi
    cases i with
    | zero => simp [h]
    | succ i => simp
theorem ts_or {w m : Int64} {j : Nat} (hj : j < 64) (hm : m.toBitVec = BitVec.twoPow 64 j) : (w ||| m) = w ↔ w.toBitVec.getLsbD j = true := by
  rw [← Int64.toBitVec_inj, Int64.toBitVec_or, hm]
  constructor
  · intro h
    have t := congrArg (fun x => x.getLsbD j) h
    simp only [BitVec.getLsbD_or, BitVec.getLsbD_twoPow] at t
    simpa [hj] using t.symm
  · intro h
    apply BitVec.eq_of_getLsbD_eq
    intro i hi
    rw [BitVec.getLsbD_or, BitVec.getLsbD_twoPow]
    by_cases e : j = i
    · subst e; rw [h, Bool.true_or]
    · simp [e]
theorem ts_and {w m : Int64} {j : Nat} (hj : j < 64) (hm : m.toBitVec = BitVec.twoPow 64 j) : (w &&& (m ^^^ (-1))) = w ↔ w.toBitVec.getLsbD j = false := by
  have ha : (-1 : Int64).toBitVec = BitVec.allOnes 64 := by decide
  rw [← Int64.toBitVec_inj, Int64.toBitVec_and, Int64.toBitVec_xor, hm, ha]
  constructor
  · intro h
    have t := congrArg (fun x => x.getLsbD j) h
    simp only [BitVec.getLsbD_and, BitVec.getLsbD_xor, BitVec.getLsbD_twoPow, BitVec.getLsbD_allOnes] at t
    simpa [hj] using t.symm
  · intro h
    apply BitVec.eq_of_getLsbD_eq
    intro i hi
    rw [BitVec.getLsbD_and, BitVec.getLsbD_xor, BitVec.getLsbD_twoPow, BitVec.getLsbD_allOnes]
    by_cases e : j = i
    · subst e; rw [h, Bool.false_and]
    · simp [e, hi]
/-! ===== lN n to 2^64: shifts, and, or, masks, one bit ===== -/
theorem wb_tb (n : Nat) : (lN n).toBitVec = BitVec.ofNat 64 n := rfl
theorem wb_inj {a b : Int64} (h : a.toBitVec = b.toBitVec) : a = b := Int64.toBitVec_inj.mp h
theorem wb_tn {n : Nat} (h : n < 2 ^ 64) : (lN n).toBitVec.toNat = n := by rw [wb_tb, BitVec.toNat_ofNat, Nat.mod_eq_of_lt h]
theorem wb_of (x : Int64) : ∃ n, n < 2 ^ 64 ∧ x = lN n := ⟨x.toBitVec.toNat, x.toBitVec.isLt, wb_inj (by rw [wb_tb]; simp)⟩
theorem wb_of32 (x : Int32) : ∃ n, n < 2 ^ 32 ∧ x = nI n := ⟨x.toBitVec.toNat, x.toBitVec.isLt, Int32.toBitVec_inj.mp (by show _ = BitVec.ofNat 32 _; simp)⟩
theorem wb_c : ∀ k, k < 64 → ((nI k).toInt64 &&& 63) = lN k := by decide +kernel
theorem wb_cu : ∀ k, k < 64 → ((nI k).toInt64.toUInt64 &&& Int64.toUInt64 63) = UInt64.ofNat k := by decide +kernel
theorem wb_sm : ∀ k, k < 64 → (BitVec.ofNat 64 k).smod 64 = BitVec.ofNat 64 k := by decide +kernel
theorem wb_pw {a b : Nat} (h : a ≤ b) : 2 ^ b = 2 ^ a * 2 ^ (b - a) := by rw [← Nat.pow_add]; congr 1; omega
theorem wb_lt2 {a b : Nat} (h : a < b) : 2 ^ a < 2 ^ b := Nat.pow_lt_pow_right (by decide) h
theorem wb_mod (n : Nat) : lN n = lN (n % 2 ^ 64) := wb_inj (by rw [wb_tb, wb_tb]; apply BitVec.eq_of_toNat_eq; rw [BitVec.toNat_ofNat, BitVec.toNat_ofNat, Nat.mod_mod])
theorem wb_shr {n k : Nat} (hn : n < 2 ^ 64) (hk : k < 64) : ((lN n).toUInt64 >>> ((nI k).toInt64.toUInt64 &&& Int64.toUInt64 63)).toInt64 = lN (n / 2 ^ k) := by
  rw [wb_cu k hk]
  apply wb_inj
  apply BitVec.eq_of_toNat_eq
  show ((lN n).toUInt64 >>> UInt64.ofNat k).toNat = (BitVec.ofNat 64 _).toNat
  have h1 : (UInt64.ofNat k).toNat = k := by
    show (BitVec.ofNat 64 k).toNat = k
    rw [BitVec.toNat_ofNat, Nat.mod_eq_of_lt (by omega)]
  have h2 : (lN n).toUInt64.toNat = n := wb_tn hn
  rw [UInt64.toNat_shiftRight, h1, h2, Nat.mod_eq_of_lt hk, Nat.shiftRight_eq_div_pow, BitVec.toNat_ofNat, Nat.mod_eq_of_lt (Nat.lt_of_le_of_lt (Nat.div_le_self _ _) hn)]
theorem wb_shl (n : Nat) {k : Nat} (hk : k < 64) : lN n <<< ((nI k).toInt64 &&& 63) = lN (n * 2 ^ k) := by
  rw [wb_c k hk]
  apply wb_inj
  rw [Int64.toBitVec_shiftLeft, wb_tb, wb_tb, wb_tb, wb_sm k hk]
  apply BitVec.eq_of_toNat_eq
  rw [BitVec.shiftLeft_eq', BitVec.toNat_shiftLeft, BitVec.toNat_ofNat, BitVec.toNat_ofNat, BitVec.toNat_ofNat, Nat.mod_eq_of_lt (show k < 2 ^ 64 by omega), Nat.shiftLeft_eq, Nat.mul_mod, Nat.mod_mod, ← Nat.mul_mod]
theorem wb_and {a b : Nat} (ha : a < 2 ^ 64) (hb : b < 2 ^ 64) : lN a &&& lN b = lN (a &&& b) := by
  apply wb_inj
  rw [Int64.toBitVec_and, wb_tb, wb_tb, wb_tb]
  apply BitVec.eq_of_toNat_eq
  rw [BitVec.toNat_and, BitVec.toNat_ofNat, BitVec.toNat_ofNat, BitVec.toNat_ofNat, Nat.mod_eq_of_lt ha, Nat.mod_eq_of_lt hb, Nat.mod_eq_of_lt (Nat.and_lt_two_pow _ hb)]
theorem wb_or {a b : Nat} (ha : a < 2 ^ 64) (hb : b < 2 ^ 64) : lN a ||| lN b = lN (a ||| b) := by
  apply wb_inj
  rw [Int64.toBitVec_or, wb_tb, wb_tb, wb_tb]
  apply BitVec.eq_of_toNat_eq
  rw [BitVec.toNat_or, BitVec.toNat_ofNat, BitVec.toNat_ofNat, BitVec.toNat_ofNat, Nat.mod_eq_of_lt ha, Nat.mod_eq_of_lt hb, Nat.mod_eq_of_lt (Nat.or_lt_two_pow ha hb)]
theorem wb_mask {n k : Nat} (hn : n < 2 ^ 64) (hk : k < 64) : lN n &&& lN (2 ^ k - 1) = lN (n % 2 ^ k) := by
  rw [wb_and hn (by have := wb_lt2 hk; omega), Nat.and_two_pow_sub_one_eq_mod]
theorem wb_a1 {n : Nat} (hn : n < 2 ^ 64) : lN n &&& 1 = lN (n % 2) := wb_mask (k := 1) hn (by decide)
theorem wb_bit {n k : Nat} (hn : n < 2 ^ 64) (hk : k < 64) : ((lN n).toUInt64 >>> ((nI k).toInt64.toUInt64 &&& Int64.toUInt64 63)).toInt64 &&& 1 = lN (n / 2 ^ k % 2) := by
  rw [wb_shr hn hk, wb_a1 (Nat.lt_of_le_of_lt (Nat.div_le_self _ _) hn)]
theorem wb_xor {q k : Nat} (hk : k < 63) (h : 2 ^ k ≤ q) (h2 : q < 2 ^ (k + 1)) : lN q ^^^ lN (2 ^ k) = lN (q - 2 ^ k) := by
  obtain ⟨r, rfl⟩ : ∃ r, q = 2 ^ k + r := ⟨q - 2 ^ k, by omega⟩
  have hr : r < 2 ^ k := by rw [Nat.pow_succ] at h2; omega
  have hx : (2 ^ k + r) ^^^ 2 ^ k = r := by
    apply Nat.eq_of_testBit_eq
    intro i
    rw [Nat.testBit_xor, Nat.testBit_two_pow]
    rcases Nat.lt_trichotomy i k with h | h | h
    · rw [Nat.testBit_two_pow_add_gt h]
      simp [show ¬ k = i by omega]
    · subst h
      rw [Nat.testBit_two_pow_add_eq]
      simp
    · have a1 : 2 ^ (k + 1) ≤ 2 ^ i := Nat.pow_le_pow_right (by decide) h
      rw [Nat.testBit_lt_two_pow (show 2 ^ k + r < 2 ^ i by omega), Nat.testBit_lt_two_pow (show r < 2 ^ i by omega)]
      simp [show ¬ k = i by omega]
  have b1 := wb_lt2 (show k + 1 < 64 by omega)
  have b2 := wb_lt2 (show k < 64 by omega)
  apply wb_inj
  rw [Int64.toBitVec_xor, wb_tb, wb_tb, wb_tb]
  apply BitVec.eq_of_toNat_eq
  rw [BitVec.toNat_xor, BitVec.toNat_ofNat, BitVec.toNat_ofNat, BitVec.toNat_ofNat, Nat.mod_eq_of_lt (by omega : 2 ^ k + r < 2 ^ 64), Nat.mod_eq_of_lt b2, hx, Nat.add_sub_cancel_left, Nat.mod_eq_of_lt (by omega)]
/-! ===== lN: masks, 'or' of parts that don't overlap is a sum ===== -/
theorem u_tn {n : Nat} (h : n < 2 ^ 64) : (UInt64.ofNat n).toNat = n := Nat.mod_eq_of_lt h
theorem g_and {a b c : Nat} (ha : a < 2 ^ 64) (hb : b < 2 ^ 64) (hc : a &&& b = c) : lN a &&& lN b = lN c := by
  subst hc
  have h : UInt64.ofNat a &&& UInt64.ofNat b = UInt64.ofNat (a &&& b) := UInt64.toNat_inj.mp (by rw [UInt64.toNat_and, u_tn ha, u_tn hb, u_tn (Nat.and_lt_two_pow a hb)])
  have h2 := congrArg UInt64.toInt64 h
  exact h2
theorem g_and1 {a : Nat} (ha : a < 2 ^ 64) : lN a &&& 1 = lN (a % 2) := g_and (b := 1) ha (by decide) (Nat.and_two_pow_sub_one_eq_mod a 1)
theorem g_mask {a s p : Nat} (hp : 2 ^ s = p) (hs : s < 64) (ha : a < 2 ^ 64) : lN a &&& lN (p - 1) = lN (a % p) := by
  subst hp
  have := Nat.pow_lt_pow_right (show 1 < 2 by decide) hs
  exact g_and ha (by omega) (Nat.and_two_pow_sub_one_eq_mod a s)
theorem g_or {k p a b : Nat} (hp : 2 ^ k = p) (ha : a < p) (h : b * p + a < 2 ^ 64) : lN (b * p) ||| lN a = lN (b * p + a) := by
  subst hp
  have h1 : b * 2 ^ k ||| a = b * 2 ^ k + a := by rw [← Nat.shiftLeft_eq, Nat.shiftLeft_add_eq_or_of_lt ha]
  have h3 : UInt64.ofNat (b * 2 ^ k) ||| UInt64.ofNat a = UInt64.ofNat (b * 2 ^ k + a) := UInt64.toNat_inj.mp (by rw [UInt64.toNat_or, u_tn (by omega), u_tn (by omega), u_tn h, h1])
  have h2 := congrArg UInt64.toInt64 h3
  exact h2
theorem g_or' {k p a b : Nat} (hp : 2 ^ k = p) (ha : a < p) (h : a + b * p < 2 ^ 64) : lN a ||| lN (b * p) = lN (a + b * p) := by
  rw [Int64.or_comm, g_or hp ha (by omega), Nat.add_comm]
theorem g_ushr {a k p : Nat} {y : UInt64} (hy : y = UInt64.ofNat k) (hk : k < 64) (hp : 2 ^ k = p) (ha : a < 2 ^ 64) : ((lN a).toUInt64 >>> y).toInt64 = lN (a / p) := by
  subst hy hp
  have h : UInt64.ofNat a >>> UInt64.ofNat k = UInt64.ofNat (a / 2 ^ k) := UInt64.toNat_inj.mp (by rw [UInt64.toNat_shiftRight, u_tn ha, u_tn (by omega), u_tn (Nat.lt_of_le_of_lt (Nat.div_le_self _ _) ha), Nat.mod_eq_of_lt hk, Nat.shiftRight_eq_div_pow])
  have h2 := congrArg UInt64.toInt64 h
  exact h2
theorem g_shl {a k p : Nat} {y : Int64} (hy : y.toBitVec.smod 64 = BitVec.ofNat 64 k) (hk : k < 64) (hp : 2 ^ k = p) (ha : a < 2 ^ 64) : lN a <<< y = lN (a * p) := by
  subst hp
  apply Int64.toBitVec_inj.mp
  rw [Int64.toBitVec_shiftLeft, hy]
  apply BitVec.eq_of_toNat_eq
  have hb : (lN a).toBitVec.toNat = a := Nat.mod_eq_of_lt ha
  have hk' : (BitVec.ofNat 64 k).toNat = k := Nat.mod_eq_of_lt (by omega)
  have h : ((lN a).toBitVec <<< BitVec.ofNat 64 k).toNat = (a * 2 ^ k) % 2 ^ 64 := by simp only [BitVec.shiftLeft_eq', BitVec.toNat_shiftLeft, hb, hk', Nat.shiftLeft_eq]
  exact h
/-! ===== lN to 2^62 under >> and >>> ===== -/
theorem pf_lI {a : Nat} (h : a < 2 ^ 63) : (lN a).toInt = (a : Int) := lg_ofNat_toInt h
theorem pf_shr {a d : Nat} {D : Int64} (hD : (D.toBitVec.smod 64).toNat = d) (h : a < 2 ^ 62) : lN a >>> D = lN (a / 2 ^ d) := by
  have hd : a / 2 ^ d ≤ a := Nat.div_le_self _ _
  apply Int64.toInt_inj.mp
  have e : (lN a >>> D).toInt = (lN a).toInt >>> d := by
    rw [← hD]
    exact BitVec.toInt_sshiftRight ..
  rw [e, Int.shiftRight_eq_div_pow, pf_lI (by omega), pf_lI (by omega)]
  rfl
theorem pf_ushr {a d : Nat} {D : UInt64} (hD : D.toNat % 64 = d) (h : a < 2 ^ 62) : ((lN a).toUInt64 >>> D).toInt64 = lN (a / 2 ^ d) := by
  have hd : a / 2 ^ d ≤ a := Nat.div_le_self _ _
  have e : (lN a).toUInt64 >>> D = UInt64.ofNat (a / 2 ^ d) := UInt64.toNat_inj.mp (by
    rw [UInt64.toNat_shiftRight, hD, Nat.shiftRight_eq_div_pow, UInt64.toNat_ofNat']
    show (UInt64.ofNat a).toNat / 2 ^ d = _
    rw [UInt64.toNat_ofNat', Nat.mod_eq_of_lt (by omega), Nat.mod_eq_of_lt (by omega)])
  rw [e]
  rfl
theorem pf_andw (x : Int64) : ∃ m, m < 2 ^ 32 ∧ x &&& 4294967295 = lN m := ⟨x.toBitVec.toNat % 2 ^ 32, Nat.mod_lt _ (by decide), Int64.toBitVec_inj.mp (BitVec.eq_of_toNat_eq (by
  show (x.toBitVec &&& 4294967295#64).toNat = (BitVec.ofNat 64 (x.toBitVec.toNat % 2 ^ 32)).toNat
  rw [BitVec.toNat_and, show (4294967295#64).toNat = 2 ^ 32 - 1 from by decide, Nat.and_two_pow_sub_one_eq_mod, BitVec.toNat_ofNat]
  omega))⟩
/-! ===== Int64 as an unsigned number: uN x ===== -/
def uN (x : Int64) : Nat := x.toUInt64.toNat
theorem uN_lt (x : Int64) : uN x < 18446744073709551616 := x.toUInt64.toNat_lt
theorem uN_inj {x y : Int64} (h : uN x = uN y) : x = y := congrArg UInt64.toInt64 (UInt64.toNat_inj.mp h)
theorem uN_add (x y : Int64) : uN (x + y) = (uN x + uN y) % 18446744073709551616 := by
  show (x.toUInt64 + y.toUInt64).toNat = _
  exact UInt64.toNat_add _ _
theorem uN_mul (x y : Int64) : uN (x * y) = (uN x * uN y) % 18446744073709551616 := by
  show (x.toUInt64 * y.toUInt64).toNat = _
  exact UInt64.toNat_mul _ _
theorem uN_shl (x : Int64) : uN (x <<< ((1 : Int32).toInt64 &&& 63)) = (2 * uN x) % 18446744073709551616 := by
  have h : (((1 : Int32).toInt64 &&& 63).toBitVec.smod 64).toNat = 1 := by decide
  show (x.toBitVec <<< (((1 : Int32).toInt64 &&& 63).toBitVec.smod 64).toNat).toNat = _
  rw [h, BitVec.toNat_shiftLeft, Nat.shiftLeft_eq, Nat.mul_comm]
  rfl
theorem uN_shr (x : Int64) (s : UInt64) : uN (x.toUInt64 >>> s).toInt64 = uN x / 2 ^ (s.toNat % 64) := by
  show (x.toUInt64 >>> s).toNat = _
  rw [UInt64.toNat_shiftRight, Nat.shiftRight_eq_div_pow]
  rfl
theorem uN_s32 (x : Int64) : uN (x.toUInt64 >>> ((32 : Int32).toInt64.toUInt64 &&& Int64.toUInt64 63)).toInt64 = uN x / 4294967296 := by
  have h : ((32 : Int32).toInt64.toUInt64 &&& Int64.toUInt64 63).toNat % 64 = 32 := by decide
  rw [uN_shr, h]
theorem uN_s63 (x : Int64) : uN (x.toUInt64 >>> ((63 : Int32).toInt64.toUInt64 &&& Int64.toUInt64 63)).toInt64 = uN x / 9223372036854775808 := by
  have h : ((63 : Int32).toInt64.toUInt64 &&& Int64.toUInt64 63).toNat % 64 = 63 := by decide
  rw [uN_shr, h]
theorem uN_lo (x : Int64) : uN (x &&& 4294967295) = uN x % 4294967296 := by
  show (x.toUInt64 &&& Int64.toUInt64 4294967295).toNat = _
  rw [UInt64.toNat_and]
  exact Nat.and_two_pow_sub_one_eq_mod _ 32
theorem uN_bit (x : Int64) : (x &&& 1) = 0 ↔ uN x % 2 = 0 := by
  have h : uN (x &&& 1) = uN x % 2 := by
    show (x.toUInt64 &&& Int64.toUInt64 1).toNat = _
    rw [UInt64.toNat_and]
    exact Nat.and_two_pow_sub_one_eq_mod _ 1
  rw [← h]
  exact ⟨fun z => by rw [z]; rfl, fun z => uN_inj (z.trans rfl)⟩
theorem uN_or {x y : Int64} (hy : uN y < 2) : uN ((x <<< ((1 : Int32).toInt64 &&& 63)) ||| y) = (2 * uN x) % 18446744073709551616 + uN y := by
  have h1 : uN ((x <<< ((1 : Int32).toInt64 &&& 63)) ||| y) = uN (x <<< ((1 : Int32).toInt64 &&& 63)) ||| uN y := UInt64.toNat_or _ _
  have h2 : (2 * uN x) % 18446744073709551616 = 2 ^ 1 * (uN x % 9223372036854775808) := by omega
  rw [h1, uN_shl, h2]
  exact (Nat.two_pow_add_eq_or_of_lt (i := 1) hy _).symm
theorem nat_xor {a : Nat} (h : a < 18446744073709551616) : a ^^^ 2 ^ 63 = (a + 9223372036854775808) % 18446744073709551616 := by
  have h1 : (a ^^^ 2 ^ 63) % 2 ^ 63 = a % 2 ^ 63 := by rw [Nat.xor_mod_two_pow, Nat.mod_self, Nat.xor_zero]
  have h2 : (a ^^^ 2 ^ 63) / 2 ^ 63 = (a / 2 ^ 63) ^^^ 1 := by rw [Nat.xor_div_two_pow, Nat.div_self (Nat.two_pow_pos 63)]
  have h3 : a / 2 ^ 63 = 0 ∨ a / 2 ^ 63 = 1 := by omega
  generalize a ^^^ 2 ^ 63 = t at h1 h2
  rcases h3 with h3 | h3
  · rw [h3] at h2
    have h2 : t / 2 ^ 63 = 1 := h2
    omega
  · rw [h3] at h2
    have h2 : t / 2 ^ 63 = 0 := h2
    omega
theorem uN_xor (x : Int64) : uN (x ^^^ (-9223372036854775808)) = (uN x + 9223372036854775808) % 18446744073709551616 := by
  rw [← nat_xor (uN_lt x)]
  exact UInt64.toNat_xor _ _
theorem uN_int (x : Int64) : x.toInt = if 2 * uN x < 18446744073709551616 then (uN x : Int) else (uN x : Int) - 18446744073709551616 := BitVec.toInt_eq_toNat_cond _
theorem uN_le (x y : Int64) : (x ^^^ (-9223372036854775808)) ≤ (y ^^^ (-9223372036854775808)) ↔ uN x ≤ uN y := by
  have hx := uN_lt x
  have hy := uN_lt y
  rw [Int64.le_iff_toInt_le, uN_int, uN_int, uN_xor, uN_xor]
  omega
theorem uN_sk (x : Int64) {k : Nat} (hk : k < 64) : uN (x.toUInt64 >>> ((nI k).toInt64.toUInt64 &&& Int64.toUInt64 63)).toInt64 = uN x / 2 ^ k := by
  have h : ((nI k).toInt64.toUInt64 &&& Int64.toUInt64 63).toNat % 64 = k := by
    rw [nI_l (by omega), UInt64.toNat_and]
    have e : (lN k).toUInt64.toNat = k % 2 ^ 64 := rfl
    have e2 : (Int64.toUInt64 63).toNat = 2 ^ 6 - 1 := by decide
    rw [e, e2, Nat.and_two_pow_sub_one_eq_mod]
    omega
  rw [uN_shr, h]
/-! ===== unsigned comparison by xor with the least ===== -/
theorem lN_bv (n : Nat) : (lN n).toBitVec = BitVec.ofNat 64 n := rfl
theorem lN_nat {n : Nat} (h : n < 2 ^ 64) : (lN n).toBitVec.toNat = n := by rw [lN_bv, BitVec.toNat_ofNat]; exact Nat.mod_eq_of_lt h
theorem lN_xor (a b : Nat) : lN a ^^^ lN b = lN (a ^^^ b) := by
  apply Int64.toBitVec_inj.mp; rw [Int64.toBitVec_xor, lN_bv, lN_bv, lN_bv]; apply BitVec.eq_of_getLsbD_eq; intro i hi; simp [BitVec.getLsbD_ofNat, Nat.testBit_xor, hi]
theorem lN_ti {m : Nat} (h : m < 2 ^ 64) : (lN m).toInt = if m < 2 ^ 63 then (m : Int) else (m : Int) - 2 ^ 64 := by
  have c := BitVec.toInt_eq_toNat_cond (lN m).toBitVec
  rw [lN_nat h] at c
  show (lN m).toBitVec.toInt = _
  rw [c]
  split <;> split <;> omega
theorem xor63 {x : Nat} (h : x < 2 ^ 63) : x ^^^ 2 ^ 63 = 2 ^ 63 + x := by
  apply Nat.eq_of_testBit_eq
  intro i
  rw [Nat.testBit_xor, Nat.testBit_two_pow]
  rcases Nat.lt_trichotomy i 63 with z | z | z
  · rw [Nat.testBit_two_pow_add_gt z, decide_eq_false (by omega)]; simp
  · subst z; rw [Nat.testBit_two_pow_add_eq]; simp
  · have hp : 2 ^ 64 ≤ 2 ^ i := Nat.pow_le_pow_right (by decide) z
    rw [Nat.testBit_lt_two_pow (show x < 2 ^ i by omega), Nat.testBit_lt_two_pow (show 2 ^ 63 + x < 2 ^ i by omega), decide_eq_false (by omega)]; rfl
theorem xorS {a : Nat} (h : a < 2 ^ 64) : (lN a ^^^ (-9223372036854775808)).toInt = (a : Int) - 2 ^ 63 := by
  rw [show (-9223372036854775808 : Int64) = lN (2 ^ 63) from by decide +kernel, lN_xor]
  rcases Nat.lt_or_ge a (2 ^ 63) with z | z
  · rw [xor63 z, lN_ti (by omega), if_neg (by omega)]; omega
  · obtain ⟨x, rfl⟩ : ∃ x, a = 2 ^ 63 + x := ⟨a - 2 ^ 63, by omega⟩
    rw [← xor63 (by omega), Nat.xor_assoc, Nat.xor_self, Nat.xor_zero, lN_ti (by omega), if_pos (by omega), xor63 (by omega)]; omega
theorem ultL {a b : Nat} (ha : a < 2 ^ 64) (hb : b < 2 ^ 64) : ((lN b ^^^ (-9223372036854775808)) ≤ (lN a ^^^ (-9223372036854775808))) ↔ b ≤ a := by
  rw [Int64.le_iff_toInt_le, xorS ha, xorS hb]; omega
/-! ===== Int64 masks of n low bits ===== -/
theorem cr_bits (W U M : BitVec 64) : ((W &&& U) &&& (U &&& (M ^^^ BitVec.allOnes 64))) = 0#64 ↔ (W &&& U) &&& M = W &&& U := by
  constructor
  · intro h
    apply BitVec.eq_of_getLsbD_eq
    intro i hi
    have e := congrArg (fun x => BitVec.getLsbD x i) h
    simp only [BitVec.getLsbD_and, BitVec.getLsbD_xor, BitVec.getLsbD_allOnes, BitVec.getLsbD_zero, hi, decide_true] at e ⊢
    revert e
    cases W.getLsbD i <;> cases U.getLsbD i <;> cases M.getLsbD i <;> decide
  · intro h
    apply BitVec.eq_of_getLsbD_eq
    intro i hi
    have e := congrArg (fun x => BitVec.getLsbD x i) h
    simp only [BitVec.getLsbD_and, BitVec.getLsbD_xor, BitVec.getLsbD_allOnes, BitVec.getLsbD_zero, hi, decide_true] at e ⊢
    revert e
    cases W.getLsbD i <;> cases U.getLsbD i <;> cases M.getLsbD i <;> decide
theorem cr_mask (w U m : Int64) (n : Nat) (hm : m.toBitVec.toNat = 2 ^ n - 1) : ((w &&& U) &&& (U &&& (m ^^^ (-1)))) = 0 ↔ (w &&& U).toBitVec.toNat < 2 ^ n := by
  have e0 : (-1 : Int64).toBitVec = BitVec.allOnes 64 := by decide
  have z0 : (0 : Int64).toBitVec = 0#64 := by decide
  rw [← Int64.toBitVec_inj, z0, Int64.toBitVec_and, Int64.toBitVec_and, Int64.toBitVec_and, Int64.toBitVec_xor, e0, cr_bits]
  generalize w.toBitVec &&& U.toBitVec = T
  rw [← BitVec.toNat_inj, BitVec.toNat_and, hm, Nat.and_two_pow_sub_one_eq_mod]
  constructor
  · intro h
    have t := Nat.mod_lt T.toNat (Nat.two_pow_pos n)
    rw [h] at t
    exact t
  · exact Nat.mod_eq_of_lt
theorem cr_shr (t : Int64) (x : UInt64) (n : Nat) (hx : x.toNat % 64 = n) : (t.toUInt64 >>> x).toInt64 = 0 ↔ t.toBitVec.toNat < 2 ^ n := by
  rw [← Int64.toBitVec_inj, ← BitVec.toNat_inj]
  show (t.toUInt64 >>> x).toNat = 0 ↔ t.toUInt64.toNat < 2 ^ n
  rw [UInt64.toNat_shiftRight, hx, Nat.shiftRight_eq_div_pow]
  constructor
  · intro h
    have d : t.toUInt64.toNat / 2 ^ n < 1 := by
      rw [h]
      decide
    have e := (Nat.div_lt_iff_lt_mul (Nat.two_pow_pos n)).mp d
    rw [Nat.one_mul] at e
    exact e
  · exact Nat.div_eq_of_lt
theorem cr_amt (s : Int64) : ∃ n, n < 64 ∧ s &&& 63 = lN n ∧ (s.toUInt64 &&& Int64.toUInt64 63).toNat % 64 = n := by
  have e : (s.toUInt64 &&& Int64.toUInt64 63).toNat = s.toUInt64.toNat % 2 ^ 6 := by
    rw [UInt64.toNat_and, show (Int64.toUInt64 63).toNat = 2 ^ 6 - 1 from by decide, Nat.and_two_pow_sub_one_eq_mod]
  refine ⟨s.toUInt64.toNat % 2 ^ 6, by omega, ?_, by omega⟩
  rw [← Int64.toBitVec_inj, ← BitVec.toNat_inj]
  show (s.toUInt64 &&& Int64.toUInt64 63).toNat = (BitVec.ofNat 64 (s.toUInt64.toNat % 2 ^ 6)).toNat
  rw [e, BitVec.toNat_ofNat]
  omega
end
section
/-- digit k of a number, 0 or 1 -/
def pd_d (m k : Nat) : Nat := (m.testBit k).toNat
theorem pd_d_def (m k : Nat) : pd_d m k = m / 2 ^ k % 2 := by
  unfold pd_d; exact Nat.toNat_testBit m k
theorem pd_d_le (m k : Nat) : pd_d m k ≤ 1 := by
  unfold pd_d; cases m.testBit k <;> decide
theorem pd_d_01 (m k : Nat) : pd_d m k = 0 ∨ pd_d m k = 1 := by
  unfold pd_d; cases m.testBit k <;> decide
theorem pd_d_t {m k : Nat} : pd_d m k = 1 ↔ m.testBit k = true := by
  unfold pd_d; cases m.testBit k <;> decide
theorem pd_d_f {m k : Nat} : pd_d m k = 0 ↔ m.testBit k = false := by
  unfold pd_d; cases m.testBit k <;> decide
theorem pd_d_xor (a b k : Nat) : pd_d (a ^^^ b) k + 2 * (pd_d a k * pd_d b k) = pd_d a k + pd_d b k := by
  unfold pd_d; rw [Nat.testBit_xor]; cases a.testBit k <;> cases b.testBit k <;> decide
theorem pd_d_xor' (a b k : Nat) : pd_d (a ^^^ b) k = (pd_d a k + pd_d b k) % 2 := by
  unfold pd_d; rw [Nat.testBit_xor]; cases a.testBit k <;> cases b.testBit k <;> decide
theorem pd_d_and (a b k : Nat) : pd_d (a &&& b) k = pd_d a k * pd_d b k := by
  unfold pd_d; rw [Nat.testBit_and]; cases a.testBit k <;> cases b.testBit k <;> decide
theorem pd_d_pow (q k : Nat) : pd_d (2 ^ q) k = if q = k then 1 else 0 := by
  unfold pd_d; rw [Nat.testBit_two_pow]; by_cases h : q = k <;> simp [h]
theorem pd_d_0 (k : Nat) : pd_d 0 k = 0 := by
  unfold pd_d; rw [Nat.zero_testBit]; rfl
theorem pd_d_lt {m k : Nat} (h : m < 2 ^ k) : pd_d m k = 0 := pd_d_f.mpr (Nat.testBit_lt_two_pow h)
theorem pd_d_ge {m n k : Nat} (h : m < 2 ^ n) (hk : n ≤ k) : pd_d m k = 0 :=
  pd_d_lt (Nat.lt_of_lt_of_le h (Nat.pow_le_pow_right (by decide) hk))
theorem pd_d_ext {a b : Nat} (h : ∀ k, pd_d a k = pd_d b k) : a = b := by
  apply Nat.eq_of_testBit_eq
  intro k
  have := h k
  unfold pd_d at this
  revert this
  cases a.testBit k <;> cases b.testBit k <;> decide
theorem pd_d_ext_lt {a b n : Nat} (ha : a < 2 ^ n) (hb : b < 2 ^ n) (h : ∀ k, k < n → pd_d a k = pd_d b k) : a = b := by
  apply pd_d_ext
  intro k
  by_cases hk : k < n
  · exact h k hk
  · rw [pd_d_ge ha (by omega), pd_d_ge hb (by omega)]
theorem pd_lt_of_d {a n N : Nat} (ha : a < 2 ^ N) (h : ∀ k, n ≤ k → k < N → pd_d a k = 0) : a < 2 ^ n := by
  apply Nat.lt_pow_two_of_testBit
  intro i hi
  by_cases hN : i < N
  · exact pd_d_f.mp (h i hi hN)
  · exact pd_d_f.mp (pd_d_ge ha (by omega))
/-- the number of digits 1 among the first ten -/
def pd_on (m : Nat) : Nat := pd_d m 0 + pd_d m 1 + pd_d m 2 + pd_d m 3 + pd_d m 4 + pd_d m 5 + pd_d m 6 + pd_d m 7 + pd_d m 8 + pd_d m 9
theorem pd_on_0 : pd_on 0 = 0 := by decide
theorem pd_on_le (m : Nat) : pd_on m ≤ 10 := by
  unfold pd_on
  have := pd_d_le m
  have h0 := this 0; have h1 := this 1; have h2 := this 2; have h3 := this 3; have h4 := this 4
  have h5 := this 5; have h6 := this 6; have h7 := this 7; have h8 := this 8; have h9 := this 9
  omega
theorem pd_on5 {m : Nat} (h : m < 32) : pd_on m = pd_d m 0 + pd_d m 1 + pd_d m 2 + pd_d m 3 + pd_d m 4 := by
  unfold pd_on
  have g : ∀ k, 5 ≤ k → pd_d m k = 0 := fun k hk => pd_d_ge (n := 5) h hk
  rw [g 5 (by decide), g 6 (by decide), g 7 (by decide), g 8 (by decide), g 9 (by decide)]
  omega
theorem pd_on_xor (a b : Nat) : pd_on (a ^^^ b) + 2 * pd_on (a &&& b) = pd_on a + pd_on b := by
  unfold pd_on
  have h : ∀ k, pd_d (a ^^^ b) k + 2 * pd_d (a &&& b) k = pd_d a k + pd_d b k := by
    intro k; rw [pd_d_and]; exact pd_d_xor a b k
  have h0 := h 0; have h1 := h 1; have h2 := h 2; have h3 := h 3; have h4 := h 4
  have h5 := h 5; have h6 := h 6; have h7 := h 7; have h8 := h 8; have h9 := h 9
  omega
theorem pd_on_comm (a b : Nat) : pd_on (a &&& b) = pd_on (b &&& a) := by rw [Nat.and_comm]
/-- the dot product's parity is additive on either side -/
theorem pd_lin_l (a b c : Nat) : pd_on ((a ^^^ b) &&& c) % 2 = (pd_on (a &&& c) + pd_on (b &&& c)) % 2 := by
  rw [Nat.and_xor_distrib_right]
  have := pd_on_xor (a &&& c) (b &&& c)
  omega
theorem pd_lin_r (a b c : Nat) : pd_on (a &&& (b ^^^ c)) % 2 = (pd_on (a &&& b) + pd_on (a &&& c)) % 2 := by
  rw [Nat.and_xor_distrib_left]
  have := pd_on_xor (a &&& b) (a &&& c)
  omega
theorem pd_and_pow (m q : Nat) : m &&& 2 ^ q = pd_d m q * 2 ^ q := by
  apply pd_d_ext
  intro k
  rw [pd_d_and, pd_d_pow]
  by_cases h : q = k
  · subst h
    rcases pd_d_01 m q with e | e
    · rw [e, if_pos rfl, Nat.zero_mul, Nat.zero_mul, pd_d_0]
    · rw [e, if_pos rfl, Nat.one_mul, Nat.one_mul, pd_d_pow, if_pos rfl]
  · rw [if_neg h, Nat.mul_zero]
    rcases pd_d_01 m q with e | e
    · rw [e, Nat.zero_mul, pd_d_0]
    · rw [e, Nat.one_mul, pd_d_pow, if_neg h]
theorem pd_on_pow {q : Nat} (h : q < 10) : pd_on (2 ^ q) = 1 := by
  have : ∀ q, q < 10 → pd_on (2 ^ q) = 1 := by decide
  exact this q h
theorem pd_on_dpow {q : Nat} (e : Nat) (h : q < 10) (he : e ≤ 1) : pd_on (e * 2 ^ q) = e := by
  have : e = 0 ∨ e = 1 := by omega
  rcases this with rfl | rfl
  · rw [Nat.zero_mul, pd_on_0]
  · rw [Nat.one_mul, pd_on_pow h]
theorem pd_on_and_pow (m : Nat) {q : Nat} (h : q < 10) : pd_on (m &&& 2 ^ q) = pd_d m q := by
  rw [pd_and_pow, pd_on_dpow _ h (pd_d_le m q)]
theorem pd_on_and_dpow (m : Nat) {q : Nat} (e : Nat) (h : q < 10) (he : e ≤ 1) : pd_on (m &&& (e * 2 ^ q)) = e * pd_d m q := by
  have : e = 0 ∨ e = 1 := by omega
  rcases this with rfl | rfl
  · rw [Nat.zero_mul, Nat.and_zero, pd_on_0, Nat.zero_mul]
  · rw [Nat.one_mul, pd_on_and_pow m h, Nat.one_mul]
theorem pd_xor_lt {n a b : Nat} (ha : a < 2 ^ n) (hb : b < 2 ^ n) : a ^^^ b < 2 ^ n := Nat.xor_lt_two_pow ha hb
theorem pd_xor32 {a b : Nat} (ha : a < 32) (hb : b < 32) : a ^^^ b < 32 := Nat.xor_lt_two_pow (n := 5) ha hb
theorem pd_xor1024 {a b : Nat} (ha : a < 1024) (hb : b < 1024) : a ^^^ b < 1024 := Nat.xor_lt_two_pow (n := 10) ha hb
theorem pd_and32 {a b : Nat} (ha : a < 32) : a &&& b < 32 := Nat.lt_of_le_of_lt Nat.and_le_left ha
theorem pd_and32' {a b : Nat} (hb : b < 32) : a &&& b < 32 := Nat.lt_of_le_of_lt Nat.and_le_right hb
theorem pd_xx (a b : Nat) : (a ^^^ b) ^^^ b = a := by rw [Nat.xor_assoc, Nat.xor_self, Nat.xor_zero]
theorem pd_xx' (a b : Nat) : (a ^^^ b) ^^^ a = b := by rw [Nat.xor_comm a b]; exact pd_xx b a
theorem pd_xr (a b c : Nat) : (a ^^^ b) ^^^ c = (a ^^^ c) ^^^ b := by
  rw [Nat.xor_assoc, Nat.xor_comm b c, ← Nat.xor_assoc]
theorem pd_xor_eq0 {a b : Nat} (h : a ^^^ b = 0) : a = b := by
  have := pd_xx a b
  rw [h, Nat.zero_xor] at this
  exact this.symm
/-- two masks of five digits side by side -/
theorem pd_d32 {z : Nat} (x : Nat) (hz : z < 32) (k : Nat) : pd_d (32 * x + z) k = if k < 5 then pd_d z k else pd_d x (k - 5) := by
  unfold pd_d
  have := Nat.testBit_two_pow_mul_add x (b := z) (i := 5) hz k
  rw [show (32 : Nat) = 2 ^ 5 from rfl, this]
  by_cases h : k < 5 <;> simp [h]
theorem pd_and_32 {x z u v : Nat} (hz : z < 32) (hv : v < 32) : (32 * x + z) &&& (32 * u + v) = 32 * (x &&& u) + (z &&& v) := by
  apply pd_d_ext
  intro k
  rw [pd_d_and, pd_d32 x hz, pd_d32 u hv, pd_d32 _ (pd_and32 hz)]
  by_cases h : k < 5
  · rw [if_pos h, if_pos h, if_pos h, pd_d_and]
  · rw [if_neg h, if_neg h, if_neg h, pd_d_and]
theorem pd_xor_32 {x z u v : Nat} (hz : z < 32) (hv : v < 32) : (32 * x + z) ^^^ (32 * u + v) = 32 * (x ^^^ u) + (z ^^^ v) := by
  apply pd_d_ext
  intro k
  rw [pd_d_xor', pd_d32 x hz, pd_d32 u hv, pd_d32 _ (pd_xor32 hz hv)]
  by_cases h : k < 5
  · rw [if_pos h, if_pos h, if_pos h, pd_d_xor']
  · rw [if_neg h, if_neg h, if_neg h, pd_d_xor']
theorem pd_on_32 {x z : Nat} (hx : x < 32) (hz : z < 32) : pd_on (32 * x + z) = pd_on x + pd_on z := by
  have h := pd_d32 x hz
  rw [pd_on5 hx, pd_on5 hz]
  unfold pd_on
  rw [h 0, h 1, h 2, h 3, h 4, h 5, h 6, h 7, h 8, h 9]
  simp only [show (0 : Nat) < 5 from by decide, show (1 : Nat) < 5 from by decide, show (2 : Nat) < 5 from by decide, show (3 : Nat) < 5 from by decide, show (4 : Nat) < 5 from by decide, show ¬ (5 : Nat) < 5 from by decide, show ¬ (6 : Nat) < 5 from by decide, show ¬ (7 : Nat) < 5 from by decide, show ¬ (8 : Nat) < 5 from by decide, show ¬ (9 : Nat) < 5 from by decide, if_true, if_false]
  simp only [show 5 - 5 = 0 from rfl, show 6 - 5 = 1 from rfl, show 7 - 5 = 2 from rfl, show 8 - 5 = 3 from rfl, show 9 - 5 = 4 from rfl]
  omega
theorem pd_on_and_32 {x z u v : Nat} (hx : x < 32) (hz : z < 32) (hv : v < 32) : pd_on ((32 * x + z) &&& (32 * u + v)) = pd_on (x &&& u) + pd_on (z &&& v) := by
  rw [pd_and_32 hz hv, pd_on_32 (pd_and32 hx) (pd_and32 hz)]
theorem pd_split32 {c : Nat} (h : c < 1024) : ∃ x z, x < 32 ∧ z < 32 ∧ c = 32 * x + z :=
  ⟨c / 32, c % 32, by omega, by omega, by omega⟩
/-- 1 if two products do not commute -/
def pd_cl (x z u v : Nat) : Nat := (pd_on (x &&& v) + pd_on (z &&& u)) % 2
theorem pd_cl_comm (x z u v : Nat) : pd_cl x z u v = pd_cl u v x z := by
  unfold pd_cl; rw [pd_on_comm x v, pd_on_comm z u, Nat.add_comm]
theorem pd_cl_01 (x z u v : Nat) : pd_cl x z u v = 0 ∨ pd_cl x z u v = 1 := by unfold pd_cl; omega
theorem pd_cl_lt (x z u v : Nat) : pd_cl x z u v < 2 := by unfold pd_cl; omega
theorem pd_cl_self (x z : Nat) : pd_cl x z x z = 0 := by
  unfold pd_cl; rw [pd_on_comm z x]; omega
theorem pd_cl_xor_r (x z u v u' v' : Nat) : pd_cl x z (u ^^^ u') (v ^^^ v') = (pd_cl x z u v + pd_cl x z u' v') % 2 := by
  unfold pd_cl
  have h1 := pd_lin_r x v v'
  have h2 := pd_lin_r z u u'
  omega
theorem pd_cl_xor_l (x z x' z' u v : Nat) : pd_cl (x ^^^ x') (z ^^^ z') u v = (pd_cl x z u v + pd_cl x' z' u v) % 2 := by
  rw [pd_cl_comm, pd_cl_xor_r, pd_cl_comm u v x z, pd_cl_comm u v x' z']
theorem pd_cl_0 (x z : Nat) : pd_cl x z 0 0 = 0 := by
  unfold pd_cl; rw [Nat.and_zero, Nat.and_zero, pd_on_0]
theorem pd_cl_0l (x z : Nat) : pd_cl 0 0 x z = 0 := by rw [pd_cl_comm, pd_cl_0]
theorem pd_cl_x {q : Nat} (h : q < 10) (u v : Nat) : pd_cl (2 ^ q) 0 u v = pd_d v q := by
  unfold pd_cl
  rw [Nat.zero_and, pd_on_0, pd_on_comm, pd_on_and_pow v h]
  have := pd_d_le v q
  omega
theorem pd_cl_z {q : Nat} (h : q < 10) (u v : Nat) : pd_cl 0 (2 ^ q) u v = pd_d u q := by
  unfold pd_cl
  rw [Nat.zero_and, pd_on_0, pd_on_comm, pd_on_and_pow u h]
  have := pd_d_le u q
  omega
end
section
/-- a number of the Gaussian kind times i to the k -/
def pd_ph (k : Nat) (v : Int × Int) : Int × Int :=
  if k % 4 = 0 then v else if k % 4 = 1 then (-v.2, v.1) else if k % 4 = 2 then (-v.1, -v.2) else (v.2, -v.1)
theorem pd_ph_cg {k l : Nat} (v : Int × Int) (h : k % 4 = l % 4) : pd_ph k v = pd_ph l v := by
  unfold pd_ph; rw [h]
theorem pd_ph_0 {k : Nat} (v : Int × Int) (h : k % 4 = 0) : pd_ph k v = v := by
  unfold pd_ph; rw [if_pos h]
theorem pd_ph_1 {k : Nat} (v : Int × Int) (h : k % 4 = 1) : pd_ph k v = (-v.2, v.1) := by
  unfold pd_ph; rw [if_neg (by omega), if_pos h]
theorem pd_ph_2 {k : Nat} (v : Int × Int) (h : k % 4 = 2) : pd_ph k v = (-v.1, -v.2) := by
  unfold pd_ph; rw [if_neg (by omega), if_neg (by omega), if_pos h]
theorem pd_ph_3 {k : Nat} (v : Int × Int) (h : k % 4 = 3) : pd_ph k v = (v.2, -v.1) := by
  unfold pd_ph; rw [if_neg (by omega), if_neg (by omega), if_neg (by omega)]
theorem pd_mod4 (k : Nat) : k % 4 = 0 ∨ k % 4 = 1 ∨ k % 4 = 2 ∨ k % 4 = 3 := by omega
theorem pd_ph_add (k l : Nat) (v : Int × Int) : pd_ph k (pd_ph l v) = pd_ph (k + l) v := by
  rcases pd_mod4 k with hk | hk | hk | hk <;> rcases pd_mod4 l with hl | hl | hl | hl
  · rw [pd_ph_0 _ hk, pd_ph_0 _ hl, pd_ph_0 _ (by omega)]
  · rw [pd_ph_0 _ hk, pd_ph_1 _ hl, pd_ph_1 _ (by omega)]
  · rw [pd_ph_0 _ hk, pd_ph_2 _ hl, pd_ph_2 _ (by omega)]
  · rw [pd_ph_0 _ hk, pd_ph_3 _ hl, pd_ph_3 _ (by omega)]
  · rw [pd_ph_1 _ hk, pd_ph_0 _ hl, pd_ph_1 _ (by omega)]
  · rw [pd_ph_1 _ hk, pd_ph_1 _ hl, pd_ph_2 _ (by omega)]
  · rw [pd_ph_1 _ hk, pd_ph_2 _ hl, pd_ph_3 _ (by omega)]; simp only [Int.neg_neg]
  · rw [pd_ph_1 _ hk, pd_ph_3 _ hl, pd_ph_0 _ (by omega)]; simp only [Int.neg_neg]
  · rw [pd_ph_2 _ hk, pd_ph_0 _ hl, pd_ph_2 _ (by omega)]
  · rw [pd_ph_2 _ hk, pd_ph_1 _ hl, pd_ph_3 _ (by omega)]; simp only [Int.neg_neg]
  · rw [pd_ph_2 _ hk, pd_ph_2 _ hl, pd_ph_0 _ (by omega)]; simp only [Int.neg_neg]
  · rw [pd_ph_2 _ hk, pd_ph_3 _ hl, pd_ph_1 _ (by omega)]; simp only [Int.neg_neg]
  · rw [pd_ph_3 _ hk, pd_ph_0 _ hl, pd_ph_3 _ (by omega)]
  · rw [pd_ph_3 _ hk, pd_ph_1 _ hl, pd_ph_0 _ (by omega)]; simp only [Int.neg_neg]
  · rw [pd_ph_3 _ hk, pd_ph_2 _ hl, pd_ph_1 _ (by omega)]; simp only [Int.neg_neg]
  · rw [pd_ph_3 _ hk, pd_ph_3 _ hl, pd_ph_2 _ (by omega)]
theorem pd_ph_z (k : Nat) : pd_ph k (0, 0) = (0, 0) := by
  rcases pd_mod4 k with hk | hk | hk | hk
  · rw [pd_ph_0 _ hk]
  · rw [pd_ph_1 _ hk]; rfl
  · rw [pd_ph_2 _ hk]; rfl
  · rw [pd_ph_3 _ hk]; rfl
theorem pd_ph_back {k : Nat} {v w : Int × Int} (h : v = pd_ph k w) : w = pd_ph (3 * k) v := by
  rw [h, pd_ph_add, pd_ph_0 _ (by omega)]
theorem pd_ph_nz {k : Nat} {v : Int × Int} (h : v ≠ (0, 0)) : pd_ph k v ≠ (0, 0) := by
  intro e
  apply h
  have := pd_ph_back (k := k) (v := pd_ph k v) (w := v) rfl
  rw [this, e, pd_ph_z]
/-- a number other than 0 tells the powers of i apart -/
theorem pd_ph_fix {k : Nat} {v : Int × Int} (h : v ≠ (0, 0)) (e : pd_ph k v = v) : k % 4 = 0 := by
  rcases pd_mod4 k with hk | hk | hk | hk
  · exact hk
  all_goals exfalso; apply h
  · rw [pd_ph_1 _ hk] at e
    have e1 := congrArg Prod.fst e
    have e2 := congrArg Prod.snd e
    simp only at e1 e2
    have : v.1 = 0 := by omega
    have : v.2 = 0 := by omega
    apply Prod.ext <;> simp only <;> assumption
  · rw [pd_ph_2 _ hk] at e
    have e1 := congrArg Prod.fst e
    have e2 := congrArg Prod.snd e
    simp only at e1 e2
    have : v.1 = 0 := by omega
    have : v.2 = 0 := by omega
    apply Prod.ext <;> simp only <;> assumption
  · rw [pd_ph_3 _ hk] at e
    have e1 := congrArg Prod.fst e
    have e2 := congrArg Prod.snd e
    simp only at e1 e2
    have : v.1 = 0 := by omega
    have : v.2 = 0 := by omega
    apply Prod.ext <;> simp only <;> assumption
theorem pd_ph_inj {k l : Nat} {v : Int × Int} (h : v ≠ (0, 0)) (e : pd_ph k v = pd_ph l v) : k % 4 = l % 4 := by
  have e2 : pd_ph (3 * l) (pd_ph k v) = pd_ph (3 * l) (pd_ph l v) := congrArg (pd_ph (3 * l)) e
  rw [pd_ph_add, pd_ph_add, pd_ph_0 (k := 3 * l + l) _ (by omega)] at e2
  have := pd_ph_fix h e2
  omega
/-- i^p times all x of X and then all z of Z leaves the vector V of 2^N numbers as it is -/
def pd_Fx (N p X Z : Nat) (V : Nat → Int × Int) : Prop := ∀ b, b < 2 ^ N → V (b ^^^ X) = pd_ph (p + 2 * pd_on (b &&& Z)) (V b)
def pd_Nz (N : Nat) (V : Nat → Int × Int) : Prop := ∃ b, b < 2 ^ N ∧ V b ≠ (0, 0)
theorem pd_Fx_cg {N p p' X Z : Nat} {V : Nat → Int × Int} (h : pd_Fx N p X Z V) (e : p % 4 = p' % 4) : pd_Fx N p' X Z V := by
  intro b hb
  rw [h b hb]
  exact pd_ph_cg _ (by omega)
theorem pd_Fx_0 (N : Nat) (V : Nat → Int × Int) : pd_Fx N 0 0 0 V := by
  intro b hb
  rw [Nat.xor_zero, Nat.and_zero, pd_on_0, pd_ph_0 _ rfl]
theorem pd_Fx_mul {N p1 X1 Z1 p2 X2 Z2 : Nat} {V : Nat → Int × Int} (h1 : pd_Fx N p1 X1 Z1 V) (h2 : pd_Fx N p2 X2 Z2 V) (hX : X2 < 2 ^ N) :
    pd_Fx N (p1 + p2 + 2 * pd_on (Z1 &&& X2)) (X1 ^^^ X2) (Z1 ^^^ Z2) V := by
  intro b hb
  have e1 := h1 (b ^^^ X2) (pd_xor_lt hb hX)
  rw [h2 b hb, pd_ph_add] at e1
  rw [Nat.xor_comm X1 X2, ← Nat.xor_assoc, e1]
  apply pd_ph_cg
  have a1 := pd_lin_l b X2 Z1
  have a2 := pd_lin_r b Z1 Z2
  rw [pd_on_comm X2 Z1] at a1
  omega
/-- what leaves one vector as it is commutes -/
theorem pd_Fx_comm {N p1 X1 Z1 p2 X2 Z2 : Nat} {V : Nat → Int × Int} (hV : pd_Nz N V) (h1 : pd_Fx N p1 X1 Z1 V) (h2 : pd_Fx N p2 X2 Z2 V) (hX1 : X1 < 2 ^ N) (hX2 : X2 < 2 ^ N) :
    pd_cl X1 Z1 X2 Z2 = 0 := by
  obtain ⟨b, hb, hn⟩ := hV
  have e1 := pd_Fx_mul h1 h2 hX2 b hb
  have e2 := pd_Fx_mul h2 h1 hX1 b hb
  rw [Nat.xor_comm X2 X1, Nat.xor_comm Z2 Z1, e1] at e2
  have := pd_ph_inj hn e2
  unfold pd_cl
  rw [pd_on_comm X1 Z2]
  omega
theorem pd_Fx_even {N p X Z : Nat} {V : Nat → Int × Int} (hV : pd_Nz N V) (h : pd_Fx N p X Z V) (hX : X < 2 ^ N) : (p + pd_on (X &&& Z)) % 2 = 0 := by
  obtain ⟨b, hb, hn⟩ := hV
  have e := pd_Fx_mul h h hX b hb
  rw [Nat.xor_self, Nat.xor_self, Nat.and_zero, pd_on_0, Nat.xor_zero] at e
  have := pd_ph_fix hn e.symm
  rw [pd_on_comm X Z]
  omega
theorem pd_Fx_uniq {N p p' X Z : Nat} {V : Nat → Int × Int} (hV : pd_Nz N V) (h : pd_Fx N p X Z V) (h' : pd_Fx N p' X Z V) : p % 4 = p' % 4 := by
  obtain ⟨b, hb, hn⟩ := hV
  have e := h b hb
  rw [h' b hb] at e
  have := pd_ph_inj hn e
  omega
/-- the sign that is read off a power of i -/
theorem pd_Fx_sign {N p X Z : Nat} {V : Nat → Int × Int} (hV : pd_Nz N V) (h : pd_Fx N p X Z V) (hX : X < 2 ^ N) :
    pd_Fx N (pd_on (X &&& Z) + 2 * ((p + 12 - pd_on (X &&& Z)) % 4 / 2)) X Z V := by
  have := pd_Fx_even hV h hX
  have hle := pd_on_le (X &&& Z)
  exact pd_Fx_cg h (by omega)
/-- a set of masks that is closed under sums and misses w lies within a plane that misses w -/
theorem pd_dual : ∀ (N : Nat), N ≤ 10 → ∀ (S : Nat → Prop), S 0 → (∀ a b, S a → S b → S (a ^^^ b)) → ∀ w, w < 2 ^ N → ¬ S w →
    ∃ z, z < 2 ^ N ∧ (∀ s, s < 2 ^ N → S s → pd_on (z &&& s) % 2 = 0) ∧ pd_on (z &&& w) % 2 = 1 := by
  intro N
  induction N with
  | zero =>
    intro _ S h0 _ w hw hS
    have : w = 0 := by omega
    rw [this] at hS
    exact absurd h0 hS
  | succ N ih =>
    intro hN S h0 hadd w hw hS
    have hN' : N < 10 := by omega
    have hp : (2 : Nat) ^ (N + 1) = 2 ^ N + 2 ^ N := by rw [Nat.pow_succ]; omega
    have low : ∀ {a}, a < 2 ^ (N + 1) → pd_d a N = 0 → a < 2 ^ N := by
      intro a ha h
      apply pd_lt_of_d ha
      intro k hk hk'
      have : k = N := by omega
      rw [this]; exact h
    have top : ∀ {a b}, pd_d a N = 1 → pd_d b N = 1 → pd_d (a ^^^ b) N = 0 := by
      intro a b ha hb
      rw [pd_d_xor', ha, hb]
    by_cases ex : ∃ s, s < 2 ^ (N + 1) ∧ S s ∧ pd_d s N = 1
    · obtain ⟨s0, hs0, hS0, ht⟩ := ex
      -- w without its top digit
      have key : ∀ w', w' < 2 ^ N → ¬ S w' → ∃ z, z < 2 ^ (N + 1) ∧ (∀ s, s < 2 ^ (N + 1) → S s → pd_on (z &&& s) % 2 = 0) ∧ pd_on (z &&& w') % 2 = 1 := by
        intro w' hw' hSw'
        obtain ⟨z', hz', hz1, hz2⟩ := ih (by omega) S h0 hadd w' hw' hSw'
        refine ⟨z' ^^^ ((pd_on (z' &&& s0) % 2) * 2 ^ N), ?_, ?_, ?_⟩
        · apply pd_xor_lt
          · omega
          · have : pd_on (z' &&& s0) % 2 = 0 ∨ pd_on (z' &&& s0) % 2 = 1 := by omega
            rcases this with e | e <;> rw [e] <;> omega
        · intro s hs hSs
          have l := pd_lin_l z' ((pd_on (z' &&& s0) % 2) * 2 ^ N) s
          rw [pd_on_comm (pd_on (z' &&& s0) % 2 * 2 ^ N) s, pd_on_and_dpow s _ hN' (by omega)] at l
          rcases pd_d_01 s N with e | e
          · have := hz1 s (low hs e) hSs
            rw [e, Nat.mul_zero] at l
            omega
          · have h3 := hz1 (s ^^^ s0) (low (pd_xor_lt hs hs0) (top e ht)) (hadd _ _ hSs hS0)
            have h4 := pd_lin_r z' s s0
            rw [e, Nat.mul_one] at l
            omega
        · have l := pd_lin_l z' ((pd_on (z' &&& s0) % 2) * 2 ^ N) w'
          rw [pd_on_comm (pd_on (z' &&& s0) % 2 * 2 ^ N) w', pd_on_and_dpow w' _ hN' (by omega), pd_d_lt hw', Nat.mul_zero] at l
          omega
      rcases pd_d_01 w N with e | e
      · exact key w (low hw e) hS
      · obtain ⟨z, hz, h1, h2⟩ := key (w ^^^ s0) (low (pd_xor_lt hw hs0) (top e ht)) (fun h => hS (by
          have := hadd _ _ h hS0
          rw [pd_xx] at this
          exact this))
        refine ⟨z, hz, h1, ?_⟩
        have h3 := h1 s0 hs0 hS0
        have h4 := pd_lin_r z w s0
        omega
    · have no : ∀ s, s < 2 ^ (N + 1) → S s → s < 2 ^ N := by
        intro s hs hSs
        rcases pd_d_01 s N with e | e
        · exact low hs e
        · exact absurd ⟨s, hs, hSs, e⟩ ex
      rcases pd_d_01 w N with e | e
      · obtain ⟨z', hz', hz1, hz2⟩ := ih (by omega) S h0 hadd w (low hw e) hS
        exact ⟨z', by omega, fun s hs hSs => hz1 s (no s hs hSs) hSs, hz2⟩
      · refine ⟨2 ^ N, by omega, ?_, ?_⟩
        · intro s hs hSs
          rw [pd_on_comm, pd_on_and_pow s hN', pd_d_lt (no s hs hSs)]
        · rw [pd_on_comm, pd_on_and_pow w hN', e]
/-- whatever commutes with all that leaves V as it is leaves V as it is up to a power of i -/
def pd_Max (N : Nat) (V : Nat → Int × Int) : Prop :=
  ∀ X Z, X < 2 ^ N → Z < 2 ^ N → (∀ p' X' Z', X' < 2 ^ N → Z' < 2 ^ N → pd_Fx N p' X' Z' V → pd_cl X Z X' Z' = 0) → ∃ p, pd_Fx N p X Z V
/-- from one number of V that isn't 0 to another there is a product that leaves V as it is -/
theorem pd_reach {N : Nat} (hN : N ≤ 10) {V : Nat → Int × Int} (hM : pd_Max N V) {b c : Nat} (hb : b < 2 ^ N) (hc : c < 2 ^ N) (nb : V b ≠ (0, 0)) (nc : V c ≠ (0, 0)) :
    ∃ p Z, Z < 2 ^ N ∧ pd_Fx N p (b ^^^ c) Z V := by
  apply Classical.byContradiction
  intro hno
  obtain ⟨z, hz, h1, h2⟩ := pd_dual N hN (fun X => ∃ p Z, X < 2 ^ N ∧ Z < 2 ^ N ∧ pd_Fx N p X Z V)
    ⟨0, 0, Nat.two_pow_pos N, Nat.two_pow_pos N, pd_Fx_0 N V⟩
    (fun a a' ⟨p, Z, ha, hZ, h⟩ ⟨p', Z', ha', hZ', h'⟩ => ⟨_, _, pd_xor_lt ha ha', pd_xor_lt hZ hZ', pd_Fx_mul h h' ha'⟩)
    (b ^^^ c) (pd_xor_lt hb hc) (fun ⟨p, Z, _, hZ, h⟩ => hno ⟨p, Z, hZ, h⟩)
  obtain ⟨p, hp⟩ := hM 0 z (Nat.two_pow_pos N) hz (fun p' X' Z' hX' hZ' h' => by
    have := h1 X' hX' ⟨p', Z', hX', hZ', h'⟩
    unfold pd_cl
    rw [Nat.zero_and, pd_on_0]
    omega)
  have eb := hp b hb
  have ec := hp c hc
  rw [Nat.xor_zero] at eb ec
  have fb := pd_ph_fix nb eb.symm
  have fc := pd_ph_fix nc ec.symm
  have l := pd_lin_r z b c
  rw [pd_on_comm b z] at fb
  rw [pd_on_comm c z] at fc
  omega
theorem pd_units {N : Nat} (hN : N ≤ 10) {V : Nat → Int × Int} (hM : pd_Max N V) {b c : Nat} (hb : b < 2 ^ N) (hc : c < 2 ^ N) (nb : V b ≠ (0, 0)) (nc : V c ≠ (0, 0)) :
    ∃ e, V c = pd_ph e (V b) := by
  obtain ⟨p, Z, _, h⟩ := pd_reach hN hM hb hc nb nc
  have := h b hb
  rw [← Nat.xor_assoc, Nat.xor_self, Nat.zero_xor] at this
  exact ⟨_, this⟩
end
section
/-- as many different numbers below n as n are all of them -/
theorem pd_php : ∀ (n : Nat) (f : Nat → Nat), (∀ i, i < n → f i < n) → (∀ i j, i < n → j < n → f i = f j → i = j) → ∀ y, y < n → ∃ i, i < n ∧ f i = y := by
  intro n
  induction n with
  | zero => intro f _ _ y hy; omega
  | succ n ih =>
    intro f hf hi y hy
    have hg : ∀ i, i < n → (if f i = n then f n else f i) < n := by
      intro i h
      have h1 := hf i (by omega)
      have h2 := hf n (by omega)
      by_cases e : f i = n
      · rw [if_pos e]
        have : f n ≠ n := fun e2 => by
          have := hi i n (by omega) (by omega) (e.trans e2.symm)
          omega
        omega
      · rw [if_neg e]; omega
    have hgi : ∀ i j, i < n → j < n → (if f i = n then f n else f i) = (if f j = n then f n else f j) → i = j := by
      intro i j h h' e
      by_cases a : f i = n <;> by_cases b : f j = n
      · exact hi i j (by omega) (by omega) (a.trans b.symm)
      · rw [if_pos a, if_neg b] at e
        have := hi n j (by omega) (by omega) e
        omega
      · rw [if_neg a, if_pos b] at e
        have := hi i n (by omega) (by omega) e
        omega
      · rw [if_neg a, if_neg b] at e
        exact hi i j (by omega) (by omega) e
    by_cases hy1 : y = f n
    · exact ⟨n, by omega, hy1.symm⟩
    by_cases hy2 : y = n
    · obtain ⟨i, h, e⟩ := ih (fun i => if f i = n then f n else f i) hg hgi (f n) (by have := hf n (by omega); omega)
      have e : (if f i = n then f n else f i) = f n := e
      by_cases a : f i = n
      · exact ⟨i, by omega, by omega⟩
      · rw [if_neg a] at e
        have := hi i n (by omega) (by omega) e
        omega
    · obtain ⟨i, h, e⟩ := ih (fun i => if f i = n then f n else f i) hg hgi y (by omega)
      have e : (if f i = n then f n else f i) = y := e
      by_cases a : f i = n
      · rw [if_pos a] at e; omega
      · rw [if_neg a] at e; exact ⟨i, by omega, e⟩
/-- no more numbers than room -/
theorem pd_php2 {m n : Nat} (h : n < m) (f : Nat → Nat) (hf : ∀ i, i < m → f i < n) (hi : ∀ i j, i < m → j < m → f i = f j → i = j) : False := by
  obtain ⟨i, h1, h2⟩ := pd_php n f (fun i h1 => hf i (by omega)) (fun i j h1 h2 => hi i j (by omega) (by omega)) (f n) (hf n h)
  have := hi i n (by omega) h h2
  omega
/-- sums of masks, sums of numbers -/
def pd_xs (f : Nat → Nat) : Nat → Nat
  | 0 => 0
  | n + 1 => pd_xs f n ^^^ f n
def pd_sm (f : Nat → Nat) : Nat → Nat
  | 0 => 0
  | n + 1 => pd_sm f n + f n
theorem pd_xs_lt {N : Nat} {f : Nat → Nat} : ∀ {n : Nat}, (∀ k, k < n → f k < 2 ^ N) → pd_xs f n < 2 ^ N := by
  intro n
  induction n with
  | zero => intro _; exact Nat.two_pow_pos N
  | succ n ih => intro h; exact pd_xor_lt (ih (fun k hk => h k (by omega))) (h n (by omega))
theorem pd_sm_0 {f : Nat → Nat} : ∀ {n : Nat}, (∀ k, k < n → f k = 0) → pd_sm f n = 0 := by
  intro n
  induction n with
  | zero => intro _; rfl
  | succ n ih =>
    intro h
    show pd_sm f n + f n = 0
    rw [ih (fun k hk => h k (by omega)), h n (by omega)]
theorem pd_sm_1 {f : Nat → Nat} {j : Nat} : ∀ {n : Nat}, j < n → (∀ k, k < n → k ≠ j → f k = 0) → pd_sm f n = f j := by
  intro n
  induction n with
  | zero => intro h _; omega
  | succ n ih =>
    intro h h0
    show pd_sm f n + f n = f j
    by_cases e : j = n
    · subst e
      rw [pd_sm_0 (fun k hk => h0 k (by omega) (by omega)), Nat.zero_add]
    · rw [ih (by omega) (fun k hk hne => h0 k (by omega) hne), h0 n (by omega) (by omega), Nat.add_zero]
theorem pd_cl_xs (a b : Nat) (f g : Nat → Nat) : ∀ n, pd_cl a b (pd_xs f n) (pd_xs g n) = pd_sm (fun k => pd_cl a b (f k) (g k)) n % 2 := by
  intro n
  induction n with
  | zero => exact pd_cl_0 a b
  | succ n ih =>
    show pd_cl a b (pd_xs f n ^^^ f n) (pd_xs g n ^^^ g n) = (pd_sm (fun k => pd_cl a b (f k) (g k)) n + pd_cl a b (f n) (g n)) % 2
    rw [pd_cl_xor_r, ih]
    omega
theorem pd_cl_d (a b u v e : Nat) (he : e ≤ 1) : pd_cl a b (e * u) (e * v) = e * pd_cl a b u v := by
  have : e = 0 ∨ e = 1 := by omega
  rcases this with rfl | rfl
  · rw [Nat.zero_mul, Nat.zero_mul, Nat.zero_mul, pd_cl_0]
  · rw [Nat.one_mul, Nat.one_mul, Nat.one_mul]
/-- ten rows from o on: the last five commute with one another, so do the first five; row i and row i + 5 don't -/
def pd_Sy (X Z : Nat → Nat) (o : Nat) : Prop :=
  ∀ i j, i < 10 → j < 10 → pd_cl (X (o + i)) (Z (o + i)) (X (o + j)) (Z (o + j)) = if i + 5 = j ∨ j + 5 = i then 1 else 0
def pd_Bd (X Z S : Nat → Nat) (o : Nat) : Prop := ∀ i, i < 10 → X (o + i) < 32 ∧ Z (o + i) < 32 ∧ S (o + i) < 2
theorem pd_nondeg {X Z : Nat → Nat} {o : Nat} (hB : ∀ i, i < 10 → X (o + i) < 32 ∧ Z (o + i) < 32) (hS : pd_Sy X Z o) {u v : Nat} (hu : u < 32) (hv : v < 32)
    (h : ∀ i, i < 10 → pd_cl (X (o + i)) (Z (o + i)) u v = 0) : u = 0 ∧ v = 0 := by
  have hGx : ∀ c, pd_xs (fun k => pd_d c k * X (o + k)) 10 < 32 := by
    intro c
    apply pd_xs_lt (N := 5)
    intro k hk
    have := (hB k hk).1
    rcases pd_d_01 c k with e | e <;> rw [e] <;> omega
  have hGz : ∀ c, pd_xs (fun k => pd_d c k * Z (o + k)) 10 < 32 := by
    intro c
    apply pd_xs_lt (N := 5)
    intro k hk
    have := (hB k hk).2
    rcases pd_d_01 c k with e | e <;> rw [e] <;> omega
  -- row i's clash with the sum over c tells the digit of c at i's partner
  have dig : ∀ c i j, i < 10 → j < 10 → (i + 5 = j ∨ j + 5 = i) → pd_cl (X (o + i)) (Z (o + i)) (pd_xs (fun k => pd_d c k * X (o + k)) 10) (pd_xs (fun k => pd_d c k * Z (o + k)) 10) = pd_d c j := by
    intro c i j hi hj hij
    rw [pd_cl_xs, pd_sm_1 (j := j) hj]
    · show pd_cl (X (o + i)) (Z (o + i)) (pd_d c j * X (o + j)) (pd_d c j * Z (o + j)) % 2 = pd_d c j
      rw [pd_cl_d _ _ _ _ _ (pd_d_le c j), hS i j hi hj, if_pos hij]
      have := pd_d_le c j
      omega
    · intro k hk hne
      show pd_cl (X (o + i)) (Z (o + i)) (pd_d c k * X (o + k)) (pd_d c k * Z (o + k)) = 0
      rw [pd_cl_d _ _ _ _ _ (pd_d_le c k), hS i k hi hk, if_neg (by omega), Nat.mul_zero]
  have par : ∀ j, j < 10 → ∃ i, i < 10 ∧ (i + 5 = j ∨ j + 5 = i) := by
    intro j hj
    by_cases h5 : j < 5
    · exact ⟨j + 5, by omega, Or.inr rfl⟩
    · exact ⟨j - 5, by omega, Or.inl (by omega)⟩
  obtain ⟨c, hc, e⟩ := pd_php 1024 (fun c => 32 * pd_xs (fun k => pd_d c k * X (o + k)) 10 + pd_xs (fun k => pd_d c k * Z (o + k)) 10)
    (fun c _ => by have := hGx c; have := hGz c; show 32 * _ + _ < 1024; omega)
    (fun c c' hc hc' e => by
      have e : 32 * pd_xs (fun k => pd_d c k * X (o + k)) 10 + pd_xs (fun k => pd_d c k * Z (o + k)) 10 = 32 * pd_xs (fun k => pd_d c' k * X (o + k)) 10 + pd_xs (fun k => pd_d c' k * Z (o + k)) 10 := e
      have a1 := hGx c; have a2 := hGz c; have a3 := hGx c'; have a4 := hGz c'
      have ex : pd_xs (fun k => pd_d c k * X (o + k)) 10 = pd_xs (fun k => pd_d c' k * X (o + k)) 10 := by omega
      have ez : pd_xs (fun k => pd_d c k * Z (o + k)) 10 = pd_xs (fun k => pd_d c' k * Z (o + k)) 10 := by omega
      apply pd_d_ext_lt (n := 10) hc hc'
      intro j hj
      obtain ⟨i, hi, hij⟩ := par j hj
      rw [← dig c i j hi hj hij, ← dig c' i j hi hj hij, ex, ez])
    (32 * u + v) (by omega)
  have e : 32 * pd_xs (fun k => pd_d c k * X (o + k)) 10 + pd_xs (fun k => pd_d c k * Z (o + k)) 10 = 32 * u + v := e
  have a1 := hGx c; have a2 := hGz c
  have ex : pd_xs (fun k => pd_d c k * X (o + k)) 10 = u := by omega
  have ez : pd_xs (fun k => pd_d c k * Z (o + k)) 10 = v := by omega
  have c0 : c = 0 := by
    apply pd_d_ext_lt (n := 10) hc (by decide)
    intro j hj
    obtain ⟨i, hi, hij⟩ := par j hj
    rw [pd_d_0, ← dig c i j hi hj hij, ex, ez, h i hi]
  have z0 : ∀ (f : Nat → Nat) n, pd_xs (fun k => pd_d 0 k * f k) n = 0 := by
    intro f n
    induction n with
    | zero => rfl
    | succ n ih =>
      show pd_xs (fun k => pd_d 0 k * f k) n ^^^ pd_d 0 n * f n = 0
      rw [ih, pd_d_0, Nat.zero_mul, Nat.xor_zero]
  rw [c0] at ex ez
  exact ⟨ex.symm.trans (z0 (fun k => X (o + k)) 10), ez.symm.trans (z0 (fun k => Z (o + k)) 10)⟩
/-- two products that clash alike with all ten rows are one -/
theorem pd_nd2 {X Z : Nat → Nat} {o : Nat} (hB : ∀ i, i < 10 → X (o + i) < 32 ∧ Z (o + i) < 32) (hS : pd_Sy X Z o) {u v u' v' : Nat} (hu : u < 32) (hv : v < 32) (hu' : u' < 32) (hv' : v' < 32)
    (h : ∀ i, i < 10 → pd_cl (X (o + i)) (Z (o + i)) u v = pd_cl (X (o + i)) (Z (o + i)) u' v') : u = u' ∧ v = v' := by
  obtain ⟨a, b⟩ := pd_nondeg hB hS (pd_xor32 hu hu') (pd_xor32 hv hv') (fun i hi => by
    rw [pd_cl_xor_r, h i hi]; omega)
  exact ⟨pd_xor_eq0 a, pd_xor_eq0 b⟩
/-- a row leaves V as it is -/
def pd_Rw (N : Nat) (X Z S : Nat → Nat) (k : Nat) (V : Nat → Int × Int) : Prop := pd_Fx N (pd_on (X k &&& Z k) + 2 * S k) (X k) (Z k) V
/-- V is a state of n cells (of the five, the others are 0) and the rows from o on keep it -/
def pd_St (n : Nat) (X Z S : Nat → Nat) (o : Nat) (V : Nat → Int × Int) : Prop :=
  pd_Bd X Z S o ∧ pd_Sy X Z o ∧ pd_Nz 5 V ∧ (∀ q, q < 5 → pd_Rw 5 X Z S (o + (5 + q)) V) ∧
  (∀ q, n ≤ q → q < 5 → X (o + q) = 2 ^ q ∧ Z (o + q) = 0 ∧ X (o + (5 + q)) = 0 ∧ Z (o + (5 + q)) = 2 ^ q ∧ S (o + (5 + q)) = 0)
theorem pd_St_b {n : Nat} {X Z S : Nat → Nat} {o : Nat} {V : Nat → Int × Int} (h : pd_St n X Z S o V) : ∀ i, i < 10 → X (o + i) < 32 ∧ Z (o + i) < 32 :=
  fun i hi => ⟨(h.1 i hi).1, (h.1 i hi).2.1⟩
theorem pd_St_cg {n : Nat} {X Z S X' Z' S' : Nat → Nat} {o o' : Nat} {V V' : Nat → Int × Int} (h : pd_St n X Z S o V)
    (hX : ∀ i, i < 10 → X' (o' + i) = X (o + i)) (hZ : ∀ i, i < 10 → Z' (o' + i) = Z (o + i)) (hs : ∀ i, i < 10 → S' (o' + i) = S (o + i)) (hV : ∀ b, b < 32 → V' b = V b) :
    pd_St n X' Z' S' o' V' := by
  obtain ⟨h1, h2, h3, h4, h5⟩ := h
  refine ⟨?_, ?_, ?_, ?_, ?_⟩
  · intro i hi
    rw [hX i hi, hZ i hi, hs i hi]; exact h1 i hi
  · intro i j hi hj
    rw [hX i hi, hZ i hi, hX j hj, hZ j hj]; exact h2 i j hi hj
  · obtain ⟨b, hb, hn⟩ := h3
    exact ⟨b, hb, by rw [hV b hb]; exact hn⟩
  · intro q hq b hb
    have := h4 q hq b hb
    rw [hX (5 + q) (by omega), hZ (5 + q) (by omega), hs (5 + q) (by omega), hV b hb, hV _ (pd_xor32 hb (h1 (5 + q) (by omega)).1)]
    exact this
  · intro q hn hq
    rw [hX q (by omega), hZ q (by omega), hX (5 + q) (by omega), hZ (5 + q) (by omega), hs (5 + q) (by omega)]
    exact h5 q hn hq
/-- gathering row 5 + q -/
theorem pd_St_ga {n : Nat} {X Z S : Nat → Nat} {o : Nat} {V : Nat → Int × Int} (h : pd_St n X Z S o V) {p gx gz q : Nat} (hq : q < 5) (hF : pd_Fx 5 p gx gz V) :
    pd_Fx 5 (p + ((pd_on (X (o + (5 + q)) &&& Z (o + (5 + q))) + 2 * S (o + (5 + q))) + 2 * pd_on (gz &&& X (o + (5 + q))))) (gx ^^^ X (o + (5 + q))) (gz ^^^ Z (o + (5 + q))) V := by
  have := pd_Fx_mul hF (h.2.2.2.1 q hq) (h.1 (5 + q) (by omega)).1
  exact pd_Fx_cg this (by omega)
/-- what is gathered up to cell m: it clashes with partners as (u, v) does -/
def pd_Gi (X Z : Nat → Nat) (o u v m gx gz : Nat) : Prop :=
  gx < 32 ∧ gz < 32 ∧ (∀ i, i < 5 → pd_cl (X (o + i)) (Z (o + i)) gx gz = if i < m then pd_cl (X (o + i)) (Z (o + i)) u v else 0) ∧ (∀ i, i < 5 → pd_cl (X (o + (5 + i))) (Z (o + (5 + i))) gx gz = 0)
theorem pd_Gi_0 (X Z : Nat → Nat) (o u v : Nat) : pd_Gi X Z o u v 0 0 0 :=
  ⟨by decide, by decide, fun i _ => by rw [pd_cl_0, if_neg (Nat.not_lt_zero i)], fun i _ => pd_cl_0 _ _⟩
theorem pd_Gi_t {n : Nat} {X Z S : Nat → Nat} {o : Nat} {V : Nat → Int × Int} (h : pd_St n X Z S o V) {u v m gx gz : Nat} (hm : m < 5) (hG : pd_Gi X Z o u v m gx gz)
    (hc : pd_cl (X (o + m)) (Z (o + m)) u v = 1) : pd_Gi X Z o u v (m + 1) (gx ^^^ X (o + (5 + m))) (gz ^^^ Z (o + (5 + m))) := by
  obtain ⟨a, b, c, d⟩ := hG
  have hb := h.1 (5 + m) (by omega)
  refine ⟨pd_xor32 a hb.1, pd_xor32 b hb.2.1, ?_, ?_⟩
  · intro i hi
    rw [pd_cl_xor_r, c i hi, h.2.1 i (5 + m) (by omega) (by omega)]
    by_cases e : i = m
    · subst e
      rw [if_neg (by omega), if_pos (by omega), if_pos (by omega), hc]
    · rw [if_neg (c := i + 5 = 5 + m ∨ 5 + m + 5 = i) (by omega)]
      have := pd_cl_lt (X (o + i)) (Z (o + i)) u v
      by_cases e2 : i < m
      · rw [if_pos e2, if_pos (by omega)]; omega
      · rw [if_neg e2, if_neg (by omega)]
  · intro i hi
    rw [pd_cl_xor_r, d i hi, h.2.1 (5 + i) (5 + m) (by omega) (by omega), if_neg (by omega)]
theorem pd_Gi_f {X Z : Nat → Nat} {o : Nat} {u v m gx gz : Nat} (hm : m < 5) (hG : pd_Gi X Z o u v m gx gz)
    (hc : ¬ pd_cl (X (o + m)) (Z (o + m)) u v = 1) : pd_Gi X Z o u v (m + 1) gx gz := by
  obtain ⟨a, b, c, d⟩ := hG
  refine ⟨a, b, ?_, d⟩
  intro i hi
  rw [c i hi]
  by_cases e : i = m
  · subst e
    rw [if_neg (by omega), if_pos (by omega)]
    have := pd_cl_01 (X (o + i)) (Z (o + i)) u v
    omega
  · by_cases e2 : i < m
    · rw [if_pos e2, if_pos (by omega)]
    · rw [if_neg e2, if_neg (by omega)]
/-- rows of cells that aren't there don't clash with masks of the cells that are -/
theorem pd_St_hi {n : Nat} {X Z S : Nat → Nat} {o : Nat} {V : Nat → Int × Int} (h : pd_St n X Z S o V) {u v : Nat} (hu : u < 2 ^ n) (hv : v < 2 ^ n) {q : Nat} (hn : n ≤ q) (hq : q < 5) :
    pd_cl (X (o + q)) (Z (o + q)) u v = 0 ∧ pd_cl (X (o + (5 + q))) (Z (o + (5 + q))) u v = 0 := by
  obtain ⟨a, b, c, d, _⟩ := h.2.2.2.2 q hn hq
  rw [a, b, c, d, pd_cl_x (by omega), pd_cl_z (by omega)]
  exact ⟨pd_d_ge hv hn, pd_d_ge hu hn⟩
/-- all is gathered -/
theorem pd_Gi_end {n : Nat} {X Z S : Nat → Nat} {o : Nat} {V : Nat → Int × Int} (h : pd_St n X Z S o V) {u v m gx gz : Nat} (hu : u < 32) (hv : v < 32) (hG : pd_Gi X Z o u v m gx gz)
    (hm : ∀ q, m ≤ q → q < 5 → pd_cl (X (o + q)) (Z (o + q)) u v = 0)
    (hc : ∀ q, q < 5 → pd_cl (X (o + (5 + q))) (Z (o + (5 + q))) u v = 0) : gx = u ∧ gz = v := by
  obtain ⟨a, b, c, d⟩ := hG
  apply pd_nd2 (pd_St_b h) h.2.1 a b hu hv
  intro i hi
  by_cases h5 : i < 5
  · rw [c i h5]
    by_cases e : i < m
    · rw [if_pos e]
    · rw [if_neg e, hm i (by omega) h5]
  · obtain ⟨k, rfl⟩ : ∃ k, i = 5 + k := ⟨i - 5, by omega⟩
    rw [d k (by omega), hc k (by omega)]
theorem pd_St_gat {n : Nat} {X Z S : Nat → Nat} {o : Nat} {V : Nat → Int × Int} (h : pd_St n X Z S o V) (u v : Nat) : ∀ m, m ≤ 5 → ∃ p gx gz, pd_Gi X Z o u v m gx gz ∧ pd_Fx 5 p gx gz V := by
  intro m
  induction m with
  | zero => intro _; exact ⟨0, 0, 0, pd_Gi_0 X Z o u v, pd_Fx_0 5 V⟩
  | succ m ih =>
    intro hm
    obtain ⟨p, gx, gz, hG, hF⟩ := ih (by omega)
    by_cases hc : pd_cl (X (o + m)) (Z (o + m)) u v = 1
    · exact ⟨_, _, _, pd_Gi_t h (by omega) hG hc, pd_St_ga h (by omega) hF⟩
    · exact ⟨p, gx, gz, pd_Gi_f (by omega) hG hc, hF⟩
/-- what commutes with all rows 5 .. 9 keeps the state up to a power of i -/
theorem pd_St_in {n : Nat} {X Z S : Nat → Nat} {o : Nat} {V : Nat → Int × Int} (h : pd_St n X Z S o V) {u v : Nat} (hu : u < 32) (hv : v < 32)
    (hc : ∀ q, q < 5 → pd_cl (X (o + (5 + q))) (Z (o + (5 + q))) u v = 0) : ∃ p, pd_Fx 5 p u v V := by
  obtain ⟨p, gx, gz, hG, hF⟩ := pd_St_gat h u v 5 (by decide)
  obtain ⟨rfl, rfl⟩ := pd_Gi_end h hu hv hG (fun q h1 h2 => by omega) hc
  exact ⟨p, hF⟩
theorem pd_St_max {n : Nat} {X Z S : Nat → Nat} {o : Nat} {V : Nat → Int × Int} (h : pd_St n X Z S o V) : pd_Max 5 V := by
  intro u v hu hv hc
  apply pd_St_in h hu hv
  intro q hq
  have hb := h.1 (5 + q) (by omega)
  rw [pd_cl_comm]
  exact hc _ _ _ hb.1 hb.2.1 (h.2.2.2.1 q hq)
end
section
/-- the single products: row i of a frame has the image of this one -/
def pd_sx (i : Nat) : Nat := if i < 5 then 2 ^ i else 0
def pd_sz (i : Nat) : Nat := if i < 5 then 0 else 2 ^ (i - 5)
theorem pd_s_lt : ∀ i, i < 10 → pd_sx i < 32 ∧ pd_sz i < 32 := by decide
theorem pd_s_cl : ∀ i, i < 10 → ∀ j, j < 10 → pd_cl (pd_sx i) (pd_sz i) (pd_sx j) (pd_sz j) = if i + 5 = j ∨ j + 5 = i then 1 else 0 := by decide +kernel
theorem pd_cl_32 {a b c d x z u v : Nat} (ha : a < 32) (hb : b < 32) (hx : x < 32) (hz : z < 32) (hu : u < 32) (hv : v < 32) :
    pd_cl (32 * a + x) (32 * b + z) (32 * c + u) (32 * d + v) = (pd_cl a b c d + pd_cl x z u v) % 2 := by
  unfold pd_cl
  rw [pd_on_and_32 ha hx hv, pd_on_and_32 hb hz hu]
  omega
theorem pd_lt1024 {a x : Nat} (ha : a < 32) (hx : x < 32) : 32 * a + x < 2 ^ 10 := by
  show 32 * a + x < 1024
  omega
/-- U, a table of 32 columns of 32 numbers, takes single product i to row o + i -/
def pd_Fr (n : Nat) (X Z S : Nat → Nat) (o : Nat) (U : Nat → Int × Int) : Prop :=
  pd_Bd X Z S o ∧ pd_Nz 10 U ∧
  (∀ i, i < 10 → pd_Fx 10 (pd_on (X (o + i) &&& Z (o + i)) + 2 * S (o + i)) (32 * pd_sx i + X (o + i)) (32 * pd_sz i + Z (o + i)) U) ∧
  (∀ q, n ≤ q → q < 5 → X (o + q) = 2 ^ q ∧ Z (o + q) = 0 ∧ S (o + q) = 0 ∧ X (o + (5 + q)) = 0 ∧ Z (o + (5 + q)) = 2 ^ q ∧ S (o + (5 + q)) = 0)
theorem pd_Fr_b {n : Nat} {X Z S : Nat → Nat} {o : Nat} {U : Nat → Int × Int} (h : pd_Fr n X Z S o U) : ∀ i, i < 10 → X (o + i) < 32 ∧ Z (o + i) < 32 :=
  fun i hi => ⟨(h.1 i hi).1, (h.1 i hi).2.1⟩
theorem pd_Fr_cg {n : Nat} {X Z S X' Z' S' : Nat → Nat} {o o' : Nat} {U U' : Nat → Int × Int} (h : pd_Fr n X Z S o U)
    (hX : ∀ i, i < 10 → X' (o' + i) = X (o + i)) (hZ : ∀ i, i < 10 → Z' (o' + i) = Z (o + i)) (hs : ∀ i, i < 10 → S' (o' + i) = S (o + i)) (hU : ∀ b, b < 1024 → U' b = U b) :
    pd_Fr n X' Z' S' o' U' := by
  obtain ⟨h1, h3, h4, h5⟩ := h
  refine ⟨?_, ?_, ?_, ?_⟩
  · intro i hi
    rw [hX i hi, hZ i hi, hs i hi]; exact h1 i hi
  · obtain ⟨b, hb, hn⟩ := h3
    exact ⟨b, hb, by rw [hU b hb]; exact hn⟩
  · intro i hi b hb
    have := h4 i hi b hb
    rw [hX i hi, hZ i hi, hs i hi, hU b hb, hU _ (pd_xor1024 hb (pd_lt1024 (pd_s_lt i hi).1 (h1 i hi).1))]
    exact this
  · intro q hn hq
    rw [hX q (by omega), hZ q (by omega), hs q (by omega), hX (5 + q) (by omega), hZ (5 + q) (by omega), hs (5 + q) (by omega)]
    exact h5 q hn hq
theorem pd_Fr_sy {n : Nat} {X Z S : Nat → Nat} {o : Nat} {U : Nat → Int × Int} (h : pd_Fr n X Z S o U) : pd_Sy X Z o := by
  intro i j hi hj
  have bi := h.1 i hi; have bj := h.1 j hj
  have si := pd_s_lt i hi; have sj := pd_s_lt j hj
  have e := pd_Fx_comm h.2.1 (h.2.2.1 i hi) (h.2.2.1 j hj) (pd_lt1024 si.1 bi.1) (pd_lt1024 sj.1 bj.1)
  rw [pd_cl_32 si.1 si.2 bi.1 bi.2.1 bj.1 bj.2.1, pd_s_cl i hi j hj] at e
  have := pd_cl_lt (X (o + i)) (Z (o + i)) (X (o + j)) (Z (o + j))
  by_cases c : i + 5 = j ∨ j + 5 = i
  · rw [if_pos c] at e ⊢; omega
  · rw [if_neg c] at e ⊢; omega
theorem pd_mod_t {a q : Nat} (h : pd_d a q = 1) : a % 2 ^ (q + 1) = a % 2 ^ q ^^^ 2 ^ q := by
  apply pd_d_ext
  intro k
  rw [pd_d_xor', pd_d_pow]
  unfold pd_d at h ⊢
  rw [Nat.testBit_mod_two_pow, Nat.testBit_mod_two_pow]
  by_cases e : q = k
  · subst e
    revert h
    cases a.testBit q <;> simp
  · rw [if_neg e]
    by_cases e2 : k < q
    · have : k < q + 1 := by omega
      simp only [e2, this, decide_true, Bool.true_and]
      cases a.testBit k <;> rfl
    · have : ¬ k < q + 1 := by omega
      simp only [e2, this, decide_false, Bool.false_and]
      rfl
theorem pd_mod_f {a q : Nat} (h : ¬ pd_d a q = 1) : a % 2 ^ (q + 1) = a % 2 ^ q := by
  apply pd_d_ext
  intro k
  unfold pd_d at h ⊢
  rw [Nat.testBit_mod_two_pow, Nat.testBit_mod_two_pow]
  by_cases e : q = k
  · subst e
    revert h
    cases a.testBit q <;> simp
  · by_cases e2 : k < q
    · have : k < q + 1 := by omega
      simp only [e2, this]
    · have : ¬ k < q + 1 := by omega
      simp only [e2, this]
theorem pd_mod32 {a q : Nat} (h : a < 32) : a % 2 ^ q < 32 := Nat.lt_of_le_of_lt (Nat.mod_le _ _) h
theorem pd_pow32 {q : Nat} (h : q < 5) : 2 ^ q < 32 := by
  have : ∀ q, q < 5 → 2 ^ q < 32 := by decide
  exact this q h
/-- what is gathered of the image of (x, z): x up to cell q -/
theorem pd_Im_x {n : Nat} {X Z S : Nat → Nat} {o : Nat} {U : Nat → Int × Int} (h : pd_Fr n X Z S o U) {x p gx gz q : Nat} (hq : q < 5) (hx : x < 32) (hgx : gx < 32) (hgz : gz < 32)
    (hd : pd_d x q = 1) (hF : pd_Fx 10 p (32 * (x % 2 ^ q) + gx) gz U) :
    pd_Fx 10 (p + ((pd_on (X (o + q) &&& Z (o + q)) + 2 * S (o + q)) + 2 * pd_on (gz &&& X (o + q)))) (32 * (x % 2 ^ (q + 1)) + (gx ^^^ X (o + q))) (gz ^^^ Z (o + q)) U := by
  have b := h.1 q (by omega)
  have r := h.2.2.1 q (by omega)
  have s1 : pd_sx q = 2 ^ q := if_pos hq
  have s2 : pd_sz q = 0 := if_pos hq
  rw [s1, s2, Nat.mul_zero, Nat.zero_add] at r
  have m := pd_Fx_mul hF r (pd_lt1024 (pd_pow32 hq) b.1)
  rw [pd_xor_32 hgx b.1, ← pd_mod_t hd] at m
  have e : pd_on (gz &&& (32 * 2 ^ q + X (o + q))) = pd_on (gz &&& X (o + q)) := by
    have := pd_on_and_32 (x := 0) (z := gz) (u := 2 ^ q) (v := X (o + q)) (by decide) hgz b.1
    rw [Nat.mul_zero, Nat.zero_add, Nat.zero_and, pd_on_0, Nat.zero_add] at this
    exact this
  rw [e] at m
  exact pd_Fx_cg m (by omega)
theorem pd_Im_z {n : Nat} {X Z S : Nat → Nat} {o : Nat} {U : Nat → Int × Int} (h : pd_Fr n X Z S o U) {x z p gx gz q : Nat} (hq : q < 5) (hx : x < 32) (hz : z < 32) (hgx : gx < 32) (hgz : gz < 32)
    (hd : pd_d z q = 1) (hF : pd_Fx 10 p (32 * x + gx) (32 * (z % 2 ^ q) + gz) U) :
    pd_Fx 10 (p + ((pd_on (X (o + (5 + q)) &&& Z (o + (5 + q))) + 2 * S (o + (5 + q))) + 2 * pd_on (gz &&& X (o + (5 + q))))) (32 * x + (gx ^^^ X (o + (5 + q)))) (32 * (z % 2 ^ (q + 1)) + (gz ^^^ Z (o + (5 + q)))) U := by
  have b := h.1 (5 + q) (by omega)
  have r := h.2.2.1 (5 + q) (by omega)
  have s1 : pd_sx (5 + q) = 0 := if_neg (by omega)
  have s2 : pd_sz (5 + q) = 2 ^ q := by unfold pd_sz; rw [if_neg (by omega), Nat.add_sub_cancel_left]
  rw [s1, s2, Nat.mul_zero, Nat.zero_add] at r
  have m := pd_Fx_mul hF r (Nat.lt_of_lt_of_le b.1 (by decide))
  have e1 : (32 * x + gx) ^^^ X (o + (5 + q)) = 32 * x + (gx ^^^ X (o + (5 + q))) := by
    have := pd_xor_32 (x := x) (z := gx) (u := 0) (v := X (o + (5 + q))) hgx b.1
    rw [Nat.mul_zero, Nat.zero_add, Nat.xor_zero] at this
    exact this
  rw [e1, pd_xor_32 hgz b.2.1, ← pd_mod_t hd] at m
  have e : pd_on ((32 * (z % 2 ^ q) + gz) &&& X (o + (5 + q))) = pd_on (gz &&& X (o + (5 + q))) := by
    have := pd_on_and_32 (x := z % 2 ^ q) (z := gz) (u := 0) (v := X (o + (5 + q))) (pd_mod32 hz) hgz b.1
    rw [Nat.mul_zero, Nat.zero_add, Nat.and_zero, pd_on_0, Nat.zero_add] at this
    exact this
  rw [e] at m
  exact pd_Fx_cg m (by omega)
theorem pd_Im_ex {n : Nat} {X Z S : Nat → Nat} {o : Nat} {U : Nat → Int × Int} (h : pd_Fr n X Z S o U) {x z : Nat} (hx : x < 32) (hz : z < 32) :
    ∃ p gx gz, gx < 32 ∧ gz < 32 ∧ pd_Fx 10 p (32 * x + gx) (32 * z + gz) U := by
  have A : ∀ q, q ≤ 5 → ∃ p gx gz, gx < 32 ∧ gz < 32 ∧ pd_Fx 10 p (32 * (x % 2 ^ q) + gx) gz U := by
    intro q
    induction q with
    | zero =>
      intro _
      refine ⟨0, 0, 0, by decide, by decide, ?_⟩
      rw [Nat.pow_zero, Nat.mod_one]
      exact pd_Fx_0 10 U
    | succ q ih =>
      intro hq
      obtain ⟨p, gx, gz, h1, h2, h3⟩ := ih (by omega)
      by_cases d : pd_d x q = 1
      · have b := h.1 q (by omega)
        exact ⟨_, _, _, pd_xor32 h1 b.1, pd_xor32 h2 b.2.1, pd_Im_x h (by omega) hx h1 h2 d h3⟩
      · refine ⟨p, gx, gz, h1, h2, ?_⟩
        rw [pd_mod_f d]; exact h3
  have B : ∀ q, q ≤ 5 → ∃ p gx gz, gx < 32 ∧ gz < 32 ∧ pd_Fx 10 p (32 * x + gx) (32 * (z % 2 ^ q) + gz) U := by
    intro q
    induction q with
    | zero =>
      intro _
      obtain ⟨p, gx, gz, h1, h2, h3⟩ := A 5 (by omega)
      rw [Nat.mod_eq_of_lt (show x < 2 ^ 5 from hx)] at h3
      refine ⟨p, gx, gz, h1, h2, ?_⟩
      rw [Nat.pow_zero, Nat.mod_one, Nat.mul_zero, Nat.zero_add]
      exact h3
    | succ q ih =>
      intro hq
      obtain ⟨p, gx, gz, h1, h2, h3⟩ := ih (by omega)
      by_cases d : pd_d z q = 1
      · have b := h.1 (5 + q) (by omega)
        exact ⟨_, _, _, pd_xor32 h1 b.1, pd_xor32 h2 b.2.1, pd_Im_z h (by omega) hx hz h1 h2 d h3⟩
      · refine ⟨p, gx, gz, h1, h2, ?_⟩
        rw [pd_mod_f d]; exact h3
  obtain ⟨p, gx, gz, h1, h2, h3⟩ := B 5 (by omega)
  rw [Nat.mod_eq_of_lt (show z < 2 ^ 5 from hz)] at h3
  exact ⟨p, gx, gz, h1, h2, h3⟩
/-- a pair that goes with the frame clashes with rows as its first half does with single products -/
theorem pd_Fr_cl {n : Nat} {X Z S : Nat → Nat} {o : Nat} {U : Nat → Int × Int} (h : pd_Fr n X Z S o U) {p x z u v : Nat} (hx : x < 32) (hu : u < 32) (hv : v < 32)
    (hF : pd_Fx 10 p (32 * x + u) (32 * z + v) U) {i : Nat} (hi : i < 10) : pd_cl (X (o + i)) (Z (o + i)) u v = pd_cl (pd_sx i) (pd_sz i) x z := by
  have b := h.1 i hi
  have s := pd_s_lt i hi
  have e := pd_Fx_comm h.2.1 (h.2.2.1 i hi) hF (pd_lt1024 s.1 b.1) (pd_lt1024 hx hu)
  rw [pd_cl_32 s.1 s.2 b.1 b.2.1 hu hv] at e
  have := pd_cl_lt (X (o + i)) (Z (o + i)) u v
  have := pd_cl_lt (pd_sx i) (pd_sz i) x z
  omega
/-- the image is one -/
theorem pd_Fr_uniq {n : Nat} {X Z S : Nat → Nat} {o : Nat} {U : Nat → Int × Int} (h : pd_Fr n X Z S o U) {p p' x z u v u' v' : Nat} (hx : x < 32) (hu : u < 32) (hv : v < 32) (hu' : u' < 32) (hv' : v' < 32)
    (hF : pd_Fx 10 p (32 * x + u) (32 * z + v) U) (hF' : pd_Fx 10 p' (32 * x + u') (32 * z + v') U) : u = u' ∧ v = v' ∧ p % 4 = p' % 4 := by
  obtain ⟨rfl, rfl⟩ := pd_nd2 (pd_Fr_b h) (pd_Fr_sy h) hu hv hu' hv' (fun i hi => by rw [pd_Fr_cl h hx hu hv hF hi, pd_Fr_cl h hx hu' hv' hF' hi])
  exact ⟨rfl, rfl, pd_Fx_uniq h.2.1 hF hF'⟩
theorem pd_Fr_max {n : Nat} {X Z S : Nat → Nat} {o : Nat} {U : Nat → Int × Int} (h : pd_Fr n X Z S o U) : pd_Max 10 U := by
  intro A B hA hB hc
  obtain ⟨x, u, hx, hu, rfl⟩ := pd_split32 hA
  obtain ⟨z, v, hz, hv, rfl⟩ := pd_split32 hB
  obtain ⟨p, gx, gz, h1, h2, h3⟩ := pd_Im_ex h hx hz
  obtain ⟨rfl, rfl⟩ := pd_nd2 (pd_Fr_b h) (pd_Fr_sy h) hu hv h1 h2 (fun i hi => by
    rw [pd_Fr_cl h hx h1 h2 h3 hi]
    have b := h.1 i hi
    have s := pd_s_lt i hi
    have e := hc _ _ _ (pd_lt1024 s.1 b.1) (pd_lt1024 s.2 b.2.1) (h.2.2.1 i hi)
    rw [pd_cl_comm, pd_cl_32 s.1 s.2 b.1 b.2.1 hu hv] at e
    have := pd_cl_lt (X (o + i)) (Z (o + i)) u v
    have := pd_cl_lt (pd_sx i) (pd_sz i) x z
    omega)
  exact ⟨p, h3⟩
/-- column 0 isn't all 0 -/
theorem pd_Fr_col0 {n : Nat} {X Z S : Nat → Nat} {o : Nat} {U : Nat → Int × Int} (h : pd_Fr n X Z S o U) : ∃ j, j < 32 ∧ U j ≠ (0, 0) := by
  obtain ⟨b, hb, hn⟩ := h.2.1
  obtain ⟨c, j, hc, hj, rfl⟩ := pd_split32 hb
  obtain ⟨p, gx, gz, h1, h2, h3⟩ := pd_Im_ex h hc (show 0 < 32 by decide)
  have e := h3 (32 * c + j) hb
  rw [pd_xor_32 hj h1, Nat.xor_self, Nat.mul_zero, Nat.zero_add] at e
  exact ⟨j ^^^ gx, pd_xor32 hj h1, by rw [e]; exact pd_ph_nz hn⟩
end
section
def pd_ad (v w : Int × Int) : Int × Int := (v.1 + w.1, v.2 + w.2)
theorem pd_ad_comm (v w : Int × Int) : pd_ad v w = pd_ad w v := by
  unfold pd_ad; rw [Int.add_comm v.1, Int.add_comm v.2]
theorem pd_ph_ad (k : Nat) (v w : Int × Int) : pd_ph k (pd_ad v w) = pd_ad (pd_ph k v) (pd_ph k w) := by
  rcases pd_mod4 k with h | h | h | h
  · rw [pd_ph_0 _ h, pd_ph_0 _ h, pd_ph_0 _ h]
  · rw [pd_ph_1 _ h, pd_ph_1 _ h, pd_ph_1 _ h]; unfold pd_ad; simp only [Prod.mk.injEq, and_true, true_and]; omega
  · rw [pd_ph_2 _ h, pd_ph_2 _ h, pd_ph_2 _ h]; unfold pd_ad; simp only [Prod.mk.injEq, and_true, true_and]; omega
  · rw [pd_ph_3 _ h, pd_ph_3 _ h, pd_ph_3 _ h]; unfold pd_ad; simp only [Prod.mk.injEq, and_true, true_and]; omega
/-- what the gates make of a vector -/
def pd_gH (q : Nat) (V : Nat → Int × Int) (b : Nat) : Int × Int := pd_ad (pd_ph (2 * pd_d b q) (V b)) (V (b ^^^ 2 ^ q))
def pd_gS (q : Nat) (V : Nat → Int × Int) (b : Nat) : Int × Int := pd_ph (pd_d b q) (V b)
def pd_gX (p q : Nat) (V : Nat → Int × Int) (b : Nat) : Int × Int := V (b ^^^ (pd_d b p * 2 ^ q))
def pd_gZ (p q : Nat) (V : Nat → Int × Int) (b : Nat) : Int × Int := pd_ph (2 * (pd_d b p * pd_d b q)) (V b)
def pd_gP (x z : Nat) (V : Nat → Int × Int) (b : Nat) : Int × Int := pd_ph (pd_on (x &&& z) + 2 * pd_on ((b ^^^ x) &&& z)) (V (b ^^^ x))
theorem pd_Fx_S {N p X Z q : Nat} {V : Nat → Int × Int} (hq : q < 10) (h : pd_Fx N p X Z V) : pd_Fx N (p + pd_d X q) X (Z ^^^ (pd_d X q * 2 ^ q)) (pd_gS q V) := by
  intro b hb
  unfold pd_gS
  rw [h b hb, pd_ph_add, pd_ph_add]
  apply pd_ph_cg
  have a1 := pd_d_xor b X q
  have a2 := pd_lin_r b Z (pd_d X q * 2 ^ q)
  rw [pd_on_and_dpow b _ hq (pd_d_le X q)] at a2
  rcases pd_d_01 X q with e | e <;> rw [e] at a1 a2 ⊢ <;> omega
theorem pd_Fx_Z {N p X Z c q : Nat} {V : Nat → Int × Int} (hc : c < 10) (hq : q < 10) (h : pd_Fx N p X Z V) :
    pd_Fx N (p + 2 * (pd_d X c * pd_d X q)) X ((Z ^^^ (pd_d X c * 2 ^ q)) ^^^ (pd_d X q * 2 ^ c)) (pd_gZ c q V) := by
  intro b hb
  unfold pd_gZ
  rw [h b hb, pd_ph_add, pd_ph_add]
  apply pd_ph_cg
  have a1 := pd_d_xor b X q
  have a1' := pd_d_xor b X c
  have a2 := pd_lin_r b Z (pd_d X c * 2 ^ q)
  have a3 := pd_lin_r b (Z ^^^ (pd_d X c * 2 ^ q)) (pd_d X q * 2 ^ c)
  rw [pd_on_and_dpow b _ hq (pd_d_le X c)] at a2
  rw [pd_on_and_dpow b _ hc (pd_d_le X q)] at a3
  rcases pd_d_01 X q with e | e <;> rcases pd_d_01 X c with f | f <;> rcases pd_d_01 b q with g | g <;> rcases pd_d_01 b c with i | i <;>
    simp only [e, f, g, i, Nat.mul_zero, Nat.zero_mul, Nat.mul_one, Nat.one_mul, Nat.add_zero, Nat.zero_add] at a1 a1' a2 a3 ⊢ <;>
    (have k1 : pd_d (b ^^^ X) q = 0 ∨ pd_d (b ^^^ X) q = 1 := pd_d_01 _ _
     have k2 : pd_d (b ^^^ X) c = 0 ∨ pd_d (b ^^^ X) c = 1 := pd_d_01 _ _
     rcases k1 with k1 | k1 <;> rcases k2 with k2 | k2 <;> rw [k1, k2] <;> omega)
theorem pd_dpow_x (b c q : Nat) (hb : b ≤ 1) (hc : c ≤ 1) : (c * 2 ^ q) ^^^ (((b + c) % 2) * 2 ^ q) = b * 2 ^ q := by
  have h1 : b = 0 ∨ b = 1 := by omega
  have h2 : c = 0 ∨ c = 1 := by omega
  rcases h1 with rfl | rfl <;> rcases h2 with rfl | rfl <;> simp
theorem pd_d_dpow (e q k : Nat) (he : e ≤ 1) : pd_d (e * 2 ^ q) k = if q = k then e else 0 := by
  have : e = 0 ∨ e = 1 := by omega
  rcases this with rfl | rfl
  · rw [Nat.zero_mul, pd_d_0]; split <;> rfl
  · rw [Nat.one_mul, pd_d_pow]
theorem pd_dpow_lt {e q N : Nat} (he : e ≤ 1) (hq : q < N) : e * 2 ^ q < 2 ^ N := by
  have h := Nat.pow_lt_pow_right (a := 2) (by decide) hq
  have h0 := Nat.two_pow_pos N
  have : e = 0 ∨ e = 1 := by omega
  rcases this with rfl | rfl <;> omega
theorem pd_Fx_X {N p X Z c q : Nat} {V : Nat → Int × Int} (hc : c < 10) (hq : q < 10) (hqN : q < N) (hne : c ≠ q) (h : pd_Fx N p X Z V) :
    pd_Fx N p (X ^^^ (pd_d X c * 2 ^ q)) (Z ^^^ (pd_d Z q * 2 ^ c)) (pd_gX c q V) := by
  intro b hb
  unfold pd_gX
  have e1 : pd_d (b ^^^ (X ^^^ (pd_d X c * 2 ^ q))) c = (pd_d b c + pd_d X c) % 2 := by
    rw [pd_d_xor', pd_d_xor', pd_d_dpow _ _ _ (pd_d_le X c), if_neg (fun e => hne e.symm)]
    have := pd_d_le X c
    omega
  have e2 : (b ^^^ (X ^^^ (pd_d X c * 2 ^ q))) ^^^ ((pd_d b c + pd_d X c) % 2 * 2 ^ q) = (b ^^^ (pd_d b c * 2 ^ q)) ^^^ X := by
    rw [← Nat.xor_assoc, Nat.xor_assoc, pd_dpow_x _ _ _ (pd_d_le b c) (pd_d_le X c), pd_xr]
  rw [e1, e2, h _ (pd_xor_lt hb (pd_dpow_lt (pd_d_le b c) hqN))]
  apply pd_ph_cg
  have a1 := pd_lin_l b (pd_d b c * 2 ^ q) Z
  rw [pd_on_comm (pd_d b c * 2 ^ q) Z, pd_on_and_dpow Z _ hq (pd_d_le b c)] at a1
  have a2 := pd_lin_r b Z (pd_d Z q * 2 ^ c)
  rw [pd_on_and_dpow b _ hc (pd_d_le Z q), Nat.mul_comm (pd_d Z q) (pd_d b c)] at a2
  omega
theorem pd_Fx_P {N p X Z x z : Nat} {V : Nat → Int × Int} (hx : x < 2 ^ N) (h : pd_Fx N p X Z V) : pd_Fx N (p + 2 * pd_cl X Z x z) X Z (pd_gP x z V) := by
  intro b hb
  unfold pd_gP
  rw [pd_xr b X x, h _ (pd_xor_lt hb hx), pd_ph_add, pd_ph_add]
  apply pd_ph_cg
  have a1 := pd_lin_l (b ^^^ x) X z
  have a2 := pd_lin_l b x Z
  unfold pd_cl
  rw [pd_on_comm Z x]
  omega
theorem pd_Fx_H {N p X Z q : Nat} {V : Nat → Int × Int} (hq : q < 10) (hqN : q < N) (h : pd_Fx N p X Z V) :
    pd_Fx N (p + 2 * (pd_d X q * pd_d Z q)) (X ^^^ ((pd_d X q + pd_d Z q) % 2 * 2 ^ q)) (Z ^^^ ((pd_d X q + pd_d Z q) % 2 * 2 ^ q)) (pd_gH q V) := by
  intro b hb
  have hb2 : b ^^^ 2 ^ q < 2 ^ N := pd_xor_lt hb (Nat.pow_lt_pow_right (by decide) hqN)
  have v1 := h b hb
  have v2 := h (b ^^^ 2 ^ q) hb2
  have l2 := pd_lin_l b (2 ^ q) Z
  rw [pd_on_comm (2 ^ q) Z, pd_on_and_pow Z hq] at l2
  rw [pd_xr] at v2
  unfold pd_gH
  by_cases hw : (pd_d X q + pd_d Z q) % 2 = 0
  · rw [hw, Nat.zero_mul, Nat.xor_zero, Nat.xor_zero, v2, v1, pd_ph_ad, pd_ph_add, pd_ph_add]
    have dx := pd_d_xor' b X q
    have k1 := pd_d_01 X q; have k2 := pd_d_01 Z q; have k3 := pd_d_01 b q
    have hxz : pd_d X q = pd_d Z q := by omega
    rw [hxz] at dx ⊢
    congr 1
    · apply pd_ph_cg
      rcases k2 with k2 | k2 <;> rw [k2] at dx ⊢ <;> omega
    · apply pd_ph_cg
      rcases k2 with k2 | k2 <;> rw [k2] at l2 ⊢ <;> omega
  · have hw1 : (pd_d X q + pd_d Z q) % 2 = 1 := by omega
    have lz := pd_lin_r b Z (2 ^ q)
    rw [pd_on_and_pow b hq] at lz
    have k1 := pd_d_01 X q; have k2 := pd_d_01 Z q; have k3 := pd_d_01 b q
    have dd : pd_d (b ^^^ (X ^^^ 2 ^ q)) q = (pd_d b q + pd_d Z q) % 2 := by
      rw [pd_d_xor', pd_d_xor', pd_d_pow, if_pos rfl]
      omega
    have e1 : b ^^^ (X ^^^ 2 ^ q) = (b ^^^ X) ^^^ 2 ^ q := (Nat.xor_assoc _ _ _).symm
    have m0 : pd_d X q * pd_d Z q = 0 := by
      rcases k1 with k1 | k1 <;> rcases k2 with k2 | k2 <;> rw [k1, k2] at hw1 ⊢ <;> omega
    rw [hw1, Nat.one_mul, dd, m0, e1, pd_xx, v1, v2, pd_ph_ad, pd_ph_add, pd_ph_add, pd_ad_comm]
    congr 1
    · apply pd_ph_cg
      omega
    · apply pd_ph_cg
      omega
/-- gates take no state to 0 -/
theorem pd_Nz_S {N q : Nat} {V : Nat → Int × Int} (h : pd_Nz N V) : pd_Nz N (pd_gS q V) := by
  obtain ⟨b, hb, hn⟩ := h
  exact ⟨b, hb, pd_ph_nz hn⟩
theorem pd_Nz_Z {N c q : Nat} {V : Nat → Int × Int} (h : pd_Nz N V) : pd_Nz N (pd_gZ c q V) := by
  obtain ⟨b, hb, hn⟩ := h
  exact ⟨b, hb, pd_ph_nz hn⟩
theorem pd_Nz_P {N x z : Nat} {V : Nat → Int × Int} (hx : x < 2 ^ N) (h : pd_Nz N V) : pd_Nz N (pd_gP x z V) := by
  obtain ⟨b, hb, hn⟩ := h
  refine ⟨b ^^^ x, pd_xor_lt hb hx, ?_⟩
  unfold pd_gP
  rw [pd_xx]
  exact pd_ph_nz hn
theorem pd_Nz_X {N c q : Nat} {V : Nat → Int × Int} (hq : q < N) (hne : c ≠ q) (h : pd_Nz N V) : pd_Nz N (pd_gX c q V) := by
  obtain ⟨b, hb, hn⟩ := h
  refine ⟨b ^^^ (pd_d b c * 2 ^ q), pd_xor_lt hb (pd_dpow_lt (pd_d_le b c) hq), ?_⟩
  unfold pd_gX
  have : pd_d (b ^^^ (pd_d b c * 2 ^ q)) c = pd_d b c := by
    rw [pd_d_xor', pd_d_dpow _ _ _ (pd_d_le b c), if_neg (fun e => hne e.symm)]
    have := pd_d_le b c
    omega
  rw [this, pd_xx]
  exact hn
theorem pd_Nz_H {N q : Nat} {V : Nat → Int × Int} (hq : q < N) (h : pd_Nz N V) : pd_Nz N (pd_gH q V) := by
  apply Classical.byContradiction
  intro hno
  have z : ∀ b, b < 2 ^ N → pd_gH q V b = (0, 0) := by
    intro b hb
    apply Classical.byContradiction
    intro hne
    exact hno ⟨b, hb, hne⟩
  obtain ⟨b, hb, hn⟩ := h
  apply hn
  have z1 := z b hb
  have z2 := z (b ^^^ 2 ^ q) (pd_xor_lt hb (Nat.pow_lt_pow_right (by decide) hq))
  unfold pd_gH at z1 z2
  rw [pd_xx, pd_d_xor', pd_d_pow, if_pos rfl] at z2
  rcases pd_d_01 b q with e | e
  · rw [e] at z1 z2
    rw [pd_ph_0 _ (by decide)] at z1
    rw [pd_ph_2 _ (by decide)] at z2
    unfold pd_ad at z1 z2
    have a1 := congrArg Prod.fst z1; have a2 := congrArg Prod.snd z1
    have a3 := congrArg Prod.fst z2; have a4 := congrArg Prod.snd z2
    simp only at a1 a2 a3 a4
    apply Prod.ext <;> simp only <;> omega
  · rw [e] at z1 z2
    rw [pd_ph_2 _ (by decide)] at z1
    rw [pd_ph_0 _ (by decide)] at z2
    unfold pd_ad at z1 z2
    have a1 := congrArg Prod.fst z1; have a2 := congrArg Prod.snd z1
    have a3 := congrArg Prod.fst z2; have a4 := congrArg Prod.snd z2
    simp only at a1 a2 a3 a4
    apply Prod.ext <;> simp only <;> omega
/-- what the gates make of a row (x, z, sign) -/
def pd_rHs (q x z s : Nat) : Nat := s ^^^ (pd_d x q &&& pd_d z q)
def pd_rHw (q x z : Nat) : Nat := (pd_d x q ^^^ pd_d z q) * 2 ^ q
def pd_rSz (q x z : Nat) : Nat := z ^^^ (pd_d x q * 2 ^ q)
def pd_rXs (c q x z s : Nat) : Nat := s ^^^ ((pd_d x c &&& pd_d z q) &&& ((pd_d x q ^^^ pd_d z c) ^^^ 1))
def pd_rZs (c q x z s : Nat) : Nat := s ^^^ ((pd_d x c &&& pd_d x q) &&& (pd_d z c ^^^ pd_d z q))
def pd_rZz (c q x z : Nat) : Nat := (z ^^^ (pd_d x c * 2 ^ q)) ^^^ (pd_d x q * 2 ^ c)
end
section
/-- flipping digits -/
theorem pd_on_flip (m : Nat) {q : Nat} (hq : q < 10) : pd_on (m ^^^ 2 ^ q) + 2 * pd_d m q = pd_on m + 1 := by
  have := pd_on_xor m (2 ^ q)
  rw [pd_on_and_pow m hq, pd_on_pow hq] at this
  exact this
theorem pd_on_flipe (m e : Nat) {q : Nat} (hq : q < 10) (he : e ≤ 1) : pd_on (m ^^^ (e * 2 ^ q)) + 2 * (e * pd_d m q) = pd_on m + e := by
  have := pd_on_xor m (e * 2 ^ q)
  rw [pd_on_and_dpow m e hq he, pd_on_dpow e hq he] at this
  exact this
theorem pd_and_dpow (m e q : Nat) (he : e ≤ 1) : m &&& (e * 2 ^ q) = (e * pd_d m q) * 2 ^ q := by
  have : e = 0 ∨ e = 1 := by omega
  rcases this with rfl | rfl
  · rw [Nat.zero_mul, Nat.and_zero, Nat.zero_mul, Nat.zero_mul]
  · rw [Nat.one_mul, Nat.one_mul, pd_and_pow]
theorem pd_d32l {a u q : Nat} (hu : u < 32) (hq : q < 5) : pd_d (32 * a + u) q = pd_d u q := by
  rw [pd_d32 a hu, if_pos hq]
theorem pd_x32l {a u w : Nat} (hu : u < 32) (hw : w < 32) : (32 * a + u) ^^^ w = 32 * a + (u ^^^ w) := by
  have := pd_xor_32 (x := a) (z := u) (u := 0) (v := w) hu hw
  rw [Nat.mul_zero, Nat.zero_add, Nat.xor_zero] at this
  exact this
theorem pd_dp32 {e q : Nat} (he : e ≤ 1) (hq : q < 5) : e * 2 ^ q < 32 := pd_dpow_lt (N := 5) he hq
theorem pd_bx (a b : Nat) (ha : a ≤ 1) (hb : b ≤ 1) : a ^^^ b = (a + b) % 2 := by
  have h1 : a = 0 ∨ a = 1 := by omega
  have h2 : b = 0 ∨ b = 1 := by omega
  rcases h1 with rfl | rfl <;> rcases h2 with rfl | rfl <;> rfl
theorem pd_ba (a b : Nat) (ha : a ≤ 1) (hb : b ≤ 1) : a &&& b = a * b := by
  have h1 : a = 0 ∨ a = 1 := by omega
  have h2 : b = 0 ∨ b = 1 := by omega
  rcases h1 with rfl | rfl <;> rcases h2 with rfl | rfl <;> rfl
theorem pd_le1 {s : Nat} (h : s < 2) : s ≤ 1 := by omega
theorem pd_mul1 {a b : Nat} (ha : a ≤ 1) (hb : b ≤ 1) : a * b ≤ 1 := by
  have h1 : a = 0 ∨ a = 1 := by omega
  rcases h1 with rfl | rfl <;> omega
theorem pd_rHs_e (q x z s : Nat) (hs : s < 2) : pd_rHs q x z s = (s + pd_d x q * pd_d z q) % 2 := by
  unfold pd_rHs
  rw [pd_ba _ _ (pd_d_le x q) (pd_d_le z q), pd_bx _ _ (pd_le1 hs) (pd_mul1 (pd_d_le x q) (pd_d_le z q))]
theorem pd_rHw_e (q x z : Nat) : pd_rHw q x z = (pd_d x q + pd_d z q) % 2 * 2 ^ q := by
  unfold pd_rHw
  rw [pd_bx _ _ (pd_d_le x q) (pd_d_le z q)]
theorem pd_rXs_e (c q x z s : Nat) (hs : s < 2) : pd_rXs c q x z s = (s + pd_d x c * pd_d z q * ((pd_d x q + pd_d z c + 1) % 2)) % 2 := by
  unfold pd_rXs
  have a1 := pd_d_le x c; have a2 := pd_d_le z q; have a3 := pd_d_le x q; have a4 := pd_d_le z c
  rw [pd_ba _ _ a1 a2, pd_bx _ _ a3 a4, pd_bx ((pd_d x q + pd_d z c) % 2) 1 (by omega) (by decide), pd_ba _ _ (pd_mul1 a1 a2) (by omega), pd_bx _ _ (pd_le1 hs) (pd_mul1 (pd_mul1 a1 a2) (by omega))]
  rw [show ((pd_d x q + pd_d z c) % 2 + 1) % 2 = (pd_d x q + pd_d z c + 1) % 2 by omega]
theorem pd_rZs_e (c q x z s : Nat) (hs : s < 2) : pd_rZs c q x z s = (s + pd_d x c * pd_d x q * ((pd_d z c + pd_d z q) % 2)) % 2 := by
  unfold pd_rZs
  have a1 := pd_d_le x c; have a2 := pd_d_le x q; have a3 := pd_d_le z c; have a4 := pd_d_le z q
  rw [pd_ba _ _ a1 a2, pd_bx _ _ a3 a4, pd_ba _ _ (pd_mul1 a1 a2) (by omega), pd_bx _ _ (pd_le1 hs) (pd_mul1 (pd_mul1 a1 a2) (by omega))]
/-- the powers of i before and behind a gate -/
theorem pd_pw_H {q : Nat} (u v s : Nat) (hs : s < 2) :
    (pd_on ((u ^^^ pd_rHw q u v) &&& (v ^^^ pd_rHw q u v)) + 2 * pd_rHs q u v s) % 4 = (pd_on (u &&& v) + 2 * s + 2 * (pd_d u q * pd_d v q)) % 4 := by
  rw [pd_rHs_e q u v s hs, pd_rHw_e]
  have e : (u ^^^ ((pd_d u q + pd_d v q) % 2 * 2 ^ q)) &&& (v ^^^ ((pd_d u q + pd_d v q) % 2 * 2 ^ q)) = u &&& v := by
    apply pd_d_ext
    intro k
    rw [pd_d_and, pd_d_xor', pd_d_xor', pd_d_and, pd_d_dpow _ _ _ (by omega)]
    by_cases h : q = k
    · subst h
      rw [if_pos rfl]
      rcases pd_d_01 u q with e | e <;> rcases pd_d_01 v q with f | f <;> rw [e, f]
    · rw [if_neg h, Nat.add_zero, Nat.add_zero]
      have := pd_d_le u k; have := pd_d_le v k
      rw [Nat.mod_eq_of_lt (show pd_d u k < 2 by omega), Nat.mod_eq_of_lt (show pd_d v k < 2 by omega)]
  rw [e]
  omega
theorem pd_pw_S {q : Nat} (u v s : Nat) (hq : q < 10) (hs : s < 2) :
    (pd_on (u &&& pd_rSz q u v) + 2 * pd_rHs q u v s) % 4 = (pd_on (u &&& v) + 2 * s + pd_d u q) % 4 := by
  rw [pd_rHs_e q u v s hs]
  unfold pd_rSz
  rw [Nat.and_xor_distrib_left, pd_and_dpow _ _ _ (pd_d_le u q)]
  have := pd_on_flipe (u &&& v) (pd_d u q * pd_d u q) hq (pd_mul1 (pd_d_le u q) (pd_d_le u q))
  rw [pd_d_and] at this
  rcases pd_d_01 u q with e | e <;> rw [e] at this ⊢ <;> omega
theorem pd_pw_X {c q : Nat} (u v s : Nat) (hc : c < 10) (hq : q < 10) (hne : c ≠ q) (hs : s < 2) :
    (pd_on ((u ^^^ (pd_d u c * 2 ^ q)) &&& (v ^^^ (pd_d v q * 2 ^ c))) + 2 * pd_rXs c q u v s) % 4 = (pd_on (u &&& v) + 2 * s) % 4 := by
  rw [pd_rXs_e c q u v s hs]
  have k1 := pd_d_le u c; have k2 := pd_d_le v q
  rw [Nat.and_xor_distrib_left, Nat.and_comm (u ^^^ (pd_d u c * 2 ^ q)) v, Nat.and_xor_distrib_left, pd_and_dpow v _ q k1, pd_and_dpow (u ^^^ (pd_d u c * 2 ^ q)) _ c k2, pd_d_xor', pd_d_dpow _ _ _ k1, if_neg (fun e => hne e.symm), Nat.add_zero, Nat.mod_eq_of_lt (show pd_d u c < 2 by omega), Nat.and_comm v u]
  have f1 := pd_on_flipe (u &&& v) (pd_d u c * pd_d v q) hq (pd_mul1 k1 k2)
  have f2 := pd_on_flipe ((u &&& v) ^^^ (pd_d u c * pd_d v q * 2 ^ q)) (pd_d v q * pd_d u c) hc (pd_mul1 k2 k1)
  rw [pd_d_xor', pd_d_dpow _ _ _ (pd_mul1 k1 k2), if_neg (fun e => hne e.symm), pd_d_and, Nat.add_zero] at f2
  rw [pd_d_and] at f1
  rcases pd_d_01 u c with e | e <;> rcases pd_d_01 v q with f | f <;> rcases pd_d_01 u q with g | g <;> rcases pd_d_01 v c with i | i <;> rw [e, f] at f1 f2 ⊢ <;> simp only [g, i] at f1 f2 ⊢ <;> omega
theorem pd_pw_Z {c q : Nat} (u v s : Nat) (hc : c < 10) (hq : q < 10) (hne : c ≠ q) (hs : s < 2) :
    (pd_on (u &&& pd_rZz c q u v) + 2 * pd_rZs c q u v s) % 4 = (pd_on (u &&& v) + 2 * s + 2 * (pd_d u c * pd_d u q)) % 4 := by
  rw [pd_rZs_e c q u v s hs]
  have k1 := pd_d_le u c; have k2 := pd_d_le u q
  unfold pd_rZz
  rw [Nat.and_xor_distrib_left, Nat.and_xor_distrib_left, pd_and_dpow u _ q k1, pd_and_dpow u _ c k2]
  have f1 := pd_on_flipe (u &&& v) (pd_d u c * pd_d u q) hq (pd_mul1 k1 k2)
  have f2 := pd_on_flipe ((u &&& v) ^^^ (pd_d u c * pd_d u q * 2 ^ q)) (pd_d u q * pd_d u c) hc (pd_mul1 k2 k1)
  rw [pd_d_xor', pd_d_dpow _ _ _ (pd_mul1 k1 k2), if_neg (fun e => hne e.symm), pd_d_and, Nat.add_zero] at f2
  rw [pd_d_and] at f1
  rcases pd_d_01 u c with e | e <;> rcases pd_d_01 u q with f | f <;> rcases pd_d_01 v q with g | g <;> rcases pd_d_01 v c with i | i <;> rw [e, f] at f1 f2 ⊢ <;> simp only [g, i] at f1 f2 ⊢ <;> omega
/-- a row behind a gate keeps the vector behind it -/
theorem pd_row_H {N a b u v s q : Nat} {V : Nat → Int × Int} (hq : q < 5) (hqN : q < N) (hu : u < 32) (hv : v < 32) (hs : s < 2) (h : pd_Fx N (pd_on (u &&& v) + 2 * s) (32 * a + u) (32 * b + v) V) :
    pd_Fx N (pd_on ((u ^^^ pd_rHw q u v) &&& (v ^^^ pd_rHw q u v)) + 2 * pd_rHs q u v s) (32 * a + (u ^^^ pd_rHw q u v)) (32 * b + (v ^^^ pd_rHw q u v)) (pd_gH q V) := by
  have m := pd_Fx_H (q := q) (by omega) hqN h
  rw [pd_d32l hu hq, pd_d32l hv hq, ← pd_rHw_e, pd_x32l hu (by rw [pd_rHw_e]; exact pd_dp32 (by omega) hq), pd_x32l hv (by rw [pd_rHw_e]; exact pd_dp32 (by omega) hq)] at m
  exact pd_Fx_cg m (pd_pw_H u v s hs).symm
theorem pd_row_S {N a b u v s q : Nat} {V : Nat → Int × Int} (hq : q < 5) (hu : u < 32) (hv : v < 32) (hs : s < 2) (h : pd_Fx N (pd_on (u &&& v) + 2 * s) (32 * a + u) (32 * b + v) V) :
    pd_Fx N (pd_on (u &&& pd_rSz q u v) + 2 * pd_rHs q u v s) (32 * a + u) (32 * b + pd_rSz q u v) (pd_gS q V) := by
  have m := pd_Fx_S (q := q) (by omega) h
  rw [pd_d32l hu hq, pd_x32l hv (pd_dp32 (pd_d_le u q) hq)] at m
  exact pd_Fx_cg m (pd_pw_S u v s (by omega) hs).symm
theorem pd_row_X {N a b u v s c q : Nat} {V : Nat → Int × Int} (hc : c < 5) (hq : q < 5) (hqN : q < N) (hne : c ≠ q) (hu : u < 32) (hv : v < 32) (hs : s < 2) (h : pd_Fx N (pd_on (u &&& v) + 2 * s) (32 * a + u) (32 * b + v) V) :
    pd_Fx N (pd_on ((u ^^^ (pd_d u c * 2 ^ q)) &&& (v ^^^ (pd_d v q * 2 ^ c))) + 2 * pd_rXs c q u v s) (32 * a + (u ^^^ (pd_d u c * 2 ^ q))) (32 * b + (v ^^^ (pd_d v q * 2 ^ c))) (pd_gX c q V) := by
  have m := pd_Fx_X (c := c) (q := q) (by omega) (by omega) hqN hne h
  rw [pd_d32l hu hc, pd_d32l hv hq, pd_x32l hu (pd_dp32 (pd_d_le u c) hq), pd_x32l hv (pd_dp32 (pd_d_le v q) hc)] at m
  exact pd_Fx_cg m (pd_pw_X u v s (by omega) (by omega) hne hs).symm
theorem pd_row_Z {N a b u v s c q : Nat} {V : Nat → Int × Int} (hc : c < 5) (hq : q < 5) (hne : c ≠ q) (hu : u < 32) (hv : v < 32) (hs : s < 2) (h : pd_Fx N (pd_on (u &&& v) + 2 * s) (32 * a + u) (32 * b + v) V) :
    pd_Fx N (pd_on (u &&& pd_rZz c q u v) + 2 * pd_rZs c q u v s) (32 * a + u) (32 * b + pd_rZz c q u v) (pd_gZ c q V) := by
  have m := pd_Fx_Z (c := c) (q := q) (by omega) (by omega) h
  rw [pd_d32l hu hc, pd_d32l hu hq, pd_x32l hv (pd_dp32 (pd_d_le u c) hq), pd_x32l (pd_xor32 hv (pd_dp32 (pd_d_le u c) hq)) (pd_dp32 (pd_d_le u q) hc)] at m
  exact pd_Fx_cg m (pd_pw_Z u v s (by omega) (by omega) hne hs).symm
theorem pd_cl32z {a b u v x z : Nat} (hu : u < 32) (hv : v < 32) (hx : x < 32) (hz : z < 32) : pd_cl (32 * a + u) (32 * b + v) x z = pd_cl u v x z := by
  unfold pd_cl
  have e1 : (32 * a + u) &&& z = u &&& z := by
    have := pd_and_32 (x := a) (z := u) (u := 0) (v := z) hu hz
    rw [Nat.mul_zero, Nat.zero_add, Nat.and_zero, Nat.mul_zero, Nat.zero_add] at this
    exact this
  have e2 : (32 * b + v) &&& x = v &&& x := by
    have := pd_and_32 (x := b) (z := v) (u := 0) (v := x) hv hx
    rw [Nat.mul_zero, Nat.zero_add, Nat.and_zero, Nat.mul_zero, Nat.zero_add] at this
    exact this
  rw [e1, e2]
theorem pd_row_P {N a b u v s x z : Nat} {V : Nat → Int × Int} (hN : 32 ≤ 2 ^ N) (hu : u < 32) (hv : v < 32) (hx : x < 32) (hz : z < 32) (hs : s < 2) (h : pd_Fx N (pd_on (u &&& v) + 2 * s) (32 * a + u) (32 * b + v) V) :
    pd_Fx N (pd_on (u &&& v) + 2 * (s ^^^ pd_cl u v x z)) (32 * a + u) (32 * b + v) (pd_gP x z V) := by
  have m := pd_Fx_P (x := x) (z := z) (by omega) h
  rw [pd_cl32z hu hv hx hz] at m
  have := pd_bx s (pd_cl u v x z) (pd_le1 hs) (pd_le1 (pd_cl_lt u v x z))
  exact pd_Fx_cg m (by omega)
/-- clashes behind a gate are those before it -/
theorem pd_cl_H {q : Nat} (hq : q < 10) (x z u v : Nat) : pd_cl (x ^^^ pd_rHw q x z) (z ^^^ pd_rHw q x z) (u ^^^ pd_rHw q u v) (v ^^^ pd_rHw q u v) = pd_cl x z u v := by
  rw [pd_rHw_e, pd_rHw_e]
  rw [pd_cl_xor_l, pd_cl_xor_r, pd_cl_xor_r]
  have k1 : (pd_d x q + pd_d z q) % 2 ≤ 1 := by omega
  have k2 : (pd_d u q + pd_d v q) % 2 ≤ 1 := by omega
  have a1 : pd_cl x z ((pd_d u q + pd_d v q) % 2 * 2 ^ q) ((pd_d u q + pd_d v q) % 2 * 2 ^ q) = ((pd_d u q + pd_d v q) % 2 * pd_d x q + (pd_d u q + pd_d v q) % 2 * pd_d z q) % 2 := by
    unfold pd_cl; rw [pd_on_and_dpow x _ hq k2, pd_on_and_dpow z _ hq k2]
  have a2 : pd_cl ((pd_d x q + pd_d z q) % 2 * 2 ^ q) ((pd_d x q + pd_d z q) % 2 * 2 ^ q) u v = ((pd_d x q + pd_d z q) % 2 * pd_d u q + (pd_d x q + pd_d z q) % 2 * pd_d v q) % 2 := by
    rw [pd_cl_comm]; unfold pd_cl; rw [pd_on_and_dpow u _ hq k1, pd_on_and_dpow v _ hq k1]
  have a3 : ∀ a b : Nat, pd_cl a a b b = 0 := by
    intro a b; unfold pd_cl; omega
  rw [a1, a2, a3]
  have := pd_cl_lt x z u v
  rcases pd_d_01 x q with e | e <;> rcases pd_d_01 z q with f | f <;> rcases pd_d_01 u q with g | g <;> rcases pd_d_01 v q with i | i <;> rw [e, f, g, i] <;> omega
theorem pd_cl_S {q : Nat} (hq : q < 10) (x z u v : Nat) : pd_cl x (pd_rSz q x z) u (pd_rSz q u v) = pd_cl x z u v := by
  unfold pd_rSz pd_cl
  have a1 := pd_lin_r x v (pd_d u q * 2 ^ q)
  have a2 := pd_lin_l z (pd_d x q * 2 ^ q) u
  rw [pd_on_and_dpow x _ hq (pd_d_le u q)] at a1
  rw [pd_on_comm (pd_d x q * 2 ^ q) u, pd_on_and_dpow u _ hq (pd_d_le x q), Nat.mul_comm (pd_d x q) (pd_d u q)] at a2
  omega
theorem pd_cl_X {c q : Nat} (hc : c < 10) (hq : q < 10) (hne : c ≠ q) (x z u v : Nat) :
    pd_cl (x ^^^ (pd_d x c * 2 ^ q)) (z ^^^ (pd_d z q * 2 ^ c)) (u ^^^ (pd_d u c * 2 ^ q)) (v ^^^ (pd_d v q * 2 ^ c)) = pd_cl x z u v := by
  unfold pd_cl
  have b1 := pd_lin_l x (pd_d x c * 2 ^ q) (v ^^^ (pd_d v q * 2 ^ c))
  have b2 := pd_lin_r x v (pd_d v q * 2 ^ c)
  have b3 := pd_lin_r (pd_d x c * 2 ^ q) v (pd_d v q * 2 ^ c)
  have d1 := pd_lin_l z (pd_d z q * 2 ^ c) (u ^^^ (pd_d u c * 2 ^ q))
  have d2 := pd_lin_r z u (pd_d u c * 2 ^ q)
  have d3 := pd_lin_r (pd_d z q * 2 ^ c) u (pd_d u c * 2 ^ q)
  rw [pd_on_and_dpow x _ hc (pd_d_le v q)] at b2
  rw [pd_on_comm (pd_d x c * 2 ^ q) v, pd_on_and_dpow v _ hq (pd_d_le x c), pd_on_and_dpow _ _ hc (pd_d_le v q), pd_d_dpow _ _ _ (pd_d_le x c), if_neg (fun e => hne e.symm), Nat.mul_zero] at b3
  rw [pd_on_and_dpow z _ hq (pd_d_le u c)] at d2
  rw [pd_on_comm (pd_d z q * 2 ^ c) u, pd_on_and_dpow u _ hc (pd_d_le z q), pd_on_and_dpow _ _ hq (pd_d_le u c), pd_d_dpow _ _ _ (pd_d_le z q), if_neg hne, Nat.mul_zero] at d3
  rw [Nat.mul_comm (pd_d x c) (pd_d v q)] at b3
  rw [Nat.mul_comm (pd_d z q) (pd_d u c)] at d3
  omega
theorem pd_cl_Z {c q : Nat} (hc : c < 10) (hq : q < 10) (x z u v : Nat) : pd_cl x (pd_rZz c q x z) u (pd_rZz c q u v) = pd_cl x z u v := by
  unfold pd_rZz pd_cl
  have a1 := pd_lin_r x (v ^^^ (pd_d u c * 2 ^ q)) (pd_d u q * 2 ^ c)
  have a2 := pd_lin_r x v (pd_d u c * 2 ^ q)
  have b1 := pd_lin_l (z ^^^ (pd_d x c * 2 ^ q)) (pd_d x q * 2 ^ c) u
  have b2 := pd_lin_l z (pd_d x c * 2 ^ q) u
  rw [pd_on_and_dpow x _ hc (pd_d_le u q)] at a1
  rw [pd_on_and_dpow x _ hq (pd_d_le u c)] at a2
  rw [pd_on_comm (pd_d x q * 2 ^ c) u, pd_on_and_dpow u _ hc (pd_d_le x q)] at b1
  rw [pd_on_comm (pd_d x c * 2 ^ q) u, pd_on_and_dpow u _ hq (pd_d_le x c)] at b2
  rw [Nat.mul_comm (pd_d x q) (pd_d u c)] at b1
  rw [Nat.mul_comm (pd_d x c) (pd_d u q)] at b2
  omega
end
section
/-- a gate: what it makes of rows, and of vectors -/
def pd_Gate (n : Nat) (fx fz fs : Nat → Nat → Nat → Nat) (g : (Nat → Int × Int) → Nat → Int × Int) : Prop :=
  (∀ x z s, x < 32 → z < 32 → s < 2 → fx x z s < 32 ∧ fz x z s < 32 ∧ fs x z s < 2) ∧
  (∀ x z s u v t, x < 32 → z < 32 → s < 2 → u < 32 → v < 32 → t < 2 → pd_cl (fx x z s) (fz x z s) (fx u v t) (fz u v t) = pd_cl x z u v) ∧
  (∀ N V, 5 ≤ N → pd_Nz N V → pd_Nz N (g V)) ∧
  (∀ N a b u v s V, 5 ≤ N → u < 32 → v < 32 → s < 2 → pd_Fx N (pd_on (u &&& v) + 2 * s) (32 * a + u) (32 * b + v) V →
    pd_Fx N (pd_on (fx u v s &&& fz u v s) + 2 * fs u v s) (32 * a + fx u v s) (32 * b + fz u v s) (g V)) ∧
  (∀ q s, n ≤ q → q < 5 → s < 2 → fx (2 ^ q) 0 s = 2 ^ q ∧ fz (2 ^ q) 0 s = 0 ∧ fs (2 ^ q) 0 s = s ∧ fx 0 (2 ^ q) s = 0 ∧ fz 0 (2 ^ q) s = 2 ^ q ∧ fs 0 (2 ^ q) s = s)
theorem pd_Gate_St {n : Nat} {fx fz fs : Nat → Nat → Nat → Nat} {g : (Nat → Int × Int) → Nat → Int × Int} (hG : pd_Gate n fx fz fs g)
    {X Z S X' Z' S' : Nat → Nat} {o : Nat} {V : Nat → Int × Int} (h : pd_St n X Z S o V)
    (hR : ∀ i, i < 10 → X' (o + i) = fx (X (o + i)) (Z (o + i)) (S (o + i)) ∧ Z' (o + i) = fz (X (o + i)) (Z (o + i)) (S (o + i)) ∧ S' (o + i) = fs (X (o + i)) (Z (o + i)) (S (o + i))) :
    pd_St n X' Z' S' o (g V) := by
  obtain ⟨g1, g2, g3, g4, g5⟩ := hG
  obtain ⟨h1, h2, h3, h4, h5⟩ := h
  refine ⟨?_, ?_, g3 5 V (by decide) h3, ?_, ?_⟩
  · intro i hi
    obtain ⟨a, b, c⟩ := hR i hi
    obtain ⟨x, y, z⟩ := h1 i hi
    rw [a, b, c]; exact g1 _ _ _ x y z
  · intro i j hi hj
    obtain ⟨a, b, c⟩ := hR i hi
    obtain ⟨a', b', c'⟩ := hR j hj
    obtain ⟨x, y, z⟩ := h1 i hi
    obtain ⟨x', y', z'⟩ := h1 j hj
    rw [a, b, a', b', g2 _ _ _ _ _ _ x y z x' y' z']; exact h2 i j hi hj
  · intro q hq
    obtain ⟨a, b, c⟩ := hR (5 + q) (by omega)
    obtain ⟨x, y, z⟩ := h1 (5 + q) (by omega)
    have h := h4 q hq
    unfold pd_Rw at h ⊢
    rw [a, b, c]
    have m := g4 5 0 0 _ _ _ V (by decide) x y z (by rw [Nat.mul_zero, Nat.zero_add, Nat.zero_add]; exact h)
    rw [Nat.mul_zero, Nat.zero_add, Nat.zero_add] at m
    exact m
  · intro q hn hq
    obtain ⟨a, b, c⟩ := hR q (by omega)
    obtain ⟨a', b', c'⟩ := hR (5 + q) (by omega)
    obtain ⟨x, y, x', y', z'⟩ := h5 q hn hq
    obtain ⟨k1, k2, k3, _, _, _⟩ := g5 q (S (o + q)) hn hq (h1 q (by omega)).2.2
    obtain ⟨_, _, _, k4, k5, k6⟩ := g5 q (S (o + (5 + q))) hn hq (h1 (5 + q) (by omega)).2.2
    rw [a, b, a', b', c', x, y, x', y', k1, k2, k4, k5, k6]
    exact ⟨rfl, rfl, rfl, rfl, z'⟩
theorem pd_Gate_Fr {n : Nat} {fx fz fs : Nat → Nat → Nat → Nat} {g : (Nat → Int × Int) → Nat → Int × Int} (hG : pd_Gate n fx fz fs g)
    {X Z S X' Z' S' : Nat → Nat} {o : Nat} {U : Nat → Int × Int} (h : pd_Fr n X Z S o U)
    (hR : ∀ i, i < 10 → X' (o + i) = fx (X (o + i)) (Z (o + i)) (S (o + i)) ∧ Z' (o + i) = fz (X (o + i)) (Z (o + i)) (S (o + i)) ∧ S' (o + i) = fs (X (o + i)) (Z (o + i)) (S (o + i))) :
    pd_Fr n X' Z' S' o (g U) := by
  obtain ⟨g1, g2, g3, g4, g5⟩ := hG
  obtain ⟨h1, h3, h4, h5⟩ := h
  refine ⟨?_, g3 10 U (by decide) h3, ?_, ?_⟩
  · intro i hi
    obtain ⟨a, b, c⟩ := hR i hi
    obtain ⟨x, y, z⟩ := h1 i hi
    rw [a, b, c]; exact g1 _ _ _ x y z
  · intro i hi
    obtain ⟨a, b, c⟩ := hR i hi
    obtain ⟨x, y, z⟩ := h1 i hi
    rw [a, b, c]
    exact g4 10 _ _ _ _ _ U (by decide) x y z (h4 i hi)
  · intro q hn hq
    obtain ⟨a, b, c⟩ := hR q (by omega)
    obtain ⟨a', b', c'⟩ := hR (5 + q) (by omega)
    obtain ⟨x, y, z, x', y', z'⟩ := h5 q hn hq
    obtain ⟨k1, k2, k3, _, _, _⟩ := g5 q (S (o + q)) hn hq (h1 q (by omega)).2.2
    obtain ⟨_, _, _, k4, k5, k6⟩ := g5 q (S (o + (5 + q))) hn hq (h1 (5 + q) (by omega)).2.2
    rw [a, b, c, a', b', c', x, y, x', y', k1, k2, k3, k4, k5, k6]
    exact ⟨rfl, rfl, z, rfl, rfl, z'⟩
theorem pd_dq0 {q q' : Nat} (h : q ≠ q') : pd_d (2 ^ q') q = 0 := by rw [pd_d_pow, if_neg (fun e => h e.symm)]
theorem pd_Gate_H {n q : Nat} (hn : n ≤ 5) (hq : q < n) : pd_Gate n (fun x z _ => x ^^^ pd_rHw q x z) (fun x z _ => z ^^^ pd_rHw q x z) (fun x z s => pd_rHs q x z s) (pd_gH q) := by
  have w32 : ∀ x z, pd_rHw q x z < 32 := fun x z => by rw [pd_rHw_e]; exact pd_dp32 (by omega) (by omega)
  refine ⟨?_, ?_, ?_, ?_, ?_⟩
  · intro x z s hx hz hs
    exact ⟨pd_xor32 hx (w32 x z), pd_xor32 hz (w32 x z), by dsimp only; rw [pd_rHs_e q x z s hs]; omega⟩
  · intro x z s u v t _ _ _ _ _ _
    exact pd_cl_H (by omega) x z u v
  · intro N V hN h
    exact pd_Nz_H (by omega) h
  · intro N a b u v s V hN hu hv hs h
    exact pd_row_H (by omega) (by omega) hu hv hs h
  · intro q' s hq' hq5 hs
    have e := pd_dq0 (q := q) (q' := q') (by omega)
    have w1 : pd_rHw q (2 ^ q') 0 = 0 := by rw [pd_rHw_e, e, pd_d_0]; exact Nat.zero_mul _
    have w2 : pd_rHw q 0 (2 ^ q') = 0 := by rw [pd_rHw_e, e, pd_d_0]; exact Nat.zero_mul _
    have s1 : pd_rHs q (2 ^ q') 0 s = s := by rw [pd_rHs_e _ _ _ _ hs, e, pd_d_0]; omega
    have s2 : pd_rHs q 0 (2 ^ q') s = s := by rw [pd_rHs_e _ _ _ _ hs, e, pd_d_0]; omega
    simp only [w1, w2, s1, s2, Nat.xor_zero, and_self]
theorem pd_Gate_S {n q : Nat} (hn : n ≤ 5) (hq : q < n) : pd_Gate n (fun x _ _ => x) (fun x z _ => pd_rSz q x z) (fun x z s => pd_rHs q x z s) (pd_gS q) := by
  refine ⟨?_, ?_, ?_, ?_, ?_⟩
  · intro x z s hx hz hs
    exact ⟨hx, pd_xor32 hz (pd_dp32 (pd_d_le x q) (by omega)), by dsimp only; rw [pd_rHs_e q x z s hs]; omega⟩
  · intro x z s u v t _ _ _ _ _ _
    exact pd_cl_S (by omega) x z u v
  · intro N V hN h
    exact pd_Nz_S h
  · intro N a b u v s V hN hu hv hs h
    exact pd_row_S (by omega) hu hv hs h
  · intro q' s hq' hq5 hs
    have e := pd_dq0 (q := q) (q' := q') (by omega)
    have w1 : pd_rSz q (2 ^ q') 0 = 0 := by unfold pd_rSz; rw [e, Nat.zero_mul, Nat.xor_zero]
    have w2 : pd_rSz q 0 (2 ^ q') = 2 ^ q' := by unfold pd_rSz; rw [pd_d_0, Nat.zero_mul, Nat.xor_zero]
    have s1 : pd_rHs q (2 ^ q') 0 s = s := by rw [pd_rHs_e _ _ _ _ hs, e, pd_d_0]; omega
    have s2 : pd_rHs q 0 (2 ^ q') s = s := by rw [pd_rHs_e _ _ _ _ hs, e, pd_d_0]; omega
    simp only [w1, w2, s1, s2, and_self]
theorem pd_Gate_X {n c q : Nat} (hn : n ≤ 5) (hc : c < n) (hq : q < n) (hne : c ≠ q) : pd_Gate n (fun x _ _ => x ^^^ (pd_d x c * 2 ^ q)) (fun _ z _ => z ^^^ (pd_d z q * 2 ^ c)) (fun x z s => pd_rXs c q x z s) (pd_gX c q) := by
  refine ⟨?_, ?_, ?_, ?_, ?_⟩
  · intro x z s hx hz hs
    exact ⟨pd_xor32 hx (pd_dp32 (pd_d_le x c) (by omega)), pd_xor32 hz (pd_dp32 (pd_d_le z q) (by omega)), by dsimp only; rw [pd_rXs_e c q x z s hs]; omega⟩
  · intro x z s u v t _ _ _ _ _ _
    exact pd_cl_X (by omega) (by omega) hne x z u v
  · intro N V hN h
    exact pd_Nz_X (by omega) hne h
  · intro N a b u v s V hN hu hv hs h
    exact pd_row_X (by omega) (by omega) (by omega) hne hu hv hs h
  · intro q' s hq' hq5 hs
    have e := pd_dq0 (q := q) (q' := q') (by omega)
    have e2 := pd_dq0 (q := c) (q' := q') (by omega)
    have s1 : pd_rXs c q (2 ^ q') 0 s = s := by rw [pd_rXs_e _ _ _ _ _ hs, e2, Nat.zero_mul, Nat.zero_mul]; omega
    have s2 : pd_rXs c q 0 (2 ^ q') s = s := by rw [pd_rXs_e _ _ _ _ _ hs, pd_d_0 c, Nat.zero_mul, Nat.zero_mul]; omega
    simp only [s1, s2, e, e2, pd_d_0, Nat.zero_mul, Nat.xor_zero, and_self]
theorem pd_Gate_Z {n c q : Nat} (hn : n ≤ 5) (hc : c < n) (hq : q < n) (hne : c ≠ q) : pd_Gate n (fun x _ _ => x) (fun x z _ => pd_rZz c q x z) (fun x z s => pd_rZs c q x z s) (pd_gZ c q) := by
  refine ⟨?_, ?_, ?_, ?_, ?_⟩
  · intro x z s hx hz hs
    exact ⟨hx, pd_xor32 (pd_xor32 hz (pd_dp32 (pd_d_le x c) (by omega))) (pd_dp32 (pd_d_le x q) (by omega)), by dsimp only; rw [pd_rZs_e c q x z s hs]; omega⟩
  · intro x z s u v t _ _ _ _ _ _
    exact pd_cl_Z (by omega) (by omega) x z u v
  · intro N V hN h
    exact pd_Nz_Z h
  · intro N a b u v s V hN hu hv hs h
    exact pd_row_Z (by omega) (by omega) hne hu hv hs h
  · intro q' s hq' hq5 hs
    have e := pd_dq0 (q := q) (q' := q') (by omega)
    have e2 := pd_dq0 (q := c) (q' := q') (by omega)
    have w1 : pd_rZz c q (2 ^ q') 0 = 0 := by unfold pd_rZz; rw [e, e2, Nat.zero_mul, Nat.xor_zero, Nat.zero_mul, Nat.xor_zero]
    have w2 : pd_rZz c q 0 (2 ^ q') = 2 ^ q' := by unfold pd_rZz; rw [pd_d_0, pd_d_0, Nat.zero_mul, Nat.xor_zero, Nat.zero_mul, Nat.xor_zero]
    have s1 : pd_rZs c q (2 ^ q') 0 s = s := by rw [pd_rZs_e _ _ _ _ _ hs, e2, Nat.zero_mul, Nat.zero_mul]; omega
    have s2 : pd_rZs c q 0 (2 ^ q') s = s := by rw [pd_rZs_e _ _ _ _ _ hs, pd_d_0 c, Nat.zero_mul, Nat.zero_mul]; omega
    simp only [w1, w2, s1, s2, and_self]
theorem pd_32N {N : Nat} (h : 5 ≤ N) : 32 ≤ 2 ^ N := show 2 ^ 5 ≤ 2 ^ N from Nat.pow_le_pow_right (by decide) h
theorem pd_Gate_P {n x z : Nat} (hn : n ≤ 5) (hx : x < 2 ^ n) (hz : z < 2 ^ n) : pd_Gate n (fun u _ _ => u) (fun _ v _ => v) (fun u v s => s ^^^ pd_cl u v x z) (pd_gP x z) := by
  have h32 : 2 ^ n ≤ 32 := show 2 ^ n ≤ 2 ^ 5 from Nat.pow_le_pow_right (by decide) hn
  refine ⟨?_, ?_, ?_, ?_, ?_⟩
  · intro u v s hu hv hs
    exact ⟨hu, hv, by dsimp only; rw [pd_bx _ _ (pd_le1 hs) (pd_le1 (pd_cl_lt u v x z))]; omega⟩
  · intro u v s u' v' t _ _ _ _ _ _
    rfl
  · intro N V hN h
    have := pd_32N hN
    exact pd_Nz_P (by omega) h
  · intro N a b u v s V hN hu hv hs h
    exact pd_row_P (pd_32N hN) hu hv (by omega) (by omega) hs h
  · intro q' s hq' hq5 hs
    dsimp only
    rw [pd_cl_x (q := q') (by omega), pd_cl_z (q := q') (by omega), pd_d_ge hz hq', pd_d_ge hx hq', Nat.xor_zero]
    exact ⟨rfl, rfl, rfl, rfl, rfl, rfl⟩
/-- dividing by f -/
def pd_lv (f v : Int × Int) : Int × Int := ((v.1 * f.1 + v.2 * f.2).tdiv (f.1 * f.1 + f.2 * f.2), (v.2 * f.1 - v.1 * f.2).tdiv (f.1 * f.1 + f.2 * f.2))
theorem pd_lv_ph (f v : Int × Int) (k : Nat) : pd_lv f (pd_ph k v) = pd_ph k (pd_lv f v) := by
  rcases pd_mod4 k with h | h | h | h
  · rw [pd_ph_0 _ h, pd_ph_0 _ h]
  · rw [pd_ph_1 _ h, pd_ph_1 _ h]
    unfold pd_lv
    simp only
    rw [show -v.2 * f.1 + v.1 * f.2 = -(v.2 * f.1 - v.1 * f.2) by rw [Int.neg_mul]; omega, Int.neg_tdiv, show v.1 * f.1 - -v.2 * f.2 = v.1 * f.1 + v.2 * f.2 by rw [Int.neg_mul]; omega]
  · rw [pd_ph_2 _ h, pd_ph_2 _ h]
    unfold pd_lv
    simp only
    rw [show -v.1 * f.1 + -v.2 * f.2 = -(v.1 * f.1 + v.2 * f.2) by rw [Int.neg_mul, Int.neg_mul]; omega, Int.neg_tdiv, show -v.2 * f.1 - -v.1 * f.2 = -(v.2 * f.1 - v.1 * f.2) by rw [Int.neg_mul, Int.neg_mul]; omega, Int.neg_tdiv]
  · rw [pd_ph_3 _ h, pd_ph_3 _ h]
    unfold pd_lv
    simp only
    rw [show v.2 * f.1 + -v.1 * f.2 = v.2 * f.1 - v.1 * f.2 by rw [Int.neg_mul]; omega, show -v.1 * f.1 - v.2 * f.2 = -(v.1 * f.1 + v.2 * f.2) by rw [Int.neg_mul]; omega, Int.neg_tdiv]
theorem pd_sq0 (a : Int) : 0 ≤ a * a := by
  rw [← Int.natAbs_mul_self]
  exact Int.natCast_nonneg _
theorem pd_sqz {a : Int} (h : a * a = 0) : a = 0 := by
  rcases Int.mul_eq_zero.mp h with e | e <;> exact e
theorem pd_nz_sq {f : Int × Int} (h : f ≠ (0, 0)) : 0 < f.1 * f.1 + f.2 * f.2 := by
  have h1 := pd_sq0 f.1
  have h2 := pd_sq0 f.2
  apply Classical.byContradiction
  intro hn
  apply h
  have e1 : f.1 * f.1 = 0 := by omega
  have e2 : f.2 * f.2 = 0 := by omega
  have := pd_sqz e1
  have := pd_sqz e2
  apply Prod.ext <;> simp only <;> assumption
theorem pd_lv_self {f : Int × Int} (h : f ≠ (0, 0)) : pd_lv f f = (1, 0) := by
  have := pd_nz_sq h
  unfold pd_lv
  rw [Int.tdiv_self (by omega), Int.mul_comm f.2 f.1, Int.sub_self, Int.zero_tdiv]
theorem pd_lv_0 (f : Int × Int) : pd_lv f (0, 0) = (0, 0) := by
  unfold pd_lv
  simp only [Int.zero_mul, Int.add_zero, Int.sub_self, Int.zero_tdiv]
theorem pd_Fx_lv {N p X Z : Nat} {V : Nat → Int × Int} (f : Int × Int) (h : pd_Fx N p X Z V) : pd_Fx N p X Z (fun b => pd_lv f (V b)) := by
  intro b hb
  show pd_lv f (V (b ^^^ X)) = _
  rw [h b hb, pd_lv_ph]
theorem pd_Nz_lv {N : Nat} {V : Nat → Int × Int} {a : Nat} (ha : a < 2 ^ N) (hf : V a ≠ (0, 0)) : pd_Nz N (fun b => pd_lv (V a) (V b)) := by
  refine ⟨a, ha, ?_⟩
  show pd_lv (V a) (V a) ≠ (0, 0)
  rw [pd_lv_self hf]; decide
/-- 0, 1, -1, i, -i -/
def pd_Un (v : Int × Int) : Prop := v = (0, 0) ∨ ∃ e, v = pd_ph e (1, 0)
theorem pd_Un_lv {N : Nat} (hN : N ≤ 10) {V : Nat → Int × Int} (hM : pd_Max N V) {a : Nat} (ha : a < 2 ^ N) (hf : V a ≠ (0, 0)) : ∀ b, b < 2 ^ N → pd_Un (pd_lv (V a) (V b)) := by
  intro b hb
  by_cases h : V b = (0, 0)
  · exact Or.inl (by rw [h, pd_lv_0])
  · obtain ⟨e, he⟩ := pd_units hN hM ha hb hf h
    exact Or.inr ⟨e, by rw [he, pd_lv_ph, pd_lv_self hf]⟩
theorem pd_St_lv {n : Nat} {X Z S : Nat → Nat} {o : Nat} {V : Nat → Int × Int} (h : pd_St n X Z S o V) {a : Nat} (ha : a < 32) (hf : V a ≠ (0, 0)) :
    pd_St n X Z S o (fun b => pd_lv (V a) (V b)) ∧ ∀ b, b < 32 → pd_Un (pd_lv (V a) (V b)) :=
  ⟨⟨h.1, h.2.1, pd_Nz_lv (N := 5) ha hf, fun q hq => pd_Fx_lv _ (h.2.2.2.1 q hq), h.2.2.2.2⟩, pd_Un_lv (N := 5) (by decide) (pd_St_max h) ha hf⟩
theorem pd_Fr_lv {n : Nat} {X Z S : Nat → Nat} {o : Nat} {U : Nat → Int × Int} (h : pd_Fr n X Z S o U) {a : Nat} (ha : a < 1024) (hf : U a ≠ (0, 0)) :
    pd_Fr n X Z S o (fun b => pd_lv (U a) (U b)) ∧ ∀ b, b < 1024 → pd_Un (pd_lv (U a) (U b)) :=
  ⟨⟨h.1, pd_Nz_lv (N := 10) ha hf, fun i hi => pd_Fx_lv _ (h.2.2.1 i hi), h.2.2.2⟩, pd_Un_lv (N := 10) (by decide) (pd_Fr_max h) ha hf⟩
end
section
/-- the part of V on which the product (x, z) comes out r -/
def pd_mz (r x z : Nat) (V : Nat → Int × Int) (b : Nat) : Int × Int := pd_ad (V b) (pd_ph (2 * r) (pd_gP x z V b))
theorem pd_Fx_ad {N p X Z : Nat} {V W : Nat → Int × Int} (h : pd_Fx N p X Z V) (h' : pd_Fx N p X Z W) : pd_Fx N p X Z (fun b => pd_ad (V b) (W b)) := by
  intro b hb
  show pd_ad (V (b ^^^ X)) (W (b ^^^ X)) = _
  rw [h b hb, h' b hb, pd_ph_ad]
theorem pd_Fx_ph {N p X Z k : Nat} {V : Nat → Int × Int} (h : pd_Fx N p X Z V) : pd_Fx N p X Z (fun b => pd_ph k (V b)) := by
  intro b hb
  show pd_ph k (V (b ^^^ X)) = _
  rw [h b hb, pd_ph_add, pd_ph_add, Nat.add_comm]
theorem pd_Fx_mz {N p X Z r x z : Nat} {V : Nat → Int × Int} (hx : x < 2 ^ N) (hc : pd_cl X Z x z = 0) (h : pd_Fx N p X Z V) : pd_Fx N p X Z (pd_mz r x z V) := by
  have m := pd_Fx_P (x := x) (z := z) hx h
  rw [hc] at m
  exact pd_Fx_ad h (pd_Fx_ph m)
theorem pd_Fx_mz' {N r x z : Nat} {V : Nat → Int × Int} : pd_Fx N (pd_on (x &&& z) + 2 * r) x z (pd_mz r x z V) := by
  intro b hb
  unfold pd_mz pd_gP
  rw [pd_xx, pd_ph_ad, pd_ph_add, pd_ph_add, pd_ph_add, pd_ad_comm]
  have l := pd_lin_l b x z
  congr 1
  · apply pd_ph_cg
    omega
  · exact (pd_ph_0 _ (by omega)).symm
theorem pd_Nz_mz {N p X Z r x z : Nat} {V : Nat → Int × Int} (hN : pd_Nz N V) (hX : X < 2 ^ N) (hx : x < 2 ^ N) (hc : pd_cl X Z x z = 1) (h : pd_Fx N p X Z V) : pd_Nz N (pd_mz r x z V) := by
  apply Classical.byContradiction
  intro hno
  have z0 : ∀ b, b < 2 ^ N → pd_mz r x z V b = (0, 0) := by
    intro b hb
    apply Classical.byContradiction
    intro hne
    exact hno ⟨b, hb, hne⟩
  have F : pd_Fx N (2 + 2 * r + pd_on (x &&& z)) x z V := by
    intro b hb
    have e := z0 (b ^^^ x) (pd_xor_lt hb hx)
    unfold pd_mz pd_gP at e
    rw [pd_xx, pd_ph_add] at e
    have e2 : V (b ^^^ x) = pd_ph 2 (pd_ph (2 * r + (pd_on (x &&& z) + 2 * pd_on (b &&& z))) (V b)) := by
      rw [pd_ph_2 _ (show 2 % 4 = 2 from rfl)]
      unfold pd_ad at e
      have a1 := congrArg Prod.fst e; have a2 := congrArg Prod.snd e
      simp only at a1 a2
      apply Prod.ext <;> simp only <;> omega
    rw [e2, pd_ph_add]
    exact pd_ph_cg _ (by omega)
  have := pd_Fx_comm hN h F hX hx
  omega
/-- the rows behind a measurement whose outcome was not settled: p is the cell of the first row that clashed -/
def pd_mX (X Z : Nat → Nat) (o p x z i : Nat) : Nat := if i = 5 + p then x else if i = p then X (o + (5 + p)) else if pd_cl (X (o + i)) (Z (o + i)) x z = 1 then X (o + i) ^^^ X (o + (5 + p)) else X (o + i)
def pd_mZ (X Z : Nat → Nat) (o p x z i : Nat) : Nat := if i = 5 + p then z else if i = p then Z (o + (5 + p)) else if pd_cl (X (o + i)) (Z (o + i)) x z = 1 then Z (o + i) ^^^ Z (o + (5 + p)) else Z (o + i)
/-- the sign of row i times row k -/
def pd_ms (X Z S : Nat → Nat) (i k : Nat) : Nat :=
  ((((0 + ((pd_on (X i &&& Z i) + 2 * S i) + 2 * pd_on (0 &&& X i))) + ((pd_on (X k &&& Z k) + 2 * S k) + 2 * pd_on ((0 ^^^ Z i) &&& X k))) + 12 - pd_on (((0 ^^^ X i) ^^^ X k) &&& ((0 ^^^ Z i) ^^^ Z k))) % 4) / 2
def pd_mS (X Z S : Nat → Nat) (o p x z w i : Nat) : Nat := if i = 5 + p then w else if i = p then S (o + (5 + p)) else if pd_cl (X (o + i)) (Z (o + i)) x z = 1 then pd_ms X Z S (o + i) (o + (5 + p)) else S (o + i)
theorem pd_ms_lt (X Z S : Nat → Nat) (i k : Nat) : pd_ms X Z S i k < 2 := by unfold pd_ms; omega
theorem pd_ms_Fx {N : Nat} {X Z S : Nat → Nat} {i k : Nat} {V : Nat → Int × Int} (hV : pd_Nz N V) (hi : pd_Rw N X Z S i V) (hk : pd_Rw N X Z S k V) (hXi : X i < 2 ^ N) (hXk : X k < 2 ^ N) :
    pd_Fx N (pd_on ((X i ^^^ X k) &&& (Z i ^^^ Z k)) + 2 * pd_ms X Z S i k) (X i ^^^ X k) (Z i ^^^ Z k) V := by
  unfold pd_Rw at hi hk
  have m := pd_Fx_sign hV (pd_Fx_mul hi hk hXk) (pd_xor_lt hXi hXk)
  unfold pd_ms
  rw [Nat.zero_xor, Nat.zero_xor, Nat.zero_and, pd_on_0]
  refine pd_Fx_cg m ?_
  have : pd_on (X i &&& Z i) + 2 * S i + (pd_on (X k &&& Z k) + 2 * S k) + 2 * pd_on (Z i &&& X k) = 0 + (pd_on (X i &&& Z i) + 2 * S i + 2 * 0) + (pd_on (X k &&& Z k) + 2 * S k + 2 * pd_on (Z i &&& X k)) := by omega
  rw [this]
theorem pd_St_mz {n : Nat} {X Z S X' Z' S' : Nat → Nat} {o : Nat} {V : Nat → Int × Int} (h : pd_St n X Z S o V) {x z w p : Nat} (hx : x < 2 ^ n) (hz : z < 2 ^ n) (hn : n ≤ 5) (hw : w < 2) (hp : p < n)
    (hc : pd_cl (X (o + (5 + p))) (Z (o + (5 + p))) x z = 1)
    (hR : ∀ i, i < 10 → X' (o + i) = pd_mX X Z o p x z i ∧ Z' (o + i) = pd_mZ X Z o p x z i ∧ S' (o + i) = pd_mS X Z S o p x z w i) :
    pd_St n X' Z' S' o (pd_mz w x z V) := by
  have h32 : 2 ^ n ≤ 32 := show 2 ^ n ≤ 2 ^ 5 from Nat.pow_le_pow_right (by decide) hn
  have hx5 : x < 32 := by omega
  have hz5 : z < 32 := by omega
  have hhi := fun {q} => pd_St_hi h hx hz (q := q)
  obtain ⟨h1, h2, h3, h4, h5⟩ := h
  have bp := h1 (5 + p) (by omega)
  have b5 : pd_Bd X' Z' S' o := by
    intro i hi
    obtain ⟨a, b, c⟩ := hR i hi
    have bi := h1 i hi
    rw [a, b, c]
    unfold pd_mX pd_mZ pd_mS
    by_cases e1 : i = 5 + p
    · rw [if_pos e1, if_pos e1, if_pos e1]; exact ⟨hx5, hz5, hw⟩
    · rw [if_neg e1, if_neg e1, if_neg e1]
      by_cases e2 : i = p
      · rw [if_pos e2, if_pos e2, if_pos e2]; exact bp
      · rw [if_neg e2, if_neg e2, if_neg e2]
        by_cases e3 : pd_cl (X (o + i)) (Z (o + i)) x z = 1
        · rw [if_pos e3, if_pos e3, if_pos e3]
          exact ⟨pd_xor32 bi.1 bp.1, pd_xor32 bi.2.1 bp.2.1, pd_ms_lt _ _ _ _ _⟩
        · rw [if_neg e3, if_neg e3, if_neg e3]; exact bi
  -- a row of the others: what it is, and its clashes
  have other : ∀ i, i < 10 → i ≠ 5 + p → i ≠ p → ∃ e, e ≤ 1 ∧ X' (o + i) = X (o + i) ^^^ (e * X (o + (5 + p))) ∧ Z' (o + i) = Z (o + i) ^^^ (e * Z (o + (5 + p))) ∧ e = pd_cl (X (o + i)) (Z (o + i)) x z := by
    intro i hi n1 n2
    obtain ⟨a, b, c⟩ := hR i hi
    refine ⟨pd_cl (X (o + i)) (Z (o + i)) x z, by have := pd_cl_lt (X (o + i)) (Z (o + i)) x z; omega, ?_, ?_, rfl⟩
    · rw [a]; unfold pd_mX
      rw [if_neg n1, if_neg n2]
      rcases pd_cl_01 (X (o + i)) (Z (o + i)) x z with e | e
      · rw [e, if_neg (by decide), Nat.zero_mul, Nat.xor_zero]
      · rw [e, if_pos rfl, Nat.one_mul]
    · rw [b]; unfold pd_mZ
      rw [if_neg n1, if_neg n2]
      rcases pd_cl_01 (X (o + i)) (Z (o + i)) x z with e | e
      · rw [e, if_neg (by decide), Nat.zero_mul, Nat.xor_zero]
      · rw [e, if_pos rfl, Nat.one_mul]
  have rp : X' (o + (5 + p)) = x ∧ Z' (o + (5 + p)) = z := by
    obtain ⟨a, b, c⟩ := hR (5 + p) (by omega)
    rw [a, b]; unfold pd_mX pd_mZ; rw [if_pos rfl, if_pos rfl]; exact ⟨rfl, rfl⟩
  have rd : X' (o + p) = X (o + (5 + p)) ∧ Z' (o + p) = Z (o + (5 + p)) := by
    obtain ⟨a, b, c⟩ := hR p (by omega)
    rw [a, b]; unfold pd_mX pd_mZ; rw [if_neg (show ¬ p = 5 + p by omega), if_neg (show ¬ p = 5 + p by omega), if_pos rfl, if_pos rfl]; exact ⟨rfl, rfl⟩
  have oM : ∀ i, i < 10 → i ≠ 5 + p → i ≠ p → pd_cl (X' (o + i)) (Z' (o + i)) x z = 0 := by
    intro i hi n1 n2
    obtain ⟨e, he, a, b, ee⟩ := other i hi n1 n2
    rw [a, b, pd_cl_xor_l, pd_cl_comm (e * _), pd_cl_d _ _ _ _ _ he, pd_cl_comm x z, hc, ← ee]
    omega
  have oS : ∀ i, i < 10 → i ≠ 5 + p → i ≠ p → pd_cl (X' (o + i)) (Z' (o + i)) (X (o + (5 + p))) (Z (o + (5 + p))) = 0 := by
    intro i hi n1 n2
    obtain ⟨e, he, a, b, ee⟩ := other i hi n1 n2
    rw [a, b, pd_cl_xor_l, pd_cl_comm (e * _), pd_cl_d _ _ _ _ _ he, pd_cl_self, h2 i (5 + p) hi (by omega), if_neg (by omega), Nat.mul_zero]
  have sy : pd_Sy X' Z' o := by
    intro i j hi hj
    by_cases i1 : i = 5 + p
    · subst i1
      rw [rp.1, rp.2]
      by_cases j1 : j = 5 + p
      · subst j1; rw [rp.1, rp.2, pd_cl_self, if_neg (by omega)]
      · by_cases j2 : j = p
        · subst j2; rw [rd.1, rd.2, pd_cl_comm, hc, if_pos (by omega)]
        · rw [pd_cl_comm, oM j hj j1 j2, if_neg (by omega)]
    · by_cases i2 : i = p
      · subst i2
        rw [rd.1, rd.2]
        by_cases j1 : j = 5 + i
        · subst j1; rw [rp.1, rp.2, hc, if_pos (by omega)]
        · by_cases j2 : j = i
          · subst j2; rw [rd.1, rd.2, pd_cl_self, if_neg (by omega)]
          · rw [pd_cl_comm, oS j hj j1 j2, if_neg (by omega)]
      · by_cases j1 : j = 5 + p
        · subst j1; rw [rp.1, rp.2, oM i hi i1 i2, if_neg (by omega)]
        · by_cases j2 : j = p
          · subst j2; rw [rd.1, rd.2, oS i hi i1 i2, if_neg (by omega)]
          · obtain ⟨e, he, a, b, ee⟩ := other i hi i1 i2
            obtain ⟨e', he', a', b', ee'⟩ := other j hj j1 j2
            have q := oS i hi i1 i2
            rw [a, b] at q
            rw [a, b, a', b', pd_cl_xor_r, pd_cl_d _ _ _ _ _ he', q, pd_cl_xor_l, pd_cl_comm (e * _), pd_cl_d _ _ _ _ _ he, h2 i j hi hj, h2 j (5 + p) hj (by omega), if_neg (c := j + 5 = 5 + p ∨ 5 + p + 5 = j) (by omega)]
            by_cases c : i + 5 = j ∨ j + 5 = i
            · rw [if_pos c]; omega
            · rw [if_neg c]; omega
  refine ⟨b5, sy, pd_Nz_mz h3 bp.1 hx5 hc (h4 p (by omega)), ?_, ?_⟩
  · intro q hq
    by_cases e1 : q = p
    · subst e1
      obtain ⟨a, b, c⟩ := hR (5 + q) (by omega)
      unfold pd_Rw
      rw [a, b, c]; unfold pd_mX pd_mZ pd_mS; rw [if_pos rfl, if_pos rfl, if_pos rfl]
      exact pd_Fx_mz'
    · have n1 : 5 + q ≠ 5 + p := by omega
      have n2 : 5 + q ≠ p := by omega
      have cz := oM (5 + q) (by omega) n1 n2
      obtain ⟨a, b, c⟩ := hR (5 + q) (by omega)
      have bq := h1 (5 + q) (by omega)
      unfold pd_Rw
      apply pd_Fx_mz (N := 5) hx5 cz
      rw [a, b, c]; unfold pd_mX pd_mZ pd_mS
      rw [if_neg n1, if_neg n1, if_neg n1, if_neg n2, if_neg n2, if_neg n2]
      by_cases e3 : pd_cl (X (o + (5 + q))) (Z (o + (5 + q))) x z = 1
      · rw [if_pos e3, if_pos e3, if_pos e3]
        exact pd_ms_Fx h3 (h4 q hq) (h4 p (by omega)) bq.1 bp.1
      · rw [if_neg e3, if_neg e3, if_neg e3]; exact h4 q hq
  · intro q hnq hq
    have k := hhi hnq hq
    have s := h5 q hnq hq
    obtain ⟨a, b, c⟩ := hR q (by omega)
    obtain ⟨a', b', c'⟩ := hR (5 + q) (by omega)
    rw [a, b, a', b', c']
    unfold pd_mX pd_mZ pd_mS
    rw [if_neg (show ¬ q = 5 + p by omega), if_neg (show ¬ q = p by omega), if_neg (show ¬ q = 5 + p by omega), if_neg (show ¬ q = p by omega), if_neg (show ¬ 5 + q = 5 + p by omega), if_neg (show ¬ 5 + q = p by omega), if_neg (show ¬ 5 + q = 5 + p by omega), if_neg (show ¬ 5 + q = p by omega), if_neg (show ¬ 5 + q = 5 + p by omega), if_neg (show ¬ 5 + q = p by omega), k.1, k.2, if_neg (by decide), if_neg (by decide), if_neg (by decide), if_neg (by decide), if_neg (by decide)]
    exact s
end
section
/-- sums of whole numbers -/
def pd_si (f : Nat → Int) : Nat → Int
  | 0 => 0
  | n + 1 => pd_si f n + f n
theorem pd_si_cg {f g : Nat → Int} : ∀ {n : Nat}, (∀ k, k < n → f k = g k) → pd_si f n = pd_si g n := by
  intro n
  induction n with
  | zero => intro _; rfl
  | succ n ih =>
    intro h
    show pd_si f n + f n = pd_si g n + g n
    rw [ih (fun k hk => h k (by omega)), h n (by omega)]
theorem pd_si_neg (f : Nat → Int) : ∀ n, pd_si (fun k => -f k) n = -pd_si f n := by
  intro n
  induction n with
  | zero => rfl
  | succ n ih =>
    show pd_si (fun k => -f k) n + -f n = -(pd_si f n + f n)
    rw [ih]; omega
theorem pd_si_add (f : Nat → Int) (m : Nat) : ∀ n, pd_si f (m + n) = pd_si f m + pd_si (fun k => f (m + k)) n := by
  intro n
  induction n with
  | zero => show pd_si f m = pd_si f m + 0; omega
  | succ n ih =>
    show pd_si f (m + n) + f (m + n) = pd_si f m + (pd_si (fun k => f (m + k)) n + f (m + n))
    rw [ih]; omega
theorem pd_si_b {f : Nat → Int} {M : Nat} : ∀ {n : Nat}, (∀ k, k < n → (f k).natAbs ≤ M) → (pd_si f n).natAbs ≤ n * M := by
  intro n
  induction n with
  | zero => intro _; show (0 : Int).natAbs ≤ _; rw [Nat.zero_mul]; decide
  | succ n ih =>
    intro h
    have h1 := ih (fun k hk => h k (by omega))
    have h2 := h n (by omega)
    show (pd_si f n + f n).natAbs ≤ _
    rw [Nat.succ_mul]
    omega
theorem pd_si_nn {f : Nat → Int} : ∀ {n : Nat}, (∀ k, k < n → 0 ≤ f k) → 0 ≤ pd_si f n := by
  intro n
  induction n with
  | zero => intro _; exact Int.le_refl 0
  | succ n ih =>
    intro h
    have h1 := ih (fun k hk => h k (by omega))
    have h2 := h n (by omega)
    show 0 ≤ pd_si f n + f n
    omega
theorem pd_si_pos {f : Nat → Int} {j : Nat} : ∀ {n : Nat}, (∀ k, k < n → 0 ≤ f k) → j < n → 0 < f j → 0 < pd_si f n := by
  intro n
  induction n with
  | zero => intro _ h; omega
  | succ n ih =>
    intro h hj hp
    have h1 := pd_si_nn (f := f) (n := n) (fun k hk => h k (by omega))
    have h2 := h n (by omega)
    show 0 < pd_si f n + f n
    by_cases e : j = n
    · subst e; omega
    · have := ih (fun k hk => h k (by omega)) (by omega) hp
      omega
/-- a sum over all masks doesn't mind a shift -/
theorem pd_si_xor : ∀ (N : Nat) (f : Nat → Int) (u : Nat), u < 2 ^ N → pd_si (fun b => f (b ^^^ u)) (2 ^ N) = pd_si f (2 ^ N) := by
  intro N
  induction N with
  | zero =>
    intro f u hu
    have : u = 0 := by omega
    subst this
    exact pd_si_cg (fun k _ => by rw [Nat.xor_zero])
  | succ N ih =>
    intro f u hu
    have hp : 2 ^ (N + 1) = 2 ^ N + 2 ^ N := by rw [Nat.pow_succ]; omega
    rw [hp, pd_si_add, pd_si_add]
    have hi : ∀ {k}, k < 2 ^ N → 2 ^ N + k = 2 ^ N ^^^ k := by
      intro k hk
      apply pd_d_ext
      intro i
      rw [pd_d_xor', pd_d_pow]
      unfold pd_d
      by_cases c : i < N
      · rw [Nat.testBit_two_pow_add_gt c, if_neg (by omega)]
        cases k.testBit i <;> rfl
      · by_cases c2 : N = i
        · subst c2
          rw [Nat.testBit_two_pow_add_eq, if_pos rfl, Nat.testBit_lt_two_pow hk]; rfl
        · have h1 : (2 ^ N + k) < 2 ^ i := by
            have : 2 ^ (N + 1) ≤ 2 ^ i := Nat.pow_le_pow_right (by decide) (by omega)
            omega
          have h2 : k < 2 ^ i := by omega
          rw [Nat.testBit_lt_two_pow h1, Nat.testBit_lt_two_pow h2, if_neg c2]; rfl
    by_cases c : u < 2 ^ N
    · rw [ih f u c]
      congr 1
      rw [← ih (fun k => f (2 ^ N + k)) u c]
      apply pd_si_cg
      intro k hk
      show f ((2 ^ N + k) ^^^ u) = f (2 ^ N + (k ^^^ u))
      rw [hi hk, hi (pd_xor_lt hk c), Nat.xor_assoc]
    · obtain ⟨w, hw, rfl⟩ : ∃ w, w < 2 ^ N ∧ u = 2 ^ N ^^^ w := ⟨u - 2 ^ N, by omega, by rw [← hi (show u - 2 ^ N < 2 ^ N by omega)]; omega⟩
      have e1 : pd_si (fun b => f (b ^^^ (2 ^ N ^^^ w))) (2 ^ N) = pd_si (fun k => f (2 ^ N + k)) (2 ^ N) := by
        rw [← ih (fun k => f (2 ^ N + k)) w hw]
        apply pd_si_cg
        intro k hk
        show f (k ^^^ (2 ^ N ^^^ w)) = f (2 ^ N + (k ^^^ w))
        rw [hi (pd_xor_lt hk hw), ← Nat.xor_assoc, ← Nat.xor_assoc, Nat.xor_comm k (2 ^ N)]
      have e2 : pd_si (fun k => f ((2 ^ N + k) ^^^ (2 ^ N ^^^ w))) (2 ^ N) = pd_si f (2 ^ N) := by
        rw [← ih f w hw]
        apply pd_si_cg
        intro k hk
        show f ((2 ^ N + k) ^^^ (2 ^ N ^^^ w)) = f (k ^^^ w)
        rw [hi hk, ← Nat.xor_assoc, pd_xx']
      rw [e1, e2, Int.add_comm]
/-- the real part of the conjugate of a times v -/
def pd_re (a v : Int × Int) : Int := a.1 * v.1 + a.2 * v.2
theorem pd_re_ph (k : Nat) (a v : Int × Int) : pd_re (pd_ph k a) (pd_ph k v) = pd_re a v := by
  unfold pd_re
  rcases pd_mod4 k with c | c | c | c
  · rw [pd_ph_0 _ c, pd_ph_0 _ c]
  · rw [pd_ph_1 _ c, pd_ph_1 _ c]; dsimp only; rw [Int.neg_mul_neg]; omega
  · rw [pd_ph_2 _ c, pd_ph_2 _ c]; dsimp only; rw [Int.neg_mul_neg, Int.neg_mul_neg]
  · rw [pd_ph_3 _ c, pd_ph_3 _ c]; dsimp only; rw [Int.neg_mul_neg]; omega
theorem pd_re_2 {k : Nat} (hk : k % 4 = 2) (a v : Int × Int) : pd_re a (pd_ph k v) = -pd_re a v := by
  unfold pd_re
  rw [pd_ph_2 _ hk]; dsimp only; rw [Int.mul_neg, Int.mul_neg]; omega
/-- one number's part in the expectation of (x, z) -/
def pd_T (x z : Nat) (V : Nat → Int × Int) (b : Nat) : Int := pd_re (V (b ^^^ x)) (pd_ph (pd_on (x &&& z) + 2 * pd_on (b &&& z)) (V b))
def pd_nrm (v : Int × Int) : Int := v.1 * v.1 + v.2 * v.2
theorem pd_nrm_nn (v : Int × Int) : 0 ≤ pd_nrm v := by
  have := pd_sq0 v.1; have := pd_sq0 v.2
  unfold pd_nrm; omega
theorem pd_E_cl {p u v x z : Nat} {V : Nat → Int × Int} (hu : u < 32) (hx : x < 32) (hF : pd_Fx 5 p u v V) (hc : pd_cl u v x z = 1) : pd_si (pd_T x z V) 32 = 0 := by
  have e : pd_si (fun b => pd_T x z V (b ^^^ u)) 32 = pd_si (fun b => -pd_T x z V b) 32 := by
    apply pd_si_cg
    intro b hb
    unfold pd_T
    have f1 := hF (b ^^^ x) (pd_xor32 hb hx)
    have f2 := hF b hb
    rw [pd_xr b u x, f1, f2, pd_ph_add]
    have l1 := pd_lin_l b u z
    have l2 := pd_lin_l b x v
    unfold pd_cl at hc
    rw [pd_on_comm v x] at hc
    have e1 : pd_ph (pd_on (x &&& z) + 2 * pd_on ((b ^^^ u) &&& z) + (p + 2 * pd_on (b &&& v))) (V b) = pd_ph (p + 2 * pd_on ((b ^^^ x) &&& v)) (pd_ph 2 (pd_ph (pd_on (x &&& z) + 2 * pd_on (b &&& z)) (V b))) := by
      rw [pd_ph_add, pd_ph_add]
      apply pd_ph_cg
      omega
    rw [e1, pd_re_ph, pd_re_2 rfl]
  rw [show (32 : Nat) = 2 ^ 5 from rfl, pd_si_xor 5 _ u hu, pd_si_neg] at e
  rw [show (32 : Nat) = 2 ^ 5 from rfl]
  omega
theorem pd_E_fx {sg x z : Nat} {V : Nat → Int × Int} (hs : sg < 2) (hF : pd_Fx 5 (pd_on (x &&& z) + 2 * sg) x z V) :
    pd_si (pd_T x z V) 32 = if sg = 0 then pd_si (fun b => pd_nrm (V b)) 32 else -pd_si (fun b => pd_nrm (V b)) 32 := by
  by_cases c : sg = 0
  · rw [if_pos c]
    apply pd_si_cg
    intro b hb
    unfold pd_T
    rw [hF b hb, c, Nat.mul_zero, Nat.add_zero, pd_re_ph]
    rfl
  · rw [if_neg c, ← pd_si_neg]
    apply pd_si_cg
    intro b hb
    unfold pd_T
    rw [hF b hb]
    have e : pd_ph (pd_on (x &&& z) + 2 * pd_on (b &&& z)) (V b) = pd_ph (pd_on (x &&& z) + 2 * sg + 2 * pd_on (b &&& z)) (pd_ph 2 (V b)) := by
      rw [pd_ph_add]; apply pd_ph_cg; omega
    rw [e, pd_re_ph, pd_re_2 rfl]
    rfl
theorem pd_nrm_pos {V : Nat → Int × Int} (h : pd_Nz 5 V) : 0 < pd_si (fun b => pd_nrm (V b)) 32 := by
  obtain ⟨b, hb, hn⟩ := h
  exact pd_si_pos (fun k _ => pd_nrm_nn (V k)) hb (pd_nz_sq hn)
end
section
/-- the conjugate of a times v -/
def pd_ip (a v : Int × Int) : Int × Int := (a.1 * v.1 + a.2 * v.2, a.1 * v.2 - a.2 * v.1)
theorem pd_ip_r (k : Nat) (a v : Int × Int) : pd_ip a (pd_ph k v) = pd_ph k (pd_ip a v) := by
  unfold pd_ip
  rcases pd_mod4 k with c | c | c | c
  · rw [pd_ph_0 _ c, pd_ph_0 _ c]
  · rw [pd_ph_1 _ c, pd_ph_1 _ c]; apply Prod.ext <;> simp only [Int.mul_neg] <;> omega
  · rw [pd_ph_2 _ c, pd_ph_2 _ c]; apply Prod.ext <;> simp only [Int.mul_neg] <;> omega
  · rw [pd_ph_3 _ c, pd_ph_3 _ c]; apply Prod.ext <;> simp only [Int.mul_neg] <;> omega
theorem pd_ip_l (k : Nat) (a v : Int × Int) : pd_ip (pd_ph k a) v = pd_ph (3 * k) (pd_ip a v) := by
  unfold pd_ip
  rcases pd_mod4 k with c | c | c | c
  · rw [pd_ph_0 _ c, pd_ph_0 _ (by omega)]
  · rw [pd_ph_1 _ c, pd_ph_3 _ (by omega)]; apply Prod.ext <;> simp only [Int.neg_mul] <;> omega
  · rw [pd_ph_2 _ c, pd_ph_2 _ (by omega)]; apply Prod.ext <;> simp only [Int.neg_mul] <;> omega
  · rw [pd_ph_3 _ c, pd_ph_1 _ (by omega)]; apply Prod.ext <;> simp only [Int.neg_mul] <;> omega
theorem pd_ip_nz {a v : Int × Int} (ha : a ≠ (0, 0)) (hv : v ≠ (0, 0)) : pd_ip a v ≠ (0, 0) := by
  intro e
  have e1 := congrArg Prod.fst e
  have e2 := congrArg Prod.snd e
  unfold pd_ip at e1 e2
  dsimp only at e1 e2
  have p1 := pd_nz_sq ha
  have p2 := pd_nz_sq hv
  have k : (a.1 * a.1 + a.2 * a.2) * (v.1 * v.1 + v.2 * v.2) = (a.1 * v.1 + a.2 * v.2) * (a.1 * v.1 + a.2 * v.2) + (a.1 * v.2 - a.2 * v.1) * (a.1 * v.2 - a.2 * v.1) := by grind
  rw [e1, e2] at k
  have := Int.mul_pos p1 p2
  omega
def pd_sg (f : Nat → Int × Int) (n : Nat) : Int × Int := (pd_si (fun k => (f k).1) n, pd_si (fun k => (f k).2) n)
theorem pd_sg_cg {f g : Nat → Int × Int} {n : Nat} (h : ∀ k, k < n → f k = g k) : pd_sg f n = pd_sg g n := by
  unfold pd_sg
  rw [pd_si_cg (fun k hk => by rw [h k hk]), pd_si_cg (f := fun k => (f k).2) (fun k hk => by rw [h k hk])]
theorem pd_sg_ph (f : Nat → Int × Int) (m : Nat) (n : Nat) : pd_ph m (pd_sg f n) = pd_sg (fun k => pd_ph m (f k)) n := by
  unfold pd_sg
  rcases pd_mod4 m with c | c | c | c
  · rw [pd_ph_0 _ c]
    have e : ∀ k, pd_ph m (f k) = f k := fun k => pd_ph_0 _ c
    simp only [e]
  · rw [pd_ph_1 _ c]
    have e : ∀ k, pd_ph m (f k) = (-(f k).2, (f k).1) := fun k => pd_ph_1 _ c
    simp only [e, pd_si_neg]
  · rw [pd_ph_2 _ c]
    have e : ∀ k, pd_ph m (f k) = (-(f k).1, -(f k).2) := fun k => pd_ph_2 _ c
    simp only [e, pd_si_neg]
  · rw [pd_ph_3 _ c]
    have e : ∀ k, pd_ph m (f k) = ((f k).2, -(f k).1) := fun k => pd_ph_3 _ c
    simp only [e, pd_si_neg]
theorem pd_sg_xor (f : Nat → Int × Int) {u : Nat} (hu : u < 32) : pd_sg (fun b => f (b ^^^ u)) 32 = pd_sg f 32 := by
  unfold pd_sg
  have a := pd_si_xor 5 (fun k => (f k).1) u hu
  have b := pd_si_xor 5 (fun k => (f k).2) u hu
  exact Prod.ext a b
/-- signs -/
def pd_pm (k : Nat) (x : Int) : Int := if k % 2 = 0 then x else -x
theorem pd_pm_add (k l : Nat) (x : Int) : pd_pm k (pd_pm l x) = pd_pm (k + l) x := by
  unfold pd_pm
  have h1 : k % 2 = 0 ∨ k % 2 = 1 := by omega
  have h2 : l % 2 = 0 ∨ l % 2 = 1 := by omega
  rcases h1 with h1 | h1 <;> rcases h2 with h2 | h2
  · rw [if_pos h2, if_pos h1, if_pos (show (k + l) % 2 = 0 by omega)]
  · rw [if_neg (show ¬ l % 2 = 0 by omega), if_pos h1, if_neg (show ¬ (k + l) % 2 = 0 by omega)]
  · rw [if_pos h2, if_neg (show ¬ k % 2 = 0 by omega), if_neg (show ¬ (k + l) % 2 = 0 by omega)]
  · rw [if_neg (show ¬ l % 2 = 0 by omega), if_neg (show ¬ k % 2 = 0 by omega), if_pos (show (k + l) % 2 = 0 by omega)]; omega
theorem pd_pm_cg {k l : Nat} (x : Int) (h : k % 2 = l % 2) : pd_pm k x = pd_pm l x := by
  unfold pd_pm; rw [h]
theorem pd_ph_pm1 (k : Nat) (v : Int × Int) : (pd_ph (2 * k) v).1 = pd_pm k v.1 := by
  unfold pd_pm
  have h1 : k % 2 = 0 ∨ k % 2 = 1 := by omega
  rcases h1 with h1 | h1
  · rw [if_pos h1, pd_ph_0 _ (by omega)]
  · rw [if_neg (by omega), pd_ph_2 _ (by omega)]
theorem pd_ph_pm2 (k : Nat) (v : Int × Int) : (pd_ph (2 * k) v).2 = pd_pm k v.2 := by
  unfold pd_pm
  have h1 : k % 2 = 0 ∨ k % 2 = 1 := by omega
  rcases h1 with h1 | h1
  · rw [if_pos h1, pd_ph_0 _ (by omega)]
  · rw [if_neg (by omega), pd_ph_2 _ (by omega)]
theorem pd_pow_add_x {N k : Nat} (hk : k < 2 ^ N) : 2 ^ N + k = 2 ^ N ^^^ k := by
  apply pd_d_ext
  intro i
  rw [pd_d_xor', pd_d_pow]
  unfold pd_d
  by_cases c : i < N
  · rw [Nat.testBit_two_pow_add_gt c, if_neg (by omega)]
    cases k.testBit i <;> rfl
  · by_cases c2 : N = i
    · subst c2
      rw [Nat.testBit_two_pow_add_eq, if_pos rfl, Nat.testBit_lt_two_pow hk]; rfl
    · have h1 : (2 ^ N + k) < 2 ^ i := by
        have : 2 ^ (N + 1) ≤ 2 ^ i := Nat.pow_le_pow_right (by decide) (by omega)
        have : 2 ^ (N + 1) = 2 ^ N + 2 ^ N := by rw [Nat.pow_succ]; omega
        omega
      have h2 : k < 2 ^ i := by omega
      rw [Nat.testBit_lt_two_pow h1, Nat.testBit_lt_two_pow h2, if_neg c2]; rfl
theorem pd_si_ad (f g : Nat → Int) : ∀ n, pd_si (fun k => f k + g k) n = pd_si f n + pd_si g n := by
  intro n
  induction n with
  | zero => rfl
  | succ n ih =>
    show pd_si (fun k => f k + g k) n + (f n + g n) = pd_si f n + f n + (pd_si g n + g n)
    rw [ih]; omega
/-- numbers whose signed sums over all masks are 0 are all 0 -/
theorem pd_walsh : ∀ (N : Nat), N ≤ 10 → ∀ (f : Nat → Int), (∀ z, z < 2 ^ N → pd_si (fun j => pd_pm (pd_on (j &&& z)) (f j)) (2 ^ N) = 0) → ∀ j, j < 2 ^ N → f j = 0 := by
  intro N
  induction N with
  | zero =>
    intro _ f h j hj
    have : j = 0 := by omega
    subst this
    have := h 0 (by decide)
    have e : pd_si (fun j => pd_pm (pd_on (j &&& 0)) (f j)) (2 ^ 0) = 0 + pd_pm (pd_on (0 &&& 0)) (f 0) := rfl
    rw [e, Nat.and_zero, pd_on_0] at this
    unfold pd_pm at this
    rw [if_pos rfl] at this
    omega
  | succ N ih =>
    intro hN f h j hj
    have hp : 2 ^ (N + 1) = 2 ^ N + 2 ^ N := by rw [Nat.pow_succ]; omega
    have low : ∀ z, z < 2 ^ N → ∀ k, k < 2 ^ N → pd_on ((2 ^ N + k) &&& z) % 2 = pd_on (k &&& z) % 2 := by
      intro z hz k hk
      have l := pd_lin_l (2 ^ N) k z
      rw [pd_on_comm (2 ^ N) z, pd_on_and_pow z (by omega), pd_d_lt hz] at l
      rw [pd_pow_add_x hk]; omega
    have key : ∀ z, z < 2 ^ N → pd_si (fun j => pd_pm (pd_on (j &&& z)) (f j)) (2 ^ N) = 0 ∧ pd_si (fun j => pd_pm (pd_on (j &&& z)) (f (2 ^ N + j))) (2 ^ N) = 0 := by
      intro z hz
      have a1 := h z (by omega)
      have a2 := h (2 ^ N + z) (by omega)
      rw [hp, pd_si_add] at a1 a2
      have b1 : pd_si (fun k => pd_pm (pd_on ((2 ^ N + k) &&& z)) (f (2 ^ N + k))) (2 ^ N) = pd_si (fun j => pd_pm (pd_on (j &&& z)) (f (2 ^ N + j))) (2 ^ N) :=
        pd_si_cg (fun k hk => pd_pm_cg _ (low z hz k hk))
      have c1 : pd_si (fun j => pd_pm (pd_on (j &&& (2 ^ N + z))) (f j)) (2 ^ N) = pd_si (fun j => pd_pm (pd_on (j &&& z)) (f j)) (2 ^ N) :=
        pd_si_cg (fun k hk => pd_pm_cg _ (by rw [pd_on_comm k (2 ^ N + z), low k hk z hz, pd_on_comm]))
      have c2 : pd_si (fun k => pd_pm (pd_on ((2 ^ N + k) &&& (2 ^ N + z))) (f (2 ^ N + k))) (2 ^ N) = -pd_si (fun j => pd_pm (pd_on (j &&& z)) (f (2 ^ N + j))) (2 ^ N) := by
        rw [← pd_si_neg]
        apply pd_si_cg
        intro k hk
        have l : pd_on ((2 ^ N + k) &&& (2 ^ N + z)) % 2 = (pd_on (k &&& z) + 1) % 2 := by
          have l1 := pd_lin_r (2 ^ N + k) (2 ^ N) z
          rw [← pd_pow_add_x hz] at l1
          have l2 := low z hz k hk
          have l3 := pd_on_and_pow (2 ^ N + k) (q := N) (by omega)
          have l4 : pd_d (2 ^ N + k) N = 1 := by
            rw [pd_pow_add_x hk, pd_d_xor', pd_d_pow, if_pos rfl, pd_d_lt hk]
          omega
        show pd_pm (pd_on ((2 ^ N + k) &&& (2 ^ N + z))) (f (2 ^ N + k)) = -pd_pm (pd_on (k &&& z)) (f (2 ^ N + k))
        unfold pd_pm
        by_cases e : pd_on (k &&& z) % 2 = 0
        · rw [if_pos e, if_neg (by omega)]
        · rw [if_neg e, if_pos (by omega)]; omega
      rw [b1] at a1
      rw [c1, c2] at a2
      omega
    by_cases c : j < 2 ^ N
    · exact ih (by omega) f (fun z hz => (key z hz).1) j c
    · have := ih (by omega) (fun j => f (2 ^ N + j)) (fun z hz => (key z hz).2) (j - 2 ^ N) (by omega)
      rw [show 2 ^ N + (j - 2 ^ N) = j by omega] at this
      exact this
/-- the product whose image is (u, v): digit by digit, out of clashes -/
def pd_mk (f : Nat → Nat) : Nat := pd_xs (fun q => f q * 2 ^ q) 5
theorem pd_mk_lt {f : Nat → Nat} (h : ∀ q, q < 5 → f q ≤ 1) : pd_mk f < 32 := pd_xs_lt (N := 5) (fun q hq => pd_dpow_lt (h q hq) hq)
theorem pd_mk_d {f : Nat → Nat} (h : ∀ q, q < 5 → f q ≤ 1) {k : Nat} (hk : k < 5) : pd_d (pd_mk f) k = f k := by
  have A : ∀ n, n ≤ 5 → pd_d (pd_xs (fun q => f q * 2 ^ q) n) k = if k < n then f k else 0 := by
    intro n
    induction n with
    | zero => intro _; rw [if_neg (Nat.not_lt_zero k)]; exact pd_d_0 k
    | succ n ih =>
      intro hn
      show pd_d (pd_xs (fun q => f q * 2 ^ q) n ^^^ f n * 2 ^ n) k = _
      have hk1 := h k hk
      rw [pd_d_xor', ih (by omega), pd_d_dpow _ _ _ (h n (by omega))]
      by_cases e : n = k
      · subst e; rw [if_neg (Nat.lt_irrefl n), if_pos rfl, if_pos (by omega)]; omega
      · rw [if_neg e]
        by_cases c : k < n
        · rw [if_pos c, if_pos (by omega)]; omega
        · rw [if_neg c, if_neg (by omega)]
  have := A 5 (by decide)
  rw [if_pos hk] at this
  exact this
theorem pd_pre {n : Nat} {X Z S : Nat → Nat} {o : Nat} {U : Nat → Int × Int} (h : pd_Fr n X Z S o U) {x z u v : Nat} (hx : x < 32) (hz : z < 32) (hu : u < 32) (hv : v < 32)
    (hdx : ∀ q, q < 5 → pd_d x q = pd_cl (X (o + (5 + q))) (Z (o + (5 + q))) u v) (hdz : ∀ q, q < 5 → pd_d z q = pd_cl (X (o + q)) (Z (o + q)) u v) : ∃ p, pd_Fx 10 p (32 * x + u) (32 * z + v) U := by
  obtain ⟨p, gx, gz, h1, h2, h3⟩ := pd_Im_ex h hx hz
  obtain ⟨rfl, rfl⟩ := pd_nd2 (pd_Fr_b h) (pd_Fr_sy h) h1 h2 hu hv (fun i hi => by
    rw [pd_Fr_cl h hx h1 h2 h3 hi]
    unfold pd_sx pd_sz
    by_cases c : i < 5
    · rw [if_pos c, if_pos c, pd_cl_x (by omega), hdz i c]
    · obtain ⟨k, rfl⟩ : ∃ k, i = 5 + k := ⟨i - 5, by omega⟩
      rw [if_neg c, if_neg c, Nat.add_sub_cancel_left, pd_cl_z (by omega), hdx k (by omega)])
  exact ⟨p, h3⟩
theorem pd_pre_ex {n : Nat} {X Z S : Nat → Nat} {o : Nat} {U : Nat → Int × Int} (h : pd_Fr n X Z S o U) {u v : Nat} (hu : u < 32) (hv : v < 32) : ∃ p x z, x < 32 ∧ z < 32 ∧ pd_Fx 10 p (32 * x + u) (32 * z + v) U := by
  have b1 : ∀ q, q < 5 → pd_cl (X (o + (5 + q))) (Z (o + (5 + q))) u v ≤ 1 := fun q _ => pd_le1 (pd_cl_lt _ _ _ _)
  have b2 : ∀ q, q < 5 → pd_cl (X (o + q)) (Z (o + q)) u v ≤ 1 := fun q _ => pd_le1 (pd_cl_lt _ _ _ _)
  have l1 := pd_mk_lt b1
  have l2 := pd_mk_lt b2
  obtain ⟨p, hp⟩ := pd_pre h l1 l2 hu hv (fun q hq => pd_mk_d b1 hq) (fun q hq => pd_mk_d b2 hq)
  exact ⟨p, _, _, l1, l2, hp⟩
/-- what the frame, taken back, makes of a state -/
def pd_bk (U V : Nat → Int × Int) (b : Nat) : Int × Int := pd_sg (fun j => pd_ip (U (32 * b + j)) (V j)) 32
theorem pd_bk_Fx {U V : Nat → Int × Int} {p x z u v s : Nat} (hu : u < 32) (hv : v < 32) (hF : pd_Fx 10 p (32 * x + u) (32 * z + v) U) (hR : pd_Fx 5 s u v V) :
    pd_Fx 5 (s + 3 * p) x z (pd_bk U V) := by
  intro b hb
  unfold pd_bk
  rw [← pd_sg_xor _ hu, pd_sg_ph]
  apply pd_sg_cg
  intro j hj
  have e1 := hF (32 * b + j) (pd_lt1024 hb hj)
  rw [pd_xor_32 hj hu, pd_on_and_32 hb hj hv] at e1
  rw [e1, hR j hj, pd_ip_r, pd_ip_l, pd_ph_add]
  apply pd_ph_cg
  omega
theorem pd_bk_nz {n : Nat} {X Z S : Nat → Nat} {o : Nat} {U V : Nat → Int × Int} (h : pd_Fr n X Z S o U) (hV : pd_Nz 5 V) : pd_Nz 5 (pd_bk U V) := by
  apply Classical.byContradiction
  intro hno
  have z0 : ∀ b, b < 32 → pd_bk U V b = (0, 0) := by
    intro b hb
    apply Classical.byContradiction
    intro hne
    exact hno ⟨b, hb, hne⟩
  obtain ⟨j1, hj1, hU1⟩ := pd_Fr_col0 h
  obtain ⟨j2, hj2, hV2⟩ := hV
  have hw : j1 ^^^ j2 < 32 := pd_xor32 hj1 hj2
  have key : ∀ z, z < 32 → pd_sg (fun j => pd_ph (2 * pd_on (j &&& z)) (pd_ip (U j) (V (j ^^^ (j1 ^^^ j2))))) 32 = (0, 0) := by
    intro z hz
    obtain ⟨p, a, c, ha, hc, hp⟩ := pd_pre_ex h hw hz
    have e := z0 a ha
    unfold pd_bk at e
    rw [← pd_sg_xor _ hw] at e
    have e2 : pd_sg (fun j => pd_ip (U (32 * a + (j ^^^ (j1 ^^^ j2)))) (V (j ^^^ (j1 ^^^ j2)))) 32 = pd_ph (3 * p) (pd_sg (fun j => pd_ph (2 * pd_on (j &&& z)) (pd_ip (U j) (V (j ^^^ (j1 ^^^ j2))))) 32) := by
      rw [pd_sg_ph]
      apply pd_sg_cg
      intro j hj
      have f := hp j (Nat.lt_of_lt_of_le hj (by decide))
      have xx : j ^^^ (32 * a + (j1 ^^^ j2)) = 32 * a + (j ^^^ (j1 ^^^ j2)) := by
        have := pd_xor_32 (x := 0) (z := j) (u := a) hj hw
        rw [Nat.mul_zero, Nat.zero_add, Nat.zero_xor] at this
        exact this
      have oo : pd_on (j &&& (32 * c + z)) = pd_on (j &&& z) := by
        have := pd_on_and_32 (x := 0) (z := j) (u := c) (v := z) (by decide) hj hz
        rw [Nat.mul_zero, Nat.zero_add, Nat.zero_and, pd_on_0, Nat.zero_add] at this
        exact this
      rw [xx, oo] at f
      rw [f, pd_ip_l, pd_ph_add]
      apply pd_ph_cg
      omega
    rw [e2] at e
    apply Classical.byContradiction
    intro hne
    exact pd_ph_nz hne e
  have r1 := pd_walsh 5 (by decide) (fun j => (pd_ip (U j) (V (j ^^^ (j1 ^^^ j2)))).1) (fun z hz => by
    have := congrArg Prod.fst (key z hz)
    unfold pd_sg at this
    dsimp only at this
    rw [← this]
    exact pd_si_cg (fun k _ => (pd_ph_pm1 _ _).symm)) j1 hj1
  have r2 := pd_walsh 5 (by decide) (fun j => (pd_ip (U j) (V (j ^^^ (j1 ^^^ j2)))).2) (fun z hz => by
    have := congrArg Prod.snd (key z hz)
    unfold pd_sg at this
    dsimp only at this
    rw [← this]
    exact pd_si_cg (fun k _ => (pd_ph_pm2 _ _).symm)) j1 hj1
  rw [← Nat.xor_assoc, Nat.xor_self, Nat.zero_xor] at r1 r2
  exact pd_ip_nz hU1 hV2 (Prod.ext r1 r2)
end
section
/-- the columns of the cells that are there -/
def pd_cut (n : Nat) (U : Nat → Int × Int) (k : Nat) : Int × Int := if k / 32 < 2 ^ n then U k else (0, 0)
theorem pd_cut_Fx {n p a b u v : Nat} {U : Nat → Int × Int} (hn : n ≤ 5) (ha : a < 2 ^ n) (hu : u < 32) (hF : ∀ k, k < 1024 → k / 32 < 2 ^ n → U (k ^^^ (32 * a + u)) = pd_ph (p + 2 * pd_on (k &&& (32 * b + v))) (U k)) :
    pd_Fx 10 p (32 * a + u) (32 * b + v) (pd_cut n U) := by
  have h32 : 2 ^ n ≤ 32 := show 2 ^ n ≤ 2 ^ 5 from Nat.pow_le_pow_right (by decide) hn
  intro k hk
  obtain ⟨c, j, hc, hj, rfl⟩ := pd_split32 hk
  have e := pd_xor_32 (x := c) (z := j) (u := a) (v := u) hj hu
  have lu := pd_xor32 hj hu
  unfold pd_cut
  have d1 : ((32 * c + j) ^^^ (32 * a + u)) / 32 = c ^^^ a := by rw [e]; omega
  have d2 : (32 * c + j) / 32 = c := by omega
  rw [d1, d2]
  by_cases h : c < 2 ^ n
  · rw [if_pos h, if_pos (pd_xor_lt h ha)]
    exact hF _ hk (by rw [d2]; exact h)
  · rw [if_neg h, if_neg (fun h2 => h (by have := pd_xor_lt h2 ha; rw [pd_xx] at this; exact this)), pd_ph_z]
/-- the frame takes what (x, z) makes of column b to the sign times what (u, v) makes of its own column -/
def pd_gw (x z u v s : Nat) (U : Nat → Int × Int) (b j : Nat) : Prop :=
  pd_ph (pd_on (x &&& z) + 2 * pd_on (b &&& z) + 2 * s + 40 - (pd_on (u &&& v) + 2 * pd_on ((j ^^^ u) &&& v))) (U (32 * (b ^^^ x) + j)) = U (32 * b + (j ^^^ u))
theorem pd_gw_Fx {n x z u v s : Nat} {U : Nat → Int × Int} (hn : n ≤ 5) (hx : x < 2 ^ n) (hu : u < 32) (hv : v < 32) (h : ∀ b, b < 2 ^ n → ∀ j, j < 32 → pd_gw x z u v s U b j) :
    pd_Fx 10 (pd_on (u &&& v) + 2 * s + 3 * pd_on (x &&& z)) (32 * x + u) (32 * z + v) (pd_cut n U) := by
  have h32 : 2 ^ n ≤ 32 := show 2 ^ n ≤ 2 ^ 5 from Nat.pow_le_pow_right (by decide) hn
  apply pd_cut_Fx hn hx hu
  intro k hk hc
  obtain ⟨b, j, hb, hj, rfl⟩ := pd_split32 hk
  have hb2 : b < 2 ^ n := by
    have : (32 * b + j) / 32 = b := by omega
    rw [this] at hc; exact hc
  have g := h b hb2 (j ^^^ u) (pd_xor32 hj hu)
  unfold pd_gw at g
  rw [pd_xx] at g
  have e := pd_ph_back g.symm
  rw [pd_xor_32 hj hu, pd_on_and_32 hb hj hv, e]
  apply pd_ph_cg
  have := pd_on_le (u &&& v); have := pd_on_le (j &&& v)
  omega
theorem pd_Fx_gw {x z u v s p : Nat} {U : Nat → Int × Int} (hx : x < 32) (hu : u < 32) (hv : v < 32) (hF : pd_Fx 10 p (32 * x + u) (32 * z + v) U) (hp : (pd_on (x &&& z) + p) % 4 = (pd_on (u &&& v) + 2 * s) % 4) {b j : Nat} (hb : b < 32) (hj : j < 32) :
    pd_gw x z u v s U b j := by
  have f := hF (32 * b + (j ^^^ u)) (pd_lt1024 hb (pd_xor32 hj hu))
  rw [pd_xor_32 (pd_xor32 hj hu) hu, pd_xx, pd_on_and_32 hb (pd_xor32 hj hu) hv] at f
  unfold pd_gw
  rw [f, pd_ph_add]
  apply pd_ph_0
  have := pd_on_le (u &&& v); have := pd_on_le ((j ^^^ u) &&& v)
  omega
/-- images of products of the cells that are there are such, and the search finds no other -/
theorem pd_img_lt {n : Nat} {X Z S : Nat → Nat} {U : Nat → Int × Int} (hFr : pd_Fr n X Z S 50 U) {p x z u v : Nat} (hx : x < 32) (hxn : x < 2 ^ n) (hzn : z < 2 ^ n) (hu : u < 32) (hv : v < 32)
    (hF : pd_Fx 10 p (32 * x + u) (32 * z + v) U) : u < 2 ^ n ∧ v < 2 ^ n := by
  constructor
  · apply pd_lt_of_d (N := 5) hu
    intro q h1 h2
    obtain ⟨_, _, _, c, d, _⟩ := hFr.2.2.2 q h1 h2
    have e := pd_Fr_cl hFr hx hu hv hF (i := 5 + q) (by omega)
    unfold pd_sx pd_sz at e
    rw [c, d, pd_cl_z (by omega), if_neg (by omega), if_neg (by omega), Nat.add_sub_cancel_left, pd_cl_z (by omega), pd_d_ge hxn h1] at e
    exact e
  · apply pd_lt_of_d (N := 5) hv
    intro q h1 h2
    obtain ⟨c, d, _⟩ := hFr.2.2.2 q h1 h2
    have e := pd_Fr_cl hFr hx hu hv hF (i := q) (by omega)
    unfold pd_sx pd_sz at e
    rw [c, d, pd_cl_x (by omega), if_pos h2, if_pos h2, pd_cl_x (by omega), pd_d_ge hzn h1] at e
    exact e
theorem pd_gw_uniq {n : Nat} {X Z S : Nat → Nat} {U : Nat → Int × Int} (hn : n ≤ 5) (hFr : pd_Fr n X Z S 50 U) {p x z u v s u' v' s' : Nat} (hx : x < 2 ^ n) (hz : z < 2 ^ n) (hu : u < 32) (hv : v < 32) (hs : s < 2)
    (hF : pd_Fx 10 p (32 * x + u) (32 * z + v) U) (hp : (pd_on (x &&& z) + p) % 4 = (pd_on (u &&& v) + 2 * s) % 4)
    (hu' : u' < 2 ^ n) (hv' : v' < 2 ^ n) (hs' : s' < 2) (h : ∀ b, b < 2 ^ n → ∀ j, j < 32 → pd_gw x z u' v' s' U b j) : u' = u ∧ v' = v ∧ s' = s := by
  have h32 : 2 ^ n ≤ 32 := show 2 ^ n ≤ 2 ^ 5 from Nat.pow_le_pow_right (by decide) hn
  have nz : pd_Nz 10 (pd_cut n U) := by
    obtain ⟨j, hj, hne⟩ := pd_Fr_col0 hFr
    refine ⟨j, Nat.lt_of_lt_of_le hj (by decide), ?_⟩
    unfold pd_cut
    rw [if_pos (by rw [Nat.div_eq_of_lt hj]; exact Nat.two_pow_pos n)]
    exact hne
  have F1 := pd_gw_Fx hn hx (show u' < 32 by omega) (show v' < 32 by omega) h
  have F0 : pd_Fx 10 p (32 * x + u) (32 * z + v) (pd_cut n U) := pd_cut_Fx hn hx hu (fun k hk _ => hF k hk)
  have lt := pd_img_lt hFr (by omega) hx hz hu hv hF
  obtain ⟨rfl, rfl⟩ := pd_nd2 (pd_Fr_b hFr) (pd_Fr_sy hFr) (show u' < 32 by omega) (show v' < 32 by omega) hu hv (fun i hi => by
    rw [pd_Fr_cl hFr (by omega) hu hv hF hi]
    by_cases c : i % 5 < n
    · have b := hFr.1 i hi
      have sl := pd_s_lt i hi
      have sx : pd_sx i < 2 ^ n := by
        unfold pd_sx
        by_cases c5 : i < 5
        · rw [if_pos c5]; exact Nat.pow_lt_pow_right (by decide) (by omega)
        · rw [if_neg c5]; exact Nat.two_pow_pos n
      have Fi : pd_Fx 10 (pd_on (X (50 + i) &&& Z (50 + i)) + 2 * S (50 + i)) (32 * pd_sx i + X (50 + i)) (32 * pd_sz i + Z (50 + i)) (pd_cut n U) :=
        pd_cut_Fx hn sx b.1 (fun k hk _ => hFr.2.2.1 i hi k hk)
      have e := pd_Fx_comm nz Fi F1 (pd_lt1024 sl.1 b.1) (pd_lt1024 (by omega) (by omega))
      rw [pd_cl_32 sl.1 sl.2 b.1 b.2.1 (by omega) (by omega)] at e
      have := pd_cl_lt (X (50 + i)) (Z (50 + i)) u' v'
      have := pd_cl_lt (pd_sx i) (pd_sz i) x z
      omega
    · obtain ⟨a1, a2, _, a3, a4, _⟩ := hFr.2.2.2 (i % 5) (by omega) (by omega)
      have : i = i % 5 ∨ i = 5 + i % 5 := by omega
      rcases this with e | e
      · rw [← e] at a1 a2
        have i5 : i < 5 := by omega
        unfold pd_sx pd_sz
        rw [a1, a2, if_pos i5, if_pos i5, pd_cl_x (by omega), pd_cl_x (by omega), pd_d_ge hv' (by omega), pd_d_ge hz (by omega)]
      · rw [← e] at a3 a4
        have i5 : ¬ i < 5 := by omega
        unfold pd_sx pd_sz
        rw [a3, a4, if_neg i5, if_neg i5, pd_cl_z (by omega), pd_cl_z (by omega), pd_d_ge hu' (by omega), pd_d_ge hx (by omega)])
  have e := pd_Fx_uniq nz F1 F0
  exact ⟨rfl, rfl, by omega⟩
end
section
def pd_N2 (V : Nat → Int × Int) : Int := pd_si (fun b => pd_nrm (V b)) 32
theorem pd_nrm_ph (k : Nat) (v : Int × Int) : pd_nrm (pd_ph k v) = pd_nrm v := pd_re_ph k v v
theorem pd_nrm_ad (v w : Int × Int) : pd_nrm (pd_ad v w) = pd_nrm v + pd_nrm w + 2 * pd_re v w := by
  unfold pd_nrm pd_ad pd_re
  grind
theorem pd_si_mul (c : Int) (f : Nat → Int) : ∀ n, pd_si (fun k => c * f k) n = c * pd_si f n := by
  intro n
  induction n with
  | zero => show (0 : Int) = c * 0; omega
  | succ n ih =>
    show pd_si (fun k => c * f k) n + c * f n = c * (pd_si f n + f n)
    rw [ih, Int.mul_add]
theorem pd_si_x32 (f : Nat → Int) {u : Nat} (hu : u < 32) : pd_si (fun b => f (b ^^^ u)) 32 = pd_si f 32 := pd_si_xor 5 f u hu
theorem pd_re_pm (w : Nat) (a v : Int × Int) : pd_re a (pd_ph (2 * w) v) = pd_pm w (pd_re a v) := by
  unfold pd_pm
  by_cases c : w % 2 = 0
  · rw [if_pos c, pd_ph_0 _ (by omega)]
  · rw [if_neg c, pd_re_2 (by omega)]
theorem pd_si_pm (w : Nat) (f : Nat → Int) (n : Nat) : pd_si (fun k => pd_pm w (f k)) n = pd_pm w (pd_si f n) := by
  unfold pd_pm
  by_cases c : w % 2 = 0
  · simp only [if_pos c]
  · simp only [if_neg c]; exact pd_si_neg f n
/-- a measurement whose outcome is not settled doubles the sum of squares -/
theorem pd_N2_mz {x z w : Nat} {V : Nat → Int × Int} (hx : x < 32) (hF : ∃ p u v, u < 32 ∧ v < 32 ∧ pd_Fx 5 p u v V ∧ pd_cl u v x z = 1) : pd_N2 (pd_mz w x z V) = 2 * pd_N2 V := by
  obtain ⟨p, u, v, hu, hv, hf, hc⟩ := hF
  have E := pd_E_cl hu hx hf hc
  unfold pd_N2
  have e1 : pd_si (fun b => pd_nrm (pd_mz w x z V b)) 32 = pd_si (fun b => pd_nrm (V b) + pd_nrm (V (b ^^^ x)) + 2 * pd_pm w (pd_re (V b) (pd_gP x z V b))) 32 := by
    apply pd_si_cg
    intro b hb
    unfold pd_mz
    rw [pd_nrm_ad, pd_nrm_ph, pd_re_pm]
    unfold pd_gP
    rw [pd_nrm_ph]
  have e2 : pd_si (fun b => pd_re (V b) (pd_gP x z V b)) 32 = 0 := by
    rw [← pd_si_x32 _ hx, ← E]
    apply pd_si_cg
    intro b hb
    unfold pd_gP pd_T
    rw [pd_xx]
  rw [e1, pd_si_ad, pd_si_ad, pd_si_x32 (fun b => pd_nrm (V b)) hx, pd_si_mul, pd_si_pm, e2]
  have : pd_pm w 0 = 0 := by unfold pd_pm; split <;> rfl
  rw [this]
  omega
/-- measuring one cell -/
theorem pd_mz_z (w q : Nat) (V : Nat → Int × Int) (b : Nat) (hw : w < 2) (hq : q < 5) : pd_mz w 0 (2 ^ q) V b = if pd_d b q = w then (2 * (V b).1, 2 * (V b).2) else (0, 0) := by
  unfold pd_mz pd_gP
  rw [Nat.xor_zero, Nat.zero_and, pd_on_0, pd_ph_add, pd_on_and_pow b (by omega)]
  have := pd_d_le b q
  by_cases c : pd_d b q = w
  · rw [if_pos c, pd_ph_0 _ (by omega)]
    unfold pd_ad
    apply Prod.ext <;> dsimp only <;> omega
  · rw [if_neg c, pd_ph_2 _ (by omega)]
    unfold pd_ad
    apply Prod.ext <;> dsimp only <;> omega
theorem pd_det_z {sg q : Nat} {V : Nat → Int × Int} (hs : sg < 2) (hq : q < 5) (hF : pd_Fx 5 (pd_on (0 &&& 2 ^ q) + 2 * sg) 0 (2 ^ q) V) {b : Nat} (hb : b < 32) (hn : V b ≠ (0, 0)) : pd_d b q = sg := by
  have e := hF b hb
  rw [Nat.xor_zero, Nat.zero_and, pd_on_0, pd_on_and_pow b (by omega)] at e
  have f := pd_ph_fix hn e.symm
  have := pd_d_le b q
  omega
/-- two vectors that the same rows keep -/
theorem pd_St_gat2 {n : Nat} {X Z S : Nat → Nat} {o : Nat} {V W : Nat → Int × Int} (h : pd_St n X Z S o V) (h' : pd_St n X Z S o W) (u v : Nat) : ∀ m, m ≤ 5 → ∃ p gx gz, pd_Gi X Z o u v m gx gz ∧ pd_Fx 5 p gx gz V ∧ pd_Fx 5 p gx gz W := by
  intro m
  induction m with
  | zero => intro _; exact ⟨0, 0, 0, pd_Gi_0 X Z o u v, pd_Fx_0 5 V, pd_Fx_0 5 W⟩
  | succ m ih =>
    intro hm
    obtain ⟨p, gx, gz, hG, hF, hF'⟩ := ih (by omega)
    by_cases hc : pd_cl (X (o + m)) (Z (o + m)) u v = 1
    · exact ⟨_, _, _, pd_Gi_t h (by omega) hG hc, pd_St_ga h (by omega) hF, pd_St_ga h' (by omega) hF'⟩
    · exact ⟨p, gx, gz, pd_Gi_f (by omega) hG hc, hF, hF'⟩
theorem pd_reach2 {n : Nat} {X Z S : Nat → Nat} {o : Nat} {V W : Nat → Int × Int} (h : pd_St n X Z S o V) (h' : pd_St n X Z S o W) {b c : Nat} (hb : b < 32) (hc : c < 32) (nb : V b ≠ (0, 0)) (nc : W c ≠ (0, 0)) :
    ∃ e, V c = pd_ph e (V b) ∧ W c = pd_ph e (W b) := by
  have key : ∃ p Z', pd_Fx 5 p (b ^^^ c) Z' V ∧ pd_Fx 5 p (b ^^^ c) Z' W := by
    apply Classical.byContradiction
    intro hno
    obtain ⟨z, hz, h1, h2⟩ := pd_dual 5 (by decide) (fun X' => ∃ p Z', X' < 32 ∧ Z' < 32 ∧ pd_Fx 5 p X' Z' V ∧ pd_Fx 5 p X' Z' W)
      ⟨0, 0, by decide, by decide, pd_Fx_0 5 V, pd_Fx_0 5 W⟩
      (fun a a' ⟨p, Y, ha, hY, k1, k2⟩ ⟨p', Y', ha', hY', k1', k2'⟩ => ⟨_, _, pd_xor32 ha ha', pd_xor32 hY hY', pd_Fx_mul k1 k1' ha', pd_Fx_mul k2 k2' ha'⟩)
      (b ^^^ c) (pd_xor32 hb hc) (fun ⟨p, Y, _, hY, k1, k2⟩ => hno ⟨p, Y, k1, k2⟩)
    obtain ⟨p, gx, gz, hG, hF, hF'⟩ := pd_St_gat2 h h' 0 z 5 (by decide)
    obtain ⟨rfl, rfl⟩ := pd_Gi_end h (by decide) hz hG (fun q h1 h2 => by omega) (fun q hq => by
      have bq := h.1 (5 + q) (by omega)
      have := h1 (X (o + (5 + q))) bq.1 ⟨_, _, bq.1, bq.2.1, h.2.2.2.1 q hq, h'.2.2.2.1 q hq⟩
      unfold pd_cl
      rw [Nat.and_zero, pd_on_0, pd_on_comm]
      omega)
    have eb := hF b hb
    have ec := hF' c hc
    rw [Nat.xor_zero] at eb ec
    have fb := pd_ph_fix nb eb.symm
    have fc := pd_ph_fix nc ec.symm
    have l := pd_lin_r gz b c
    rw [pd_on_comm b gz] at fb
    rw [pd_on_comm c gz] at fc
    omega
  obtain ⟨p, Z', k1, k2⟩ := key
  have e1 := k1 b hb
  have e2 := k2 b hb
  rw [← Nat.xor_assoc, Nat.xor_self, Nat.zero_xor] at e1 e2
  exact ⟨_, e1, e2⟩
/-- they are the same up to a factor: the inner product is as large as it can be -/
def pd_I2 (V W : Nat → Int × Int) : Int × Int := pd_sg (fun b => pd_ip (V b) (W b)) 32
theorem pd_prop {n : Nat} {X Z S : Nat → Nat} {o : Nat} {V W : Nat → Int × Int} (h : pd_St n X Z S o V) (h' : pd_St n X Z S o W) : pd_nrm (pd_I2 V W) = pd_N2 V * pd_N2 W := by
  obtain ⟨b, hb, nb⟩ := h.2.2.1
  have nz : ∀ c, c < 32 → (V c ≠ (0, 0) ↔ W c ≠ (0, 0)) := by
    intro c hc
    obtain ⟨b', hb', nb'⟩ := h'.2.2.1
    constructor
    · intro k
      obtain ⟨e, e1, e2⟩ := pd_reach2 h' h hb' hc nb' k
      rw [e1]; exact pd_ph_nz nb'
    · intro k
      obtain ⟨e, e1, e2⟩ := pd_reach2 h h' hb hc nb k
      rw [e1]; exact pd_ph_nz nb
  have val : ∀ c, c < 32 → (V c = (0, 0) ∧ W c = (0, 0)) ∨ ∃ e, V c = pd_ph e (V b) ∧ W c = pd_ph e (W b) := by
    intro c hc
    by_cases k : W c = (0, 0)
    · left
      refine ⟨?_, k⟩
      apply Classical.byContradiction
      intro hne
      exact (nz c hc).mp hne k
    · exact Or.inr (pd_reach2 h h' hb hc nb k)
  have s1 : pd_I2 V W = (pd_si (fun c => (pd_ip (V b) (W b)).1 * (if V c = (0, 0) then 0 else 1)) 32, pd_si (fun c => (pd_ip (V b) (W b)).2 * (if V c = (0, 0) then 0 else 1)) 32) := by
    unfold pd_I2 pd_sg
    apply Prod.ext
    · apply pd_si_cg
      intro c hc
      dsimp only
      rcases val c hc with ⟨a1, a2⟩ | ⟨e, a1, a2⟩
      · rw [if_pos a1, a1, a2, Int.mul_zero]; rfl
      · rw [if_neg (by rw [a1]; exact pd_ph_nz nb), a1, a2, pd_ip_r, pd_ip_l, pd_ph_add, pd_ph_0 _ (by omega), Int.mul_one]
    · apply pd_si_cg
      intro c hc
      dsimp only
      rcases val c hc with ⟨a1, a2⟩ | ⟨e, a1, a2⟩
      · rw [if_pos a1, a1, a2, Int.mul_zero]; rfl
      · rw [if_neg (by rw [a1]; exact pd_ph_nz nb), a1, a2, pd_ip_r, pd_ip_l, pd_ph_add, pd_ph_0 _ (by omega), Int.mul_one]
  have s2 : pd_N2 V = pd_si (fun c => pd_nrm (V b) * (if V c = (0, 0) then 0 else 1)) 32 := by
    apply pd_si_cg
    intro c hc
    rcases val c hc with ⟨a1, a2⟩ | ⟨e, a1, a2⟩
    · rw [if_pos a1, a1, Int.mul_zero]; rfl
    · rw [if_neg (by rw [a1]; exact pd_ph_nz nb), a1, pd_nrm_ph, Int.mul_one]
  have s3 : pd_N2 W = pd_si (fun c => pd_nrm (W b) * (if V c = (0, 0) then 0 else 1)) 32 := by
    apply pd_si_cg
    intro c hc
    rcases val c hc with ⟨a1, a2⟩ | ⟨e, a1, a2⟩
    · rw [if_pos a1, a2, Int.mul_zero]; rfl
    · rw [if_neg (by rw [a1]; exact pd_ph_nz nb), a2, pd_nrm_ph, Int.mul_one]
  rw [pd_si_mul] at s2 s3
  rw [pd_si_mul, pd_si_mul] at s1
  rw [s1, s2, s3]
  generalize pd_si (fun c => if V c = (0, 0) then 0 else 1) 32 = m
  unfold pd_nrm pd_ip
  grind
/-- measuring what keeps W doubles the inner product, or shows it to be 0 -/
theorem pd_re_gP {x z : Nat} (hx : x < 32) (W V : Nat → Int × Int) : pd_I2 (pd_gP x z W) (pd_gP x z V) = pd_I2 W V := by
  unfold pd_I2
  rw [← pd_sg_xor (fun b => pd_ip (W b) (V b)) hx]
  apply pd_sg_cg
  intro b hb
  unfold pd_gP
  rw [pd_ip_r, pd_ip_l, pd_ph_add, pd_ph_0 _ (by omega)]
theorem pd_gP_fx {x z s : Nat} {V : Nat → Int × Int} (hx : x < 32) (hF : pd_Fx 5 (pd_on (x &&& z) + 2 * s) x z V) {b : Nat} (hb : b < 32) : pd_gP x z V b = pd_ph (2 * s) (V b) := by
  have f := hF (b ^^^ x) (pd_xor32 hb hx)
  rw [pd_xx] at f
  unfold pd_gP
  have e := pd_ph_back f
  rw [e, pd_ph_add]
  apply pd_ph_cg
  have l := pd_lin_l b x z
  omega
theorem pd_sg_ad (f g : Nat → Int × Int) (n : Nat) : pd_sg (fun k => pd_ad (f k) (g k)) n = pd_ad (pd_sg f n) (pd_sg g n) := by
  unfold pd_sg pd_ad
  dsimp only
  rw [pd_si_ad, pd_si_ad]
theorem pd_ip_ad (a v w : Int × Int) : pd_ip a (pd_ad v w) = pd_ad (pd_ip a v) (pd_ip a w) := by
  unfold pd_ip pd_ad
  apply Prod.ext <;> dsimp only <;> grind
theorem pd_I2_mz {x z s : Nat} {W V : Nat → Int × Int} (hx : x < 32) (hF : pd_Fx 5 (pd_on (x &&& z) + 2 * s) x z W) : pd_I2 W (pd_mz s x z V) = (2 * (pd_I2 W V).1, 2 * (pd_I2 W V).2) := by
  have e1 : pd_I2 W (pd_mz s x z V) = pd_ad (pd_I2 W V) (pd_I2 W (fun b => pd_ph (2 * s) (pd_gP x z V b))) := by
    unfold pd_I2
    rw [← pd_sg_ad]
    apply pd_sg_cg
    intro b hb
    unfold pd_mz
    rw [pd_ip_ad]
  have e2 : pd_I2 W (fun b => pd_ph (2 * s) (pd_gP x z V b)) = pd_I2 W V := by
    rw [← pd_re_gP hx W V]
    unfold pd_I2
    apply pd_sg_cg
    intro b hb
    dsimp only
    rw [pd_gP_fx hx hF hb, pd_ip_r, pd_ip_l]
    apply pd_ph_cg
    omega
  rw [e1, e2]
  unfold pd_ad
  apply Prod.ext <;> dsimp only <;> omega
theorem pd_I2_0 {x z s t : Nat} {W V : Nat → Int × Int} (hx : x < 32) (hs : s < 2) (ht : t < 2) (hne : s ≠ t) (hF : pd_Fx 5 (pd_on (x &&& z) + 2 * s) x z W) (hG : pd_Fx 5 (pd_on (x &&& z) + 2 * t) x z V) : pd_I2 W V = (0, 0) := by
  have e : pd_I2 (pd_gP x z W) (pd_gP x z V) = pd_ph 2 (pd_I2 W V) := by
    unfold pd_I2
    rw [pd_sg_ph]
    apply pd_sg_cg
    intro b hb
    rw [pd_gP_fx hx hF hb, pd_gP_fx hx hG hb, pd_ip_r, pd_ip_l, pd_ph_add]
    apply pd_ph_cg
    omega
  rw [pd_re_gP hx] at e
  apply Classical.byContradiction
  intro hne2
  have := pd_ph_fix hne2 e.symm
  omega
end
section
theorem px_dig {m q : Nat} (hm : m < 2 ^ 31) (hq : q < 32) : (nI m >>> (nI q &&& 31)) &&& 1 = nI (pd_d m q) := by
  rw [pk_shrN hm _ q (s_l q hq), pk_andN (m := 1) (Nat.lt_of_le_of_lt (Nat.div_le_self _ _) (by omega)) 1 (by decide), pd_d_def]
theorem px_shl {e q : Nat} (hq : q < 32) (h : e * 2 ^ q < 2 ^ 32) : nI e <<< (nI q &&& 31) = nI (e * 2 ^ q) := pk_shlN _ q (s_l q hq) h
theorem px_pow {q : Nat} (hq : q < 31) : (1 : Int32) <<< (nI q &&& 31) = nI (2 ^ q) := by
  have h : 2 ^ q < 2 ^ 31 := Nat.pow_lt_pow_right (by decide) hq
  have := px_shl (e := 1) (q := q) (by omega) (by omega)
  rw [Nat.one_mul] at this
  exact this
theorem px_2n {n : Nat} (hn : n ≤ 5) : 2 ^ n ≤ 32 := show 2 ^ n ≤ 2 ^ 5 from Nat.pow_le_pow_right (by decide) hn
theorem px_ones4 {post : Int32 → Prop} {m : Nat} (hm : m < 2 ^ 31) (h : post (nI (pd_on m))) : ∀ f q, q + f = 10 → wX_ones_4 post (nI m) (f + 1) (nI (pd_sm (pd_d m) q)) (nI q) := by
  intro f
  induction f with
  | zero =>
    intro q hq
    have e : q = 10 := by omega
    subst e
    have e : pd_sm (pd_d m) 10 = pd_on m := by
      unfold pd_on
      simp only [pd_sm, Nat.zero_add]
    rw [e]
    exact br_t (show (10 : Int32) ≤ nI 10 by decide) h
  | succ f ih =>
    intro q hq
    refine br_f (show ¬ (10 : Int32) ≤ nI q from nI_ge (b := 10) (by omega) (by decide)) ?_
    refine nm_r (e' := nI (pd_sm (pd_d m) (q + 1))) ?_ (nm_r (nI_1 q) (ih (q + 1) (by omega)))
    rw [px_dig hm (by omega), nI_add]
    rfl
theorem px_ones {post : Int32 → Prop} {m : Nat} (hm : m < 2 ^ 31) (h : post (nI (pd_on m))) : wpX_ones post (nI m) := ⟨11, px_ones4 hm h 10 0 rfl⟩
theorem px_onesA {post : Int32 → Prop} {a b : Nat} (ha : a < 2 ^ 31) (h : post (nI (pd_on (a &&& b)))) : wpX_ones post (nI a &&& nI b) := by
  rw [nx_and]
  exact px_ones (Nat.lt_of_le_of_lt Nat.and_le_left ha) h
theorem px_top3 {post : Int32 → Prop} {m : Nat} (hm : m < 1024) (h1 : ∀ t, t < 10 → pd_d m t = 1 → (∀ k, t < k → pd_d m k = 0) → post (nI t)) (h0 : m = 0 → post (-1)) :
    ∀ q, q ≤ 10 → (∀ k, q ≤ k → pd_d m k = 0) → ∀ x1 : Int32, (q = 0 → x1 = -1) → (∀ p, q = p + 1 → x1 = nI p) → wX_top_3 post (nI m) (q + 1) x1 := by
  intro q
  induction q with
  | zero =>
    intro _ hk x1 e _
    rw [e rfl]
    refine br_t (by decide) (h0 ?_)
    apply pd_d_ext
    intro k
    rw [hk k (by omega), pd_d_0]
  | succ q ih =>
    intro hq hk x1 _ e
    rw [e q rfl]
    refine br_f (nI_pos (by omega)) ?_
    rw [px_dig (by omega) (by omega)]
    rcases pd_d_01 m q with d | d
    · rw [d]
      refine br_f (by decide) ?_
      have hk' : ∀ k, q ≤ k → pd_d m k = 0 := by
        intro k h
        by_cases e2 : k = q
        · rw [e2]; exact d
        · exact hk k (by omega)
      refine nm_e (ih (by omega) hk' _ ?_ ?_)
      · intro e2; rw [e2]; rfl
      · intro p e2; rw [e2]; exact pk_m1 p
    · rw [d]
      exact br_t rfl (h1 q (by omega) d (fun k h => hk k h))
theorem px_top {post : Int32 → Prop} {m : Nat} (hm : m < 1024) (h1 : ∀ t, t < 10 → pd_d m t = 1 → (∀ k, t < k → pd_d m k = 0) → post (nI t)) (h0 : m = 0 → post (-1)) : wpX_top post (nI m) :=
  ⟨11, px_top3 hm h1 h0 10 (by decide) (fun k h => pd_d_ge (n := 10) hm h) 9 (fun e => absurd e (by decide)) (fun p e => by
    have e2 : p = 9 := by omega
    rw [e2]
    rfl)⟩
theorem px_clash {post : Int32 → Prop} {x z u v : Nat} (hx : x < 1024) (hz : z < 1024) (h : post (nI (pd_cl x z u v))) : wpX_clash post (nI x) (nI z) (nI u) (nI v) := by
  refine px_onesA (by omega) (px_onesA (by omega) ?_)
  have h1 := pd_on_le (x &&& v); have h2 := pd_on_le (z &&& u)
  rw [nI_add, pk_andN (m := 1) (by omega) 1 (by decide)]
  exact h
theorem px_digit {post : Int32 → Prop} {m q : Nat} (hm : m < 2 ^ 31) (hq : q < 32) (h : post (nI (pd_d m q))) : wpX_digit post (nI m) (nI q) := by
  unfold wpX_digit
  rw [px_dig hm hq]
  exact h
/-- a store into a function of naturals -/
def pd_u (f : Nat → Nat) (k v : Nat) : Nat → Nat := fun j => if j = k then v else f j
theorem pd_u_s (f : Nat → Nat) (k v : Nat) : pd_u f k v k = v := if_pos rfl
theorem pd_u_n {f : Nat → Nat} {k v j : Nat} (h : j ≠ k) : pd_u f k v j = f j := if_neg h
theorem px_upd (X : Nat → Nat) {k : Nat} (hk : k < 2 ^ 31) (v : Nat) : upd (fun jj => nI (X jj)) (nI k).toNatClampNeg (nI v) = fun jj => nI (pd_u X k v jj) := by
  rw [nI_clamp hk]
  funext j
  unfold upd pd_u
  split <;> rfl
theorem px_row (b q : Nat) : nI b * 10 + nI q = nI (10 * b + q) := by
  show nI b * nI 10 + nI q = _
  rw [pk_mul, nI_add, Nat.mul_comm]
theorem px_row5 (b q : Nat) : nI b * 10 + 5 + nI q = nI (10 * b + (5 + q)) := by
  show nI b * nI 10 + nI 5 + nI q = _
  rw [pk_mul, nI_add, nI_add, Nat.mul_comm, Nat.add_assoc]
def pd_Bn (X Z S : Nat → Nat) : Prop := ∀ k, k < 60 → X k < 32 ∧ Z k < 32 ∧ S k < 2
section
variable {f_gatheredX f_gatheredZ f_gatheredPower f_rules f_solutions : Int32} {a_kept a_ruleX a_ruleZ a_basis a_cost a_nextCost a_addsX a_addsZ a_equation a_leading a_solution : Nat → Int32} {n : Nat} {X Z S : Nat → Nat}
theorem px_isMask_t {post : Int32 → Prop} {m : Nat} (hn : n ≤ 5) (hm : m < 2 ^ n) (h : post 1) : wpX_isMask post ((nI n), f_gatheredX, f_gatheredZ, f_gatheredPower, f_rules, f_solutions, (fun jj => nI (X jj)), (fun jj => nI (Z jj)), (fun jj => nI (S jj)), a_kept, a_ruleX, a_ruleZ, a_basis, a_cost, a_nextCost, a_addsX, a_addsZ, a_equation, a_leading, a_solution) (nI m) := by
  have h32 := px_2n hn
  refine br_f (nI_pos (by omega)) (br_f ?_ h)
  rw [px_pow (by omega)]
  exact nI_ge hm (by omega)
theorem px_isMask_f {post : Int32 → Prop} {p0 : Int32} (hn : n ≤ 5) (hm : ¬ ∃ m, m < 2 ^ n ∧ p0 = nI m) (h : post 0) : wpX_isMask post ((nI n), f_gatheredX, f_gatheredZ, f_gatheredPower, f_rules, f_solutions, (fun jj => nI (X jj)), (fun jj => nI (Z jj)), (fun jj => nI (S jj)), a_kept, a_ruleX, a_ruleZ, a_basis, a_cost, a_nextCost, a_addsX, a_addsZ, a_equation, a_leading, a_solution) p0 := by
  have h32 := px_2n hn
  by_cases h0 : p0 < 0
  · exact br_t h0 h
  · obtain ⟨j, hj, rfl⟩ := nI_of h0
    refine br_f h0 (br_t ?_ h)
    rw [px_pow (by omega)]
    apply nI_le _ hj
    apply Classical.byContradiction
    intro hne
    exact hm ⟨j, by omega, rfl⟩
theorem px_isCell_t {post : Int32 → Prop} {q : Nat} (hn : n ≤ 5) (hq : q < n) (h : post 1) : wpX_isCell post ((nI n), f_gatheredX, f_gatheredZ, f_gatheredPower, f_rules, f_solutions, (fun jj => nI (X jj)), (fun jj => nI (Z jj)), (fun jj => nI (S jj)), a_kept, a_ruleX, a_ruleZ, a_basis, a_cost, a_nextCost, a_addsX, a_addsZ, a_equation, a_leading, a_solution) (nI q) :=
  br_f (nI_pos (by omega)) (br_f (nI_ge hq (by omega)) h)
theorem px_isCell_f {post : Int32 → Prop} {p0 : Int32} (hn : n ≤ 5) (hm : ¬ ∃ q, q < n ∧ p0 = nI q) (h : post 0) : wpX_isCell post ((nI n), f_gatheredX, f_gatheredZ, f_gatheredPower, f_rules, f_solutions, (fun jj => nI (X jj)), (fun jj => nI (Z jj)), (fun jj => nI (S jj)), a_kept, a_ruleX, a_ruleZ, a_basis, a_cost, a_nextCost, a_addsX, a_addsZ, a_equation, a_leading, a_solution) p0 := by
  by_cases h0 : p0 < 0
  · exact br_t h0 h
  · obtain ⟨j, hj, rfl⟩ := nI_of h0
    refine br_f h0 (br_t ?_ h)
    apply nI_le _ hj
    apply Classical.byContradiction
    intro hne
    exact hm ⟨j, by omega, rfl⟩
theorem px_clashOfRow {post : Int32 → Prop} {p0 : Int32} {k u v : Nat} (e0 : p0 = nI k) (hk : k < 60) (hB : pd_Bn X Z S) (h : post (nI (pd_cl (X k) (Z k) u v))) : wpX_clashOfRow post ((nI n), f_gatheredX, f_gatheredZ, f_gatheredPower, f_rules, f_solutions, (fun jj => nI (X jj)), (fun jj => nI (Z jj)), (fun jj => nI (S jj)), a_kept, a_ruleX, a_ruleZ, a_basis, a_cost, a_nextCost, a_addsX, a_addsZ, a_equation, a_leading, a_solution) p0 (nI u) (nI v) := by
  subst e0
  have hb := hB k hk
  refine ⟨vp_in_nI hk (by decide), vp_in_nI hk (by decide), ?_⟩
  rw [nI_clamp (n := k) (by omega)]
  exact px_clash (by omega) (by omega) h
theorem px_setRow {post : SX → Prop} {p0 p1 p2 p3 : Int32} {k x z s : Nat} (e0 : p0 = nI k) (e1 : p1 = nI x) (e2 : p2 = nI z) (e3 : p3 = nI s) (hk : k < 60)
    (h : post ((nI n), f_gatheredX, f_gatheredZ, f_gatheredPower, f_rules, f_solutions, (fun jj => nI ((pd_u X k x) jj)), (fun jj => nI ((pd_u Z k z) jj)), (fun jj => nI ((pd_u S k s) jj)), a_kept, a_ruleX, a_ruleZ, a_basis, a_cost, a_nextCost, a_addsX, a_addsZ, a_equation, a_leading, a_solution)) : wpX_setRow post ((nI n), f_gatheredX, f_gatheredZ, f_gatheredPower, f_rules, f_solutions, (fun jj => nI (X jj)), (fun jj => nI (Z jj)), (fun jj => nI (S jj)), a_kept, a_ruleX, a_ruleZ, a_basis, a_cost, a_nextCost, a_addsX, a_addsZ, a_equation, a_leading, a_solution) p0 p1 p2 p3 := by
  subst e0 e1 e2 e3
  have hi : vp_in (nI k) 60 := vp_in_nI hk (by decide)
  exact ⟨hi, nm_r (px_upd X (by omega) x) ⟨hi, nm_r (px_upd Z (by omega) z) ⟨hi, nm_r (px_upd S (by omega) s) h⟩⟩⟩
theorem px_copyRow {post : SX → Prop} {p0 p1 : Int32} {k l : Nat} (e0 : p0 = nI k) (e1 : p1 = nI l) (hk : k < 60) (hl : l < 60)
    (h : post ((nI n), f_gatheredX, f_gatheredZ, f_gatheredPower, f_rules, f_solutions, (fun jj => nI ((pd_u X l (X k)) jj)), (fun jj => nI ((pd_u Z l (Z k)) jj)), (fun jj => nI ((pd_u S l (S k)) jj)), a_kept, a_ruleX, a_ruleZ, a_basis, a_cost, a_nextCost, a_addsX, a_addsZ, a_equation, a_leading, a_solution)) : wpX_copyRow post ((nI n), f_gatheredX, f_gatheredZ, f_gatheredPower, f_rules, f_solutions, (fun jj => nI (X jj)), (fun jj => nI (Z jj)), (fun jj => nI (S jj)), a_kept, a_ruleX, a_ruleZ, a_basis, a_cost, a_nextCost, a_addsX, a_addsZ, a_equation, a_leading, a_solution) p0 p1 := by
  subst e0 e1
  have hi : vp_in (nI k) 60 := vp_in_nI hk (by decide)
  have hj : vp_in (nI l) 60 := vp_in_nI hl (by decide)
  have e : (nI k).toNatClampNeg = k := nI_clamp (by omega)
  unfold wpX_copyRow
  dsimp only
  rw [e]
  exact ⟨hi, hj, nm_r (px_upd X (by omega) (X k)) ⟨hi, hj, nm_r (px_upd Z (by omega) (Z k)) ⟨hi, hj, nm_r (px_upd S (by omega) (S k)) h⟩⟩⟩
/-- begin: the single products -/
def pd_Sg (X Z S : Nat → Nat) (o q : Nat) : Prop := ∀ i, i < q → X (o + i) = 2 ^ i ∧ Z (o + i) = 0 ∧ S (o + i) = 0 ∧ X (o + (5 + i)) = 0 ∧ Z (o + (5 + i)) = 2 ^ i ∧ S (o + (5 + i)) = 0
def pd_Same (X Z S X' Z' S' : Nat → Nat) (o : Nat) : Prop := ∀ j, (j < o ∨ o + 10 ≤ j) → X' j = X j ∧ Z' j = Z j ∧ S' j = S j
theorem px_begin2 {post : SX → Prop} {b : Nat} {X0 Z0 S0 : Nat → Nat} (hb : b < 6)
    (h : ∀ X' Z' S', pd_Sg X' Z' S' (10 * b) 5 → pd_Same X0 Z0 S0 X' Z' S' (10 * b) → post ((nI n), f_gatheredX, f_gatheredZ, f_gatheredPower, f_rules, f_solutions, (fun jj => nI (X' jj)), (fun jj => nI (Z' jj)), (fun jj => nI (S' jj)), a_kept, a_ruleX, a_ruleZ, a_basis, a_cost, a_nextCost, a_addsX, a_addsZ, a_equation, a_leading, a_solution)) :
    ∀ f q, q + f = 5 → ∀ X Z S, pd_Sg X Z S (10 * b) q → pd_Same X0 Z0 S0 X Z S (10 * b) → wX_begin_2 post (nI b) (f + 1) (nI q) (nI n) f_gatheredX f_gatheredZ f_gatheredPower f_rules f_solutions (fun jj => nI (X jj)) (fun jj => nI (Z jj)) (fun jj => nI (S jj)) a_kept a_ruleX a_ruleZ a_basis a_cost a_nextCost a_addsX a_addsZ a_equation a_leading a_solution := by
  intro f
  induction f with
  | zero =>
    intro q hq X Z S h1 h2
    have e : q = 5 := by omega
    subst e
    exact br_t (show (5 : Int32) ≤ nI 5 by decide) (h X Z S h1 h2)
  | succ f ih =>
    intro q hq X Z S h1 h2
    refine br_f (show ¬ (5 : Int32) ≤ nI q from nI_ge (b := 5) (by omega) (by decide)) ?_
    refine px_setRow (px_row b q) (px_pow (by omega)) (show (0 : Int32) = nI 0 from rfl) (show (0 : Int32) = nI 0 from rfl) (by omega) ?_
    refine px_setRow (px_row5 b q) (show (0 : Int32) = nI 0 from rfl) (px_pow (by omega)) (show (0 : Int32) = nI 0 from rfl) (by omega) ?_
    refine nm_r (nI_1 q) (ih (q + 1) (by omega) _ _ _ ?_ ?_)
    · intro i hi
      have n1 : 10 * b + (5 + i) ≠ 10 * b + q := by omega
      have n2 : 10 * b + i ≠ 10 * b + (5 + q) := by omega
      by_cases e : i = q
      · subst e
        rw [pd_u_n n2, pd_u_n n2, pd_u_n n2, pd_u_s, pd_u_s, pd_u_s, pd_u_s, pd_u_s, pd_u_s]
        exact ⟨rfl, rfl, rfl, rfl, rfl, rfl⟩
      · have n3 : 10 * b + (5 + i) ≠ 10 * b + (5 + q) := by omega
        have n4 : 10 * b + i ≠ 10 * b + q := by omega
        rw [pd_u_n n2, pd_u_n n2, pd_u_n n2, pd_u_n n3, pd_u_n n3, pd_u_n n3, pd_u_n n4, pd_u_n n4, pd_u_n n4, pd_u_n n1, pd_u_n n1, pd_u_n n1]
        exact h1 i (by omega)
    · intro j hj
      have n1 : j ≠ 10 * b + q := by omega
      have n2 : j ≠ 10 * b + (5 + q) := by omega
      rw [pd_u_n n2, pd_u_n n2, pd_u_n n2, pd_u_n n1, pd_u_n n1, pd_u_n n1]
      exact h2 j hj
theorem px_begin {post : SX → Prop} {p0 : Int32} {b : Nat} (e0 : p0 = nI b) (hb : b < 6)
    (h : ∀ X' Z' S', pd_Sg X' Z' S' (10 * b) 5 → pd_Same X Z S X' Z' S' (10 * b) → post ((nI n), f_gatheredX, f_gatheredZ, f_gatheredPower, f_rules, f_solutions, (fun jj => nI (X' jj)), (fun jj => nI (Z' jj)), (fun jj => nI (S' jj)), a_kept, a_ruleX, a_ruleZ, a_basis, a_cost, a_nextCost, a_addsX, a_addsZ, a_equation, a_leading, a_solution)) : wpX_begin post ((nI n), f_gatheredX, f_gatheredZ, f_gatheredPower, f_rules, f_solutions, (fun jj => nI (X jj)), (fun jj => nI (Z jj)), (fun jj => nI (S jj)), a_kept, a_ruleX, a_ruleZ, a_basis, a_cost, a_nextCost, a_addsX, a_addsZ, a_equation, a_leading, a_solution) p0 := by
  subst e0
  exact ⟨6, px_begin2 hb h 5 0 rfl X Z S (fun i hi => absurd hi (Nat.not_lt_zero i)) (fun j _ => ⟨rfl, rfl, rfl⟩)⟩
/-- a bank is another's copy -/
def pd_Cp (X Z S X' Z' S' : Nat → Nat) (o o' m : Nat) : Prop := ∀ i, i < m → X' (o' + i) = X (o + i) ∧ Z' (o' + i) = Z (o + i) ∧ S' (o' + i) = S (o + i)
theorem px_copyBank2 {post : SX → Prop} {b c : Nat} {X0 Z0 S0 : Nat → Nat} (hb : b < 6) (hc : c < 6) (hne : b ≠ c)
    (h : ∀ X' Z' S', pd_Cp X0 Z0 S0 X' Z' S' (10 * b) (10 * c) 10 → pd_Same X0 Z0 S0 X' Z' S' (10 * c) → post ((nI n), f_gatheredX, f_gatheredZ, f_gatheredPower, f_rules, f_solutions, (fun jj => nI (X' jj)), (fun jj => nI (Z' jj)), (fun jj => nI (S' jj)), a_kept, a_ruleX, a_ruleZ, a_basis, a_cost, a_nextCost, a_addsX, a_addsZ, a_equation, a_leading, a_solution)) :
    ∀ f q, q + f = 10 → ∀ X Z S, pd_Cp X0 Z0 S0 X Z S (10 * b) (10 * c) q → pd_Same X0 Z0 S0 X Z S (10 * c) → wX_copyBank_2 post (nI b) (nI c) (f + 1) (nI q) (nI n) f_gatheredX f_gatheredZ f_gatheredPower f_rules f_solutions (fun jj => nI (X jj)) (fun jj => nI (Z jj)) (fun jj => nI (S jj)) a_kept a_ruleX a_ruleZ a_basis a_cost a_nextCost a_addsX a_addsZ a_equation a_leading a_solution := by
  intro f
  induction f with
  | zero =>
    intro q hq X Z S h1 h2
    have e : q = 10 := by omega
    subst e
    exact br_t (show (10 : Int32) ≤ nI 10 by decide) (h X Z S h1 h2)
  | succ f ih =>
    intro q hq X Z S h1 h2
    refine br_f (show ¬ (10 : Int32) ≤ nI q from nI_ge (b := 10) (by omega) (by decide)) ?_
    refine px_copyRow (px_row b q) (px_row c q) (by omega) (by omega) ?_
    have hs := h2 (10 * b + q) (by omega)
    refine nm_r (nI_1 q) (ih (q + 1) (by omega) _ _ _ ?_ ?_)
    · intro i hi
      by_cases e : i = q
      · subst e
        rw [pd_u_s, pd_u_s, pd_u_s]
        exact hs
      · have n4 : 10 * c + i ≠ 10 * c + q := by omega
        rw [pd_u_n n4, pd_u_n n4, pd_u_n n4]
        exact h1 i (by omega)
    · intro j hj
      have n1 : j ≠ 10 * c + q := by omega
      rw [pd_u_n n1, pd_u_n n1, pd_u_n n1]
      exact h2 j hj
theorem px_copyBank {post : SX → Prop} {p0 p1 : Int32} {b c : Nat} (e0 : p0 = nI b) (e1 : p1 = nI c) (hb : b < 6) (hc : c < 6) (hne : b ≠ c)
    (h : ∀ X' Z' S', pd_Cp X Z S X' Z' S' (10 * b) (10 * c) 10 → pd_Same X Z S X' Z' S' (10 * c) → post ((nI n), f_gatheredX, f_gatheredZ, f_gatheredPower, f_rules, f_solutions, (fun jj => nI (X' jj)), (fun jj => nI (Z' jj)), (fun jj => nI (S' jj)), a_kept, a_ruleX, a_ruleZ, a_basis, a_cost, a_nextCost, a_addsX, a_addsZ, a_equation, a_leading, a_solution)) : wpX_copyBank post ((nI n), f_gatheredX, f_gatheredZ, f_gatheredPower, f_rules, f_solutions, (fun jj => nI (X jj)), (fun jj => nI (Z jj)), (fun jj => nI (S jj)), a_kept, a_ruleX, a_ruleZ, a_basis, a_cost, a_nextCost, a_addsX, a_addsZ, a_equation, a_leading, a_solution) p0 p1 := by
  subst e0 e1
  exact ⟨11, px_copyBank2 hb hc hne h 10 0 rfl X Z S (fun i hi => absurd hi (Nat.not_lt_zero i)) (fun j _ => ⟨rfl, rfl, rfl⟩)⟩
/-- gathering -/
theorem px_gather {post : SX → Prop} {p0 : Int32} {k gx gz gp : Nat} (e0 : p0 = nI k) (hk : k < 60) (hB : pd_Bn X Z S) (hz : gz < 32)
    (h : post ((nI n), nI (gx ^^^ X k), nI (gz ^^^ Z k), nI (gp + ((pd_on (X k &&& Z k) + 2 * S k) + 2 * pd_on (gz &&& X k))), f_rules, f_solutions, (fun jj => nI (X jj)), (fun jj => nI (Z jj)), (fun jj => nI (S jj)), a_kept, a_ruleX, a_ruleZ, a_basis, a_cost, a_nextCost, a_addsX, a_addsZ, a_equation, a_leading, a_solution)) : wpX_gather post ((nI n), nI gx, nI gz, nI gp, f_rules, f_solutions, (fun jj => nI (X jj)), (fun jj => nI (Z jj)), (fun jj => nI (S jj)), a_kept, a_ruleX, a_ruleZ, a_basis, a_cost, a_nextCost, a_addsX, a_addsZ, a_equation, a_leading, a_solution) p0 := by
  subst e0
  have hi : vp_in (nI k) 60 := vp_in_nI hk (by decide)
  have e : (nI k).toNatClampNeg = k := nI_clamp (by omega)
  have hb := hB k hk
  unfold wpX_gather
  dsimp only
  rw [e]
  refine ⟨hi, hi, px_onesA (by omega) ⟨hi, px_onesA (by omega) ⟨hi, nm_r (e' := nI (gp + ((pd_on (X k &&& Z k) + 2 * S k) + 2 * pd_on (gz &&& X k)))) ?_ ⟨hi, nm_r (nx_xor _ _) ⟨hi, nm_r (nx_xor _ _) h⟩⟩⟩⟩⟩
  show nI gp + (nI _ + nI 2 * nI _ + nI 2 * nI _) = _
  rw [pk_mul, pk_mul, nI_add, nI_add, nI_add]
theorem px_sub3 {p o : Nat} (ho : o ≤ 12) : (nI p - nI o) &&& 3 = nI ((p + 12 - o) % 4) := by
  have e : nI p - nI o = nI (p + 12 - o) - nI 12 := by
    rw [← pk_sub (a := p + 12) (b := o) (by omega), ← nI_add, Int32.sub_sub, Int32.add_comm (nI o), ← Int32.sub_sub, Int32.add_sub_cancel]
  rw [e]
  apply Int32.toBitVec_inj.mp
  apply BitVec.eq_of_toNat_eq
  have h12 : (nI 12).toBitVec.toNat = 12 := rfl
  have h3 : (3 : Int32).toBitVec.toNat = 2 ^ 2 - 1 := by decide
  rw [Int32.toBitVec_and, BitVec.toNat_and, h3, Nat.and_two_pow_sub_one_eq_mod, Int32.toBitVec_sub, BitVec.toNat_sub, h12, pk_tn (n := (p + 12 - o) % 4) (by omega)]
  have : (nI (p + 12 - o)).toBitVec.toNat = (p + 12 - o) % 2 ^ 32 := by
    show (BitVec.ofNat 32 _).toNat = _
    rw [BitVec.toNat_ofNat]
  rw [this]
  omega
theorem px_gatheredSign {post : Int32 → Prop} {gx gz gp : Nat} (hx : gx < 32) (h : post (nI ((gp + 12 - pd_on (gx &&& gz)) % 4 / 2))) : wpX_gatheredSign post ((nI n), nI gx, nI gz, nI gp, f_rules, f_solutions, (fun jj => nI (X jj)), (fun jj => nI (Z jj)), (fun jj => nI (S jj)), a_kept, a_ruleX, a_ruleZ, a_basis, a_cost, a_nextCost, a_addsX, a_addsZ, a_equation, a_leading, a_solution) := by
  refine px_onesA (by omega) ?_
  have := pd_on_le (gx &&& gz)
  rw [px_sub3 (by omega), pk_shrN (by omega) _ 1 (by decide)]
  exact h
theorem px_gatherNothing {post : SX → Prop} {p0 : Int32} {p : Nat} (e0 : p0 = nI p) (h : post ((nI n), nI 0, nI 0, nI p, f_rules, f_solutions, (fun jj => nI (X jj)), (fun jj => nI (Z jj)), (fun jj => nI (S jj)), a_kept, a_ruleX, a_ruleZ, a_basis, a_cost, a_nextCost, a_addsX, a_addsZ, a_equation, a_leading, a_solution)) : wpX_gatherNothing post ((nI n), f_gatheredX, f_gatheredZ, f_gatheredPower, f_rules, f_solutions, (fun jj => nI (X jj)), (fun jj => nI (Z jj)), (fun jj => nI (S jj)), a_kept, a_ruleX, a_ruleZ, a_basis, a_cost, a_nextCost, a_addsX, a_addsZ, a_equation, a_leading, a_solution) p0 := by
  subst e0
  exact h
theorem px_multiply {post : SX → Prop} {p0 p1 : Int32} {k l : Nat} (e0 : p0 = nI k) (e1 : p1 = nI l) (hk : k < 60) (hl : l < 60) (hB : pd_Bn X Z S)
    (h : ∀ gx gz gp, post ((nI n), gx, gz, gp, f_rules, f_solutions, (fun jj => nI ((pd_u X k (X k ^^^ X l)) jj)), (fun jj => nI ((pd_u Z k (Z k ^^^ Z l)) jj)), (fun jj => nI ((pd_u S k (pd_ms X Z S k l)) jj)), a_kept, a_ruleX, a_ruleZ, a_basis, a_cost, a_nextCost, a_addsX, a_addsZ, a_equation, a_leading, a_solution)) : wpX_multiply post ((nI n), f_gatheredX, f_gatheredZ, f_gatheredPower, f_rules, f_solutions, (fun jj => nI (X jj)), (fun jj => nI (Z jj)), (fun jj => nI (S jj)), a_kept, a_ruleX, a_ruleZ, a_basis, a_cost, a_nextCost, a_addsX, a_addsZ, a_equation, a_leading, a_solution) p0 p1 := by
  have hbk := hB k hk
  have hbl := hB l hl
  unfold wpX_multiply
  dsimp only
  refine px_gatherNothing (p := 0) rfl ?_
  refine px_gather e0 hk hB (by decide) ?_
  refine px_gather e1 hl hB (by rw [Nat.zero_xor]; exact hbk.2.1) ?_
  refine px_gatheredSign (by rw [Nat.zero_xor]; exact pd_xor32 hbk.1 hbl.1) ?_
  exact px_setRow (x := X k ^^^ X l) (z := Z k ^^^ Z l) (s := pd_ms X Z S k l) e0 (congrArg (fun t => nI (t ^^^ X l)) (Nat.zero_xor (X k))) (congrArg (fun t => nI (t ^^^ Z l)) (Nat.zero_xor (Z k))) rfl hk (h _ _ _)
end
end
section
/-- rows of the state at hand or of the frame, with a cell that is there -/
def pd_live (n k : Nat) : Prop := (k / 10 = 0 ∨ k / 10 = 5) ∧ k % 5 < n
theorem px_div10 {k : Nat} (hk : k < 60) : nI k / 10 = nI (k / 10) := pk_div (d := 10) (by omega) (by decide) (by decide)
theorem px_rem5 {k : Nat} (hk : k < 60) : nI k - nI k / 5 * 5 = nI (k % 5) := pk_rem (d := 5) (by omega) (by decide) (by decide)
section
variable {f_gatheredX f_gatheredZ f_gatheredPower f_rules f_solutions : Int32} {a_kept a_ruleX a_ruleZ a_basis a_cost a_nextCost a_addsX a_addsZ a_equation a_leading a_solution : Nat → Int32} {n : Nat} {X Z S : Nat → Nat}
theorem px_isLive {post : Int32 → Prop} {k : Nat} (hn : n ≤ 5) (hk : k < 60) (h1 : pd_live n k → post 1) (h0 : ¬ pd_live n k → post 0) : wpX_isLive post ((nI n), f_gatheredX, f_gatheredZ, f_gatheredPower, f_rules, f_solutions, (fun jj => nI (X jj)), (fun jj => nI (Z jj)), (fun jj => nI (S jj)), a_kept, a_ruleX, a_ruleZ, a_basis, a_cost, a_nextCost, a_addsX, a_addsZ, a_equation, a_leading, a_solution) (nI k) := by
  have hl : (k / 10 = 0 ∨ k / 10 = 5) → wX_isLive_14 post (nI k) (nI n) f_gatheredX f_gatheredZ f_gatheredPower f_rules f_solutions (fun jj => nI (X jj)) (fun jj => nI (Z jj)) (fun jj => nI (S jj)) a_kept a_ruleX a_ruleZ a_basis a_cost a_nextCost a_addsX a_addsZ a_equation a_leading a_solution := by
    intro hb
    refine ⟨by decide, ?_⟩
    rw [px_rem5 hk]
    by_cases c : k % 5 < n
    · exact br_f (nI_ge c (by omega)) (h1 ⟨hb, c⟩)
    · exact br_t (nI_le (by omega) (by omega)) (h0 (fun h => c h.2))
  refine ⟨by decide, nm_r (px_div10 hk) ?_⟩
  refine pk_eq (k / 10) 0 (fun e => hl (Or.inl e)) (fun e => ?_)
  exact pk_eq (k / 10) 5 (fun e => hl (Or.inr e)) (fun e' => h0 (fun h => by rcases h.1 with h | h <;> contradiction))
/-- rows below m are behind the gate, the others before it -/
def pd_Upto (n : Nat) (fx fz fs : Nat → Nat → Nat → Nat) (X Z S X' Z' S' : Nat → Nat) (m : Nat) : Prop :=
  (∀ k, (k < m ∧ pd_live n k) → X' k = fx (X k) (Z k) (S k) ∧ Z' k = fz (X k) (Z k) (S k) ∧ S' k = fs (X k) (Z k) (S k)) ∧
  (∀ k, ¬ (k < m ∧ pd_live n k) → X' k = X k ∧ Z' k = Z k ∧ S' k = S k)
theorem pd_Upto_0 (n : Nat) (fx fz fs : Nat → Nat → Nat → Nat) (X Z S : Nat → Nat) : pd_Upto n fx fz fs X Z S X Z S 0 :=
  ⟨fun k h => absurd h.1 (Nat.not_lt_zero k), fun k _ => ⟨rfl, rfl, rfl⟩⟩
theorem pd_Upto_f {n : Nat} {fx fz fs : Nat → Nat → Nat → Nat} {X Z S X' Z' S' : Nat → Nat} {m : Nat} (h : pd_Upto n fx fz fs X Z S X' Z' S' m) (hl : ¬ pd_live n m) : pd_Upto n fx fz fs X Z S X' Z' S' (m + 1) := by
  refine ⟨fun k hk => h.1 k ⟨?_, hk.2⟩, fun k hk => h.2 k (fun c => hk ⟨by omega, c.2⟩)⟩
  have : k ≠ m := fun e => hl (e ▸ hk.2)
  omega
theorem pd_Upto_t {n : Nat} {fx fz fs : Nat → Nat → Nat → Nat} {X Z S X' Z' S' : Nat → Nat} {m a b c : Nat} (h : pd_Upto n fx fz fs X Z S X' Z' S' m) (hl : pd_live n m)
    (ha : a = fx (X m) (Z m) (S m)) (hb : b = fz (X m) (Z m) (S m)) (hc : c = fs (X m) (Z m) (S m)) :
    pd_Upto n fx fz fs X Z S (pd_u X' m a) (pd_u Z' m b) (pd_u S' m c) (m + 1) := by
  refine ⟨fun k hk => ?_, fun k hk => ?_⟩
  · by_cases e : k = m
    · subst e
      rw [pd_u_s, pd_u_s, pd_u_s]; exact ⟨ha, hb, hc⟩
    · rw [pd_u_n e, pd_u_n e, pd_u_n e]; exact h.1 k ⟨by omega, hk.2⟩
  · have e : k ≠ m := fun e => hk ⟨by omega, e ▸ hl⟩
    rw [pd_u_n e, pd_u_n e, pd_u_n e]; exact h.2 k (fun c => hk ⟨by omega, c.2⟩)
theorem pd_u_same (f : Nat → Nat) (k : Nat) : pd_u f k (f k) = f := by
  funext j
  unfold pd_u
  split
  · next e => rw [e]
  · rfl
theorem pd_uu (f : Nat → Nat) (k v w : Nat) : pd_u (pd_u f k v) k w = pd_u f k w := by
  funext j
  unfold pd_u
  split <;> rfl
theorem px_upk (X : Nat → Nat) (k : Nat) {t : Int32} {v : Nat} (e : t = nI v) : upd (fun jj => nI (X jj)) k t = fun jj => nI (pd_u X k v jj) := by
  subst e
  funext j
  unfold upd pd_u
  split <;> rfl
theorem px_bit {a b : Nat} : nI a &&& nI b = nI (a &&& b) := nx_and a b
theorem pd_bxle {a b : Nat} (ha : a ≤ 1) (hb : b ≤ 1) : a ^^^ b ≤ 1 := by rw [pd_bx a b ha hb]; omega
theorem px_shlw {e q : Nat} (he : e ≤ 1) (hq : q < 5) : nI e <<< (nI q &&& 31) = nI (e * 2 ^ q) :=
  px_shl (by omega) (by have := pd_dp32 he hq; omega)
theorem px_h12 {post : Int32 → SX → Prop} {q : Nat} {X0 Z0 S0 : Nat → Nat} (hn : n ≤ 5) (hq : q < n) (hB : pd_Bn X0 Z0 S0)
    (h : ∀ X' Z' S', pd_Upto n (fun x z _ => x ^^^ pd_rHw q x z) (fun x z _ => z ^^^ pd_rHw q x z) (fun x z s => pd_rHs q x z s) X0 Z0 S0 X' Z' S' 60 → post 1 ((nI n), f_gatheredX, f_gatheredZ, f_gatheredPower, f_rules, f_solutions, (fun jj => nI (X' jj)), (fun jj => nI (Z' jj)), (fun jj => nI (S' jj)), a_kept, a_ruleX, a_ruleZ, a_basis, a_cost, a_nextCost, a_addsX, a_addsZ, a_equation, a_leading, a_solution)) :
    ∀ f k, k + f = 60 → ∀ X Z S, pd_Upto n (fun x z _ => x ^^^ pd_rHw q x z) (fun x z _ => z ^^^ pd_rHw q x z) (fun x z s => pd_rHs q x z s) X0 Z0 S0 X Z S k →
      wX_h_12 post (nI q) (nI n) f_gatheredX f_gatheredZ f_gatheredPower f_rules f_solutions (f + 1) (nI k) (fun jj => nI (X jj)) (fun jj => nI (Z jj)) (fun jj => nI (S jj)) a_kept a_ruleX a_ruleZ a_basis a_cost a_nextCost a_addsX a_addsZ a_equation a_leading a_solution := by
  intro f
  induction f with
  | zero =>
    intro k hk X Z S hU
    have e : k = 60 := by omega
    subst e
    exact br_t (show (60 : Int32) ≤ nI 60 by decide) (h X Z S hU)
  | succ f ih =>
    intro k hk X Z S hU
    refine br_f (show ¬ (60 : Int32) ≤ nI k from nI_ge (b := 60) (by omega) (by decide)) ?_
    refine px_isLive hn (by omega) (fun hl => ?_) (fun hl => ?_)
    · refine br_f (by decide) ?_
      have hi : vp_in (nI k) 60 := vp_in_nI (by omega) (by decide)
      obtain ⟨eX, eZ, eS⟩ := hU.2 k (fun c => absurd c.1 (Nat.lt_irrefl k))
      have hb := hB k (by omega)
      have ec : (nI k).toNatClampNeg = k := nI_clamp (by omega)
      have hdx := pd_d_le (X k) q
      have hdz := pd_d_le (Z k) q
      refine ⟨hi, ?_⟩
      rw [ec]
      refine px_digit (by omega) (by omega) ⟨hi, px_digit (by omega) (by omega) ?_⟩
      have e1 : nI (S k) ^^^ (nI (pd_d (X k) q) &&& nI (pd_d (Z k) q)) = nI (pd_rHs q (X k) (Z k) (S k)) := by
        rw [nx_and, nx_xor]; rfl
      have ew : (nI (pd_d (X k) q) ^^^ nI (pd_d (Z k) q)) <<< (nI q &&& 31) = nI (pd_rHw q (X k) (Z k)) := by
        rw [nx_xor, px_shlw (pd_bxle hdx hdz) (by omega)]; rfl
      have e2 : nI (X k) ^^^ ((nI (pd_d (X k) q) ^^^ nI (pd_d (Z k) q)) <<< (nI q &&& 31)) = nI (X k ^^^ pd_rHw q (X k) (Z k)) := by
        rw [ew, nx_xor]
      have e3 : nI (Z k) ^^^ ((nI (pd_d (X k) q) ^^^ nI (pd_d (Z k) q)) <<< (nI q &&& 31)) = nI (Z k ^^^ pd_rHw q (X k) (Z k)) := by
        rw [ew, nx_xor]
      refine ⟨hi, hi, nm_r (px_upk S k e1) ⟨hi, hi, nm_r (px_upk X k e2) ⟨hi, hi, nm_r (px_upk Z k e3) (nm_r (nI_1 k) ?_)⟩⟩⟩
      exact ih (k + 1) (by omega) _ _ _ (pd_Upto_t hU hl (by rw [eX, eZ]) (by rw [eX, eZ]) (by rw [eX, eZ, eS]))
    · exact br_t rfl (nm_r (nI_1 k) (ih (k + 1) (by omega) X Z S (pd_Upto_f hU hl)))
theorem px_h {post : Int32 → SX → Prop} {q : Nat} (hn : n ≤ 5) (hq : q < n) (hB : pd_Bn X Z S)
    (h : ∀ X' Z' S', pd_Upto n (fun x z _ => x ^^^ pd_rHw q x z) (fun x z _ => z ^^^ pd_rHw q x z) (fun x z s => pd_rHs q x z s) X Z S X' Z' S' 60 → post 1 ((nI n), f_gatheredX, f_gatheredZ, f_gatheredPower, f_rules, f_solutions, (fun jj => nI (X' jj)), (fun jj => nI (Z' jj)), (fun jj => nI (S' jj)), a_kept, a_ruleX, a_ruleZ, a_basis, a_cost, a_nextCost, a_addsX, a_addsZ, a_equation, a_leading, a_solution)) :
    wpX_h post ((nI n), f_gatheredX, f_gatheredZ, f_gatheredPower, f_rules, f_solutions, (fun jj => nI (X jj)), (fun jj => nI (Z jj)), (fun jj => nI (S jj)), a_kept, a_ruleX, a_ruleZ, a_basis, a_cost, a_nextCost, a_addsX, a_addsZ, a_equation, a_leading, a_solution) (nI q) := by
  unfold wpX_h
  dsimp only
  refine px_isCell_t hn hq ?_
  exact br_f (by decide) ⟨61, px_h12 hn hq hB h 60 0 rfl X Z S (pd_Upto_0 _ _ _ _ _ _ _)⟩
theorem px_s_l {post : Int32 → SX → Prop} {q : Nat} {X0 Z0 S0 : Nat → Nat} (hn : n ≤ 5) (hq : q < n) (hB : pd_Bn X0 Z0 S0)
    (h : ∀ X' Z' S', pd_Upto n (fun x z s => x) (fun x z s => pd_rSz q x z) (fun x z s => pd_rHs q x z s) X0 Z0 S0 X' Z' S' 60 → post 1 ((nI n), f_gatheredX, f_gatheredZ, f_gatheredPower, f_rules, f_solutions, (fun jj => nI (X' jj)), (fun jj => nI (Z' jj)), (fun jj => nI (S' jj)), a_kept, a_ruleX, a_ruleZ, a_basis, a_cost, a_nextCost, a_addsX, a_addsZ, a_equation, a_leading, a_solution)) :
    ∀ f k, k + f = 60 → ∀ X Z S, pd_Upto n (fun x z s => x) (fun x z s => pd_rSz q x z) (fun x z s => pd_rHs q x z s) X0 Z0 S0 X Z S k →
      wX_s_12 post (nI q) (nI n) f_gatheredX f_gatheredZ f_gatheredPower f_rules f_solutions (f + 1) (nI k) (fun jj => nI (X jj)) (fun jj => nI (Z jj)) (fun jj => nI (S jj)) a_kept a_ruleX a_ruleZ a_basis a_cost a_nextCost a_addsX a_addsZ a_equation a_leading a_solution := by
  intro f
  induction f with
  | zero =>
    intro k hk X Z S hU
    have e : k = 60 := by omega
    subst e
    exact br_t (show (60 : Int32) ≤ nI 60 by decide) (h X Z S hU)
  | succ f ih =>
    intro k hk X Z S hU
    refine br_f (show ¬ (60 : Int32) ≤ nI k from nI_ge (b := 60) (by omega) (by decide)) ?_
    refine px_isLive hn (by omega) (fun hl => ?_) (fun hl => ?_)
    · refine br_f (by decide) ?_
      have hi : vp_in (nI k) 60 := vp_in_nI (by omega) (by decide)
      obtain ⟨eX, eZ, eS⟩ := hU.2 k (fun c => absurd c.1 (Nat.lt_irrefl k))
      have hb := hB k (by omega)
      have ec : (nI k).toNatClampNeg = k := nI_clamp (by omega)
      refine ⟨hi, ?_⟩
      rw [ec]
      refine px_digit (by omega) (by omega) ⟨hi, px_digit (by omega) (by omega) ?_⟩
      have e1 : nI (S k) ^^^ (nI (pd_d (X k) q) &&& nI (pd_d (Z k) q)) = nI (pd_rHs q (X k) (Z k) (S k)) := by
        rw [nx_and, nx_xor]; rfl
      have e3 : nI (Z k) ^^^ (nI (pd_d (X k) q) <<< (nI q &&& 31)) = nI (pd_rSz q (X k) (Z k)) := by
        rw [px_shlw (pd_d_le (X k) q) (by omega), nx_xor]; rfl
      refine ⟨hi, hi, nm_r (px_upk S k e1) ⟨hi, hi, nm_r (px_upk Z k e3) (nm_r (nI_1 k) ?_)⟩⟩
      have hT := pd_Upto_t hU hl (a := X k) (b := pd_rSz q (X k) (Z k)) (c := pd_rHs q (X k) (Z k) (S k)) eX (by rw [eX, eZ]) (by rw [eX, eZ, eS])
      rw [pd_u_same X k] at hT
      exact ih (k + 1) (by omega) _ _ _ hT
    · exact br_t rfl (nm_r (nI_1 k) (ih (k + 1) (by omega) X Z S (pd_Upto_f hU hl)))
theorem px_s {post : Int32 → SX → Prop} {q : Nat} (hn : n ≤ 5) (hq : q < n) (hB : pd_Bn X Z S)
    (h : ∀ X' Z' S', pd_Upto n (fun x z s => x) (fun x z s => pd_rSz q x z) (fun x z s => pd_rHs q x z s) X Z S X' Z' S' 60 → post 1 ((nI n), f_gatheredX, f_gatheredZ, f_gatheredPower, f_rules, f_solutions, (fun jj => nI (X' jj)), (fun jj => nI (Z' jj)), (fun jj => nI (S' jj)), a_kept, a_ruleX, a_ruleZ, a_basis, a_cost, a_nextCost, a_addsX, a_addsZ, a_equation, a_leading, a_solution)) :
    wpX_s post ((nI n), f_gatheredX, f_gatheredZ, f_gatheredPower, f_rules, f_solutions, (fun jj => nI (X jj)), (fun jj => nI (Z jj)), (fun jj => nI (S jj)), a_kept, a_ruleX, a_ruleZ, a_basis, a_cost, a_nextCost, a_addsX, a_addsZ, a_equation, a_leading, a_solution) (nI q) := by
  unfold wpX_s
  dsimp only
  refine px_isCell_t hn hq ?_
  exact br_f (by decide) ⟨61, px_s_l hn hq hB h 60 0 rfl X Z S (pd_Upto_0 _ _ _ _ _ _ _)⟩
theorem px_cx_l {post : Int32 → SX → Prop} {c q : Nat} {X0 Z0 S0 : Nat → Nat} (hn : n ≤ 5) (hc : c < n) (hq : q < n) (hne : c ≠ q) (hB : pd_Bn X0 Z0 S0)
    (h : ∀ X' Z' S', pd_Upto n (fun x z s => x ^^^ (pd_d x c * 2 ^ q)) (fun x z s => z ^^^ (pd_d z q * 2 ^ c)) (fun x z s => pd_rXs c q x z s) X0 Z0 S0 X' Z' S' 60 → post 1 ((nI n), f_gatheredX, f_gatheredZ, f_gatheredPower, f_rules, f_solutions, (fun jj => nI (X' jj)), (fun jj => nI (Z' jj)), (fun jj => nI (S' jj)), a_kept, a_ruleX, a_ruleZ, a_basis, a_cost, a_nextCost, a_addsX, a_addsZ, a_equation, a_leading, a_solution)) :
    ∀ f k, k + f = 60 → ∀ X Z S, pd_Upto n (fun x z s => x ^^^ (pd_d x c * 2 ^ q)) (fun x z s => z ^^^ (pd_d z q * 2 ^ c)) (fun x z s => pd_rXs c q x z s) X0 Z0 S0 X Z S k →
      wX_cx_25 post (nI c) (nI q) (nI n) f_gatheredX f_gatheredZ f_gatheredPower f_rules f_solutions (f + 1) (nI k) (fun jj => nI (X jj)) (fun jj => nI (Z jj)) (fun jj => nI (S jj)) a_kept a_ruleX a_ruleZ a_basis a_cost a_nextCost a_addsX a_addsZ a_equation a_leading a_solution := by
  intro f
  induction f with
  | zero =>
    intro k hk X Z S hU
    have e : k = 60 := by omega
    subst e
    exact br_t (show (60 : Int32) ≤ nI 60 by decide) (h X Z S hU)
  | succ f ih =>
    intro k hk X Z S hU
    refine br_f (show ¬ (60 : Int32) ≤ nI k from nI_ge (b := 60) (by omega) (by decide)) ?_
    refine px_isLive hn (by omega) (fun hl => ?_) (fun hl => ?_)
    · refine br_f (by decide) ?_
      have hi : vp_in (nI k) 60 := vp_in_nI (by omega) (by decide)
      obtain ⟨eX, eZ, eS⟩ := hU.2 k (fun c => absurd c.1 (Nat.lt_irrefl k))
      have hb := hB k (by omega)
      have ec : (nI k).toNatClampNeg = k := nI_clamp (by omega)
      refine ⟨hi, ?_⟩
      rw [ec]
      refine px_digit (by omega) (by omega) ⟨hi, px_digit (by omega) (by omega) ⟨hi, px_digit (by omega) (by omega) ⟨hi, px_digit (by omega) (by omega) ?_⟩⟩⟩
      have e1 : nI (S k) ^^^ ((nI (pd_d (X k) c) &&& nI (pd_d (Z k) q)) &&& ((nI (pd_d (X k) q) ^^^ nI (pd_d (Z k) c)) ^^^ 1)) = nI (pd_rXs c q (X k) (Z k) (S k)) := by
        show nI (S k) ^^^ ((nI (pd_d (X k) c) &&& nI (pd_d (Z k) q)) &&& ((nI (pd_d (X k) q) ^^^ nI (pd_d (Z k) c)) ^^^ nI 1)) = _
        rw [nx_and, nx_xor, nx_xor, nx_and, nx_xor]; rfl
      have e2 : nI (X k) ^^^ (nI (pd_d (X k) c) <<< (nI q &&& 31)) = nI (X k ^^^ (pd_d (X k) c * 2 ^ q)) := by
        rw [px_shlw (pd_d_le (X k) c) (by omega), nx_xor]
      have e3 : nI (Z k) ^^^ (nI (pd_d (Z k) q) <<< (nI c &&& 31)) = nI (Z k ^^^ (pd_d (Z k) q * 2 ^ c)) := by
        rw [px_shlw (pd_d_le (Z k) q) (by omega), nx_xor]
      refine ⟨hi, hi, nm_r (px_upk S k e1) ⟨hi, hi, nm_r (px_upk X k e2) ⟨hi, hi, nm_r (px_upk Z k e3) (nm_r (nI_1 k) ?_)⟩⟩⟩
      exact ih (k + 1) (by omega) _ _ _ (pd_Upto_t hU hl (by rw [eX]) (by rw [eZ]) (by rw [eX, eZ, eS]))
    · exact br_t rfl (nm_r (nI_1 k) (ih (k + 1) (by omega) X Z S (pd_Upto_f hU hl)))
theorem px_cx {post : Int32 → SX → Prop} {c q : Nat} (hn : n ≤ 5) (hc : c < n) (hq : q < n) (hne : c ≠ q) (hB : pd_Bn X Z S)
    (h : ∀ X' Z' S', pd_Upto n (fun x z s => x ^^^ (pd_d x c * 2 ^ q)) (fun x z s => z ^^^ (pd_d z q * 2 ^ c)) (fun x z s => pd_rXs c q x z s) X Z S X' Z' S' 60 → post 1 ((nI n), f_gatheredX, f_gatheredZ, f_gatheredPower, f_rules, f_solutions, (fun jj => nI (X' jj)), (fun jj => nI (Z' jj)), (fun jj => nI (S' jj)), a_kept, a_ruleX, a_ruleZ, a_basis, a_cost, a_nextCost, a_addsX, a_addsZ, a_equation, a_leading, a_solution)) :
    wpX_cx post ((nI n), f_gatheredX, f_gatheredZ, f_gatheredPower, f_rules, f_solutions, (fun jj => nI (X jj)), (fun jj => nI (Z jj)), (fun jj => nI (S jj)), a_kept, a_ruleX, a_ruleZ, a_basis, a_cost, a_nextCost, a_addsX, a_addsZ, a_equation, a_leading, a_solution) (nI c) (nI q) := by
  unfold wpX_cx
  dsimp only
  refine px_isCell_t hn hc ?_
  refine br_f (by decide) (px_isCell_t hn hq ?_)
  have hne2 : ¬ nI c = nI q := fun e => hne ((nI_eq (by omega) (by omega)).mp e)
  refine br_f (by decide) ?_
  exact br_f hne2 ⟨61, px_cx_l hn hc hq hne hB h 60 0 rfl X Z S (pd_Upto_0 _ _ _ _ _ _ _)⟩
theorem px_cz_l {post : Int32 → SX → Prop} {c q : Nat} {X0 Z0 S0 : Nat → Nat} (hn : n ≤ 5) (hc : c < n) (hq : q < n) (hne : c ≠ q) (hB : pd_Bn X0 Z0 S0)
    (h : ∀ X' Z' S', pd_Upto n (fun x z s => x) (fun x z s => pd_rZz c q x z) (fun x z s => pd_rZs c q x z s) X0 Z0 S0 X' Z' S' 60 → post 1 ((nI n), f_gatheredX, f_gatheredZ, f_gatheredPower, f_rules, f_solutions, (fun jj => nI (X' jj)), (fun jj => nI (Z' jj)), (fun jj => nI (S' jj)), a_kept, a_ruleX, a_ruleZ, a_basis, a_cost, a_nextCost, a_addsX, a_addsZ, a_equation, a_leading, a_solution)) :
    ∀ f k, k + f = 60 → ∀ X Z S, pd_Upto n (fun x z s => x) (fun x z s => pd_rZz c q x z) (fun x z s => pd_rZs c q x z s) X0 Z0 S0 X Z S k →
      wX_cz_25 post (nI c) (nI q) (nI n) f_gatheredX f_gatheredZ f_gatheredPower f_rules f_solutions (f + 1) (nI k) (fun jj => nI (X jj)) (fun jj => nI (Z jj)) (fun jj => nI (S jj)) a_kept a_ruleX a_ruleZ a_basis a_cost a_nextCost a_addsX a_addsZ a_equation a_leading a_solution := by
  intro f
  induction f with
  | zero =>
    intro k hk X Z S hU
    have e : k = 60 := by omega
    subst e
    exact br_t (show (60 : Int32) ≤ nI 60 by decide) (h X Z S hU)
  | succ f ih =>
    intro k hk X Z S hU
    refine br_f (show ¬ (60 : Int32) ≤ nI k from nI_ge (b := 60) (by omega) (by decide)) ?_
    refine px_isLive hn (by omega) (fun hl => ?_) (fun hl => ?_)
    · refine br_f (by decide) ?_
      have hi : vp_in (nI k) 60 := vp_in_nI (by omega) (by decide)
      obtain ⟨eX, eZ, eS⟩ := hU.2 k (fun c => absurd c.1 (Nat.lt_irrefl k))
      have hb := hB k (by omega)
      have ec : (nI k).toNatClampNeg = k := nI_clamp (by omega)
      refine ⟨hi, ?_⟩
      rw [ec]
      refine px_digit (by omega) (by omega) ⟨hi, px_digit (by omega) (by omega) ⟨hi, px_digit (by omega) (by omega) ⟨hi, px_digit (by omega) (by omega) ?_⟩⟩⟩
      have e1 : nI (S k) ^^^ ((nI (pd_d (X k) c) &&& nI (pd_d (X k) q)) &&& (nI (pd_d (Z k) c) ^^^ nI (pd_d (Z k) q))) = nI (pd_rZs c q (X k) (Z k) (S k)) := by
        rw [nx_and, nx_xor, nx_and, nx_xor]; rfl
      have e2 : nI (Z k) ^^^ (nI (pd_d (X k) c) <<< (nI q &&& 31)) = nI (Z k ^^^ (pd_d (X k) c * 2 ^ q)) := by
        rw [px_shlw (pd_d_le (X k) c) (by omega), nx_xor]
      have e3 : nI (pd_u Z k (Z k ^^^ (pd_d (X k) c * 2 ^ q)) k) ^^^ (nI (pd_d (X k) q) <<< (nI c &&& 31)) = nI (pd_rZz c q (X k) (Z k)) := by
        rw [px_shlw (pd_d_le (X k) q) (by omega), nx_xor, pd_u_s]; rfl
      refine ⟨hi, hi, nm_r (px_upk S k e1) ⟨hi, hi, nm_r (px_upk Z k e2) ⟨hi, hi, nm_r (px_upk _ k e3) (nm_r (nI_1 k) ?_)⟩⟩⟩
      have hT := pd_Upto_t hU hl (a := X k) (b := pd_rZz c q (X k) (Z k)) (c := pd_rZs c q (X k) (Z k) (S k)) eX (by rw [eX, eZ]) (by rw [eX, eZ, eS])
      rw [pd_u_same X k, ← pd_uu Z k (Z k ^^^ (pd_d (X k) c * 2 ^ q))] at hT
      exact ih (k + 1) (by omega) _ _ _ hT
    · exact br_t rfl (nm_r (nI_1 k) (ih (k + 1) (by omega) X Z S (pd_Upto_f hU hl)))
theorem px_cz {post : Int32 → SX → Prop} {c q : Nat} (hn : n ≤ 5) (hc : c < n) (hq : q < n) (hne : c ≠ q) (hB : pd_Bn X Z S)
    (h : ∀ X' Z' S', pd_Upto n (fun x z s => x) (fun x z s => pd_rZz c q x z) (fun x z s => pd_rZs c q x z s) X Z S X' Z' S' 60 → post 1 ((nI n), f_gatheredX, f_gatheredZ, f_gatheredPower, f_rules, f_solutions, (fun jj => nI (X' jj)), (fun jj => nI (Z' jj)), (fun jj => nI (S' jj)), a_kept, a_ruleX, a_ruleZ, a_basis, a_cost, a_nextCost, a_addsX, a_addsZ, a_equation, a_leading, a_solution)) :
    wpX_cz post ((nI n), f_gatheredX, f_gatheredZ, f_gatheredPower, f_rules, f_solutions, (fun jj => nI (X jj)), (fun jj => nI (Z jj)), (fun jj => nI (S jj)), a_kept, a_ruleX, a_ruleZ, a_basis, a_cost, a_nextCost, a_addsX, a_addsZ, a_equation, a_leading, a_solution) (nI c) (nI q) := by
  unfold wpX_cz
  dsimp only
  refine px_isCell_t hn hc ?_
  refine br_f (by decide) (px_isCell_t hn hq ?_)
  have hne2 : ¬ nI c = nI q := fun e => hne ((nI_eq (by omega) (by omega)).mp e)
  refine br_f (by decide) ?_
  exact br_f hne2 ⟨61, px_cz_l hn hc hq hne hB h 60 0 rfl X Z S (pd_Upto_0 _ _ _ _ _ _ _)⟩
end
end
section
theorem pd_ms_cg {X Z S X' Z' S' : Nat → Nat} {i k : Nat} (a1 : X' i = X i) (a2 : Z' i = Z i) (a3 : S' i = S i) (b1 : X' k = X k) (b2 : Z' k = Z k) (b3 : S' k = S k) : pd_ms X' Z' S' i k = pd_ms X Z S i k := by
  unfold pd_ms
  rw [a1, a2, a3, b1, b2, b3]
/-- rows i of D are separated from row 5 + p -/
def pd_Sep (D : Nat → Prop) (X Z S X' Z' S' : Nat → Nat) (o p x z : Nat) : Prop :=
  ∀ i, i < 10 → ((D i ∧ i ≠ 5 + p ∧ i ≠ p ∧ pd_cl (X (o + i)) (Z (o + i)) x z = 1) →
      X' (o + i) = X (o + i) ^^^ X (o + (5 + p)) ∧ Z' (o + i) = Z (o + i) ^^^ Z (o + (5 + p)) ∧ S' (o + i) = pd_ms X Z S (o + i) (o + (5 + p))) ∧
    (¬ (D i ∧ i ≠ 5 + p ∧ i ≠ p ∧ pd_cl (X (o + i)) (Z (o + i)) x z = 1) → X' (o + i) = X (o + i) ∧ Z' (o + i) = Z (o + i) ∧ S' (o + i) = S (o + i))
theorem pd_Sep_D {D D' : Nat → Prop} {X Z S X' Z' S' : Nat → Nat} {o p x z : Nat} (h : pd_Sep D X Z S X' Z' S' o p x z) (e : ∀ i, i < 10 → (D i ↔ D' i)) : pd_Sep D' X Z S X' Z' S' o p x z :=
  fun i hi => ⟨fun c => (h i hi).1 ⟨(e i hi).mpr c.1, c.2⟩, fun c => (h i hi).2 (fun d => c ⟨(e i hi).mp d.1, d.2⟩)⟩
theorem pd_Sep_0 {X Z S : Nat → Nat} {o p x z : Nat} : pd_Sep (fun _ => False) X Z S X Z S o p x z :=
  fun _ _ => ⟨fun c => c.1.elim, fun _ => ⟨rfl, rfl, rfl⟩⟩
theorem pd_Sep_f {D : Nat → Prop} {X Z S X' Z' S' : Nat → Nat} {o p x z i0 : Nat} (h : pd_Sep D X Z S X' Z' S' o p x z)
    (c : ¬ (i0 ≠ 5 + p ∧ i0 ≠ p ∧ pd_cl (X (o + i0)) (Z (o + i0)) x z = 1)) : pd_Sep (fun i => D i ∨ i = i0) X Z S X' Z' S' o p x z := by
  intro i hi
  refine ⟨fun d => (h i hi).1 ⟨?_, d.2⟩, fun d => (h i hi).2 (fun e => d ⟨Or.inl e.1, e.2⟩)⟩
  rcases d.1 with a | a
  · exact a
  · rw [a] at d; exact absurd d.2 c
theorem pd_Sep_t {D : Nat → Prop} {X Z S X' Z' S' : Nat → Nat} {o p x z i0 : Nat} (h : pd_Sep D X Z S X' Z' S' o p x z) (hi0 : i0 < 10) (hp : p < 5) (hD : ¬ D i0)
    (c : i0 ≠ 5 + p ∧ i0 ≠ p ∧ pd_cl (X (o + i0)) (Z (o + i0)) x z = 1) :
    pd_Sep (fun i => D i ∨ i = i0) X Z S (pd_u X' (o + i0) (X' (o + i0) ^^^ X' (o + (5 + p)))) (pd_u Z' (o + i0) (Z' (o + i0) ^^^ Z' (o + (5 + p)))) (pd_u S' (o + i0) (pd_ms X' Z' S' (o + i0) (o + (5 + p)))) o p x z := by
  obtain ⟨a1, a2, a3⟩ := (h i0 hi0).2 (fun d => hD d.1)
  obtain ⟨b1, b2, b3⟩ := (h (5 + p) (by omega)).2 (fun d => d.2.1 rfl)
  intro i hi
  by_cases e : i = i0
  · subst e
    rw [pd_u_s, pd_u_s, pd_u_s, a1, a2, b1, b2, pd_ms_cg a1 a2 a3 b1 b2 b3]
    exact ⟨fun _ => ⟨rfl, rfl, rfl⟩, fun d => absurd ⟨Or.inr rfl, c⟩ d⟩
  · rw [pd_u_n (by omega), pd_u_n (by omega), pd_u_n (by omega)]
    refine ⟨fun d => (h i hi).1 ⟨?_, d.2⟩, fun d => (h i hi).2 (fun e => d ⟨Or.inl e.1, e.2⟩)⟩
    rcases d.1 with a | a
    · exact a
    · exact absurd a e
theorem pd_Bn_u {X Z S : Nat → Nat} {k a b c : Nat} (h : pd_Bn X Z S) (ha : a < 32) (hb : b < 32) (hc : c < 2) : pd_Bn (pd_u X k a) (pd_u Z k b) (pd_u S k c) := by
  intro j hj
  by_cases e : j = k
  · subst e; rw [pd_u_s, pd_u_s, pd_u_s]; exact ⟨ha, hb, hc⟩
  · rw [pd_u_n e, pd_u_n e, pd_u_n e]; exact h j hj
theorem pd_Same_u {X Z S X' Z' S' : Nat → Nat} {o k a b c : Nat} (h : pd_Same X Z S X' Z' S' o) (h1 : o ≤ k) (h2 : k < o + 10) : pd_Same X Z S (pd_u X' k a) (pd_u Z' k b) (pd_u S' k c) o := by
  intro j hj
  have e : j ≠ k := by omega
  rw [pd_u_n e, pd_u_n e, pd_u_n e]; exact h j hj
theorem pd_Same_rf (X Z S : Nat → Nat) (o : Nat) : pd_Same X Z S X Z S o := fun _ _ => ⟨rfl, rfl, rfl⟩
theorem pd_Bn_of {X Z S X' Z' S' : Nat → Nat} {o : Nat} (h : pd_Bn X Z S) (hs : pd_Same X Z S X' Z' S' o) (hb : pd_Bd X' Z' S' o) : pd_Bn X' Z' S' := by
  intro j hj
  by_cases e : j < o ∨ o + 10 ≤ j
  · obtain ⟨a, b, c⟩ := hs j e
    rw [a, b, c]; exact h j hj
  · obtain ⟨i, rfl⟩ : ∃ i, j = o + i := ⟨j - o, by omega⟩
    exact hb i (by omega)
/-- rows separated, then the product in row 5 + p and its old row as the partner -/
theorem pd_Sep_end {n : Nat} {X Z S X' Z' S' : Nat → Nat} {o p x z w : Nat} {V : Nat → Int × Int} (hSt : pd_St n X Z S o V) (hn : n ≤ 5) (hp : p < n) (hx : x < 2 ^ n) (hz : z < 2 ^ n)
    (h : pd_Sep (fun i => i % 5 < n) X Z S X' Z' S' o p x z) : ∀ i, i < 10 →
      pd_u (pd_u X' (o + p) (X' (o + (5 + p)))) (o + (5 + p)) x (o + i) = pd_mX X Z o p x z i ∧
      pd_u (pd_u Z' (o + p) (Z' (o + (5 + p)))) (o + (5 + p)) z (o + i) = pd_mZ X Z o p x z i ∧
      pd_u (pd_u S' (o + p) (S' (o + (5 + p)))) (o + (5 + p)) w (o + i) = pd_mS X Z S o p x z w i := by
  obtain ⟨b1, b2, b3⟩ := (h (5 + p) (by omega)).2 (fun d => d.2.1 rfl)
  intro i hi
  unfold pd_mX pd_mZ pd_mS
  by_cases e1 : i = 5 + p
  · rw [if_pos e1, if_pos e1, if_pos e1, e1, pd_u_s, pd_u_s, pd_u_s]; exact ⟨rfl, rfl, rfl⟩
  · have m1 : o + i ≠ o + (5 + p) := by omega
    rw [if_neg e1, if_neg e1, if_neg e1, pd_u_n m1, pd_u_n m1, pd_u_n m1]
    by_cases e2 : i = p
    · rw [if_pos e2, if_pos e2, if_pos e2, e2, pd_u_s, pd_u_s, pd_u_s]; exact ⟨b1, b2, b3⟩
    · have m2 : o + i ≠ o + p := by omega
      rw [if_neg e2, if_neg e2, if_neg e2, pd_u_n m2, pd_u_n m2, pd_u_n m2]
      by_cases e3 : pd_cl (X (o + i)) (Z (o + i)) x z = 1
      · rw [if_pos e3, if_pos e3, if_pos e3]
        refine (h i hi).1 ⟨?_, e1, e2, e3⟩
        apply Classical.byContradiction
        intro hno
        have := pd_St_hi hSt hx hz (q := i % 5) (by omega) (by omega)
        have hi5 : i = i % 5 ∨ i = 5 + i % 5 := by omega
        rcases hi5 with q | q
        · rw [← q] at this; omega
        · rw [← q] at this; omega
      · rw [if_neg e3, if_neg e3, if_neg e3]
        exact (h i hi).2 (fun d => e3 d.2.2.2)
section
variable {f_gatheredX f_gatheredZ f_gatheredPower f_rules f_solutions : Int32} {a_kept a_ruleX a_ruleZ a_basis a_cost a_nextCost a_addsX a_addsZ a_equation a_leading a_solution : Nat → Int32} {n : Nat} {X Z S : Nat → Nat}
theorem px_turnSigns3 {post : SX → Prop} {b x z : Nat} {S0 : Nat → Nat} (hb : b < 6) (hB : pd_Bn X Z S0)
    (h : ∀ S' : Nat → Nat, (∀ i, i < 10 → S' (10 * b + i) = S0 (10 * b + i) ^^^ pd_cl (X (10 * b + i)) (Z (10 * b + i)) x z) → (∀ j, (j < 10 * b ∨ 10 * b + 10 ≤ j) → S' j = S0 j) → post ((nI n), f_gatheredX, f_gatheredZ, f_gatheredPower, f_rules, f_solutions, (fun jj => nI (X jj)), (fun jj => nI (Z jj)), (fun jj => nI (S' jj)), a_kept, a_ruleX, a_ruleZ, a_basis, a_cost, a_nextCost, a_addsX, a_addsZ, a_equation, a_leading, a_solution)) :
    ∀ f k, k + f = 10 → ∀ S : Nat → Nat, (∀ i, i < 10 → S (10 * b + i) = if i < k then S0 (10 * b + i) ^^^ pd_cl (X (10 * b + i)) (Z (10 * b + i)) x z else S0 (10 * b + i)) → (∀ j, (j < 10 * b ∨ 10 * b + 10 ≤ j) → S j = S0 j) →
      wX_turnSigns_3 post (nI b) (nI x) (nI z) (nI n) f_gatheredX f_gatheredZ f_gatheredPower f_rules f_solutions (f + 1) (nI k) (fun jj => nI (X jj)) (fun jj => nI (Z jj)) (fun jj => nI (S jj)) a_kept a_ruleX a_ruleZ a_basis a_cost a_nextCost a_addsX a_addsZ a_equation a_leading a_solution := by
  intro f
  induction f with
  | zero =>
    intro k hk S h1 h2
    have e : k = 10 := by omega
    subst e
    exact br_t (show (10 : Int32) ≤ nI 10 by decide) (h S (fun i hi => by rw [h1 i hi, if_pos hi]) h2)
  | succ f ih =>
    intro k hk S h1 h2
    refine br_f (show ¬ (10 : Int32) ≤ nI k from nI_ge (b := 10) (by omega) (by decide)) ?_
    refine nm_r (px_row b k) ?_
    have hi : vp_in (nI (10 * b + k)) 60 := vp_in_nI (by omega) (by decide)
    have hbk := hB (10 * b + k) (by omega)
    refine ⟨hi, hi, hi, ?_⟩
    rw [nI_clamp (n := 10 * b + k) (by omega)]
    refine px_clash (by omega) (by omega) ⟨hi, ?_⟩
    have ek := h1 k (by omega)
    rw [if_neg (Nat.lt_irrefl k)] at ek
    have e1 : nI (S (10 * b + k)) ^^^ nI (pd_cl (X (10 * b + k)) (Z (10 * b + k)) x z) = nI (S (10 * b + k) ^^^ pd_cl (X (10 * b + k)) (Z (10 * b + k)) x z) := nx_xor _ _
    refine nm_r (px_upk S (10 * b + k) e1) (nm_r (nI_1 k) (ih (k + 1) (by omega) _ ?_ ?_))
    · intro i hi
      by_cases e : i = k
      · subst e
        rw [pd_u_s, if_pos (by omega), ek]
      · rw [pd_u_n (by omega), h1 i hi]
        by_cases c : i < k
        · rw [if_pos c, if_pos (by omega)]
        · rw [if_neg c, if_neg (by omega)]
    · intro j hj
      rw [pd_u_n (by omega)]
      exact h2 j hj
theorem px_turnSigns {post : SX → Prop} {p0 : Int32} {b x z : Nat} (e0 : p0 = nI b) (hb : b < 6) (hB : pd_Bn X Z S)
    (h : ∀ S' : Nat → Nat, (∀ i, i < 10 → S' (10 * b + i) = S (10 * b + i) ^^^ pd_cl (X (10 * b + i)) (Z (10 * b + i)) x z) → (∀ j, (j < 10 * b ∨ 10 * b + 10 ≤ j) → S' j = S j) → post ((nI n), f_gatheredX, f_gatheredZ, f_gatheredPower, f_rules, f_solutions, (fun jj => nI (X jj)), (fun jj => nI (Z jj)), (fun jj => nI (S' jj)), a_kept, a_ruleX, a_ruleZ, a_basis, a_cost, a_nextCost, a_addsX, a_addsZ, a_equation, a_leading, a_solution)) :
    wpX_turnSigns post ((nI n), f_gatheredX, f_gatheredZ, f_gatheredPower, f_rules, f_solutions, (fun jj => nI (X jj)), (fun jj => nI (Z jj)), (fun jj => nI (S jj)), a_kept, a_ruleX, a_ruleZ, a_basis, a_cost, a_nextCost, a_addsX, a_addsZ, a_equation, a_leading, a_solution) p0 (nI x) (nI z) := by
  subst e0
  exact ⟨11, px_turnSigns3 hb hB h 10 0 rfl S (fun i _ => by rw [if_neg (Nat.not_lt_zero i)]) (fun j _ => rfl)⟩
theorem px_firstClash3 {post : Int32 → Prop} {b x z : Nat} (hn : n ≤ 5) (hb : b < 6) (hB : pd_Bn X Z S)
    (h1 : ∀ p, p < n → pd_cl (X (10 * b + (5 + p))) (Z (10 * b + (5 + p))) x z = 1 → post (nI (10 * b + (5 + p))))
    (h0 : (∀ q, q < n → pd_cl (X (10 * b + (5 + q))) (Z (10 * b + (5 + q))) x z = 0) → post (-1)) :
    ∀ f q, q + f = n → (∀ i, i < q → pd_cl (X (10 * b + (5 + i))) (Z (10 * b + (5 + i))) x z = 0) → wX_firstClash_3 post (nI b) (nI x) (nI z) (nI n) f_gatheredX f_gatheredZ f_gatheredPower f_rules f_solutions (fun jj => nI (X jj)) (fun jj => nI (Z jj)) (fun jj => nI (S jj)) a_kept a_ruleX a_ruleZ a_basis a_cost a_nextCost a_addsX a_addsZ a_equation a_leading a_solution (f + 1) (nI q) := by
  intro f
  induction f with
  | zero =>
    intro q hq hk
    have e : q = n := by omega
    subst e
    exact br_t (nI_le (by omega) (by omega)) (h0 hk)
  | succ f ih =>
    intro q hq hk
    refine br_f (nI_ge (by omega) (by omega)) (nm_r (px_row5 b q) ?_)
    refine px_clashOfRow rfl (by omega) hB ?_
    rcases pd_cl_01 (X (10 * b + (5 + q))) (Z (10 * b + (5 + q))) x z with c | c
    · rw [c]
      refine br_f (by decide) (nm_r (nI_1 q) (ih (q + 1) (by omega) ?_))
      intro i hi
      by_cases e : i = q
      · rw [e]; exact c
      · exact hk i (by omega)
    · rw [c]
      exact br_t rfl (h1 q (by omega) c)
theorem px_firstClash {post : Int32 → Prop} {p0 : Int32} {b x z : Nat} (e0 : p0 = nI b) (hn : n ≤ 5) (hb : b < 6) (hB : pd_Bn X Z S)
    (h1 : ∀ p, p < n → pd_cl (X (10 * b + (5 + p))) (Z (10 * b + (5 + p))) x z = 1 → post (nI (10 * b + (5 + p))))
    (h0 : (∀ q, q < n → pd_cl (X (10 * b + (5 + q))) (Z (10 * b + (5 + q))) x z = 0) → post (-1)) : wpX_firstClash post ((nI n), f_gatheredX, f_gatheredZ, f_gatheredPower, f_rules, f_solutions, (fun jj => nI (X jj)), (fun jj => nI (Z jj)), (fun jj => nI (S jj)), a_kept, a_ruleX, a_ruleZ, a_basis, a_cost, a_nextCost, a_addsX, a_addsZ, a_equation, a_leading, a_solution) p0 (nI x) (nI z) := by
  subst e0
  exact ⟨n + 1, px_firstClash3 hn hb hB h1 h0 n 0 (by omega) (fun i hi => absurd hi (Nat.not_lt_zero i))⟩
theorem px_signIn8 {post : Int32 → SX → Prop} {b x z : Nat} {V : Nat → Int × Int} (hn : n ≤ 5) (hb : b < 6) (hB : pd_Bn X Z S) (hSt : pd_St n X Z S (10 * b) V) (hx : x < 2 ^ n) (hz : z < 2 ^ n)
    (hc : ∀ q, q < n → pd_cl (X (10 * b + (5 + q))) (Z (10 * b + (5 + q))) x z = 0)
    (h : ∀ sg gx gz gp, sg < 2 → pd_Fx 5 (pd_on (x &&& z) + 2 * sg) x z V → post (nI sg) ((nI n), gx, gz, gp, f_rules, f_solutions, (fun jj => nI (X jj)), (fun jj => nI (Z jj)), (fun jj => nI (S jj)), a_kept, a_ruleX, a_ruleZ, a_basis, a_cost, a_nextCost, a_addsX, a_addsZ, a_equation, a_leading, a_solution)) :
    ∀ f q, q + f = n → ∀ gx gz gp : Nat, pd_Gi X Z (10 * b) x z q gx gz → pd_Fx 5 gp gx gz V → wX_signIn_8 post (nI b) (nI x) (nI z) (f + 1) (nI q) (nI n) (nI gx) (nI gz) (nI gp) f_rules f_solutions (fun jj => nI (X jj)) (fun jj => nI (Z jj)) (fun jj => nI (S jj)) a_kept a_ruleX a_ruleZ a_basis a_cost a_nextCost a_addsX a_addsZ a_equation a_leading a_solution := by
  have h32 := px_2n hn
  intro f
  induction f with
  | zero =>
    intro q hq gx gz gp hG hF
    have e : q = n := by omega
    subst e
    refine br_t (nI_le (by omega) (by omega)) ?_
    obtain ⟨e1, e2⟩ := pd_Gi_end hSt (by omega) (by omega) hG (fun i h1 h2 => (pd_St_hi hSt hx hz h1 h2).1) (fun i hi => by
      by_cases c : i < q
      · exact hc i c
      · exact (pd_St_hi hSt hx hz (by omega) hi).2)
    subst e1 e2
    refine px_gatheredSign hG.1 ?_
    exact h _ _ _ _ (by omega) (pd_Fx_sign hSt.2.2.1 hF hG.1)
  | succ f ih =>
    intro q hq gx gz gp hG hF
    refine br_f (nI_ge (by omega) (by omega)) ?_
    refine px_clashOfRow (px_row b q) (by omega) hB ?_
    rcases pd_cl_01 (X (10 * b + q)) (Z (10 * b + q)) x z with c | c
    · rw [c]
      exact br_f (by decide) (nm_r (nI_1 q) (ih (q + 1) (by omega) gx gz gp (pd_Gi_f (by omega) hG (by rw [c]; decide)) hF))
    · rw [c]
      refine br_t rfl (px_gather (px_row5 b q) (by omega) hB hG.2.1 ?_)
      exact nm_r (nI_1 q) (ih (q + 1) (by omega) _ _ _ (pd_Gi_t hSt (by omega) hG c) (pd_St_ga hSt (by omega) hF))
theorem px_signIn {post : Int32 → SX → Prop} {p0 : Int32} {b x z : Nat} {V : Nat → Int × Int} (e0 : p0 = nI b) (hn : n ≤ 5) (hb : b < 6) (hB : pd_Bn X Z S) (hSt : pd_St n X Z S (10 * b) V) (hx : x < 2 ^ n) (hz : z < 2 ^ n)
    (hc : ∀ q, q < n → pd_cl (X (10 * b + (5 + q))) (Z (10 * b + (5 + q))) x z = 0)
    (h : ∀ sg gx gz gp, sg < 2 → pd_Fx 5 (pd_on (x &&& z) + 2 * sg) x z V → post (nI sg) ((nI n), gx, gz, gp, f_rules, f_solutions, (fun jj => nI (X jj)), (fun jj => nI (Z jj)), (fun jj => nI (S jj)), a_kept, a_ruleX, a_ruleZ, a_basis, a_cost, a_nextCost, a_addsX, a_addsZ, a_equation, a_leading, a_solution)) : wpX_signIn post ((nI n), f_gatheredX, f_gatheredZ, f_gatheredPower, f_rules, f_solutions, (fun jj => nI (X jj)), (fun jj => nI (Z jj)), (fun jj => nI (S jj)), a_kept, a_ruleX, a_ruleZ, a_basis, a_cost, a_nextCost, a_addsX, a_addsZ, a_equation, a_leading, a_solution) p0 (nI x) (nI z) := by
  subst e0
  unfold wpX_signIn
  dsimp only
  refine px_gatherNothing (p := 0) rfl ?_
  exact ⟨n + 1, px_signIn8 hn hb hB hSt hx hz hc h n 0 (by omega) 0 0 0 (pd_Gi_0 _ _ _ _ _) (pd_Fx_0 5 V)⟩
theorem px_separate {post : SX → Prop} {p0 p1 : Int32} {k l x z : Nat} (e0 : p0 = nI k) (e1 : p1 = nI l) (hk : k < 60) (hl : l < 60) (hl5 : 5 ≤ l) (hB : pd_Bn X Z S)
    (h1 : k ≠ l → k ≠ l - 5 → pd_cl (X k) (Z k) x z = 1 → ∀ gx gz gp, post ((nI n), gx, gz, gp, f_rules, f_solutions, (fun jj => nI ((pd_u X k (X k ^^^ X l)) jj)), (fun jj => nI ((pd_u Z k (Z k ^^^ Z l)) jj)), (fun jj => nI ((pd_u S k (pd_ms X Z S k l)) jj)), a_kept, a_ruleX, a_ruleZ, a_basis, a_cost, a_nextCost, a_addsX, a_addsZ, a_equation, a_leading, a_solution))
    (h0 : ¬ (k ≠ l ∧ k ≠ l - 5 ∧ pd_cl (X k) (Z k) x z = 1) → post ((nI n), f_gatheredX, f_gatheredZ, f_gatheredPower, f_rules, f_solutions, (fun jj => nI (X jj)), (fun jj => nI (Z jj)), (fun jj => nI (S jj)), a_kept, a_ruleX, a_ruleZ, a_basis, a_cost, a_nextCost, a_addsX, a_addsZ, a_equation, a_leading, a_solution)) : wpX_separate post ((nI n), f_gatheredX, f_gatheredZ, f_gatheredPower, f_rules, f_solutions, (fun jj => nI (X jj)), (fun jj => nI (Z jj)), (fun jj => nI (S jj)), a_kept, a_ruleX, a_ruleZ, a_basis, a_cost, a_nextCost, a_addsX, a_addsZ, a_equation, a_leading, a_solution) p0 p1 (nI x) (nI z) := by
  subst e0 e1
  unfold wpX_separate
  dsimp only
  refine px_clashOfRow rfl hk hB ?_
  refine pk_eq k l (fun e => h0 (fun c => c.1 e)) (fun n1 => ?_)
  have e5 : nI l - 5 = nI (l - 5) := pk_sub (b := 5) hl5
  rw [e5]
  refine pk_eq k (l - 5) (fun e => h0 (fun c => c.2.1 e)) (fun n2 => ?_)
  rcases pd_cl_01 (X k) (Z k) x z with c | c
  · rw [c]
    exact br_f (by decide) (h0 (fun d => by rw [c] at d; exact absurd d.2.2 (by decide)))
  · rw [c]
    exact br_t rfl (px_multiply rfl rfl hk hl hB (h1 n1 n2 c))
theorem px_measureIn25 {post : Int32 → SX → Prop} {b x z w p : Nat} {want : Int32} {V : Nat → Int × Int} {X0 Z0 S0 : Nat → Nat} (hn : n ≤ 5) (hb : b < 6) (hB0 : pd_Bn X0 Z0 S0) (hSt : pd_St n X0 Z0 S0 (10 * b) V) (hx : x < 2 ^ n) (hz : z < 2 ^ n)
    (hw : w < 2) (hwant : want &&& 1 = nI w) (hp : p < n) (hc : pd_cl (X0 (10 * b + (5 + p))) (Z0 (10 * b + (5 + p))) x z = 1)
    (h : ∀ X' Z' S' gx gz gp, pd_St n X' Z' S' (10 * b) (pd_mz w x z V) → pd_Bn X' Z' S' → pd_Same X0 Z0 S0 X' Z' S' (10 * b) → post (nI (2 + w)) ((nI n), gx, gz, gp, f_rules, f_solutions, (fun jj => nI (X' jj)), (fun jj => nI (Z' jj)), (fun jj => nI (S' jj)), a_kept, a_ruleX, a_ruleZ, a_basis, a_cost, a_nextCost, a_addsX, a_addsZ, a_equation, a_leading, a_solution)) :
    ∀ f q, q + f = n → ∀ (X Z S : Nat → Nat) (gx gz gp : Int32), pd_Sep (fun i => i % 5 < q) X0 Z0 S0 X Z S (10 * b) p x z → pd_Bn X Z S → pd_Same X0 Z0 S0 X Z S (10 * b) →
      wX_measureIn_25 post (nI b) (nI x) (nI z) want (nI (10 * b + (5 + p))) (f + 1) (nI q) (nI n) gx gz gp f_rules f_solutions (fun jj => nI (X jj)) (fun jj => nI (Z jj)) (fun jj => nI (S jj)) a_kept a_ruleX a_ruleZ a_basis a_cost a_nextCost a_addsX a_addsZ a_equation a_leading a_solution := by
  have h32 := px_2n hn
  intro f
  induction f with
  | zero =>
    intro q hq X Z S gx gz gp hS hB hSm
    have e : q = n := by omega
    subst e
    refine br_t (nI_le (by omega) (by omega)) ?_
    have e5 : nI (10 * b + (5 + p)) - 5 = nI (10 * b + p) := by
      have := pk_sub (a := 10 * b + (5 + p)) (b := 5) (by omega)
      rw [show 10 * b + (5 + p) - 5 = 10 * b + p by omega] at this
      exact this
    refine px_copyRow rfl e5 (by omega) (by omega) ?_
    refine px_setRow rfl rfl rfl hwant (by omega) ?_
    have e2 : 2 + (want &&& 1) = nI (2 + w) := by
      rw [hwant]; exact nI_add 2 w
    rw [e2]
    have hR := pd_Sep_end (w := w) hSt hn hp hx hz hS
    have hSt' := pd_St_mz (X' := pd_u (pd_u X (10 * b + p) (X (10 * b + (5 + p)))) (10 * b + (5 + p)) x) (Z' := pd_u (pd_u Z (10 * b + p) (Z (10 * b + (5 + p)))) (10 * b + (5 + p)) z) (S' := pd_u (pd_u S (10 * b + p) (S (10 * b + (5 + p)))) (10 * b + (5 + p)) w) hSt hx hz hn hw hp hc hR
    have hSm' := pd_Same_u (k := 10 * b + (5 + p)) (a := x) (b := z) (c := w) (pd_Same_u (k := 10 * b + p) (a := X (10 * b + (5 + p))) (b := Z (10 * b + (5 + p))) (c := S (10 * b + (5 + p))) hSm (by omega) (by omega)) (by omega) (by omega)
    exact h _ _ _ _ _ _ hSt' (pd_Bn_of hB0 hSm' hSt'.1) hSm'
  | succ f ih =>
    intro q hq X Z S gx gz gp hS hB hSm
    refine br_f (nI_ge (by omega) (by omega)) ?_
    have second : ∀ (X Z S : Nat → Nat) (gx gz gp : Int32), pd_Sep (fun i => i % 5 < q ∨ i = q) X0 Z0 S0 X Z S (10 * b) p x z → pd_Bn X Z S → pd_Same X0 Z0 S0 X Z S (10 * b) →
        wpX_separate (fun u => match u with
          | (f_n, f_gatheredX, f_gatheredZ, f_gatheredPower, f_rules, f_solutions, a_rowX, a_rowZ, a_rowSign, a_kept, a_ruleX, a_ruleZ, a_basis, a_cost, a_nextCost, a_addsX, a_addsZ, a_equation, a_leading, a_solution) =>
            ∀ x6, x6 = nI q + 1 → wX_measureIn_25 post (nI b) (nI x) (nI z) want (nI (10 * b + (5 + p))) (f + 1) x6 f_n f_gatheredX f_gatheredZ f_gatheredPower f_rules f_solutions a_rowX a_rowZ a_rowSign a_kept a_ruleX a_ruleZ a_basis a_cost a_nextCost a_addsX a_addsZ a_equation a_leading a_solution)
          ((nI n), gx, gz, gp, f_rules, f_solutions, (fun jj => nI (X jj)), (fun jj => nI (Z jj)), (fun jj => nI (S jj)), a_kept, a_ruleX, a_ruleZ, a_basis, a_cost, a_nextCost, a_addsX, a_addsZ, a_equation, a_leading, a_solution) (((nI b * 10) + 5) + nI q) (nI (10 * b + (5 + p))) (nI x) (nI z) := by
      intro X Z S gx gz gp hS hB hSm
      have hbq := hB (10 * b + (5 + q)) (by omega)
      have hbp := hB (10 * b + (5 + p)) (by omega)
      have hsq := (hS (5 + q) (by omega)).2 (fun d => by rcases d.1 with d | d <;> omega)
      have key : ∀ {X' Z' S'}, pd_Sep (fun i => (i % 5 < q ∨ i = q) ∨ i = 5 + q) X0 Z0 S0 X' Z' S' (10 * b) p x z → pd_Sep (fun i => i % 5 < q + 1) X0 Z0 S0 X' Z' S' (10 * b) p x z :=
        fun h => pd_Sep_D h (fun i hi => by omega)
      refine px_separate (px_row5 b q) rfl (by omega) (by omega) (by omega) hB ?_ ?_
      · intro n1 n2 c gx' gz' gp'
        rw [hsq.1, hsq.2.1] at c
        refine nm_r (nI_1 q) (ih (q + 1) (by omega) _ _ _ _ _ _ (key (pd_Sep_t hS (by omega) (by omega) (fun d => by omega) ⟨by omega, by omega, c⟩)) ?_ ?_)
        · exact pd_Bn_u hB (pd_xor32 hbq.1 hbp.1) (pd_xor32 hbq.2.1 hbp.2.1) (pd_ms_lt _ _ _ _ _)
        · exact pd_Same_u hSm (by omega) (by omega)
      · intro c
        rw [hsq.1, hsq.2.1] at c
        exact nm_r (nI_1 q) (ih (q + 1) (by omega) _ _ _ _ _ _ (key (pd_Sep_f hS (fun d => c ⟨by omega, by omega, d.2.2⟩))) hB hSm)
    have hbq := hB (10 * b + q) (by omega)
    have hbp := hB (10 * b + (5 + p)) (by omega)
    have hsq := (hS q (by omega)).2 (fun d => by omega)
    refine px_separate (px_row b q) rfl (by omega) (by omega) (by omega) hB ?_ ?_
    · intro n1 n2 c gx' gz' gp'
      rw [hsq.1, hsq.2.1] at c
      refine second _ _ _ _ _ _ (pd_Sep_t hS (by omega) (by omega) (fun d => by omega) ⟨by omega, by omega, c⟩) ?_ ?_
      · exact pd_Bn_u hB (pd_xor32 hbq.1 hbp.1) (pd_xor32 hbq.2.1 hbp.2.1) (pd_ms_lt _ _ _ _ _)
      · exact pd_Same_u hSm (by omega) (by omega)
    · intro c
      rw [hsq.1, hsq.2.1] at c
      exact second _ _ _ _ _ _ (pd_Sep_f hS (fun d => c ⟨by omega, by omega, d.2.2⟩)) hB hSm
/-- measuring: an outcome that is settled, or one that is not -/
theorem px_measureIn {post : Int32 → SX → Prop} {p0 want : Int32} {b x z w : Nat} {V : Nat → Int × Int} (e0 : p0 = nI b) (hn : n ≤ 5) (hb : b < 6) (hB : pd_Bn X Z S) (hSt : pd_St n X Z S (10 * b) V) (hx : x < 2 ^ n) (hz : z < 2 ^ n)
    (hw : w < 2) (hwant : want &&& 1 = nI w)
    (h0 : ∀ sg gx gz gp, sg < 2 → pd_Fx 5 (pd_on (x &&& z) + 2 * sg) x z V → post (nI sg) ((nI n), gx, gz, gp, f_rules, f_solutions, (fun jj => nI (X jj)), (fun jj => nI (Z jj)), (fun jj => nI (S jj)), a_kept, a_ruleX, a_ruleZ, a_basis, a_cost, a_nextCost, a_addsX, a_addsZ, a_equation, a_leading, a_solution))
    (h1 : ∀ X' Z' S' gx gz gp, (∃ p u v, u < 32 ∧ v < 32 ∧ pd_Fx 5 p u v V ∧ pd_cl u v x z = 1) → pd_St n X' Z' S' (10 * b) (pd_mz w x z V) → pd_Bn X' Z' S' → pd_Same X Z S X' Z' S' (10 * b) → post (nI (2 + w)) ((nI n), gx, gz, gp, f_rules, f_solutions, (fun jj => nI (X' jj)), (fun jj => nI (Z' jj)), (fun jj => nI (S' jj)), a_kept, a_ruleX, a_ruleZ, a_basis, a_cost, a_nextCost, a_addsX, a_addsZ, a_equation, a_leading, a_solution)) :
    wpX_measureIn post ((nI n), f_gatheredX, f_gatheredZ, f_gatheredPower, f_rules, f_solutions, (fun jj => nI (X jj)), (fun jj => nI (Z jj)), (fun jj => nI (S jj)), a_kept, a_ruleX, a_ruleZ, a_basis, a_cost, a_nextCost, a_addsX, a_addsZ, a_equation, a_leading, a_solution) p0 (nI x) (nI z) want := by
  subst e0
  unfold wpX_measureIn
  dsimp only
  refine px_firstClash rfl hn hb hB (fun p hp hc => ?_) (fun hc => ?_)
  · refine br_t (nI_pos' (by omega)) ⟨n + 1, ?_⟩
    have hbp := hB (10 * b + (5 + p)) (by omega)
    refine px_measureIn25 hn hb hB hSt hx hz hw hwant hp hc (fun X' Z' S' gx gz gp a1 a2 a3 => h1 X' Z' S' gx gz gp ⟨_, _, _, hbp.1, hbp.2.1, hSt.2.2.2.1 p (by omega), hc⟩ a1 a2 a3) n 0 (by omega) X Z S _ _ _ ?_ hB (pd_Same_rf _ _ _ _)
    exact pd_Sep_D pd_Sep_0 (fun i hi => ⟨fun a => a.elim, fun a => absurd a (Nat.not_lt_zero _)⟩)
  · exact br_f (by decide) (px_signIn rfl hn hb hB hSt hx hz hc h0)
end
end
section
theorem px_or (a b : Nat) : nI a ||| nI b = nI (a ||| b) := by
  apply Int32.toBitVec_inj.1
  apply BitVec.eq_of_getLsbD_eq
  intro i hi
  rw [Int32.toBitVec_or, BitVec.getLsbD_or]
  show ((BitVec.ofNat 32 a).getLsbD i || (BitVec.ofNat 32 b).getLsbD i) = (BitVec.ofNat 32 (a ||| b)).getLsbD i
  rw [BitVec.getLsbD_ofNat, BitVec.getLsbD_ofNat, BitVec.getLsbD_ofNat, Nat.testBit_or]
  simp only [hi, decide_true, Bool.true_and]
theorem pd_or_x {a e q : Nat} (ha : a < 2 ^ q) (he : e ≤ 1) : a ||| (e * 2 ^ q) = a ^^^ (e * 2 ^ q) := by
  apply Nat.eq_of_testBit_eq
  intro i
  rw [Nat.testBit_or, Nat.testBit_xor]
  by_cases c : i = q
  · subst c
    rw [Nat.testBit_lt_two_pow ha]
    cases (e * 2 ^ i).testBit i <;> rfl
  · have : (e * 2 ^ q).testBit i = false := pd_d_f.mp (by rw [pd_d_dpow _ _ _ he, if_neg (fun h => c h.symm)])
    rw [this]
    cases a.testBit i <;> rfl
theorem px_orw {a e q : Nat} (ha : a < 2 ^ q) (he : e ≤ 1) (hq : q < 31) : nI a ||| (nI e <<< (nI q &&& 31)) = nI (a ^^^ (e * 2 ^ q)) := by
  have h1 : 2 ^ q < 2 ^ 31 := Nat.pow_lt_pow_right (by decide) hq
  have : e * 2 ^ q < 2 ^ 32 := by
    have : e = 0 ∨ e = 1 := by omega
    rcases this with rfl | rfl <;> omega
  rw [px_shl (by omega) this, px_or, pd_or_x ha he]
section
variable {f_gatheredX f_gatheredZ f_gatheredPower f_rules f_solutions : Int32} {a_kept a_ruleX a_ruleZ a_basis a_cost a_nextCost a_addsX a_addsZ a_equation a_leading a_solution : Nat → Int32} {n : Nat} {X Z S : Nat → Nat}
theorem px_img52 {post : SX → Prop} {x z : Nat} {U : Nat → Int × Int} (hn : n ≤ 5) (hB : pd_Bn X Z S) (hFr : pd_Fr n X Z S 50 U) (hx : x < 2 ^ n) (hz : z < 2 ^ n)
    (h : ∀ gx gz p, gx < 32 → gz < 32 → pd_Fx 10 p (32 * x + gx) (32 * z + gz) U → post ((nI n), nI gx, nI gz, nI (pd_on (x &&& z) + p), f_rules, f_solutions, (fun jj => nI (X jj)), (fun jj => nI (Z jj)), (fun jj => nI (S jj)), a_kept, a_ruleX, a_ruleZ, a_basis, a_cost, a_nextCost, a_addsX, a_addsZ, a_equation, a_leading, a_solution)) :
    ∀ f q, q + f = n → ∀ gx gz p : Nat, gx < 32 → gz < 32 → pd_Fx 10 p (32 * x + gx) (32 * (z % 2 ^ q) + gz) U →
      wX_gatherImage_52 post (nI z) (f + 1) (nI q) (nI n) (nI gx) (nI gz) (nI (pd_on (x &&& z) + p)) f_rules f_solutions (fun jj => nI (X jj)) (fun jj => nI (Z jj)) (fun jj => nI (S jj)) a_kept a_ruleX a_ruleZ a_basis a_cost a_nextCost a_addsX a_addsZ a_equation a_leading a_solution := by
  have h32 := px_2n hn
  intro f
  induction f with
  | zero =>
    intro q hq gx gz p h1 h2 h3
    have e : q = n := by omega
    subst e
    rw [Nat.mod_eq_of_lt hz] at h3
    exact br_t (nI_le (by omega) (by omega)) (h gx gz p h1 h2 h3)
  | succ f ih =>
    intro q hq gx gz p h1 h2 h3
    refine br_f (nI_ge (by omega) (by omega)) (px_digit (by omega) (by omega) ?_)
    rcases pd_d_01 z q with d | d
    · rw [d]
      refine br_f (by decide) (nm_r (nI_1 q) (ih (q + 1) (by omega) gx gz p h1 h2 ?_))
      rw [pd_mod_f (by omega)]; exact h3
    · rw [d]
      have e55 : (55 : Int32) + nI q = nI (50 + (5 + q)) := by
        have := nI_add 55 q
        rw [show 55 + q = 50 + (5 + q) by omega] at this
        exact this
      have b := hB (50 + (5 + q)) (by omega)
      refine br_t rfl (px_gather e55 (by omega) hB h2 ?_)
      have m := pd_Im_z hFr (q := q) (by omega) (by omega) (by omega) h1 h2 d h3
      have nx := ih (q + 1) (by omega) _ _ _ (pd_xor32 h1 b.1) (pd_xor32 h2 b.2.1) m
      rw [← Nat.add_assoc (pd_on (x &&& z)) p] at nx
      exact nm_r (nI_1 q) nx
theorem px_img15 {post : SX → Prop} {x z : Nat} {U : Nat → Int × Int} (hn : n ≤ 5) (hB : pd_Bn X Z S) (hFr : pd_Fr n X Z S 50 U) (hx : x < 2 ^ n) (hz : z < 2 ^ n)
    (h : ∀ gx gz p, gx < 32 → gz < 32 → pd_Fx 10 p (32 * x + gx) (32 * z + gz) U → post ((nI n), nI gx, nI gz, nI (pd_on (x &&& z) + p), f_rules, f_solutions, (fun jj => nI (X jj)), (fun jj => nI (Z jj)), (fun jj => nI (S jj)), a_kept, a_ruleX, a_ruleZ, a_basis, a_cost, a_nextCost, a_addsX, a_addsZ, a_equation, a_leading, a_solution)) :
    ∀ f q, q + f = n → ∀ gx gz p : Nat, gx < 32 → gz < 32 → pd_Fx 10 p (32 * (x % 2 ^ q) + gx) gz U →
      wX_gatherImage_15 post (nI x) (nI z) (f + 1) (nI q) (nI n) (nI gx) (nI gz) (nI (pd_on (x &&& z) + p)) f_rules f_solutions (fun jj => nI (X jj)) (fun jj => nI (Z jj)) (fun jj => nI (S jj)) a_kept a_ruleX a_ruleZ a_basis a_cost a_nextCost a_addsX a_addsZ a_equation a_leading a_solution := by
  have h32 := px_2n hn
  intro f
  induction f with
  | zero =>
    intro q hq gx gz p h1 h2 h3
    have e : q = n := by omega
    subst e
    rw [Nat.mod_eq_of_lt hx] at h3
    refine br_t (nI_le (by omega) (by omega)) ⟨q + 1, px_img52 hn hB hFr hx hz h q 0 (by omega) gx gz p h1 h2 ?_⟩
    rw [Nat.pow_zero, Nat.mod_one, Nat.mul_zero, Nat.zero_add]
    exact h3
  | succ f ih =>
    intro q hq gx gz p h1 h2 h3
    refine br_f (nI_ge (by omega) (by omega)) (px_digit (by omega) (by omega) ?_)
    rcases pd_d_01 x q with d | d
    · rw [d]
      refine br_f (by decide) (nm_r (nI_1 q) (ih (q + 1) (by omega) gx gz p h1 h2 ?_))
      rw [pd_mod_f (by omega)]; exact h3
    · rw [d]
      have b := hB (50 + q) (by omega)
      refine br_t rfl (px_gather (nI_add 50 q) (by omega) hB h2 ?_)
      have m := pd_Im_x hFr (q := q) (by omega) (by omega) h1 h2 d h3
      have nx := ih (q + 1) (by omega) _ _ _ (pd_xor32 h1 b.1) (pd_xor32 h2 b.2.1) m
      rw [← Nat.add_assoc (pd_on (x &&& z)) p] at nx
      exact nm_r (nI_1 q) nx
theorem px_gatherImage {post : SX → Prop} {x z : Nat} {U : Nat → Int × Int} (hn : n ≤ 5) (hB : pd_Bn X Z S) (hFr : pd_Fr n X Z S 50 U) (hx : x < 2 ^ n) (hz : z < 2 ^ n)
    (h : ∀ gx gz p, gx < 32 → gz < 32 → pd_Fx 10 p (32 * x + gx) (32 * z + gz) U → post ((nI n), nI gx, nI gz, nI (pd_on (x &&& z) + p), f_rules, f_solutions, (fun jj => nI (X jj)), (fun jj => nI (Z jj)), (fun jj => nI (S jj)), a_kept, a_ruleX, a_ruleZ, a_basis, a_cost, a_nextCost, a_addsX, a_addsZ, a_equation, a_leading, a_solution)) : wpX_gatherImage post ((nI n), f_gatheredX, f_gatheredZ, f_gatheredPower, f_rules, f_solutions, (fun jj => nI (X jj)), (fun jj => nI (Z jj)), (fun jj => nI (S jj)), a_kept, a_ruleX, a_ruleZ, a_basis, a_cost, a_nextCost, a_addsX, a_addsZ, a_equation, a_leading, a_solution) (nI x) (nI z) := by
  have h32 := px_2n hn
  unfold wpX_gatherImage
  dsimp only
  refine px_onesA (by omega) (px_gatherNothing rfl ⟨n + 1, ?_⟩)
  refine px_img15 hn hB hFr hx hz h n 0 (by omega) 0 0 0 (by decide) (by decide) ?_
  rw [Nat.pow_zero, Nat.mod_one]
  exact pd_Fx_0 10 U
theorem px_carryBack7 {post : SX → Prop} {k : Nat} {U : Nat → Int × Int} (hn : n ≤ 5) (hB : pd_Bn X Z S) (hFr : pd_Fr n X Z S 50 U) (hk : k < 10) (hu : X k < 2 ^ n) (hv : Z k < 2 ^ n)
    (h : ∀ x z sg p gx gz gp, x < 2 ^ n → z < 2 ^ n → sg < 2 → pd_Fx 10 p (32 * x + X k) (32 * z + Z k) U → (pd_on (x &&& z) + p) % 4 = (pd_on (X k &&& Z k) + 2 * sg) % 4 →
      post ((nI n), gx, gz, gp, f_rules, f_solutions, (fun jj => nI ((pd_u X k x) jj)), (fun jj => nI ((pd_u Z k z) jj)), (fun jj => nI ((pd_u S k (S k ^^^ sg)) jj)), a_kept, a_ruleX, a_ruleZ, a_basis, a_cost, a_nextCost, a_addsX, a_addsZ, a_equation, a_leading, a_solution)) :
    ∀ f q, q + f = n → wX_carryBack_7 post (nI k) (nI n) f_gatheredX f_gatheredZ f_gatheredPower f_rules f_solutions (fun jj => nI (X jj)) (fun jj => nI (Z jj)) (fun jj => nI (S jj)) a_kept a_ruleX a_ruleZ a_basis a_cost a_nextCost a_addsX a_addsZ a_equation a_leading a_solution (f + 1) (nI (pd_xs (fun i => pd_cl (X k) (Z k) (X (50 + (5 + i))) (Z (50 + (5 + i))) * 2 ^ i) q)) (nI (pd_xs (fun i => pd_cl (X k) (Z k) (X (50 + i)) (Z (50 + i)) * 2 ^ i) q)) (nI q) := by
  have h32 := px_2n hn
  have hi : vp_in (nI k) 60 := vp_in_nI (by omega) (by decide)
  have lx : ∀ q, pd_xs (fun i => pd_cl (X k) (Z k) (X (50 + (5 + i))) (Z (50 + (5 + i))) * 2 ^ i) q < 2 ^ q := fun q => pd_xs_lt (fun i hi => pd_dpow_lt (pd_le1 (pd_cl_lt _ _ _ _)) hi)
  have lz : ∀ q, pd_xs (fun i => pd_cl (X k) (Z k) (X (50 + i)) (Z (50 + i)) * 2 ^ i) q < 2 ^ q := fun q => pd_xs_lt (fun i hi => pd_dpow_lt (pd_le1 (pd_cl_lt _ _ _ _)) hi)
  have bk := hB k (by omega)
  intro f
  induction f with
  | zero =>
    intro q hq
    have e : q = n := by omega
    subst e
    refine br_t (nI_le (by omega) (by omega)) ?_
    have dg : ∀ (g : Nat → Nat), (∀ i, g i ≤ 1) → (∀ i, q ≤ i → i < 5 → g i = 0) → ∀ i, i < 5 → pd_d (pd_xs (fun i => g i * 2 ^ i) q) i = g i := by
      intro g hg h0 i hi
      have A : ∀ m, pd_d (pd_xs (fun i => g i * 2 ^ i) m) i = if i < m then g i else 0 := by
        intro m
        induction m with
        | zero => rw [if_neg (Nat.not_lt_zero i)]; exact pd_d_0 i
        | succ m ih =>
          show pd_d (pd_xs (fun i => g i * 2 ^ i) m ^^^ g m * 2 ^ m) i = _
          have := hg i
          rw [pd_d_xor', ih, pd_d_dpow _ _ _ (hg m)]
          by_cases e : m = i
          · subst e; rw [if_neg (Nat.lt_irrefl m), if_pos rfl, if_pos (by omega)]; omega
          · rw [if_neg e]
            by_cases c : i < m
            · rw [if_pos c, if_pos (by omega)]; omega
            · rw [if_neg c, if_neg (by omega)]
      rw [A q]
      by_cases c : i < q
      · rw [if_pos c]
      · rw [if_neg c, h0 i (by omega) hi]
    refine px_gatherImage hn hB hFr (lx q) (lz q) (fun gx gz p a1 a2 a3 => ?_)
    have std := hFr.2.2.2
    have dx := dg (fun i => pd_cl (X k) (Z k) (X (50 + (5 + i))) (Z (50 + (5 + i)))) (fun i => pd_le1 (pd_cl_lt _ _ _ _)) (fun i h1 h2 => by
      obtain ⟨_, _, _, c, d, _⟩ := std i h1 h2
      rw [c, d, pd_cl_comm, pd_cl_z (by omega)]; exact pd_d_ge hu h1)
    have dz := dg (fun i => pd_cl (X k) (Z k) (X (50 + i)) (Z (50 + i))) (fun i => pd_le1 (pd_cl_lt _ _ _ _)) (fun i h1 h2 => by
      obtain ⟨c, d, _⟩ := std i h1 h2
      rw [c, d, pd_cl_comm, pd_cl_x (by omega)]; exact pd_d_ge hv h1)
    obtain ⟨p', hp'⟩ := pd_pre hFr (x := pd_xs (fun i => pd_cl (X k) (Z k) (X (50 + (5 + i))) (Z (50 + (5 + i))) * 2 ^ i) q) (z := pd_xs (fun i => pd_cl (X k) (Z k) (X (50 + i)) (Z (50 + i)) * 2 ^ i) q) (by have := lx q; omega) (by have := lz q; omega) bk.1 bk.2.1
      (fun i hi => (dx i hi).trans (pd_cl_comm _ _ _ _)) (fun i hi => (dz i hi).trans (pd_cl_comm _ _ _ _))
    obtain ⟨e1, e2, _⟩ := pd_Fr_uniq hFr (by have := lx q; omega) a1 a2 bk.1 bk.2.1 a3 hp'
    subst e1 e2
    refine px_gatheredSign bk.1 ⟨hi, ?_⟩
    rw [nI_clamp (n := k) (by omega)]
    refine px_setRow rfl rfl rfl (nx_xor _ _) (by omega) ?_
    refine h _ _ _ p _ _ _ (lx q) (lz q) (by omega) a3 ?_
    have ev := pd_Fx_even hFr.2.1 a3 (pd_lt1024 (by have := lx q; omega) bk.1)
    rw [pd_on_and_32 (by have := lx q; omega) bk.1 bk.2.1] at ev
    have := pd_on_le (X k &&& Z k)
    omega
  | succ f ih =>
    intro q hq
    refine br_f (nI_ge (by omega) (by omega)) (nm_r (nI_add 50 q) ?_)
    have e5 : nI (50 + q) + 5 = nI (50 + (5 + q)) := by
      have := nI_add (50 + q) 5
      rw [show 50 + q + 5 = 50 + (5 + q) by omega] at this
      exact this
    rw [e5, nI_clamp (n := k) (by omega), nI_clamp (n := 50 + (5 + q)) (by omega), nI_clamp (n := 50 + q) (by omega)]
    have hj : vp_in (nI (50 + q)) 60 := vp_in_nI (by omega) (by decide)
    have hl : vp_in (nI (50 + (5 + q))) 60 := vp_in_nI (by omega) (by decide)
    refine ⟨hi, hi, hl, hl, px_clash (by omega) (by omega) (nm_r (px_orw (lx q) (pd_le1 (pd_cl_lt _ _ _ _)) (by omega)) ⟨hi, hi, hj, hj, px_clash (by omega) (by omega) (nm_r (px_orw (lz q) (pd_le1 (pd_cl_lt _ _ _ _)) (by omega)) (nm_r (nI_1 q) ?_))⟩)⟩
    exact ih (q + 1) (by omega)
theorem px_carryBack {post : SX → Prop} {p0 : Int32} {k : Nat} {U : Nat → Int × Int} (e0 : p0 = nI k) (hn : n ≤ 5) (hB : pd_Bn X Z S) (hFr : pd_Fr n X Z S 50 U) (hk : k < 10) (hu : X k < 2 ^ n) (hv : Z k < 2 ^ n)
    (h : ∀ x z sg p gx gz gp, x < 2 ^ n → z < 2 ^ n → sg < 2 → pd_Fx 10 p (32 * x + X k) (32 * z + Z k) U → (pd_on (x &&& z) + p) % 4 = (pd_on (X k &&& Z k) + 2 * sg) % 4 →
      post ((nI n), gx, gz, gp, f_rules, f_solutions, (fun jj => nI ((pd_u X k x) jj)), (fun jj => nI ((pd_u Z k z) jj)), (fun jj => nI ((pd_u S k (S k ^^^ sg)) jj)), a_kept, a_ruleX, a_ruleZ, a_basis, a_cost, a_nextCost, a_addsX, a_addsZ, a_equation, a_leading, a_solution)) : wpX_carryBack post ((nI n), f_gatheredX, f_gatheredZ, f_gatheredPower, f_rules, f_solutions, (fun jj => nI (X jj)), (fun jj => nI (Z jj)), (fun jj => nI (S jj)), a_kept, a_ruleX, a_ruleZ, a_basis, a_cost, a_nextCost, a_addsX, a_addsZ, a_equation, a_leading, a_solution) p0 := by
  subst e0
  exact ⟨n + 1, px_carryBack7 hn hB hFr hk hu hv h n 0 (by omega)⟩
end
end
section
/-- rows i of D are taken back through the frame U -/
def pd_Bk (n : Nat) (D : Nat → Prop) (U : Nat → Int × Int) (X Z S X' Z' S' : Nat → Nat) : Prop :=
  ∀ i, i < 10 → (D i → ∃ p sg, sg < 2 ∧ X' i < 2 ^ n ∧ Z' i < 2 ^ n ∧ pd_Fx 10 p (32 * X' i + X i) (32 * Z' i + Z i) U ∧ (pd_on (X' i &&& Z' i) + p) % 4 = (pd_on (X i &&& Z i) + 2 * sg) % 4 ∧ S' i = S i ^^^ sg) ∧
    (¬ D i → X' i = X i ∧ Z' i = Z i ∧ S' i = S i)
theorem pd_Bk_D {n : Nat} {D D' : Nat → Prop} {U : Nat → Int × Int} {X Z S X' Z' S' : Nat → Nat} (h : pd_Bk n D U X Z S X' Z' S') (e : ∀ i, i < 10 → (D i ↔ D' i)) : pd_Bk n D' U X Z S X' Z' S' :=
  fun i hi => ⟨fun d => (h i hi).1 ((e i hi).mpr d), fun d => (h i hi).2 (fun c => d ((e i hi).mp c))⟩
theorem pd_Bk_s {n : Nat} {D : Nat → Prop} {U : Nat → Int × Int} {X Z S X' Z' S' : Nat → Nat} {k x z sg p : Nat} (h : pd_Bk n D U X Z S X' Z' S') (hk : k < 10) (hD : ¬ D k) (hx : x < 2 ^ n) (hz : z < 2 ^ n) (hs : sg < 2)
    (hF : pd_Fx 10 p (32 * x + X' k) (32 * z + Z' k) U) (he : (pd_on (x &&& z) + p) % 4 = (pd_on (X' k &&& Z' k) + 2 * sg) % 4) :
    pd_Bk n (fun i => D i ∨ i = k) U X Z S (pd_u X' k x) (pd_u Z' k z) (pd_u S' k (S' k ^^^ sg)) := by
  obtain ⟨a, b, c⟩ := (h k hk).2 hD
  rw [a, b] at hF he
  intro i hi
  by_cases e : i = k
  · subst e
    rw [pd_u_s, pd_u_s, pd_u_s]
    exact ⟨fun _ => ⟨p, sg, hs, hx, hz, hF, he, by rw [c]⟩, fun d => absurd (Or.inr rfl) d⟩
  · rw [pd_u_n e, pd_u_n e, pd_u_n e]
    refine ⟨fun d => (h i hi).1 ?_, fun d => (h i hi).2 (fun c => d (Or.inl c))⟩
    rcases d with d | d
    · exact d
    · exact absurd d e
theorem pd_u_lt {f : Nat → Nat} {k v j b : Nat} (hj : f j < b) (hv : v < b) : pd_u f k v j < b := by
  unfold pd_u; split
  · exact hv
  · exact hj
/-- rows of cells that are there have digits of those cells alone -/
theorem pd_St_small {n : Nat} {X Z S : Nat → Nat} {o : Nat} {V : Nat → Int × Int} (h : pd_St n X Z S o V) {i : Nat} (hi : i < 10) (hc : i % 5 < n) : X (o + i) < 2 ^ n ∧ Z (o + i) < 2 ^ n := by
  have b := h.1 i hi
  constructor
  · apply pd_lt_of_d (N := 5) b.1
    intro q h1 h2
    obtain ⟨_, _, c, d, _⟩ := h.2.2.2.2 q h1 h2
    have := h.2.1 (5 + q) i (by omega) hi
    rw [c, d, pd_cl_z (by omega), if_neg (by omega)] at this
    exact this
  · apply pd_lt_of_d (N := 5) b.2.1
    intro q h1 h2
    obtain ⟨c, d, _⟩ := h.2.2.2.2 q h1 h2
    have := h.2.1 q i (by omega) hi
    rw [c, d, pd_cl_x (by omega), if_neg (by omega)] at this
    exact this
section
variable {f_gatheredX f_gatheredZ f_gatheredPower f_rules f_solutions : Int32} {a_kept a_ruleX a_ruleZ a_basis a_cost a_nextCost a_addsX a_addsZ a_equation a_leading a_solution : Nat → Int32} {n : Nat} {X Z S : Nat → Nat}
theorem px_back2 {post : SX → Prop} {U V : Nat → Int × Int} {X0 Z0 S0 : Nat → Nat} (hn : n ≤ 5) (hSt : pd_St n X0 Z0 S0 0 V) (hFr : pd_Fr n X0 Z0 S0 50 U)
    (h : ∀ X1 Z1 S1 X' Z' S' gx gz gp, pd_Bk n (fun i => i % 5 < n) U X0 Z0 S0 X1 Z1 S1 → pd_Bn X1 Z1 S1 → pd_Same X0 Z0 S0 X1 Z1 S1 0 → pd_Sg X' Z' S' 50 5 → pd_Same X1 Z1 S1 X' Z' S' 50 → post ((nI n), gx, gz, gp, f_rules, f_solutions, (fun jj => nI (X' jj)), (fun jj => nI (Z' jj)), (fun jj => nI (S' jj)), a_kept, a_ruleX, a_ruleZ, a_basis, a_cost, a_nextCost, a_addsX, a_addsZ, a_equation, a_leading, a_solution)) :
    ∀ f q, q + f = n → ∀ (X Z S : Nat → Nat) (gx gz gp : Int32), pd_Bk n (fun i => i % 5 < q) U X0 Z0 S0 X Z S → pd_Bn X Z S → pd_Same X0 Z0 S0 X Z S 0 → wX_back_2 post (f + 1) (nI q) (nI n) gx gz gp f_rules f_solutions (fun jj => nI (X jj)) (fun jj => nI (Z jj)) (fun jj => nI (S jj)) a_kept a_ruleX a_ruleZ a_basis a_cost a_nextCost a_addsX a_addsZ a_equation a_leading a_solution := by
  have h32 := px_2n hn
  have fr : ∀ {X Z S : Nat → Nat}, pd_Same X0 Z0 S0 X Z S 0 → pd_Fr n X Z S 50 U := by
    intro X Z S hs
    have s := fun i => hs (50 + i) (Or.inr (by omega))
    exact pd_Fr_cg hFr (fun i _ => (s i).1) (fun i _ => (s i).2.1) (fun i _ => (s i).2.2) (fun _ _ => rfl)
  intro f
  induction f with
  | zero =>
    intro q hq X Z S gx gz gp hb hB hs
    have e : q = n := by omega
    subst e
    refine br_t (nI_le (by omega) (by omega)) ?_
    exact px_begin (b := 5) rfl (by decide) (fun X' Z' S' hg hm => h X Z S X' Z' S' gx gz gp hb hB hs hg hm)
  | succ f ih =>
    intro q hq X Z S gx gz gp hb hB hs
    refine br_f (nI_ge (by omega) (by omega)) ?_
    have row : ∀ i, i < 10 → i % 5 = q → X0 i < 2 ^ n ∧ Z0 i < 2 ^ n := by
      intro i hi hq2
      have := pd_St_small hSt hi (by omega)
      rw [Nat.zero_add] at this
      exact this
    have c1 := (hb q (by omega)).2 (by omega)
    have r1 := row q (by omega) (by omega)
    refine px_carryBack rfl hn hB (fr hs) (by omega) (by rw [c1.1]; exact r1.1) (by rw [c1.2.1]; exact r1.2) (fun x z sg p gx' gz' gp' hx hz hsg hF he => ?_)
    have b1 := pd_Bk_s hb (by omega) (by omega) hx hz hsg hF he
    have bq := hB q (by omega)
    have B1 : pd_Bn (pd_u X q x) (pd_u Z q z) (pd_u S q (S q ^^^ sg)) := pd_Bn_u hB (by omega) (by omega) (by rw [pd_bx _ _ (by omega) (by omega)]; omega)
    have s1 : pd_Same X0 Z0 S0 (pd_u X q x) (pd_u Z q z) (pd_u S q (S q ^^^ sg)) 0 := pd_Same_u hs (by omega) (by omega)
    have c2 := (b1 (5 + q) (by omega)).2 (fun d => by rcases d with d | d <;> omega)
    have r2 := row (5 + q) (by omega) (by omega)
    refine px_carryBack (nI_add 5 q) hn B1 (fr s1) (by omega) (by rw [c2.1]; exact r2.1) (by rw [c2.2.1]; exact r2.2) (fun x' z' sg' p' gx'' gz'' gp'' hx' hz' hsg' hF' he' => ?_)
    have b2 := pd_Bk_s b1 (by omega) (fun d => by rcases d with d | d <;> omega) hx' hz' hsg' hF' he'
    have bq2 := B1 (5 + q) (by omega)
    refine nm_r (nI_1 q) (ih (q + 1) (by omega) _ _ _ _ _ _ (pd_Bk_D b2 (fun i hi => by omega)) ?_ ?_)
    · exact pd_Bn_u B1 (by omega) (by omega) (by rw [pd_bx _ _ (by omega) (by omega)]; omega)
    · exact pd_Same_u s1 (by omega) (by omega)
theorem px_back {post : SX → Prop} {U V : Nat → Int × Int} (hn : n ≤ 5) (hB : pd_Bn X Z S) (hSt : pd_St n X Z S 0 V) (hFr : pd_Fr n X Z S 50 U)
    (h : ∀ X1 Z1 S1 X' Z' S' gx gz gp, pd_Bk n (fun i => i % 5 < n) U X Z S X1 Z1 S1 → pd_Bn X1 Z1 S1 → pd_Same X Z S X1 Z1 S1 0 → pd_Sg X' Z' S' 50 5 → pd_Same X1 Z1 S1 X' Z' S' 50 → post ((nI n), gx, gz, gp, f_rules, f_solutions, (fun jj => nI (X' jj)), (fun jj => nI (Z' jj)), (fun jj => nI (S' jj)), a_kept, a_ruleX, a_ruleZ, a_basis, a_cost, a_nextCost, a_addsX, a_addsZ, a_equation, a_leading, a_solution)) :
    wpX_back post ((nI n), f_gatheredX, f_gatheredZ, f_gatheredPower, f_rules, f_solutions, (fun jj => nI (X jj)), (fun jj => nI (Z jj)), (fun jj => nI (S jj)), a_kept, a_ruleX, a_ruleZ, a_basis, a_cost, a_nextCost, a_addsX, a_addsZ, a_equation, a_leading, a_solution) :=
  ⟨n + 1, px_back2 hn hSt hFr h n 0 (by omega) X Z S _ _ _ (fun i hi => ⟨fun d => absurd d (Nat.not_lt_zero _), fun _ => ⟨rfl, rfl, rfl⟩⟩) hB (pd_Same_rf _ _ _ _)⟩
end
/-- the state taken back -/
theorem pd_St_bk {n : Nat} {X Z S X' Z' S' : Nat → Nat} {U V : Nat → Int × Int} (hn : n ≤ 5) (hSt : pd_St n X Z S 0 V) (hFr : pd_Fr n X Z S 50 U) (hb : pd_Bk n (fun i => i % 5 < n) U X Z S X' Z' S') (hB : pd_Bd X' Z' S' 0) :
    pd_St n X' Z' S' 0 (pd_bk U V) := by
  have h32 := px_2n hn
  have B0 := hSt.1
  -- every row, new and old, goes with the frame
  have all : ∀ i, i < 10 → ∃ p sg, sg < 2 ∧ pd_Fx 10 p (32 * X' i + X i) (32 * Z' i + Z i) U ∧ (pd_on (X' i &&& Z' i) + p) % 4 = (pd_on (X i &&& Z i) + 2 * sg) % 4 ∧ S' i = S i ^^^ sg := by
    intro i hi
    by_cases c : i % 5 < n
    · obtain ⟨p, sg, a, _, _, d⟩ := (hb i hi).1 c
      exact ⟨p, sg, a, d⟩
    · obtain ⟨e1, e2, e3⟩ := (hb i hi).2 c
      rw [e1, e2, e3]
      refine ⟨0, 0, by decide, ?_, by omega, (Nat.xor_zero _).symm⟩
      obtain ⟨a1, a2, a3, a4, _⟩ := hSt.2.2.2.2 (i % 5) (by omega) (by omega)
      obtain ⟨b1, b2, b3, b4, b5, b6⟩ := hFr.2.2.2 (i % 5) (by omega) (by omega)
      rw [Nat.zero_add] at a1 a2 a3 a4
      have : i = i % 5 ∨ i = 5 + i % 5 := by omega
      rcases this with e | e
      · have f := hFr.2.2.1 i hi
        have s1 : pd_sx i = 2 ^ (i % 5) := by unfold pd_sx; rw [if_pos (by omega), ← e]
        have s2 : pd_sz i = 0 := by unfold pd_sz; rw [if_pos (by omega)]
        rw [← e] at a1 a2 b1 b2 b3
        rw [b1, b2, b3, s1, s2, ← e, Nat.and_zero, pd_on_0] at f
        rw [a1, a2]; exact f
      · have f := hFr.2.2.1 i hi
        have s1 : pd_sx i = 0 := by unfold pd_sx; rw [if_neg (by omega)]
        have s2 : pd_sz i = 2 ^ (i % 5) := by unfold pd_sz; rw [if_neg (by omega), show i - 5 = i % 5 by omega]
        rw [← e] at a3 a4 b4 b5 b6
        rw [b4, b5, b6, s1, s2, Nat.zero_and, pd_on_0] at f
        rw [a3, a4]; exact f
  have z0 : ∀ i, 0 + i = i := Nat.zero_add
  refine ⟨hB, ?_, pd_bk_nz hFr hSt.2.2.1, ?_, ?_⟩
  · intro i j hi hj
    obtain ⟨p, sg, _, f, _⟩ := all i hi
    obtain ⟨p', sg', _, f', _⟩ := all j hj
    have bi := B0 i hi; have bj := B0 j hj; have bi' := hB i hi; have bj' := hB j hj
    have e := hSt.2.1 i j hi hj
    rw [z0] at bi bj bi' bj'
    rw [z0, z0] at e
    rw [z0, z0]
    have c := pd_Fx_comm hFr.2.1 f f' (pd_lt1024 bi'.1 bi.1) (pd_lt1024 bj'.1 bj.1)
    rw [pd_cl_32 bi'.1 bi'.2.1 bi.1 bi.2.1 bj.1 bj.2.1, e] at c
    have := pd_cl_lt (X' i) (Z' i) (X' j) (Z' j)
    by_cases d : i + 5 = j ∨ j + 5 = i
    · rw [if_pos d] at c ⊢; omega
    · rw [if_neg d] at c ⊢; omega
  · intro q hq
    obtain ⟨p, sg, hs, f, g, e⟩ := all (5 + q) (by omega)
    have bi := B0 (5 + q) (by omega)
    have r := hSt.2.2.2.1 q hq
    unfold pd_Rw at r ⊢
    rw [z0] at bi r ⊢
    have m := pd_bk_Fx bi.1 bi.2.1 f r
    refine pd_Fx_cg m ?_
    rw [e, pd_bx _ _ (by omega) (by omega)]
    omega
  · intro q h1 h2
    have a := (hb q (by omega)).2 (by omega)
    have b := (hb (5 + q) (by omega)).2 (by omega)
    have c := hSt.2.2.2.2 q h1 h2
    rw [z0, z0] at c ⊢
    rw [a.1, a.2.1, b.1, b.2.1, b.2.2]
    exact c
end
section
theorem pd_xs_cg {f g : Nat → Nat} : ∀ {n : Nat}, (∀ k, k < n → f k = g k) → pd_xs f n = pd_xs g n := by
  intro n
  induction n with
  | zero => intro _; rfl
  | succ n ih =>
    intro h
    show pd_xs f n ^^^ f n = pd_xs g n ^^^ g n
    rw [ih (fun k hk => h k (by omega)), h n (by omega)]
theorem pd_sm_cg {f g : Nat → Nat} : ∀ {n : Nat}, (∀ k, k < n → f k = g k) → pd_sm f n = pd_sm g n := by
  intro n
  induction n with
  | zero => intro _; rfl
  | succ n ih =>
    intro h
    show pd_sm f n + f n = pd_sm g n + g n
    rw [ih (fun k hk => h k (by omega)), h n (by omega)]
theorem pd_xs_xor (f g : Nat → Nat) : ∀ n, pd_xs (fun j => f j ^^^ g j) n = pd_xs f n ^^^ pd_xs g n := by
  intro n
  induction n with
  | zero => show (0 : Nat) = 0 ^^^ 0; decide
  | succ n ih =>
    show pd_xs (fun j => f j ^^^ g j) n ^^^ (f n ^^^ g n) = (pd_xs f n ^^^ f n) ^^^ (pd_xs g n ^^^ g n)
    rw [ih, Nat.xor_assoc, Nat.xor_assoc]
    congr 1
    rw [← Nat.xor_assoc, ← Nat.xor_assoc, Nat.xor_comm (pd_xs g n)]
theorem pd_xs_0 {f : Nat → Nat} : ∀ {n : Nat}, (∀ k, k < n → f k = 0) → pd_xs f n = 0 := by
  intro n
  induction n with
  | zero => intro _; rfl
  | succ n ih =>
    intro h
    show pd_xs f n ^^^ f n = 0
    rw [ih (fun k hk => h k (by omega)), h n (by omega)]
    rfl
theorem pd_d_xs (f : Nat → Nat) (k : Nat) : ∀ n, pd_d (pd_xs f n) k = pd_sm (fun i => pd_d (f i) k) n % 2 := by
  intro n
  induction n with
  | zero => exact pd_d_0 k
  | succ n ih =>
    show pd_d (pd_xs f n ^^^ f n) k = (pd_sm (fun i => pd_d (f i) k) n + pd_d (f n) k) % 2
    rw [pd_d_xor', ih]
    omega
theorem pd_d_mul (e a k : Nat) (he : e ≤ 1) : pd_d (e * a) k = e * pd_d a k := by
  have : e = 0 ∨ e = 1 := by omega
  rcases this with rfl | rfl
  · rw [Nat.zero_mul, Nat.zero_mul, pd_d_0]
  · rw [Nat.one_mul, Nat.one_mul]
theorem pd_dx_mul (m m' j c : Nat) : pd_d (m ^^^ m') j * c = (pd_d m j * c) ^^^ (pd_d m' j * c) := by
  rw [pd_d_xor']
  rcases pd_d_01 m j with a | a <;> rcases pd_d_01 m' j with b | b <;> rw [a, b] <;> simp
/-- sums of codes -/
theorem pd_xs_m (c : Nat → Nat) (r m m' : Nat) : pd_xs (fun j => pd_d (m ^^^ m') j * c j) r = pd_xs (fun j => pd_d m j * c j) r ^^^ pd_xs (fun j => pd_d m' j * c j) r := by
  rw [← pd_xs_xor]
  exact pd_xs_cg (fun k _ => pd_dx_mul m m' k (c k))
theorem pd_xs_z (c : Nat → Nat) (r : Nat) : pd_xs (fun j => pd_d 0 j * c j) r = 0 := pd_xs_0 (fun k _ => by rw [pd_d_0, Nat.zero_mul])
theorem pd_d_mod {m r j : Nat} (h : j < r) : pd_d (m % 2 ^ r) j = pd_d m j := by
  unfold pd_d
  rw [Nat.testBit_mod_two_pow]
  simp only [h, decide_true, Bool.true_and]
theorem pd_xs_mod (c : Nat → Nat) (r m : Nat) : pd_xs (fun j => pd_d (m % 2 ^ r) j * c j) r = pd_xs (fun j => pd_d m j * c j) r :=
  pd_xs_cg (fun k hk => by rw [pd_d_mod hk])
/-- w is a sum of some of the first r codes -/
def pd_sp (c : Nat → Nat) (r w : Nat) : Prop := ∃ m, m < 2 ^ r ∧ w = pd_xs (fun j => pd_d m j * c j) r
theorem pd_sp_0 (c : Nat → Nat) (r : Nat) : pd_sp c r 0 := ⟨0, Nat.two_pow_pos r, (pd_xs_z c r).symm⟩
theorem pd_sp_x {c : Nat → Nat} {r a b : Nat} (ha : pd_sp c r a) (hb : pd_sp c r b) : pd_sp c r (a ^^^ b) := by
  obtain ⟨m, hm, rfl⟩ := ha
  obtain ⟨m', hm', rfl⟩ := hb
  exact ⟨m ^^^ m', pd_xor_lt hm hm', (pd_xs_m c r m m').symm⟩
theorem pd_sp_any (c : Nat → Nat) (r m : Nat) : pd_sp c r (pd_xs (fun j => pd_d m j * c j) r) := ⟨m % 2 ^ r, Nat.mod_lt _ (Nat.two_pow_pos r), (pd_xs_mod c r m).symm⟩
theorem pd_sp_succ (c : Nat → Nat) (r w : Nat) : pd_sp c (r + 1) w ↔ pd_sp c r w ∨ pd_sp c r (w ^^^ c r) := by
  constructor
  · intro ⟨m, hm, e⟩
    have e : w = pd_xs (fun j => pd_d m j * c j) r ^^^ (pd_d m r * c r) := e
    rcases pd_d_01 m r with d | d
    · left
      rw [d, Nat.zero_mul, Nat.xor_zero] at e
      rw [e]; exact pd_sp_any c r m
    · right
      rw [d, Nat.one_mul] at e
      rw [e, pd_xx]; exact pd_sp_any c r m
  · intro h
    have hp : 2 ^ (r + 1) = 2 ^ r + 2 ^ r := by rw [Nat.pow_succ]; omega
    rcases h with ⟨m, hm, e⟩ | ⟨m, hm, e⟩
    · refine ⟨m, by omega, ?_⟩
      show w = pd_xs (fun j => pd_d m j * c j) r ^^^ (pd_d m r * c r)
      rw [pd_d_lt hm, Nat.zero_mul, Nat.xor_zero]; exact e
    · refine ⟨m ^^^ 2 ^ r, pd_xor_lt (n := r + 1) (by omega) (by omega), ?_⟩
      show w = pd_xs (fun j => pd_d (m ^^^ 2 ^ r) j * c j) r ^^^ (pd_d (m ^^^ 2 ^ r) r * c r)
      have e1 : pd_xs (fun j => pd_d (m ^^^ 2 ^ r) j * c j) r = pd_xs (fun j => pd_d m j * c j) r := pd_xs_cg (fun k hk => by
        rw [pd_d_xor', pd_d_pow, if_neg (by omega)]
        have := pd_d_le m k
        rw [Nat.add_zero, Nat.mod_eq_of_lt (by omega)])
      have e2 : pd_d (m ^^^ 2 ^ r) r = 1 := by rw [pd_d_xor', pd_d_pow, if_pos rfl, pd_d_lt hm]
      rw [e1, e2, Nat.one_mul, ← e, pd_xx]
theorem pd_sp_gen {c : Nat → Nat} {r j : Nat} (hj : j < r) : pd_sp c r (c j) := by
  induction r with
  | zero => omega
  | succ r ih =>
    rw [pd_sp_succ]
    by_cases e : j = r
    · right; rw [e, Nat.xor_self]; exact pd_sp_0 c r
    · left; exact ih (by omega)
theorem pd_sp_lt {N : Nat} {c : Nat → Nat} {r w : Nat} (hc : ∀ j, j < r → c j < 2 ^ N) (h : pd_sp c r w) : w < 2 ^ N := by
  obtain ⟨m, _, rfl⟩ := h
  apply pd_xs_lt
  intro k hk
  have := hc k hk
  have p := Nat.two_pow_pos N
  rcases pd_d_01 m k with e | e <;> rw [e] <;> omega
theorem pd_sp_cg {c c' : Nat → Nat} {r w : Nat} (h : ∀ j, j < r → c j = c' j) : pd_sp c r w ↔ pd_sp c' r w := by
  constructor
  · intro ⟨m, hm, e⟩
    exact ⟨m, hm, e.trans (pd_xs_cg (fun k hk => by rw [h k hk]))⟩
  · intro ⟨m, hm, e⟩
    exact ⟨m, hm, e.trans (pd_xs_cg (fun k hk => by rw [h k hk]))⟩
/-- the smaller of a and a + e: a's digit at e's leading one decides -/
theorem pd_lt_top {a b l : Nat} (h1 : pd_d a l = 0) (h2 : pd_d b l = 1) (h : ∀ k, l < k → pd_d a k = pd_d b k) : a < b := by
  have e : a / 2 ^ (l + 1) = b / 2 ^ (l + 1) := by
    apply pd_d_ext
    intro k
    unfold pd_d
    rw [Nat.testBit_div_two_pow, Nat.testBit_div_two_pow]
    have := h (k + (l + 1)) (by omega)
    unfold pd_d at this
    exact this
  have ea : a / 2 ^ l = 2 * (a / 2 ^ (l + 1)) + pd_d a l := by
    rw [pd_d_def, Nat.pow_succ, ← Nat.div_div_eq_div_mul]; omega
  have eb : b / 2 ^ l = 2 * (b / 2 ^ (l + 1)) + pd_d b l := by
    rw [pd_d_def, Nat.pow_succ, ← Nat.div_div_eq_div_mul]; omega
  have : a / 2 ^ l < b / 2 ^ l := by omega
  apply Classical.byContradiction
  intro hn
  have := Nat.div_le_div_right (c := 2 ^ l) (Nat.le_of_not_lt hn)
  omega
theorem pd_xlt {a e l : Nat} (h1 : pd_d e l = 1) (h : ∀ k, l < k → pd_d e k = 0) : a ^^^ e < a ↔ pd_d a l = 1 := by
  have up : ∀ k, l < k → pd_d (a ^^^ e) k = pd_d a k := by
    intro k hk
    rw [pd_d_xor', h k hk]
    have := pd_d_le a k
    omega
  have at_l : pd_d (a ^^^ e) l = 1 - pd_d a l := by
    rw [pd_d_xor', h1]
    have := pd_d_le a l
    omega
  rcases pd_d_01 a l with d | d
  · rw [d] at at_l
    have := pd_lt_top d at_l (fun k hk => (up k hk).symm)
    omega
  · rw [d] at at_l
    have := pd_lt_top at_l d up
    omega
/-- each without the leading digits of those before it -/
def pd_Eb (e l : Nat → Nat) (r : Nat) : Prop := (∀ j, j < r → e j < 1024 ∧ pd_d (e j) (l j) = 1 ∧ ∀ k, l j < k → pd_d (e j) k = 0) ∧ (∀ i j, i < j → j < r → pd_d (e j) (l i) = 0)
def pd_rd (e : Nat → Nat) (w : Nat) : Nat → Nat
  | 0 => w
  | i + 1 => if pd_rd e w i ^^^ e i < pd_rd e w i then pd_rd e w i ^^^ e i else pd_rd e w i
theorem pd_rd_p {e l : Nat → Nat} {r w : Nat} (hE : pd_Eb e l r) (hw : w < 1024) : ∀ i, i ≤ r → pd_rd e w i < 1024 ∧ (∀ j, j < i → pd_d (pd_rd e w i) (l j) = 0) ∧ pd_sp e i (w ^^^ pd_rd e w i) := by
  intro i
  induction i with
  | zero =>
    intro _
    refine ⟨hw, fun j hj => absurd hj (Nat.not_lt_zero j), ?_⟩
    rw [show pd_rd e w 0 = w from rfl, Nat.xor_self]; exact pd_sp_0 e 0
  | succ i ih =>
    intro hi
    obtain ⟨a, b, c⟩ := ih (by omega)
    obtain ⟨e1, e2, e3⟩ := hE.1 i (by omega)
    have iff := pd_xlt (a := pd_rd e w i) e2 e3
    have def1 : pd_rd e w (i + 1) = if pd_rd e w i ^^^ e i < pd_rd e w i then pd_rd e w i ^^^ e i else pd_rd e w i := rfl
    by_cases d : pd_d (pd_rd e w i) (l i) = 1
    · rw [def1, if_pos (iff.mpr d)]
      refine ⟨pd_xor1024 a e1, fun j hj => ?_, ?_⟩
      · rw [pd_d_xor']
        by_cases ej : j = i
        · rw [ej, d, e2]
        · rw [b j (by omega), hE.2 j i (by omega) (by omega)]
      · rw [pd_sp_succ]
        right
        rw [← Nat.xor_assoc, pd_xx]; exact c
    · rw [def1, if_neg (fun h => d (iff.mp h))]
      refine ⟨a, fun j hj => ?_, ?_⟩
      · by_cases ej : j = i
        · rw [ej]; have := pd_d_01 (pd_rd e w i) (l i); omega
        · exact b j (by omega)
      · rw [pd_sp_succ]; left; exact c
theorem pd_Eb_0 {e l : Nat → Nat} {r w : Nat} (hE : pd_Eb e l r) (hs : pd_sp e r w) (hz : ∀ j, j < r → pd_d w (l j) = 0) : w = 0 := by
  obtain ⟨m, hm, rfl⟩ := hs
  have key : ∀ t, ∀ j, j < t → j < r → pd_d m j = 0 := by
    intro t
    induction t with
    | zero => intro j hj; omega
    | succ t ih =>
      intro j hj hr
      have z := hz j hr
      rw [pd_d_xs, pd_sm_1 (j := j) hr] at z
      · have e := (hE.1 j hr).2.1
        rw [pd_d_mul _ _ _ (pd_d_le m j), e] at z
        have := pd_d_le m j
        omega
      · intro k hk hne
        rw [pd_d_mul _ _ _ (pd_d_le m k)]
        by_cases c : k < j
        · rw [ih k (by omega) hk, Nat.zero_mul]
        · rw [hE.2 j k (by omega) hk, Nat.mul_zero]
  exact pd_xs_0 (fun k hk => by rw [key (k + 1) k (by omega) hk, Nat.zero_mul])
theorem pd_rd_0 {e l : Nat → Nat} {r w : Nat} (hE : pd_Eb e l r) (hw : w < 1024) : pd_rd e w r = 0 ↔ pd_sp e r w := by
  obtain ⟨a, b, c⟩ := pd_rd_p hE hw r (Nat.le_refl r)
  constructor
  · intro h
    rw [h, Nat.xor_zero] at c; exact c
  · intro h
    apply pd_Eb_0 hE _ b
    have := pd_sp_x h c
    rw [← Nat.xor_assoc, Nat.xor_self, Nat.zero_xor] at this
    exact this
/-- a leading digit -/
theorem pd_top_ex {m : Nat} (hm : m < 1024) (h : m ≠ 0) : ∃ t, t < 10 ∧ pd_d m t = 1 ∧ ∀ k, t < k → pd_d m k = 0 := by
  have A : ∀ q, q ≤ 10 → (∀ k, q ≤ k → pd_d m k = 0) → ∃ t, t < 10 ∧ pd_d m t = 1 ∧ ∀ k, t < k → pd_d m k = 0 := by
    intro q
    induction q with
    | zero =>
      intro _ hk
      exact absurd (pd_d_ext (fun k => by rw [hk k (Nat.zero_le k), pd_d_0])) h
    | succ q ih =>
      intro hq hk
      rcases pd_d_01 m q with d | d
      · refine ih (by omega) (fun k h2 => ?_)
        by_cases e : k = q
        · rw [e]; exact d
        · exact hk k (by omega)
      · exact ⟨q, by omega, d, fun k h2 => hk k h2⟩
  exact A 10 (by decide) (fun k hk => pd_d_ge (n := 10) hm hk)
/-- one more -/
theorem pd_Eb_s {e l : Nat → Nat} {r w : Nat} (hE : pd_Eb e l r) (hw : w < 1024) (hne : pd_rd e w r ≠ 0) : ∃ l', pd_Eb (pd_u e r (pd_rd e w r)) l' (r + 1) := by
  obtain ⟨a, b, c⟩ := pd_rd_p hE hw r (Nat.le_refl r)
  obtain ⟨t, _, t1, t2⟩ := pd_top_ex a hne
  refine ⟨pd_u l r t, ?_, ?_⟩
  · intro j hj
    by_cases ej : j = r
    · rw [ej, pd_u_s, pd_u_s]; exact ⟨a, t1, t2⟩
    · rw [pd_u_n ej, pd_u_n ej]; exact hE.1 j (by omega)
  · intro i j hij hj
    rw [pd_u_n (show i ≠ r by omega)]
    by_cases ej : j = r
    · rw [ej, pd_u_s]; exact b i (by omega)
    · rw [pd_u_n ej]; exact hE.2 i j hij (by omega)
end
section
theorem pd_xs_32 {x z e : Nat → Nat} : ∀ {r : Nat}, (∀ j, j < r → e j ≤ 1) → (∀ j, j < r → z j < 32) → pd_xs (fun j => e j * z j) r < 32 ∧ pd_xs (fun j => e j * (32 * x j + z j)) r = 32 * pd_xs (fun j => e j * x j) r + pd_xs (fun j => e j * z j) r := by
  intro r
  induction r with
  | zero => intro _ _; exact ⟨show 0 < 32 by decide, show 0 = 32 * 0 + 0 by decide⟩
  | succ r ih =>
    intro he hz
    obtain ⟨a, b⟩ := ih (fun j hj => he j (by omega)) (fun j hj => hz j (by omega))
    have h1 := he r (by omega)
    have h2 := hz r (by omega)
    have lz : e r * z r < 32 := by
      have : e r = 0 ∨ e r = 1 := by omega
      rcases this with k | k <;> rw [k] <;> omega
    refine ⟨pd_xor32 a lz, ?_⟩
    show pd_xs (fun j => e j * (32 * x j + z j)) r ^^^ (e r * (32 * x r + z r)) = 32 * (pd_xs (fun j => e j * x j) r ^^^ (e r * x r)) + (pd_xs (fun j => e j * z j) r ^^^ (e r * z r))
    have e3 : e r * (32 * x r + z r) = 32 * (e r * x r) + e r * z r := by
      have : e r = 0 ∨ e r = 1 := by omega
      rcases this with k | k <;> rw [k] <;> omega
    rw [b, e3, pd_xor_32 a lz]
theorem pd_xs_lt32 {x e : Nat → Nat} {r : Nat} (he : ∀ j, j < r → e j ≤ 1) (hx : ∀ j, j < r → x j < 32) : pd_xs (fun j => e j * x j) r < 32 := by
  apply pd_xs_lt (N := 5)
  intro k hk
  have h1 := he k hk
  have h2 := hx k hk
  have : e k = 0 ∨ e k = 1 := by omega
  rcases this with h | h <;> rw [h] <;> omega
/-- six products that commute and are independent: there are none -/
theorem pd_iso {qx qz D E : Nat → Nat} (hq : ∀ j, j < 6 → qx j < 32 ∧ qz j < 32) (hD : ∀ j, j < 6 → D j < 32 ∧ E j < 32) (hc : ∀ i j, i < 6 → j < 6 → pd_cl (qx i) (qz i) (qx j) (qz j) = 0)
    (hd : ∀ i j, i < 6 → j < 6 → pd_cl (qx i) (qz i) (D j) (E j) = if i = j then 1 else 0) : False := by
  have l1 : ∀ c, pd_xs (fun j => pd_d c j * qx j) 6 < 32 := fun c => pd_xs_lt32 (e := fun j => pd_d c j) (fun j _ => pd_d_le c j) (fun j hj => (hq j hj).1)
  have l2 : ∀ c, pd_xs (fun j => pd_d c j * qz j) 6 < 32 := fun c => pd_xs_lt32 (e := fun j => pd_d c j) (fun j _ => pd_d_le c j) (fun j hj => (hq j hj).2)
  have l3 : ∀ c, pd_xs (fun j => pd_d c (6 + j) * D j) 6 < 32 := fun c => pd_xs_lt32 (e := fun j => pd_d c (6 + j)) (fun j _ => pd_d_le c (6 + j)) (fun j hj => (hD j hj).1)
  have l4 : ∀ c, pd_xs (fun j => pd_d c (6 + j) * E j) 6 < 32 := fun c => pd_xs_lt32 (e := fun j => pd_d c (6 + j)) (fun j _ => pd_d_le c (6 + j)) (fun j hj => (hD j hj).2)
  have clQ : ∀ c i, i < 6 → pd_cl (qx i) (qz i) (pd_xs (fun j => pd_d c j * qx j) 6) (pd_xs (fun j => pd_d c j * qz j) 6) = 0 := by
    intro c i hi
    rw [pd_cl_xs, pd_sm_0 (fun k hk => by rw [pd_cl_d _ _ _ _ _ (pd_d_le c k), hc i k hi hk, Nat.mul_zero])]
  have clD : ∀ c i, i < 6 → pd_cl (qx i) (qz i) (pd_xs (fun j => pd_d c (6 + j) * D j) 6) (pd_xs (fun j => pd_d c (6 + j) * E j) 6) = pd_d c (6 + i) := by
    intro c i hi
    rw [pd_cl_xs, pd_sm_1 (j := i) hi]
    · rw [pd_cl_d _ _ _ _ _ (pd_d_le c (6 + i)), hd i i hi hi, if_pos rfl]
      have := pd_d_le c (6 + i)
      omega
    · intro k hk hne
      rw [pd_cl_d _ _ _ _ _ (pd_d_le c (6 + k)), hd i k hi hk, if_neg (fun e => hne e.symm), Nat.mul_zero]
  have clA : ∀ c i, i < 6 → pd_cl (D i) (E i) (pd_xs (fun j => pd_d c j * qx j) 6) (pd_xs (fun j => pd_d c j * qz j) 6) = pd_d c i := by
    intro c i hi
    rw [pd_cl_xs, pd_sm_1 (j := i) hi]
    · rw [pd_cl_d _ _ _ _ _ (pd_d_le c i), pd_cl_comm, hd i i hi hi, if_pos rfl]
      have := pd_d_le c i
      omega
    · intro k hk hne
      rw [pd_cl_d _ _ _ _ _ (pd_d_le c k), pd_cl_comm, hd k i hk hi, if_neg hne, Nat.mul_zero]
  refine pd_php2 (m := 4096) (n := 1024) (by decide) (fun c => 32 * (pd_xs (fun j => pd_d c j * qx j) 6 ^^^ pd_xs (fun j => pd_d c (6 + j) * D j) 6) + (pd_xs (fun j => pd_d c j * qz j) 6 ^^^ pd_xs (fun j => pd_d c (6 + j) * E j) 6)) ?_ ?_
  · intro c _
    exact pd_lt1024 (pd_xor32 (l1 c) (l3 c)) (pd_xor32 (l2 c) (l4 c))
  · intro c c' hc1 hc2 e
    have a1 := pd_xor32 (l1 c) (l3 c); have a2 := pd_xor32 (l2 c) (l4 c)
    have a3 := pd_xor32 (l1 c') (l3 c'); have a4 := pd_xor32 (l2 c') (l4 c')
    have ex : pd_xs (fun j => pd_d c j * qx j) 6 ^^^ pd_xs (fun j => pd_d c (6 + j) * D j) 6 = pd_xs (fun j => pd_d c' j * qx j) 6 ^^^ pd_xs (fun j => pd_d c' (6 + j) * D j) 6 := by omega
    have ez : pd_xs (fun j => pd_d c j * qz j) 6 ^^^ pd_xs (fun j => pd_d c (6 + j) * E j) 6 = pd_xs (fun j => pd_d c' j * qz j) 6 ^^^ pd_xs (fun j => pd_d c' (6 + j) * E j) 6 := by omega
    have hi6 : ∀ i, i < 6 → pd_d c (6 + i) = pd_d c' (6 + i) := by
      intro i hi
      have k1 := pd_cl_xor_r (qx i) (qz i) (pd_xs (fun j => pd_d c j * qx j) 6) (pd_xs (fun j => pd_d c j * qz j) 6) (pd_xs (fun j => pd_d c (6 + j) * D j) 6) (pd_xs (fun j => pd_d c (6 + j) * E j) 6)
      have k2 := pd_cl_xor_r (qx i) (qz i) (pd_xs (fun j => pd_d c' j * qx j) 6) (pd_xs (fun j => pd_d c' j * qz j) 6) (pd_xs (fun j => pd_d c' (6 + j) * D j) 6) (pd_xs (fun j => pd_d c' (6 + j) * E j) 6)
      rw [clQ c i hi, clD c i hi, ex, ez, k2, clQ c' i hi, clD c' i hi] at k1
      have := pd_d_le c (6 + i); have := pd_d_le c' (6 + i)
      omega
    have eD : pd_xs (fun j => pd_d c (6 + j) * D j) 6 = pd_xs (fun j => pd_d c' (6 + j) * D j) 6 := pd_xs_cg (fun k hk => by rw [hi6 k hk])
    have eE : pd_xs (fun j => pd_d c (6 + j) * E j) 6 = pd_xs (fun j => pd_d c' (6 + j) * E j) 6 := pd_xs_cg (fun k hk => by rw [hi6 k hk])
    have eX : pd_xs (fun j => pd_d c j * qx j) 6 = pd_xs (fun j => pd_d c' j * qx j) 6 := by
      rw [← pd_xx (pd_xs (fun j => pd_d c j * qx j) 6) (pd_xs (fun j => pd_d c (6 + j) * D j) 6), ex, eD, pd_xx]
    have eZ : pd_xs (fun j => pd_d c j * qz j) 6 = pd_xs (fun j => pd_d c' j * qz j) 6 := by
      rw [← pd_xx (pd_xs (fun j => pd_d c j * qz j) 6) (pd_xs (fun j => pd_d c (6 + j) * E j) 6), ez, eE, pd_xx]
    apply pd_d_ext_lt (n := 12) hc1 hc2
    intro k hk
    by_cases h6 : k < 6
    · rw [← clA c k h6, ← clA c' k h6, eX, eZ]
    · have := hi6 (k - 6) (by omega)
      rw [show 6 + (k - 6) = k by omega] at this
      exact this
theorem pd_and_low {n a b : Nat} (ha : a < 2 ^ n) : a &&& (b % 2 ^ n) = a &&& b := by
  apply pd_d_ext
  intro k
  rw [pd_d_and, pd_d_and]
  by_cases c : k < n
  · rw [pd_d_mod c]
  · rw [pd_d_ge ha (by omega), Nat.zero_mul, Nat.zero_mul]
/-- what isn't made of the rules clashes with something that they don't clash with -/
theorem pd_newdual {n r : Nat} {qx qz : Nat → Nat} (hn : n ≤ 5) (hq : ∀ j, j < r → qx j < 2 ^ n ∧ qz j < 2 ^ n) {x z : Nat} (hx : x < 2 ^ n) (hz : z < 2 ^ n) (hno : ¬ pd_sp (fun j => 32 * qx j + qz j) r (32 * x + z)) :
    ∃ u v, u < 2 ^ n ∧ v < 2 ^ n ∧ (∀ j, j < r → pd_cl (qx j) (qz j) u v = 0) ∧ pd_cl x z u v = 1 := by
  have h32 : 2 ^ n ≤ 32 := show 2 ^ n ≤ 2 ^ 5 from Nat.pow_le_pow_right (by decide) hn
  obtain ⟨t, ht, h1, h2⟩ := pd_dual 10 (by decide) (fun w => pd_sp (fun j => 32 * qx j + qz j) r w) (pd_sp_0 _ _) (fun a b ha hb => pd_sp_x ha hb) (32 * x + z) (pd_lt1024 (by omega) (by omega)) hno
  obtain ⟨a, b, ha, hb, rfl⟩ := pd_split32 ht
  have cv : ∀ p q, p < 2 ^ n → q < 2 ^ n → pd_on ((32 * a + b) &&& (32 * p + q)) % 2 = pd_cl p q (b % 2 ^ n) (a % 2 ^ n) := by
    intro p q hp hq
    rw [pd_on_and_32 ha hb (by omega)]
    unfold pd_cl
    rw [pd_and_low hp, pd_and_low hq, pd_on_comm a p, pd_on_comm b q]
  refine ⟨b % 2 ^ n, a % 2 ^ n, Nat.mod_lt _ (Nat.two_pow_pos n), Nat.mod_lt _ (Nat.two_pow_pos n), ?_, ?_⟩
  · intro j hj
    have := hq j hj
    rw [← cv _ _ this.1 this.2]
    exact h1 _ (pd_lt1024 (by omega) (by omega)) (pd_sp_gen (c := fun j => 32 * qx j + qz j) hj)
  · rw [← cv x z hx hz]; exact h2
end
section
/-- an int out of a whole number -/
def pd_I (x : Int) : Int32 := Int32.ofInt x
theorem pd_I_add (a b : Int) : pd_I a + pd_I b = pd_I (a + b) := (Int32.ofInt_add a b).symm
theorem pd_I_sub (a b : Int) : pd_I a - pd_I b = pd_I (a - b) := (Int32.ofInt_sub a b).symm
theorem pd_I_mul (a b : Int) : pd_I a * pd_I b = pd_I (a * b) := (Int32.ofInt_mul a b).symm
theorem pd_I_neg (a : Int) : -pd_I a = pd_I (-a) := (Int32.ofInt_neg a).symm
theorem pd_I_nat (n : Nat) : pd_I (n : Int) = nI n := Int32.ofInt_eq_ofNat
theorem pd_I_int {a : Int} (h1 : -2 ^ 31 ≤ a) (h2 : a < 2 ^ 31) : (pd_I a).toInt = a := Int32.toInt_ofInt_of_le h1 h2
theorem pd_I_inj {a b : Int} (h1 : -2 ^ 31 ≤ a) (h2 : a < 2 ^ 31) (h3 : -2 ^ 31 ≤ b) (h4 : b < 2 ^ 31) : pd_I a = pd_I b ↔ a = b :=
  ⟨fun e => by rw [← pd_I_int h1 h2, e, pd_I_int h3 h4], fun e => by rw [e]⟩
theorem pd_I_0 {a : Int} (h1 : -2 ^ 31 ≤ a) (h2 : a < 2 ^ 31) : pd_I a = 0 ↔ a = 0 := pd_I_inj (b := 0) h1 h2 (by decide) (by decide)
theorem pd_I_le {a b : Int} (h1 : -2 ^ 31 ≤ a) (h2 : a < 2 ^ 31) (h3 : -2 ^ 31 ≤ b) (h4 : b < 2 ^ 31) : pd_I a ≤ pd_I b ↔ a ≤ b := by
  rw [Int32.le_iff_toInt_le, pd_I_int h1 h2, pd_I_int h3 h4]
theorem pd_I_lt {a b : Int} (h1 : -2 ^ 31 ≤ a) (h2 : a < 2 ^ 31) (h3 : -2 ^ 31 ≤ b) (h4 : b < 2 ^ 31) : pd_I a < pd_I b ↔ a < b := by
  rw [Int32.lt_iff_toInt_lt, pd_I_int h1 h2, pd_I_int h3 h4]
theorem pd_I_div {a b : Int} (h1 : -2 ^ 31 ≤ a) (h2 : a < 2 ^ 31) (h3 : -2 ^ 31 ≤ b) (h4 : b < 2 ^ 31) : pd_I a / pd_I b = pd_I (a.tdiv b) := by
  refine (Int32.ofInt_tdiv ?_ ?_ ?_ ?_).symm
  · show (-2147483648 : Int) ≤ a; omega
  · show a ≤ (2147483647 : Int); omega
  · show (-2147483648 : Int) ≤ b; omega
  · show b ≤ (2147483647 : Int); omega
/-- a store into a table of amplitudes -/
def pd_v (A : Nat → Int × Int) (k : Nat) (w : Int × Int) : Nat → Int × Int := fun j => if j = k then w else A j
theorem pd_v_s (A : Nat → Int × Int) (k : Nat) (w : Int × Int) : pd_v A k w k = w := if_pos rfl
theorem pd_v_n {A : Nat → Int × Int} {k j : Nat} {w : Int × Int} (h : j ≠ k) : pd_v A k w j = A j := if_neg h
theorem py_upd1 (A : Nat → Int × Int) (k : Nat) (w : Int × Int) : upd (fun jj => pd_I (A jj).1) k (pd_I w.1) = fun jj => pd_I (pd_v A k w jj).1 := by
  funext j
  unfold upd pd_v
  split <;> rfl
theorem py_upd2 (A : Nat → Int × Int) (k : Nat) (w : Int × Int) : upd (fun jj => pd_I (A jj).2) k (pd_I w.2) = fun jj => pd_I (pd_v A k w jj).2 := by
  funext j
  unfold upd pd_v
  split <;> rfl
section
variable {f_rules f_sumRe f_sumIm : Int32} {a_isSaved a_ruleX a_ruleZ : Nat → Int32} {n : Nat} {A N B : Nat → Int × Int}
theorem py_isMask_t {post : Int32 → Prop} {m : Nat} (hn : n ≤ 5) (hm : m < 2 ^ n) (h : post 1) : wpY_isMask post ((nI n), (nI (2 ^ n)), f_rules, f_sumRe, f_sumIm, (fun jj => pd_I (A jj).1), (fun jj => pd_I (A jj).2), (fun jj => pd_I (N jj).1), (fun jj => pd_I (N jj).2), (fun jj => pd_I (B jj).1), (fun jj => pd_I (B jj).2), a_isSaved, a_ruleX, a_ruleZ) (nI m) := by
  have h32 := px_2n hn
  exact br_f (nI_pos (by omega)) (br_f (nI_ge hm (by omega)) h)
theorem py_isMask_f {post : Int32 → Prop} {p0 : Int32} (hn : n ≤ 5) (hm : ¬ ∃ m, m < 2 ^ n ∧ p0 = nI m) (h : post 0) : wpY_isMask post ((nI n), (nI (2 ^ n)), f_rules, f_sumRe, f_sumIm, (fun jj => pd_I (A jj).1), (fun jj => pd_I (A jj).2), (fun jj => pd_I (N jj).1), (fun jj => pd_I (N jj).2), (fun jj => pd_I (B jj).1), (fun jj => pd_I (B jj).2), a_isSaved, a_ruleX, a_ruleZ) p0 := by
  have h32 := px_2n hn
  by_cases h0 : p0 < 0
  · exact br_t h0 h
  · obtain ⟨j, hj, rfl⟩ := nI_of h0
    refine br_f h0 (br_t ?_ h)
    apply nI_le _ hj
    apply Classical.byContradiction
    intro hne
    exact hm ⟨j, by omega, rfl⟩
theorem py_isCell_t {post : Int32 → Prop} {q : Nat} (hn : n ≤ 5) (hq : q < n) (h : post 1) : wpY_isCell post ((nI n), (nI (2 ^ n)), f_rules, f_sumRe, f_sumIm, (fun jj => pd_I (A jj).1), (fun jj => pd_I (A jj).2), (fun jj => pd_I (N jj).1), (fun jj => pd_I (N jj).2), (fun jj => pd_I (B jj).1), (fun jj => pd_I (B jj).2), a_isSaved, a_ruleX, a_ruleZ) (nI q) :=
  br_f (nI_pos (by omega)) (br_f (nI_ge hq (by omega)) h)
theorem py_isCell_f {post : Int32 → Prop} {p0 : Int32} (hn : n ≤ 5) (hm : ¬ ∃ q, q < n ∧ p0 = nI q) (h : post 0) : wpY_isCell post ((nI n), (nI (2 ^ n)), f_rules, f_sumRe, f_sumIm, (fun jj => pd_I (A jj).1), (fun jj => pd_I (A jj).2), (fun jj => pd_I (N jj).1), (fun jj => pd_I (N jj).2), (fun jj => pd_I (B jj).1), (fun jj => pd_I (B jj).2), a_isSaved, a_ruleX, a_ruleZ) p0 := by
  by_cases h0 : p0 < 0
  · exact br_t h0 h
  · obtain ⟨j, hj, rfl⟩ := nI_of h0
    refine br_f h0 (br_t ?_ h)
    apply nI_le _ hj
    apply Classical.byContradiction
    intro hne
    exact hm ⟨j, by omega, rfl⟩
theorem py_ones4 {post : Int32 → Prop} {m : Nat} (hm : m < 32) (h : post (nI (pd_on m))) : ∀ f q, q + f = 5 → wY_ones_4 post (nI m) (nI n) (nI (2 ^ n)) f_rules f_sumRe f_sumIm (fun jj => pd_I (A jj).1) (fun jj => pd_I (A jj).2) (fun jj => pd_I (N jj).1) (fun jj => pd_I (N jj).2) (fun jj => pd_I (B jj).1) (fun jj => pd_I (B jj).2) a_isSaved a_ruleX a_ruleZ (f + 1) (nI (pd_sm (pd_d m) q)) (nI q) := by
  intro f
  induction f with
  | zero =>
    intro q hq
    have e : q = 5 := by omega
    subst e
    have e : pd_sm (pd_d m) 5 = pd_on m := by
      rw [pd_on5 hm]
      simp only [pd_sm, Nat.zero_add]
    rw [e]
    exact br_t (show (5 : Int32) ≤ nI 5 by decide) h
  | succ f ih =>
    intro q hq
    refine br_f (show ¬ (5 : Int32) ≤ nI q from nI_ge (b := 5) (by omega) (by decide)) ?_
    refine nm_r (e' := nI (pd_sm (pd_d m) (q + 1))) ?_ (nm_r (nI_1 q) (ih (q + 1) (by omega)))
    rw [px_dig (by omega) (by omega), nI_add]
    rfl
theorem py_ones {post : Int32 → Prop} {m : Nat} (hm : m < 32) (h : post (nI (pd_on m))) : wpY_ones post ((nI n), (nI (2 ^ n)), f_rules, f_sumRe, f_sumIm, (fun jj => pd_I (A jj).1), (fun jj => pd_I (A jj).2), (fun jj => pd_I (N jj).1), (fun jj => pd_I (N jj).2), (fun jj => pd_I (B jj).1), (fun jj => pd_I (B jj).2), a_isSaved, a_ruleX, a_ruleZ) (nI m) := ⟨6, py_ones4 hm h 5 0 rfl⟩
theorem py_onesA {post : Int32 → Prop} {a b : Nat} (hb : b < 32) (h : post (nI (pd_on (a &&& b)))) : wpY_ones post ((nI n), (nI (2 ^ n)), f_rules, f_sumRe, f_sumIm, (fun jj => pd_I (A jj).1), (fun jj => pd_I (A jj).2), (fun jj => pd_I (N jj).1), (fun jj => pd_I (N jj).2), (fun jj => pd_I (B jj).1), (fun jj => pd_I (B jj).2), a_isSaved, a_ruleX, a_ruleZ) (nI a &&& nI b) := by
  rw [nx_and]
  exact py_ones (pd_and32' hb) h
theorem py_commute {post : Int32 → Prop} {x z u v : Nat} (hu : u < 32) (hv : v < 32) (h1 : pd_cl x z u v = 0 → post 1) (h0 : pd_cl x z u v = 1 → post 0) : wpY_commute post ((nI n), (nI (2 ^ n)), f_rules, f_sumRe, f_sumIm, (fun jj => pd_I (A jj).1), (fun jj => pd_I (A jj).2), (fun jj => pd_I (N jj).1), (fun jj => pd_I (N jj).2), (fun jj => pd_I (B jj).1), (fun jj => pd_I (B jj).2), a_isSaved, a_ruleX, a_ruleZ) (nI x) (nI z) (nI u) (nI v) := by
  refine py_onesA hv (py_onesA hu ⟨by decide, ?_⟩)
  have k1 := pd_on_le (x &&& v); have k2 := pd_on_le (z &&& u)
  have e := pk_rem (a := pd_on (x &&& v) + pd_on (z &&& u)) (d := 2) (by omega) (by decide) (by decide)
  rw [nI_add, show nI (pd_on (x &&& v) + pd_on (z &&& u)) - nI (pd_on (x &&& v) + pd_on (z &&& u)) / 2 * 2 = nI (pd_cl x z u v) from e]
  rcases pd_cl_01 x z u v with c | c
  · rw [c]; exact br_t rfl (h1 c)
  · rw [c]; exact br_f (by decide) (h0 c)
theorem py_power {post : Int32 → Prop} {x z b : Nat} (hz : z < 32) (h : post (nI (pd_on (x &&& z) + 2 * pd_on (b &&& z)))) : wpY_power post ((nI n), (nI (2 ^ n)), f_rules, f_sumRe, f_sumIm, (fun jj => pd_I (A jj).1), (fun jj => pd_I (A jj).2), (fun jj => pd_I (N jj).1), (fun jj => pd_I (N jj).2), (fun jj => pd_I (B jj).1), (fun jj => pd_I (B jj).2), a_isSaved, a_ruleX, a_ruleZ) (nI x) (nI z) (nI b) := by
  refine py_onesA hz (py_onesA hz ?_)
  rw [← nI_add, ← pk_mul] at h
  exact h
theorem py_turn2 {post : SY → Prop} {k p : Nat} (hk : k < 1056) (hp : p < 2 ^ 31) (h : post ((nI n), (nI (2 ^ n)), f_rules, f_sumRe, f_sumIm, (fun jj => pd_I ((pd_v A k (pd_ph p (A k))) jj).1), (fun jj => pd_I ((pd_v A k (pd_ph p (A k))) jj).2), (fun jj => pd_I (N jj).1), (fun jj => pd_I (N jj).2), (fun jj => pd_I (B jj).1), (fun jj => pd_I (B jj).2), a_isSaved, a_ruleX, a_ruleZ)) :
    ∀ f j, j + f = p % 4 → wY_turn_2 post (nI k) (nI p) (nI n) (nI (2 ^ n)) f_rules f_sumRe f_sumIm (f + 1) (nI j) (fun jj => pd_I ((pd_v A k (pd_ph j (A k))) jj).1) (fun jj => pd_I ((pd_v A k (pd_ph j (A k))) jj).2) (fun jj => pd_I (N jj).1) (fun jj => pd_I (N jj).2) (fun jj => pd_I (B jj).1) (fun jj => pd_I (B jj).2) a_isSaved a_ruleX a_ruleZ := by
  have e4 : nI p - nI p / 4 * 4 = nI (p % 4) := pk_rem (d := 4) hp (by decide) (by decide)
  intro f
  induction f with
  | zero =>
    intro j hj
    refine ⟨by decide, ?_⟩
    rw [e4]
    have e : pd_ph p (A k) = pd_ph j (A k) := pd_ph_cg _ (by omega)
    rw [e] at h
    exact br_t (nI_le (by omega) (by omega)) h
  | succ f ih =>
    intro j hj
    refine ⟨by decide, ?_⟩
    rw [e4]
    refine br_f (nI_ge (by omega) (by omega)) ?_
    have hi : vp_in (nI k) 1056 := vp_in_nI hk (by decide)
    have ec : (nI k).toNatClampNeg = k := nI_clamp (by omega)
    have es : pd_ph (j + 1) (A k) = (-(pd_ph j (A k)).2, (pd_ph j (A k)).1) := by
      rw [Nat.add_comm, ← pd_ph_add, pd_ph_1 _ rfl]
    have ev : pd_v (pd_v A k (pd_ph j (A k))) k (pd_ph (j + 1) (A k)) = pd_v A k (pd_ph (j + 1) (A k)) := by
      funext i
      unfold pd_v
      split <;> rfl
    have u1 := py_upd1 (pd_v A k (pd_ph j (A k))) k (pd_ph (j + 1) (A k))
    have u2 := py_upd2 (pd_v A k (pd_ph j (A k))) k (pd_ph (j + 1) (A k))
    rw [ev] at u1 u2
    rw [ec]
    refine ⟨hi, nm_e ⟨hi, hi, nm_r ?_ ⟨hi, nm_r ?_ (nm_r (nI_1 j) (ih (j + 1) (by omega)))⟩⟩⟩
    · dsimp only
      rw [pd_I_neg, pd_v_s]
      rw [← u1, es]
    · dsimp only
      rw [pd_v_s]
      rw [← u2, es]
theorem py_turn {post : SY → Prop} {k p : Nat} (hk : k < 1056) (hp : p < 2 ^ 31) (h : post ((nI n), (nI (2 ^ n)), f_rules, f_sumRe, f_sumIm, (fun jj => pd_I ((pd_v A k (pd_ph p (A k))) jj).1), (fun jj => pd_I ((pd_v A k (pd_ph p (A k))) jj).2), (fun jj => pd_I (N jj).1), (fun jj => pd_I (N jj).2), (fun jj => pd_I (B jj).1), (fun jj => pd_I (B jj).2), a_isSaved, a_ruleX, a_ruleZ)) : wpY_turn post ((nI n), (nI (2 ^ n)), f_rules, f_sumRe, f_sumIm, (fun jj => pd_I (A jj).1), (fun jj => pd_I (A jj).2), (fun jj => pd_I (N jj).1), (fun jj => pd_I (N jj).2), (fun jj => pd_I (B jj).1), (fun jj => pd_I (B jj).2), a_isSaved, a_ruleX, a_ruleZ) (nI k) (nI p) := by
  have e0 : pd_v A k (pd_ph 0 (A k)) = A := by
    funext i
    unfold pd_v
    rw [pd_ph_0 _ rfl]
    split
    · next e => rw [e]
    · rfl
  have := py_turn2 hk hp h (p % 4) 0 (by omega)
  rw [e0] at this
  exact ⟨_, this⟩
end
end
section
theorem pd_mulb {a b : Int} {M : Nat} (ha : a.natAbs ≤ M) (hb : b.natAbs ≤ M) : (a * b).natAbs ≤ M * M := by
  rw [Int.natAbs_mul]; exact Nat.mul_le_mul ha hb
def pd_bd (M : Nat) (v : Int × Int) : Prop := v.1.natAbs ≤ M ∧ v.2.natAbs ≤ M
theorem py_up1 (A : Nat → Int × Int) (k : Nat) {t : Int32} (w : Int × Int) (e : t = pd_I w.1) : upd (fun jj => pd_I (A jj).1) k t = fun jj => pd_I (pd_v A k w jj).1 := by
  subst e; exact py_upd1 A k w
theorem py_up2 (A : Nat → Int × Int) (k : Nat) {t : Int32} (w : Int × Int) (e : t = pd_I w.2) : upd (fun jj => pd_I (A jj).2) k t = fun jj => pd_I (pd_v A k w jj).2 := by
  subst e; exact py_upd2 A k w
/-- table A' is table A but for f of A at the places of D -/
def pd_On (D : Nat → Prop) (f : Nat → Int × Int) (A A' : Nat → Int × Int) : Prop := (∀ j, D j → A' j = f j) ∧ (∀ j, ¬ D j → A' j = A j)
theorem pd_On_0 {D : Nat → Prop} {f A : Nat → Int × Int} (h : ∀ j, ¬ D j) : pd_On D f A A := ⟨fun j d => absurd d (h j), fun _ _ => rfl⟩
theorem pd_On_D {D D' : Nat → Prop} {f A A' : Nat → Int × Int} (h : pd_On D f A A') (e : ∀ j, D j ↔ D' j) : pd_On D' f A A' :=
  ⟨fun j d => h.1 j ((e j).mpr d), fun j d => h.2 j (fun c => d ((e j).mp c))⟩
theorem pd_On_s {D : Nat → Prop} {f A A' : Nat → Int × Int} (h : pd_On D f A A') (k : Nat) : pd_On (fun j => D j ∨ j = k) f A (pd_v A' k (f k)) := by
  refine ⟨fun j d => ?_, fun j d => ?_⟩
  · by_cases e : j = k
    · subst e; rw [pd_v_s]
    · rw [pd_v_n e]
      rcases d with d | d
      · exact h.1 j d
      · exact absurd d e
  · rw [pd_v_n (fun e => d (Or.inr e))]
    exact h.2 j (fun c => d (Or.inl c))
section
variable {f_rules f_sumRe f_sumIm : Int32} {a_isSaved a_ruleX a_ruleZ : Nat → Int32} {n : Nat} {A N B : Nat → Int × Int}
theorem py_level75 {post : SY → Prop} {fr mn : Nat} {fa : Int × Int} {A0 : Nat → Int × Int} (hfm : fr + mn ≤ 33) (hf : fa ≠ (0, 0)) (hfb : pd_bd 1000 fa)
    (hA : ∀ j, 32 * fr ≤ j → j < 32 * (fr + mn) → pd_bd 1000 (A0 j))
    (h : ∀ A', pd_On (fun j => 32 * fr ≤ j ∧ j < 32 * (fr + mn)) (fun j => pd_lv fa (A0 j)) A0 A' → post ((nI n), (nI (2 ^ n)), f_rules, f_sumRe, f_sumIm, (fun jj => pd_I (A' jj).1), (fun jj => pd_I (A' jj).2), (fun jj => pd_I (N jj).1), (fun jj => pd_I (N jj).2), (fun jj => pd_I (B jj).1), (fun jj => pd_I (B jj).2), a_isSaved, a_ruleX, a_ruleZ)) :
    ∀ f k, k + f = 32 * (fr + mn) → 32 * fr ≤ k → ∀ A, pd_On (fun j => 32 * fr ≤ j ∧ j < k) (fun j => pd_lv fa (A0 j)) A0 A →
      wY_level_75 post (nI fr) (nI mn) (pd_I fa.1) (pd_I fa.2) (pd_I (fa.1 * fa.1 + fa.2 * fa.2)) (nI n) (nI (2 ^ n)) f_rules f_sumRe f_sumIm (f + 1) (nI k) (fun jj => pd_I (A jj).1) (fun jj => pd_I (A jj).2) (fun jj => pd_I (N jj).1) (fun jj => pd_I (N jj).2) (fun jj => pd_I (B jj).1) (fun jj => pd_I (B jj).2) a_isSaved a_ruleX a_ruleZ := by
  have e32 : (32 : Int32) * (nI fr + nI mn) = nI (32 * (fr + mn)) := by
    show nI 32 * (nI fr + nI mn) = _
    rw [nI_add, pk_mul]
  have hsq := pd_nz_sq hf
  have m1 := pd_mulb hfb.1 hfb.1
  have m2 := pd_mulb hfb.2 hfb.2
  intro f
  induction f with
  | zero =>
    intro k hk hk2 A hO
    have e : k = 32 * (fr + mn) := by omega
    subst e
    refine br_t ?_ (h A hO)
    rw [e32]; exact nI_le (by omega) (by omega)
  | succ f ih =>
    intro k hk hk2 A hO
    refine br_f ?_ ?_
    · rw [e32]; exact nI_ge (by omega) (by omega)
    refine br_f ?_ ?_
    · rw [show (0 : Int32) = pd_I 0 from rfl, pd_I_le (by omega) (by omega) (by decide) (by decide)]; omega
    have hi : vp_in (nI k) 1056 := vp_in_nI (by omega) (by decide)
    have ec : (nI k).toNatClampNeg = k := nI_clamp (by omega)
    have eA := hO.2 k (fun c => by omega)
    have hb := hA k hk2 (by omega)
    have p1 := pd_mulb hb.1 hfb.1
    have p2 := pd_mulb hb.2 hfb.2
    have p3 := pd_mulb hb.2 hfb.1
    have p4 := pd_mulb hb.1 hfb.2
    have hn0 : ¬ pd_I (fa.1 * fa.1 + fa.2 * fa.2) = 0 := by
      rw [pd_I_0 (by omega) (by omega)]; omega
    rw [ec]
    have e1 : pd_I (A k).1 * pd_I fa.1 + pd_I (A k).2 * pd_I fa.2 = pd_I ((A0 k).1 * fa.1 + (A0 k).2 * fa.2) := by
      rw [pd_I_mul, pd_I_mul, pd_I_add, eA]
    have e2 : pd_I (A k).2 * pd_I fa.1 - pd_I (A k).1 * pd_I fa.2 = pd_I ((A0 k).2 * fa.1 - (A0 k).1 * fa.2) := by
      rw [pd_I_mul, pd_I_mul, pd_I_sub, eA]
    have d1 : pd_I ((A0 k).1 * fa.1 + (A0 k).2 * fa.2) / pd_I (fa.1 * fa.1 + fa.2 * fa.2) = pd_I (pd_lv fa (A0 k)).1 := pd_I_div (by omega) (by omega) (by omega) (by omega)
    have d2 : pd_I ((A0 k).2 * fa.1 - (A0 k).1 * fa.2) / pd_I (fa.1 * fa.1 + fa.2 * fa.2) = pd_I (pd_lv fa (A0 k)).2 := pd_I_div (by omega) (by omega) (by omega) (by omega)
    refine ⟨hi, hi, nm_r e1 ⟨hi, hi, nm_r e2 ⟨hn0, hi, nm_r (py_up1 A k (pd_lv fa (A0 k)) d1) ⟨hn0, hi, nm_r (py_up2 A k (pd_lv fa (A0 k)) d2) (nm_r (nI_1 k) ?_)⟩⟩⟩⟩
    exact ih (k + 1) (by omega) (by omega) _ (pd_On_D (pd_On_s hO k) (fun j => by omega))
theorem py_level40 {post : SY → Prop} {fr mn a : Nat} (hfm : fr + mn ≤ 33) (hmn : 1 ≤ mn)
    (hA : ∀ j, 32 * fr ≤ j → j < 32 * (fr + mn) → pd_bd 1000 (A j)) (ha1 : 32 * fr ≤ a) (ha2 : a < 32 * fr + 32) (hn : A a ≠ (0, 0))
    (h : ∀ A', pd_On (fun j => 32 * fr ≤ j ∧ j < 32 * (fr + mn)) (fun j => pd_lv (A a) (A j)) A A' → post ((nI n), (nI (2 ^ n)), f_rules, f_sumRe, f_sumIm, (fun jj => pd_I (A' jj).1), (fun jj => pd_I (A' jj).2), (fun jj => pd_I (N jj).1), (fun jj => pd_I (N jj).2), (fun jj => pd_I (B jj).1), (fun jj => pd_I (B jj).2), a_isSaved, a_ruleX, a_ruleZ)) : wY_level_40 post (nI fr) (nI mn) (nI a) (nI n) (nI (2 ^ n)) f_rules f_sumRe f_sumIm (fun jj => pd_I (A jj).1) (fun jj => pd_I (A jj).2) (fun jj => pd_I (N jj).1) (fun jj => pd_I (N jj).2) (fun jj => pd_I (B jj).1) (fun jj => pd_I (B jj).2) a_isSaved a_ruleX a_ruleZ := by
  have hi : vp_in (nI a) 1056 := vp_in_nI (by omega) (by decide)
  have ec : (nI a).toNatClampNeg = a := nI_clamp (by omega)
  unfold wY_level_40
  rw [ec]
  have e1 : pd_I (A a).1 * pd_I (A a).1 + pd_I (A a).2 * pd_I (A a).2 = pd_I ((A a).1 * (A a).1 + (A a).2 * (A a).2) := by
    rw [pd_I_mul, pd_I_mul, pd_I_add]
  refine ⟨hi, nm_e ⟨hi, nm_e (nm_r e1 (nm_r (pk_mul 32 fr) ⟨32 * mn + 1, ?_⟩))⟩⟩
  exact py_level75 hfm hn (hA a ha1 (by omega)) hA h (32 * mn) (32 * fr) (by omega) (by omega) A (pd_On_0 (fun j => by omega))
theorem py_level5 {post : SY → Prop} {fr mn : Nat} (hfm : fr + mn ≤ 33) (hmn : 1 ≤ mn)
    (hA : ∀ j, 32 * fr ≤ j → j < 32 * (fr + mn) → pd_bd 1000 (A j)) (hex : ∃ j, j < 32 ∧ A (32 * fr + j) ≠ (0, 0))
    (h : ∀ a A', 32 * fr ≤ a → a < 32 * fr + 32 → A a ≠ (0, 0) → pd_On (fun j => 32 * fr ≤ j ∧ j < 32 * (fr + mn)) (fun j => pd_lv (A a) (A j)) A A' → post ((nI n), (nI (2 ^ n)), f_rules, f_sumRe, f_sumIm, (fun jj => pd_I (A' jj).1), (fun jj => pd_I (A' jj).2), (fun jj => pd_I (N jj).1), (fun jj => pd_I (N jj).2), (fun jj => pd_I (B jj).1), (fun jj => pd_I (B jj).2), a_isSaved, a_ruleX, a_ruleZ)) :
    ∀ f k, k + f = 32 * fr + 31 → 32 * fr ≤ k → (∀ j, 32 * fr ≤ j → j < k → A j = (0, 0)) → wY_level_5 post (nI fr) (nI mn) (nI n) (nI (2 ^ n)) f_rules f_sumRe f_sumIm (fun jj => pd_I (A jj).1) (fun jj => pd_I (A jj).2) (fun jj => pd_I (N jj).1) (fun jj => pd_I (N jj).2) (fun jj => pd_I (B jj).1) (fun jj => pd_I (B jj).2) a_isSaved a_ruleX a_ruleZ (f + 1) (nI k) := by
  have e31 : (32 : Int32) * nI fr + 31 = nI (32 * fr + 31) := by
    show nI 32 * nI fr + nI 31 = _
    rw [pk_mul, nI_add]
  intro f
  induction f with
  | zero =>
    intro k hk hk2 hz
    have e : k = 32 * fr + 31 := by omega
    refine br_t (by rw [e31]; exact nI_le (by omega) (by omega)) ?_
    obtain ⟨j, hj, hne⟩ := hex
    have : j = 31 := by
      apply Classical.byContradiction
      intro h31
      exact hne (hz _ (by omega) (by omega))
    subst this
    rw [← e] at hne
    exact py_level40 hfm hmn hA hk2 (by omega) hne (fun A' hO => h k A' hk2 (by omega) hne hO)
  | succ f ih =>
    intro k hk hk2 hz
    refine br_f (by rw [e31]; exact nI_ge (by omega) (by omega)) ?_
    have hi : vp_in (nI k) 1056 := vp_in_nI (by omega) (by decide)
    have ec : (nI k).toNatClampNeg = k := nI_clamp (by omega)
    have hb := hA k hk2 (by omega)
    unfold pd_bd at hb
    rw [ec]
    refine ⟨hi, ek_if (d := (A k).1 = 0) (pd_I_0 (by omega) (by omega)) (fun c1 => ⟨hi, ek_if (d := (A k).2 = 0) (pd_I_0 (by omega) (by omega)) (fun c2 => ?_) (fun c2 => ?_)⟩) (fun c1 => ?_)⟩
    · refine nm_r (nI_1 k) (ih (k + 1) (by omega) (by omega) ?_)
      intro j h1 h2
      by_cases e : j = k
      · subst e; exact Prod.ext c1 c2
      · exact hz j h1 (by omega)
    · have hne : A k ≠ (0, 0) := fun e => c2 (congrArg Prod.snd e)
      exact py_level40 hfm hmn hA hk2 (by omega) hne (fun A' hO => h k A' hk2 (by omega) hne hO)
    · have hne : A k ≠ (0, 0) := fun e => c1 (congrArg Prod.fst e)
      exact py_level40 hfm hmn hA hk2 (by omega) hne (fun A' hO => h k A' hk2 (by omega) hne hO)
theorem py_level {post : SY → Prop} {p0 p1 : Int32} {fr mn : Nat} (e0 : p0 = nI fr) (e1 : p1 = nI mn) (hfm : fr + mn ≤ 33) (hmn : 1 ≤ mn)
    (hA : ∀ j, 32 * fr ≤ j → j < 32 * (fr + mn) → pd_bd 1000 (A j)) (hex : ∃ j, j < 32 ∧ A (32 * fr + j) ≠ (0, 0))
    (h : ∀ a A', 32 * fr ≤ a → a < 32 * fr + 32 → A a ≠ (0, 0) → pd_On (fun j => 32 * fr ≤ j ∧ j < 32 * (fr + mn)) (fun j => pd_lv (A a) (A j)) A A' → post ((nI n), (nI (2 ^ n)), f_rules, f_sumRe, f_sumIm, (fun jj => pd_I (A' jj).1), (fun jj => pd_I (A' jj).2), (fun jj => pd_I (N jj).1), (fun jj => pd_I (N jj).2), (fun jj => pd_I (B jj).1), (fun jj => pd_I (B jj).2), a_isSaved, a_ruleX, a_ruleZ)) : wpY_level post ((nI n), (nI (2 ^ n)), f_rules, f_sumRe, f_sumIm, (fun jj => pd_I (A jj).1), (fun jj => pd_I (A jj).2), (fun jj => pd_I (N jj).1), (fun jj => pd_I (N jj).2), (fun jj => pd_I (B jj).1), (fun jj => pd_I (B jj).2), a_isSaved, a_ruleX, a_ruleZ) p0 p1 := by
  subst e0 e1
  exact nm_r (pk_mul 32 fr) ⟨32, py_level5 hfm hmn hA hex h 31 (32 * fr) (by omega) (by omega) (fun j h1 h2 => by omega)⟩
theorem py_levelAll {post : SY → Prop} (hA : ∀ j, j < 1056 → pd_bd 1000 (A j)) (hU : ∃ j, j < 32 ∧ A j ≠ (0, 0)) (hV : ∃ j, j < 32 ∧ A (1024 + j) ≠ (0, 0))
    (h : ∀ (a c : Nat) (A' : Nat → Int × Int), a < 32 → c < 32 → A a ≠ (0, 0) → A (1024 + c) ≠ (0, 0) → (∀ j, j < 1024 → A' j = pd_lv (A a) (A j)) → (∀ j, j < 32 → A' (1024 + j) = pd_lv (A (1024 + c)) (A (1024 + j))) → post ((nI n), (nI (2 ^ n)), f_rules, f_sumRe, f_sumIm, (fun jj => pd_I (A' jj).1), (fun jj => pd_I (A' jj).2), (fun jj => pd_I (N jj).1), (fun jj => pd_I (N jj).2), (fun jj => pd_I (B jj).1), (fun jj => pd_I (B jj).2), a_isSaved, a_ruleX, a_ruleZ)) : wpY_levelAll post ((nI n), (nI (2 ^ n)), f_rules, f_sumRe, f_sumIm, (fun jj => pd_I (A jj).1), (fun jj => pd_I (A jj).2), (fun jj => pd_I (N jj).1), (fun jj => pd_I (N jj).2), (fun jj => pd_I (B jj).1), (fun jj => pd_I (B jj).2), a_isSaved, a_ruleX, a_ruleZ) := by
  unfold wpY_levelAll
  dsimp only
  refine py_level (fr := 0) (mn := 32) rfl rfl (by decide) (by decide) (fun j _ h2 => hA j (by omega)) ?_ ?_
  · obtain ⟨j, h1, h2⟩ := hU
    exact ⟨j, h1, by rw [Nat.mul_zero, Nat.zero_add]; exact h2⟩
  · intro a A1 ha1 ha2 hne hO
    have same : ∀ j, 1024 ≤ j → A1 j = A j := fun j hj => hO.2 j (fun c => by have := c.2; omega)
    refine py_level (fr := 32) (mn := 1) rfl rfl (by decide) (by decide) (fun j h1 h2 => by rw [same j (by omega)]; exact hA j (by omega)) ?_ ?_
    · obtain ⟨j, h1, h2⟩ := hV
      exact ⟨j, h1, by rw [same _ (by omega)]; exact h2⟩
    · intro c A2 hc1 hc2 hne2 hO2
      obtain ⟨c', rfl⟩ : ∃ c', c = 1024 + c' := ⟨c - 1024, by omega⟩
      rw [same _ (by omega)] at hne2
      refine h a c' A2 (by omega) (by omega) hne hne2 ?_ ?_
      · intro j hj
        rw [hO2.2 j (fun d => by have := d.1; omega)]
        exact hO.1 j ⟨by omega, by omega⟩
      · intro j hj
        have := hO2.1 (1024 + j) ⟨by omega, by omega⟩
        dsimp only at this
        rw [this, same _ (by omega), same _ (by omega)]
end
end
section
theorem py_shl2 {q : Nat} (hq : q < 5) : (1 : Int32) <<< (nI q &&& 31) = nI (2 ^ q) := px_pow (by omega)
section
variable {f_rules f_sumRe f_sumIm : Int32} {a_isSaved a_ruleX a_ruleZ : Nat → Int32} {n : Nat} {A N B : Nat → Int × Int}
theorem py_s12 {post : Int32 → SY → Prop} {q : Nat} {A0 : Nat → Int × Int} (hq : q < 5)
    (h : ∀ A', pd_On (fun j => j < 1056) (pd_gS q A0) A0 A' → wpY_levelAll (fun u => post 1 u) ((nI n), (nI (2 ^ n)), f_rules, f_sumRe, f_sumIm, (fun jj => pd_I (A' jj).1), (fun jj => pd_I (A' jj).2), (fun jj => pd_I (N jj).1), (fun jj => pd_I (N jj).2), (fun jj => pd_I (B jj).1), (fun jj => pd_I (B jj).2), a_isSaved, a_ruleX, a_ruleZ)) :
    ∀ f k, k + f = 1056 → ∀ A, pd_On (fun j => j < k) (pd_gS q A0) A0 A → wY_s_12 post (nI q) (f + 1) (nI k) (nI n) (nI (2 ^ n)) f_rules f_sumRe f_sumIm (fun jj => pd_I (A jj).1) (fun jj => pd_I (A jj).2) (fun jj => pd_I (N jj).1) (fun jj => pd_I (N jj).2) (fun jj => pd_I (B jj).1) (fun jj => pd_I (B jj).2) a_isSaved a_ruleX a_ruleZ := by
  intro f
  induction f with
  | zero =>
    intro k hk A hO
    have e : k = 1056 := by omega
    subst e
    exact br_t (show (1056 : Int32) ≤ nI 1056 by decide) (h A hO)
  | succ f ih =>
    intro k hk A hO
    refine br_f (show ¬ (1056 : Int32) ≤ nI k from nI_ge (b := 1056) (by omega) (by decide)) ?_
    have eA := hO.2 k (fun c => by omega)
    rw [px_dig (by omega) (by omega)]
    refine py_turn (by omega) (by have := pd_d_le k q; omega) (nm_r (nI_1 k) (ih (k + 1) (by omega) _ ?_))
    rw [eA]
    exact pd_On_D (pd_On_s hO k) (fun j => by omega)
theorem py_cz25 {post : Int32 → SY → Prop} {p q : Nat} {A0 : Nat → Int × Int} (hp : p < 5) (hq : q < 5)
    (h : ∀ A', pd_On (fun j => j < 1056) (pd_gZ p q A0) A0 A' → wpY_levelAll (fun u => post 1 u) ((nI n), (nI (2 ^ n)), f_rules, f_sumRe, f_sumIm, (fun jj => pd_I (A' jj).1), (fun jj => pd_I (A' jj).2), (fun jj => pd_I (N jj).1), (fun jj => pd_I (N jj).2), (fun jj => pd_I (B jj).1), (fun jj => pd_I (B jj).2), a_isSaved, a_ruleX, a_ruleZ)) :
    ∀ f k, k + f = 1056 → ∀ A, pd_On (fun j => j < k) (pd_gZ p q A0) A0 A → wY_cz_25 post (nI p) (nI q) (f + 1) (nI k) (nI n) (nI (2 ^ n)) f_rules f_sumRe f_sumIm (fun jj => pd_I (A jj).1) (fun jj => pd_I (A jj).2) (fun jj => pd_I (N jj).1) (fun jj => pd_I (N jj).2) (fun jj => pd_I (B jj).1) (fun jj => pd_I (B jj).2) a_isSaved a_ruleX a_ruleZ := by
  intro f
  induction f with
  | zero =>
    intro k hk A hO
    have e : k = 1056 := by omega
    subst e
    exact br_t (show (1056 : Int32) ≤ nI 1056 by decide) (h A hO)
  | succ f ih =>
    intro k hk A hO
    refine br_f (show ¬ (1056 : Int32) ≤ nI k from nI_ge (b := 1056) (by omega) (by decide)) ?_
    have eA := hO.2 k (fun c => by omega)
    have e1 : (2 : Int32) * (nI k >>> (nI p &&& 31) &&& 1) * (nI k >>> (nI q &&& 31) &&& 1) = nI (2 * (pd_d k p * pd_d k q)) := by
      rw [px_dig (by omega) (by omega), px_dig (by omega) (by omega)]
      show nI 2 * nI _ * nI _ = _
      rw [pk_mul, pk_mul, Nat.mul_assoc]
    rw [e1]
    have b := pd_mul1 (pd_d_le k p) (pd_d_le k q)
    refine py_turn (by omega) (by omega) (nm_r (nI_1 k) (ih (k + 1) (by omega) _ ?_))
    rw [eA]
    exact pd_On_D (pd_On_s hO k) (fun j => by omega)
theorem py_cx64 {post : Int32 → SY → Prop} {p q : Nat} {A0 : Nat → Int × Int} (hp : p < 5) (hq : q < 5) (hN : ∀ j, j < 1056 → N j = A0 j)
    (h : ∀ A', pd_On (fun j => j < 1056) (pd_gX p q A0) A0 A' → wpY_levelAll (fun u => post 1 u) ((nI n), (nI (2 ^ n)), f_rules, f_sumRe, f_sumIm, (fun jj => pd_I (A' jj).1), (fun jj => pd_I (A' jj).2), (fun jj => pd_I (N jj).1), (fun jj => pd_I (N jj).2), (fun jj => pd_I (B jj).1), (fun jj => pd_I (B jj).2), a_isSaved, a_ruleX, a_ruleZ)) :
    ∀ f k, k + f = 1056 → ∀ A, pd_On (fun j => j < k) (pd_gX p q A0) A0 A → wY_cx_64 post (nI p) (nI q) (nI n) (nI (2 ^ n)) f_rules f_sumRe f_sumIm (f + 1) (nI k) (fun jj => pd_I (A jj).1) (fun jj => pd_I (A jj).2) (fun jj => pd_I (N jj).1) (fun jj => pd_I (N jj).2) (fun jj => pd_I (B jj).1) (fun jj => pd_I (B jj).2) a_isSaved a_ruleX a_ruleZ := by
  intro f
  induction f with
  | zero =>
    intro k hk A hO
    have e : k = 1056 := by omega
    subst e
    exact br_t (show (1056 : Int32) ≤ nI 1056 by decide) (h A hO)
  | succ f ih =>
    intro k hk A hO
    refine br_f (show ¬ (1056 : Int32) ≤ nI k from nI_ge (b := 1056) (by omega) (by decide)) ?_
    have hi : vp_in (nI k) 1056 := vp_in_nI (by omega) (by decide)
    have ec : (nI k).toNatClampNeg = k := nI_clamp (by omega)
    have hx32 : k ^^^ 2 ^ q < 1056 := by
      have e : k = 32 * (k / 32) + k % 32 := by omega
      rw [e, pd_x32l (by omega) (pd_pow32 hq)]
      have := pd_xor32 (a := k % 32) (b := 2 ^ q) (by omega) (pd_pow32 hq)
      omega
    have fin : ∀ m : Nat, m < 1056 → pd_gX p q A0 k = A0 m → wY_cx_89 post (wY_cx_64 post (nI p) (nI q) (nI n) (nI (2 ^ n)) f_rules f_sumRe f_sumIm (f + 1)) (nI p) (nI q) (nI k) (nI m) (nI n) (nI (2 ^ n)) f_rules f_sumRe f_sumIm (fun jj => pd_I (A jj).1) (fun jj => pd_I (A jj).2) (fun jj => pd_I (N jj).1) (fun jj => pd_I (N jj).2) (fun jj => pd_I (B jj).1) (fun jj => pd_I (B jj).2) a_isSaved a_ruleX a_ruleZ := by
      intro m hm em
      have hj : vp_in (nI m) 1056 := vp_in_nI (by omega) (by decide)
      have ecm : (nI m).toNatClampNeg = m := nI_clamp (by omega)
      unfold wY_cx_89
      rw [ec, ecm]
      have eN := hN m hm
      refine ⟨hj, hi, nm_r (py_up1 A k (pd_gX p q A0 k) (by dsimp only; rw [em, eN])) ⟨hj, hi, nm_r (py_up2 A k (pd_gX p q A0 k) (by dsimp only; rw [em, eN])) (nm_r (nI_1 k) ?_)⟩⟩
      exact ih (k + 1) (by omega) _ (pd_On_D (pd_On_s hO k) (fun j => by omega))
    rw [px_dig (by omega) (by omega)]
    rcases pd_d_01 k p with d | d
    · rw [d]
      refine br_f (by decide) (fin k (by omega) ?_)
      unfold pd_gX
      rw [d, Nat.zero_mul, Nat.xor_zero]
    · rw [d, py_shl2 hq, nx_xor]
      refine br_t rfl (fin (k ^^^ 2 ^ q) hx32 ?_)
      unfold pd_gX
      rw [d, Nat.one_mul]
theorem py_cx25 {post : Int32 → SY → Prop} {p q : Nat} (hp : p < 5) (hq : q < 5)
    (h : ∀ A' N' : Nat → Int × Int, pd_On (fun j => j < 1056) (pd_gX p q A) A A' → wpY_levelAll (fun u => post 1 u) ((nI n), (nI (2 ^ n)), f_rules, f_sumRe, f_sumIm, (fun jj => pd_I (A' jj).1), (fun jj => pd_I (A' jj).2), (fun jj => pd_I (N' jj).1), (fun jj => pd_I (N' jj).2), (fun jj => pd_I (B jj).1), (fun jj => pd_I (B jj).2), a_isSaved, a_ruleX, a_ruleZ)) :
    ∀ f k, k + f = 1056 → ∀ N : Nat → Int × Int, (∀ j, j < k → N j = A j) → wY_cx_25 post (nI p) (nI q) (nI n) (nI (2 ^ n)) f_rules f_sumRe f_sumIm (f + 1) (nI k) (fun jj => pd_I (A jj).1) (fun jj => pd_I (A jj).2) (fun jj => pd_I (N jj).1) (fun jj => pd_I (N jj).2) (fun jj => pd_I (B jj).1) (fun jj => pd_I (B jj).2) a_isSaved a_ruleX a_ruleZ := by
  intro f
  induction f with
  | zero =>
    intro k hk N hN
    have e : k = 1056 := by omega
    subst e
    refine br_t (show (1056 : Int32) ≤ nI 1056 by decide) ⟨1057, ?_⟩
    exact py_cx64 hp hq hN (fun A' => h A' N) 1056 0 rfl A (pd_On_0 (fun j => by omega))
  | succ f ih =>
    intro k hk N hN
    refine br_f (show ¬ (1056 : Int32) ≤ nI k from nI_ge (b := 1056) (by omega) (by decide)) ?_
    have hi : vp_in (nI k) 1056 := vp_in_nI (by omega) (by decide)
    have ec : (nI k).toNatClampNeg = k := nI_clamp (by omega)
    rw [ec]
    refine ⟨hi, hi, nm_r (py_up1 N k (A k) rfl) ⟨hi, hi, nm_r (py_up2 N k (A k) rfl) (nm_r (nI_1 k) (ih (k + 1) (by omega) _ ?_))⟩⟩
    intro j hj
    by_cases e : j = k
    · rw [e, pd_v_s]
    · rw [pd_v_n e]; exact hN j (by omega)
/-- the first of the two places that differ at digit q -/
theorem pd_cleared {j q : Nat} (h : pd_d j q = 1) : pd_d (j ^^^ 2 ^ q) q = 0 := by
  rw [pd_d_xor', h, pd_d_pow, if_pos rfl]
theorem pd_set {j q : Nat} (h : pd_d j q = 0) : pd_d (j ^^^ 2 ^ q) q = 1 := by
  rw [pd_d_xor', h, pd_d_pow, if_pos rfl]
theorem pd_x_add {k q : Nat} (hq : q < 5) (h : pd_d k q = 0) : k ^^^ 2 ^ q = k + 2 ^ q := by
  have e : k = 2 ^ (q + 1) * (k / 2 ^ (q + 1)) + k % 2 ^ (q + 1) := (Nat.div_add_mod _ _).symm
  have hlt : k % 2 ^ (q + 1) < 2 ^ q := by
    apply pd_lt_of_d (N := q + 1) (Nat.mod_lt _ (Nat.two_pow_pos _))
    intro i h1 h2
    have : i = q := by omega
    subst this
    unfold pd_d at h ⊢
    rw [Nat.testBit_mod_two_pow]
    simp only [show i < i + 1 by omega, decide_true, Bool.true_and]
    exact h
  apply pd_d_ext
  intro i
  have s : k + 2 ^ q = 2 ^ (q + 1) * (k / 2 ^ (q + 1)) + (2 ^ q + k % 2 ^ (q + 1)) := by omega
  have hp2 : 2 ^ (q + 1) = 2 ^ q * 2 := Nat.pow_succ 2 q
  have s2 : 2 ^ q + k % 2 ^ (q + 1) < 2 ^ (q + 1) := by omega
  rw [pd_d_xor', pd_d_pow, s]
  have t1 := Nat.testBit_two_pow_mul_add (k / 2 ^ (q + 1)) (b := 2 ^ q + k % 2 ^ (q + 1)) (i := q + 1) s2 i
  have t2 := Nat.testBit_two_pow_mul_add (k / 2 ^ (q + 1)) (b := k % 2 ^ (q + 1)) (i := q + 1) (Nat.mod_lt _ (Nat.two_pow_pos _)) i
  rw [← e] at t2
  unfold pd_d
  rw [t1, t2]
  by_cases c : i < q + 1
  · rw [if_pos c, if_pos c]
    by_cases c2 : q = i
    · subst c2
      rw [if_pos rfl, Nat.testBit_two_pow_add_eq, Nat.testBit_lt_two_pow hlt]; rfl
    · rw [if_neg c2, Nat.testBit_two_pow_add_gt (by omega)]
      cases (k % 2 ^ (q + 1)).testBit i <;> rfl
  · rw [if_neg c, if_neg c, if_neg (by omega)]
    cases (k / 2 ^ (q + 1)).testBit (i - (q + 1)) <;> rfl
theorem py_h12 {post : Int32 → SY → Prop} {q : Nat} {A0 : Nat → Int × Int} (hq : q < 5)
    (h : ∀ A', pd_On (fun j => j < 1056) (pd_gH q A0) A0 A' → wpY_levelAll (fun u => post 1 u) ((nI n), (nI (2 ^ n)), f_rules, f_sumRe, f_sumIm, (fun jj => pd_I (A' jj).1), (fun jj => pd_I (A' jj).2), (fun jj => pd_I (N jj).1), (fun jj => pd_I (N jj).2), (fun jj => pd_I (B jj).1), (fun jj => pd_I (B jj).2), a_isSaved, a_ruleX, a_ruleZ)) :
    ∀ f k, k + f = 1056 → ∀ A, pd_On (fun j => j < 1056 ∧ (if pd_d j q = 1 then j ^^^ 2 ^ q else j) < k) (pd_gH q A0) A0 A → wY_h_12 post (nI q) (nI n) (nI (2 ^ n)) f_rules f_sumRe f_sumIm (f + 1) (nI k) (fun jj => pd_I (A jj).1) (fun jj => pd_I (A jj).2) (fun jj => pd_I (N jj).1) (fun jj => pd_I (N jj).2) (fun jj => pd_I (B jj).1) (fun jj => pd_I (B jj).2) a_isSaved a_ruleX a_ruleZ := by
  have x32 : ∀ {j}, j < 1056 → j ^^^ 2 ^ q < 1056 := by
    intro j hj
    have e : j = 32 * (j / 32) + j % 32 := by omega
    rw [e, pd_x32l (by omega) (pd_pow32 hq)]
    have := pd_xor32 (a := j % 32) (b := 2 ^ q) (by omega) (pd_pow32 hq)
    omega
  intro f
  induction f with
  | zero =>
    intro k hk A hO
    have e : k = 1056 := by omega
    subst e
    refine br_t (show (1056 : Int32) ≤ nI 1056 by decide) (h A (pd_On_D hO (fun j => ⟨fun c => c.1, fun c => ⟨c, ?_⟩⟩)))
    by_cases d : pd_d j q = 1
    · rw [if_pos d]; exact x32 c
    · rw [if_neg d]; exact c
  | succ f ih =>
    intro k hk A hO
    refine br_f (show ¬ (1056 : Int32) ≤ nI k from nI_ge (b := 1056) (by omega) (by decide)) ?_
    have hi : vp_in (nI k) 1056 := vp_in_nI (by omega) (by decide)
    have ec : (nI k).toNatClampNeg = k := nI_clamp (by omega)
    rw [px_dig (by omega) (by omega)]
    rcases pd_d_01 k q with d | d
    · rw [d]
      have hd := pd_x_add hq d
      have hlt := x32 (j := k) (by omega)
      have e1 : nI k + ((1 : Int32) <<< (nI q &&& 31)) = nI (k ^^^ 2 ^ q) := by rw [py_shl2 hq, nI_add, hd]
      have hj : vp_in (nI (k ^^^ 2 ^ q)) 1056 := vp_in_nI (by omega) (by decide)
      have ecj : (nI (k ^^^ 2 ^ q)).toNatClampNeg = k ^^^ 2 ^ q := nI_clamp (by omega)
      have hp : 0 < 2 ^ q := Nat.two_pow_pos q
      have hne : k ^^^ 2 ^ q ≠ k := by omega
      have eA : A k = A0 k := hO.2 k (fun c => by
        have c2 : (if pd_d k q = 1 then k ^^^ 2 ^ q else k) < k := c.2
        rw [if_neg (by omega)] at c2; omega)
      have eB : A (k ^^^ 2 ^ q) = A0 (k ^^^ 2 ^ q) := hO.2 (k ^^^ 2 ^ q) (fun c => by
        have c2 : (if pd_d (k ^^^ 2 ^ q) q = 1 then k ^^^ 2 ^ q ^^^ 2 ^ q else k ^^^ 2 ^ q) < k := c.2
        rw [if_pos (pd_set d), pd_xx] at c2; omega)
      have w1 : pd_gH q A0 k = ((A0 k).1 + (A0 (k ^^^ 2 ^ q)).1, (A0 k).2 + (A0 (k ^^^ 2 ^ q)).2) := by
        unfold pd_gH pd_ad
        rw [d, pd_ph_0 _ rfl]
      have w2 : pd_gH q A0 (k ^^^ 2 ^ q) = ((A0 k).1 - (A0 (k ^^^ 2 ^ q)).1, (A0 k).2 - (A0 (k ^^^ 2 ^ q)).2) := by
        unfold pd_gH pd_ad
        rw [pd_set d, pd_ph_2 _ rfl, pd_xx]
        apply Prod.ext <;> dsimp only <;> omega
      refine br_t rfl (nm_r e1 ?_)
      rw [ec, ecj]
      refine ⟨hi, nm_e ⟨hi, nm_e ⟨hj, hi, nm_r (py_up1 A k (pd_gH q A0 k) (by dsimp only; rw [w1, eA, eB, pd_I_add])) ⟨hj, hi, nm_r (py_up2 A k (pd_gH q A0 k) (by dsimp only; rw [w1, eA, eB, pd_I_add]))
        ⟨hj, hj, nm_r (py_up1 _ (k ^^^ 2 ^ q) (pd_gH q A0 (k ^^^ 2 ^ q)) (by dsimp only; rw [pd_v_n hne, w2, eA, eB, pd_I_sub])) ⟨hj, hj, nm_r (py_up2 _ (k ^^^ 2 ^ q) (pd_gH q A0 (k ^^^ 2 ^ q)) (by dsimp only; rw [pd_v_n hne, w2, eA, eB, pd_I_sub])) (nm_r (nI_1 k) ?_)⟩⟩⟩⟩⟩⟩
      refine ih (k + 1) (by omega) _ (pd_On_D (pd_On_s (pd_On_s hO k) (k ^^^ 2 ^ q)) (fun j => ?_))
      by_cases c1 : j = k
      · subst c1
        rw [if_neg (by omega)]
        exact ⟨fun _ => ⟨by omega, by omega⟩, fun _ => Or.inl (Or.inr rfl)⟩
      · by_cases c2 : j = k ^^^ 2 ^ q
        · subst c2
          rw [if_pos (pd_set d), pd_xx]
          exact ⟨fun _ => ⟨by omega, by omega⟩, fun _ => Or.inr rfl⟩
        · by_cases c3 : pd_d j q = 1
          · rw [if_pos c3]
            have : j ^^^ 2 ^ q ≠ k := fun e => c2 (by rw [← e, pd_xx])
            omega
          · rw [if_neg c3]
            omega
    · rw [d]
      refine br_f (by decide) (nm_r (nI_1 k) (ih (k + 1) (by omega) A (pd_On_D hO (fun j => ?_))))
      by_cases c3 : pd_d j q = 1
      · rw [if_pos c3]
        have : j ^^^ 2 ^ q ≠ k := fun e => by have := pd_cleared c3; rw [e] at this; omega
        omega
      · rw [if_neg c3]
        have : j ≠ k := fun e => c3 (by rw [e]; exact d)
        omega
end
end
section
theorem pd_and_mod {m z : Nat} (hz : z < 32) : (m % 32) &&& z = m &&& z := by
  have := pd_and_32 (x := m / 32) (z := m % 32) (u := 0) (v := z) (by omega) hz
  rw [Nat.and_zero, Nat.mul_zero, Nat.zero_add, Nat.zero_add, Nat.div_add_mod] at this
  exact this.symm
theorem pd_x_rng {j x fr e : Nat} (hx : x < 32) (h1 : 32 * fr ≤ j) (h2 : j < 32 * e) : 32 * fr ≤ j ^^^ x ∧ j ^^^ x < 32 * e := by
  have ej : j = 32 * (j / 32) + j % 32 := by omega
  rw [ej, pd_x32l (by omega) hx]
  have := pd_xor32 (a := j % 32) (b := x) (by omega) hx
  omega
section
variable {f_rules f_sumRe f_sumIm : Int32} {a_isSaved a_ruleX a_ruleZ : Nat → Int32} {n : Nat} {A N B : Nat → Int × Int}
theorem py_appl83 {post : SY → Prop} {fr mn : Nat} {A0 : Nat → Int × Int} (hfm : fr + mn ≤ 33)
    (h : ∀ A', pd_On (fun j => 32 * fr ≤ j ∧ j < 32 * (fr + mn)) N A0 A' → post ((nI n), (nI (2 ^ n)), f_rules, f_sumRe, f_sumIm, (fun jj => pd_I (A' jj).1), (fun jj => pd_I (A' jj).2), (fun jj => pd_I (N jj).1), (fun jj => pd_I (N jj).2), (fun jj => pd_I (B jj).1), (fun jj => pd_I (B jj).2), a_isSaved, a_ruleX, a_ruleZ)) :
    ∀ f k, k + f = 32 * (fr + mn) → 32 * fr ≤ k → ∀ A, pd_On (fun j => 32 * fr ≤ j ∧ j < k) N A0 A → wY_applyProduct_83 post (nI fr) (nI mn) (nI n) (nI (2 ^ n)) f_rules f_sumRe f_sumIm (f + 1) (nI k) (fun jj => pd_I (A jj).1) (fun jj => pd_I (A jj).2) (fun jj => pd_I (N jj).1) (fun jj => pd_I (N jj).2) (fun jj => pd_I (B jj).1) (fun jj => pd_I (B jj).2) a_isSaved a_ruleX a_ruleZ := by
  have e32 : (32 : Int32) * (nI fr + nI mn) = nI (32 * (fr + mn)) := by
    show nI 32 * (nI fr + nI mn) = _
    rw [nI_add, pk_mul]
  intro f
  induction f with
  | zero =>
    intro k hk hk2 A hO
    have e : k = 32 * (fr + mn) := by omega
    subst e
    exact br_t (by rw [e32]; exact nI_le (by omega) (by omega)) (h A hO)
  | succ f ih =>
    intro k hk hk2 A hO
    refine br_f (by rw [e32]; exact nI_ge (by omega) (by omega)) ?_
    have hi : vp_in (nI k) 1056 := vp_in_nI (by omega) (by decide)
    have ec : (nI k).toNatClampNeg = k := nI_clamp (by omega)
    rw [ec]
    refine ⟨hi, hi, nm_r (py_up1 A k (N k) rfl) ⟨hi, hi, nm_r (py_up2 A k (N k) rfl) (nm_r (nI_1 k) ?_)⟩⟩
    exact ih (k + 1) (by omega) (by omega) _ (pd_On_D (pd_On_s hO k) (fun j => by omega))
theorem py_appl6 {post : SY → Prop} {x z fr mn : Nat} {A0 N0 : Nat → Int × Int} (hfm : fr + mn ≤ 33) (hx : x < 32) (hz : z < 32)
    (h : ∀ A' N' : Nat → Int × Int, pd_On (fun j => 32 * fr ≤ j ∧ j < 32 * (fr + mn)) (pd_gP x z A0) A0 A' → (∀ j, (j < 32 * fr ∨ 32 * (fr + mn) ≤ j) → N' j = N0 j) → post ((nI n), (nI (2 ^ n)), f_rules, f_sumRe, f_sumIm, (fun jj => pd_I (A' jj).1), (fun jj => pd_I (A' jj).2), (fun jj => pd_I (N' jj).1), (fun jj => pd_I (N' jj).2), (fun jj => pd_I (B jj).1), (fun jj => pd_I (B jj).2), a_isSaved, a_ruleX, a_ruleZ)) :
    ∀ f k, k + f = 32 * (fr + mn) → 32 * fr ≤ k → ∀ A N : Nat → Int × Int, (∀ j, ¬ (32 * fr ≤ j ∧ j < k) → A j = A0 j) →
      (∀ j, 32 * fr ≤ j → j < k → N (j ^^^ x) = pd_ph (pd_on (x &&& z) + 2 * pd_on ((j % 32) &&& z)) (A0 j)) → (∀ j, (j < 32 * fr ∨ 32 * (fr + mn) ≤ j) → N j = N0 j) →
      wY_applyProduct_6 post (nI x) (nI z) (nI fr) (nI mn) (f + 1) (nI k) (nI n) (nI (2 ^ n)) f_rules f_sumRe f_sumIm (fun jj => pd_I (A jj).1) (fun jj => pd_I (A jj).2) (fun jj => pd_I (N jj).1) (fun jj => pd_I (N jj).2) (fun jj => pd_I (B jj).1) (fun jj => pd_I (B jj).2) a_isSaved a_ruleX a_ruleZ := by
  have e32 : (32 : Int32) * (nI fr + nI mn) = nI (32 * (fr + mn)) := by
    show nI 32 * (nI fr + nI mn) = _
    rw [nI_add, pk_mul]
  intro f
  induction f with
  | zero =>
    intro k hk hk2 A N hO hN hN0
    have e : k = 32 * (fr + mn) := by omega
    subst e
    refine br_t (by rw [e32]; exact nI_le (by omega) (by omega)) (nm_r (pk_mul 32 fr) ⟨32 * mn + 1, ?_⟩)
    refine py_appl83 (A0 := A) hfm (fun A' hA' => h A' N ?_ hN0) (32 * mn) (32 * fr) (by omega) (by omega) A (pd_On_0 (fun j => by omega))
    refine ⟨fun j d => ?_, fun j d => ?_⟩
    · rw [hA'.1 j d]
      have r := pd_x_rng hx d.1 d.2
      have := hN (j ^^^ x) r.1 r.2
      rw [pd_xx, pd_and_mod hz] at this
      exact this
    · rw [hA'.2 j d, hO j d]
  | succ f ih =>
    intro k hk hk2 A N hO hN hN0
    refine br_f (by rw [e32]; exact nI_ge (by omega) (by omega)) ⟨by decide, ?_⟩
    have hi : vp_in (nI k) 1056 := vp_in_nI (by omega) (by decide)
    have ec : (nI k).toNatClampNeg = k := nI_clamp (by omega)
    have r := pd_x_rng (fr := fr) (e := fr + mn) hx hk2 (by omega)
    have hj : vp_in (nI (k ^^^ x)) 1056 := vp_in_nI (by omega) (by decide)
    have ecj : (nI (k ^^^ x)).toNatClampNeg = k ^^^ x := nI_clamp (by omega)
    have er : nI k - nI k / 32 * 32 = nI (k % 32) := pk_rem (d := 32) (by omega) (by decide) (by decide)
    rw [er]
    have b1 := pd_on_le (x &&& z); have b2 := pd_on_le ((k % 32) &&& z)
    refine py_power hz (py_turn (by omega) (by omega) ?_)
    dsimp only
    rw [nx_xor, ec, ecj]
    have eA := hO k (fun c => by omega)
    refine ⟨hi, hj, nm_r (py_up1 N (k ^^^ x) (pd_ph (pd_on (x &&& z) + 2 * pd_on ((k % 32) &&& z)) (A k)) (by rw [pd_v_s])) ⟨hi, hj, nm_r (py_up2 N (k ^^^ x) (pd_ph (pd_on (x &&& z) + 2 * pd_on ((k % 32) &&& z)) (A k)) (by rw [pd_v_s])) (nm_r (nI_1 k) ?_)⟩⟩
    refine ih (k + 1) (by omega) (by omega) _ _ ?_ ?_ ?_
    · intro j d
      rw [pd_v_n (by omega)]
      exact hO j (by omega)
    · intro j h1 h2
      by_cases e : j = k
      · rw [e, pd_v_s, eA]
      · have : j ^^^ x ≠ k ^^^ x := fun c => e (by rw [← pd_xx j x, c, pd_xx])
        rw [pd_v_n this]
        exact hN j h1 (by omega)
    · intro j d
      rw [pd_v_n (by omega)]
      exact hN0 j d
theorem py_apply {post : SY → Prop} {p2 p3 : Int32} {x z fr mn : Nat} (e2 : p2 = nI fr) (e3 : p3 = nI mn) (hfm : fr + mn ≤ 33) (hx : x < 32) (hz : z < 32)
    (h : ∀ A' N' : Nat → Int × Int, pd_On (fun j => 32 * fr ≤ j ∧ j < 32 * (fr + mn)) (pd_gP x z A) A A' → (∀ j, (j < 32 * fr ∨ 32 * (fr + mn) ≤ j) → N' j = N j) → post ((nI n), (nI (2 ^ n)), f_rules, f_sumRe, f_sumIm, (fun jj => pd_I (A' jj).1), (fun jj => pd_I (A' jj).2), (fun jj => pd_I (N' jj).1), (fun jj => pd_I (N' jj).2), (fun jj => pd_I (B jj).1), (fun jj => pd_I (B jj).2), a_isSaved, a_ruleX, a_ruleZ)) : wpY_applyProduct post ((nI n), (nI (2 ^ n)), f_rules, f_sumRe, f_sumIm, (fun jj => pd_I (A jj).1), (fun jj => pd_I (A jj).2), (fun jj => pd_I (N jj).1), (fun jj => pd_I (N jj).2), (fun jj => pd_I (B jj).1), (fun jj => pd_I (B jj).2), a_isSaved, a_ruleX, a_ruleZ) (nI x) (nI z) p2 p3 := by
  subst e2 e3
  exact nm_r (pk_mul 32 fr) ⟨32 * mn + 1, py_appl6 hfm hx hz h (32 * mn) (32 * fr) (by omega) (by omega) A N (fun j _ => rfl) (fun j h1 h2 => by omega) (fun j _ => rfl)⟩
theorem py_reset2 {post : SY → Prop} {A0 : Nat → Int × Int}
    (h : ∀ A', pd_On (fun j => 1024 ≤ j ∧ j < 1056) (fun j => if j = 1024 then (1, 0) else (0, 0)) A0 A' → post ((nI n), (nI (2 ^ n)), f_rules, f_sumRe, f_sumIm, (fun jj => pd_I (A' jj).1), (fun jj => pd_I (A' jj).2), (fun jj => pd_I (N jj).1), (fun jj => pd_I (N jj).2), (fun jj => pd_I (B jj).1), (fun jj => pd_I (B jj).2), a_isSaved, a_ruleX, a_ruleZ)) :
    ∀ f k, k + f = 32 → ∀ A, pd_On (fun j => 1024 ≤ j ∧ j < 1024 + k) (fun j => if j = 1024 then (1, 0) else (0, 0)) A0 A → wY_reset_2 post (nI n) (nI (2 ^ n)) f_rules f_sumRe f_sumIm (f + 1) (nI k) (fun jj => pd_I (A jj).1) (fun jj => pd_I (A jj).2) (fun jj => pd_I (N jj).1) (fun jj => pd_I (N jj).2) (fun jj => pd_I (B jj).1) (fun jj => pd_I (B jj).2) a_isSaved a_ruleX a_ruleZ := by
  intro f
  induction f with
  | zero =>
    intro k hk A hO
    have e : k = 32 := by omega
    subst e
    exact br_t (show (32 : Int32) ≤ nI 32 by decide) (h A hO)
  | succ f ih =>
    intro k hk A hO
    refine br_f (show ¬ (32 : Int32) ≤ nI k from nI_ge (b := 32) (by omega) (by decide)) ?_
    have e1 : (1024 : Int32) + nI k = nI (1024 + k) := nI_add 1024 k
    rw [e1]
    have hi : vp_in (nI (1024 + k)) 1056 := vp_in_nI (by omega) (by decide)
    have ec : (nI (1024 + k)).toNatClampNeg = 1024 + k := nI_clamp (by omega)
    have fin : ∀ t : Int32, t = pd_I ((fun j => if j = 1024 then ((1, 0) : Int × Int) else (0, 0)) (1024 + k)).1 → wY_reset_26 post (wY_reset_2 post (nI n) (nI (2 ^ n)) f_rules f_sumRe f_sumIm (f + 1)) (nI k) t (nI (1024 + k)) (nI n) (nI (2 ^ n)) f_rules f_sumRe f_sumIm (fun jj => pd_I (A jj).1) (fun jj => pd_I (A jj).2) (fun jj => pd_I (N jj).1) (fun jj => pd_I (N jj).2) (fun jj => pd_I (B jj).1) (fun jj => pd_I (B jj).2) a_isSaved a_ruleX a_ruleZ := by
      intro t ht
      unfold wY_reset_26
      rw [e1, ec]
      refine ⟨hi, nm_r (py_up1 A (1024 + k) _ ht) ⟨hi, nm_r (py_up2 A (1024 + k) ((fun j => if j = 1024 then ((1, 0) : Int × Int) else (0, 0)) (1024 + k)) ?_) (nm_r (nI_1 k) ?_)⟩⟩
      · dsimp only
        by_cases c : 1024 + k = 1024
        · rw [if_pos c]; rfl
        · rw [if_neg c]; rfl
      · exact ih (k + 1) (by omega) _ (pd_On_D (pd_On_s hO (1024 + k)) (fun j => by omega))
    refine pk_eq k 0 (fun e => fin 1 ?_) (fun e => fin 0 ?_)
    · dsimp only; rw [if_pos (by omega)]; rfl
    · dsimp only; rw [if_neg (by omega)]; rfl
theorem py_reset {post : SY → Prop}
    (h : ∀ A', pd_On (fun j => 1024 ≤ j ∧ j < 1056) (fun j => if j = 1024 then (1, 0) else (0, 0)) A A' → post ((nI n), (nI (2 ^ n)), f_rules, f_sumRe, f_sumIm, (fun jj => pd_I (A' jj).1), (fun jj => pd_I (A' jj).2), (fun jj => pd_I (N jj).1), (fun jj => pd_I (N jj).2), (fun jj => pd_I (B jj).1), (fun jj => pd_I (B jj).2), a_isSaved, a_ruleX, a_ruleZ)) : wpY_reset post ((nI n), (nI (2 ^ n)), f_rules, f_sumRe, f_sumIm, (fun jj => pd_I (A jj).1), (fun jj => pd_I (A jj).2), (fun jj => pd_I (N jj).1), (fun jj => pd_I (N jj).2), (fun jj => pd_I (B jj).1), (fun jj => pd_I (B jj).2), a_isSaved, a_ruleX, a_ruleZ) :=
  ⟨33, py_reset2 h 32 0 rfl A (pd_On_0 (fun j => by omega))⟩
theorem py_frame2 {post : SY → Prop} {A0 : Nat → Int × Int}
    (h : ∀ A', pd_On (fun j => j < 1024) (fun j => if j / 32 = j % 32 then (1, 0) else (0, 0)) A0 A' → post ((nI n), (nI (2 ^ n)), f_rules, f_sumRe, f_sumIm, (fun jj => pd_I (A' jj).1), (fun jj => pd_I (A' jj).2), (fun jj => pd_I (N jj).1), (fun jj => pd_I (N jj).2), (fun jj => pd_I (B jj).1), (fun jj => pd_I (B jj).2), a_isSaved, a_ruleX, a_ruleZ)) :
    ∀ f k, k + f = 1024 → ∀ A, pd_On (fun j => j < k) (fun j => if j / 32 = j % 32 then (1, 0) else (0, 0)) A0 A → wY_frame_2 post (nI n) (nI (2 ^ n)) f_rules f_sumRe f_sumIm (f + 1) (nI k) (fun jj => pd_I (A jj).1) (fun jj => pd_I (A jj).2) (fun jj => pd_I (N jj).1) (fun jj => pd_I (N jj).2) (fun jj => pd_I (B jj).1) (fun jj => pd_I (B jj).2) a_isSaved a_ruleX a_ruleZ := by
  intro f
  induction f with
  | zero =>
    intro k hk A hO
    have e : k = 1024 := by omega
    subst e
    exact br_t (show (1024 : Int32) ≤ nI 1024 by decide) (h A hO)
  | succ f ih =>
    intro k hk A hO
    refine br_f (show ¬ (1024 : Int32) ≤ nI k from nI_ge (b := 1024) (by omega) (by decide)) ⟨by decide, by decide, ?_⟩
    have hi : vp_in (nI k) 1056 := vp_in_nI (by omega) (by decide)
    have ec : (nI k).toNatClampNeg = k := nI_clamp (by omega)
    have er : nI k - nI k / 32 * 32 = nI (k % 32) := pk_rem (d := 32) (by omega) (by decide) (by decide)
    have ed : nI k / 32 = nI (k / 32) := pk_div (d := 32) (by omega) (by decide) (by decide)
    have fin : ∀ t : Int32, t = pd_I ((fun j => if j / 32 = j % 32 then ((1, 0) : Int × Int) else (0, 0)) k).1 → wY_frame_30 post (wY_frame_2 post (nI n) (nI (2 ^ n)) f_rules f_sumRe f_sumIm (f + 1)) (nI k) t (nI k) (nI n) (nI (2 ^ n)) f_rules f_sumRe f_sumIm (fun jj => pd_I (A jj).1) (fun jj => pd_I (A jj).2) (fun jj => pd_I (N jj).1) (fun jj => pd_I (N jj).2) (fun jj => pd_I (B jj).1) (fun jj => pd_I (B jj).2) a_isSaved a_ruleX a_ruleZ := by
      intro t ht
      unfold wY_frame_30
      rw [ec]
      refine ⟨hi, nm_r (py_up1 A k _ ht) ⟨hi, nm_r (py_up2 A k ((fun j => if j / 32 = j % 32 then ((1, 0) : Int × Int) else (0, 0)) k) ?_) (nm_r (nI_1 k) ?_)⟩⟩
      · dsimp only
        by_cases c : k / 32 = k % 32
        · rw [if_pos c]; rfl
        · rw [if_neg c]; rfl
      · exact ih (k + 1) (by omega) _ (pd_On_D (pd_On_s hO k) (fun j => by omega))
    rw [er, ed]
    refine pk_eq (k / 32) (k % 32) (fun e => fin 1 ?_) (fun e => fin 0 ?_)
    · dsimp only; rw [if_pos e]; rfl
    · dsimp only; rw [if_neg e]; rfl
theorem py_frame {post : SY → Prop}
    (h : ∀ A', pd_On (fun j => j < 1024) (fun j => if j / 32 = j % 32 then (1, 0) else (0, 0)) A A' → post ((nI n), (nI (2 ^ n)), f_rules, f_sumRe, f_sumIm, (fun jj => pd_I (A' jj).1), (fun jj => pd_I (A' jj).2), (fun jj => pd_I (N jj).1), (fun jj => pd_I (N jj).2), (fun jj => pd_I (B jj).1), (fun jj => pd_I (B jj).2), a_isSaved, a_ruleX, a_ruleZ)) : wpY_frame post ((nI n), (nI (2 ^ n)), f_rules, f_sumRe, f_sumIm, (fun jj => pd_I (A jj).1), (fun jj => pd_I (A jj).2), (fun jj => pd_I (N jj).1), (fun jj => pd_I (N jj).2), (fun jj => pd_I (B jj).1), (fun jj => pd_I (B jj).2), a_isSaved, a_ruleX, a_ruleZ) :=
  ⟨1025, py_frame2 h 1024 0 rfl A (pd_On_0 (fun j => by omega))⟩
end
end
section
/-- what holds of the two objects' states and frames -/
def pd_Inv (n : Nat) (X Z S : Nat → Nat) (A B : Nat → Int × Int) (K : Nat → Int32) : Prop :=
  (1 ≤ n ∧ n ≤ 5) ∧ pd_Bn X Z S ∧ pd_St n X Z S 0 (fun b => A (1024 + b)) ∧ pd_Fr n X Z S 50 A ∧ (∀ j, j < 1056 → pd_Un (A j)) ∧
  (∀ s, s < 3 → K s ≠ 0 → pd_St n X Z S (10 * (s + 1)) (fun b => B (32 * s + b)) ∧ ∀ b, b < 32 → pd_Un (B (32 * s + b)))
theorem pd_Un_bd {v : Int × Int} (h : pd_Un v) : pd_bd 1 v := by
  rcases h with e | ⟨e, he⟩
  · rw [e]; exact ⟨by decide, by decide⟩
  · rw [he]
    rcases pd_mod4 e with c | c | c | c
    · rw [pd_ph_0 _ c]; exact ⟨by decide, by decide⟩
    · rw [pd_ph_1 _ c]; exact ⟨by decide, by decide⟩
    · rw [pd_ph_2 _ c]; exact ⟨by decide, by decide⟩
    · rw [pd_ph_3 _ c]; exact ⟨by decide, by decide⟩
theorem pd_bd_ph {M k : Nat} {v : Int × Int} (h : pd_bd M v) : pd_bd M (pd_ph k v) := by
  unfold pd_bd at h ⊢
  rcases pd_mod4 k with c | c | c | c
  · rw [pd_ph_0 _ c]; exact h
  · rw [pd_ph_1 _ c]; dsimp only; omega
  · rw [pd_ph_2 _ c]; dsimp only; omega
  · rw [pd_ph_3 _ c]; dsimp only; omega
theorem pd_bd_ad {M M' : Nat} {v w : Int × Int} (h : pd_bd M v) (h' : pd_bd M' w) : pd_bd (M + M') (pd_ad v w) := by
  unfold pd_bd at h h' ⊢
  unfold pd_ad
  dsimp only
  omega
theorem pd_bd_le {M M' : Nat} {v : Int × Int} (h : pd_bd M v) (hm : M ≤ M') : pd_bd M' v := by
  unfold pd_bd at h ⊢
  omega
/-- a row of the state or the frame behind a gate, whether its cell is there or not -/
theorem pd_Upto_row {n : Nat} {fx fz fs : Nat → Nat → Nat → Nat} {X Z S X' Z' S' : Nat → Nat} (hU : pd_Upto n fx fz fs X Z S X' Z' S' 60) {o : Nat} (ho : o = 0 ∨ o = 50) (hB : pd_Bn X Z S)
    (hstd : ∀ q, n ≤ q → q < 5 → X (o + q) = 2 ^ q ∧ Z (o + q) = 0 ∧ X (o + (5 + q)) = 0 ∧ Z (o + (5 + q)) = 2 ^ q)
    (hfix : ∀ q s, n ≤ q → q < 5 → s < 2 → fx (2 ^ q) 0 s = 2 ^ q ∧ fz (2 ^ q) 0 s = 0 ∧ fs (2 ^ q) 0 s = s ∧ fx 0 (2 ^ q) s = 0 ∧ fz 0 (2 ^ q) s = 2 ^ q ∧ fs 0 (2 ^ q) s = s) :
    ∀ i, i < 10 → X' (o + i) = fx (X (o + i)) (Z (o + i)) (S (o + i)) ∧ Z' (o + i) = fz (X (o + i)) (Z (o + i)) (S (o + i)) ∧ S' (o + i) = fs (X (o + i)) (Z (o + i)) (S (o + i)) := by
  intro i hi
  by_cases c : i % 5 < n
  · exact hU.1 (o + i) ⟨by omega, by unfold pd_live; omega⟩
  · obtain ⟨e1, e2, e3⟩ := hU.2 (o + i) (fun d => by have := d.2; unfold pd_live at this; omega)
    rw [e1, e2, e3]
    have hs := (hB (o + i) (by omega)).2.2
    have i5 : i = i % 5 ∨ i = 5 + i % 5 := by omega
    obtain ⟨k1, k2, k3, k4⟩ := hstd (i % 5) (by omega) (by omega)
    obtain ⟨f1, f2, f3, f4, f5, f6⟩ := hfix (i % 5) (S (o + i)) (by omega) (by omega) hs
    rcases i5 with e | e
    · rw [← e] at k1 k2 f1 f2 f3
      rw [k1, k2, f1, f2, f3]; exact ⟨rfl, rfl, rfl⟩
    · rw [← e] at k3 k4
      rw [k3, k4, f4, f5, f6]; exact ⟨rfl, rfl, rfl⟩
theorem pd_Upto_bn {n : Nat} {fx fz fs : Nat → Nat → Nat → Nat} {X Z S X' Z' S' : Nat → Nat} (hU : pd_Upto n fx fz fs X Z S X' Z' S' 60) (hB : pd_Bn X Z S)
    (hb : ∀ x z s, x < 32 → z < 32 → s < 2 → fx x z s < 32 ∧ fz x z s < 32 ∧ fs x z s < 2) : pd_Bn X' Z' S' := by
  intro k hk
  have b := hB k hk
  by_cases c : k < 60 ∧ pd_live n k
  · obtain ⟨e1, e2, e3⟩ := hU.1 k c
    rw [e1, e2, e3]; exact hb _ _ _ b.1 b.2.1 b.2.2
  · obtain ⟨e1, e2, e3⟩ := hU.2 k c
    rw [e1, e2, e3]; exact b
theorem pd_Inv_gate {n : Nat} {fx fz fs : Nat → Nat → Nat → Nat} {g : (Nat → Int × Int) → Nat → Int × Int} (hG : pd_Gate n fx fz fs g)
    {X Z S X' Z' S' : Nat → Nat} {A A1 B : Nat → Int × Int} {K : Nat → Int32} (hI : pd_Inv n X Z S A B K) (hU : pd_Upto n fx fz fs X Z S X' Z' S' 60)
    (hL : ∀ b, b < 32 → g A (1024 + b) = g (fun b => A (1024 + b)) b) (hA1 : ∀ j, j < 1056 → A1 j = g A j) :
    ((∃ j, j < 32 ∧ A1 j ≠ (0, 0)) ∧ (∃ j, j < 32 ∧ A1 (1024 + j) ≠ (0, 0))) ∧
    ∀ (a c : Nat) (A' : Nat → Int × Int), a < 32 → c < 32 → A1 a ≠ (0, 0) → A1 (1024 + c) ≠ (0, 0) → (∀ j, j < 1024 → A' j = pd_lv (A1 a) (A1 j)) → (∀ j, j < 32 → A' (1024 + j) = pd_lv (A1 (1024 + c)) (A1 (1024 + j))) →
      pd_Inv n X' Z' S' A' B K := by
  obtain ⟨⟨hn1, hn⟩, hB, hSt, hFr, hUn, hSv⟩ := hI
  have hB' := pd_Upto_bn hU hB hG.1
  have st : pd_St n X' Z' S' 0 (fun b => A1 (1024 + b)) := by
    refine pd_St_cg (pd_Gate_St hG hSt (pd_Upto_row hU (Or.inl rfl) hB (fun q h1 h2 => ?_) hG.2.2.2.2)) (fun i _ => rfl) (fun i _ => rfl) (fun i _ => rfl) (fun b hb => ?_)
    · obtain ⟨a, b, c, d, _⟩ := hSt.2.2.2.2 q h1 h2
      exact ⟨a, b, c, d⟩
    · rw [hA1 (1024 + b) (by omega), hL b hb]
  have fr : pd_Fr n X' Z' S' 50 A1 := by
    refine pd_Fr_cg (pd_Gate_Fr hG hFr (pd_Upto_row hU (Or.inr rfl) hB (fun q h1 h2 => ?_) hG.2.2.2.2)) (fun i _ => rfl) (fun i _ => rfl) (fun i _ => rfl) (fun b hb => hA1 b (by omega))
    obtain ⟨a, b, _, c, d, _⟩ := hFr.2.2.2 q h1 h2
    exact ⟨a, b, c, d⟩
  refine ⟨⟨pd_Fr_col0 fr, ?_⟩, ?_⟩
  · exact st.2.2.1
  · intro a c A' ha hc na nc e1 e2
    obtain ⟨f1, f2⟩ := pd_Fr_lv fr (a := a) (by omega) na
    obtain ⟨s1, s2⟩ := pd_St_lv st (a := c) hc nc
    refine ⟨⟨hn1, hn⟩, hB', ?_, ?_, ?_, ?_⟩
    · exact pd_St_cg s1 (fun i _ => rfl) (fun i _ => rfl) (fun i _ => rfl) (fun b hb => e2 b hb)
    · exact pd_Fr_cg f1 (fun i _ => rfl) (fun i _ => rfl) (fun i _ => rfl) (fun b hb => e1 b hb)
    · intro j hj
      by_cases h : j < 1024
      · rw [e1 j h]; exact f2 j h
      · obtain ⟨b, rfl⟩ : ∃ b, j = 1024 + b := ⟨j - 1024, by omega⟩
        rw [e2 b (by omega)]; exact s2 b (by omega)
    · intro s hs hk
      obtain ⟨k1, k2⟩ := hSv s hs hk
      have same : ∀ i, i < 10 → X' (10 * (s + 1) + i) = X (10 * (s + 1) + i) ∧ Z' (10 * (s + 1) + i) = Z (10 * (s + 1) + i) ∧ S' (10 * (s + 1) + i) = S (10 * (s + 1) + i) :=
        fun i hi => hU.2 _ (fun d => by have := d.2; unfold pd_live at this; omega)
      exact ⟨pd_St_cg k1 (fun i hi => (same i hi).1) (fun i hi => (same i hi).2.1) (fun i hi => (same i hi).2.2) (fun _ _ => rfl), k2⟩
/-- gates act on the state as on the table -/
theorem pd_1024x {b w : Nat} (hb : b < 32) (hw : w < 32) : (1024 + b) ^^^ w = 1024 + (b ^^^ w) := pd_x32l (a := 32) hb hw
theorem pd_1024d {b q : Nat} (hb : b < 32) (hq : q < 5) : pd_d (1024 + b) q = pd_d b q := pd_d32l (a := 32) hb hq
theorem pd_L_H {q : Nat} (hq : q < 5) (A : Nat → Int × Int) (b : Nat) (hb : b < 32) : pd_gH q A (1024 + b) = pd_gH q (fun b => A (1024 + b)) b := by
  unfold pd_gH
  rw [pd_1024d hb hq, pd_1024x hb (pd_pow32 hq)]
theorem pd_L_S {q : Nat} (hq : q < 5) (A : Nat → Int × Int) (b : Nat) (hb : b < 32) : pd_gS q A (1024 + b) = pd_gS q (fun b => A (1024 + b)) b := by
  unfold pd_gS
  rw [pd_1024d hb hq]
theorem pd_L_X {p q : Nat} (hp : p < 5) (hq : q < 5) (A : Nat → Int × Int) (b : Nat) (hb : b < 32) : pd_gX p q A (1024 + b) = pd_gX p q (fun b => A (1024 + b)) b := by
  unfold pd_gX
  rw [pd_1024d hb hp, pd_1024x hb (pd_dp32 (pd_d_le b p) hq)]
theorem pd_L_Z {p q : Nat} (hp : p < 5) (hq : q < 5) (A : Nat → Int × Int) (b : Nat) (hb : b < 32) : pd_gZ p q A (1024 + b) = pd_gZ p q (fun b => A (1024 + b)) b := by
  unfold pd_gZ
  rw [pd_1024d hb hp, pd_1024d hb hq]
theorem pd_L_P {x z : Nat} (hx : x < 32) (hz : z < 32) (A : Nat → Int × Int) (b : Nat) (hb : b < 32) : pd_gP x z A (1024 + b) = pd_gP x z (fun b => A (1024 + b)) b := by
  unfold pd_gP
  have e := pd_and_32 (x := 32) (z := b ^^^ x) (u := 0) (v := z) (pd_xor32 hb hx) hz
  rw [Nat.and_zero, Nat.mul_zero, Nat.zero_add, Nat.zero_add] at e
  rw [pd_1024x hb hx, e]
/-- and keep tables small -/
theorem pd_b_x {j w : Nat} (hj : j < 1056) (hw : w < 32) : j ^^^ w < 1056 := (pd_x_rng (fr := 0) (e := 33) hw (by omega) (by omega)).2
theorem pd_b_H {q : Nat} (hq : q < 5) {A : Nat → Int × Int} (h : ∀ j, j < 1056 → pd_Un (A j)) (j : Nat) (hj : j < 1056) : pd_bd 1000 (pd_gH q A j) :=
  pd_bd_le (pd_bd_ad (pd_bd_ph (pd_Un_bd (h j hj))) (pd_Un_bd (h _ (pd_b_x hj (pd_pow32 hq))))) (by decide)
theorem pd_b_S {q : Nat} {A : Nat → Int × Int} (h : ∀ j, j < 1056 → pd_Un (A j)) (j : Nat) (hj : j < 1056) : pd_bd 1000 (pd_gS q A j) :=
  pd_bd_le (pd_bd_ph (pd_Un_bd (h j hj))) (by decide)
theorem pd_b_Z {p q : Nat} {A : Nat → Int × Int} (h : ∀ j, j < 1056 → pd_Un (A j)) (j : Nat) (hj : j < 1056) : pd_bd 1000 (pd_gZ p q A j) :=
  pd_bd_le (pd_bd_ph (pd_Un_bd (h j hj))) (by decide)
theorem pd_b_X {p q : Nat} (hq : q < 5) {A : Nat → Int × Int} (h : ∀ j, j < 1056 → pd_Un (A j)) (j : Nat) (hj : j < 1056) : pd_bd 1000 (pd_gX p q A j) :=
  pd_bd_le (pd_Un_bd (h _ (pd_b_x hj (pd_dp32 (pd_d_le j p) hq)))) (by decide)
theorem pd_b_P {x z : Nat} (hx : x < 32) {A : Nat → Int × Int} (h : ∀ j, j < 1056 → pd_Un (A j)) (j : Nat) (hj : j < 1056) : pd_bd 1000 (pd_gP x z A j) :=
  pd_bd_le (pd_bd_ph (pd_Un_bd (h _ (pd_b_x hj hx)))) (by decide)
end
section
theorem pd_re_b {a v : Int × Int} (ha : pd_bd 1 a) (hv : pd_bd 1 v) : (pd_re a v).natAbs ≤ 2 := by
  have m1 := pd_mulb ha.1 hv.1
  have m2 := pd_mulb ha.2 hv.2
  unfold pd_re
  omega
section
variable {f_rules f_sumRe f_sumIm : Int32} {a_isSaved a_ruleX a_ruleZ : Nat → Int32} {n : Nat} {A N B : Nat → Int × Int}
theorem py_expect5 {post : Int32 → Prop} {x z : Nat} (hx : x < 32) (hz : z < 32) (hA : ∀ j, j < 1056 → pd_bd 1 (A j))
    (h1 : 0 < pd_si (pd_T x z (fun b => A (1024 + b))) 32 → post 1) (h0 : pd_si (pd_T x z (fun b => A (1024 + b))) 32 = 0 → post 0) (hm : pd_si (pd_T x z (fun b => A (1024 + b))) 32 < 0 → post (-1)) :
    ∀ f k, k + f = 32 → wY_expectation_5 post (nI x) (nI z) (nI n) (nI (2 ^ n)) f_rules f_sumRe f_sumIm (fun jj => pd_I (A jj).1) (fun jj => pd_I (A jj).2) (fun jj => pd_I (N jj).1) (fun jj => pd_I (N jj).2) (fun jj => pd_I (B jj).1) (fun jj => pd_I (B jj).2) a_isSaved a_ruleX a_ruleZ (f + 1) (pd_I (pd_si (pd_T x z (fun b => A (1024 + b))) k)) (nI k) := by
  intro f
  induction f with
  | zero =>
    intro k hk
    have e : k = 32 := by omega
    subst e
    refine br_t (show (32 : Int32) ≤ nI 32 by decide) ?_
    have hb : (pd_si (pd_T x z (fun b => A (1024 + b))) 32).natAbs ≤ 32 * 2 := pd_si_b (fun k hk => by
      have := pd_xor32 hk hx
      exact pd_re_b (hA _ (by omega)) (pd_bd_ph (hA _ (by omega))))
    refine ek_if (d := pd_si (pd_T x z (fun b => A (1024 + b))) 32 ≤ 0) (pd_I_le (b := 0) (by omega) (by omega) (by decide) (by decide)) (fun c => ?_) (fun c => h1 (by omega))
    exact ek_if (d := 0 ≤ pd_si (pd_T x z (fun b => A (1024 + b))) 32) (pd_I_le (a := 0) (by decide) (by decide) (by omega) (by omega)) (fun c2 => h0 (by omega)) (fun c2 => hm (by omega))
  | succ f ih =>
    intro k hk
    refine br_f (show ¬ (32 : Int32) ≤ nI k from nI_ge (b := 32) (by omega) (by decide)) ?_
    refine py_power hz ⟨by decide, ?_⟩
    have b1 := pd_on_le (x &&& z); have b2 := pd_on_le (k &&& z)
    have e4 : nI (pd_on (x &&& z) + 2 * pd_on (k &&& z)) - nI (pd_on (x &&& z) + 2 * pd_on (k &&& z)) / 4 * 4 = nI ((pd_on (x &&& z) + 2 * pd_on (k &&& z)) % 4) := pk_rem (d := 4) (by omega) (by decide) (by decide)
    refine nm_r e4 ?_
    have kx := pd_xor32 (a := k) (b := x) (by omega) hx
    have ea : (1024 : Int32) + nI k = nI (1024 + k) := nI_add 1024 k
    have eb : (1024 : Int32) + (nI k ^^^ nI x) = nI (1024 + (k ^^^ x)) := by
      rw [nx_xor]; exact nI_add 1024 _
    have hi : vp_in (nI (1024 + k)) 1056 := vp_in_nI (by omega) (by decide)
    have hj : vp_in (nI (1024 + (k ^^^ x))) 1056 := vp_in_nI (by omega) (by decide)
    rw [ea, eb, nI_clamp (n := 1024 + k) (by omega), nI_clamp (n := 1024 + (k ^^^ x)) (by omega)]
    have p1 : pd_I (A (1024 + (k ^^^ x))).1 * pd_I (A (1024 + k)).1 + pd_I (A (1024 + (k ^^^ x))).2 * pd_I (A (1024 + k)).2 = pd_I ((A (1024 + (k ^^^ x))).1 * (A (1024 + k)).1 + (A (1024 + (k ^^^ x))).2 * (A (1024 + k)).2) := by
      rw [pd_I_mul, pd_I_mul, pd_I_add]
    have p2 : pd_I (A (1024 + (k ^^^ x))).2 * pd_I (A (1024 + k)).1 - pd_I (A (1024 + (k ^^^ x))).1 * pd_I (A (1024 + k)).2 = pd_I ((A (1024 + (k ^^^ x))).2 * (A (1024 + k)).1 - (A (1024 + (k ^^^ x))).1 * (A (1024 + k)).2) := by
      rw [pd_I_mul, pd_I_mul, pd_I_sub]
    refine ⟨hi, nm_e ⟨hi, nm_e ⟨hj, nm_e ⟨hj, nm_e (nm_r p1 (nm_r p2 ?_))⟩⟩⟩⟩
    have fin : ∀ t : Int, t = pd_T x z (fun b => A (1024 + b)) k → wY_expectation_5 post (nI x) (nI z) (nI n) (nI (2 ^ n)) f_rules f_sumRe f_sumIm (fun jj => pd_I (A jj).1) (fun jj => pd_I (A jj).2) (fun jj => pd_I (N jj).1) (fun jj => pd_I (N jj).2) (fun jj => pd_I (B jj).1) (fun jj => pd_I (B jj).2) a_isSaved a_ruleX a_ruleZ (f + 1) (pd_I (pd_si (pd_T x z (fun b => A (1024 + b))) k + t)) (nI (k + 1)) := by
      intro t ht
      rw [ht]
      exact ih (k + 1) (by omega)
    rcases pd_mod4 (pd_on (x &&& z) + 2 * pd_on (k &&& z)) with c | c | c | c <;> rw [c]
    · refine br_t rfl (nm_r (pd_I_add _ _) (nm_r (nI_1 k) (fin _ ?_)))
      unfold pd_T pd_re; rw [pd_ph_0 _ c]
    · refine br_f (by decide) (br_t rfl (nm_r (pd_I_add _ _) (nm_r (nI_1 k) (fin _ ?_))))
      unfold pd_T pd_re; rw [pd_ph_1 _ c]; dsimp only; rw [Int.mul_neg]; omega
    · refine br_f (by decide) (br_f (by decide) (br_t rfl (nm_r (e' := pd_I (pd_si (pd_T x z (fun b => A (1024 + b))) k + -((A (1024 + (k ^^^ x))).1 * (A (1024 + k)).1 + (A (1024 + (k ^^^ x))).2 * (A (1024 + k)).2))) (by rw [pd_I_sub, Int.sub_eq_add_neg]) (nm_r (nI_1 k) (fin _ ?_)))))
      unfold pd_T pd_re; rw [pd_ph_2 _ c]; dsimp only; rw [Int.mul_neg, Int.mul_neg]; omega
    · refine br_f (by decide) (br_f (by decide) (br_f (by decide) (nm_r (e' := pd_I (pd_si (pd_T x z (fun b => A (1024 + b))) k + -((A (1024 + (k ^^^ x))).2 * (A (1024 + k)).1 - (A (1024 + (k ^^^ x))).1 * (A (1024 + k)).2))) (by rw [pd_I_sub, Int.sub_eq_add_neg]) (nm_r (nI_1 k) (fin _ ?_)))))
      unfold pd_T pd_re; rw [pd_ph_3 _ c]; dsimp only; rw [Int.mul_neg]; omega
theorem py_expectation {post : Int32 → Prop} {x z : Nat} (hx : x < 32) (hz : z < 32) (hA : ∀ j, j < 1056 → pd_bd 1 (A j))
    (h1 : 0 < pd_si (pd_T x z (fun b => A (1024 + b))) 32 → post 1) (h0 : pd_si (pd_T x z (fun b => A (1024 + b))) 32 = 0 → post 0) (hm : pd_si (pd_T x z (fun b => A (1024 + b))) 32 < 0 → post (-1)) :
    wpY_expectation post ((nI n), (nI (2 ^ n)), f_rules, f_sumRe, f_sumIm, (fun jj => pd_I (A jj).1), (fun jj => pd_I (A jj).2), (fun jj => pd_I (N jj).1), (fun jj => pd_I (N jj).2), (fun jj => pd_I (B jj).1), (fun jj => pd_I (B jj).2), a_isSaved, a_ruleX, a_ruleZ) (nI x) (nI z) := ⟨33, py_expect5 hx hz hA h1 h0 hm 32 0 rfl⟩
theorem py_outcome93 {post : Int32 → SY → Prop} {w : Nat} {A0 : Nat → Int × Int} (hw : w < 2)
    (h : ∀ A', pd_On (fun j => 1024 ≤ j ∧ j < 1056) (fun j => pd_ad (N (j - 1024)) (pd_ph (2 * w) (A0 j))) A0 A' → wpY_level (fun u => post (nI (w + 2)) u) ((nI n), (nI (2 ^ n)), f_rules, f_sumRe, f_sumIm, (fun jj => pd_I (A' jj).1), (fun jj => pd_I (A' jj).2), (fun jj => pd_I (N jj).1), (fun jj => pd_I (N jj).2), (fun jj => pd_I (B jj).1), (fun jj => pd_I (B jj).2), a_isSaved, a_ruleX, a_ruleZ) 32 1) :
    ∀ f k, k + f = 32 → ∀ A, pd_On (fun j => 1024 ≤ j ∧ j < 1024 + k) (fun j => pd_ad (N (j - 1024)) (pd_ph (2 * w) (A0 j))) A0 A → wY_outcome_93 post (nI w) (nI n) (nI (2 ^ n)) f_rules f_sumRe f_sumIm (f + 1) (nI k) (fun jj => pd_I (A jj).1) (fun jj => pd_I (A jj).2) (fun jj => pd_I (N jj).1) (fun jj => pd_I (N jj).2) (fun jj => pd_I (B jj).1) (fun jj => pd_I (B jj).2) a_isSaved a_ruleX a_ruleZ := by
  intro f
  induction f with
  | zero =>
    intro k hk A hO
    have e : k = 32 := by omega
    subst e
    refine br_t (show (32 : Int32) ≤ nI 32 by decide) ?_
    have e2 : nI w + 2 = nI (w + 2) := nI_add w 2
    rw [e2]
    exact h A hO
  | succ f ih =>
    intro k hk A hO
    refine br_f (show ¬ (32 : Int32) ≤ nI k from nI_ge (b := 32) (by omega) (by decide)) ?_
    have ea : (1024 : Int32) + nI k = nI (1024 + k) := nI_add 1024 k
    have hi : vp_in (nI (1024 + k)) 1056 := vp_in_nI (by omega) (by decide)
    have hi2 : vp_in (nI k) 1056 := vp_in_nI (by omega) (by decide)
    have ec : (nI (1024 + k)).toNatClampNeg = 1024 + k := nI_clamp (by omega)
    have ec2 : (nI k).toNatClampNeg = k := nI_clamp (by omega)
    have eA := hO.2 (1024 + k) (fun c => by omega)
    have es : 1024 + k - 1024 = k := by omega
    have nx := ih (k + 1) (by omega) (pd_v A (1024 + k) (pd_ad (N (1024 + k - 1024)) (pd_ph (2 * w) (A0 (1024 + k))))) (pd_On_D (pd_On_s hO (1024 + k)) (fun j => by omega))
    rw [es] at nx
    rw [ea, ec, ec2]
    have w01 : w = 0 ∨ w = 1 := by omega
    rcases w01 with rfl | rfl
    · refine br_t rfl ⟨hi2, hi, ?_⟩
      unfold wY_outcome_156
      rw [ea, ec, ec2]
      refine ⟨hi, nm_r (py_up1 A (1024 + k) (pd_ad (N k) (pd_ph (2 * 0) (A0 (1024 + k)))) ?_) (br_t rfl ⟨hi2, hi, hi, nm_r (py_up2 A (1024 + k) (pd_ad (N k) (pd_ph (2 * 0) (A0 (1024 + k)))) ?_) (nm_r (nI_1 k) nx)⟩)⟩
      · unfold pd_ad; rw [pd_ph_0 _ rfl, ← eA]; exact pd_I_add _ _
      · unfold pd_ad; rw [pd_ph_0 _ rfl, ← eA]; exact pd_I_add _ _
    · refine br_f (by decide) ⟨hi2, hi, ?_⟩
      unfold wY_outcome_156
      rw [ea, ec, ec2]
      refine ⟨hi, nm_r (py_up1 A (1024 + k) (pd_ad (N k) (pd_ph (2 * 1) (A0 (1024 + k)))) ?_) (br_f (by decide) ⟨hi2, hi, hi, nm_r (py_up2 A (1024 + k) (pd_ad (N k) (pd_ph (2 * 1) (A0 (1024 + k)))) ?_) (nm_r (nI_1 k) nx)⟩)⟩
      · unfold pd_ad; rw [pd_ph_2 _ rfl, ← eA]; exact (pd_I_sub _ _).trans (by rw [Int.sub_eq_add_neg])
      · unfold pd_ad; rw [pd_ph_2 _ rfl, ← eA]; exact (pd_I_sub _ _).trans (by rw [Int.sub_eq_add_neg])
theorem py_outcome32 {post : Int32 → SY → Prop} {x z w : Nat} (hw : w < 2) (hx : x < 32) (hz : z < 32)
    (h : ∀ A' N' : Nat → Int × Int, (∀ j, j < 1024 → A' j = A j) → (∀ b, b < 32 → A' (1024 + b) = pd_mz w x z (fun b => A (1024 + b)) b) → wpY_level (fun u => post (nI (w + 2)) u) ((nI n), (nI (2 ^ n)), f_rules, f_sumRe, f_sumIm, (fun jj => pd_I (A' jj).1), (fun jj => pd_I (A' jj).2), (fun jj => pd_I (N' jj).1), (fun jj => pd_I (N' jj).2), (fun jj => pd_I (B jj).1), (fun jj => pd_I (B jj).2), a_isSaved, a_ruleX, a_ruleZ) 32 1) :
    ∀ f k, k + f = 32 → ∀ N : Nat → Int × Int, (∀ j, j < k → N j = A (1024 + j)) → wY_outcome_32 post (nI x) (nI z) (nI w) (nI n) (nI (2 ^ n)) f_rules f_sumRe f_sumIm (f + 1) (nI k) (fun jj => pd_I (A jj).1) (fun jj => pd_I (A jj).2) (fun jj => pd_I (N jj).1) (fun jj => pd_I (N jj).2) (fun jj => pd_I (B jj).1) (fun jj => pd_I (B jj).2) a_isSaved a_ruleX a_ruleZ := by
  intro f
  induction f with
  | zero =>
    intro k hk N hN
    have e : k = 32 := by omega
    subst e
    refine br_t (show (32 : Int32) ≤ nI 32 by decide) ?_
    refine py_apply (fr := 32) (mn := 1) rfl rfl (by decide) hx hz (fun A1 N1 hO hN1 => ⟨33, ?_⟩)
    refine py_outcome93 hw (fun A' hO' => h A' N1 ?_ ?_) 32 0 rfl A1 (pd_On_0 (fun j => by omega))
    · intro j hj
      rw [hO'.2 j (fun c => by omega), hO.2 j (fun c => by omega)]
    · intro b hb
      have e1 := hO'.1 (1024 + b) ⟨by omega, by omega⟩
      have e2 := hO.1 (1024 + b) ⟨by omega, by omega⟩
      dsimp only at e1
      rw [e1, e2, show 1024 + b - 1024 = b by omega, hN1 b (by omega), hN b hb, pd_L_P hx hz A b hb]
      rfl
  | succ f ih =>
    intro k hk N hN
    refine br_f (show ¬ (32 : Int32) ≤ nI k from nI_ge (b := 32) (by omega) (by decide)) ?_
    have ea : (1024 : Int32) + nI k = nI (1024 + k) := nI_add 1024 k
    have hi : vp_in (nI (1024 + k)) 1056 := vp_in_nI (by omega) (by decide)
    have hi2 : vp_in (nI k) 1056 := vp_in_nI (by omega) (by decide)
    rw [ea, nI_clamp (n := 1024 + k) (by omega), nI_clamp (n := k) (by omega)]
    refine ⟨hi, hi2, nm_r (py_up1 N k (A (1024 + k)) rfl) ⟨hi, hi2, nm_r (py_up2 N k (A (1024 + k)) rfl) (nm_r (nI_1 k) (ih (k + 1) (by omega) _ ?_))⟩⟩
    intro j hj
    by_cases e : j = k
    · rw [e, pd_v_s]
    · rw [pd_v_n e]; exact hN j (by omega)
end
end
section
/-- the first states -/
theorem pd_Sg_s {X Z S : Nat → Nat} {o : Nat} (h : pd_Sg X Z S o 5) : ∀ i, i < 10 → X (o + i) = pd_sx i ∧ Z (o + i) = pd_sz i ∧ S (o + i) = 0 := by
  intro i hi
  unfold pd_sx pd_sz
  by_cases c : i < 5
  · obtain ⟨a, b, d, _⟩ := h i c
    rw [if_pos c, if_pos c]; exact ⟨a, b, d⟩
  · obtain ⟨k, rfl⟩ : ∃ k, i = 5 + k := ⟨i - 5, by omega⟩
    obtain ⟨_, _, _, a, b, d⟩ := h k (by omega)
    rw [if_neg c, if_neg c, Nat.add_sub_cancel_left]; exact ⟨a, b, d⟩
theorem pd_Sg_b {X Z S : Nat → Nat} {o : Nat} (h : pd_Sg X Z S o 5) : pd_Bd X Z S o := by
  intro i hi
  obtain ⟨a, b, c⟩ := pd_Sg_s h i hi
  rw [a, b, c]
  exact ⟨(pd_s_lt i hi).1, (pd_s_lt i hi).2, by decide⟩
theorem pd_St_0 {n : Nat} {X Z S : Nat → Nat} {o : Nat} {V : Nat → Int × Int} (h : pd_Sg X Z S o 5) (hV : ∀ b, b < 32 → V b = if b = 0 then (1, 0) else (0, 0)) : pd_St n X Z S o V := by
  refine ⟨pd_Sg_b h, ?_, ?_, ?_, ?_⟩
  · intro i j hi hj
    obtain ⟨a, b, _⟩ := pd_Sg_s h i hi
    obtain ⟨a', b', _⟩ := pd_Sg_s h j hj
    rw [a, b, a', b']; exact pd_s_cl i hi j hj
  · refine ⟨0, by decide, ?_⟩
    rw [hV 0 (by decide), if_pos rfl]; decide
  · intro q hq
    obtain ⟨_, _, _, a, b, c⟩ := h q hq
    unfold pd_Rw
    rw [a, b, c, Nat.zero_and, pd_on_0]
    intro k hk
    rw [Nat.xor_zero, hV k hk]
    by_cases e : k = 0
    · rw [if_pos e, e, Nat.zero_and, pd_on_0]; rfl
    · rw [if_neg e, pd_ph_z]
  · intro q _ hq
    obtain ⟨a, b, _, c, d, e⟩ := h q hq
    exact ⟨a, b, c, d, e⟩
theorem pd_Fr_0 {n : Nat} {X Z S : Nat → Nat} {o : Nat} {U : Nat → Int × Int} (h : pd_Sg X Z S o 5) (hU : ∀ b, b < 1024 → U b = if b / 32 = b % 32 then (1, 0) else (0, 0)) : pd_Fr n X Z S o U := by
  refine ⟨pd_Sg_b h, ?_, ?_, ?_⟩
  · refine ⟨0, by decide, ?_⟩
    rw [hU 0 (by decide), if_pos rfl]; decide
  · intro i hi
    obtain ⟨a, b, c⟩ := pd_Sg_s h i hi
    obtain ⟨s1, s2⟩ := pd_s_lt i hi
    rw [a, b, c]
    intro k hk
    obtain ⟨x, y, hx, hy, rfl⟩ := pd_split32 hk
    have o0 : pd_on (pd_sx i &&& pd_sz i) = 0 := (show ∀ i, i < 10 → pd_on (pd_sx i &&& pd_sz i) = 0 by decide) i hi
    rw [pd_xor_32 hy s1, hU _ (pd_lt1024 (pd_xor32 hx s1) (pd_xor32 hy s1)), hU _ hk, o0, pd_on_and_32 hx hy s2]
    have l1 := pd_xor32 hx s1
    have l2 := pd_xor32 hy s1
    have d1 : (32 * (x ^^^ pd_sx i) + (y ^^^ pd_sx i)) / 32 = x ^^^ pd_sx i := by omega
    have d2 : (32 * (x ^^^ pd_sx i) + (y ^^^ pd_sx i)) % 32 = y ^^^ pd_sx i := by omega
    have d3 : (32 * x + y) / 32 = x := by omega
    have d4 : (32 * x + y) % 32 = y := by omega
    rw [d1, d2, d3, d4]
    by_cases e : x = y
    · subst e
      rw [if_pos rfl, if_pos rfl]
      exact (pd_ph_0 _ (by omega)).symm
    · rw [if_neg (fun c => e (by rw [← pd_xx x (pd_sx i), c, pd_xx])), if_neg e, pd_ph_z]
  · intro q _ hq
    obtain ⟨a, b, c, d, e, f⟩ := h q hq
    exact ⟨a, b, c, d, e, f⟩
theorem pd_Un_0 : pd_Un (0, 0) := Or.inl rfl
theorem pd_Un_1 : pd_Un (1, 0) := Or.inr ⟨0, (pd_ph_0 _ rfl).symm⟩
theorem pd_Un_if {c : Prop} [Decidable c] : pd_Un (if c then (1, 0) else (0, 0)) := by
  by_cases h : c
  · rw [if_pos h]; exact pd_Un_1
  · rw [if_neg h]; exact pd_Un_0
/-- the state alone is another one -/
theorem pd_Inv_st {n : Nat} {X Z S X' Z' S' : Nat → Nat} {A A' B : Nat → Int × Int} {K : Nat → Int32} (hI : pd_Inv n X Z S A B K) (hSt : pd_St n X' Z' S' 0 (fun b => A' (1024 + b))) (hUn : ∀ b, b < 32 → pd_Un (A' (1024 + b)))
    (hs : pd_Same X Z S X' Z' S' 0) (hA : ∀ j, j < 1024 → A' j = A j) : pd_Inv n X' Z' S' A' B K := by
  obtain ⟨hn, hB, _, hFr, hU, hSv⟩ := hI
  refine ⟨hn, pd_Bn_of hB hs hSt.1, hSt, ?_, ?_, ?_⟩
  · have s := fun i => hs (50 + i) (Or.inr (by omega))
    exact pd_Fr_cg hFr (fun i _ => (s i).1) (fun i _ => (s i).2.1) (fun i _ => (s i).2.2) hA
  · intro j hj
    by_cases h : j < 1024
    · rw [hA j h]; exact hU j hj
    · obtain ⟨b, rfl⟩ : ∃ b, j = 1024 + b := ⟨j - 1024, by omega⟩
      exact hUn b (by omega)
  · intro t ht hk
    obtain ⟨k1, k2⟩ := hSv t ht hk
    have s := fun i => hs (10 * (t + 1) + i) (Or.inr (by omega))
    exact ⟨pd_St_cg k1 (fun i _ => (s i).1) (fun i _ => (s i).2.1) (fun i _ => (s i).2.2) (fun _ _ => rfl), k2⟩
theorem pd_Inv_lv {n : Nat} {X Z S X' Z' S' : Nat → Nat} {A A' B V : Nat → Int × Int} {K : Nat → Int32} (hI : pd_Inv n X Z S A B K) (hSt : pd_St n X' Z' S' 0 V)
    (hs : pd_Same X Z S X' Z' S' 0) (hA : ∀ j, j < 1024 → A' j = A j) {c : Nat} (hc : c < 32) (hn : V c ≠ (0, 0)) (hV : ∀ b, b < 32 → A' (1024 + b) = pd_lv (V c) (V b)) : pd_Inv n X' Z' S' A' B K := by
  obtain ⟨s1, s2⟩ := pd_St_lv hSt hc hn
  exact pd_Inv_st hI (pd_St_cg s1 (fun _ _ => rfl) (fun _ _ => rfl) (fun _ _ => rfl) hV) (fun b hb => by rw [hV b hb]; exact s2 b hb) hs hA
/-- the frame alone is another one -/
theorem pd_Inv_fr {n : Nat} {X Z S X' Z' S' : Nat → Nat} {A A' B : Nat → Int × Int} {K : Nat → Int32} (hI : pd_Inv n X Z S A B K) (hFr : pd_Fr n X' Z' S' 50 A') (hUn : ∀ b, b < 1024 → pd_Un (A' b))
    (hs : pd_Same X Z S X' Z' S' 50) (hA : ∀ j, 1024 ≤ j → A' j = A j) : pd_Inv n X' Z' S' A' B K := by
  obtain ⟨hn, hB, hSt, _, hU, hSv⟩ := hI
  refine ⟨hn, pd_Bn_of hB hs hFr.1, ?_, hFr, ?_, ?_⟩
  · have s := fun i (hi : i < 10) => hs (0 + i) (Or.inl (by omega))
    exact pd_St_cg hSt (fun i hi => (s i hi).1) (fun i hi => (s i hi).2.1) (fun i hi => (s i hi).2.2) (fun b _ => hA _ (by omega))
  · intro j hj
    by_cases h : j < 1024
    · exact hUn j h
    · rw [hA j (by omega)]; exact hU j hj
  · intro t ht hk
    obtain ⟨k1, k2⟩ := hSv t ht hk
    have s := fun i (hi : i < 10) => hs (10 * (t + 1) + i) (Or.inl (by omega))
    exact ⟨pd_St_cg k1 (fun i hi => (s i hi).1) (fun i hi => (s i hi).2.1) (fun i hi => (s i hi).2.2) (fun _ _ => rfl), k2⟩
/-- a bank for trials alone is another one -/
theorem pd_Inv_tr {n : Nat} {X Z S X' Z' S' : Nat → Nat} {A B : Nat → Int × Int} {K : Nat → Int32} (hI : pd_Inv n X Z S A B K) (hB' : pd_Bn X' Z' S') (hs : pd_Same X Z S X' Z' S' 40) : pd_Inv n X' Z' S' A B K := by
  obtain ⟨hn, hB, hSt, hFr, hU, hSv⟩ := hI
  refine ⟨hn, hB', ?_, ?_, hU, ?_⟩
  · have s := fun i (hi : i < 10) => hs (0 + i) (Or.inl (by omega))
    exact pd_St_cg hSt (fun i hi => (s i hi).1) (fun i hi => (s i hi).2.1) (fun i hi => (s i hi).2.2) (fun _ _ => rfl)
  · have s := fun i => hs (50 + i) (Or.inr (by omega))
    exact pd_Fr_cg hFr (fun i _ => (s i).1) (fun i _ => (s i).2.1) (fun i _ => (s i).2.2) (fun _ _ => rfl)
  · intro t ht hk
    obtain ⟨k1, k2⟩ := hSv t ht hk
    have s := fun i (hi : i < 10) => hs (10 * (t + 1) + i) (Or.inl (by omega))
    exact ⟨pd_St_cg k1 (fun i hi => (s i hi).1) (fun i hi => (s i hi).2.1) (fun i hi => (s i hi).2.2) (fun _ _ => rfl), k2⟩
end
section
theorem pd_mz_b {w x z : Nat} {V : Nat → Int × Int} (hx : x < 32) (hV : ∀ b, b < 32 → pd_bd 1 (V b)) (b : Nat) (hb : b < 32) : pd_bd 1000 (pd_mz w x z V b) :=
  pd_bd_le (pd_bd_ad (hV b hb) (pd_bd_ph (pd_bd_ph (hV _ (pd_xor32 hb hx))))) (by decide)
section
variable {f_rules f_sumRe f_sumIm : Int32} {a_isSaved a_ruleX a_ruleZ : Nat → Int32} {n : Nat} {A N B : Nat → Int × Int}
theorem py_out_det {post : Int32 → SY → Prop} {x z sg : Nat} {want : Int32} (hx : x < 32) (hz : z < 32) (hU : ∀ j, j < 1056 → pd_Un (A j)) (hN : pd_Nz 5 (fun b => A (1024 + b))) (hs : sg < 2)
    (hF : pd_Fx 5 (pd_on (x &&& z) + 2 * sg) x z (fun b => A (1024 + b))) (h : post (nI sg) ((nI n), (nI (2 ^ n)), f_rules, f_sumRe, f_sumIm, (fun jj => pd_I (A jj).1), (fun jj => pd_I (A jj).2), (fun jj => pd_I (N jj).1), (fun jj => pd_I (N jj).2), (fun jj => pd_I (B jj).1), (fun jj => pd_I (B jj).2), a_isSaved, a_ruleX, a_ruleZ)) : wpY_outcome post ((nI n), (nI (2 ^ n)), f_rules, f_sumRe, f_sumIm, (fun jj => pd_I (A jj).1), (fun jj => pd_I (A jj).2), (fun jj => pd_I (N jj).1), (fun jj => pd_I (N jj).2), (fun jj => pd_I (B jj).1), (fun jj => pd_I (B jj).2), a_isSaved, a_ruleX, a_ruleZ) (nI x) (nI z) want := by
  unfold wpY_outcome
  dsimp only
  have e := pd_E_fx hs hF
  have p := pd_nrm_pos hN
  have s01 : sg = 0 ∨ sg = 1 := by omega
  refine py_expectation hx hz (fun j hj => pd_Un_bd (hU j hj)) (fun c => ?_) (fun c => ?_) (fun c => ?_)
  · rcases s01 with rfl | rfl
    · exact br_f (by decide) (br_f (by decide) h)
    · rw [if_neg (by decide)] at e; omega
  · rcases s01 with rfl | rfl
    · rw [if_pos rfl] at e; omega
    · rw [if_neg (by decide)] at e; omega
  · rcases s01 with rfl | rfl
    · rw [if_pos rfl] at e; omega
    · exact br_f (by decide) (br_t (by decide) h)
theorem py_out_opn {post : Int32 → SY → Prop} {x z w : Nat} {want : Int32} (hx : x < 32) (hz : z < 32) (hU : ∀ j, j < 1056 → pd_Un (A j)) (hN : pd_Nz 5 (fun b => A (1024 + b))) (hw : w < 2) (hwant : want &&& 1 = nI w)
    (hF : ∃ p u v, u < 32 ∧ v < 32 ∧ pd_Fx 5 p u v (fun b => A (1024 + b)) ∧ pd_cl u v x z = 1)
    (h : ∀ (A' N' : Nat → Int × Int) (c : Nat), (∀ j, j < 1024 → A' j = A j) → c < 32 → pd_mz w x z (fun b => A (1024 + b)) c ≠ (0, 0) →
      (∀ b, b < 32 → A' (1024 + b) = pd_lv (pd_mz w x z (fun b => A (1024 + b)) c) (pd_mz w x z (fun b => A (1024 + b)) b)) → post (nI (w + 2)) ((nI n), (nI (2 ^ n)), f_rules, f_sumRe, f_sumIm, (fun jj => pd_I (A' jj).1), (fun jj => pd_I (A' jj).2), (fun jj => pd_I (N' jj).1), (fun jj => pd_I (N' jj).2), (fun jj => pd_I (B jj).1), (fun jj => pd_I (B jj).2), a_isSaved, a_ruleX, a_ruleZ)) :
    wpY_outcome post ((nI n), (nI (2 ^ n)), f_rules, f_sumRe, f_sumIm, (fun jj => pd_I (A jj).1), (fun jj => pd_I (A jj).2), (fun jj => pd_I (N jj).1), (fun jj => pd_I (N jj).2), (fun jj => pd_I (B jj).1), (fun jj => pd_I (B jj).2), a_isSaved, a_ruleX, a_ruleZ) (nI x) (nI z) want := by
  obtain ⟨p, u, v, hu, hv, hf, hc⟩ := hF
  unfold wpY_outcome
  dsimp only
  have e := pd_E_cl hu hx hf hc
  refine py_expectation hx hz (fun j hj => pd_Un_bd (hU j hj)) (fun c => by omega) (fun c => ?_) (fun c => by omega)
  refine br_t rfl (nm_r hwant ⟨33, ?_⟩)
  refine py_outcome32 hw hx hz (fun A1 N1 hA1 hm => ?_) 32 0 rfl N (fun j hj => by omega)
  have nz : pd_Nz 5 (pd_mz w x z (fun b => A (1024 + b))) := pd_Nz_mz (N := 5) hN hu hx hc hf
  refine py_level (fr := 32) (mn := 1) rfl rfl (by decide) (by decide) ?_ ?_ ?_
  · intro j h1 h2
    obtain ⟨b, rfl⟩ : ∃ b, j = 1024 + b := ⟨j - 1024, by omega⟩
    rw [hm b (by omega)]
    exact pd_mz_b hx (fun b hb => pd_Un_bd (hU (1024 + b) (by omega))) b (by omega)
  · obtain ⟨b, hb, hn⟩ := nz
    exact ⟨b, hb, by rw [hm b hb]; exact hn⟩
  · intro a A2 h1 h2 h3 hO
    obtain ⟨c, rfl⟩ : ∃ c, a = 1024 + c := ⟨a - 1024, by omega⟩
    rw [hm c (by omega)] at h3
    refine h A2 N1 c ?_ (by omega) h3 ?_
    · intro j hj
      rw [hO.2 j (fun c => by omega), hA1 j hj]
    · intro b hb
      have := hO.1 (1024 + b) ⟨by omega, by omega⟩
      dsimp only at this
      rw [this, hm b hb, hm c (by omega)]
end
end
section
section
variable {f_rules f_sumRe f_sumIm : Int32} {a_isSaved a_ruleX a_ruleZ : Nat → Int32} {n : Nat} {A N B : Nat → Int × Int}
theorem py_back24 {post : SY → Prop} {J2 : Int32 → (Nat → Int32) → (Nat → Int32) → (Nat → Int32) → (Nat → Int32) → (Nat → Int32) → (Nat → Int32) → (Nat → Int32) → (Nat → Int32) → (Nat → Int32) → Prop} {b : Nat} {N0 : Nat → Int × Int} (hb : b < 32)
    (h : J2 (nI (b + 1)) (fun jj => pd_I (A jj).1) (fun jj => pd_I (A jj).2) (fun jj => pd_I ((pd_v N0 b (pd_bk A (fun j => A (1024 + j)) b)) jj).1) (fun jj => pd_I ((pd_v N0 b (pd_bk A (fun j => A (1024 + j)) b)) jj).2) (fun jj => pd_I (B jj).1) (fun jj => pd_I (B jj).2) a_isSaved a_ruleX a_ruleZ) :
    ∀ f j, j + f = 32 → wY_back_24 post J2 (nI b) (nI n) (nI (2 ^ n)) f_rules f_sumRe f_sumIm (f + 1) (nI j) (fun jj => pd_I (A jj).1) (fun jj => pd_I (A jj).2) (fun jj => pd_I ((pd_v N0 b (pd_sg (fun j => pd_ip (A (32 * b + j)) (A (1024 + j))) j)) jj).1) (fun jj => pd_I ((pd_v N0 b (pd_sg (fun j => pd_ip (A (32 * b + j)) (A (1024 + j))) j)) jj).2) (fun jj => pd_I (B jj).1) (fun jj => pd_I (B jj).2) a_isSaved a_ruleX a_ruleZ := by
  intro f
  induction f with
  | zero =>
    intro j hj
    have e : j = 32 := by omega
    subst e
    exact br_t (show (32 : Int32) ≤ nI 32 by decide) (nm_r (nI_1 b) h)
  | succ f ih =>
    intro j hj
    refine br_f (show ¬ (32 : Int32) ≤ nI j from nI_ge (b := 32) (by omega) (by decide)) ?_
    have e1 : (32 : Int32) * nI b + nI j = nI (32 * b + j) := by
      show nI 32 * nI b + nI j = _
      rw [pk_mul, nI_add]
    have e2 : (1024 : Int32) + nI j = nI (1024 + j) := nI_add 1024 j
    refine nm_r e1 ?_
    have i1 : vp_in (nI b) 1056 := vp_in_nI (by omega) (by decide)
    have i2 : vp_in (nI (32 * b + j)) 1056 := vp_in_nI (by omega) (by decide)
    have i3 : vp_in (nI (1024 + j)) 1056 := vp_in_nI (by omega) (by decide)
    rw [e2, nI_clamp (n := b) (by omega), nI_clamp (n := 32 * b + j) (by omega), nI_clamp (n := 1024 + j) (by omega)]
    have ev : ∀ w w' : Int × Int, pd_v (pd_v N0 b w) b w' = pd_v N0 b w' := by
      intro w w'
      funext i
      unfold pd_v
      split <;> rfl
    have u1 := py_up1 (pd_v N0 b (pd_sg (fun j => pd_ip (A (32 * b + j)) (A (1024 + j))) j)) b (t := pd_I (pd_sg (fun j => pd_ip (A (32 * b + j)) (A (1024 + j))) j).1 + pd_I (A (32 * b + j)).1 * pd_I (A (1024 + j)).1 + pd_I (A (32 * b + j)).2 * pd_I (A (1024 + j)).2) (pd_sg (fun j => pd_ip (A (32 * b + j)) (A (1024 + j))) (j + 1)) (by
      rw [pd_I_mul, pd_I_mul, pd_I_add, pd_I_add, Int.add_assoc]; rfl)
    have u2 := py_up2 (pd_v N0 b (pd_sg (fun j => pd_ip (A (32 * b + j)) (A (1024 + j))) j)) b (t := pd_I (pd_sg (fun j => pd_ip (A (32 * b + j)) (A (1024 + j))) j).2 + pd_I (A (32 * b + j)).1 * pd_I (A (1024 + j)).2 - pd_I (A (32 * b + j)).2 * pd_I (A (1024 + j)).1) (pd_sg (fun j => pd_ip (A (32 * b + j)) (A (1024 + j))) (j + 1)) (by
      rw [pd_I_mul, pd_I_mul, pd_I_add, pd_I_sub, Int.add_sub_assoc]; rfl)
    rw [ev] at u1 u2
    refine ⟨i1, i2, i3, i2, i3, i1, nm_r ?_ ⟨i1, i2, i3, i2, i3, i1, nm_r ?_ (nm_r (nI_1 j) (ih (j + 1) (by omega)))⟩⟩
    · dsimp only
      rw [pd_v_s]
      exact u1
    · dsimp only
      rw [pd_v_s]
      exact u2
theorem py_back147 {post : SY → Prop} {A0 : Nat → Int × Int}
    (h : ∀ A', pd_On (fun j => 1024 ≤ j ∧ j < 1056) (fun j => N (j - 1024)) A0 A' → wpY_level (fun u => wpY_frame post u) ((nI n), (nI (2 ^ n)), f_rules, f_sumRe, f_sumIm, (fun jj => pd_I (A' jj).1), (fun jj => pd_I (A' jj).2), (fun jj => pd_I (N jj).1), (fun jj => pd_I (N jj).2), (fun jj => pd_I (B jj).1), (fun jj => pd_I (B jj).2), a_isSaved, a_ruleX, a_ruleZ) 32 1) :
    ∀ f k, k + f = 32 → ∀ A, pd_On (fun j => 1024 ≤ j ∧ j < 1024 + k) (fun j => N (j - 1024)) A0 A → wY_back_147 post (nI n) (nI (2 ^ n)) f_rules f_sumRe f_sumIm (f + 1) (nI k) (fun jj => pd_I (A jj).1) (fun jj => pd_I (A jj).2) (fun jj => pd_I (N jj).1) (fun jj => pd_I (N jj).2) (fun jj => pd_I (B jj).1) (fun jj => pd_I (B jj).2) a_isSaved a_ruleX a_ruleZ := by
  intro f
  induction f with
  | zero =>
    intro k hk A hO
    have e : k = 32 := by omega
    subst e
    exact br_t (show (32 : Int32) ≤ nI 32 by decide) (h A hO)
  | succ f ih =>
    intro k hk A hO
    refine br_f (show ¬ (32 : Int32) ≤ nI k from nI_ge (b := 32) (by omega) (by decide)) ?_
    have ea : (1024 : Int32) + nI k = nI (1024 + k) := nI_add 1024 k
    have hi : vp_in (nI (1024 + k)) 1056 := vp_in_nI (by omega) (by decide)
    have hi2 : vp_in (nI k) 1056 := vp_in_nI (by omega) (by decide)
    rw [ea, nI_clamp (n := 1024 + k) (by omega), nI_clamp (n := k) (by omega)]
    have nx := ih (k + 1) (by omega) (pd_v A (1024 + k) (N (1024 + k - 1024))) (pd_On_D (pd_On_s hO (1024 + k)) (fun j => by omega))
    rw [show 1024 + k - 1024 = k by omega] at nx
    exact ⟨hi2, hi, nm_r (py_up1 A (1024 + k) (N k) rfl) ⟨hi2, hi, nm_r (py_up2 A (1024 + k) (N k) rfl) (nm_r (nI_1 k) nx)⟩⟩
theorem py_back2 {post : SY → Prop}
    (h : ∀ A' N' : Nat → Int × Int, (∀ b, b < 32 → A' (1024 + b) = pd_bk A (fun j => A (1024 + j)) b) → (∀ j, j < 1024 → A' j = A j) → wpY_level (fun u => wpY_frame post u) ((nI n), (nI (2 ^ n)), f_rules, f_sumRe, f_sumIm, (fun jj => pd_I (A' jj).1), (fun jj => pd_I (A' jj).2), (fun jj => pd_I (N' jj).1), (fun jj => pd_I (N' jj).2), (fun jj => pd_I (B jj).1), (fun jj => pd_I (B jj).2), a_isSaved, a_ruleX, a_ruleZ) 32 1) :
    ∀ f b, b + f = 32 → ∀ N : Nat → Int × Int, (∀ i, i < b → N i = pd_bk A (fun j => A (1024 + j)) i) → wY_back_2 post (nI n) (nI (2 ^ n)) f_rules f_sumRe f_sumIm (f + 1) (nI b) (fun jj => pd_I (A jj).1) (fun jj => pd_I (A jj).2) (fun jj => pd_I (N jj).1) (fun jj => pd_I (N jj).2) (fun jj => pd_I (B jj).1) (fun jj => pd_I (B jj).2) a_isSaved a_ruleX a_ruleZ := by
  intro f
  induction f with
  | zero =>
    intro b hb N hN
    have e : b = 32 := by omega
    subst e
    refine br_t (show (32 : Int32) ≤ nI 32 by decide) ⟨33, ?_⟩
    refine py_back147 (fun A' hO => h A' N ?_ ?_) 32 0 rfl A (pd_On_0 (fun j => by omega))
    · intro b hb
      have := hO.1 (1024 + b) ⟨by omega, by omega⟩
      dsimp only at this
      rw [this, show 1024 + b - 1024 = b by omega, hN b hb]
    · intro j hj
      exact hO.2 j (fun c => by omega)
  | succ f ih =>
    intro b hb N hN
    refine br_f (show ¬ (32 : Int32) ≤ nI b from nI_ge (b := 32) (by omega) (by decide)) ?_
    have hi : vp_in (nI b) 1056 := vp_in_nI (by omega) (by decide)
    rw [nI_clamp (n := b) (by omega)]
    refine ⟨hi, nm_r (py_up1 N b (pd_sg (fun j => pd_ip (A (32 * b + j)) (A (1024 + j))) 0) rfl) ⟨hi, nm_r (py_up2 N b (pd_sg (fun j => pd_ip (A (32 * b + j)) (A (1024 + j))) 0) rfl) ⟨33, ?_⟩⟩⟩
    refine py_back24 (by omega) ?_ 32 0 rfl
    refine ih (b + 1) (by omega) _ ?_
    intro i hi
    by_cases e : i = b
    · rw [e, pd_v_s]
    · rw [pd_v_n e]; exact hN i (by omega)
theorem py_back {post : SY → Prop} (hnz : pd_Nz 5 (pd_bk A (fun j => A (1024 + j)))) (hbd : ∀ b, b < 32 → pd_bd 1000 (pd_bk A (fun j => A (1024 + j)) b))
    (h : ∀ (A' N' : Nat → Int × Int) (c : Nat), c < 32 → pd_bk A (fun j => A (1024 + j)) c ≠ (0, 0) → (∀ b, b < 32 → A' (1024 + b) = pd_lv (pd_bk A (fun j => A (1024 + j)) c) (pd_bk A (fun j => A (1024 + j)) b)) →
      (∀ b, b < 1024 → A' b = if b / 32 = b % 32 then (1, 0) else (0, 0)) → post ((nI n), (nI (2 ^ n)), f_rules, f_sumRe, f_sumIm, (fun jj => pd_I (A' jj).1), (fun jj => pd_I (A' jj).2), (fun jj => pd_I (N' jj).1), (fun jj => pd_I (N' jj).2), (fun jj => pd_I (B jj).1), (fun jj => pd_I (B jj).2), a_isSaved, a_ruleX, a_ruleZ)) : wpY_back post ((nI n), (nI (2 ^ n)), f_rules, f_sumRe, f_sumIm, (fun jj => pd_I (A jj).1), (fun jj => pd_I (A jj).2), (fun jj => pd_I (N jj).1), (fun jj => pd_I (N jj).2), (fun jj => pd_I (B jj).1), (fun jj => pd_I (B jj).2), a_isSaved, a_ruleX, a_ruleZ) := by
  refine ⟨33, py_back2 (fun A1 N1 e1 e2 => ?_) 32 0 rfl N (fun i hi => absurd hi (Nat.not_lt_zero i))⟩
  refine py_level (fr := 32) (mn := 1) rfl rfl (by decide) (by decide) ?_ ?_ ?_
  · intro j h1 h2
    obtain ⟨b, rfl⟩ : ∃ b, j = 1024 + b := ⟨j - 1024, by omega⟩
    rw [e1 b (by omega)]; exact hbd b (by omega)
  · obtain ⟨b, hb, hn⟩ := hnz
    exact ⟨b, hb, by rw [e1 b hb]; exact hn⟩
  · intro a A2 h1 h2 h3 hO
    obtain ⟨c, rfl⟩ : ∃ c, a = 1024 + c := ⟨a - 1024, by omega⟩
    rw [e1 c (by omega)] at h3
    refine py_frame (fun A3 hO3 => h A3 N1 c (by omega) h3 ?_ (fun b hb => hO3.1 b hb))
    intro b hb
    rw [hO3.2 (1024 + b) (fun c => by omega)]
    have := hO.1 (1024 + b) ⟨by omega, by omega⟩
    dsimp only at this
    rw [this, e1 b hb, e1 c (by omega)]
end
theorem pd_bk_b {U V : Nat → Int × Int} (hU : ∀ j, j < 1024 → pd_bd 1 (U j)) (hV : ∀ j, j < 32 → pd_bd 1 (V j)) (b : Nat) (hb : b < 32) : pd_bd 1000 (pd_bk U V b) := by
  have t : ∀ j, j < 32 → (pd_ip (U (32 * b + j)) (V j)).1.natAbs ≤ 2 ∧ (pd_ip (U (32 * b + j)) (V j)).2.natAbs ≤ 2 := by
    intro j hj
    have u := hU (32 * b + j) (by omega)
    have v := hV j hj
    have m1 := pd_mulb u.1 v.1
    have m2 := pd_mulb u.2 v.2
    have m3 := pd_mulb u.1 v.2
    have m4 := pd_mulb u.2 v.1
    unfold pd_ip
    dsimp only
    omega
  have a := pd_si_b (f := fun j => (pd_ip (U (32 * b + j)) (V j)).1) (M := 2) (n := 32) (fun j hj => (t j hj).1)
  have c := pd_si_b (f := fun j => (pd_ip (U (32 * b + j)) (V j)).2) (M := 2) (n := 32) (fun j hj => (t j hj).2)
  exact ⟨Nat.le_trans a (by decide), Nat.le_trans c (by decide)⟩
end
section
/-- bs: codes of the same span, each with a leading digit that no later one has -/
def pd_Ba (c bs : Nat → Nat) (r : Nat) : Prop :=
  (∃ l : Nat → Nat, pd_Eb bs l r) ∧ ∀ w, pd_sp c r w ↔ pd_sp bs r w
/-- what holds of the rules: they commute, and each has a product that clashes with it alone -/
def pd_Ru (n r : Nat) (qx qz bs : Nat → Nat) : Prop :=
  r ≤ 5 ∧ (∀ j, j < r → qx j < 2 ^ n ∧ qz j < 2 ^ n) ∧ (∀ i j, i < r → j < r → pd_cl (qx i) (qz i) (qx j) (qz j) = 0) ∧
  (∃ D E : Nat → Nat, ∀ j, j < r → D j < 2 ^ n ∧ E j < 2 ^ n ∧ ∀ i, i < r → pd_cl (qx i) (qz i) (D j) (E j) = if i = j then 1 else 0) ∧
  pd_Ba (fun j => 32 * qx j + qz j) bs r
/-- the relation -/
def i_Rel (k : Nat) (u : SX) (v : SY) : Prop :=
  ∃ (n r : Nat) (X Z S qx qz bs : Nat → Nat) (A N B : Nat → Int × Int) (a_kept : Nat → Int32) (f_gatheredX f_gatheredZ f_gatheredPower f_solutions f_sumRe f_sumIm : Int32)
    (a_cost a_nextCost a_addsX a_addsZ a_equation a_leading a_solution : Nat → Int32),
    u = ((nI n), f_gatheredX, f_gatheredZ, f_gatheredPower, (nI r), f_solutions, (fun jj => nI (X jj)), (fun jj => nI (Z jj)), (fun jj => nI (S jj)), a_kept, (fun jj => nI (qx jj)), (fun jj => nI (qz jj)), (fun jj => nI (bs jj)), a_cost, a_nextCost, a_addsX, a_addsZ, a_equation, a_leading, a_solution) ∧
    v = ((nI n), (nI (2 ^ n)), (nI r), f_sumRe, f_sumIm, (fun jj => pd_I (A jj).1), (fun jj => pd_I (A jj).2), (fun jj => pd_I (N jj).1), (fun jj => pd_I (N jj).2), (fun jj => pd_I (B jj).1), (fun jj => pd_I (B jj).2), a_kept, (fun jj => nI (qx jj)), (fun jj => nI (qz jj))) ∧
    pd_Inv n X Z S A B a_kept ∧ pd_Ru n r qx qz bs
theorem zz_el {k : Nat} {P : SX → SY → Prop} {u : SX} {v : SY} (I : i_Rel k u v)
    (h : ∀ (n r : Nat) (X Z S qx qz bs : Nat → Nat) (A N B : Nat → Int × Int) (a_kept : Nat → Int32) (f_gatheredX f_gatheredZ f_gatheredPower f_solutions f_sumRe f_sumIm : Int32)
      (a_cost a_nextCost a_addsX a_addsZ a_equation a_leading a_solution : Nat → Int32), pd_Inv n X Z S A B a_kept → pd_Ru n r qx qz bs →
      P ((nI n), f_gatheredX, f_gatheredZ, f_gatheredPower, (nI r), f_solutions, (fun jj => nI (X jj)), (fun jj => nI (Z jj)), (fun jj => nI (S jj)), a_kept, (fun jj => nI (qx jj)), (fun jj => nI (qz jj)), (fun jj => nI (bs jj)), a_cost, a_nextCost, a_addsX, a_addsZ, a_equation, a_leading, a_solution)
        ((nI n), (nI (2 ^ n)), (nI r), f_sumRe, f_sumIm, (fun jj => pd_I (A jj).1), (fun jj => pd_I (A jj).2), (fun jj => pd_I (N jj).1), (fun jj => pd_I (N jj).2), (fun jj => pd_I (B jj).1), (fun jj => pd_I (B jj).2), a_kept, (fun jj => nI (qx jj)), (fun jj => nI (qz jj)))) : P u v := by
  obtain ⟨n, r, X, Z, S, qx, qz, bs, A, N, B, c, g1, g2, g3, g4, g5, g6, h1, h2, h3, h4, h5, h6, h7, eu, ev, i1, i2⟩ := I
  rw [eu, ev]
  exact h n r X Z S qx qz bs A N B c g1 g2 g3 g4 g5 g6 h1 h2 h3 h4 h5 h6 h7 i1 i2
theorem zz_in {k n r : Nat} {X Z S qx qz bs : Nat → Nat} {A N B : Nat → Int × Int} {a_kept : Nat → Int32} {f_gatheredX f_gatheredZ f_gatheredPower f_solutions f_sumRe f_sumIm : Int32}
    {a_cost a_nextCost a_addsX a_addsZ a_equation a_leading a_solution : Nat → Int32} (i1 : pd_Inv n X Z S A B a_kept) (i2 : pd_Ru n r qx qz bs) :
    i_Rel k ((nI n), f_gatheredX, f_gatheredZ, f_gatheredPower, (nI r), f_solutions, (fun jj => nI (X jj)), (fun jj => nI (Z jj)), (fun jj => nI (S jj)), a_kept, (fun jj => nI (qx jj)), (fun jj => nI (qz jj)), (fun jj => nI (bs jj)), a_cost, a_nextCost, a_addsX, a_addsZ, a_equation, a_leading, a_solution)
      ((nI n), (nI (2 ^ n)), (nI r), f_sumRe, f_sumIm, (fun jj => pd_I (A jj).1), (fun jj => pd_I (A jj).2), (fun jj => pd_I (N jj).1), (fun jj => pd_I (N jj).2), (fun jj => pd_I (B jj).1), (fun jj => pd_I (B jj).2), a_kept, (fun jj => nI (qx jj)), (fun jj => nI (qz jj))) :=
  ⟨n, r, X, Z, S, qx, qz, bs, A, N, B, a_kept, f_gatheredX, f_gatheredZ, f_gatheredPower, f_solutions, f_sumRe, f_sumIm, a_cost, a_nextCost, a_addsX, a_addsZ, a_equation, a_leading, a_solution, rfl, rfl, i1, i2⟩
theorem i_up {k : Nat} {u : SX} {v : SY} (h : i_Rel k u v) : i_Rel (k + 4) u v := h
end
section
theorem i_vc_h {k : Nat} {u : SX} {v : SY} (I : i_Rel k u v) (hk : k + 4 ≤ 2049) (v1 : Int32) : wpX_h (fun r u' => wpY_h (fun r' v' => r' = r ∧ i_Rel (k + 4) u' v') v v1) u v1 := by
  refine zz_el (P := fun u v => wpX_h (fun r u' => wpY_h (fun r' v' => r' = r ∧ i_Rel (k + 4) u' v') v v1) u v1) I ?_
  intro n r X Z S qx qz bs A N B kp g1 g2 g3 g4 g5 g6 h1 h2 h3 h4 h5 h6 h7 i1 i2
  have hn := i1.1.2
  by_cases c : ∃ q, q < n ∧ v1 = nI q
  · obtain ⟨q, hq, rfl⟩ := c
    refine px_h hn hq i1.2.1 (fun X' Z' S' hU => ?_)
    unfold wpY_h
    dsimp only
    refine py_isCell_t hn hq (br_f (by decide) ⟨1057, ?_⟩)
    refine py_h12 (by omega) (fun A1 hO => ?_) 1056 0 rfl A (pd_On_0 (fun j => by omega))
    have e1 : ∀ j, j < 1056 → A1 j = pd_gH q A j := fun j hj => hO.1 j hj
    obtain ⟨⟨x1, x2⟩, x3⟩ := pd_Inv_gate (pd_Gate_H hn hq) i1 hU (pd_L_H (by omega) A) e1
    refine py_levelAll (fun j hj => by rw [e1 j hj]; exact pd_b_H (by omega) i1.2.2.2.2.1 j hj) x1 x2 (fun a c A' ha hc na nc d1 d2 => ?_)
    exact ⟨rfl, zz_in (x3 a c A' ha hc na nc d1 d2) i2⟩
  · unfold wpX_h
    dsimp only
    refine px_isCell_f hn c (br_t rfl ?_)
    unfold wpY_h
    dsimp only
    exact py_isCell_f hn c (br_t rfl ⟨rfl, zz_in i1 i2⟩)
theorem i_vc_s {k : Nat} {u : SX} {v : SY} (I : i_Rel k u v) (hk : k + 4 ≤ 2049) (v1 : Int32) : wpX_s (fun r u' => wpY_s (fun r' v' => r' = r ∧ i_Rel (k + 4) u' v') v v1) u v1 := by
  refine zz_el (P := fun u v => wpX_s (fun r u' => wpY_s (fun r' v' => r' = r ∧ i_Rel (k + 4) u' v') v v1) u v1) I ?_
  intro n r X Z S qx qz bs A N B kp g1 g2 g3 g4 g5 g6 h1 h2 h3 h4 h5 h6 h7 i1 i2
  have hn := i1.1.2
  by_cases c : ∃ q, q < n ∧ v1 = nI q
  · obtain ⟨q, hq, rfl⟩ := c
    refine px_s hn hq i1.2.1 (fun X' Z' S' hU => ?_)
    unfold wpY_s
    dsimp only
    refine py_isCell_t hn hq (br_f (by decide) ⟨1057, ?_⟩)
    refine py_s12 (by omega) (fun A1 hO => ?_) 1056 0 rfl A (pd_On_0 (fun j => by omega))
    have e1 : ∀ j, j < 1056 → A1 j = pd_gS q A j := fun j hj => hO.1 j hj
    obtain ⟨⟨x1, x2⟩, x3⟩ := pd_Inv_gate (pd_Gate_S hn hq) i1 hU (pd_L_S (by omega) A) e1
    refine py_levelAll (fun j hj => by rw [e1 j hj]; exact pd_b_S i1.2.2.2.2.1 j hj) x1 x2 (fun a c A' ha hc na nc d1 d2 => ?_)
    exact ⟨rfl, zz_in (x3 a c A' ha hc na nc d1 d2) i2⟩
  · unfold wpX_s
    dsimp only
    refine px_isCell_f hn c (br_t rfl ?_)
    unfold wpY_s
    dsimp only
    exact py_isCell_f hn c (br_t rfl ⟨rfl, zz_in i1 i2⟩)
theorem i_vc_cx {k : Nat} {u : SX} {v : SY} (I : i_Rel k u v) (hk : k + 4 ≤ 2049) (v1 : Int32) (v2 : Int32) : wpX_cx (fun r u' => wpY_cx (fun r' v' => r' = r ∧ i_Rel (k + 4) u' v') v v1 v2) u v1 v2 := by
  refine zz_el (P := fun u v => wpX_cx (fun r u' => wpY_cx (fun r' v' => r' = r ∧ i_Rel (k + 4) u' v') v v1 v2) u v1 v2) I ?_
  intro n r X Z S qx qz bs A N B kp g1 g2 g3 g4 g5 g6 h1 h2 h3 h4 h5 h6 h7 i1 i2
  have hn := i1.1.2
  by_cases c : ∃ q, q < n ∧ v1 = nI q
  · obtain ⟨p, hp, rfl⟩ := c
    by_cases c2 : ∃ q, q < n ∧ v2 = nI q
    · obtain ⟨q, hq, rfl⟩ := c2
      by_cases e : p = q
      · unfold wpX_cx
        dsimp only
        refine px_isCell_t hn hp (br_f (by decide) (px_isCell_t hn hq (br_f (by decide) (br_t (by rw [e]) ?_))))
        unfold wpY_cx
        dsimp only
        exact py_isCell_t hn hp (br_f (by decide) (py_isCell_t hn hq (br_f (by decide) (br_t (by rw [e]) ⟨rfl, zz_in i1 i2⟩))))
      · refine px_cx hn hp hq e i1.2.1 (fun X' Z' S' hU => ?_)
        unfold wpY_cx
        dsimp only
        refine py_isCell_t hn hp (br_f (by decide) (py_isCell_t hn hq (br_f (by decide) (br_f (fun e2 => e ((nI_eq (by omega) (by omega)).mp e2)) ⟨1057, ?_⟩))))
        refine py_cx25 (by omega) (by omega) (fun A1 N1 hO => ?_) 1056 0 rfl N (fun j hj => by omega)
        have e1 : ∀ j, j < 1056 → A1 j = pd_gX p q A j := fun j hj => hO.1 j hj
        obtain ⟨⟨x1, x2⟩, x3⟩ := pd_Inv_gate (pd_Gate_X hn hp hq e) i1 hU (pd_L_X (by omega) (by omega) A) e1
        refine py_levelAll (fun j hj => by rw [e1 j hj]; exact pd_b_X (by omega) i1.2.2.2.2.1 j hj) x1 x2 (fun a c A' ha hc na nc d1 d2 => ?_)
        exact ⟨rfl, zz_in (x3 a c A' ha hc na nc d1 d2) i2⟩
    · unfold wpX_cx
      dsimp only
      refine px_isCell_t hn hp (br_f (by decide) (px_isCell_f hn c2 (br_t rfl ?_)))
      unfold wpY_cx
      dsimp only
      exact py_isCell_t hn hp (br_f (by decide) (py_isCell_f hn c2 (br_t rfl ⟨rfl, zz_in i1 i2⟩)))
  · unfold wpX_cx
    dsimp only
    refine px_isCell_f hn c (br_t rfl ?_)
    unfold wpY_cx
    dsimp only
    exact py_isCell_f hn c (br_t rfl ⟨rfl, zz_in i1 i2⟩)
theorem i_vc_cz {k : Nat} {u : SX} {v : SY} (I : i_Rel k u v) (hk : k + 4 ≤ 2049) (v1 : Int32) (v2 : Int32) : wpX_cz (fun r u' => wpY_cz (fun r' v' => r' = r ∧ i_Rel (k + 4) u' v') v v1 v2) u v1 v2 := by
  refine zz_el (P := fun u v => wpX_cz (fun r u' => wpY_cz (fun r' v' => r' = r ∧ i_Rel (k + 4) u' v') v v1 v2) u v1 v2) I ?_
  intro n r X Z S qx qz bs A N B kp g1 g2 g3 g4 g5 g6 h1 h2 h3 h4 h5 h6 h7 i1 i2
  have hn := i1.1.2
  by_cases c : ∃ q, q < n ∧ v1 = nI q
  · obtain ⟨p, hp, rfl⟩ := c
    by_cases c2 : ∃ q, q < n ∧ v2 = nI q
    · obtain ⟨q, hq, rfl⟩ := c2
      by_cases e : p = q
      · unfold wpX_cz
        dsimp only
        refine px_isCell_t hn hp (br_f (by decide) (px_isCell_t hn hq (br_f (by decide) (br_t (by rw [e]) ?_))))
        unfold wpY_cz
        dsimp only
        exact py_isCell_t hn hp (br_f (by decide) (py_isCell_t hn hq (br_f (by decide) (br_t (by rw [e]) ⟨rfl, zz_in i1 i2⟩))))
      · refine px_cz hn hp hq e i1.2.1 (fun X' Z' S' hU => ?_)
        unfold wpY_cz
        dsimp only
        refine py_isCell_t hn hp (br_f (by decide) (py_isCell_t hn hq (br_f (by decide) (br_f (fun e2 => e ((nI_eq (by omega) (by omega)).mp e2)) ⟨1057, ?_⟩))))
        refine py_cz25 (by omega) (by omega) (fun A1 hO => ?_) 1056 0 rfl A (pd_On_0 (fun j => by omega))
        have e1 : ∀ j, j < 1056 → A1 j = pd_gZ p q A j := fun j hj => hO.1 j hj
        obtain ⟨⟨x1, x2⟩, x3⟩ := pd_Inv_gate (pd_Gate_Z hn hp hq e) i1 hU (pd_L_Z (by omega) (by omega) A) e1
        refine py_levelAll (fun j hj => by rw [e1 j hj]; exact pd_b_Z i1.2.2.2.2.1 j hj) x1 x2 (fun a c A' ha hc na nc d1 d2 => ?_)
        exact ⟨rfl, zz_in (x3 a c A' ha hc na nc d1 d2) i2⟩
    · unfold wpX_cz
      dsimp only
      refine px_isCell_t hn hp (br_f (by decide) (px_isCell_f hn c2 (br_t rfl ?_)))
      unfold wpY_cz
      dsimp only
      exact py_isCell_t hn hp (br_f (by decide) (py_isCell_f hn c2 (br_t rfl ⟨rfl, zz_in i1 i2⟩)))
  · unfold wpX_cz
    dsimp only
    refine px_isCell_f hn c (br_t rfl ?_)
    unfold wpY_cz
    dsimp only
    exact py_isCell_f hn c (br_t rfl ⟨rfl, zz_in i1 i2⟩)
end
section
theorem pd_and1 (x : Int32) : ∃ w, w < 2 ∧ x &&& 1 = nI w := by
  obtain ⟨w, hw, e⟩ := pk_andE x (m := 1) 1 (by decide)
  exact ⟨w, by omega, e⟩
theorem i_vc_reset {k : Nat} {u : SX} {v : SY} (I : i_Rel k u v) (hk : k + 4 ≤ 2049) : wpX_reset (fun u' => wpY_reset (fun v' => i_Rel (k + 4) u' v') v) u := by
  refine zz_el (P := fun u v => wpX_reset (fun u' => wpY_reset (fun v' => i_Rel (k + 4) u' v') v) u) I ?_
  intro n r X Z S qx qz bs A N B kp g1 g2 g3 g4 g5 g6 h1 h2 h3 h4 h5 h6 h7 i1 i2
  unfold wpX_reset
  dsimp only
  refine px_begin (b := 0) rfl (by decide) (fun X' Z' S' hg hs => ?_)
  refine py_reset (fun A' hO => ?_)
  have hV : ∀ b, b < 32 → A' (1024 + b) = if b = 0 then (1, 0) else (0, 0) := by
    intro b hb
    have := hO.1 (1024 + b) ⟨by omega, by omega⟩
    dsimp only at this
    rw [this]
    by_cases e : b = 0
    · rw [if_pos e, if_pos (by omega)]
    · rw [if_neg e, if_neg (by omega)]
  exact zz_in (pd_Inv_st i1 (pd_St_0 hg hV) (fun b hb => by rw [hV b hb]; exact pd_Un_if) hs (fun j hj => hO.2 j (fun c => by omega))) i2
theorem i_vc_frame {k : Nat} {u : SX} {v : SY} (I : i_Rel k u v) (hk : k + 4 ≤ 2049) : wpX_frame (fun u' => wpY_frame (fun v' => i_Rel (k + 4) u' v') v) u := by
  refine zz_el (P := fun u v => wpX_frame (fun u' => wpY_frame (fun v' => i_Rel (k + 4) u' v') v) u) I ?_
  intro n r X Z S qx qz bs A N B kp g1 g2 g3 g4 g5 g6 h1 h2 h3 h4 h5 h6 h7 i1 i2
  unfold wpX_frame
  dsimp only
  refine px_begin (b := 5) rfl (by decide) (fun X' Z' S' hg hs => ?_)
  refine py_frame (fun A' hO => ?_)
  have hU : ∀ b, b < 1024 → A' b = if b / 32 = b % 32 then (1, 0) else (0, 0) := fun b hb => hO.1 b hb
  exact zz_in (pd_Inv_fr i1 (pd_Fr_0 hg hU) (fun b hb => by rw [hU b hb]; exact pd_Un_if) hs (fun j hj => hO.2 j (fun c => by omega))) i2
theorem pd_Ru_0 (n : Nat) (qx qz bs : Nat → Nat) : pd_Ru n 0 qx qz bs := by
  refine ⟨by decide, fun j h => absurd h (Nat.not_lt_zero j), fun i j h => absurd h (Nat.not_lt_zero i), ⟨fun _ => 0, fun _ => 0, fun j h => absurd h (Nat.not_lt_zero j)⟩, ?_⟩
  refine ⟨⟨fun _ => 0, fun j h => absurd h (Nat.not_lt_zero j), fun i j _ h => absurd h (Nat.not_lt_zero j)⟩, fun w => Iff.rfl⟩
theorem zz_init {k n : Nat} {P : SX → Prop} (hn1 : 1 ≤ n) (hn : n ≤ 5) (hP : ∀ u, wY_init_98 (fun v => i_Rel k u v) (nI n) 0 0 0 0 0 (fun _ => 0) (fun _ => 0) (fun _ => 0) (fun _ => 0) (fun _ => 0) (fun _ => 0) (fun _ => 0) (fun _ => 0) (fun _ => 0) → P u) : wX_init_130 P (nI n)
    0 0 0 0 0 0 (fun _ => 0) (fun _ => 0) (fun _ => 0) (fun _ => 0) (fun _ => 0) (fun _ => 0) (fun _ => 0) (fun _ => 0) (fun _ => 0) (fun _ => 0) (fun _ => 0) (fun _ => 0) (fun _ => 0) (fun _ => 0) := by
  unfold wX_init_130
  refine px_begin (b := 0) (n := n) (X := fun _ => 0) (Z := fun _ => 0) (S := fun _ => 0) rfl (by decide) (fun X1 Z1 S1 hg1 hs1 => ?_)
  refine px_begin (b := 5) rfl (by decide) (fun X Z S hg hs => hP _ ?_)
  unfold wY_init_98
  refine nm_r (px_pow (by omega)) ?_
  refine py_reset (n := n) (A := fun _ => (0, 0)) (N := fun _ => (0, 0)) (B := fun _ => (0, 0)) (fun A1 hO1 => ?_)
  refine py_frame (fun A hO => ?_)
  have same : ∀ j, 1024 ≤ j → A j = A1 j := fun j hj => hO.2 j (fun c => by omega)
  have hV : ∀ b, b < 32 → A (1024 + b) = if b = 0 then (1, 0) else (0, 0) := by
    intro b hb
    rw [same _ (by omega)]
    have := hO1.1 (1024 + b) ⟨by omega, by omega⟩
    dsimp only at this
    rw [this]
    by_cases e : b = 0
    · rw [if_pos e, if_pos (by omega)]
    · rw [if_neg e, if_neg (by omega)]
  have hU : ∀ b, b < 1024 → A b = if b / 32 = b % 32 then (1, 0) else (0, 0) := fun b hb => hO.1 b hb
  have hg0 : pd_Sg X Z S 0 5 := by
    intro i hi
    have a := hs (10 * 0 + i) (Or.inl (by omega))
    have b := hs (10 * 0 + (5 + i)) (Or.inl (by omega))
    have c := hg1 i hi
    rw [← a.1, ← a.2.1, ← a.2.2, ← b.1, ← b.2.1, ← b.2.2] at c
    exact c
  have hB1 : pd_Bn X1 Z1 S1 := pd_Bn_of (X := fun _ => 0) (Z := fun _ => 0) (S := fun _ => 0) (fun k _ => ⟨(by decide : 0 < 32), (by decide : 0 < 32), (by decide : 0 < 2)⟩) hs1 (pd_Sg_b hg1)
  have hB : pd_Bn X Z S := pd_Bn_of hB1 hs (pd_Sg_b hg)
  have inv : pd_Inv n X Z S A (fun _ => (0, 0)) (fun _ => 0) := by
    refine ⟨⟨hn1, hn⟩, hB, pd_St_0 hg0 hV, pd_Fr_0 hg hU, ?_, fun s _ h => absurd rfl h⟩
    intro j hj
    by_cases h : j < 1024
    · rw [hU j h]; exact pd_Un_if
    · obtain ⟨b, rfl⟩ : ∃ b, j = 1024 + b := ⟨j - 1024, by omega⟩
      rw [hV b (by omega)]; exact pd_Un_if
  exact zz_in (r := 0) (qx := fun _ => 0) (qz := fun _ => 0) (bs := fun _ => 0) (N := fun _ => (0, 0)) inv (pd_Ru_0 _ _ _ _)
theorem i_vc0 (k0 : Int32) : wpX_init (fun u => wpY_init (fun v => i_Rel 1 u v) k0) k0 := by
  by_cases c1 : 1 ≤ k0
  · by_cases c5 : k0 ≤ 5
    · have h0 : ¬ k0 < 0 := fun h => absurd (Int32.le_trans c1 (Int32.le_of_lt h)) (by decide)
      obtain ⟨n, hn, rfl⟩ := nI_of2 (M := 5) (n := 5) (by decide) h0 c5
      have hn1 : 1 ≤ n := (nI_leI (a := 1) (by decide) (by omega)).mp c1
      exact br_t c1 (br_t c5 (zz_init hn1 hn (fun u h => br_t c1 (br_t c5 h))))
    · exact br_t c1 (br_f c5 (zz_init (n := 5) (by decide) (by decide) (fun u h => br_t c1 (br_f c5 h))))
  · exact br_f c1 (zz_init (n := 1) (by decide) (by decide) (fun u h => br_f c1 h))
theorem i_vc_pauli {k : Nat} {u : SX} {v : SY} (I : i_Rel k u v) (hk : k + 4 ≤ 2049) (v1 : Int32) (v2 : Int32) : wpX_pauli (fun r u' => wpY_pauli (fun r' v' => r' = r ∧ i_Rel (k + 4) u' v') v v1 v2) u v1 v2 := by
  refine zz_el (P := fun u v => wpX_pauli (fun r u' => wpY_pauli (fun r' v' => r' = r ∧ i_Rel (k + 4) u' v') v v1 v2) u v1 v2) I ?_
  intro n r X Z S qx qz bs A N B kp g1 g2 g3 g4 g5 g6 h1 h2 h3 h4 h5 h6 h7 i1 i2
  have hn := i1.1.2
  have h32 := px_2n hn
  unfold wpX_pauli
  dsimp only
  by_cases c : ∃ m, m < 2 ^ n ∧ v1 = nI m
  · obtain ⟨x, hx, rfl⟩ := c
    refine px_isMask_t hn hx (br_f (by decide) ?_)
    by_cases c2 : ∃ m, m < 2 ^ n ∧ v2 = nI m
    · obtain ⟨z, hz, rfl⟩ := c2
      refine px_isMask_t hn hz (br_f (by decide) ?_)
      refine px_turnSigns (b := 0) rfl (by decide) i1.2.1 (fun S1 e1 s1 => ?_)
      have hB1 : pd_Bn X Z S1 := by
        intro j hj
        have b := i1.2.1 j hj
        by_cases hj0 : j < 10
        · have := e1 j hj0
          rw [Nat.mul_zero, Nat.zero_add] at this
          rw [this, pd_bx _ _ (pd_le1 b.2.2) (pd_le1 (pd_cl_lt _ _ _ _))]
          exact ⟨b.1, b.2.1, by omega⟩
        · rw [s1 j (Or.inr (by omega))]; exact b
      refine px_turnSigns (b := 5) rfl (by decide) hB1 (fun S2 e2 s2 => ?_)
      have hU : pd_Upto n (fun u _ _ => u) (fun _ v _ => v) (fun u v s => s ^^^ pd_cl u v x z) X Z S X Z S2 60 := by
        have row : ∀ j, (j / 10 = 0 ∨ j / 10 = 5) → S2 j = S j ^^^ pd_cl (X j) (Z j) x z := by
          intro j hj
          rcases hj with hj | hj
          · rw [s2 j (Or.inl (by omega))]
            have := e1 j (by omega)
            rw [Nat.mul_zero, Nat.zero_add] at this
            exact this
          · obtain ⟨i, rfl⟩ : ∃ i, j = 10 * 5 + i := ⟨j - 50, by omega⟩
            rw [e2 i (by omega), s1 _ (Or.inr (by omega))]
        refine ⟨fun j hj => ⟨rfl, rfl, row j hj.2.1⟩, fun j hj => ⟨rfl, rfl, ?_⟩⟩
        by_cases hb : j / 10 = 0 ∨ j / 10 = 5
        · rw [row j hb]
          have hq : ¬ j % 5 < n := fun h => hj ⟨by omega, hb, h⟩
          have k0 : pd_cl (X j) (Z j) x z = 0 := by
            rcases hb with hb | hb
            · have hh := pd_St_hi i1.2.2.1 hx hz (q := j % 5) (by omega) (by omega)
              rw [Nat.zero_add, Nat.zero_add] at hh
              have : j = j % 5 ∨ j = 5 + j % 5 := by omega
              rcases this with e | e
              · rw [← e] at hh; exact hh.1
              · rw [← e] at hh; exact hh.2
            · obtain ⟨a, b, _, c, d, _⟩ := i1.2.2.2.1.2.2.2 (j % 5) (by omega) (by omega)
              have : j = 50 + j % 5 ∨ j = 50 + (5 + j % 5) := by omega
              rcases this with e | e
              · rw [← e] at a b; rw [a, b, pd_cl_x (by omega)]; exact pd_d_ge hz (by omega)
              · rw [← e] at c d; rw [c, d, pd_cl_z (by omega)]; exact pd_d_ge hx (by omega)
          rw [k0, Nat.xor_zero]
        · by_cases hj1 : j < 10
          · omega
          · by_cases hj2 : j < 50
            · rw [s2 j (Or.inl (by omega)), s1 j (Or.inr (by omega))]
            · rw [s2 j (Or.inr (by omega)), s1 j (Or.inr (by omega))]
      unfold wpY_pauli
      dsimp only
      refine py_isMask_t hn hx (br_f (by decide) (py_isMask_t hn hz (br_f (by decide) ?_)))
      refine py_apply (fr := 0) (mn := 33) rfl rfl (by decide) (by omega) (by omega) (fun A1 N1 hO hN1 => ?_)
      have e1 : ∀ j, j < 1056 → A1 j = pd_gP x z A j := fun j hj => hO.1 j ⟨by omega, by omega⟩
      obtain ⟨⟨x1, x2⟩, x3⟩ := pd_Inv_gate (pd_Gate_P hn hx hz) i1 hU (pd_L_P (by omega) (by omega) A) e1
      refine py_levelAll (fun j hj => by rw [e1 j hj]; exact pd_b_P (by omega) i1.2.2.2.2.1 j hj) x1 x2 (fun a c A' ha hc na nc d1 d2 => ?_)
      exact ⟨rfl, zz_in (x3 a c A' ha hc na nc d1 d2) i2⟩
    · refine px_isMask_f hn c2 (br_t rfl ?_)
      unfold wpY_pauli
      dsimp only
      exact py_isMask_t hn hx (br_f (by decide) (py_isMask_f hn c2 (br_t rfl ⟨rfl, zz_in i1 i2⟩)))
  · refine px_isMask_f hn c (br_t rfl ?_)
    unfold wpY_pauli
    dsimp only
    exact py_isMask_f hn c (br_t rfl ⟨rfl, zz_in i1 i2⟩)
theorem i_vc_measure {k : Nat} {u : SX} {v : SY} (I : i_Rel k u v) (hk : k + 4 ≤ 2049) (v1 : Int32) (v2 : Int32) (v3 : Int32) : wpX_measure (fun r u' => wpY_measure (fun r' v' => r' = r ∧ i_Rel (k + 4) u' v') v v1 v2 v3) u v1 v2 v3 := by
  refine zz_el (P := fun u v => wpX_measure (fun r u' => wpY_measure (fun r' v' => r' = r ∧ i_Rel (k + 4) u' v') v v1 v2 v3) u v1 v2 v3) I ?_
  intro n r X Z S qx qz bs A N B kp g1 g2 g3 g4 g5 g6 h1 h2 h3 h4 h5 h6 h7 i1 i2
  have hn := i1.1.2
  have h32 := px_2n hn
  unfold wpX_measure
  dsimp only
  by_cases c : ∃ m, m < 2 ^ n ∧ v1 = nI m
  · obtain ⟨x, hx, rfl⟩ := c
    refine px_isMask_t hn hx (br_f (by decide) ?_)
    by_cases c2 : ∃ m, m < 2 ^ n ∧ v2 = nI m
    · obtain ⟨z, hz, rfl⟩ := c2
      refine px_isMask_t hn hz (br_f (by decide) ?_)
      obtain ⟨w, hw, hwant⟩ := pd_and1 v3
      refine px_measureIn (b := 0) rfl hn (by decide) i1.2.1 i1.2.2.1 hx hz hw hwant ?_ ?_
      · intro sg gx gz gp hs hF
        unfold wpY_measure
        dsimp only
        refine py_isMask_t hn hx (br_f (by decide) (py_isMask_t hn hz (br_f (by decide) ?_)))
        exact py_out_det (by omega) (by omega) i1.2.2.2.2.1 i1.2.2.1.2.2.1 hs hF ⟨rfl, zz_in i1 i2⟩
      · intro X' Z' S' gx gz gp hF hSt hB hs
        unfold wpY_measure
        dsimp only
        refine py_isMask_t hn hx (br_f (by decide) (py_isMask_t hn hz (br_f (by decide) ?_)))
        refine py_out_opn (by omega) (by omega) i1.2.2.2.2.1 i1.2.2.1.2.2.1 hw hwant hF ?_
        intro A' N' c hA hc hne hV
        exact ⟨by rw [Nat.add_comm], zz_in (pd_Inv_lv i1 hSt hs hA hc hne hV) i2⟩
    · refine px_isMask_f hn c2 (br_t rfl ?_)
      unfold wpY_measure
      dsimp only
      exact py_isMask_t hn hx (br_f (by decide) (py_isMask_f hn c2 (br_t rfl ⟨rfl, zz_in i1 i2⟩)))
  · refine px_isMask_f hn c (br_t rfl ?_)
    unfold wpY_measure
    dsimp only
    exact py_isMask_f hn c (br_t rfl ⟨rfl, zz_in i1 i2⟩)
theorem i_vc_expect {k : Nat} {u : SX} {v : SY} (I : i_Rel k u v) (hk : k + 4 ≤ 2049) (v1 : Int32) (v2 : Int32) : wpX_expect (fun r u' => wpY_expect (fun r' => r' = r ∧ i_Rel (k + 4) u' v) v v1 v2) u v1 v2 := by
  refine zz_el (P := fun u v => wpX_expect (fun r u' => wpY_expect (fun r' => r' = r ∧ i_Rel (k + 4) u' v) v v1 v2) u v1 v2) I ?_
  intro n r X Z S qx qz bs A N B kp g1 g2 g3 g4 g5 g6 h1 h2 h3 h4 h5 h6 h7 i1 i2
  have hn := i1.1.2
  have h32 := px_2n hn
  have hbd : ∀ j, j < 1056 → pd_bd 1 (A j) := fun j hj => pd_Un_bd (i1.2.2.2.2.1 j hj)
  unfold wpX_expect
  dsimp only
  by_cases c : ∃ m, m < 2 ^ n ∧ v1 = nI m
  · obtain ⟨x, hx, rfl⟩ := c
    refine px_isMask_t hn hx (br_f (by decide) ?_)
    by_cases c2 : ∃ m, m < 2 ^ n ∧ v2 = nI m
    · obtain ⟨z, hz, rfl⟩ := c2
      refine px_isMask_t hn hz (br_f (by decide) ?_)
      refine px_firstClash (b := 0) rfl hn (by decide) i1.2.1 (fun p hp hc => ?_) (fun hc => ?_)
      · refine br_f (nI_pos (by omega)) ?_
        unfold wpY_expect
        dsimp only
        refine py_isMask_t hn hx (br_f (by decide) (py_isMask_t hn hz (br_f (by decide) ?_)))
        have hbp := i1.2.1 (10 * 0 + (5 + p)) (by omega)
        have e := pd_E_cl (z := z) hbp.1 (show x < 32 by omega) (i1.2.2.1.2.2.2.1 p (by omega)) hc
        exact py_expectation (by omega) (by omega) hbd (fun d => by omega) (fun d => ⟨rfl, zz_in i1 i2⟩) (fun d => by omega)
      · refine br_t (by decide) ?_
        refine px_signIn (b := 0) rfl hn (by decide) i1.2.1 i1.2.2.1 hx hz hc ?_
        intro sg gx gz gp hs hF
        unfold wpY_expect
        dsimp only
        refine py_isMask_t hn hx (br_f (by decide) (py_isMask_t hn hz (br_f (by decide) ?_)))
        have e := pd_E_fx hs hF
        have p := pd_nrm_pos i1.2.2.1.2.2.1
        have s01 : sg = 0 ∨ sg = 1 := by omega
        refine py_expectation (by omega) (by omega) hbd (fun d => ?_) (fun d => ?_) (fun d => ?_)
        · rcases s01 with rfl | rfl
          · exact ⟨rfl, zz_in i1 i2⟩
          · rw [if_neg (by decide)] at e; omega
        · rcases s01 with rfl | rfl
          · rw [if_pos rfl] at e; omega
          · rw [if_neg (by decide)] at e; omega
        · rcases s01 with rfl | rfl
          · rw [if_pos rfl] at e; omega
          · exact ⟨rfl, zz_in i1 i2⟩
    · refine px_isMask_f hn c2 (br_t rfl ?_)
      unfold wpY_expect
      dsimp only
      exact py_isMask_t hn hx (br_f (by decide) (py_isMask_f hn c2 (br_t rfl ⟨rfl, zz_in i1 i2⟩)))
  · refine px_isMask_f hn c (br_t rfl ?_)
    unfold wpY_expect
    dsimp only
    exact py_isMask_f hn c (br_t rfl ⟨rfl, zz_in i1 i2⟩)
end
section
theorem px_isSlot_t {post : Int32 → Prop} {s : Nat} (hs : s < 3) (h : post 1) : wpX_isSlot post (nI s) :=
  br_f (nI_pos (by omega)) (br_f (nI_ge (b := 3) hs (by decide)) h)
theorem px_isSlot_f {post : Int32 → Prop} {p0 : Int32} (hs : ¬ ∃ s, s < 3 ∧ p0 = nI s) (h : post 0) : wpX_isSlot post p0 := by
  by_cases h0 : p0 < 0
  · exact br_t h0 h
  · obtain ⟨j, hj, rfl⟩ := nI_of h0
    refine br_f h0 (br_t ?_ h)
    refine nI_le (a := 3) ?_ hj
    apply Classical.byContradiction
    intro hne
    exact hs ⟨j, by omega, rfl⟩
section
variable {f_rules f_sumRe f_sumIm : Int32} {a_isSaved a_ruleX a_ruleZ : Nat → Int32} {n : Nat} {A N B : Nat → Int × Int}
theorem py_save13 {post : Int32 → SY → Prop} {s : Nat} {B0 : Nat → Int × Int} (hs : s < 3)
    (h : ∀ B', pd_On (fun j => 32 * s ≤ j ∧ j < 32 * s + 32) (fun j => A (1024 + (j - 32 * s))) B0 B' → post 1 ((nI n), (nI (2 ^ n)), f_rules, f_sumRe, f_sumIm, (fun jj => pd_I (A jj).1), (fun jj => pd_I (A jj).2), (fun jj => pd_I (N jj).1), (fun jj => pd_I (N jj).2), (fun jj => pd_I (B' jj).1), (fun jj => pd_I (B' jj).2), (upd a_isSaved s (vp_nar .boolean 1)), a_ruleX, a_ruleZ)) :
    ∀ f k, k + f = 32 → ∀ B, pd_On (fun j => 32 * s ≤ j ∧ j < 32 * s + k) (fun j => A (1024 + (j - 32 * s))) B0 B → wY_save_13 post (nI s) (nI n) (nI (2 ^ n)) f_rules f_sumRe f_sumIm (f + 1) (nI k) (fun jj => pd_I (A jj).1) (fun jj => pd_I (A jj).2) (fun jj => pd_I (N jj).1) (fun jj => pd_I (N jj).2) (fun jj => pd_I (B jj).1) (fun jj => pd_I (B jj).2) a_isSaved a_ruleX a_ruleZ := by
  have hs3 : vp_in (nI s) 3 := vp_in_nI hs (by decide)
  intro f
  induction f with
  | zero =>
    intro k hk B hO
    have e : k = 32 := by omega
    subst e
    refine br_t (show (32 : Int32) ≤ nI 32 by decide) ⟨hs3, ?_⟩
    rw [nI_clamp (n := s) (by omega)]
    exact nm_e (h B hO)
  | succ f ih =>
    intro k hk B hO
    refine br_f (show ¬ (32 : Int32) ≤ nI k from nI_ge (b := 32) (by omega) (by decide)) ?_
    have ea : (1024 : Int32) + nI k = nI (1024 + k) := nI_add 1024 k
    have eb : (32 : Int32) * nI s + nI k = nI (32 * s + k) := by
      show nI 32 * nI s + nI k = _
      rw [pk_mul, nI_add]
    have hi : vp_in (nI (1024 + k)) 1056 := vp_in_nI (by omega) (by decide)
    have hj : vp_in (nI (32 * s + k)) 96 := vp_in_nI (by omega) (by decide)
    rw [ea, eb, nI_clamp (n := 1024 + k) (by omega), nI_clamp (n := 32 * s + k) (by omega)]
    have es : 32 * s + k - 32 * s = k := by omega
    have nx := ih (k + 1) (by omega) (pd_v B (32 * s + k) (A (1024 + (32 * s + k - 32 * s)))) (pd_On_D (pd_On_s hO (32 * s + k)) (fun j => by omega))
    rw [es] at nx
    exact ⟨hi, hj, nm_r (py_up1 B (32 * s + k) (A (1024 + k)) rfl) ⟨hi, hj, nm_r (py_up2 B (32 * s + k) (A (1024 + k)) rfl) (nm_r (nI_1 k) nx)⟩⟩
theorem py_load12 {post : Int32 → SY → Prop} {s : Nat} {A0 : Nat → Int × Int} (hs : s < 3)
    (h : ∀ A', pd_On (fun j => 1024 ≤ j ∧ j < 1056) (fun j => B (32 * s + (j - 1024))) A0 A' → post 1 ((nI n), (nI (2 ^ n)), f_rules, f_sumRe, f_sumIm, (fun jj => pd_I (A' jj).1), (fun jj => pd_I (A' jj).2), (fun jj => pd_I (N jj).1), (fun jj => pd_I (N jj).2), (fun jj => pd_I (B jj).1), (fun jj => pd_I (B jj).2), a_isSaved, a_ruleX, a_ruleZ)) :
    ∀ f k, k + f = 32 → ∀ A, pd_On (fun j => 1024 ≤ j ∧ j < 1024 + k) (fun j => B (32 * s + (j - 1024))) A0 A → wY_load_12 post (nI s) (nI n) (nI (2 ^ n)) f_rules f_sumRe f_sumIm (f + 1) (nI k) (fun jj => pd_I (A jj).1) (fun jj => pd_I (A jj).2) (fun jj => pd_I (N jj).1) (fun jj => pd_I (N jj).2) (fun jj => pd_I (B jj).1) (fun jj => pd_I (B jj).2) a_isSaved a_ruleX a_ruleZ := by
  intro f
  induction f with
  | zero =>
    intro k hk A hO
    have e : k = 32 := by omega
    subst e
    exact br_t (show (32 : Int32) ≤ nI 32 by decide) (h A hO)
  | succ f ih =>
    intro k hk A hO
    refine br_f (show ¬ (32 : Int32) ≤ nI k from nI_ge (b := 32) (by omega) (by decide)) ?_
    have ea : (1024 : Int32) + nI k = nI (1024 + k) := nI_add 1024 k
    have eb : (32 : Int32) * nI s + nI k = nI (32 * s + k) := by
      show nI 32 * nI s + nI k = _
      rw [pk_mul, nI_add]
    have hi : vp_in (nI (1024 + k)) 1056 := vp_in_nI (by omega) (by decide)
    have hj : vp_in (nI (32 * s + k)) 96 := vp_in_nI (by omega) (by decide)
    rw [ea, eb, nI_clamp (n := 1024 + k) (by omega), nI_clamp (n := 32 * s + k) (by omega)]
    have es : 1024 + k - 1024 = k := by omega
    have nx := ih (k + 1) (by omega) (pd_v A (1024 + k) (B (32 * s + (1024 + k - 1024)))) (pd_On_D (pd_On_s hO (1024 + k)) (fun j => by omega))
    rw [es] at nx
    exact ⟨hj, hi, nm_r (py_up1 A (1024 + k) (B (32 * s + k)) rfl) ⟨hj, hi, nm_r (py_up2 A (1024 + k) (B (32 * s + k)) rfl) (nm_r (nI_1 k) nx)⟩⟩
theorem py_has_f {post : Int32 → Prop} {p0 : Int32} (hs : ¬ ∃ s, s < 3 ∧ p0 = nI s) (h : post 0) : wpY_has post ((nI n), (nI (2 ^ n)), f_rules, f_sumRe, f_sumIm, (fun jj => pd_I (A jj).1), (fun jj => pd_I (A jj).2), (fun jj => pd_I (N jj).1), (fun jj => pd_I (N jj).2), (fun jj => pd_I (B jj).1), (fun jj => pd_I (B jj).2), a_isSaved, a_ruleX, a_ruleZ) p0 := by
  by_cases h0 : p0 < 0
  · exact br_t h0 h
  · obtain ⟨j, hj, rfl⟩ := nI_of h0
    refine br_f h0 (br_t ?_ h)
    refine (nI_ltI (a := 2) (by decide) hj).mpr ?_
    apply Classical.byContradiction
    intro hne
    exact hs ⟨j, by omega, rfl⟩
theorem py_has_t {post : Int32 → Prop} {s : Nat} (hs : s < 3) (h1 : ¬ a_isSaved s = 0 → post 1) (h0 : a_isSaved s = 0 → post 0) : wpY_has post ((nI n), (nI (2 ^ n)), f_rules, f_sumRe, f_sumIm, (fun jj => pd_I (A jj).1), (fun jj => pd_I (A jj).2), (fun jj => pd_I (N jj).1), (fun jj => pd_I (N jj).2), (fun jj => pd_I (B jj).1), (fun jj => pd_I (B jj).2), a_isSaved, a_ruleX, a_ruleZ) (nI s) := by
  refine br_f (nI_pos (by omega)) (br_f (fun c => ?_) ⟨vp_in_nI hs (by decide), ?_⟩)
  · have := (nI_ltI (a := 2) (by decide) (by omega)).mp c
    omega
  · rw [nI_clamp (n := s) (by omega)]
    exact br_c h0 h1
end
theorem i_vc_save {k : Nat} {u : SX} {v : SY} (I : i_Rel k u v) (hk : k + 4 ≤ 2049) (v1 : Int32) : wpX_save (fun r u' => wpY_save (fun r' v' => r' = r ∧ i_Rel (k + 4) u' v') v v1) u v1 := by
  refine zz_el (P := fun u v => wpX_save (fun r u' => wpY_save (fun r' v' => r' = r ∧ i_Rel (k + 4) u' v') v v1) u v1) I ?_
  intro n r X Z S qx qz bs A N B kp g1 g2 g3 g4 g5 g6 h1 h2 h3 h4 h5 h6 h7 i1 i2
  unfold wpX_save
  dsimp only
  by_cases c : ∃ s, s < 3 ∧ v1 = nI s
  · obtain ⟨s, hs, rfl⟩ := c
    refine px_isSlot_t hs (br_f (by decide) ?_)
    refine px_copyBank (b := 0) (c := s + 1) rfl (nI_1 s) (by decide) (by omega) (by omega) (fun X' Z' S' hc hm => ⟨vp_in_nI hs (by decide), ?_⟩)
    rw [nI_clamp (n := s) (by omega)]
    refine nm_e ?_
    unfold wpY_save
    dsimp only
    refine br_f (nI_pos (by omega)) (br_t (nI_le (b := 2) (by omega) (by decide)) ⟨33, ?_⟩)
    refine py_save13 hs (fun B' hO => ⟨rfl, zz_in ?_ i2⟩) 32 0 rfl B (pd_On_0 (fun j => by omega))
    obtain ⟨hn, hB, hSt, hFr, hU, hSv⟩ := i1
    have stS : pd_St n X' Z' S' (10 * (s + 1)) (fun b => B' (32 * s + b)) := by
      refine pd_St_cg hSt (fun i hi => (hc i hi).1) (fun i hi => (hc i hi).2.1) (fun i hi => (hc i hi).2.2) (fun b hb => ?_)
      have := hO.1 (32 * s + b) ⟨by omega, by omega⟩
      dsimp only at this
      rw [this, show 32 * s + b - 32 * s = b by omega]
    refine ⟨hn, pd_Bn_of hB hm stS.1, ?_, ?_, hU, ?_⟩
    · have q := fun i (hi : i < 10) => hm (0 + i) (Or.inl (by omega))
      exact pd_St_cg hSt (fun i hi => (q i hi).1) (fun i hi => (q i hi).2.1) (fun i hi => (q i hi).2.2) (fun _ _ => rfl)
    · have q := fun i => hm (50 + i) (Or.inr (by omega))
      exact pd_Fr_cg hFr (fun i _ => (q i).1) (fun i _ => (q i).2.1) (fun i _ => (q i).2.2) (fun _ _ => rfl)
    · intro t ht hK
      by_cases e : t = s
      · subst e
        refine ⟨stS, fun b hb => ?_⟩
        have := hO.1 (32 * t + b) ⟨by omega, by omega⟩
        dsimp only at this
        rw [this, show 32 * t + b - 32 * t = b by omega]
        exact hU _ (by omega)
      · have hK2 : kp t ≠ 0 := by
          have e2 : upd kp s (vp_nar .boolean 1) t = kp t := pk_un e
          rw [← e2]; exact hK
        obtain ⟨k1, k2⟩ := hSv t ht hK2
        have q := fun i (hi : i < 10) => hm (10 * (t + 1) + i) (by omega)
        have sB : ∀ b, b < 32 → B' (32 * t + b) = B (32 * t + b) := fun b hb => hO.2 _ (fun c => by omega)
        exact ⟨pd_St_cg k1 (fun i hi => (q i hi).1) (fun i hi => (q i hi).2.1) (fun i hi => (q i hi).2.2) sB, fun b hb => by rw [sB b hb]; exact k2 b hb⟩
  · refine px_isSlot_f c (br_t rfl ?_)
    unfold wpY_save
    dsimp only
    by_cases h0 : v1 < 0
    · exact br_t h0 ⟨rfl, zz_in i1 i2⟩
    · obtain ⟨j, hj, rfl⟩ := nI_of h0
      refine br_f h0 (br_f (fun d => c ⟨j, ?_, rfl⟩) ⟨rfl, zz_in i1 i2⟩)
      have := (nI_leI (b := 2) hj (by decide)).mp d
      omega
theorem i_vc_load {k : Nat} {u : SX} {v : SY} (I : i_Rel k u v) (hk : k + 4 ≤ 2049) (v1 : Int32) : wpX_load (fun r u' => wpY_load (fun r' v' => r' = r ∧ i_Rel (k + 4) u' v') v v1) u v1 := by
  refine zz_el (P := fun u v => wpX_load (fun r u' => wpY_load (fun r' v' => r' = r ∧ i_Rel (k + 4) u' v') v v1) u v1) I ?_
  intro n r X Z S qx qz bs A N B kp g1 g2 g3 g4 g5 g6 h1 h2 h3 h4 h5 h6 h7 i1 i2
  unfold wpX_load
  dsimp only
  by_cases c : ∃ s, s < 3 ∧ v1 = nI s
  · obtain ⟨s, hs, rfl⟩ := c
    refine px_isSlot_t hs (br_f (by decide) ⟨vp_in_nI hs (by decide), ?_⟩)
    rw [nI_clamp (n := s) (by omega)]
    by_cases e : kp s = 0
    · refine br_t e ?_
      unfold wpY_load
      dsimp only
      exact py_has_t hs (fun d => absurd e d) (fun _ => br_t rfl ⟨rfl, zz_in i1 i2⟩)
    · refine br_f e ?_
      refine px_copyBank (b := s + 1) (c := 0) (nI_1 s) rfl (by omega) (by decide) (by omega) (fun X' Z' S' hc hm => ?_)
      unfold wpY_load
      dsimp only
      refine py_has_t hs (fun _ => br_f (by decide) ⟨33, ?_⟩) (fun d => absurd d e)
      refine py_load12 hs (fun A' hO => ⟨rfl, zz_in ?_ i2⟩) 32 0 rfl A (pd_On_0 (fun j => by omega))
      obtain ⟨k1, k2⟩ := i1.2.2.2.2.2 s hs e
      have hV : ∀ b, b < 32 → A' (1024 + b) = B (32 * s + b) := by
        intro b hb
        have := hO.1 (1024 + b) ⟨by omega, by omega⟩
        dsimp only at this
        rw [this, show 1024 + b - 1024 = b by omega]
      refine pd_Inv_st i1 (pd_St_cg k1 (fun i hi => (hc i hi).1) (fun i hi => (hc i hi).2.1) (fun i hi => (hc i hi).2.2) hV) (fun b hb => by rw [hV b hb]; exact k2 b hb) hm (fun j hj => hO.2 j (fun c => by omega))
  · refine px_isSlot_f c (br_t rfl ?_)
    unfold wpY_load
    dsimp only
    exact py_has_f c (br_t rfl ⟨rfl, zz_in i1 i2⟩)
end
section
theorem i_vc_back {k : Nat} {u : SX} {v : SY} (I : i_Rel k u v) (hk : k + 4 ≤ 2049) : wpX_back (fun u' => wpY_back (fun v' => i_Rel (k + 4) u' v') v) u := by
  refine zz_el (P := fun u v => wpX_back (fun u' => wpY_back (fun v' => i_Rel (k + 4) u' v') v) u) I ?_
  intro n r X Z S qx qz bs A N B kp g1 g2 g3 g4 g5 g6 h1 h2 h3 h4 h5 h6 h7 i1 i2
  obtain ⟨⟨hn1, hn⟩, hB, hSt, hFr, hU, hSv⟩ := i1
  refine px_back hn hB hSt hFr (fun X1 Z1 S1 X' Z' S' gx gz gp hb hB1 hs1 hg hs => ?_)
  have B1 : pd_Bd X1 Z1 S1 0 := fun i hi => hB1 (0 + i) (by omega)
  have st1 := pd_St_bk hn hSt hFr hb B1
  refine py_back st1.2.2.1 (fun b hb => pd_bk_b (fun j hj => pd_Un_bd (hU j (by omega))) (fun j hj => pd_Un_bd (hU (1024 + j) (by omega))) b hb) (fun A' N' c hc hne e1 e2 => ?_)
  refine zz_in ?_ i2
  obtain ⟨s1, s2⟩ := pd_St_lv st1 hc hne
  have m0 := fun i (hi : i < 10) => hs (0 + i) (Or.inl (by omega))
  refine ⟨⟨hn1, hn⟩, pd_Bn_of hB1 hs (pd_Sg_b hg), ?_, pd_Fr_0 hg e2, ?_, ?_⟩
  · exact pd_St_cg s1 (fun i hi => (m0 i hi).1) (fun i hi => (m0 i hi).2.1) (fun i hi => (m0 i hi).2.2) e1
  · intro j hj
    by_cases h : j < 1024
    · rw [e2 j h]; exact pd_Un_if
    · obtain ⟨b, rfl⟩ : ∃ b, j = 1024 + b := ⟨j - 1024, by omega⟩
      rw [e1 b (by omega)]; exact s2 b (by omega)
  · intro t ht hK
    obtain ⟨k1, k2⟩ := hSv t ht hK
    have a := fun i (hi : i < 10) => hs (10 * (t + 1) + i) (Or.inl (by omega))
    have b := fun i => hs1 (10 * (t + 1) + i) (Or.inr (by omega))
    exact ⟨pd_St_cg k1 (fun i hi => (a i hi).1.trans (b i).1) (fun i hi => (a i hi).2.1.trans (b i).2.1) (fun i hi => (a i hi).2.2.trans (b i).2.2) (fun _ _ => rfl), k2⟩
end
section
section
variable {f_gatheredX f_gatheredZ f_gatheredPower f_rules f_solutions : Int32} {a_kept a_ruleX a_ruleZ a_basis a_cost a_nextCost a_addsX a_addsZ a_equation a_leading a_solution : Nat → Int32} {n : Nat} {X Z S : Nat → Nat}
theorem px_carried {post : Int32 → SX → Prop} {x z : Nat} {U : Nat → Int × Int} (hn : n ≤ 5) (hB : pd_Bn X Z S) (hFr : pd_Fr n X Z S 50 U) (hx : x < 2 ^ n) (hz : z < 2 ^ n)
    (h : ∀ u v s p gx gz gp, u < 32 → v < 32 → s < 2 → pd_Fx 10 p (32 * x + u) (32 * z + v) U → (pd_on (x &&& z) + p) % 4 = (pd_on (u &&& v) + 2 * s) % 4 → post (nI (2 * (32 * u + v) + s)) ((nI n), gx, gz, gp, f_rules, f_solutions, (fun jj => nI (X jj)), (fun jj => nI (Z jj)), (fun jj => nI (S jj)), a_kept, a_ruleX, a_ruleZ, a_basis, a_cost, a_nextCost, a_addsX, a_addsZ, a_equation, a_leading, a_solution)) : wpX_carried post ((nI n), f_gatheredX, f_gatheredZ, f_gatheredPower, f_rules, f_solutions, (fun jj => nI (X jj)), (fun jj => nI (Z jj)), (fun jj => nI (S jj)), a_kept, a_ruleX, a_ruleZ, a_basis, a_cost, a_nextCost, a_addsX, a_addsZ, a_equation, a_leading, a_solution) (nI x) (nI z) := by
  have h32 := px_2n hn
  unfold wpX_carried
  dsimp only
  refine px_isMask_t hn hx (br_f (by decide) (px_isMask_t hn hz (br_f (by decide) ?_)))
  refine px_gatherImage hn hB hFr hx hz (fun gx gz p a1 a2 a3 => ?_)
  refine px_gatheredSign a1 ?_
  have e : (2 : Int32) * ((32 : Int32) * nI gx + nI gz) + nI ((pd_on (x &&& z) + p + 12 - pd_on (gx &&& gz)) % 4 / 2) = nI (2 * (32 * gx + gz) + (pd_on (x &&& z) + p + 12 - pd_on (gx &&& gz)) % 4 / 2) := by
    show nI 2 * (nI 32 * nI gx + nI gz) + nI _ = _
    rw [pk_mul, nI_add, pk_mul, nI_add]
  rw [e]
  refine h gx gz _ p _ _ _ a1 a2 (by omega) a3 ?_
  have ev := pd_Fx_even hFr.2.1 a3 (pd_lt1024 (by omega) a1)
  rw [pd_on_and_32 (by omega) a1 a2] at ev
  have := pd_on_le (gx &&& gz)
  omega
end
section
variable {f_rules f_sumRe f_sumIm : Int32} {a_isSaved a_ruleX a_ruleZ : Nat → Int32} {n : Nat} {A N B : Nat → Int × Int}
theorem py_gw203 {post : Int32 → Prop} {J3 : Int32 → Prop} {x1 x2 x3 x4 x5 x13 z0 : Int32} {k m : Nat} {W : Int × Int} (hm : m < 1056) (hW : pd_bd 1 W) (hA : pd_bd 1 (A m)) (e1 : x13 = pd_I W.1) (e2 : z0 = pd_I W.2)
    (ht : W = A m → J3 (nI (k + 1))) (hf : W ≠ A m → post 0) : wY_goesWith_203 post J3 x1 x2 x3 x4 x5 (nI k) (nI m) x13 z0 (nI n) (nI (2 ^ n)) f_rules f_sumRe f_sumIm (fun jj => pd_I (A jj).1) (fun jj => pd_I (A jj).2) (fun jj => pd_I (N jj).1) (fun jj => pd_I (N jj).2) (fun jj => pd_I (B jj).1) (fun jj => pd_I (B jj).2) a_isSaved a_ruleX a_ruleZ := by
  subst e1 e2
  have hi : vp_in (nI m) 1056 := vp_in_nI hm (by decide)
  unfold pd_bd at hW hA
  unfold wY_goesWith_203
  rw [nI_clamp (n := m) (by omega)]
  refine ⟨hi, ek_if (d := W.1 = (A m).1) (pd_I_inj (by omega) (by omega) (by omega) (by omega)) (fun c1 => ⟨hi, ek_if (d := W.2 = (A m).2) (pd_I_inj (by omega) (by omega) (by omega) (by omega)) (fun c2 => nm_r (nI_1 k) (ht (Prod.ext c1 c2))) (fun c2 => hf (fun e => c2 (by rw [e])))⟩) (fun c1 => hf (fun e => c1 (by rw [e])))⟩
theorem py_goes3 {post : Int32 → Prop} {x z u v s : Nat} (hn : n ≤ 5) (hx : x < 2 ^ n) (hz : z < 2 ^ n) (hu : u < 2 ^ n) (hv : v < 2 ^ n) (hs : s < 2) (hA : ∀ j, j < 1056 → pd_bd 1 (A j))
    (h1 : (∀ b, b < 2 ^ n → ∀ j, j < 32 → pd_gw x z u v s A b j) → post 1) (h0 : ¬ (∀ b, b < 2 ^ n → ∀ j, j < 32 → pd_gw x z u v s A b j) → post 0) :
    ∀ f k, k + f = 32 * 2 ^ n → (∀ i, i < k → pd_gw x z u v s A (i / 32) (i % 32)) → wY_goesWith_3 post (nI x) (nI z) (nI u) (nI v) (nI s) (nI n) (nI (2 ^ n)) f_rules f_sumRe f_sumIm (fun jj => pd_I (A jj).1) (fun jj => pd_I (A jj).2) (fun jj => pd_I (N jj).1) (fun jj => pd_I (N jj).2) (fun jj => pd_I (B jj).1) (fun jj => pd_I (B jj).2) a_isSaved a_ruleX a_ruleZ (f + 1) (nI k) := by
  have h32 := px_2n hn
  have es : (32 : Int32) * nI (2 ^ n) = nI (32 * 2 ^ n) := pk_mul 32 _
  intro f
  induction f with
  | zero =>
    intro k hk hp
    refine br_t (by rw [es]; exact nI_le (by omega) (by omega)) (h1 ?_)
    intro b hb j hj
    have := hp (32 * b + j) (by omega)
    rw [show (32 * b + j) / 32 = b by omega, show (32 * b + j) % 32 = j by omega] at this
    exact this
  | succ f ih =>
    intro k hk hp
    have kb : k / 32 < 2 ^ n := by omega
    refine br_f (by rw [es]; exact nI_ge (by omega) (by omega)) ⟨by decide, nm_r (pk_div (d := 32) (by omega) (by decide) (by decide)) ⟨by decide, nm_r (pk_rem (d := 32) (by omega) (by decide) (by decide)) ?_⟩⟩
    have lb := pd_xor_lt kb hx
    have lj : (k % 32) ^^^ u < 32 := pd_xor32 (by omega) (by omega)
    have eL : (32 : Int32) * (nI (k / 32) ^^^ nI x) + nI (k % 32) = nI (32 * ((k / 32) ^^^ x) + k % 32) := by
      rw [nx_xor]
      show nI 32 * nI _ + nI _ = _
      rw [pk_mul, nI_add]
    have eR : (32 : Int32) * nI (k / 32) + (nI (k % 32) ^^^ nI u) = nI (32 * (k / 32) + ((k % 32) ^^^ u)) := by
      rw [nx_xor]
      show nI 32 * nI _ + nI _ = _
      rw [pk_mul, nI_add]
    refine nm_r eL (nm_r eR ?_)
    rw [nx_xor (k % 32) u]
    refine py_power (by omega) (py_power (by omega) ?_)
    have b1 := pd_on_le (x &&& z); have b2 := pd_on_le ((k / 32) &&& z); have b3 := pd_on_le (u &&& v); have b4 := pd_on_le (((k % 32) ^^^ u) &&& v)
    have eP : nI (pd_on (x &&& z) + 2 * pd_on ((k / 32) &&& z)) - nI (pd_on (u &&& v) + 2 * pd_on (((k % 32) ^^^ u) &&& v)) + 2 * nI s + 40 = nI (pd_on (x &&& z) + 2 * pd_on ((k / 32) &&& z) + 2 * s + 40 - (pd_on (u &&& v) + 2 * pd_on (((k % 32) ^^^ u) &&& v))) := by
      rw [← pk_sub (by omega), ← nI_add (pd_on (x &&& z) + 2 * pd_on ((k / 32) &&& z) + 2 * s) 40, ← nI_add (pd_on (x &&& z) + 2 * pd_on ((k / 32) &&& z)) (2 * s), ← pk_mul 2 s]
      show _ - _ + nI 2 * nI s + nI 40 = _
      grind
    refine nm_e ⟨by decide, ?_⟩
    rw [eP]
    refine nm_r (pk_rem (d := 4) (by omega) (by decide) (by decide)) ?_
    have iL : vp_in (nI (32 * ((k / 32) ^^^ x) + k % 32)) 1056 := vp_in_nI (by omega) (by decide)
    have hL := hA (32 * ((k / 32) ^^^ x) + k % 32) (by omega)
    have hR := hA (32 * (k / 32) + ((k % 32) ^^^ u)) (by omega)
    rw [nI_clamp (n := 32 * ((k / 32) ^^^ x) + k % 32) (by omega)]
    have ht : pd_ph (pd_on (x &&& z) + 2 * pd_on ((k / 32) &&& z) + 2 * s + 40 - (pd_on (u &&& v) + 2 * pd_on (((k % 32) ^^^ u) &&& v))) (A (32 * ((k / 32) ^^^ x) + k % 32)) = A (32 * (k / 32) + ((k % 32) ^^^ u)) →
        wY_goesWith_3 post (nI x) (nI z) (nI u) (nI v) (nI s) (nI n) (nI (2 ^ n)) f_rules f_sumRe f_sumIm (fun jj => pd_I (A jj).1) (fun jj => pd_I (A jj).2) (fun jj => pd_I (N jj).1) (fun jj => pd_I (N jj).2) (fun jj => pd_I (B jj).1) (fun jj => pd_I (B jj).2) a_isSaved a_ruleX a_ruleZ (f + 1) (nI (k + 1)) := by
      intro g
      refine ih (k + 1) (by omega) ?_
      intro i hi
      by_cases e : i = k
      · rw [e]; exact g
      · exact hp i (by omega)
    have hf : pd_ph (pd_on (x &&& z) + 2 * pd_on ((k / 32) &&& z) + 2 * s + 40 - (pd_on (u &&& v) + 2 * pd_on (((k % 32) ^^^ u) &&& v))) (A (32 * ((k / 32) ^^^ x) + k % 32)) ≠ A (32 * (k / 32) + ((k % 32) ^^^ u)) → post 0 := by
      intro g
      exact h0 (fun all => g (all (k / 32) kb (k % 32) (by omega)))
    generalize hP : pd_on (x &&& z) + 2 * pd_on ((k / 32) &&& z) + 2 * s + 40 - (pd_on (u &&& v) + 2 * pd_on (((k % 32) ^^^ u) &&& v)) = P at ht hf ⊢
    have hW := pd_bd_ph (k := P) hL
    have mR : 32 * (k / 32) + ((k % 32) ^^^ u) < 1056 := by omega
    rcases pd_mod4 P with c | c | c | c <;> rw [c]
    · refine br_t rfl ⟨iL, br_t rfl ⟨iL, ?_⟩⟩
      rw [nI_clamp (n := 32 * ((k / 32) ^^^ x) + k % 32) (by omega)]
      exact py_gw203 mR hW hR (by rw [pd_ph_0 _ c]) (by rw [pd_ph_0 _ c]) ht hf
    · refine br_f (by decide) (br_t rfl ⟨iL, br_f (by decide) (br_t rfl ⟨iL, ?_⟩)⟩)
      rw [nI_clamp (n := 32 * ((k / 32) ^^^ x) + k % 32) (by omega)]
      exact py_gw203 mR hW hR (by rw [pd_ph_1 _ c]; exact pd_I_neg _) (by rw [pd_ph_1 _ c]) ht hf
    · refine br_f (by decide) (br_f (by decide) (br_t rfl ⟨iL, br_f (by decide) (br_f (by decide) (br_t rfl ⟨iL, ?_⟩))⟩))
      rw [nI_clamp (n := 32 * ((k / 32) ^^^ x) + k % 32) (by omega)]
      exact py_gw203 mR hW hR (by rw [pd_ph_2 _ c]; exact pd_I_neg _) (by rw [pd_ph_2 _ c]; exact pd_I_neg _) ht hf
    · refine br_f (by decide) (br_f (by decide) (br_f (by decide) ⟨iL, br_f (by decide) (br_f (by decide) (br_f (by decide) ⟨iL, ?_⟩))⟩))
      rw [nI_clamp (n := 32 * ((k / 32) ^^^ x) + k % 32) (by omega)]
      exact py_gw203 mR hW hR (by rw [pd_ph_3 _ c]) (by rw [pd_ph_3 _ c]; exact pd_I_neg _) ht hf
theorem py_goesWith {post : Int32 → Prop} {x z u v s : Nat} (hn : n ≤ 5) (hx : x < 2 ^ n) (hz : z < 2 ^ n) (hu : u < 2 ^ n) (hv : v < 2 ^ n) (hs : s < 2) (hA : ∀ j, j < 1056 → pd_bd 1 (A j))
    (h1 : (∀ b, b < 2 ^ n → ∀ j, j < 32 → pd_gw x z u v s A b j) → post 1) (h0 : ¬ (∀ b, b < 2 ^ n → ∀ j, j < 32 → pd_gw x z u v s A b j) → post 0) : wpY_goesWith post ((nI n), (nI (2 ^ n)), f_rules, f_sumRe, f_sumIm, (fun jj => pd_I (A jj).1), (fun jj => pd_I (A jj).2), (fun jj => pd_I (N jj).1), (fun jj => pd_I (N jj).2), (fun jj => pd_I (B jj).1), (fun jj => pd_I (B jj).2), a_isSaved, a_ruleX, a_ruleZ) (nI x) (nI z) (nI u) (nI v) (nI s) :=
  ⟨32 * 2 ^ n + 1, py_goes3 hn hx hz hu hv hs hA h1 h0 (32 * 2 ^ n) 0 (by omega) (fun i hi => absurd hi (Nat.not_lt_zero i))⟩
theorem py_carried20 {post : Int32 → Prop} {x z c0 : Nat} (hn : n ≤ 5) (hx : x < 2 ^ n) (hz : z < 2 ^ n) (hA : ∀ j, j < 1056 → pd_bd 1 (A j)) (hc0 : c0 < 2048)
    (g1 : c0 / 2 / 32 < 2 ^ n) (g2 : c0 / 2 % 32 < 2 ^ n) (g3 : ∀ b, b < 2 ^ n → ∀ j, j < 32 → pd_gw x z (c0 / 2 / 32) (c0 / 2 % 32) (c0 % 2) A b j)
    (gu : ∀ c, c / 2 / 32 < 2 ^ n → c / 2 % 32 < 2 ^ n → (∀ b, b < 2 ^ n → ∀ j, j < 32 → pd_gw x z (c / 2 / 32) (c / 2 % 32) (c % 2) A b j) → c = c0) (h : post (nI c0)) :
    ∀ f c, c + f = c0 → wY_carried_20 post (nI x) (nI z) (nI n) (nI (2 ^ n)) f_rules f_sumRe f_sumIm (fun jj => pd_I (A jj).1) (fun jj => pd_I (A jj).2) (fun jj => pd_I (N jj).1) (fun jj => pd_I (N jj).2) (fun jj => pd_I (B jj).1) (fun jj => pd_I (B jj).2) a_isSaved a_ruleX a_ruleZ (f + 1) (nI c) := by
  have h32 := px_2n hn
  intro f
  induction f with
  | zero =>
    intro c hc
    have e : c = c0 := by omega
    subst e
    refine br_f (nI_ge (b := 2048) hc0 (by decide)) ⟨by decide, nm_r (pk_div (d := 2) (by omega) (by decide) (by decide)) ⟨by decide, ?_⟩⟩
    have e1 : nI (c / 2) / 32 = nI (c / 2 / 32) := pk_div (d := 32) (by omega) (by decide) (by decide)
    have e2 : nI (c / 2) - nI (c / 2) / 32 * 32 = nI (c / 2 % 32) := pk_rem (d := 32) (by omega) (by decide) (by decide)
    have e3 : nI c - nI c / 2 * 2 = nI (c % 2) := pk_rem (d := 2) (by omega) (by decide) (by decide)
    rw [e2, e1, e3]
    refine br_f (nI_ge g1 (by omega)) ⟨by decide, br_f (nI_ge g2 (by omega)) ⟨by decide, by decide, by decide, ?_⟩⟩
    exact py_goesWith hn hx hz g1 g2 (by omega) hA (fun _ => br_f (by decide) h) (fun no => absurd g3 no)
  | succ f ih =>
    intro c hc
    refine br_f (nI_ge (b := 2048) (by omega) (by decide)) ⟨by decide, nm_r (pk_div (d := 2) (by omega) (by decide) (by decide)) ⟨by decide, ?_⟩⟩
    have e1 : nI (c / 2) / 32 = nI (c / 2 / 32) := pk_div (d := 32) (by omega) (by decide) (by decide)
    have e2 : nI (c / 2) - nI (c / 2) / 32 * 32 = nI (c / 2 % 32) := pk_rem (d := 32) (by omega) (by decide) (by decide)
    have e3 : nI c - nI c / 2 * 2 = nI (c % 2) := pk_rem (d := 2) (by omega) (by decide) (by decide)
    rw [e2, e1, e3]
    have nx := nm_r (nI_1 c) (ih (c + 1) (by omega))
    by_cases k1 : c / 2 / 32 < 2 ^ n
    · refine br_f (nI_ge k1 (by omega)) ⟨by decide, ?_⟩
      by_cases k2 : c / 2 % 32 < 2 ^ n
      · refine br_f (nI_ge k2 (by omega)) ⟨by decide, by decide, by decide, ?_⟩
        exact py_goesWith hn hx hz k1 k2 (by omega) hA (fun yes => absurd (gu c k1 k2 yes) (by omega)) (fun _ => br_t rfl nx)
      · exact br_t (nI_le (by omega) (by omega)) nx
    · exact br_t (nI_le (by omega) (by omega)) nx
end
theorem i_vc_carried {k : Nat} {u : SX} {v : SY} (I : i_Rel k u v) (hk : k + 4 ≤ 2049) (v1 : Int32) (v2 : Int32) : wpX_carried (fun r u' => wpY_carried (fun r' => r' = r ∧ i_Rel (k + 4) u' v) v v1 v2) u v1 v2 := by
  refine zz_el (P := fun u v => wpX_carried (fun r u' => wpY_carried (fun r' => r' = r ∧ i_Rel (k + 4) u' v) v v1 v2) u v1 v2) I ?_
  intro n r X Z S qx qz bs A N B kp g1 g2 g3 g4 g5 g6 h1 h2 h3 h4 h5 h6 h7 i1 i2
  have hn := i1.1.2
  have h32 := px_2n hn
  by_cases c : ∃ m, m < 2 ^ n ∧ v1 = nI m
  · obtain ⟨x, hx, rfl⟩ := c
    by_cases c2 : ∃ m, m < 2 ^ n ∧ v2 = nI m
    · obtain ⟨z, hz, rfl⟩ := c2
      refine px_carried hn i1.2.1 i1.2.2.2.1 hx hz (fun a b s p gx gz gp ha hb hs hF hp => ?_)
      unfold wpY_carried
      dsimp only
      refine py_isMask_t hn hx (br_f (by decide) (py_isMask_t hn hz (br_f (by decide) ⟨2 * (32 * a + b) + s + 1, ?_⟩)))
      have d1 : (2 * (32 * a + b) + s) / 2 / 32 = a := by omega
      have d2 : (2 * (32 * a + b) + s) / 2 % 32 = b := by omega
      have d3 : (2 * (32 * a + b) + s) % 2 = s := by omega
      have lt := pd_img_lt i1.2.2.2.1 (by omega) hx hz ha hb hF
      refine py_carried20 hn hx hz (fun j hj => pd_Un_bd (i1.2.2.2.2.1 j hj)) (c0 := 2 * (32 * a + b) + s) (by omega) (by rw [d1]; exact lt.1) (by rw [d2]; exact lt.2) ?_ ?_ ⟨rfl, zz_in i1 i2⟩ _ 0 (by omega)
      · rw [d1, d2, d3]
        exact fun b' hb' j hj => pd_Fx_gw (by omega) ha hb hF hp (by omega) hj
      · intro c k1 k2 yes
        obtain ⟨e1, e2, e3⟩ := pd_gw_uniq hn i1.2.2.2.1 hx hz ha hb hs hF hp k1 k2 (by omega) yes
        omega
    · unfold wpX_carried
      dsimp only
      refine px_isMask_t hn hx (br_f (by decide) (px_isMask_f hn c2 (br_t rfl ?_)))
      unfold wpY_carried
      dsimp only
      exact py_isMask_t hn hx (br_f (by decide) (py_isMask_f hn c2 (br_t rfl ⟨rfl, zz_in i1 i2⟩)))
  · unfold wpX_carried
    dsimp only
    refine px_isMask_f hn c (br_t rfl ?_)
    unfold wpY_carried
    dsimp only
    exact py_isMask_f hn c (br_t rfl ⟨rfl, zz_in i1 i2⟩)
end
section
theorem pd_sm_cast (f : Nat → Nat) : ∀ n, ((pd_sm f n : Nat) : Int) = pd_si (fun k => (f k : Int)) n := by
  intro n
  induction n with
  | zero => rfl
  | succ n ih =>
    show ((pd_sm f n + f n : Nat) : Int) = pd_si (fun k => (f k : Int)) n + (f n : Int)
    rw [← ih]; omega
theorem pd_sm_le {f : Nat → Nat} : ∀ {n : Nat}, (∀ k, k < n → f k ≤ 1) → pd_sm f n ≤ n := by
  intro n
  induction n with
  | zero => intro _; exact Nat.le_refl 0
  | succ n ih =>
    intro h
    have := ih (fun k hk => h k (by omega))
    have := h n (by omega)
    show pd_sm f n + f n ≤ n + 1
    omega
/-- whether a number isn't 0, as a number -/
def pd_th (v : Int × Int) : Nat := if v = (0, 0) then 0 else 1
theorem pd_th_le (v : Int × Int) : pd_th v ≤ 1 := by unfold pd_th; split <;> omega
theorem pd_th_nrm {v : Int × Int} (h : pd_Un v) : (pd_th v : Int) = pd_nrm v := by
  unfold pd_th
  rcases h with e | ⟨e, he⟩
  · rw [if_pos e, e]; rfl
  · rw [he, if_neg (pd_ph_nz (by decide)), pd_nrm_ph]; rfl
section
variable {f_rules f_sumRe f_sumIm : Int32} {a_isSaved a_ruleX a_ruleZ : Nat → Int32} {n : Nat} {A N B : Nat → Int × Int}
theorem py_isThere {post : Int32 → Prop} {b : Nat} (hb : b < 32) (hA : pd_bd 1 (A (1024 + b))) (h : post (nI (pd_th (A (1024 + b))))) : wpY_isThere post ((nI n), (nI (2 ^ n)), f_rules, f_sumRe, f_sumIm, (fun jj => pd_I (A jj).1), (fun jj => pd_I (A jj).2), (fun jj => pd_I (N jj).1), (fun jj => pd_I (N jj).2), (fun jj => pd_I (B jj).1), (fun jj => pd_I (B jj).2), a_isSaved, a_ruleX, a_ruleZ) (nI b) := by
  have ea : (1024 : Int32) + nI b = nI (1024 + b) := nI_add 1024 b
  have hi : vp_in (nI (1024 + b)) 1056 := vp_in_nI (by omega) (by decide)
  unfold pd_bd at hA
  unfold wpY_isThere
  dsimp only
  rw [ea, nI_clamp (n := 1024 + b) (by omega)]
  unfold pd_th at h
  refine ⟨hi, ek_if (d := (A (1024 + b)).1 = 0) (pd_I_0 (by omega) (by omega)) (fun c1 => ⟨hi, ek_if (d := (A (1024 + b)).2 = 0) (pd_I_0 (by omega) (by omega)) (fun c2 => ?_) (fun c2 => ?_)⟩) (fun c1 => ?_)⟩
  · rw [if_pos (Prod.ext c1 c2)] at h; exact h
  · rw [if_neg (fun e => c2 (congrArg Prod.snd e))] at h; exact h
  · rw [if_neg (fun e => c1 (congrArg Prod.fst e))] at h; exact h
theorem py_halvings12 {post : Int32 → Prop} {part whole c : Nat} (hp : 0 < part) (hc : c < 30) (he : part * 2 ^ c = whole) (hw : whole < 2 ^ 20) (h : post (nI c)) :
    ∀ f k, k + f = c → wY_halvings_12 post (nI whole) (nI n) (nI (2 ^ n)) f_rules f_sumRe f_sumIm (fun jj => pd_I (A jj).1) (fun jj => pd_I (A jj).2) (fun jj => pd_I (N jj).1) (fun jj => pd_I (N jj).2) (fun jj => pd_I (B jj).1) (fun jj => pd_I (B jj).2) a_isSaved a_ruleX a_ruleZ (f + 1) (nI k) (nI (part * 2 ^ k)) := by
  intro f
  induction f with
  | zero =>
    intro k hk
    have e : k = c := by omega
    subst e
    rw [he]
    exact br_t (nI_le (by omega) (by omega)) h
  | succ f ih =>
    intro k hk
    have hlt : part * 2 ^ k < whole := by
      rw [← he]
      exact Nat.mul_lt_mul_of_pos_left (Nat.pow_lt_pow_right (by decide) (by omega)) hp
    refine br_f (nI_ge hlt (by omega)) (br_f (nI_ge (b := 30) (by omega) (by decide)) ?_)
    have e2 : (2 : Int32) * nI (part * 2 ^ k) = nI (part * 2 ^ (k + 1)) := by
      have := pk_mul 2 (part * 2 ^ k)
      rw [show 2 * (part * 2 ^ k) = part * 2 ^ (k + 1) by rw [Nat.pow_succ]; grind] at this
      exact this
    exact nm_r e2 (nm_r (nI_1 k) (ih (k + 1) (by omega)))
theorem py_halvings {post : Int32 → Prop} {part whole : Nat} (hw : whole < 2 ^ 20) (hpb : part < 2 ^ 20) (h0 : part = 0 → post (-2)) {c : Nat} (h1 : part ≠ 0 → c < 30 ∧ part * 2 ^ c = whole ∧ post (nI c)) : wpY_halvings post ((nI n), (nI (2 ^ n)), f_rules, f_sumRe, f_sumIm, (fun jj => pd_I (A jj).1), (fun jj => pd_I (A jj).2), (fun jj => pd_I (N jj).1), (fun jj => pd_I (N jj).2), (fun jj => pd_I (B jj).1), (fun jj => pd_I (B jj).2), a_isSaved, a_ruleX, a_ruleZ) (nI part) (nI whole) := by
  refine pk_eq part 0 h0 (fun hne => ?_)
  obtain ⟨hc, he, h⟩ := h1 hne
  have k : nI part = nI (part * 2 ^ 0) := by rw [Nat.pow_zero, Nat.mul_one]
  refine ⟨c + 1, ?_⟩
  rw [k]
  exact py_halvings12 (part := part) (by omega) hc he hw h c 0 (by omega)
/-- numbers that are there, and those that agree with bits on a mask -/
theorem py_chance34 {post : Int32 → Prop} {mask bits : Nat} (hA : ∀ j, j < 1056 → pd_bd 1 (A j)) (hbits : bits < 2 ^ 31)
    (h : wpY_halvings post ((nI n), (nI (2 ^ n)), f_rules, f_sumRe, f_sumIm, (fun jj => pd_I (A jj).1), (fun jj => pd_I (A jj).2), (fun jj => pd_I (N jj).1), (fun jj => pd_I (N jj).2), (fun jj => pd_I (B jj).1), (fun jj => pd_I (B jj).2), a_isSaved, a_ruleX, a_ruleZ) (nI (pd_sm (fun b => if b &&& mask = bits then pd_th (A (1024 + b)) else 0) 32)) (nI (pd_sm (fun b => pd_th (A (1024 + b))) 32))) :
    ∀ f b, b + f = 32 → wY_chance_34 post (nI mask) (nI bits) (nI n) (nI (2 ^ n)) f_rules f_sumRe f_sumIm (fun jj => pd_I (A jj).1) (fun jj => pd_I (A jj).2) (fun jj => pd_I (N jj).1) (fun jj => pd_I (N jj).2) (fun jj => pd_I (B jj).1) (fun jj => pd_I (B jj).2) a_isSaved a_ruleX a_ruleZ (f + 1) (nI (pd_sm (fun b => if b &&& mask = bits then pd_th (A (1024 + b)) else 0) b)) (nI (pd_sm (fun b => pd_th (A (1024 + b))) b)) (nI b) := by
  intro f
  induction f with
  | zero =>
    intro b hb
    have e : b = 32 := by omega
    subst e
    exact br_t (show (32 : Int32) ≤ nI 32 by decide) h
  | succ f ih =>
    intro b hb
    refine br_f (show ¬ (32 : Int32) ≤ nI b from nI_ge (b := 32) (by omega) (by decide)) ?_
    have hA1 := hA (1024 + b) (by omega)
    refine py_isThere (by omega) hA1 ?_
    have nx := ih (b + 1) (by omega)
    have q1 : pd_sm (fun b => pd_th (A (1024 + b))) (b + 1) = pd_sm (fun b => pd_th (A (1024 + b))) b + pd_th (A (1024 + b)) := rfl
    have q2 : pd_sm (fun b => if b &&& mask = bits then pd_th (A (1024 + b)) else 0) (b + 1) = pd_sm (fun b => if b &&& mask = bits then pd_th (A (1024 + b)) else 0) b + (if b &&& mask = bits then pd_th (A (1024 + b)) else 0) := rfl
    have ble : b &&& mask < 2 ^ 31 := Nat.lt_of_le_of_lt Nat.and_le_left (by omega)
    by_cases c : A (1024 + b) = (0, 0)
    · have t0 : pd_th (A (1024 + b)) = 0 := if_pos c
      rw [t0] at q1 q2 ⊢
      have q2' : pd_sm (fun b => if b &&& mask = bits then pd_th (A (1024 + b)) else 0) (b + 1) = pd_sm (fun b => if b &&& mask = bits then pd_th (A (1024 + b)) else 0) b := by
        rw [q2]; split <;> rfl
      rw [q1, q2', Nat.add_zero] at nx
      refine br_t rfl (py_isThere (by omega) hA1 ?_)
      rw [t0]
      exact br_t rfl (nm_r (nI_1 b) nx)
    · have t1 : pd_th (A (1024 + b)) = 1 := if_neg c
      rw [t1] at q1 q2 ⊢
      refine br_f (by decide) (py_isThere (by omega) hA1 ?_)
      rw [t1, nI_1 (pd_sm (fun b => pd_th (A (1024 + b))) b)]
      refine br_f (by decide) ?_
      rw [nx_and]
      refine pk_eq (b &&& mask) bits (fun e => ?_) (fun e => ?_)
      · rw [if_pos e] at q2
        rw [q1, q2] at nx
        exact nm_r (nI_1 _) (nm_r (nI_1 b) nx)
      · rw [if_neg e] at q2
        rw [q1, q2] at nx
        exact nm_r (nI_1 b) nx
theorem py_first2 {post : Int32 → Prop} {m : Nat} (hA : ∀ j, j < 1056 → pd_bd 1 (A j)) (hm : m < 32) (h0 : ∀ b, b < m → A (1024 + b) = (0, 0)) (h1 : A (1024 + m) ≠ (0, 0)) (h : post (nI m)) :
    ∀ f b, b + f = m → wY_first_2 post (nI n) (nI (2 ^ n)) f_rules f_sumRe f_sumIm (fun jj => pd_I (A jj).1) (fun jj => pd_I (A jj).2) (fun jj => pd_I (N jj).1) (fun jj => pd_I (N jj).2) (fun jj => pd_I (B jj).1) (fun jj => pd_I (B jj).2) a_isSaved a_ruleX a_ruleZ (f + 1) (nI b) := by
  intro f
  induction f with
  | zero =>
    intro b hb
    have e : b = m := by omega
    subst e
    by_cases c : b < 31
    · refine br_f (nI_ge (b := 31) c (by decide)) (py_isThere hm (hA _ (by omega)) ?_)
      have t1 : pd_th (A (1024 + b)) = 1 := if_neg h1
      rw [t1]
      exact br_f (by decide) h
    · exact br_t (nI_le (a := 31) (by omega) (by omega)) h
  | succ f ih =>
    intro b hb
    refine br_f (nI_ge (b := 31) (by omega) (by decide)) (py_isThere (by omega) (hA _ (by omega)) ?_)
    have t0 : pd_th (A (1024 + b)) = 0 := if_pos (h0 b (by omega))
    rw [t0]
    exact br_t rfl (nm_r (nI_1 b) (ih (b + 1) (by omega)))
theorem py_first {post : Int32 → Prop} {m : Nat} (hA : ∀ j, j < 1056 → pd_bd 1 (A j)) (hm : m < 32) (h0 : ∀ b, b < m → A (1024 + b) = (0, 0)) (h1 : A (1024 + m) ≠ (0, 0)) (h : post (nI m)) : wpY_first post ((nI n), (nI (2 ^ n)), f_rules, f_sumRe, f_sumIm, (fun jj => pd_I (A jj).1), (fun jj => pd_I (A jj).2), (fun jj => pd_I (N jj).1), (fun jj => pd_I (N jj).2), (fun jj => pd_I (B jj).1), (fun jj => pd_I (B jj).2), a_isSaved, a_ruleX, a_ruleZ) :=
  ⟨m + 1, py_first2 hA hm h0 h1 h m 0 (by omega)⟩
theorem py_overlap27 {post : Int32 → SY → Prop} {s : Nat} (hs : s < 3) (hA : ∀ j, j < 1056 → pd_bd 1 (A j)) (hB : ∀ b, b < 32 → pd_bd 1 (B (32 * s + b)))
    (h : wpY_halvings (fun r => post r ((nI n), (nI (2 ^ n)), f_rules, (pd_I (pd_I2 (fun b => B (32 * s + b)) (fun b => A (1024 + b))).1), (pd_I (pd_I2 (fun b => B (32 * s + b)) (fun b => A (1024 + b))).2), (fun jj => pd_I (A jj).1), (fun jj => pd_I (A jj).2), (fun jj => pd_I (N jj).1), (fun jj => pd_I (N jj).2), (fun jj => pd_I (B jj).1), (fun jj => pd_I (B jj).2), a_isSaved, a_ruleX, a_ruleZ))
      ((nI n), (nI (2 ^ n)), f_rules, (pd_I (pd_I2 (fun b => B (32 * s + b)) (fun b => A (1024 + b))).1), (pd_I (pd_I2 (fun b => B (32 * s + b)) (fun b => A (1024 + b))).2), (fun jj => pd_I (A jj).1), (fun jj => pd_I (A jj).2), (fun jj => pd_I (N jj).1), (fun jj => pd_I (N jj).2), (fun jj => pd_I (B jj).1), (fun jj => pd_I (B jj).2), a_isSaved, a_ruleX, a_ruleZ)
      (pd_I (pd_nrm (pd_I2 (fun b => B (32 * s + b)) (fun b => A (1024 + b))))) (nI (pd_sm (fun b => pd_th (A (1024 + b))) 32 * pd_sm (fun b => pd_th (B (32 * s + b))) 32))) :
    ∀ f b, b + f = 32 → wY_overlap_27 post (nI s) (nI n) (nI (2 ^ n)) f_rules (fun jj => pd_I (A jj).1) (fun jj => pd_I (A jj).2) (fun jj => pd_I (N jj).1) (fun jj => pd_I (N jj).2) (fun jj => pd_I (B jj).1) (fun jj => pd_I (B jj).2) a_isSaved a_ruleX a_ruleZ (f + 1) (nI (pd_sm (fun b => pd_th (A (1024 + b))) b)) (nI (pd_sm (fun b => pd_th (B (32 * s + b))) b)) (nI b)
      (pd_I (pd_sg (fun b => pd_ip (B (32 * s + b)) (A (1024 + b))) b).1) (pd_I (pd_sg (fun b => pd_ip (B (32 * s + b)) (A (1024 + b))) b).2) := by
  intro f
  induction f with
  | zero =>
    intro b hb
    have e : b = 32 := by omega
    subst e
    refine br_t (show (32 : Int32) ≤ nI 32 by decide) ?_
    rw [pd_I_mul, pd_I_mul, pd_I_add, pk_mul]
    exact h
  | succ f ih =>
    intro b hb
    refine br_f (show ¬ (32 : Int32) ≤ nI b from nI_ge (b := 32) (by omega) (by decide)) ?_
    have ea : (1024 : Int32) + nI b = nI (1024 + b) := nI_add 1024 b
    have eb : (32 : Int32) * nI s + nI b = nI (32 * s + b) := by
      show nI 32 * nI s + nI b = _
      rw [pk_mul, nI_add]
    have hi : vp_in (nI (1024 + b)) 1056 := vp_in_nI (by omega) (by decide)
    have hj : vp_in (nI (32 * s + b)) 96 := vp_in_nI (by omega) (by decide)
    rw [eb, nI_clamp (n := 32 * s + b) (by omega)]
    have hA1 := hA (1024 + b) (by omega)
    have hB1 := hB b (by omega)
    unfold pd_bd at hB1
    refine ⟨hj, nm_e ⟨hj, nm_e (py_isThere (by omega) hA1 ?_)⟩⟩
    have q1 : pd_sm (fun b => pd_th (A (1024 + b))) (b + 1) = pd_sm (fun b => pd_th (A (1024 + b))) b + pd_th (A (1024 + b)) := rfl
    have q2 : pd_sm (fun b => pd_th (B (32 * s + b))) (b + 1) = pd_sm (fun b => pd_th (B (32 * s + b))) b + pd_th (B (32 * s + b)) := rfl
    have nx := ih (b + 1) (by omega)
    have s1 : pd_I (pd_sg (fun b => pd_ip (B (32 * s + b)) (A (1024 + b))) b).1 + pd_I (B (32 * s + b)).1 * pd_I (A (1024 + b)).1 + pd_I (B (32 * s + b)).2 * pd_I (A (1024 + b)).2 = pd_I (pd_sg (fun b => pd_ip (B (32 * s + b)) (A (1024 + b))) (b + 1)).1 := by
      rw [pd_I_mul, pd_I_mul, pd_I_add, pd_I_add, Int.add_assoc]; rfl
    have s2 : pd_I (pd_sg (fun b => pd_ip (B (32 * s + b)) (A (1024 + b))) b).2 + pd_I (B (32 * s + b)).1 * pd_I (A (1024 + b)).2 - pd_I (B (32 * s + b)).2 * pd_I (A (1024 + b)).1 = pd_I (pd_sg (fun b => pd_ip (B (32 * s + b)) (A (1024 + b))) (b + 1)).2 := by
      rw [pd_I_mul, pd_I_mul, pd_I_add, pd_I_sub, Int.add_sub_assoc]; rfl
    -- the last join: both sums
    have fin : ∀ cx cz : Nat, cx = pd_sm (fun b => pd_th (A (1024 + b))) (b + 1) → cz = pd_sm (fun b => pd_th (B (32 * s + b))) (b + 1) →
        wY_overlap_96 post (wY_overlap_27 post (nI s) (nI n) (nI (2 ^ n)) f_rules (fun jj => pd_I (A jj).1) (fun jj => pd_I (A jj).2) (fun jj => pd_I (N jj).1) (fun jj => pd_I (N jj).2) (fun jj => pd_I (B jj).1) (fun jj => pd_I (B jj).2) a_isSaved a_ruleX a_ruleZ (f + 1)) (nI s) (nI cx) (nI b) (pd_I (B (32 * s + b)).1) (pd_I (B (32 * s + b)).2) (nI cz)
          (nI n) (nI (2 ^ n)) f_rules (pd_I (pd_sg (fun b => pd_ip (B (32 * s + b)) (A (1024 + b))) b).1) (pd_I (pd_sg (fun b => pd_ip (B (32 * s + b)) (A (1024 + b))) b).2) (fun jj => pd_I (A jj).1) (fun jj => pd_I (A jj).2) (fun jj => pd_I (N jj).1) (fun jj => pd_I (N jj).2) (fun jj => pd_I (B jj).1) (fun jj => pd_I (B jj).2) a_isSaved a_ruleX a_ruleZ := by
      intro cx cz e1 e2
      subst e1 e2
      unfold wY_overlap_96
      rw [ea, nI_clamp (n := 1024 + b) (by omega)]
      exact ⟨hi, hi, nm_r s1 ⟨hi, hi, nm_r s2 (nm_r (nI_1 b) nx)⟩⟩
    have mid : ∀ cx : Nat, cx = pd_sm (fun b => pd_th (A (1024 + b))) (b + 1) →
        wY_overlap_78 post (wY_overlap_27 post (nI s) (nI n) (nI (2 ^ n)) f_rules (fun jj => pd_I (A jj).1) (fun jj => pd_I (A jj).2) (fun jj => pd_I (N jj).1) (fun jj => pd_I (N jj).2) (fun jj => pd_I (B jj).1) (fun jj => pd_I (B jj).2) a_isSaved a_ruleX a_ruleZ (f + 1)) (nI s) (nI (pd_sm (fun b => pd_th (B (32 * s + b))) b)) (nI b) (pd_I (B (32 * s + b)).1) (pd_I (B (32 * s + b)).2) (nI cx)
          (nI n) (nI (2 ^ n)) f_rules (pd_I (pd_sg (fun b => pd_ip (B (32 * s + b)) (A (1024 + b))) b).1) (pd_I (pd_sg (fun b => pd_ip (B (32 * s + b)) (A (1024 + b))) b).2) (fun jj => pd_I (A jj).1) (fun jj => pd_I (A jj).2) (fun jj => pd_I (N jj).1) (fun jj => pd_I (N jj).2) (fun jj => pd_I (B jj).1) (fun jj => pd_I (B jj).2) a_isSaved a_ruleX a_ruleZ := by
      intro cx e1
      refine ek_if (d := (B (32 * s + b)).1 = 0) (pd_I_0 (by omega) (by omega)) (fun c1 => ek_if (d := (B (32 * s + b)).2 = 0) (pd_I_0 (by omega) (by omega)) (fun c2 => ?_) (fun c2 => ?_)) (fun c1 => ?_)
      · have t0 : pd_th (B (32 * s + b)) = 0 := if_pos (Prod.ext c1 c2)
        exact fin cx _ e1 (by rw [q2, t0]; rfl)
      · have t1 : pd_th (B (32 * s + b)) = 1 := if_neg (fun e => c2 (congrArg Prod.snd e))
        show wY_overlap_96 post _ _ _ _ _ _ (nI (pd_sm (fun b => pd_th (B (32 * s + b))) b) + 1) _ _ _ _ _ _ _ _ _ _ _ _ _ _
        rw [nI_1]
        exact fin cx _ e1 (by rw [q2, t1])
      · have t1 : pd_th (B (32 * s + b)) = 1 := if_neg (fun e => c1 (congrArg Prod.fst e))
        show wY_overlap_96 post _ _ _ _ _ _ (nI (pd_sm (fun b => pd_th (B (32 * s + b))) b) + 1) _ _ _ _ _ _ _ _ _ _ _ _ _ _
        rw [nI_1]
        exact fin cx _ e1 (by rw [q2, t1])
    by_cases c : A (1024 + b) = (0, 0)
    · have t0 : pd_th (A (1024 + b)) = 0 := if_pos c
      rw [t0]
      exact br_t rfl (mid _ (by rw [q1, t0]; rfl))
    · have t1 : pd_th (A (1024 + b)) = 1 := if_neg c
      rw [t1, nI_1]
      exact br_f (by decide) (mid _ (by rw [q1, t1]))
end
end
section
/-- a multiple -/
def pd_sc (k : Nat) (v : Int × Int) : Int × Int := ((k : Int) * v.1, (k : Int) * v.2)
theorem pd_sc_1 (v : Int × Int) : pd_sc 1 v = v := by
  unfold pd_sc; apply Prod.ext <;> dsimp only <;> omega
theorem pd_sc_0 (v : Int × Int) : pd_sc 0 v = (0, 0) := by
  unfold pd_sc; apply Prod.ext <;> dsimp only <;> omega
theorem pd_sc_z (k : Nat) : pd_sc k (0, 0) = (0, 0) := by
  unfold pd_sc; apply Prod.ext <;> dsimp only <;> omega
theorem pd_sc_2 (k : Nat) (v : Int × Int) : (2 * (pd_sc k v).1, 2 * (pd_sc k v).2) = pd_sc (2 * k) v := by
  unfold pd_sc; apply Prod.ext <;> dsimp only <;> grind
theorem pd_sc_nz {k : Nat} {v : Int × Int} (hk : k ≠ 0) (hv : v ≠ (0, 0)) : pd_sc k v ≠ (0, 0) := by
  intro e
  have e1 := congrArg Prod.fst e
  have e2 := congrArg Prod.snd e
  unfold pd_sc at e1 e2
  dsimp only at e1 e2
  apply hv
  rcases Int.mul_eq_zero.mp e1 with a | a
  · omega
  · rcases Int.mul_eq_zero.mp e2 with b | b
    · omega
    · exact Prod.ext a b
theorem pd_sc_nrm (k : Nat) (v : Int × Int) : pd_nrm (pd_sc k v) = (k : Int) * (k : Int) * pd_nrm v := by
  unfold pd_nrm pd_sc; dsimp only; grind
/-- 1 if b has the digits of bits on the first q of a mask's -/
def pd_mt (mask bits b : Nat) : Nat → Nat
  | 0 => 1
  | q + 1 => if pd_d mask q = 1 ∧ pd_d b q ≠ pd_d bits q then 0 else pd_mt mask bits b q
theorem pd_mt_01 (mask bits b : Nat) : ∀ q, pd_mt mask bits b q = 0 ∨ pd_mt mask bits b q = 1 := by
  intro q
  induction q with
  | zero => exact Or.inr rfl
  | succ q ih =>
    unfold pd_mt
    split
    · exact Or.inl rfl
    · exact ih
theorem pd_mt_iff (mask bits b : Nat) : ∀ q, pd_mt mask bits b q = 1 ↔ ∀ i, i < q → pd_d mask i = 1 → pd_d b i = pd_d bits i := by
  intro q
  induction q with
  | zero => exact ⟨fun _ i hi => absurd hi (Nat.not_lt_zero i), fun _ => rfl⟩
  | succ q ih =>
    unfold pd_mt
    by_cases c : pd_d mask q = 1 ∧ pd_d b q ≠ pd_d bits q
    · rw [if_pos c]
      exact ⟨fun e => absurd e (by decide), fun h => absurd (h q (by omega) c.1) c.2⟩
    · rw [if_neg c, ih]
      constructor
      · intro h i hi hm
        by_cases e : i = q
        · subst e
          apply Classical.byContradiction
          intro hne
          exact c ⟨hm, hne⟩
        · exact h i (by omega) hm
      · intro h i hi hm
        exact h i (by omega) hm
theorem pd_mt_le {mask bits b q m : Nat} (hqm : q ≤ m) (h : pd_mt mask bits b m = 1) : pd_mt mask bits b q = 1 :=
  (pd_mt_iff _ _ _ _).mpr (fun i hi => (pd_mt_iff _ _ _ _).mp h i (by omega))
theorem px_lt2 {sg : Nat} (h : sg < 2) : nI sg < 2 := nI_lt (b := 2) h (by decide)
theorem px_nlt2 {w : Nat} (h : w < 2) : ¬ nI (2 + w) < 2 := nI_nlt (b := 2) (by omega) (by omega)
theorem pd_2pow_succ (c : Nat) : 2 * 2 ^ c = 2 ^ (c + 1) := by rw [Nat.pow_succ, Nat.mul_comm]
theorem pd_2pow_int (c : Nat) : ((2 ^ (c + 1) : Nat) : Int) = 2 * ((2 ^ c : Nat) : Int) := by rw [Nat.pow_succ]; omega
theorem pd_or_x' {a e q : Nat} (ha : pd_d a q = 0) (he : e ≤ 1) : a ||| (e * 2 ^ q) = a ^^^ (e * 2 ^ q) := by
  apply Nat.eq_of_testBit_eq
  intro i
  rw [Nat.testBit_or, Nat.testBit_xor]
  by_cases c : i = q
  · subst c
    rw [pd_d_f.mp ha]
    cases (e * 2 ^ i).testBit i <;> rfl
  · have : (e * 2 ^ q).testBit i = false := pd_d_f.mp (by rw [pd_d_dpow _ _ _ he, if_neg (fun h => c h.symm)])
    rw [this]
    cases a.testBit i <;> rfl
theorem px_orw' {a e q : Nat} (ha : pd_d a q = 0) (he : e ≤ 1) (hq : q < 31) : nI a ||| (nI e <<< (nI q &&& 31)) = nI (a ^^^ (e * 2 ^ q)) := by
  have h1 : 2 ^ q < 2 ^ 31 := Nat.pow_lt_pow_right (by decide) hq
  have : e * 2 ^ q < 2 ^ 32 := by
    have : e = 0 ∨ e = 1 := by omega
    rcases this with rfl | rfl <;> omega
  rw [px_shl (by omega) this, px_or, pd_or_x' ha he]
theorem pd_d_div (b m k : Nat) : pd_d (b / 2 ^ m) k = pd_d b (k + m) := by
  unfold pd_d
  rw [Nat.testBit_div_two_pow]
theorem pd_div_step (b q : Nat) : b / 2 ^ q = 2 * (b / 2 ^ (q + 1)) + pd_d b q := by
  rw [pd_d_def, Nat.pow_succ, ← Nat.div_div_eq_div_mul]
  omega
/-- a state has nothing at numbers beyond its cells -/
theorem pd_St_supp {n : Nat} {X Z S : Nat → Nat} {o : Nat} {V : Nat → Int × Int} (h : pd_St n X Z S o V) {b : Nat} (hb : b < 32) (hne : V b ≠ (0, 0)) : b < 2 ^ n := by
  apply pd_lt_of_d (N := 5) hb
  intro q h1 h2
  obtain ⟨_, _, c, d, e⟩ := h.2.2.2.2 q h1 h2
  have f := h.2.2.2.1 q h2 b hb
  rw [c, d, e, Nat.xor_zero, Nat.zero_and, pd_on_0, pd_on_and_pow b (by omega)] at f
  have g := pd_ph_fix hne f.symm
  have := pd_d_le b q
  omega
section
variable {f_gatheredX f_gatheredZ f_gatheredPower f_rules f_solutions : Int32} {a_kept a_ruleX a_ruleZ a_basis a_cost a_nextCost a_addsX a_addsZ a_equation a_leading a_solution : Nat → Int32} {n : Nat} {X Z S : Nat → Nat}
theorem px_chance37 {post : Int32 → SX → Prop} {mask bits : Nat} {V : Nat → Int × Int} {X0 Z0 S0 : Nat → Nat} (hn : n ≤ 5) (hmask : mask < 2 ^ n) (hbits : bits < 2 ^ n)
    (h1 : ∀ c X' Z' S' gx gz gp, c ≤ 5 → ((2 ^ c : Nat) : Int) * pd_si (fun b => (pd_mt mask bits b n : Int) * pd_nrm (V b)) 32 = pd_N2 V → pd_Bn X' Z' S' → pd_Same X0 Z0 S0 X' Z' S' 40 → post (nI c) ((nI n), gx, gz, gp, f_rules, f_solutions, (fun jj => nI (X' jj)), (fun jj => nI (Z' jj)), (fun jj => nI (S' jj)), a_kept, a_ruleX, a_ruleZ, a_basis, a_cost, a_nextCost, a_addsX, a_addsZ, a_equation, a_leading, a_solution))
    (h2 : ∀ X' Z' S' gx gz gp, pd_si (fun b => (pd_mt mask bits b n : Int) * pd_nrm (V b)) 32 = 0 → pd_Bn X' Z' S' → pd_Same X0 Z0 S0 X' Z' S' 40 → post (-2) ((nI n), gx, gz, gp, f_rules, f_solutions, (fun jj => nI (X' jj)), (fun jj => nI (Z' jj)), (fun jj => nI (S' jj)), a_kept, a_ruleX, a_ruleZ, a_basis, a_cost, a_nextCost, a_addsX, a_addsZ, a_equation, a_leading, a_solution)) :
    ∀ f q, q + f = n → ∀ (c : Nat) (X Z S : Nat → Nat) (gx gz gp : Int32) (W : Nat → Int × Int), c ≤ q → pd_St n X Z S 40 W → (∀ b, b < 32 → W b = pd_sc (2 ^ c * pd_mt mask bits b q) (V b)) → pd_N2 W = ((2 ^ c : Nat) : Int) * pd_N2 V →
      pd_Bn X Z S → pd_Same X0 Z0 S0 X Z S 40 → wX_chance_37 post (nI mask) (nI bits) (f + 1) (nI c) (nI q) (nI n) gx gz gp f_rules f_solutions (fun jj => nI (X jj)) (fun jj => nI (Z jj)) (fun jj => nI (S jj)) a_kept a_ruleX a_ruleZ a_basis a_cost a_nextCost a_addsX a_addsZ a_equation a_leading a_solution := by
  have h32 := px_2n hn
  intro f
  induction f with
  | zero =>
    intro q hq c X Z S gx gz gp W hc hSt hW hN hB hs
    have e : q = n := by omega
    subst e
    refine br_t (nI_le (by omega) (by omega)) (h1 c X Z S gx gz gp (by omega) ?_ hB hs)
    have e1 : pd_N2 W = ((2 ^ c : Nat) : Int) * (((2 ^ c : Nat) : Int) * pd_si (fun b => (pd_mt mask bits b q : Int) * pd_nrm (V b)) 32) := by
      rw [← pd_si_mul, ← pd_si_mul]
      apply pd_si_cg
      intro b hb
      rw [hW b hb, pd_sc_nrm]
      rcases pd_mt_01 mask bits b q with m | m
      · rw [m]; simp
      · rw [m, Nat.mul_one]; simp only [Int.mul_assoc]; rw [show ((1 : Nat) : Int) = 1 from rfl, Int.one_mul]
    rw [hN] at e1
    have hp : ((2 ^ c : Nat) : Int) ≠ 0 := by have := Nat.two_pow_pos c; omega
    exact (Int.eq_of_mul_eq_mul_left hp e1).symm
  | succ f ih =>
    intro q hq c X Z S gx gz gp W hc hSt hW hN hB hs
    refine br_f (nI_ge (by omega) (by omega)) (px_digit (by omega) (by omega) ?_)
    rcases pd_d_01 mask q with d | d
    · rw [d]
      refine br_f (by decide) (nm_r (nI_1 q) (ih (q + 1) (by omega) c X Z S gx gz gp W (by omega) hSt ?_ hN hB hs))
      intro b hb
      have : pd_mt mask bits b (q + 1) = pd_mt mask bits b q := if_neg (fun k => by omega)
      rw [hW b hb, this]
    · rw [d]
      refine br_t rfl (px_digit (by omega) (by omega) ?_)
      have due := pd_d_le bits q
      have hq5 : q < 5 := by omega
      have q2n : 2 ^ q < 2 ^ n := Nat.pow_lt_pow_right (by decide) (by omega)
      have e1 : (1 : Int32) <<< (nI q &&& 31) = nI (2 ^ q) := px_pow (by omega)
      have ea : nI (pd_d bits q) &&& 1 = nI (pd_d bits q) := by
        rw [pk_andN (m := 1) (by omega) 1 (by decide), Nat.mod_eq_of_lt (by omega)]
      rw [e1]
      have mts : ∀ b, pd_mt mask bits b (q + 1) = if pd_d b q = pd_d bits q then pd_mt mask bits b q else 0 := by
        intro b
        show (if pd_d mask q = 1 ∧ pd_d b q ≠ pd_d bits q then 0 else pd_mt mask bits b q) = _
        by_cases k : pd_d b q = pd_d bits q
        · rw [if_pos k, if_neg (fun j => j.2 k)]
        · rw [if_neg k, if_pos ⟨d, k⟩]
      refine px_measureIn (b := 4) (x := 0) rfl hn (by decide) hB hSt (Nat.two_pow_pos n) q2n (by omega) ea ?_ ?_
      · intro sg gx' gz' gp' hsg hF
        refine br_t (px_lt2 hsg) ?_
        refine pk_eq sg (pd_d bits q) (fun e => ?_) (fun e => ?_)
        · refine nm_r (nI_1 q) (ih (q + 1) (by omega) c X Z S _ _ _ W (by omega) hSt ?_ hN hB hs)
          intro b hb
          rw [mts b]
          by_cases k : pd_d b q = pd_d bits q
          · rw [if_pos k, hW b hb]
          · rw [if_neg k, Nat.mul_zero, pd_sc_0]
            apply Classical.byContradiction
            intro hne
            exact k ((pd_det_z hsg hq5 hF hb hne).trans e)
        · refine h2 X Z S _ _ _ ?_ hB hs
          have z0 : pd_si (fun b => (pd_mt mask bits b n : Int) * pd_nrm (V b)) 32 = pd_si (fun _ => 0 * 0) 32 := by
            apply pd_si_cg
            intro b hb
            rcases pd_mt_01 mask bits b n with m | m
            · rw [m]; show (0 : Int) * _ = 0 * 0; rw [Int.zero_mul, Int.zero_mul]
            · by_cases v : V b = (0, 0)
              · rw [v]; show _ * (0 : Int) = 0 * 0; rw [Int.mul_zero, Int.zero_mul]
              · have m1 := pd_mt_le (q := q) (by omega) m
                have m2 := pd_mt_le (q := q + 1) (by omega) m
                have wne : W b ≠ (0, 0) := by
                  rw [hW b hb, m1, Nat.mul_one]
                  exact pd_sc_nz (by have := Nat.two_pow_pos c; omega) v
                have k := pd_det_z hsg hq5 hF hb wne
                have k2 := (pd_mt_iff mask bits b (q + 1)).mp m2 q (by omega) d
                omega
          rw [z0, pd_si_mul, Int.zero_mul]
      · intro X' Z' S' gx' gz' gp' hF hSt' hB' hs'
        refine br_f (px_nlt2 (by omega)) (nm_r (nI_1 c) (nm_r (nI_1 q) (ih (q + 1) (by omega) (c + 1) X' Z' S' _ _ _ _ (by omega) hSt' ?_ ?_ hB' ?_)))
        · intro b hb
          rw [pd_mz_z _ _ _ _ (by omega) hq5, mts b]
          by_cases k : pd_d b q = pd_d bits q
          · rw [if_pos k, if_pos k, hW b hb, pd_sc_2, ← Nat.mul_assoc, pd_2pow_succ]
          · rw [if_neg k, if_neg k, Nat.mul_zero, pd_sc_0]
        · rw [pd_N2_mz (by decide) hF, hN, pd_2pow_int, Int.mul_assoc]
        · intro j hj
          have a := hs' j hj
          have b := hs j hj
          rw [a.1, a.2.1, a.2.2]; exact b
theorem px_first15 {post : Int32 → SX → Prop} {V : Nat → Int × Int} {X0 Z0 S0 : Nat → Nat} (hn : n ≤ 5)
    (h : ∀ m X' Z' S' gx gz gp, m < 32 → V m ≠ (0, 0) → (∀ b, b < 32 → V b ≠ (0, 0) → m ≤ b) → pd_Bn X' Z' S' → pd_Same X0 Z0 S0 X' Z' S' 40 → post (nI m) ((nI n), gx, gz, gp, f_rules, f_solutions, (fun jj => nI (X' jj)), (fun jj => nI (Z' jj)), (fun jj => nI (S' jj)), a_kept, a_ruleX, a_ruleZ, a_basis, a_cost, a_nextCost, a_addsX, a_addsZ, a_equation, a_leading, a_solution)) :
    ∀ q, q ≤ n → ∀ (m : Nat) (x2 : Int32) (X Z S : Nat → Nat) (gx gz gp : Int32) (W : Nat → Int × Int), (q = 0 → x2 = -1) → (∀ p, q = p + 1 → x2 = nI p) → m < 32 → (∀ k, k < q → pd_d m k = 0) → pd_St n X Z S 40 W →
      (∀ b, b < 32 → (W b ≠ (0, 0) ↔ V b ≠ (0, 0) ∧ ∀ k, q ≤ k → pd_d b k = pd_d m k)) → (∀ b, b < 32 → V b ≠ (0, 0) → m / 2 ^ q ≤ b / 2 ^ q) →
      pd_Bn X Z S → pd_Same X0 Z0 S0 X Z S 40 → wX_first_15 post (q + 1) (nI m) x2 (nI n) gx gz gp f_rules f_solutions (fun jj => nI (X jj)) (fun jj => nI (Z jj)) (fun jj => nI (S jj)) a_kept a_ruleX a_ruleZ a_basis a_cost a_nextCost a_addsX a_addsZ a_equation a_leading a_solution := by
  have h32 := px_2n hn
  intro q
  induction q with
  | zero =>
    intro _ m x2 X Z S gx gz gp W e0 _ hm _ hSt hW hle hB hs
    rw [e0 rfl]
    refine br_t (by decide) ?_
    obtain ⟨b, hb, hne⟩ := hSt.2.2.1
    obtain ⟨a1, a2⟩ := (hW b hb).mp hne
    have e : b = m := pd_d_ext (fun k => a2 k (Nat.zero_le k))
    rw [e] at a1
    refine h m X Z S gx gz gp hm a1 (fun b hb hv => ?_) hB hs
    have := hle b hb hv
    rw [Nat.pow_zero, Nat.div_one, Nat.div_one] at this
    exact this
  | succ q ih =>
    intro hq m x2 X Z S gx gz gp W _ e1 hm hlow hSt hW hle hB hs
    rw [e1 q rfl]
    have hq5 : q < 5 := by omega
    have q2n : 2 ^ q < 2 ^ n := Nat.pow_lt_pow_right (by decide) (by omega)
    have ep : (1 : Int32) <<< (nI q &&& 31) = nI (2 ^ q) := px_pow (by omega)
    refine br_f (nI_pos (by omega)) ?_
    rw [ep]
    have mq := hlow q (by omega)
    -- the next number
    have dm : ∀ e, e ≤ 1 → ∀ k, pd_d (m ^^^ (e * 2 ^ q)) k = if k = q then e else pd_d m k := by
      intro e he k
      rw [pd_d_xor', pd_d_dpow _ _ _ he]
      have := pd_d_le m k
      by_cases c : q = k
      · subst c; rw [if_pos rfl, if_pos rfl, mq]; omega
      · rw [if_neg c, if_neg (fun h => c h.symm)]; omega
    have lm : ∀ e, e ≤ 1 → m ^^^ (e * 2 ^ q) < 32 := fun e he => pd_xor32 hm (pd_dp32 he hq5)
    have dv : ∀ e, e ≤ 1 → (m ^^^ (e * 2 ^ q)) / 2 ^ q = 2 * (m / 2 ^ (q + 1)) + e := by
      intro e he
      rw [pd_div_step, dm e he q, if_pos rfl]
      congr 2
      apply pd_d_ext
      intro k
      rw [pd_d_div, pd_d_div, dm e he, if_neg (by omega)]
    have xq : ∀ p, q = p + 1 → nI q + (-1) = nI p := fun p hp => by rw [hp]; exact pk_m1 p
    have x0 : q = 0 → nI q + (-1) = -1 := fun h0 => by rw [h0]; rfl
    refine px_measureIn (b := 4) (x := 0) (w := 0) rfl hn (by decide) hB hSt (Nat.two_pow_pos n) q2n (by decide) (by decide) ?_ ?_
    · intro sg gx' gz' gp' hsg hF
      have ea : nI sg &&& 1 = nI sg := by
        rw [pk_andN (m := 1) (by omega) 1 (by decide), Nat.mod_eq_of_lt (by omega)]
      refine nm_r (e' := nI (m ^^^ (sg * 2 ^ q))) (by rw [ea]; exact px_orw' mq (by omega) (by omega)) (nm_e ?_)
      refine ih (by omega) _ _ X Z S _ _ _ W x0 xq (lm sg (by omega)) ?_ hSt ?_ ?_ hB hs
      · intro k hk
        rw [dm sg (by omega), if_neg (by omega)]; exact hlow k (by omega)
      · intro b hb
        rw [hW b hb]
        constructor
        · intro ⟨a1, a2⟩
          refine ⟨a1, fun k hk => ?_⟩
          rw [dm sg (by omega)]
          by_cases c : k = q
          · rw [if_pos c, c]; exact pd_det_z hsg hq5 hF hb ((hW b hb).mpr ⟨a1, a2⟩)
          · rw [if_neg c]; exact a2 k (by omega)
        · intro ⟨a1, a2⟩
          refine ⟨a1, fun k hk => ?_⟩
          have := a2 k (by omega)
          rw [dm sg (by omega), if_neg (by omega)] at this
          exact this
      · intro b hb hv
        rw [dv sg (by omega), pd_div_step b q]
        have := hle b hb hv
        by_cases c : m / 2 ^ (q + 1) = b / 2 ^ (q + 1)
        · have ag : ∀ k, q + 1 ≤ k → pd_d b k = pd_d m k := by
            intro k hk
            have e1 := pd_d_div b (q + 1) (k - (q + 1))
            have e2 := pd_d_div m (q + 1) (k - (q + 1))
            rw [show k - (q + 1) + (q + 1) = k by omega] at e1 e2
            rw [← e1, ← e2, c]
          have := pd_det_z hsg hq5 hF hb ((hW b hb).mpr ⟨hv, ag⟩)
          omega
        · omega
    · intro X' Z' S' gx' gz' gp' hF hSt' hB' hs'
      have ea : nI (2 + 0) &&& 1 = nI 0 := by decide
      refine nm_r (e' := nI (m ^^^ (0 * 2 ^ q))) (by rw [ea]; exact px_orw' mq (by omega) (by omega)) (nm_e ?_)
      refine ih (by omega) _ _ X' Z' S' _ _ _ _ x0 xq (lm 0 (by omega)) ?_ hSt' ?_ ?_ hB' ?_
      · intro k hk
        rw [dm 0 (by omega), if_neg (by omega)]; exact hlow k (by omega)
      · intro b hb
        rw [pd_mz_z _ _ _ _ (by omega) hq5]
        by_cases c : pd_d b q = 0
        · rw [if_pos c]
          have : ((2 * (W b).1, 2 * (W b).2) ≠ ((0, 0) : Int × Int)) ↔ W b ≠ (0, 0) := by
            constructor
            · intro k1 k2; rw [k2] at k1; exact k1 rfl
            · intro k1 k2
              have z1 := congrArg Prod.fst k2
              have z2 := congrArg Prod.snd k2
              dsimp only at z1 z2
              exact k1 (Prod.ext (by omega) (by omega))
          rw [this, hW b hb]
          constructor
          · intro ⟨a1, a2⟩
            refine ⟨a1, fun k hk => ?_⟩
            rw [dm 0 (by omega)]
            by_cases c2 : k = q
            · rw [if_pos c2, c2]; exact c
            · rw [if_neg c2]; exact a2 k (by omega)
          · intro ⟨a1, a2⟩
            refine ⟨a1, fun k hk => ?_⟩
            have := a2 k (by omega)
            rw [dm 0 (by omega), if_neg (by omega)] at this
            exact this
        · rw [if_neg c]
          refine ⟨fun k => absurd rfl k, fun ⟨_, a2⟩ => ?_⟩
          have := a2 q (Nat.le_refl q)
          rw [dm 0 (by omega), if_pos rfl] at this
          exact absurd this c
      · intro b hb hv
        rw [dv 0 (by omega), pd_div_step b q]
        have := hle b hb hv
        omega
      · intro j hj
        have a := hs' j hj
        have b := hs j hj
        rw [a.1, a.2.1, a.2.2]; exact b
theorem px_first {post : Int32 → SX → Prop} {V : Nat → Int × Int} (hn1 : 1 ≤ n) (hn : n ≤ 5) (hB : pd_Bn X Z S) (hSt : pd_St n X Z S 0 V)
    (h : ∀ m X' Z' S' gx gz gp, m < 32 → V m ≠ (0, 0) → (∀ b, b < 32 → V b ≠ (0, 0) → m ≤ b) → pd_Bn X' Z' S' → pd_Same X Z S X' Z' S' 40 → post (nI m) ((nI n), gx, gz, gp, f_rules, f_solutions, (fun jj => nI (X' jj)), (fun jj => nI (Z' jj)), (fun jj => nI (S' jj)), a_kept, a_ruleX, a_ruleZ, a_basis, a_cost, a_nextCost, a_addsX, a_addsZ, a_equation, a_leading, a_solution)) : wpX_first post ((nI n), f_gatheredX, f_gatheredZ, f_gatheredPower, f_rules, f_solutions, (fun jj => nI (X jj)), (fun jj => nI (Z jj)), (fun jj => nI (S jj)), a_kept, a_ruleX, a_ruleZ, a_basis, a_cost, a_nextCost, a_addsX, a_addsZ, a_equation, a_leading, a_solution) := by
  unfold wpX_first
  dsimp only
  refine px_copyBank (b := 0) (c := 4) rfl rfl (by decide) (by decide) (by decide) (fun X' Z' S' hc hs => ?_)
  have st : pd_St n X' Z' S' 40 V := pd_St_cg hSt (fun i hi => (hc i hi).1) (fun i hi => (hc i hi).2.1) (fun i hi => (hc i hi).2.2) (fun _ _ => rfl)
  have e1 : nI n - 1 = nI (n - 1) := pk_sub (b := 1) hn1
  refine nm_r e1 ⟨n + 1, ?_⟩
  refine px_first15 hn h n (Nat.le_refl n) 0 _ X' Z' S' _ _ _ V (fun e => by omega) (fun p e => by rw [e]; rfl) (by decide) (fun k _ => pd_d_0 k) st ?_ (fun b _ _ => by rw [Nat.zero_div]; exact Nat.zero_le _) (pd_Bn_of hB hs st.1) hs
  intro b hb
  refine ⟨fun hv => ⟨hv, fun k hk => ?_⟩, fun a => a.1⟩
  rw [pd_d_0]
  exact pd_d_ge (pd_St_supp hSt hb hv) hk
end
end
section
theorem pd_sc_I2 (k : Nat) (v : Int × Int) : pd_nrm ((k : Int) * v.1, (k : Int) * v.2) = (k : Int) * (k : Int) * pd_nrm v := pd_sc_nrm k v
section
variable {f_gatheredX f_gatheredZ f_gatheredPower f_rules f_solutions : Int32} {a_kept a_ruleX a_ruleZ a_basis a_cost a_nextCost a_addsX a_addsZ a_equation a_leading a_solution : Nat → Int32} {n : Nat} {X Z S : Nat → Nat}
theorem px_overlap28 {post : Int32 → SX → Prop} {s : Nat} {V F : Nat → Int × Int} {X0 Z0 S0 : Nat → Nat} (hn : n ≤ 5) (hs3 : s < 3) (hF : pd_St n X0 Z0 S0 (10 * (s + 1)) F)
    (h1 : ∀ c X' Z' S' gx gz gp, c ≤ 5 → ((2 ^ c : Nat) : Int) * pd_nrm (pd_I2 F V) = pd_N2 F * pd_N2 V → pd_Bn X' Z' S' → pd_Same X0 Z0 S0 X' Z' S' 40 → post (nI c) ((nI n), gx, gz, gp, f_rules, f_solutions, (fun jj => nI (X' jj)), (fun jj => nI (Z' jj)), (fun jj => nI (S' jj)), a_kept, a_ruleX, a_ruleZ, a_basis, a_cost, a_nextCost, a_addsX, a_addsZ, a_equation, a_leading, a_solution))
    (h2 : ∀ X' Z' S' gx gz gp, pd_I2 F V = (0, 0) → pd_Bn X' Z' S' → pd_Same X0 Z0 S0 X' Z' S' 40 → post (-2) ((nI n), gx, gz, gp, f_rules, f_solutions, (fun jj => nI (X' jj)), (fun jj => nI (Z' jj)), (fun jj => nI (S' jj)), a_kept, a_ruleX, a_ruleZ, a_basis, a_cost, a_nextCost, a_addsX, a_addsZ, a_equation, a_leading, a_solution)) :
    ∀ f q, q + f = n → ∀ (c : Nat) (X Z S : Nat → Nat) (gx gz gp : Int32) (W : Nat → Int × Int), c ≤ q → pd_St n X Z S 40 W → (∀ i, i < q → pd_Rw 5 X0 Z0 S0 (10 * (s + 1) + (5 + i)) W) →
      pd_I2 F W = pd_sc (2 ^ c) (pd_I2 F V) → pd_N2 W = ((2 ^ c : Nat) : Int) * pd_N2 V →
      pd_Bn X Z S → pd_Same X0 Z0 S0 X Z S 40 → wX_overlap_28 post (nI s) (f + 1) (nI c) (nI q) (nI n) gx gz gp f_rules f_solutions (fun jj => nI (X jj)) (fun jj => nI (Z jj)) (fun jj => nI (S jj)) a_kept a_ruleX a_ruleZ a_basis a_cost a_nextCost a_addsX a_addsZ a_equation a_leading a_solution := by
  have h32 := px_2n hn
  intro f
  induction f with
  | zero =>
    intro q hq c X Z S gx gz gp W hc hSt hW hI hN hB hs
    have e : q = n := by omega
    subst e
    refine br_t (nI_le (by omega) (by omega)) (h1 c X Z S gx gz gp (by omega) ?_ hB hs)
    have stW : pd_St q X0 Z0 S0 (10 * (s + 1)) W := by
      refine ⟨hF.1, hF.2.1, hSt.2.2.1, ?_, hF.2.2.2.2⟩
      intro i hi
      by_cases d : i < q
      · exact hW i d
      · obtain ⟨_, _, a1, a2, a3⟩ := hF.2.2.2.2 i (by omega) hi
        obtain ⟨_, _, b1, b2, b3⟩ := hSt.2.2.2.2 i (by omega) hi
        have r := hSt.2.2.2.1 i hi
        unfold pd_Rw at r ⊢
        rw [a1, a2, a3]
        rw [b1, b2, b3] at r
        exact r
    have pr := pd_prop hF stW
    rw [hI, hN] at pr
    unfold pd_sc at pr
    rw [pd_sc_I2] at pr
    have hp : ((2 ^ c : Nat) : Int) ≠ 0 := by have := Nat.two_pow_pos c; omega
    apply Int.eq_of_mul_eq_mul_left hp
    rw [← Int.mul_assoc, pr]
    grind
  | succ f ih =>
    intro q hq c X Z S gx gz gp W hc hSt hW hI hN hB hs
    refine br_f (nI_ge (by omega) (by omega)) ?_
    have er : (nI s + 1) * 10 + 5 + nI q = nI (10 * (s + 1) + (5 + q)) := by
      rw [nI_1]; exact px_row5 (s + 1) q
    refine nm_r er ?_
    have hi : vp_in (nI (10 * (s + 1) + (5 + q))) 60 := vp_in_nI (by omega) (by decide)
    rw [nI_clamp (n := 10 * (s + 1) + (5 + q)) (by omega)]
    obtain ⟨eX, eZ, eS⟩ := hs (10 * (s + 1) + (5 + q)) (Or.inl (by omega))
    have sm := pd_St_small hF (i := 5 + q) (by omega) (by omega)
    have bd := hF.1 (5 + q) (by omega)
    have rw0 := hF.2.2.2.1 q (by omega)
    dsimp only
    rw [eX, eZ, eS]
    have ea : nI (S0 (10 * (s + 1) + (5 + q))) &&& 1 = nI (S0 (10 * (s + 1) + (5 + q))) := by
      rw [pk_andN (m := 1) (by omega) 1 (by decide), Nat.mod_eq_of_lt (by omega)]
    refine ⟨hi, hi, hi, px_measureIn (b := 4) rfl hn (by decide) hB hSt sm.1 sm.2 bd.2.2 ea ?_ ?_⟩
    · intro sg gx' gz' gp' hsg hG
      refine br_t (px_lt2 hsg) ⟨hi, ?_⟩
      refine pk_eq sg (S0 (10 * (s + 1) + (5 + q))) (fun e => ?_) (fun e => ?_) (hy := congrArg nI eS)
      · refine nm_r (nI_1 q) (ih (q + 1) (by omega) c X Z S _ _ _ W (by omega) hSt ?_ hI hN hB hs)
        intro i hi2
        by_cases e2 : i = q
        · subst e2; unfold pd_Rw; rw [← e]; exact hG
        · exact hW i (by omega)
      · refine h2 X Z S _ _ _ ?_ hB hs
        have z := pd_I2_0 bd.1 bd.2.2 hsg (fun k => e k.symm) rw0 hG
        rw [hI] at z
        apply Classical.byContradiction
        intro hne
        exact pd_sc_nz (by have := Nat.two_pow_pos c; omega) hne z
    · intro X' Z' S' gx' gz' gp' hG hSt' hB' hs'
      refine br_f (px_nlt2 bd.2.2) (nm_r (nI_1 c) (nm_r (nI_1 q) (ih (q + 1) (by omega) (c + 1) X' Z' S' _ _ _ _ (by omega) hSt' ?_ ?_ ?_ hB' ?_)))
      · intro i hi2
        by_cases e2 : i = q
        · subst e2; unfold pd_Rw; exact pd_Fx_mz'
        · have ri := hW i (by omega)
          unfold pd_Rw at ri ⊢
          refine pd_Fx_mz (N := 5) bd.1 ?_ ri
          rw [hF.2.1 (5 + i) (5 + q) (by omega) (by omega), if_neg (by omega)]
      · rw [pd_I2_mz bd.1 rw0, hI, pd_sc_2, pd_2pow_succ]
      · rw [pd_N2_mz bd.1 hG, hN, pd_2pow_int, Int.mul_assoc]
      · intro j hj
        have a := hs' j hj
        have b := hs j hj
        rw [a.1, a.2.1, a.2.2]; exact b
end
theorem pd_N2_cnt {V : Nat → Int × Int} (h : ∀ b, b < 32 → pd_Un (V b)) : pd_N2 V = ((pd_sm (fun b => pd_th (V b)) 32 : Nat) : Int) := by
  rw [pd_sm_cast]
  apply pd_si_cg
  intro b hb
  exact (pd_th_nrm (h b hb)).symm
theorem pd_mt_and {n mask bits b : Nat} (hmask : mask < 2 ^ n) (hbits : bits < 2 ^ n) (hsub : ∀ k, pd_d bits k = 1 → pd_d mask k = 1) : pd_mt mask bits b n = 1 ↔ b &&& mask = bits := by
  rw [pd_mt_iff]
  constructor
  · intro h
    apply pd_d_ext
    intro k
    rw [pd_d_and]
    rcases pd_d_01 mask k with m | m
    · rw [m, Nat.mul_zero]
      rcases pd_d_01 bits k with e | e
      · exact e.symm
      · have := hsub k e; omega
    · rw [m, Nat.mul_one]
      by_cases c : k < n
      · exact h k c m
      · have := pd_d_ge hmask (k := k) (by omega)
        omega
  · intro e i hi hm
    rw [← e, pd_d_and, hm, Nat.mul_one]
theorem i_vc_first {k : Nat} {u : SX} {v : SY} (I : i_Rel k u v) (hk : k + 4 ≤ 2049) : wpX_first (fun r u' => wpY_first (fun r' => r' = r ∧ i_Rel (k + 4) u' v) v) u := by
  refine zz_el (P := fun u v => wpX_first (fun r u' => wpY_first (fun r' => r' = r ∧ i_Rel (k + 4) u' v) v) u) I ?_
  intro n r X Z S qx qz bs A N B kp g1 g2 g3 g4 g5 g6 h1 h2 h3 h4 h5 h6 h7 i1 i2
  refine px_first i1.1.1 i1.1.2 i1.2.1 i1.2.2.1 (fun m X' Z' S' gx gz gp hm hv hle hB hs => ?_)
  refine py_first (fun j hj => pd_Un_bd (i1.2.2.2.2.1 j hj)) hm ?_ hv ⟨rfl, zz_in (pd_Inv_tr i1 hB hs) i2⟩
  intro b hb
  apply Classical.byContradiction
  intro hne
  have := hle b (by omega) hne
  omega
theorem pd_andnot {a m : Nat} (ha : a < 32) (hm : m < 32) : (nI a &&& (nI m ^^^ (-1))) = 0 ↔ ∀ k, pd_d a k = 1 → pd_d m k = 1 := by
  have T : ∀ a, a < 32 → ∀ m, m < 32 → ((nI a &&& (nI m ^^^ (-1))) = 0 ↔ ∀ k, k < 5 → pd_d a k = 1 → pd_d m k = 1) := by decide +kernel
  rw [T a ha m hm]
  refine ⟨fun h k hk => ?_, fun h k _ => h k⟩
  by_cases c : k < 5
  · exact h k c hk
  · have := pd_d_ge (n := 5) ha (k := k) (by omega)
    omega
theorem i_vc_chance {k : Nat} {u : SX} {v : SY} (I : i_Rel k u v) (hk : k + 4 ≤ 2049) (v1 : Int32) (v2 : Int32) : wpX_chance (fun r u' => wpY_chance (fun r' => r' = r ∧ i_Rel (k + 4) u' v) v v1 v2) u v1 v2 := by
  refine zz_el (P := fun u v => wpX_chance (fun r u' => wpY_chance (fun r' => r' = r ∧ i_Rel (k + 4) u' v) v v1 v2) u v1 v2) I ?_
  intro n r X Z S qx qz bs A N B kp g1 g2 g3 g4 g5 g6 h1 h2 h3 h4 h5 h6 h7 i1 i2
  have hn := i1.1.2
  have h32 := px_2n hn
  have hbd : ∀ j, j < 1056 → pd_bd 1 (A j) := fun j hj => pd_Un_bd (i1.2.2.2.2.1 j hj)
  unfold wpX_chance
  dsimp only
  by_cases c : ∃ m, m < 2 ^ n ∧ v1 = nI m
  · obtain ⟨mask, hx, rfl⟩ := c
    refine px_isMask_t hn hx (br_f (by decide) ?_)
    by_cases c2 : ∃ m, m < 2 ^ n ∧ v2 = nI m
    · obtain ⟨bits, hz, rfl⟩ := c2
      refine px_isMask_t hn hz (br_f (by decide) ?_)
      refine ek_if (pd_andnot (a := bits) (m := mask) (by omega) (by omega)) (fun hsub => ?_) (fun hsub => ?_)
      · refine px_copyBank (b := 0) (c := 4) rfl rfl (by decide) (by decide) (by decide) (fun X' Z' S' hc hs => ⟨n + 1, ?_⟩)
        have hSt := i1.2.2.1
        have st : pd_St n X' Z' S' 40 (fun b => A (1024 + b)) := pd_St_cg hSt (fun i hi => (hc i hi).1) (fun i hi => (hc i hi).2.1) (fun i hi => (hc i hi).2.2) (fun _ _ => rfl)
        -- the two counts
        have pw : pd_sm (fun b => pd_th (A (1024 + b))) 32 ≤ 32 := pd_sm_le (fun b _ => pd_th_le _)
        have pp : pd_sm (fun b => if b &&& mask = bits then pd_th (A (1024 + b)) else 0) 32 ≤ 32 := pd_sm_le (fun b _ => by split; exact pd_th_le _; omega)
        have hN := pd_N2_cnt (V := fun b => A (1024 + b)) (fun b hb => i1.2.2.2.2.1 (1024 + b) (by omega))
        have hP : pd_si (fun b => (pd_mt mask bits b n : Int) * pd_nrm (A (1024 + b))) 32 = ((pd_sm (fun b => if b &&& mask = bits then pd_th (A (1024 + b)) else 0) 32 : Nat) : Int) := by
          rw [pd_sm_cast]
          apply pd_si_cg
          intro b hb
          rw [← pd_th_nrm (i1.2.2.2.2.1 (1024 + b) (by omega))]
          by_cases e : b &&& mask = bits
          · rw [if_pos e, (pd_mt_and hx hz hsub).mpr e]; omega
          · rw [if_neg e]
            rcases pd_mt_01 mask bits b n with m | m
            · rw [m]; omega
            · exact absurd ((pd_mt_and hx hz hsub).mp m) e
        have yes : ∀ (post : Int32 → Prop) (c : Nat), c ≤ 5 → ((2 ^ c : Nat) : Int) * pd_si (fun b => (pd_mt mask bits b n : Int) * pd_nrm (A (1024 + b))) 32 = pd_N2 (fun b => A (1024 + b)) → post (nI c) →
            wpY_chance post ((nI n), (nI (2 ^ n)), (nI r), g5, g6, (fun jj => pd_I (A jj).1), (fun jj => pd_I (A jj).2), (fun jj => pd_I (N jj).1), (fun jj => pd_I (N jj).2), (fun jj => pd_I (B jj).1), (fun jj => pd_I (B jj).2), kp, (fun jj => nI (qx jj)), (fun jj => nI (qz jj))) (nI mask) (nI bits) := by
          intro post c hc5 he hp
          unfold wpY_chance
          dsimp only
          refine py_isMask_t hn hx (br_f (by decide) (py_isMask_t hn hz (br_f (by decide) ?_)))
          refine ek_if (pd_andnot (a := bits) (m := mask) (by omega) (by omega)) (fun _ => ⟨33, ?_⟩) (fun no => absurd hsub no)
          refine py_chance34 hbd (by omega) ?_ 32 0 rfl
          rw [hP, hN] at he
          refine py_halvings (by omega) (by omega) ?_ (c := c) (fun _ => ⟨by omega, ?_, hp⟩)
          · intro z
            rw [z] at he
            have := pd_nrm_pos hSt.2.2.1
            have e2 : pd_N2 (fun b => A (1024 + b)) = pd_si (fun b => pd_nrm (A (1024 + b))) 32 := rfl
            rw [← e2, hN] at this
            omega
          · have : ((2 ^ c * pd_sm (fun b => if b &&& mask = bits then pd_th (A (1024 + b)) else 0) 32 : Nat) : Int) = ((pd_sm (fun b => pd_th (A (1024 + b))) 32 : Nat) : Int) := by
              rw [← he]; exact Int.natCast_mul _ _
            rw [Nat.mul_comm]
            omega
        have no : ∀ (post : Int32 → Prop), pd_si (fun b => (pd_mt mask bits b n : Int) * pd_nrm (A (1024 + b))) 32 = 0 → post (-2) →
            wpY_chance post ((nI n), (nI (2 ^ n)), (nI r), g5, g6, (fun jj => pd_I (A jj).1), (fun jj => pd_I (A jj).2), (fun jj => pd_I (N jj).1), (fun jj => pd_I (N jj).2), (fun jj => pd_I (B jj).1), (fun jj => pd_I (B jj).2), kp, (fun jj => nI (qx jj)), (fun jj => nI (qz jj))) (nI mask) (nI bits) := by
          intro post he hp
          unfold wpY_chance
          dsimp only
          refine py_isMask_t hn hx (br_f (by decide) (py_isMask_t hn hz (br_f (by decide) ?_)))
          refine ek_if (pd_andnot (a := bits) (m := mask) (by omega) (by omega)) (fun _ => ⟨33, ?_⟩) (fun no => absurd hsub no)
          refine py_chance34 hbd (by omega) ?_ 32 0 rfl
          rw [hP] at he
          exact py_halvings (by omega) (by omega) (fun _ => hp) (c := 0) (fun hne => absurd (by omega) hne)
        refine px_chance37 hn hx hz (V := fun b => A (1024 + b)) (fun c X2 Z2 S2 gx gz gp hc5 he hB2 hs2 => ?_) (fun X2 Z2 S2 gx gz gp he hB2 hs2 => ?_) n 0 (by omega) 0 X' Z' S' _ _ _ (fun b => A (1024 + b)) (by omega) st ?_ ?_ (pd_Bn_of i1.2.1 hs st.1) hs
        · exact yes _ c hc5 he ⟨rfl, zz_in (pd_Inv_tr i1 hB2 hs2) i2⟩
        · exact no _ he ⟨rfl, zz_in (pd_Inv_tr i1 hB2 hs2) i2⟩
        · intro b hb
          show _ = pd_sc (2 ^ 0 * 1) _
          exact (pd_sc_1 _).symm
        · show _ = ((1 : Nat) : Int) * _
          omega
      · unfold wpY_chance
        dsimp only
        refine py_isMask_t hn hx (br_f (by decide) (py_isMask_t hn hz (br_f (by decide) ?_)))
        exact ek_if (pd_andnot (a := bits) (m := mask) (by omega) (by omega)) (fun yes => absurd yes hsub) (fun _ => ⟨rfl, zz_in i1 i2⟩)
    · refine px_isMask_f hn c2 (br_t rfl ?_)
      unfold wpY_chance
      dsimp only
      exact py_isMask_t hn hx (br_f (by decide) (py_isMask_f hn c2 (br_t rfl ⟨rfl, zz_in i1 i2⟩)))
  · refine px_isMask_f hn c (br_t rfl ?_)
    unfold wpY_chance
    dsimp only
    exact py_isMask_f hn c (br_t rfl ⟨rfl, zz_in i1 i2⟩)
theorem pd_I2_b {F V : Nat → Int × Int} (hF : ∀ b, b < 32 → pd_bd 1 (F b)) (hV : ∀ b, b < 32 → pd_bd 1 (V b)) : (pd_I2 F V).1.natAbs ≤ 64 ∧ (pd_I2 F V).2.natAbs ≤ 64 := by
  have t : ∀ j, j < 32 → (pd_ip (F j) (V j)).1.natAbs ≤ 2 ∧ (pd_ip (F j) (V j)).2.natAbs ≤ 2 := by
    intro j hj
    have u := hF j hj
    have v := hV j hj
    have m1 := pd_mulb u.1 v.1
    have m2 := pd_mulb u.2 v.2
    have m3 := pd_mulb u.1 v.2
    have m4 := pd_mulb u.2 v.1
    unfold pd_ip
    dsimp only
    omega
  exact ⟨pd_si_b (f := fun j => (pd_ip (F j) (V j)).1) (M := 2) (n := 32) (fun j hj => (t j hj).1), pd_si_b (f := fun j => (pd_ip (F j) (V j)).2) (M := 2) (n := 32) (fun j hj => (t j hj).2)⟩
theorem i_vc_overlap {k : Nat} {u : SX} {v : SY} (I : i_Rel k u v) (hk : k + 4 ≤ 2049) (v1 : Int32) : wpX_overlap (fun r u' => wpY_overlap (fun r' v' => r' = r ∧ i_Rel (k + 4) u' v') v v1) u v1 := by
  refine zz_el (P := fun u v => wpX_overlap (fun r u' => wpY_overlap (fun r' v' => r' = r ∧ i_Rel (k + 4) u' v') v v1) u v1) I ?_
  intro n r X Z S qx qz bs A N B kp g1 g2 g3 g4 g5 g6 h1 h2 h3 h4 h5 h6 h7 i1 i2
  have hn := i1.1.2
  have h32 := px_2n hn
  have hbd : ∀ j, j < 1056 → pd_bd 1 (A j) := fun j hj => pd_Un_bd (i1.2.2.2.2.1 j hj)
  unfold wpX_overlap
  dsimp only
  by_cases c : ∃ s, s < 3 ∧ v1 = nI s
  · obtain ⟨s, hs3, rfl⟩ := c
    refine px_isSlot_t hs3 (br_f (by decide) ⟨vp_in_nI hs3 (by decide), ?_⟩)
    rw [nI_clamp (n := s) (by omega)]
    by_cases e : kp s = 0
    · refine br_t e ?_
      unfold wpY_overlap
      dsimp only
      exact py_has_t hs3 (fun d => absurd e d) (fun _ => br_t rfl ⟨rfl, zz_in i1 i2⟩)
    · refine br_f e ?_
      obtain ⟨hF, hUB⟩ := i1.2.2.2.2.2 s hs3 e
      refine px_copyBank (b := 0) (c := 4) rfl rfl (by decide) (by decide) (by decide) (fun X' Z' S' hc hs => ⟨n + 1, ?_⟩)
      have hSt := i1.2.2.1
      have st : pd_St n X' Z' S' 40 (fun b => A (1024 + b)) := pd_St_cg hSt (fun i hi => (hc i hi).1) (fun i hi => (hc i hi).2.1) (fun i hi => (hc i hi).2.2) (fun _ _ => rfl)
      have hN := pd_N2_cnt (V := fun b => A (1024 + b)) (fun b hb => i1.2.2.2.2.1 (1024 + b) (by omega))
      have hM := pd_N2_cnt (V := fun b => B (32 * s + b)) hUB
      have pw : pd_sm (fun b => pd_th (A (1024 + b))) 32 ≤ 32 := pd_sm_le (fun b _ => pd_th_le _)
      have pp : pd_sm (fun b => pd_th (B (32 * s + b))) 32 ≤ 32 := pd_sm_le (fun b _ => pd_th_le _)
      have ib := pd_I2_b (F := fun b => B (32 * s + b)) (V := fun b => A (1024 + b)) (fun b hb => pd_Un_bd (hUB b hb)) (fun b hb => hbd (1024 + b) (by omega))
      have nn := pd_nrm_nn (pd_I2 (fun b => B (32 * s + b)) (fun b => A (1024 + b)))
      have nb : pd_nrm (pd_I2 (fun b => B (32 * s + b)) (fun b => A (1024 + b))) ≤ 8192 := by
        have m1 := pd_mulb ib.1 ib.1
        have m2 := pd_mulb ib.2 ib.2
        unfold pd_nrm
        omega
      have hprod : pd_sm (fun b => pd_th (A (1024 + b))) 32 * pd_sm (fun b => pd_th (B (32 * s + b))) 32 ≤ 32 * 32 := Nat.mul_le_mul pw pp
      obtain ⟨t, ht⟩ : ∃ t : Nat, pd_nrm (pd_I2 (fun b => B (32 * s + b)) (fun b => A (1024 + b))) = (t : Int) := ⟨(pd_nrm (pd_I2 (fun b => B (32 * s + b)) (fun b => A (1024 + b)))).toNat, by omega⟩
      have walk : ∀ (P : Int32 → SY → Prop), (wpY_halvings (fun r' => P r' ((nI n), (nI (2 ^ n)), (nI r), (pd_I (pd_I2 (fun b => B (32 * s + b)) (fun b => A (1024 + b))).1), (pd_I (pd_I2 (fun b => B (32 * s + b)) (fun b => A (1024 + b))).2), (fun jj => pd_I (A jj).1), (fun jj => pd_I (A jj).2), (fun jj => pd_I (N jj).1), (fun jj => pd_I (N jj).2), (fun jj => pd_I (B jj).1), (fun jj => pd_I (B jj).2), kp, (fun jj => nI (qx jj)), (fun jj => nI (qz jj))))
            ((nI n), (nI (2 ^ n)), (nI r), (pd_I (pd_I2 (fun b => B (32 * s + b)) (fun b => A (1024 + b))).1), (pd_I (pd_I2 (fun b => B (32 * s + b)) (fun b => A (1024 + b))).2), (fun jj => pd_I (A jj).1), (fun jj => pd_I (A jj).2), (fun jj => pd_I (N jj).1), (fun jj => pd_I (N jj).2), (fun jj => pd_I (B jj).1), (fun jj => pd_I (B jj).2), kp, (fun jj => nI (qx jj)), (fun jj => nI (qz jj)))
            (nI t) (nI (pd_sm (fun b => pd_th (A (1024 + b))) 32 * pd_sm (fun b => pd_th (B (32 * s + b))) 32))) →
          wpY_overlap P ((nI n), (nI (2 ^ n)), (nI r), g5, g6, (fun jj => pd_I (A jj).1), (fun jj => pd_I (A jj).2), (fun jj => pd_I (N jj).1), (fun jj => pd_I (N jj).2), (fun jj => pd_I (B jj).1), (fun jj => pd_I (B jj).2), kp, (fun jj => nI (qx jj)), (fun jj => nI (qz jj))) (nI s) := by
        intro P hP
        unfold wpY_overlap
        dsimp only
        refine py_has_t hs3 (fun _ => br_f (by decide) ⟨33, ?_⟩) (fun d => absurd d e)
        refine py_overlap27 hs3 hbd (fun b hb => pd_Un_bd (hUB b hb)) ?_ 32 0 rfl
        rw [ht, pd_I_nat]
        exact hP
      refine px_overlap28 hn hs3 (F := fun b => B (32 * s + b)) (V := fun b => A (1024 + b)) (X0 := X) (Z0 := Z) (S0 := S) hF (fun c X2 Z2 S2 gx gz gp hc5 he hB2 hs2 => ?_) (fun X2 Z2 S2 gx gz gp he hB2 hs2 => ?_) n 0 (by omega) 0 X' Z' S' _ _ _ (fun b => A (1024 + b)) (by omega) st (fun i hi => absurd hi (Nat.not_lt_zero i)) ?_ ?_ (pd_Bn_of i1.2.1 hs st.1) hs
      · refine walk _ ?_
        rw [ht, hN, hM] at he
        refine py_halvings (by omega) (by omega) ?_ (c := c) (fun _ => ⟨by omega, ?_, ⟨rfl, zz_in (pd_Inv_tr i1 hB2 hs2) i2⟩⟩)
        · intro z
          subst z
          have p1 := pd_nrm_pos hSt.2.2.1
          have p2 := pd_nrm_pos hF.2.2.1
          have e1 : pd_N2 (fun b => A (1024 + b)) = pd_si (fun b => pd_nrm (A (1024 + b))) 32 := rfl
          have e2 : pd_N2 (fun b => B (32 * s + b)) = pd_si (fun b => pd_nrm (B (32 * s + b))) 32 := rfl
          rw [← e1, hN] at p1
          rw [← e2, hM] at p2
          have := Int.mul_pos p2 p1
          omega
        · have e3 : ((2 ^ c * t : Nat) : Int) = ((pd_sm (fun b => pd_th (B (32 * s + b))) 32 * pd_sm (fun b => pd_th (A (1024 + b))) 32 : Nat) : Int) := by
            rw [Int.natCast_mul, Int.natCast_mul]; exact he
          rw [Nat.mul_comm t, Nat.mul_comm (pd_sm (fun b => pd_th (A (1024 + b))) 32)]
          omega
      · refine walk _ ?_
        rw [he] at ht
        have t0 : t = 0 := by
          have : pd_nrm (0, 0) = 0 := rfl
          omega
        subst t0
        exact py_halvings (by omega) (by omega) (fun _ => ⟨rfl, zz_in (pd_Inv_tr i1 hB2 hs2) i2⟩) (c := 0) (fun hne => absurd rfl hne)
      · exact (pd_sc_1 _).symm
      · show _ = ((1 : Nat) : Int) * _
        omega
  · refine px_isSlot_f c (br_t rfl ?_)
    unfold wpY_overlap
    dsimp only
    exact py_has_f c (br_t rfl ⟨rfl, zz_in i1 i2⟩)
end
section
/-- rows 45 .. keep V, and what commutes with them commutes with the state's own -/
def pd_Rd (n : Nat) (X0 Z0 : Nat → Nat) (V : Nat → Int × Int) (X Z S : Nat → Nat) : Prop :=
  (∀ i, i < n → pd_Rw 5 X Z S (45 + i) V) ∧ (∀ u v, (∀ i, i < n → pd_cl (X (45 + i)) (Z (45 + i)) u v = 0) → ∀ q, q < n → pd_cl (X0 (5 + q)) (Z0 (5 + q)) u v = 0)
theorem pd_Rd_mul {n : Nat} {X0 Z0 X Z S : Nat → Nat} {V : Nat → Int × Int} (h : pd_Rd n X0 Z0 V X Z S) (hn : n ≤ 5) (hV : pd_Nz 5 V) (hB : pd_Bn X Z S) {i p : Nat} (hi : i < n) (hp : p < n) (hne : i ≠ p) :
    pd_Rd n X0 Z0 V (pd_u X (45 + i) (X (45 + i) ^^^ X (45 + p))) (pd_u Z (45 + i) (Z (45 + i) ^^^ Z (45 + p))) (pd_u S (45 + i) (pd_ms X Z S (45 + i) (45 + p))) := by
  refine ⟨fun j hj => ?_, fun u v hc => h.2 u v (fun j hj => ?_)⟩
  · by_cases e : j = i
    · subst e
      unfold pd_Rw
      rw [pd_u_s, pd_u_s, pd_u_s]
      exact pd_ms_Fx hV (h.1 j hj) (h.1 p hp) (hB (45 + j) (by omega)).1 (hB (45 + p) (by omega)).1
    · have ne : 45 + j ≠ 45 + i := by omega
      have := h.1 j hj
      unfold pd_Rw at this ⊢
      rw [pd_u_n ne, pd_u_n ne, pd_u_n ne]
      exact this
  · have cp := hc p hp
    have np : 45 + p ≠ 45 + i := by omega
    rw [pd_u_n np, pd_u_n np] at cp
    by_cases e : j = i
    · subst e
      have ci := hc j hj
      rw [pd_u_s, pd_u_s, pd_cl_xor_l, cp] at ci
      have := pd_cl_lt (X (45 + j)) (Z (45 + j)) u v
      omega
    · have ne : 45 + j ≠ 45 + i := by omega
      have cj := hc j hj
      rw [pd_u_n ne, pd_u_n ne] at cj
      exact cj
theorem pd_Rd_swap {n : Nat} {X0 Z0 X Z S : Nat → Nat} {V : Nat → Int × Int} (h : pd_Rd n X0 Z0 V X Z S) {i p : Nat} (hi : i < n) (hp : p < n) :
    pd_Rd n X0 Z0 V (pd_u (pd_u X (45 + i) (X (45 + p))) (45 + p) (X (45 + i))) (pd_u (pd_u Z (45 + i) (Z (45 + p))) (45 + p) (Z (45 + i))) (pd_u (pd_u S (45 + i) (S (45 + p))) (45 + p) (S (45 + i))) := by
  have get : ∀ (f : Nat → Nat) j, pd_u (pd_u f (45 + i) (f (45 + p))) (45 + p) (f (45 + i)) (45 + j) = f (45 + (if j = p then i else if j = i then p else j)) := by
    intro f j
    unfold pd_u
    by_cases e1 : j = p
    · rw [if_pos e1, if_pos (by omega)]
    · rw [if_neg e1, if_neg (by omega)]
      by_cases e2 : j = i
      · rw [if_pos e2, if_pos (by omega)]
      · rw [if_neg e2, if_neg (by omega)]
  have lt : ∀ j, j < n → (if j = p then i else if j = i then p else j) < n := by
    intro j hj
    split
    · exact hi
    · split
      · exact hp
      · exact hj
  refine ⟨fun j hj => ?_, fun u v hc => h.2 u v (fun j hj => ?_)⟩
  · unfold pd_Rw
    rw [get, get, get]
    exact h.1 _ (lt j hj)
  · have := hc _ (lt j hj)
    rw [get, get] at this
    have e : (if (if j = p then i else if j = i then p else j) = p then i else if (if j = p then i else if j = i then p else j) = i then p else (if j = p then i else if j = i then p else j)) = j := by
      by_cases e1 : j = p
      · rw [if_pos e1]
        by_cases e3 : i = p
        · rw [if_pos e3]; omega
        · rw [if_neg e3, if_pos rfl]; omega
      · rw [if_neg e1]
        by_cases e2 : j = i
        · rw [if_pos e2, if_pos rfl]; omega
        · rw [if_neg e2, if_neg e1, if_neg e2]
    rw [e] at this
    exact this
/-- the form: p rows with leading digits at m or above, each of which stands in one row only; the others have no digit at m or above -/
def pd_Ec (n : Nat) (x : Nat → Nat) (p m : Nat) (l : Nat → Nat) : Prop :=
  (∀ i, i < p → m ≤ l i ∧ l i < 5 ∧ pd_d (x i) (l i) = 1 ∧ (∀ k, l i < k → pd_d (x i) k = 0) ∧ ∀ j, j < n → j ≠ i → pd_d (x j) (l i) = 0) ∧
  (∀ j, p ≤ j → j < n → ∀ k, m ≤ k → pd_d (x j) k = 0)
/-- no row left has digit m -/
theorem pd_Ec_no {n p m : Nat} {x l : Nat → Nat} (h : pd_Ec n x p (m + 1) l) (hno : ∀ j, p ≤ j → j < n → pd_d (x j) m = 0) : pd_Ec n x p m l := by
  refine ⟨fun i hi => ?_, fun j h1 h2 k hk => ?_⟩
  · obtain ⟨a, b⟩ := h.1 i hi
    exact ⟨by omega, b⟩
  · by_cases e : k = m
    · rw [e]; exact hno j h1 h2
    · exact h.2 j h1 h2 k (by omega)
/-- a row with digit m goes to place p -/
theorem pd_Ec_swap {n p m i : Nat} {x x' l : Nat → Nat} (h : pd_Ec n x p (m + 1) l) (hi : p ≤ i) (hin : i < n) (hx : ∀ j, j < n → x' j = x (if j = p then i else if j = i then p else j)) : pd_Ec n x' p (m + 1) l := by
  refine ⟨fun j hj => ?_, fun j h1 h2 k hk => ?_⟩
  · have ej : x' j = x j := by rw [hx j (by omega), if_neg (by omega), if_neg (by omega)]
    obtain ⟨a, b, c, d, e⟩ := h.1 j hj
    rw [ej]
    refine ⟨a, b, c, d, fun t ht hne => ?_⟩
    rw [hx t ht]
    split
    · exact e i hin (by omega)
    · split
      · exact e p (by omega) (by omega)
      · exact e t ht hne
  · rw [hx j h2]
    split
    · exact h.2 i hi hin k hk
    · split
      · exact h.2 p (by omega) (by omega) k hk
      · exact h.2 j h1 h2 k hk
/-- digit m cleared in all rows but p -/
theorem pd_Ec_clear {n p m : Nat} {x x' l : Nat → Nat} (h : pd_Ec n x p (m + 1) l) (hp : p < n) (hm : m < 5) (hd : pd_d (x p) m = 1) (hx : ∀ j, j < n → x' j = if j ≠ p ∧ pd_d (x j) m = 1 then x j ^^^ x p else x j) :
    pd_Ec n x' (p + 1) m (fun i => if i = p then m else l i) := by
  have hp0 : ∀ k, m < k → pd_d (x p) k = 0 := fun k hk => h.2 p (Nat.le_refl p) hp k (by omega)
  have same : ∀ j, j < n → ∀ k, m < k → pd_d (x' j) k = pd_d (x j) k := by
    intro j hj k hk
    rw [hx j hj]
    split
    · rw [pd_d_xor', hp0 k hk]
      have := pd_d_le (x j) k
      omega
    · rfl
  have clr : ∀ j, j < n → j ≠ p → pd_d (x' j) m = 0 := by
    intro j hj hne
    rw [hx j hj]
    by_cases c : pd_d (x j) m = 1
    · rw [if_pos ⟨hne, c⟩, pd_d_xor', c, hd]
    · rw [if_neg (fun k => c k.2)]
      have := pd_d_01 (x j) m
      omega
  have ep : x' p = x p := by rw [hx p hp, if_neg (fun k => k.1 rfl)]
  refine ⟨fun i hi => ?_, fun j h1 h2 k hk => ?_⟩
  · dsimp only
    by_cases e : i = p
    · subst e
      rw [if_pos rfl, ep]
      exact ⟨Nat.le_refl m, hm, hd, hp0, fun j hj hne => clr j hj hne⟩
    · rw [if_neg e]
      obtain ⟨a, b, c, d, f⟩ := h.1 i (by omega)
      refine ⟨by omega, b, ?_, fun k hk => ?_, fun j hj hne => ?_⟩
      · rw [same i (by omega) _ (by omega)]; exact c
      · rw [same i (by omega) _ (by omega)]; exact d k hk
      · rw [same j hj _ (by omega)]; exact f j hj hne
  · by_cases e : k = m
    · rw [e]; exact clr j h2 (by omega)
    · rw [same j h2 k (by omega)]; exact h.2 j (by omega) h2 k (by omega)
section
variable {f_gatheredX f_gatheredZ f_gatheredPower f_rules f_solutions : Int32} {a_kept a_ruleX a_ruleZ a_basis a_cost a_nextCost a_addsX a_addsZ a_equation a_leading a_solution : Nat → Int32} {n : Nat} {X Z S : Nat → Nat}
theorem px_exchange {post : SX → Prop} {p0 p1 : Int32} {a b : Nat} (e0 : p0 = nI a) (e1 : p1 = nI b) (ha : a < 60) (hb : b < 60)
    (h : post ((nI n), f_gatheredX, f_gatheredZ, f_gatheredPower, f_rules, f_solutions, (fun jj => nI ((pd_u (pd_u X a (X b)) b (X a)) jj)), (fun jj => nI ((pd_u (pd_u Z a (Z b)) b (Z a)) jj)), (fun jj => nI ((pd_u (pd_u S a (S b)) b (S a)) jj)), a_kept, a_ruleX, a_ruleZ, a_basis, a_cost, a_nextCost, a_addsX, a_addsZ, a_equation, a_leading, a_solution)) : wpX_exchange post ((nI n), f_gatheredX, f_gatheredZ, f_gatheredPower, f_rules, f_solutions, (fun jj => nI (X jj)), (fun jj => nI (Z jj)), (fun jj => nI (S jj)), a_kept, a_ruleX, a_ruleZ, a_basis, a_cost, a_nextCost, a_addsX, a_addsZ, a_equation, a_leading, a_solution) p0 p1 := by
  subst e0 e1
  have hi : vp_in (nI a) 60 := vp_in_nI ha (by decide)
  unfold wpX_exchange
  dsimp only
  rw [nI_clamp (n := a) (by omega)]
  refine ⟨hi, nm_e ⟨hi, nm_e ⟨hi, nm_e ?_⟩⟩⟩
  refine px_copyRow rfl rfl hb ha ?_
  exact px_setRow rfl rfl rfl rfl hb h
theorem px_clear3 {post : SX → Prop} {p m : Nat} {V : Nat → Int × Int} {X0 Z0 S0 : Nat → Nat} {x : Nat → Nat} (hn : n ≤ 5) (hV : pd_Nz 5 V) (hp : p < n) (hm : m < 5)
    (h : ∀ X' Z' S' gx gz gp, pd_Rd n X0 Z0 V X' Z' S' → (∀ j, j < n → X' (45 + j) = if j ≠ p ∧ pd_d (x j) m = 1 then x j ^^^ x p else x j) → pd_Bn X' Z' S' → pd_Same X0 Z0 S0 X' Z' S' 40 → post ((nI n), gx, gz, gp, f_rules, f_solutions, (fun jj => nI (X' jj)), (fun jj => nI (Z' jj)), (fun jj => nI (S' jj)), a_kept, a_ruleX, a_ruleZ, a_basis, a_cost, a_nextCost, a_addsX, a_addsZ, a_equation, a_leading, a_solution)) :
    ∀ f i, i + f = n → ∀ (X Z S : Nat → Nat) (gx gz gp : Int32), pd_Rd n X0 Z0 V X Z S → (∀ j, j < n → X (45 + j) = if j < i ∧ j ≠ p ∧ pd_d (x j) m = 1 then x j ^^^ x p else x j) → pd_Bn X Z S → pd_Same X0 Z0 S0 X Z S 40 →
      wX_clearDigit_3 post 45 (nI (45 + p)) (nI m) (f + 1) (nI i) (nI n) gx gz gp f_rules f_solutions (fun jj => nI (X jj)) (fun jj => nI (Z jj)) (fun jj => nI (S jj)) a_kept a_ruleX a_ruleZ a_basis a_cost a_nextCost a_addsX a_addsZ a_equation a_leading a_solution := by
  intro f
  induction f with
  | zero =>
    intro i hi X Z S gx gz gp hR hx hB hs
    have e : i = n := by omega
    subst e
    refine br_t (nI_le (by omega) (by omega)) (h X Z S gx gz gp hR (fun j hj => ?_) hB hs)
    rw [hx j hj]
    by_cases c : j ≠ p ∧ pd_d (x j) m = 1
    · rw [if_pos ⟨hj, c⟩, if_pos c]
    · rw [if_neg c, if_neg (fun k => c k.2)]
  | succ f ih =>
    intro i hi X Z S gx gz gp hR hx hB hs
    refine br_f (nI_ge (by omega) (by omega)) ?_
    have e45 : (45 : Int32) + nI i = nI (45 + i) := nI_add 45 i
    rw [e45]
    have xi := hx i (by omega)
    rw [if_neg (fun k => by omega)] at xi
    refine pk_eq (45 + i) (45 + p) (fun e => ?_) (fun e => ?_)
    · refine nm_r (nI_1 i) (ih (i + 1) (by omega) X Z S gx gz gp hR (fun j hj => ?_) hB hs)
      rw [hx j hj]
      by_cases c : j < i ∧ j ≠ p ∧ pd_d (x j) m = 1
      · rw [if_pos c, if_pos ⟨by omega, c.2⟩]
      · rw [if_neg c, if_neg (fun k => c ⟨by omega, k.2⟩)]
    · have hi60 : vp_in (nI (45 + i)) 60 := vp_in_nI (by omega) (by decide)
      have b := hB (45 + i) (by omega)
      have bp := hB (45 + p) (by omega)
      rw [nI_clamp (n := 45 + i) (by omega)]
      refine ⟨hi60, px_digit (by omega) (by omega) ?_⟩
      rcases pd_d_01 (X (45 + i)) m with d | d
      · rw [d]
        refine br_f (by decide) (nm_r (nI_1 i) (ih (i + 1) (by omega) X Z S gx gz gp hR (fun j hj => ?_) hB hs))
        rw [hx j hj]
        by_cases c : j < i ∧ j ≠ p ∧ pd_d (x j) m = 1
        · rw [if_pos c, if_pos ⟨by omega, c.2⟩]
        · rw [if_neg c, if_neg (fun k => ?_)]
          by_cases e2 : j = i
          · rw [e2, ← xi] at k; omega
          · exact c ⟨by omega, k.2⟩
      · rw [d]
        refine br_t rfl (px_multiply rfl rfl (by omega) (by omega) hB (fun gx' gz' gp' => ?_))
        refine nm_r (nI_1 i) (ih (i + 1) (by omega) _ _ _ _ _ _ (pd_Rd_mul hR hn hV hB (by omega) hp (by omega)) (fun j hj => ?_) (pd_Bn_u hB (pd_xor32 b.1 bp.1) (pd_xor32 b.2.1 bp.2.1) (pd_ms_lt _ _ _ _ _)) (pd_Same_u hs (by omega) (by omega)))
        have xp := hx p hp
        rw [if_neg (fun k => k.2.1 rfl)] at xp
        by_cases e2 : j = i
        · subst e2
          rw [pd_u_s, xi, xp, if_pos ⟨by omega, by omega, by rw [← xi]; exact d⟩]
        · rw [pd_u_n (by omega), hx j hj]
          by_cases c : j < i ∧ j ≠ p ∧ pd_d (x j) m = 1
          · rw [if_pos c, if_pos ⟨by omega, c.2⟩]
          · rw [if_neg c, if_neg (fun k => c ⟨by omega, k.2⟩)]
end
end
section
theorem pd_swap_get (f : Nat → Nat) (i p j : Nat) : pd_u (pd_u f (45 + i) (f (45 + p))) (45 + p) (f (45 + i)) (45 + j) = f (45 + (if j = p then i else if j = i then p else j)) := by
  unfold pd_u
  by_cases e1 : j = p
  · rw [if_pos e1, if_pos (by omega)]
  · rw [if_neg e1, if_neg (by omega)]
    by_cases e2 : j = i
    · rw [if_pos e2, if_pos (by omega)]
    · rw [if_neg e2, if_neg (by omega)]
theorem pd_on_xs (f : Nat → Nat) (y : Nat) : ∀ n, pd_on (pd_xs f n &&& y) % 2 = pd_sm (fun k => pd_on (f k &&& y)) n % 2 := by
  intro n
  induction n with
  | zero => rw [show pd_xs f 0 = 0 from rfl, Nat.zero_and, pd_on_0]; rfl
  | succ n ih =>
    show pd_on ((pd_xs f n ^^^ f n) &&& y) % 2 = (pd_sm (fun k => pd_on (f k &&& y)) n + pd_on (f n &&& y)) % 2
    have := pd_lin_l (pd_xs f n) (f n) y
    omega
/-- a number that is there, less the leading digits, is the first one -/
theorem pd_phase_no {n p : Nat} {X0 Z0 S0 X Z S l : Nat → Nat} {V : Nat → Int × Int} (hn : n ≤ 5) (hSt : pd_St n X0 Z0 S0 0 V) (hR : pd_Rd n X0 Z0 V X Z S) (hB : pd_Bn X Z S) (hp : p ≤ n) (hE : pd_Ec n (fun i => X (45 + i)) p 0 l)
    {a b : Nat} (ha : a < 32) (hb : b < 32) (va : V a ≠ (0, 0)) (vb : V b ≠ (0, 0)) (hd : ∀ i, i < p → pd_d (a ^^^ b) (l i) = 0) : a = b := by
  apply Classical.byContradiction
  intro hne
  have lw : a ^^^ b < 2 ^ n := pd_xor_lt (pd_St_supp hSt ha va) (pd_St_supp hSt hb vb)
  have exq : ∃ q, q < n ∧ pd_d (a ^^^ b) q = 1 := by
    apply Classical.byContradiction
    intro hno
    apply hne
    apply pd_xor_eq0
    apply pd_d_ext_lt (n := n) lw (Nat.two_pow_pos n)
    intro k hk
    rw [pd_d_0]
    rcases pd_d_01 (a ^^^ b) k with e | e
    · exact e
    · exact absurd ⟨k, hk, e⟩ hno
  obtain ⟨q, hq, hdq⟩ := exq
  have lz : pd_xs (fun k => pd_d (X (45 + k)) q * 2 ^ l k) p ^^^ 2 ^ q < 32 := by
    apply pd_xor32
    · exact pd_xs_lt (N := 5) (fun k hk => pd_dpow_lt (pd_d_le _ _) (hE.1 k hk).2.1)
    · exact pd_pow32 (by omega)
  have par : ∀ y, pd_on ((pd_xs (fun k => pd_d (X (45 + k)) q * 2 ^ l k) p ^^^ 2 ^ q) &&& y) % 2 = (pd_sm (fun k => pd_d (X (45 + k)) q * pd_d y (l k)) p + pd_d y q) % 2 := by
    intro y
    have l1 := pd_lin_l (pd_xs (fun k => pd_d (X (45 + k)) q * 2 ^ l k) p) (2 ^ q) y
    have l2 := pd_on_xs (fun k => pd_d (X (45 + k)) q * 2 ^ l k) y p
    rw [pd_on_comm (2 ^ q) y, pd_on_and_pow y (by omega)] at l1
    have l3 : pd_sm (fun k => pd_on ((pd_d (X (45 + k)) q * 2 ^ l k) &&& y)) p = pd_sm (fun k => pd_d (X (45 + k)) q * pd_d y (l k)) p := by
      have A : ∀ m, m ≤ p → pd_sm (fun k => pd_on ((pd_d (X (45 + k)) q * 2 ^ l k) &&& y)) m = pd_sm (fun k => pd_d (X (45 + k)) q * pd_d y (l k)) m := by
        intro m
        induction m with
        | zero => intro _; rfl
        | succ m ih =>
          intro hm
          show pd_sm _ m + pd_on ((pd_d (X (45 + m)) q * 2 ^ l m) &&& y) = pd_sm _ m + pd_d (X (45 + m)) q * pd_d y (l m)
          rw [ih (by omega), pd_on_comm, pd_on_and_dpow y _ (by have := (hE.1 m (by omega)).2.1; omega) (pd_d_le _ _)]
      exact A p (Nat.le_refl p)
    omega
  obtain ⟨c, hc⟩ := pd_St_in hSt (u := 0) (by decide) lz (by
    have com : ∀ i, i < n → pd_cl (X (45 + i)) (Z (45 + i)) 0 (pd_xs (fun k => pd_d (X (45 + k)) q * 2 ^ l k) p ^^^ 2 ^ q) = 0 := by
      intro i hi
      unfold pd_cl
      rw [Nat.and_zero, pd_on_0, pd_on_comm, Nat.add_zero, par]
      by_cases c : i < p
      · rw [pd_sm_1 (j := i) c]
        · have := (hE.1 i c).2.2.1
          dsimp only at this
          rw [this]; omega
        · intro k hk hne2
          have := (hE.1 k hk).2.2.2.2 i hi (fun e => hne2 e.symm)
          dsimp only at this
          rw [this, Nat.mul_zero]
      · have z := fun k => hE.2 i (by omega) hi k (Nat.zero_le k)
        dsimp only at z
        rw [pd_sm_0 (fun k _ => by rw [z, Nat.mul_zero]), z]
    have fin := hR.2 0 _ com
    intro i hi
    rw [Nat.zero_add]
    by_cases c : i < n
    · exact fin i c
    · obtain ⟨_, _, e1, e2, _⟩ := hSt.2.2.2.2 i (by omega) hi
      rw [Nat.zero_add] at e1 e2
      rw [e1, e2, pd_cl_z (by omega), pd_d_0])
  have fa := hc a ha
  have fb := hc b hb
  rw [Nat.xor_zero] at fa fb
  have ga := pd_ph_fix va fa.symm
  have gb := pd_ph_fix vb fb.symm
  have pw := par (a ^^^ b)
  rw [hdq, pd_sm_0 (fun k hk => by rw [hd k hk, Nat.mul_zero])] at pw
  have lin := pd_lin_r (pd_xs (fun k => pd_d (X (45 + k)) q * 2 ^ l k) p ^^^ 2 ^ q) a b
  rw [pd_on_comm a] at ga
  rw [pd_on_comm b] at gb
  omega
section
variable {f_gatheredX f_gatheredZ f_gatheredPower f_rules f_solutions : Int32} {a_kept a_ruleX a_ruleZ a_basis a_cost a_nextCost a_addsX a_addsZ a_equation a_leading a_solution : Nat → Int32} {n : Nat} {X Z S : Nat → Nat}
theorem px_red67 {post : Int32 → SX → Prop} {J : Int32 → Int32 → Int32 → Int32 → Int32 → Int32 → Int32 → Int32 → (Nat → Int32) → (Nat → Int32) → (Nat → Int32) → (Nat → Int32) → (Nat → Int32) → (Nat → Int32) → (Nat → Int32) → (Nat → Int32) → (Nat → Int32) → (Nat → Int32) → (Nat → Int32) → (Nat → Int32) → (Nat → Int32) → (Nat → Int32) → Prop}
    {p m i : Nat} {V : Nat → Int × Int} {X0 Z0 S0 l : Nat → Nat} (hn : n ≤ 5) (hV : pd_Nz 5 V) (hR : pd_Rd n X0 Z0 V X Z S) (hE : pd_Ec n (fun i => X (45 + i)) p (m + 1) l) (hB : pd_Bn X Z S) (hs : pd_Same X0 Z0 S0 X Z S 40)
    (hm : m < 5) (hi : p ≤ i) (hin : i < n) (hd : pd_d (X (45 + i)) m = 1)
    (h : ∀ X' Z' S' gx gz gp l', pd_Rd n X0 Z0 V X' Z' S' → pd_Ec n (fun i => X' (45 + i)) (p + 1) m l' → pd_Bn X' Z' S' → pd_Same X0 Z0 S0 X' Z' S' 40 → J (nI (p + 1)) (nI m + (-1)) (nI n) gx gz gp f_rules f_solutions (fun jj => nI (X' jj)) (fun jj => nI (Z' jj)) (fun jj => nI (S' jj)) a_kept a_ruleX a_ruleZ a_basis a_cost a_nextCost a_addsX a_addsZ a_equation a_leading a_solution) :
    wX_reduceByX_67 post J (nI p) 45 (nI m) (nI i) (nI n) f_gatheredX f_gatheredZ f_gatheredPower f_rules f_solutions (fun jj => nI (X jj)) (fun jj => nI (Z jj)) (fun jj => nI (S jj)) a_kept a_ruleX a_ruleZ a_basis a_cost a_nextCost a_addsX a_addsZ a_equation a_leading a_solution := by
  refine br_f (nI_pos (by omega)) ?_
  refine px_exchange (nI_add 45 i) (nI_add 45 p) (by omega) (by omega) ?_
  have R1 := pd_Rd_swap hR hin (show p < n by omega)
  have B1 : pd_Bn (pd_u (pd_u X (45 + i) (X (45 + p))) (45 + p) (X (45 + i))) (pd_u (pd_u Z (45 + i) (Z (45 + p))) (45 + p) (Z (45 + i))) (pd_u (pd_u S (45 + i) (S (45 + p))) (45 + p) (S (45 + i))) := by
    have bi := hB (45 + i) (by omega); have bp := hB (45 + p) (by omega)
    exact pd_Bn_u (pd_Bn_u hB bp.1 bp.2.1 bp.2.2) bi.1 bi.2.1 bi.2.2
  have s1 := pd_Same_u (k := 45 + p) (a := X (45 + i)) (b := Z (45 + i)) (c := S (45 + i)) (pd_Same_u (k := 45 + i) (a := X (45 + p)) (b := Z (45 + p)) (c := S (45 + p)) hs (by omega) (by omega)) (by omega) (by omega)
  have E1 := pd_Ec_swap (x' := fun j => pd_u (pd_u X (45 + i) (X (45 + p))) (45 + p) (X (45 + i)) (45 + j)) hE hi hin (fun j _ => pd_swap_get X i p j)
  have dp : pd_d (pd_u (pd_u X (45 + i) (X (45 + p))) (45 + p) (X (45 + i)) (45 + p)) m = 1 := by rw [pd_u_s]; exact hd
  have e45 : (45 : Int32) + nI p = nI (45 + p) := nI_add 45 p
  refine ⟨n + 1, ?_⟩
  rw [e45]
  refine px_clear3 (p := p) (m := m) (x := fun j => pd_u (pd_u X (45 + i) (X (45 + p))) (45 + p) (X (45 + i)) (45 + j)) hn hV (by omega) hm (fun X' Z' S' gx gz gp R2 hx B2 s2 => ?_) n 0 (by omega) _ _ _ _ _ _ R1 (fun j hj => ?_) B1 s1
  · refine nm_r (nI_1 p) (nm_e ?_)
    exact h X' Z' S' gx gz gp _ R2 (pd_Ec_clear E1 (by omega) hm dp hx) B2 s2
  · rw [if_neg (fun k => absurd k.1 (Nat.not_lt_zero j))]
theorem px_red22 {post : Int32 → SX → Prop} {J : Int32 → Int32 → Int32 → Int32 → Int32 → Int32 → Int32 → Int32 → (Nat → Int32) → (Nat → Int32) → (Nat → Int32) → (Nat → Int32) → (Nat → Int32) → (Nat → Int32) → (Nat → Int32) → (Nat → Int32) → (Nat → Int32) → (Nat → Int32) → (Nat → Int32) → (Nat → Int32) → (Nat → Int32) → (Nat → Int32) → Prop}
    {p m : Nat} {V : Nat → Int × Int} {X0 Z0 S0 l : Nat → Nat} (hn : n ≤ 5) (hV : pd_Nz 5 V) (hR : pd_Rd n X0 Z0 V X Z S) (hE : pd_Ec n (fun i => X (45 + i)) p (m + 1) l) (hB : pd_Bn X Z S) (hs : pd_Same X0 Z0 S0 X Z S 40) (hm : m < 5)
    (h0 : pd_Ec n (fun i => X (45 + i)) p m l → J (nI p) (nI m + (-1)) (nI n) f_gatheredX f_gatheredZ f_gatheredPower f_rules f_solutions (fun jj => nI (X jj)) (fun jj => nI (Z jj)) (fun jj => nI (S jj)) a_kept a_ruleX a_ruleZ a_basis a_cost a_nextCost a_addsX a_addsZ a_equation a_leading a_solution)
    (h : ∀ X' Z' S' gx gz gp l', p < n → pd_Rd n X0 Z0 V X' Z' S' → pd_Ec n (fun i => X' (45 + i)) (p + 1) m l' → pd_Bn X' Z' S' → pd_Same X0 Z0 S0 X' Z' S' 40 → J (nI (p + 1)) (nI m + (-1)) (nI n) gx gz gp f_rules f_solutions (fun jj => nI (X' jj)) (fun jj => nI (Z' jj)) (fun jj => nI (S' jj)) a_kept a_ruleX a_ruleZ a_basis a_cost a_nextCost a_addsX a_addsZ a_equation a_leading a_solution) :
    ∀ f i, i + f = n → p ≤ i → (∀ j, p ≤ j → j < i → pd_d (X (45 + j)) m = 0) → wX_reduceByX_22 post J (nI p) 45 (nI m) (nI n) f_gatheredX f_gatheredZ f_gatheredPower f_rules f_solutions (fun jj => nI (X jj)) (fun jj => nI (Z jj)) (fun jj => nI (S jj)) a_kept a_ruleX a_ruleZ a_basis a_cost a_nextCost a_addsX a_addsZ a_equation a_leading a_solution (f + 1) (-1) (nI i) := by
  intro f
  induction f with
  | zero =>
    intro i hi hp hno
    have e : i = n := by omega
    subst e
    exact br_t (nI_le (by omega) (by omega)) (br_t (by decide) (nm_e (h0 (pd_Ec_no hE hno))))
  | succ f ih =>
    intro i hi hp hno
    refine br_f (nI_ge (by omega) (by omega)) (br_f (by decide) ?_)
    have e45 : (45 : Int32) + nI i = nI (45 + i) := nI_add 45 i
    have b := hB (45 + i) (by omega)
    rw [e45, nI_clamp (n := 45 + i) (by omega)]
    refine ⟨vp_in_nI (by omega) (by decide), px_digit (by omega) (by omega) ?_⟩
    rcases pd_d_01 (X (45 + i)) m with d | d
    · rw [d]
      refine br_f (by decide) (nm_r (nI_1 i) (ih (i + 1) (by omega) (by omega) (fun j h1 h2 => ?_)))
      by_cases e : j = i
      · rw [e]; exact d
      · exact hno j h1 (by omega)
    · rw [d]
      refine br_t rfl (nm_r (nI_1 i) ?_)
      have go := px_red67 (f_gatheredX := f_gatheredX) (f_gatheredZ := f_gatheredZ) (f_gatheredPower := f_gatheredPower) (post := post) (J := J) hn hV hR hE hB hs hm hp (show i < n by omega) d (fun X' Z' S' gx gz gp l' a1 a2 a3 a4 => h X' Z' S' gx gz gp l' (by omega) a1 a2 a3 a4)
      by_cases c : n ≤ i + 1
      · exact br_t (nI_le c (by omega)) go
      · exact br_f (nI_ge (by omega) (by omega)) (br_t (nI_pos' (by omega)) go)
theorem px_red12 {post : Int32 → SX → Prop} {V : Nat → Int × Int} {X0 Z0 S0 : Nat → Nat} (hn : n ≤ 5) (hV : pd_Nz 5 V)
    (h : ∀ p X' Z' S' gx gz gp l', p ≤ n → pd_Rd n X0 Z0 V X' Z' S' → pd_Ec n (fun i => X' (45 + i)) p 0 l' → pd_Bn X' Z' S' → pd_Same X0 Z0 S0 X' Z' S' 40 → post (nI p) ((nI n), gx, gz, gp, f_rules, f_solutions, (fun jj => nI (X' jj)), (fun jj => nI (Z' jj)), (fun jj => nI (S' jj)), a_kept, a_ruleX, a_ruleZ, a_basis, a_cost, a_nextCost, a_addsX, a_addsZ, a_equation, a_leading, a_solution)) :
    ∀ m, m ≤ n → ∀ (p : Nat) (x3 : Int32) (X Z S : Nat → Nat) (gx gz gp : Int32) (l : Nat → Nat), (m = 0 → x3 = -1) → (∀ t, m = t + 1 → x3 = nI t) → p ≤ n → pd_Rd n X0 Z0 V X Z S → pd_Ec n (fun i => X (45 + i)) p m l → pd_Bn X Z S → pd_Same X0 Z0 S0 X Z S 40 →
      wX_reduceByX_12 post 45 (m + 1) (nI p) x3 (nI n) gx gz gp f_rules f_solutions (fun jj => nI (X jj)) (fun jj => nI (Z jj)) (fun jj => nI (S jj)) a_kept a_ruleX a_ruleZ a_basis a_cost a_nextCost a_addsX a_addsZ a_equation a_leading a_solution := by
  intro m
  induction m with
  | zero =>
    intro _ p x3 X Z S gx gz gp l e0 _ hp hR hE hB hs
    rw [e0 rfl]
    exact br_t (by decide) (h p X Z S gx gz gp l hp hR hE hB hs)
  | succ m ih =>
    intro hm p x3 X Z S gx gz gp l _ e1 hp hR hE hB hs
    rw [e1 m rfl]
    refine br_f (nI_pos (by omega)) ⟨n - p + 1, ?_⟩
    have xq : ∀ t, m = t + 1 → nI m + (-1) = nI t := fun t ht => by rw [ht]; exact pk_m1 t
    have x0 : m = 0 → nI m + (-1) = -1 := fun h0 => by rw [h0]; rfl
    refine px_red22 hn hV hR hE hB hs (by omega) (fun E => ?_) (fun X' Z' S' gx' gz' gp' l' hpn R' E' B' s' => ?_) (n - p) p (by omega) (Nat.le_refl p) (fun j h1 h2 => by omega)
    · exact ih (by omega) p _ X Z S gx gz gp l x0 xq hp hR E hB hs
    · exact ih (by omega) (p + 1) _ X' Z' S' gx' gz' gp' l' x0 xq (by omega) R' E' B' s'
theorem px_reduceByX {post : Int32 → SX → Prop} {V : Nat → Int × Int} {X0 Z0 S0 : Nat → Nat} (hn1 : 1 ≤ n) (hn : n ≤ 5) (hSt : pd_St n X0 Z0 S0 0 V) (hB : pd_Bn X Z S) (hs : pd_Same X0 Z0 S0 X Z S 40) (hc : pd_Cp X0 Z0 S0 X Z S 0 40 10)
    (h : ∀ p X' Z' S' gx gz gp l', p ≤ n → pd_Rd n X0 Z0 V X' Z' S' → pd_Ec n (fun i => X' (45 + i)) p 0 l' → pd_Bn X' Z' S' → pd_Same X0 Z0 S0 X' Z' S' 40 → post (nI p) ((nI n), gx, gz, gp, f_rules, f_solutions, (fun jj => nI (X' jj)), (fun jj => nI (Z' jj)), (fun jj => nI (S' jj)), a_kept, a_ruleX, a_ruleZ, a_basis, a_cost, a_nextCost, a_addsX, a_addsZ, a_equation, a_leading, a_solution)) : wpX_reduceByX post ((nI n), f_gatheredX, f_gatheredZ, f_gatheredPower, f_rules, f_solutions, (fun jj => nI (X jj)), (fun jj => nI (Z jj)), (fun jj => nI (S jj)), a_kept, a_ruleX, a_ruleZ, a_basis, a_cost, a_nextCost, a_addsX, a_addsZ, a_equation, a_leading, a_solution) := by
  have e1 : nI n - 1 = nI (n - 1) := pk_sub (b := 1) hn1
  have cp := fun i (hi : i < n) => hc (5 + i) (by omega)
  have st : pd_St n X Z S 40 V := pd_St_cg hSt (fun i hi => (hc i hi).1) (fun i hi => (hc i hi).2.1) (fun i hi => (hc i hi).2.2) (fun _ _ => rfl)
  refine nm_r e1 ⟨n + 1, ?_⟩
  refine px_red12 hn hSt.2.2.1 h n (Nat.le_refl n) 0 _ X Z S _ _ _ (fun _ => 0) (fun e => by omega) (fun t e => by rw [e]; rfl) (by omega) ⟨fun i hi => ?_, fun u v hcl q hq => ?_⟩ ⟨fun i hi => absurd hi (Nat.not_lt_zero i), fun j _ h2 k hk => ?_⟩ hB hs
  · have := st.2.2.2.1 i (by omega)
    rw [show 40 + (5 + i) = 45 + i by omega] at this
    exact this
  · have := hcl q hq
    have c := cp q hq
    rw [show 40 + (5 + q) = 45 + q by omega, Nat.zero_add] at c
    rw [c.1, c.2.1] at this
    exact this
  · have := pd_St_small st (i := 5 + j) (by omega) (by omega)
    rw [show 40 + (5 + j) = 45 + j by omega] at this
    exact pd_d_ge this.1 hk
end
end
section
section
variable {f_gatheredX f_gatheredZ f_gatheredPower f_rules f_solutions : Int32} {a_kept a_ruleX a_ruleZ a_basis a_cost a_nextCost a_addsX a_addsZ a_equation a_leading a_solution : Nat → Int32} {n : Nat} {X Z S : Nat → Nat}
theorem px_phase39 {post : Int32 → SX → Prop} {a b p : Nat} {V : Nat → Int × Int} {X0 Z0 S0 l : Nat → Nat} (hn : n ≤ 5) (hSt : pd_St n X0 Z0 S0 0 V) (hR : pd_Rd n X0 Z0 V X Z S) (hB : pd_Bn X Z S) (hp : p ≤ n) (hE : pd_Ec n (fun i => X (45 + i)) p 0 l)
    (ha : a < 32) (hb : b < 32) (va : V a ≠ (0, 0))
    (h1 : ∀ e gx gz gp, e < 4 → V b = pd_ph e (V a) → post (nI e) ((nI n), gx, gz, gp, f_rules, f_solutions, (fun jj => nI (X jj)), (fun jj => nI (Z jj)), (fun jj => nI (S jj)), a_kept, a_ruleX, a_ruleZ, a_basis, a_cost, a_nextCost, a_addsX, a_addsZ, a_equation, a_leading, a_solution)) (h0 : ∀ gx gz gp, V b = (0, 0) → post (-2) ((nI n), gx, gz, gp, f_rules, f_solutions, (fun jj => nI (X jj)), (fun jj => nI (Z jj)), (fun jj => nI (S jj)), a_kept, a_ruleX, a_ruleZ, a_basis, a_cost, a_nextCost, a_addsX, a_addsZ, a_equation, a_leading, a_solution)) :
    ∀ f i, i + f = p → ∀ gx gz gp : Nat, gx < 32 → gz < 32 → pd_Fx 5 gp gx gz V → (∀ k, k < p → pd_d gx (l k) = if k < i then pd_d (a ^^^ b) (l k) else 0) →
      wX_phase_39 post (nI a) (nI p) (nI (a ^^^ b)) (f + 1) (nI i) (nI n) (nI gx) (nI gz) (nI gp) f_rules f_solutions (fun jj => nI (X jj)) (fun jj => nI (Z jj)) (fun jj => nI (S jj)) a_kept a_ruleX a_ruleZ a_basis a_cost a_nextCost a_addsX a_addsZ a_equation a_leading a_solution := by
  have hab := pd_xor32 ha hb
  intro f
  induction f with
  | zero =>
    intro i hi gx gz gp hgx hgz hF hd
    have e : i = p := by omega
    subst e
    refine br_t (nI_le (by omega) (by omega)) ?_
    refine pk_eq gx (a ^^^ b) (fun e => ?_) (fun e => ?_)
    · refine px_onesA (by omega) (px_onesA (by omega) (px_gatheredSign hgx ?_))
      have b1 := pd_on_le (gx &&& gz); have b2 := pd_on_le (a &&& gz)
      have e2 : (nI (pd_on (gx &&& gz)) + 2 * nI (pd_on (a &&& gz)) + 2 * nI ((gp + 12 - pd_on (gx &&& gz)) % 4 / 2)) &&& 3 = nI ((pd_on (gx &&& gz) + 2 * pd_on (a &&& gz) + 2 * ((gp + 12 - pd_on (gx &&& gz)) % 4 / 2)) % 4) := by
        show (nI _ + nI 2 * nI _ + nI 2 * nI _) &&& 3 = _
        rw [pk_mul, pk_mul, nI_add, nI_add, pk_andN (m := 3) (by omega) 2 (by decide)]
      rw [e2]
      refine h1 _ _ _ _ (by omega) ?_
      have f1 := hF a ha
      rw [e, ← Nat.xor_assoc, Nat.xor_self, Nat.zero_xor] at f1
      rw [f1]
      apply pd_ph_cg
      have ev := pd_Fx_even hSt.2.2.1 hF hgx
      omega
    · refine h0 _ _ _ ?_
      apply Classical.byContradiction
      intro vb
      apply e
      have f1 := hF b hb
      have vb' : V (b ^^^ gx) ≠ (0, 0) := by rw [f1]; exact pd_ph_nz vb
      have eq := pd_phase_no hn hSt hR hB hp hE ha (pd_xor32 hb hgx) va vb' (fun k hk => by
        have := hd k hk
        rw [if_pos hk] at this
        rw [← Nat.xor_assoc, pd_d_xor', this]
        omega)
      rw [eq, pd_xx']
  | succ f ih =>
    intro i hi gx gz gp hgx hgz hF hd
    refine br_f (nI_ge (by omega) (by omega)) (nm_r (nI_add 45 i) ?_)
    have bi := hB (45 + i) (by omega)
    obtain ⟨_, l5, d1, dh, dn⟩ := hE.1 i (by omega)
    dsimp only at d1 dh dn
    refine ⟨vp_in_nI (by omega) (by decide), ?_⟩
    rw [nI_clamp (n := 45 + i) (by omega)]
    refine px_top (by omega) (fun t ht dt hmore => ?_) (fun e => ?_)
    · have et : t = l i := by
        apply Classical.byContradiction
        intro hne
        by_cases c : t < l i
        · have := hmore (l i) c; omega
        · have := dh t (by omega); omega
      subst et
      refine px_digit (by omega) (by omega) ?_
      rcases pd_d_01 (a ^^^ b) (l i) with d | d
      · rw [d]
        refine br_f (by decide) (nm_r (nI_1 i) (ih (i + 1) (by omega) gx gz gp hgx hgz hF (fun k hk => ?_)))
        rw [hd k hk]
        by_cases c : k < i
        · rw [if_pos c, if_pos (by omega)]
        · rw [if_neg c]
          by_cases c2 : k = i
          · rw [c2, if_pos (by omega), d]
          · rw [if_neg (by omega)]
      · rw [d]
        refine br_t rfl (px_gather rfl (by omega) hB hgz ?_)
        have m := pd_Fx_mul hF (hR.1 i (by omega)) bi.1
        refine nm_r (nI_1 i) (ih (i + 1) (by omega) _ _ _ (pd_xor32 hgx bi.1) (pd_xor32 hgz bi.2.1) (pd_Fx_cg m (by omega)) (fun k hk => ?_))
        rw [pd_d_xor', hd k hk]
        by_cases c : k < i
        · have z := (hE.1 k hk).2.2.2.2 i (by omega) (by omega)
          dsimp only at z
          have := pd_d_le (a ^^^ b) (l k)
          rw [if_pos c, if_pos (by omega), z]; omega
        · rw [if_neg c]
          by_cases c2 : k = i
          · rw [c2, if_pos (by omega), d, d1]
          · have z := (hE.1 k hk).2.2.2.2 i (by omega) (by omega)
            dsimp only at z
            rw [if_neg (by omega), z]
    · rw [e, pd_d_0] at d1
      omega
theorem px_phase {post : Int32 → SX → Prop} {b : Nat} {V : Nat → Int × Int} (hn1 : 1 ≤ n) (hn : n ≤ 5) (hB : pd_Bn X Z S) (hSt : pd_St n X Z S 0 V) (hb : b < 2 ^ n)
    (h1 : ∀ m e X' Z' S' gx gz gp, m < 32 → V m ≠ (0, 0) → (∀ b, b < 32 → V b ≠ (0, 0) → m ≤ b) → e < 4 → V b = pd_ph e (V m) → pd_Bn X' Z' S' → pd_Same X Z S X' Z' S' 40 → post (nI e) ((nI n), gx, gz, gp, f_rules, f_solutions, (fun jj => nI (X' jj)), (fun jj => nI (Z' jj)), (fun jj => nI (S' jj)), a_kept, a_ruleX, a_ruleZ, a_basis, a_cost, a_nextCost, a_addsX, a_addsZ, a_equation, a_leading, a_solution))
    (h0 : ∀ X' Z' S' gx gz gp, V b = (0, 0) → pd_Bn X' Z' S' → pd_Same X Z S X' Z' S' 40 → post (-2) ((nI n), gx, gz, gp, f_rules, f_solutions, (fun jj => nI (X' jj)), (fun jj => nI (Z' jj)), (fun jj => nI (S' jj)), a_kept, a_ruleX, a_ruleZ, a_basis, a_cost, a_nextCost, a_addsX, a_addsZ, a_equation, a_leading, a_solution)) : wpX_phase post ((nI n), f_gatheredX, f_gatheredZ, f_gatheredPower, f_rules, f_solutions, (fun jj => nI (X jj)), (fun jj => nI (Z jj)), (fun jj => nI (S jj)), a_kept, a_ruleX, a_ruleZ, a_basis, a_cost, a_nextCost, a_addsX, a_addsZ, a_equation, a_leading, a_solution) (nI b) := by
  have h32 := px_2n hn
  unfold wpX_phase
  dsimp only
  refine px_isMask_t hn hb (br_f (by decide) ?_)
  refine px_first hn1 hn hB hSt (fun m X1 Z1 S1 gx gz gp hm vm hle B1 s1 => ?_)
  refine px_copyBank (b := 0) (c := 4) rfl rfl (by decide) (by decide) (by decide) (fun X2 Z2 S2 hc s2 => ?_)
  have c2 : pd_Cp X Z S X2 Z2 S2 0 40 10 := by
    intro i hi
    have a := hc i hi
    have c := s1 (10 * 0 + i) (Or.inl (by omega))
    exact ⟨a.1.trans c.1, a.2.1.trans c.2.1, a.2.2.trans c.2.2⟩
  have s3 : pd_Same X Z S X2 Z2 S2 40 := by
    intro j hj
    have a := s2 j hj
    have c := s1 j hj
    exact ⟨a.1.trans c.1, a.2.1.trans c.2.1, a.2.2.trans c.2.2⟩
  have st2 : pd_St n X2 Z2 S2 40 V := pd_St_cg hSt (fun i hi => (c2 i hi).1) (fun i hi => (c2 i hi).2.1) (fun i hi => (c2 i hi).2.2) (fun _ _ => rfl)
  refine px_reduceByX hn1 hn hSt (pd_Bn_of B1 s2 st2.1) s3 c2 (fun p X3 Z3 S3 gx' gz' gp' l hp R E B3 s4 => ?_)
  refine nm_r (nx_xor m b) (px_gatherNothing (p := 0) rfl ⟨p + 1, ?_⟩)
  refine px_phase39 hn hSt R B3 hp E hm (by omega) vm (fun e gx gz gp he ev => h1 m e X3 Z3 S3 gx gz gp hm vm hle he ev B3 s4) (fun gx gz gp ev => h0 X3 Z3 S3 gx gz gp ev B3 s4) p 0 (by omega) 0 0 0 (by decide) (by decide) (pd_Fx_0 5 V) (fun k hk => ?_)
  rw [pd_d_0, if_neg (Nat.not_lt_zero k)]
end
theorem i_vc_phase {k : Nat} {u : SX} {v : SY} (I : i_Rel k u v) (hk : k + 4 ≤ 2049) (v1 : Int32) : wpX_phase (fun r u' => wpY_phase (fun r' => r' = r ∧ i_Rel (k + 4) u' v) v v1) u v1 := by
  refine zz_el (P := fun u v => wpX_phase (fun r u' => wpY_phase (fun r' => r' = r ∧ i_Rel (k + 4) u' v) v v1) u v1) I ?_
  intro n r X Z S qx qz bs A N B kp g1 g2 g3 g4 g5 g6 h1 h2 h3 h4 h5 h6 h7 i1 i2
  have hn := i1.1.2
  have h32 := px_2n hn
  have hbd : ∀ j, j < 1056 → pd_bd 1 (A j) := fun j hj => pd_Un_bd (i1.2.2.2.2.1 j hj)
  by_cases c : ∃ m, m < 2 ^ n ∧ v1 = nI m
  · obtain ⟨b, hb, rfl⟩ := c
    refine px_phase i1.1.1 hn i1.2.1 i1.2.2.1 hb (fun m e X' Z' S' gx gz gp hm vm hle he ev hB hs => ?_) (fun X' Z' S' gx gz gp ev hB hs => ?_)
    · unfold wpY_phase
      dsimp only
      refine py_isMask_t hn hb (br_f (by decide) (py_isThere (by omega) (hbd _ (by omega)) ?_))
      have t1 : pd_th (A (1024 + b)) = 1 := if_neg (by rw [ev]; exact pd_ph_nz vm)
      rw [t1]
      refine br_f (by decide) (py_first hbd hm (fun b hb2 => ?_) vm ?_)
      · apply Classical.byContradiction
        intro hne
        have := hle b (by omega) hne
        omega
      · refine nm_r (nI_add 1024 m) ?_
        have ea : (1024 : Int32) + nI b = nI (1024 + b) := nI_add 1024 b
        have hi : vp_in (nI (1024 + b)) 1056 := vp_in_nI (by omega) (by decide)
        have hj : vp_in (nI (1024 + m)) 1056 := vp_in_nI (by omega) (by decide)
        rw [ea, nI_clamp (n := 1024 + b) (by omega), nI_clamp (n := 1024 + m) (by omega)]
        have bb := hbd (1024 + b) (by omega)
        have bm := hbd (1024 + m) (by omega)
        have m1 := pd_mulb bb.1 bm.1
        have m2 := pd_mulb bb.2 bm.2
        have m3 := pd_mulb bb.2 bm.1
        have m4 := pd_mulb bb.1 bm.2
        have p1 : pd_I (A (1024 + b)).1 * pd_I (A (1024 + m)).1 + pd_I (A (1024 + b)).2 * pd_I (A (1024 + m)).2 = pd_I ((A (1024 + b)).1 * (A (1024 + m)).1 + (A (1024 + b)).2 * (A (1024 + m)).2) := by
          rw [pd_I_mul, pd_I_mul, pd_I_add]
        have p2 : pd_I (A (1024 + b)).2 * pd_I (A (1024 + m)).1 - pd_I (A (1024 + b)).1 * pd_I (A (1024 + m)).2 = pd_I ((A (1024 + b)).2 * (A (1024 + m)).1 - (A (1024 + b)).1 * (A (1024 + m)).2) := by
          rw [pd_I_mul, pd_I_mul, pd_I_sub]
        refine ⟨hi, hj, hi, hj, nm_r p1 ⟨hi, hj, hi, hj, nm_r p2 ?_⟩⟩
        have np := pd_nz_sq vm
        have fin : i_Rel (k + 4) ((nI n), gx, gz, gp, (nI r), g4, (fun jj => nI (X' jj)), (fun jj => nI (Z' jj)), (fun jj => nI (S' jj)), kp, (fun jj => nI (qx jj)), (fun jj => nI (qz jj)), (fun jj => nI (bs jj)), h1, h2, h3, h4, h5, h6, h7) ((nI n), (nI (2 ^ n)), (nI r), g5, g6, (fun jj => pd_I (A jj).1), (fun jj => pd_I (A jj).2), (fun jj => pd_I (N jj).1), (fun jj => pd_I (N jj).2), (fun jj => pd_I (B jj).1), (fun jj => pd_I (B jj).2), kp, (fun jj => nI (qx jj)), (fun jj => nI (qz jj))) := zz_in (pd_Inv_tr i1 hB hs) i2
        have e4 : e = 0 ∨ e = 1 ∨ e = 2 ∨ e = 3 := by omega
        refine ek_if (d := (A (1024 + b)).1 * (A (1024 + m)).1 + (A (1024 + b)).2 * (A (1024 + m)).2 ≤ 0) (pd_I_le (b := 0) (by omega) (by omega) (by decide) (by decide)) (fun c1 => ?_) (fun c1 => ?_)
        · refine ek_if (d := 0 ≤ (A (1024 + b)).1 * (A (1024 + m)).1 + (A (1024 + b)).2 * (A (1024 + m)).2) (pd_I_le (a := 0) (by decide) (by decide) (by omega) (by omega)) (fun c2 => ?_) (fun c2 => ?_)
          · refine ek_if (d := (A (1024 + b)).2 * (A (1024 + m)).1 - (A (1024 + b)).1 * (A (1024 + m)).2 ≤ 0) (pd_I_le (b := 0) (by omega) (by omega) (by decide) (by decide)) (fun c3 => ?_) (fun c3 => ?_)
            · rcases e4 with rfl | rfl | rfl | rfl
              · rw [pd_ph_0 _ rfl] at ev; rw [ev] at c1; omega
              · rw [pd_ph_1 _ rfl] at ev; rw [ev] at c3; dsimp only at c3; rw [Int.neg_mul] at c3; omega
              · rw [pd_ph_2 _ rfl] at ev; rw [ev] at c2; dsimp only at c2; rw [Int.neg_mul, Int.neg_mul] at c2; omega
              · exact ⟨rfl, fin⟩
            · rcases e4 with rfl | rfl | rfl | rfl
              · rw [pd_ph_0 _ rfl] at ev; rw [ev] at c1; omega
              · exact ⟨rfl, fin⟩
              · rw [pd_ph_2 _ rfl] at ev; rw [ev] at c2; dsimp only at c2; rw [Int.neg_mul, Int.neg_mul] at c2; omega
              · rw [pd_ph_3 _ rfl] at ev; rw [ev] at c3; dsimp only at c3; rw [Int.neg_mul] at c3; omega
          · rcases e4 with rfl | rfl | rfl | rfl
            · rw [pd_ph_0 _ rfl] at ev; rw [ev] at c1; omega
            · rw [pd_ph_1 _ rfl] at ev; rw [ev] at c2; dsimp only at c2; rw [Int.neg_mul, Int.mul_comm (A (1024 + m)).2] at c2; omega
            · exact ⟨rfl, fin⟩
            · rw [pd_ph_3 _ rfl] at ev; rw [ev] at c2; dsimp only at c2; rw [Int.neg_mul, Int.mul_comm (A (1024 + m)).2] at c2; omega
        · rcases e4 with rfl | rfl | rfl | rfl
          · exact ⟨rfl, fin⟩
          · rw [pd_ph_1 _ rfl] at ev; rw [ev] at c1; dsimp only at c1; rw [Int.neg_mul, Int.mul_comm (A (1024 + m)).2] at c1; omega
          · rw [pd_ph_2 _ rfl] at ev; rw [ev] at c1; dsimp only at c1; rw [Int.neg_mul, Int.neg_mul] at c1; omega
          · rw [pd_ph_3 _ rfl] at ev; rw [ev] at c1; dsimp only at c1; rw [Int.neg_mul, Int.mul_comm (A (1024 + m)).2] at c1; omega
    · unfold wpY_phase
      dsimp only
      refine py_isMask_t hn hb (br_f (by decide) (py_isThere (by omega) (hbd _ (by omega)) ?_))
      have t0 : pd_th (A (1024 + b)) = 0 := if_pos ev
      rw [t0]
      exact br_t rfl ⟨rfl, zz_in (pd_Inv_tr i1 hB hs) i2⟩
  · unfold wpX_phase
    dsimp only
    refine px_isMask_f hn c (br_t rfl ?_)
    unfold wpY_phase
    dsimp only
    exact py_isMask_f hn c (br_t rfl ⟨rfl, zz_in i1 i2⟩)
end
section
/-- a rule more -/
theorem pd_Ru_rule {n r : Nat} {qx qz bs : Nat → Nat} (hn : n ≤ 5) (h : pd_Ru n r qx qz bs) {x z : Nat} (hx : x < 2 ^ n) (hz : z < 2 ^ n) (hc : ∀ j, j < r → pd_cl (qx j) (qz j) x z = 0) (hne : pd_rd bs (32 * x + z) r ≠ 0) :
    r < 5 ∧ pd_Ru n (r + 1) (pd_u qx r x) (pd_u qz r z) (pd_u bs r (pd_rd bs (32 * x + z) r)) := by
  have h32 := px_2n hn
  obtain ⟨hr, hq, hcl, ⟨D, E, hD⟩, ⟨l, hE⟩, hsp⟩ := h
  have hcode : 32 * x + z < 1024 := pd_lt1024 (by omega) (by omega)
  have hno : ¬ pd_sp (fun j => 32 * qx j + qz j) r (32 * x + z) := by
    rw [hsp, ← pd_rd_0 hE hcode]; exact hne
  obtain ⟨u, v, hu, hv, huv, hxz⟩ := pd_newdual hn hq hx hz hno
  -- rules, duals of them all
  have hq' : ∀ j, j < r + 1 → pd_u qx r x j < 2 ^ n ∧ pd_u qz r z j < 2 ^ n := by
    intro j hj
    by_cases e : j = r
    · rw [e, pd_u_s, pd_u_s]; exact ⟨hx, hz⟩
    · rw [pd_u_n e, pd_u_n e]; exact hq j (by omega)
  have hcl' : ∀ i j, i < r + 1 → j < r + 1 → pd_cl (pd_u qx r x i) (pd_u qz r z i) (pd_u qx r x j) (pd_u qz r z j) = 0 := by
    intro i j hi hj
    by_cases ei : i = r
    · by_cases ej : j = r
      · rw [ei, ej, pd_u_s, pd_u_s, pd_cl_self]
      · rw [ei, pd_u_s, pd_u_s, pd_u_n ej, pd_u_n ej, pd_cl_comm]; exact hc j (by omega)
    · by_cases ej : j = r
      · rw [ej, pd_u_s, pd_u_s, pd_u_n ei, pd_u_n ei]; exact hc i (by omega)
      · rw [pd_u_n ei, pd_u_n ei, pd_u_n ej, pd_u_n ej]; exact hcl i j (by omega) (by omega)
  have hD' : ∃ D' E' : Nat → Nat, ∀ j, j < r + 1 → D' j < 2 ^ n ∧ E' j < 2 ^ n ∧ ∀ i, i < r + 1 → pd_cl (pd_u qx r x i) (pd_u qz r z i) (D' j) (E' j) = if i = j then 1 else 0 := by
    refine ⟨fun j => if j = r then u else D j ^^^ (pd_cl x z (D j) (E j) * u), fun j => if j = r then v else E j ^^^ (pd_cl x z (D j) (E j) * v), fun j hj => ?_⟩
    dsimp only
    by_cases ej : j = r
    · rw [if_pos ej, if_pos ej]
      refine ⟨hu, hv, fun i hi => ?_⟩
      by_cases ei : i = r
      · rw [ei, pd_u_s, pd_u_s, hxz, ej, if_pos rfl]
      · rw [pd_u_n ei, pd_u_n ei, huv i (by omega), if_neg (by omega)]
    · rw [if_neg ej, if_neg ej]
      obtain ⟨a, b, c⟩ := hD j (by omega)
      have le : pd_cl x z (D j) (E j) ≤ 1 := pd_le1 (pd_cl_lt _ _ _ _)
      have mu : ∀ w, w < 2 ^ n → pd_cl x z (D j) (E j) * w < 2 ^ n := by
        intro w hw
        rcases pd_cl_01 x z (D j) (E j) with k | k <;> rw [k] <;> omega
      refine ⟨pd_xor_lt a (mu u hu), pd_xor_lt b (mu v hv), fun i hi => ?_⟩
      by_cases ei : i = r
      · rw [ei, pd_u_s, pd_u_s, pd_cl_xor_r, pd_cl_d _ _ _ _ _ le, hxz, if_neg (by omega)]
        omega
      · rw [pd_u_n ei, pd_u_n ei, pd_cl_xor_r, pd_cl_d _ _ _ _ _ le, huv i (by omega), c i (by omega), Nat.mul_zero]
        by_cases k : i = j
        · rw [if_pos k]
        · rw [if_neg k]
  have r5 : r < 5 := by
    apply Classical.byContradiction
    intro hnot
    have e5 : r = 5 := by omega
    subst e5
    obtain ⟨D', E', hd⟩ := hD'
    exact pd_iso (qx := pd_u qx 5 x) (qz := pd_u qz 5 z) (D := D') (E := E') (fun j hj => by have := hq' j hj; omega) (fun j hj => by have := hd j hj; omega) (fun i j hi hj => hcl' i j hi hj) (fun i j hi hj => (hd j hj).2.2 i hi)
  refine ⟨r5, by omega, hq', hcl', hD', ?_, ?_⟩
  · exact pd_Eb_s hE hcode hne
  · intro w
    have sb : pd_sp bs r ((32 * x + z) ^^^ pd_rd bs (32 * x + z) r) := (pd_rd_p hE hcode r (Nat.le_refl r)).2.2
    rw [pd_sp_succ, pd_sp_succ]
    have e1 : ∀ w, pd_sp (fun j => 32 * pd_u qx r x j + pd_u qz r z j) r w ↔ pd_sp bs r w := by
      intro w
      rw [← hsp w]
      exact pd_sp_cg (fun j hj => by rw [pd_u_n (by omega), pd_u_n (by omega)])
    have e2 : ∀ w, pd_sp (pd_u bs r (pd_rd bs (32 * x + z) r)) r w ↔ pd_sp bs r w := fun w => pd_sp_cg (fun j hj => pd_u_n (by omega))
    rw [e1, e1, e2, e2, pd_u_s, pd_u_s, pd_u_s]
    have e3 : pd_sp bs r (w ^^^ (32 * x + z)) ↔ pd_sp bs r (w ^^^ pd_rd bs (32 * x + z) r) := by
      constructor
      · intro k
        have := pd_sp_x k sb
        rw [← Nat.xor_assoc, pd_xx] at this
        exact this
      · intro k
        have := pd_sp_x k sb
        rw [Nat.xor_comm (32 * x + z), ← Nat.xor_assoc, pd_xx] at this
        exact this
    rw [e3]
/-- a syndrome -/
def pd_sy (qx qz : Nat → Nat) (r x z : Nat) : Nat := pd_xs (fun j => pd_cl (qx j) (qz j) x z * 2 ^ j) r
theorem pd_sy_lt (qx qz : Nat → Nat) (r x z : Nat) : pd_sy qx qz r x z < 2 ^ r := pd_xs_lt (fun j hj => pd_dpow_lt (pd_le1 (pd_cl_lt _ _ _ _)) hj)
theorem pd_xs_dig {g : Nat → Nat} (hg : ∀ i, g i ≤ 1) (m i : Nat) : pd_d (pd_xs (fun i => g i * 2 ^ i) m) i = if i < m then g i else 0 := by
  induction m with
  | zero => rw [if_neg (Nat.not_lt_zero i)]; exact pd_d_0 i
  | succ m ih =>
    show pd_d (pd_xs (fun i => g i * 2 ^ i) m ^^^ g m * 2 ^ m) i = _
    have := hg i
    rw [pd_d_xor', ih, pd_d_dpow _ _ _ (hg m)]
    by_cases e : m = i
    · subst e; rw [if_neg (Nat.lt_irrefl m), if_pos rfl, if_pos (by omega)]; omega
    · rw [if_neg e]
      by_cases c : i < m
      · rw [if_pos c, if_pos (by omega)]; omega
      · rw [if_neg c, if_neg (by omega)]
theorem pd_sy_d (qx qz : Nat → Nat) (r x z i : Nat) : pd_d (pd_sy qx qz r x z) i = if i < r then pd_cl (qx i) (qz i) x z else 0 :=
  pd_xs_dig (g := fun j => pd_cl (qx j) (qz j) x z) (fun _ => pd_le1 (pd_cl_lt _ _ _ _)) r i
theorem pd_sy_0 {qx qz : Nat → Nat} {r x z : Nat} : pd_sy qx qz r x z = 0 ↔ ∀ j, j < r → pd_cl (qx j) (qz j) x z = 0 := by
  constructor
  · intro h j hj
    have := pd_sy_d qx qz r x z j
    rw [h, pd_d_0, if_pos hj] at this
    exact this.symm
  · intro h
    apply pd_d_ext
    intro k
    rw [pd_sy_d, pd_d_0]
    by_cases c : k < r
    · rw [if_pos c]; exact h k c
    · rw [if_neg c]
/-- made of rules -/
def pd_md (qx qz : Nat → Nat) (r x z : Nat) : Prop := ∃ m, m < 2 ^ r ∧ pd_xs (fun j => pd_d m j * qx j) r = x ∧ pd_xs (fun j => pd_d m j * qz j) r = z
theorem pd_md_sp {qx qz : Nat → Nat} {r x z : Nat} (hq : ∀ j, j < r → qz j < 32) (hz : z < 32) : pd_md qx qz r x z ↔ pd_sp (fun j => 32 * qx j + qz j) r (32 * x + z) := by
  constructor
  · intro ⟨m, hm, e1, e2⟩
    obtain ⟨_, e⟩ := pd_xs_32 (x := qx) (z := qz) (e := fun j => pd_d m j) (r := r) (fun j _ => pd_d_le m j) hq
    exact ⟨m, hm, by rw [e, e1, e2]⟩
  · intro ⟨m, hm, e1⟩
    obtain ⟨lt, e⟩ := pd_xs_32 (x := qx) (z := qz) (e := fun j => pd_d m j) (r := r) (fun j _ => pd_d_le m j) hq
    rw [e] at e1
    exact ⟨m, hm, by omega, by omega⟩
section
variable {f_gatheredX f_gatheredZ f_gatheredPower f_rules f_solutions : Int32} {a_kept a_ruleX a_ruleZ a_basis a_cost a_nextCost a_addsX a_addsZ a_equation a_leading a_solution : Nat → Int32} {n : Nat} {X Z S : Nat → Nat}
theorem px_syn23 {post : Int32 → Prop} {r x z : Nat} {qx qz : Nat → Nat} (hr : r ≤ 5) (hq : ∀ j, j < r → qx j < 32 ∧ qz j < 32) (h : post (nI (pd_sy qx qz r x z))) :
    ∀ f j, j + f = r → wX_syndrome_23 post (nI x) (nI z) (nI n) f_gatheredX f_gatheredZ f_gatheredPower (nI r) f_solutions (fun jj => nI (X jj)) (fun jj => nI (Z jj)) (fun jj => nI (S jj)) a_kept (fun jj => nI (qx jj)) (fun jj => nI (qz jj)) a_basis a_cost a_nextCost a_addsX a_addsZ a_equation a_leading a_solution (f + 1) (nI (pd_xs (fun j => pd_cl (qx j) (qz j) x z * 2 ^ j) j)) (nI j) := by
  intro f
  induction f with
  | zero =>
    intro j hj
    have e : j = r := by omega
    subst e
    exact br_t (nI_le (by omega) (by omega)) h
  | succ f ih =>
    intro j hj
    have hi : vp_in (nI j) 5 := vp_in_nI (by omega) (by decide)
    have b := hq j (by omega)
    have lt : pd_xs (fun j => pd_cl (qx j) (qz j) x z * 2 ^ j) j < 2 ^ j := pd_sy_lt qx qz j x z
    refine br_f (nI_ge (by omega) (by omega)) ⟨hi, hi, ?_⟩
    rw [nI_clamp (n := j) (by omega)]
    refine px_clash (by omega) (by omega) (nm_r (px_orw lt (pd_le1 (pd_cl_lt _ _ _ _)) (by omega)) (nm_r (nI_1 j) ?_))
    exact ih (j + 1) (by omega)
theorem px_syn {post : Int32 → Prop} {r x z : Nat} {qx qz : Nat → Nat} (hn : n ≤ 5) (hr : r ≤ 5) (hq : ∀ j, j < r → qx j < 32 ∧ qz j < 32) (hx : x < 2 ^ n) (hz : z < 2 ^ n) (h : post (nI (pd_sy qx qz r x z))) :
    wpX_syndrome post ((nI n), f_gatheredX, f_gatheredZ, f_gatheredPower, (nI r), f_solutions, (fun jj => nI (X jj)), (fun jj => nI (Z jj)), (fun jj => nI (S jj)), a_kept, (fun jj => nI (qx jj)), (fun jj => nI (qz jj)), a_basis, a_cost, a_nextCost, a_addsX, a_addsZ, a_equation, a_leading, a_solution) (nI x) (nI z) := by
  unfold wpX_syndrome
  dsimp only
  exact px_isMask_t hn hx (br_f (by decide) (px_isMask_t hn hz (br_f (by decide) ⟨r + 1, px_syn23 hr hq h r 0 (by omega)⟩)))
theorem px_rule43 {post : Int32 → SX → Prop} {r x z w : Nat} {qx qz bs l : Nat → Nat} (hr : r ≤ 5) (hE : pd_Eb bs l r) (hw : w < 1024) (hx : x < 32) (hz : z < 32)
    (h0 : pd_rd bs w r = 0 → post (-3) ((nI n), f_gatheredX, f_gatheredZ, f_gatheredPower, (nI r), f_solutions, (fun jj => nI (X jj)), (fun jj => nI (Z jj)), (fun jj => nI (S jj)), a_kept, (fun jj => nI (qx jj)), (fun jj => nI (qz jj)), (fun jj => nI (bs jj)), a_cost, a_nextCost, a_addsX, a_addsZ, a_equation, a_leading, a_solution))
    (h1 : pd_rd bs w r ≠ 0 → r < 5 ∧ post (nI (r + 1)) ((nI n), f_gatheredX, f_gatheredZ, f_gatheredPower, (nI (r + 1)), f_solutions, (fun jj => nI (X jj)), (fun jj => nI (Z jj)), (fun jj => nI (S jj)), a_kept, (fun jj => nI (pd_u qx r x jj)), (fun jj => nI (pd_u qz r z jj)), (fun jj => nI (pd_u bs r (pd_rd bs w r) jj)), a_cost, a_nextCost, a_addsX, a_addsZ, a_equation, a_leading, a_solution)) :
    ∀ f i, i + f = r → wX_rule_43 post (nI x) (nI z) (nI n) f_gatheredX f_gatheredZ f_gatheredPower (nI r) f_solutions (fun jj => nI (X jj)) (fun jj => nI (Z jj)) (fun jj => nI (S jj)) a_kept (fun jj => nI (qx jj)) (fun jj => nI (qz jj)) (fun jj => nI (bs jj)) a_cost a_nextCost a_addsX a_addsZ a_equation a_leading a_solution (f + 1) (nI (pd_rd bs w i)) (nI i) := by
  intro f
  induction f with
  | zero =>
    intro i hi
    have e : i = r := by omega
    subst e
    have lt := (pd_rd_p hE hw i (Nat.le_refl i)).1
    refine br_t (nI_le (by omega) (by omega)) (pk_eq (pd_rd bs w i) 0 h0 (fun hne => ?_))
    obtain ⟨h5, h⟩ := h1 hne
    have hi5 : vp_in (nI i) 5 := vp_in_nI h5 (by decide)
    rw [nI_clamp (n := i) (by omega)]
    exact ⟨hi5, nm_r (px_upk qx i rfl) ⟨hi5, nm_r (px_upk qz i rfl) ⟨hi5, nm_r (px_upk bs i rfl) (nm_r (nI_1 i) h)⟩⟩⟩
  | succ f ih =>
    intro i hi
    have lt := (pd_rd_p hE hw i (by omega)).1
    have lb := (hE.1 i (by omega)).1
    have lx := pd_xor1024 lt lb
    refine br_f (nI_ge (by omega) (by omega)) ⟨vp_in_nI (by omega) (by decide), ?_⟩
    rw [nI_clamp (n := i) (by omega)]
    refine nm_r (nx_xor _ _) ?_
    have d1 : pd_rd bs w (i + 1) = if pd_rd bs w i ^^^ bs i < pd_rd bs w i then pd_rd bs w i ^^^ bs i else pd_rd bs w i := rfl
    have nx := ih (i + 1) (by omega)
    refine pk_le (pd_rd bs w i) (pd_rd bs w i ^^^ bs i) (fun c => ?_) (fun c => ?_)
    · rw [d1, if_neg (by omega)] at nx
      exact nm_r (nI_1 i) nx
    · rw [d1, if_pos c] at nx
      exact nm_r (nI_1 i) nx
end
section
variable {f_rules f_sumRe f_sumIm : Int32} {a_isSaved a_ruleX a_ruleZ : Nat → Int32} {n : Nat} {A N B : Nat → Int × Int}
theorem py_syn5 {post : Int32 → Prop} {r x z : Nat} {qx qz : Nat → Nat} (hr : r ≤ 5) (hq : ∀ j, j < r → qx j < 32 ∧ qz j < 32) (h : post (nI (pd_sy qx qz r x z))) :
    ∀ f j, j + f = r → wY_syndromeOf_5 post (nI x) (nI z) (nI n) (nI (2 ^ n)) (nI r) f_sumRe f_sumIm (fun jj => pd_I (A jj).1) (fun jj => pd_I (A jj).2) (fun jj => pd_I (N jj).1) (fun jj => pd_I (N jj).2) (fun jj => pd_I (B jj).1) (fun jj => pd_I (B jj).2) a_isSaved (fun jj => nI (qx jj)) (fun jj => nI (qz jj)) (f + 1) (nI (pd_xs (fun j => pd_cl (qx j) (qz j) x z * 2 ^ j) j)) (nI j) := by
  intro f
  induction f with
  | zero =>
    intro j hj
    have e : j = r := by omega
    subst e
    exact br_t (nI_le (by omega) (by omega)) h
  | succ f ih =>
    intro j hj
    have hi : vp_in (nI j) 10 := vp_in_nI (by omega) (by decide)
    have b := hq j (by omega)
    have lt : pd_xs (fun j => pd_cl (qx j) (qz j) x z * 2 ^ j) j < 2 ^ j := pd_sy_lt qx qz j x z
    have nx := ih (j + 1) (by omega)
    have d1 : pd_xs (fun j => pd_cl (qx j) (qz j) x z * 2 ^ j) (j + 1) = pd_xs (fun j => pd_cl (qx j) (qz j) x z * 2 ^ j) j ^^^ (pd_cl (qx j) (qz j) x z * 2 ^ j) := rfl
    refine br_f (nI_ge (by omega) (by omega)) ⟨hi, hi, ?_⟩
    rw [nI_clamp (n := j) (by omega)]
    refine py_commute b.1 b.2 (fun c => ?_) (fun c => ?_)
    · rw [pd_cl_comm] at c
      rw [d1, c, Nat.zero_mul, Nat.xor_zero] at nx
      exact br_f (by decide) (nm_r (nI_1 j) nx)
    · rw [pd_cl_comm] at c
      rw [d1, c] at nx
      exact br_t rfl (nm_r (px_orw (e := 1) lt (by decide) (by omega)) (nm_r (nI_1 j) nx))
theorem py_syn {post : Int32 → Prop} {r x z : Nat} {qx qz : Nat → Nat} (hr : r ≤ 5) (hq : ∀ j, j < r → qx j < 32 ∧ qz j < 32) (h : post (nI (pd_sy qx qz r x z))) :
    wpY_syndromeOf post ((nI n), (nI (2 ^ n)), (nI r), f_sumRe, f_sumIm, (fun jj => pd_I (A jj).1), (fun jj => pd_I (A jj).2), (fun jj => pd_I (N jj).1), (fun jj => pd_I (N jj).2), (fun jj => pd_I (B jj).1), (fun jj => pd_I (B jj).2), a_isSaved, (fun jj => nI (qx jj)), (fun jj => nI (qz jj))) (nI x) (nI z) := ⟨r + 1, py_syn5 hr hq h r 0 (by omega)⟩
theorem py_made21 {post : Int32 → Prop} {J : Int32 → Prop} {r x z s : Nat} {qx qz : Nat → Nat} (hr : r ≤ 5) (hs : s < 32) (hx : x < 32) (hz : z < 32) (hq : ∀ j, j < r → qx j < 32 ∧ qz j < 32)
    (h1 : pd_xs (fun j => pd_d s j * qx j) r = x → pd_xs (fun j => pd_d s j * qz j) r = z → post 1) (h0 : ¬ (pd_xs (fun j => pd_d s j * qx j) r = x ∧ pd_xs (fun j => pd_d s j * qz j) r = z) → J (nI (s + 1))) :
    ∀ f j, j + f = r → wY_isMade_21 post J (nI x) (nI z) (nI s) (nI n) (nI (2 ^ n)) (nI r) f_sumRe f_sumIm (fun jj => pd_I (A jj).1) (fun jj => pd_I (A jj).2) (fun jj => pd_I (N jj).1) (fun jj => pd_I (N jj).2) (fun jj => pd_I (B jj).1) (fun jj => pd_I (B jj).2) a_isSaved (fun jj => nI (qx jj)) (fun jj => nI (qz jj)) (f + 1) (nI (pd_xs (fun j => pd_d s j * qx j) j)) (nI (pd_xs (fun j => pd_d s j * qz j) j)) (nI j) := by
  have lx : ∀ j, j ≤ r → pd_xs (fun j => pd_d s j * qx j) j < 32 := fun j hj => pd_xs_lt32 (e := fun j => pd_d s j) (fun i _ => pd_d_le s i) (fun i hi => (hq i (by omega)).1)
  have lz : ∀ j, j ≤ r → pd_xs (fun j => pd_d s j * qz j) j < 32 := fun j hj => pd_xs_lt32 (e := fun j => pd_d s j) (fun i _ => pd_d_le s i) (fun i hi => (hq i (by omega)).2)
  intro f
  induction f with
  | zero =>
    intro j hj
    have e : j = r := by omega
    subst e
    have a := lx j (Nat.le_refl j); have b := lz j (Nat.le_refl j)
    refine br_t (nI_le (by omega) (by omega)) ?_
    refine pk_eq (pd_xs (fun j => pd_d s j * qx j) j) x (fun e1 => ?_) (fun e1 => nm_r (nI_1 s) (h0 (fun c => e1 c.1)))
    exact pk_eq (pd_xs (fun j => pd_d s j * qz j) j) z (fun e2 => h1 e1 e2) (fun e2 => nm_r (nI_1 s) (h0 (fun c => e2 c.2)))
  | succ f ih =>
    intro j hj
    have hi : vp_in (nI j) 10 := vp_in_nI (by omega) (by decide)
    refine br_f (nI_ge (by omega) (by omega)) ?_
    have nx := ih (j + 1) (by omega)
    have dx : pd_xs (fun j => pd_d s j * qx j) (j + 1) = pd_xs (fun j => pd_d s j * qx j) j ^^^ (pd_d s j * qx j) := rfl
    have dz : pd_xs (fun j => pd_d s j * qz j) (j + 1) = pd_xs (fun j => pd_d s j * qz j) j ^^^ (pd_d s j * qz j) := rfl
    rw [dx, dz] at nx
    rw [px_dig (by omega) (by omega)]
    rcases pd_d_01 s j with d | d
    · rw [d, Nat.zero_mul, Nat.zero_mul, Nat.xor_zero, Nat.xor_zero] at nx
      rw [d]
      refine br_f (by decide) ?_
      unfold wY_isMade_55
      rw [px_dig (by omega) (by omega), d]
      exact br_f (by decide) (nm_r (nI_1 j) nx)
    · rw [d, Nat.one_mul, Nat.one_mul] at nx
      rw [d]
      refine br_t rfl ⟨hi, ?_⟩
      unfold wY_isMade_55
      rw [px_dig (by omega) (by omega), d, nI_clamp (n := j) (by omega)]
      dsimp only
      rw [nx_xor (pd_xs (fun j => pd_d s j * qx j) j) (qx j)]
      exact br_t rfl ⟨hi, nm_r (nx_xor _ _) (nm_r (nI_1 j) nx)⟩
theorem py_made2 {post : Int32 → Prop} {r x z : Nat} {qx qz : Nat → Nat} (hr : r ≤ 5) (hx : x < 32) (hz : z < 32) (hq : ∀ j, j < r → qx j < 32 ∧ qz j < 32)
    (h1 : pd_md qx qz r x z → post 1) (h0 : ¬ pd_md qx qz r x z → post 0) :
    ∀ f s, s + f = 2 ^ r → (∀ m, m < s → ¬ (pd_xs (fun j => pd_d m j * qx j) r = x ∧ pd_xs (fun j => pd_d m j * qz j) r = z)) →
      wY_isMade_2 post (nI x) (nI z) (nI n) (nI (2 ^ n)) (nI r) f_sumRe f_sumIm (fun jj => pd_I (A jj).1) (fun jj => pd_I (A jj).2) (fun jj => pd_I (N jj).1) (fun jj => pd_I (N jj).2) (fun jj => pd_I (B jj).1) (fun jj => pd_I (B jj).2) a_isSaved (fun jj => nI (qx jj)) (fun jj => nI (qz jj)) (f + 1) (nI s) := by
  have h32 := px_2n hr
  have ep : (1 : Int32) <<< (nI r &&& 31) = nI (2 ^ r) := px_pow (by omega)
  intro f
  induction f with
  | zero =>
    intro s hs hno
    refine br_t (by rw [ep]; exact nI_le (by omega) (by omega)) (h0 ?_)
    intro ⟨m, hm, e1, e2⟩
    exact hno m (by omega) ⟨e1, e2⟩
  | succ f ih =>
    intro s hs hno
    refine br_f (by rw [ep]; exact nI_ge (by omega) (by omega)) ⟨r + 1, ?_⟩
    refine py_made21 hr (by omega) hx hz hq (fun e1 e2 => h1 ⟨s, by omega, e1, e2⟩) (fun no => ih (s + 1) (by omega) (fun m hm => ?_)) r 0 (by omega)
    by_cases e : m = s
    · rw [e]; exact no
    · exact hno m (by omega)
theorem py_made {post : Int32 → Prop} {r x z : Nat} {qx qz : Nat → Nat} (hr : r ≤ 5) (hx : x < 32) (hz : z < 32) (hq : ∀ j, j < r → qx j < 32 ∧ qz j < 32)
    (h1 : pd_md qx qz r x z → post 1) (h0 : ¬ pd_md qx qz r x z → post 0) : wpY_isMade post ((nI n), (nI (2 ^ n)), (nI r), f_sumRe, f_sumIm, (fun jj => pd_I (A jj).1), (fun jj => pd_I (A jj).2), (fun jj => pd_I (N jj).1), (fun jj => pd_I (N jj).2), (fun jj => pd_I (B jj).1), (fun jj => pd_I (B jj).2), a_isSaved, (fun jj => nI (qx jj)), (fun jj => nI (qz jj))) (nI x) (nI z) :=
  ⟨2 ^ r + 1, py_made2 hr hx hz hq h1 h0 (2 ^ r) 0 (by omega) (fun m hm => absurd hm (Nat.not_lt_zero m))⟩
end
theorem pd_Ru_b {n r : Nat} {qx qz bs : Nat → Nat} (hn : n ≤ 5) (h : pd_Ru n r qx qz bs) : ∀ j, j < r → qx j < 32 ∧ qz j < 32 := by
  have h32 := px_2n hn
  intro j hj
  have := h.2.1 j hj
  omega
theorem i_vc_clearRules {k : Nat} {u : SX} {v : SY} (I : i_Rel k u v) (hk : k + 4 ≤ 2049) : wpX_clearRules (fun r u' => wpY_clearRules (fun r' v' => r' = r ∧ i_Rel (k + 4) u' v') v) u := by
  refine zz_el (P := fun u v => wpX_clearRules (fun r u' => wpY_clearRules (fun r' v' => r' = r ∧ i_Rel (k + 4) u' v') v) u) I ?_
  intro n r X Z S qx qz bs A N B kp g1 g2 g3 g4 g5 g6 h1 h2 h3 h4 h5 h6 h7 i1 i2
  exact ⟨rfl, zz_in (r := 0) i1 (pd_Ru_0 _ _ _ _)⟩
theorem i_vc_syndrome {k : Nat} {u : SX} {v : SY} (I : i_Rel k u v) (hk : k + 4 ≤ 2049) (v1 : Int32) (v2 : Int32) : wpX_syndrome (fun r => wpY_syndrome (fun r' => r' = r ∧ i_Rel (k + 4) u v) v v1 v2) u v1 v2 := by
  refine zz_el (P := fun u v => wpX_syndrome (fun r => wpY_syndrome (fun r' => r' = r ∧ i_Rel (k + 4) u v) v v1 v2) u v1 v2) I ?_
  intro n r X Z S qx qz bs A N B kp g1 g2 g3 g4 g5 g6 h1 h2 h3 h4 h5 h6 h7 i1 i2
  have hn := i1.1.2
  by_cases c : ∃ m, m < 2 ^ n ∧ v1 = nI m
  · obtain ⟨x, hx, rfl⟩ := c
    by_cases c2 : ∃ m, m < 2 ^ n ∧ v2 = nI m
    · obtain ⟨z, hz, rfl⟩ := c2
      refine px_syn hn i2.1 (pd_Ru_b hn i2) hx hz ?_
      unfold wpY_syndrome
      dsimp only
      refine py_isMask_t hn hx (br_f (by decide) (py_isMask_t hn hz (br_f (by decide) ?_)))
      exact py_syn i2.1 (pd_Ru_b hn i2) ⟨rfl, zz_in i1 i2⟩
    · unfold wpX_syndrome
      dsimp only
      refine px_isMask_t hn hx (br_f (by decide) (px_isMask_f hn c2 (br_t rfl ?_)))
      unfold wpY_syndrome
      dsimp only
      exact py_isMask_t hn hx (br_f (by decide) (py_isMask_f hn c2 (br_t rfl ⟨rfl, zz_in i1 i2⟩)))
  · unfold wpX_syndrome
    dsimp only
    refine px_isMask_f hn c (br_t rfl ?_)
    unfold wpY_syndrome
    dsimp only
    exact py_isMask_f hn c (br_t rfl ⟨rfl, zz_in i1 i2⟩)
theorem i_vc_rule {k : Nat} {u : SX} {v : SY} (I : i_Rel k u v) (hk : k + 4 ≤ 2049) (v1 : Int32) (v2 : Int32) : wpX_rule (fun r u' => wpY_rule (fun r' v' => r' = r ∧ i_Rel (k + 4) u' v') v v1 v2) u v1 v2 := by
  refine zz_el (P := fun u v => wpX_rule (fun r u' => wpY_rule (fun r' v' => r' = r ∧ i_Rel (k + 4) u' v') v v1 v2) u v1 v2) I ?_
  intro n r X Z S qx qz bs A N B kp g1 g2 g3 g4 g5 g6 h1 h2 h3 h4 h5 h6 h7 i1 i2
  have hn := i1.1.2
  have h32 := px_2n hn
  have hq := pd_Ru_b hn i2
  unfold wpX_rule
  dsimp only
  by_cases c : ∃ m, m < 2 ^ n ∧ v1 = nI m
  · obtain ⟨x, hx, rfl⟩ := c
    refine px_isMask_t hn hx (br_f (by decide) ?_)
    by_cases c2 : ∃ m, m < 2 ^ n ∧ v2 = nI m
    · obtain ⟨z, hz, rfl⟩ := c2
      refine px_isMask_t hn hz (br_f (by decide) ?_)
      refine px_syn hn i2.1 hq hx hz ?_
      have sl := pd_sy_lt qx qz r x z
      have r32 := px_2n i2.1
      obtain ⟨l, hE⟩ := i2.2.2.2.2.1
      have hcode : 32 * x + z < 1024 := pd_lt1024 (by omega) (by omega)
      have hmd : pd_md qx qz r x z ↔ pd_rd bs (32 * x + z) r = 0 := by
        rw [pd_md_sp (fun j hj => (hq j hj).2) (by omega), i2.2.2.2.2.2, pd_rd_0 hE hcode]
      refine pk_eq (pd_sy qx qz r x z) 0 (fun e => ?_) (fun e => ?_)
      · have ec : (32 : Int32) * nI x + nI z = nI (32 * x + z) := by
          show nI 32 * nI x + nI z = _
          rw [pk_mul, nI_add]
        refine nm_r ec ⟨r + 1, px_rule43 (l := l) i2.1 hE hcode (by omega) (by omega) (fun z0 => ?_) (fun nz => ?_) r 0 (by omega)⟩
        · unfold wpY_rule
          dsimp only
          refine py_isMask_t hn hx (br_f (by decide) (py_isMask_t hn hz (br_f (by decide) ?_)))
          refine py_syn i2.1 hq ?_
          rw [e]
          refine br_t rfl (py_made i2.1 (by omega) (by omega) hq (fun _ => br_f (by decide) ⟨rfl, zz_in i1 i2⟩) (fun no => absurd (hmd.mpr z0) no))
        · obtain ⟨r5, ru⟩ := pd_Ru_rule hn i2 hx hz (pd_sy_0.mp e) nz
          refine ⟨r5, ?_⟩
          unfold wpY_rule
          dsimp only
          refine py_isMask_t hn hx (br_f (by decide) (py_isMask_t hn hz (br_f (by decide) ?_)))
          refine py_syn i2.1 hq ?_
          rw [e]
          refine br_t rfl (py_made i2.1 (by omega) (by omega) hq (fun yes => absurd (hmd.mp yes) nz) (fun _ => br_t rfl ?_))
          refine br_f (fun e10 => by have := (nI_eq (a := r) (b := 10) (by omega) (by decide)).mp e10; omega) ?_
          have hi : vp_in (nI r) 10 := vp_in_nI (by omega) (by decide)
          rw [nI_clamp (n := r) (by omega)]
          exact ⟨hi, nm_r (px_upk qx r rfl) ⟨hi, nm_r (px_upk qz r rfl) (nm_r (nI_1 r) ⟨rfl, zz_in i1 ru⟩)⟩⟩
      · unfold wpY_rule
        dsimp only
        refine py_isMask_t hn hx (br_f (by decide) (py_isMask_t hn hz (br_f (by decide) ?_)))
        refine py_syn i2.1 hq ?_
        exact pk_eq (pd_sy qx qz r x z) 0 (fun e2 => absurd e2 e) (fun _ => ⟨rfl, zz_in i1 i2⟩)
    · refine px_isMask_f hn c2 (br_t rfl ?_)
      unfold wpY_rule
      dsimp only
      exact py_isMask_t hn hx (br_f (by decide) (py_isMask_f hn c2 (br_t rfl ⟨rfl, zz_in i1 i2⟩)))
  · refine px_isMask_f hn c (br_t rfl ?_)
    unfold wpY_rule
    dsimp only
    exact py_isMask_f hn c (br_t rfl ⟨rfl, zz_in i1 i2⟩)
end
section
/-- 1 if so -/
noncomputable def pd_in (p : Prop) : Nat := @ite Nat p (Classical.propDecidable p) 1 0
theorem pd_in_t {p : Prop} (h : p) : pd_in p = 1 := if_pos h
theorem pd_in_f {p : Prop} (h : ¬ p) : pd_in p = 0 := if_neg h
theorem pd_in_cg {p q : Prop} (h : p ↔ q) : pd_in p = pd_in q := by
  by_cases c : p
  · rw [pd_in_t c, pd_in_t (h.mp c)]
  · rw [pd_in_f c, pd_in_f (fun d => c (h.mpr d))]
theorem pd_in_le (p : Prop) : pd_in p ≤ 1 := by
  by_cases c : p
  · rw [pd_in_t c]; exact Nat.le_refl 1
  · rw [pd_in_f c]; exact Nat.zero_le 1
theorem pd_sm_ad (f g : Nat → Nat) : ∀ n, pd_sm (fun k => f k + g k) n = pd_sm f n + pd_sm g n := by
  intro n
  induction n with
  | zero => rfl
  | succ n ih =>
    show pd_sm (fun k => f k + g k) n + (f n + g n) = pd_sm f n + f n + (pd_sm g n + g n)
    rw [ih]; omega
theorem pd_sm_split (f : Nat → Nat) (m : Nat) : ∀ n, pd_sm f (m + n) = pd_sm f m + pd_sm (fun k => f (m + k)) n := by
  intro n
  induction n with
  | zero => rfl
  | succ n ih =>
    show pd_sm f (m + n) + f (m + n) = pd_sm f m + (pd_sm (fun k => f (m + k)) n + f (m + n))
    rw [ih]; omega
/-- counting images -/
theorem pd_cnt {C : Nat} {G : Nat → Nat} {P : Nat → Prop} : ∀ {K : Nat}, (∀ m, m < K → G m < C) → (∀ m m', m < K → m' < K → G m = G m' → m = m') →
    pd_sm (fun c => pd_in (∃ m, m < K ∧ G m = c ∧ P m)) C = pd_sm (fun m => pd_in (P m)) K := by
  intro K
  induction K with
  | zero =>
    intro _ _
    exact pd_sm_0 (fun c _ => pd_in_f (fun ⟨m, hm, _⟩ => absurd hm (Nat.not_lt_zero m)))
  | succ K ih =>
    intro hG hi
    have a := ih (fun m hm => hG m (by omega)) (fun m m' h1 h2 => hi m m' (by omega) (by omega))
    have b : pd_sm (fun c => pd_in (G K = c ∧ P K)) C = pd_in (P K) := by
      rw [pd_sm_1 (j := G K) (hG K (by omega))]
      · exact pd_in_cg ⟨fun h => h.2, fun h => ⟨rfl, h⟩⟩
      · intro c _ hne
        exact pd_in_f (fun h => hne h.1.symm)
    show _ = pd_sm (fun m => pd_in (P m)) K + pd_in (P K)
    rw [← a, ← b, ← pd_sm_ad]
    apply pd_sm_cg
    intro c _
    by_cases p1 : ∃ m, m < K ∧ G m = c ∧ P m
    · obtain ⟨m, hm, e, hp⟩ := p1
      rw [pd_in_t ⟨m, by omega, e, hp⟩, pd_in_t ⟨m, hm, e, hp⟩, pd_in_f (fun h => by have := hi m K (by omega) (by omega) (e.trans h.1.symm); omega)]
    · by_cases p2 : G K = c ∧ P K
      · rw [pd_in_t ⟨K, by omega, p2⟩, pd_in_f p1, pd_in_t p2]
      · have no : ¬ ∃ m, m < K + 1 ∧ G m = c ∧ P m := by
          intro ⟨m, hm, h⟩
          by_cases e : m = K
          · exact p2 (e ▸ h)
          · exact p1 ⟨m, by omega, h⟩
        rw [pd_in_f no, pd_in_f p1, pd_in_f p2]
/-- how many of the sums of the first k codes are w -/
noncomputable def pd_Nk (o : Nat → Nat) (k w : Nat) : Nat := pd_sm (fun m => pd_in (pd_xs (fun j => pd_d m j * o j) k = w)) (2 ^ k)
theorem pd_Nk_0 {o : Nat → Nat} {k w : Nat} (h : ¬ pd_sp o k w) : pd_Nk o k w = 0 := pd_sm_0 (fun m hm => pd_in_f (fun e => h ⟨m, hm, e.symm⟩))
theorem pd_Nk_s (o : Nat → Nat) (k w : Nat) : pd_Nk o (k + 1) w = pd_Nk o k w + pd_Nk o k (w ^^^ o k) := by
  have hp : 2 ^ (k + 1) = 2 ^ k + 2 ^ k := by rw [Nat.pow_succ]; omega
  unfold pd_Nk
  rw [hp, pd_sm_split]
  congr 1
  · apply pd_sm_cg
    intro m hm
    apply pd_in_cg
    show pd_xs (fun j => pd_d m j * o j) k ^^^ (pd_d m k * o k) = w ↔ _
    rw [pd_d_lt hm, Nat.zero_mul, Nat.xor_zero]
  · apply pd_sm_cg
    intro m hm
    apply pd_in_cg
    show pd_xs (fun j => pd_d (2 ^ k + m) j * o j) k ^^^ (pd_d (2 ^ k + m) k * o k) = w ↔ _
    have e1 : pd_d (2 ^ k + m) k = 1 := by rw [pd_pow_add_x hm, pd_d_xor', pd_d_pow, if_pos rfl, pd_d_lt hm]
    have e2 : pd_xs (fun j => pd_d (2 ^ k + m) j * o j) k = pd_xs (fun j => pd_d m j * o j) k := pd_xs_cg (fun j hj => by
      rw [pd_pow_add_x hm, pd_d_xor', pd_d_pow, if_neg (by omega), Nat.zero_add]
      have := pd_d_le m j
      rw [Nat.mod_eq_of_lt (by omega)])
    rw [e1, e2, Nat.one_mul]
    constructor
    · intro h; rw [← h, pd_xx]
    · intro h; rw [h, pd_xx]
def pd_Kn (o : Nat → Nat) (q rank : Nat) : Prop := ∀ w, pd_sp o q w → pd_Nk o q w = 2 ^ (q - rank)
theorem pd_Kn_in {o : Nat → Nat} {q rank : Nat} (hr : rank ≤ q) (h : pd_Kn o q rank) (hs : pd_sp o q (o q)) : pd_Kn o (q + 1) rank := by
  intro w hw
  have hw2 : pd_sp o q w := by
    rcases (pd_sp_succ o q w).mp hw with k | k
    · exact k
    · have := pd_sp_x k hs; rw [pd_xx] at this; exact this
  rw [pd_Nk_s, h w hw2, h _ (pd_sp_x hw2 hs), show q + 1 - rank = (q - rank) + 1 by omega, Nat.pow_succ]
  omega
theorem pd_Kn_out {o : Nat → Nat} {q rank : Nat} (h : pd_Kn o q rank) (hs : ¬ pd_sp o q (o q)) : pd_Kn o (q + 1) (rank + 1) := by
  intro w hw
  rw [pd_Nk_s, show q + 1 - (rank + 1) = q - rank by omega]
  rcases (pd_sp_succ o q w).mp hw with k | k
  · rw [h w k, pd_Nk_0 (fun k2 => hs (by have := pd_sp_x k k2; rw [← Nat.xor_assoc, Nat.xor_self, Nat.zero_xor] at this; exact this)), Nat.add_zero]
  · rw [h _ k, pd_Nk_0 (fun k2 => hs (by have := pd_sp_x k2 k; rw [← Nat.xor_assoc, Nat.xor_self, Nat.zero_xor] at this; exact this))]
    omega
/-- what of a mask lies outside another -/
def pd_out (mask a : Nat) : Nat := a ^^^ (a &&& mask)
theorem pd_out_x (mask a b : Nat) : pd_out mask (a ^^^ b) = pd_out mask a ^^^ pd_out mask b := by
  unfold pd_out
  rw [Nat.and_xor_distrib_right, Nat.xor_assoc, Nat.xor_assoc]
  congr 1
  rw [← Nat.xor_assoc, ← Nat.xor_assoc, Nat.xor_comm b]
theorem pd_out_0 (mask : Nat) : pd_out mask 0 = 0 := by unfold pd_out; rw [Nat.zero_and, Nat.xor_zero]
theorem pd_out_lt {mask a : Nat} (h : a < 32) : pd_out mask a < 32 := pd_xor32 h (pd_and32 h)
theorem pd_out_d (mask a k : Nat) : pd_d (pd_out mask a) k = pd_d a k * (1 - pd_d mask k) := by
  unfold pd_out
  rw [pd_d_xor', pd_d_and]
  rcases pd_d_01 a k with e | e <;> rcases pd_d_01 mask k with f | f <;> rw [e, f]
theorem pd_out_z {mask a : Nat} : pd_out mask a = 0 ↔ ∀ k, pd_d a k = 1 → pd_d mask k = 1 := by
  constructor
  · intro h k hk
    have := pd_out_d mask a k
    rw [h, pd_d_0, hk] at this
    have := pd_d_le mask k
    omega
  · intro h
    apply pd_d_ext
    intro k
    rw [pd_d_0, pd_out_d]
    rcases pd_d_01 a k with e | e
    · rw [e, Nat.zero_mul]
    · rw [e, h k e]
theorem pd_out_xs (mask : Nat) (e f : Nat → Nat) (he : ∀ j, e j ≤ 1) : ∀ r, pd_out mask (pd_xs (fun j => e j * f j) r) = pd_xs (fun j => e j * pd_out mask (f j)) r := by
  intro r
  induction r with
  | zero => exact pd_out_0 mask
  | succ r ih =>
    show pd_out mask (pd_xs (fun j => e j * f j) r ^^^ (e r * f r)) = pd_xs (fun j => e j * pd_out mask (f j)) r ^^^ (e r * pd_out mask (f r))
    rw [pd_out_x, ih]
    congr 1
    have : e r = 0 ∨ e r = 1 := by have := he r; omega
    rcases this with k | k
    · rw [k, Nat.zero_mul, Nat.zero_mul, pd_out_0]
    · rw [k, Nat.one_mul, Nat.one_mul]
theorem pd_outI {a m : Nat} (ha : a < 32) (hm : m < 32) : (nI a &&& (nI m ^^^ (-1))) = nI (pd_out m a) := by
  have T : ∀ a, a < 32 → ∀ m, m < 32 → (nI a &&& (nI m ^^^ (-1))) = nI (pd_out m a) := by decide +kernel
  exact T a ha m hm
theorem px_fun (f : Nat → Int32) : ∃ g : Nat → Nat, f = fun jj => nI (g jj) := by
  refine ⟨fun jj => (f jj).toBitVec.toNat, ?_⟩
  funext jj
  apply Int32.toBitVec_inj.mp
  show (f jj).toBitVec = BitVec.ofNat 32 (f jj).toBitVec.toNat
  rw [BitVec.ofNat_toNat, BitVec.setWidth_eq]
section
variable {f_gatheredX f_gatheredZ f_gatheredPower f_rules f_solutions : Int32} {a_kept a_ruleX a_ruleZ a_basis a_cost a_nextCost a_addsX a_addsZ a_equation a_leading a_solution : Nat → Int32} {n : Nat} {X Z S : Nat → Nat}
theorem px_reduced5 {post : Int32 → Prop} {w r : Nat} {eq l : Nat → Nat} (hr : r ≤ 5) (hE : pd_Eb eq l r) (hw : w < 1024) (h : post (nI (pd_rd eq w r))) :
    ∀ f i, i + f = r → wX_reduced_5 post (nI r) (nI n) f_gatheredX f_gatheredZ f_gatheredPower f_rules f_solutions (fun jj => nI (X jj)) (fun jj => nI (Z jj)) (fun jj => nI (S jj)) a_kept a_ruleX a_ruleZ a_basis a_cost a_nextCost a_addsX a_addsZ (fun jj => nI (eq jj)) a_leading a_solution (f + 1) (nI (pd_rd eq w i)) (nI i) := by
  intro f
  induction f with
  | zero =>
    intro i hi
    have e : i = r := by omega
    subst e
    exact br_t (nI_le (by omega) (by omega)) h
  | succ f ih =>
    intro i hi
    have lt := (pd_rd_p hE hw i (by omega)).1
    have lb := (hE.1 i (by omega)).1
    have lx := pd_xor1024 lt lb
    refine br_f (nI_ge (by omega) (by omega)) ⟨vp_in_nI (by omega) (by decide), ?_⟩
    rw [nI_clamp (n := i) (by omega)]
    refine nm_r (nx_xor _ _) ?_
    have d1 : pd_rd eq w (i + 1) = if pd_rd eq w i ^^^ eq i < pd_rd eq w i then pd_rd eq w i ^^^ eq i else pd_rd eq w i := rfl
    have nx := ih (i + 1) (by omega)
    refine pk_le (pd_rd eq w i) (pd_rd eq w i ^^^ eq i) (fun c => ?_) (fun c => ?_)
    · rw [d1, if_neg (by omega)] at nx
      exact nm_r (nI_1 i) nx
    · rw [d1, if_pos c] at nx
      exact nm_r (nI_1 i) nx
theorem px_knows14 {post : Int32 → SX → Prop} {mask : Nat} (hn : n ≤ 5) (hB : pd_Bn X Z S) (hmask : mask < 32)
    (h : ∀ rank eq, rank ≤ n → pd_Kn (fun q => 32 * pd_out mask (X (5 + q)) + pd_out mask (Z (5 + q))) n rank → post (nI (2 ^ (n - rank))) ((nI n), f_gatheredX, f_gatheredZ, f_gatheredPower, f_rules, f_solutions, (fun jj => nI (X jj)), (fun jj => nI (Z jj)), (fun jj => nI (S jj)), a_kept, a_ruleX, a_ruleZ, a_basis, a_cost, a_nextCost, a_addsX, a_addsZ, eq, a_leading, a_solution)) :
    ∀ f q, q + f = n → ∀ (rank : Nat) (eq l : Nat → Nat), rank ≤ q → pd_Eb eq l rank → (∀ w, pd_sp eq rank w ↔ pd_sp (fun q => 32 * pd_out mask (X (5 + q)) + pd_out mask (Z (5 + q))) q w) → pd_Kn (fun q => 32 * pd_out mask (X (5 + q)) + pd_out mask (Z (5 + q))) q rank →
      wX_knows_14 post (nI mask) (nI n) f_gatheredX f_gatheredZ f_gatheredPower f_rules f_solutions (f + 1) (nI rank) (nI q) (fun jj => nI (X jj)) (fun jj => nI (Z jj)) (fun jj => nI (S jj)) a_kept a_ruleX a_ruleZ a_basis a_cost a_nextCost a_addsX a_addsZ (fun jj => nI (eq jj)) a_leading a_solution := by
  intro f
  induction f with
  | zero =>
    intro q hq rank eq l hr hE hsp hK
    have e : q = n := by omega
    subst e
    refine br_t (nI_le (by omega) (by omega)) ?_
    have e2 : (1 : Int32) <<< ((nI q - nI rank) &&& 31) = nI (2 ^ (q - rank)) := by
      rw [pk_sub hr]; exact px_pow (by omega)
    rw [e2]
    exact h rank _ hr hK
  | succ f ih =>
    intro q hq rank eq l hr hE hsp hK
    refine br_f (nI_ge (by omega) (by omega)) ?_
    have e5 : (5 : Int32) + nI q = nI (5 + q) := nI_add 5 q
    have b := hB (5 + q) (by omega)
    have hi : vp_in (nI (5 + q)) 60 := vp_in_nI (by omega) (by decide)
    have o1 := pd_out_lt (mask := mask) b.1
    have o2 := pd_out_lt (mask := mask) b.2.1
    rw [e5, nI_clamp (n := 5 + q) (by omega)]
    refine ⟨hi, nm_r (pd_outI b.1 hmask) ⟨hi, nm_r (pd_outI b.2.1 hmask) ?_⟩⟩
    have ec : (32 : Int32) * nI (pd_out mask (X (5 + q))) + nI (pd_out mask (Z (5 + q))) = nI (32 * pd_out mask (X (5 + q)) + pd_out mask (Z (5 + q))) := by
      show nI 32 * nI _ + nI _ = _
      rw [pk_mul, nI_add]
    rw [ec]
    have hw : 32 * pd_out mask (X (5 + q)) + pd_out mask (Z (5 + q)) < 1024 := pd_lt1024 o1 o2
    refine ⟨rank + 1, px_reduced5 (l := l) (by omega) hE hw ?_ rank 0 (by omega)⟩
    have lt := (pd_rd_p hE hw rank (Nat.le_refl rank)).1
    have iff := pd_rd_0 hE hw
    refine pk_eq (pd_rd eq (32 * pd_out mask (X (5 + q)) + pd_out mask (Z (5 + q))) rank) 0 (fun e => ?_) (fun e => ?_)
    · have hs := (hsp _).mp (iff.mp e)
      refine nm_r (nI_1 q) (ih (q + 1) (by omega) rank eq l (by omega) hE (fun w => ?_) (pd_Kn_in hr hK hs))
      rw [pd_sp_succ, hsp w]
      constructor
      · intro k; exact Or.inl k
      · intro k
        rcases k with k | k
        · exact k
        · have := pd_sp_x k hs; rw [pd_xx] at this; exact this
    · have hs : ¬ pd_sp (fun q => 32 * pd_out mask (X (5 + q)) + pd_out mask (Z (5 + q))) q (32 * pd_out mask (X (5 + q)) + pd_out mask (Z (5 + q))) := fun k => e (iff.mpr ((hsp _).mpr k))
      obtain ⟨l', hE'⟩ := pd_Eb_s hE hw e
      have hv : vp_in (nI rank) 5 := vp_in_nI (by omega) (by decide)
      rw [nI_clamp (n := rank) (by omega)]
      refine ⟨hv, nm_r (px_upk eq rank rfl) (nm_r (nI_1 rank) (nm_r (nI_1 q) (ih (q + 1) (by omega) (rank + 1) _ l' (by omega) hE' (fun w => ?_) (pd_Kn_out hK hs))))⟩
      have sb := (pd_rd_p hE hw rank (Nat.le_refl rank)).2.2
      have e2 : ∀ w, pd_sp (pd_u eq rank (pd_rd eq (32 * pd_out mask (X (5 + q)) + pd_out mask (Z (5 + q))) rank)) rank w ↔ pd_sp eq rank w := fun w => pd_sp_cg (fun j hj => pd_u_n (by omega))
      rw [pd_sp_succ, pd_sp_succ, e2, e2, pd_u_s, ← hsp, ← hsp]
      have e3 : pd_sp eq rank (w ^^^ pd_rd eq (32 * pd_out mask (X (5 + q)) + pd_out mask (Z (5 + q))) rank) ↔ pd_sp eq rank (w ^^^ (32 * pd_out mask (X (5 + q)) + pd_out mask (Z (5 + q)))) := by
        constructor
        · intro k
          have := pd_sp_x k sb
          rw [Nat.xor_comm (32 * pd_out mask (X (5 + q)) + pd_out mask (Z (5 + q))), ← Nat.xor_assoc, pd_xx] at this
          exact this
        · intro k
          have := pd_sp_x k sb
          rw [← Nat.xor_assoc, pd_xx] at this
          exact this
      rw [e3]
end
section
variable {f_rules f_sumRe f_sumIm : Int32} {a_isSaved a_ruleX a_ruleZ : Nat → Int32} {n : Nat} {A N B : Nat → Int × Int}
theorem py_knows14 {post : Int32 → Prop} {mask : Nat} (hmask : mask < 32) (hA : ∀ j, j < 1056 → pd_bd 1 (A j))
    (h : post (nI (pd_sm (fun c => pd_in ((pd_out mask (c / 32) = 0 ∧ pd_out mask (c % 32) = 0) ∧ pd_si (pd_T (c / 32) (c % 32) (fun b => A (1024 + b))) 32 ≠ 0)) 1024))) :
    ∀ f c, c + f = 1024 → wY_knows_14 post (nI mask) (nI n) (nI (2 ^ n)) f_rules f_sumRe f_sumIm (fun jj => pd_I (A jj).1) (fun jj => pd_I (A jj).2) (fun jj => pd_I (N jj).1) (fun jj => pd_I (N jj).2) (fun jj => pd_I (B jj).1) (fun jj => pd_I (B jj).2) a_isSaved a_ruleX a_ruleZ (f + 1) (nI (pd_sm (fun c => pd_in ((pd_out mask (c / 32) = 0 ∧ pd_out mask (c % 32) = 0) ∧ pd_si (pd_T (c / 32) (c % 32) (fun b => A (1024 + b))) 32 ≠ 0)) c)) (nI c) := by
  intro f
  induction f with
  | zero =>
    intro c hc
    have e : c = 1024 := by omega
    subst e
    exact br_t (show (1024 : Int32) ≤ nI 1024 by decide) h
  | succ f ih =>
    intro c hc
    have nx := ih (c + 1) (by omega)
    have d1 : pd_sm (fun c => pd_in ((pd_out mask (c / 32) = 0 ∧ pd_out mask (c % 32) = 0) ∧ pd_si (pd_T (c / 32) (c % 32) (fun b => A (1024 + b))) 32 ≠ 0)) (c + 1) = pd_sm (fun c => pd_in ((pd_out mask (c / 32) = 0 ∧ pd_out mask (c % 32) = 0) ∧ pd_si (pd_T (c / 32) (c % 32) (fun b => A (1024 + b))) 32 ≠ 0)) c + pd_in ((pd_out mask (c / 32) = 0 ∧ pd_out mask (c % 32) = 0) ∧ pd_si (pd_T (c / 32) (c % 32) (fun b => A (1024 + b))) 32 ≠ 0) := rfl
    rw [d1] at nx
    have e1 : nI c / 32 = nI (c / 32) := pk_div (d := 32) (by omega) (by decide) (by decide)
    have e2 : nI c - nI c / 32 * 32 = nI (c % 32) := pk_rem (d := 32) (by omega) (by decide) (by decide)
    have l1 := pd_out_lt (mask := mask) (a := c / 32) (by omega)
    have l2 := pd_out_lt (mask := mask) (a := c % 32) (by omega)
    refine br_f (show ¬ (1024 : Int32) ≤ nI c from nI_ge (b := 1024) (by omega) (by decide)) ⟨by decide, ?_⟩
    have skip : ¬ ((pd_out mask (c / 32) = 0 ∧ pd_out mask (c % 32) = 0) ∧ pd_si (pd_T (c / 32) (c % 32) (fun b => A (1024 + b))) 32 ≠ 0) → wY_knows_14 post (nI mask) (nI n) (nI (2 ^ n)) f_rules f_sumRe f_sumIm (fun jj => pd_I (A jj).1) (fun jj => pd_I (A jj).2) (fun jj => pd_I (N jj).1) (fun jj => pd_I (N jj).2) (fun jj => pd_I (B jj).1) (fun jj => pd_I (B jj).2) a_isSaved a_ruleX a_ruleZ (f + 1) (nI (pd_sm (fun c => pd_in ((pd_out mask (c / 32) = 0 ∧ pd_out mask (c % 32) = 0) ∧ pd_si (pd_T (c / 32) (c % 32) (fun b => A (1024 + b))) 32 ≠ 0)) c)) (nI (c + 1)) := by
      intro no
      rw [pd_in_f no, Nat.add_zero] at nx
      exact nx
    rw [e2, e1, pd_outI (by omega) hmask, pd_outI (by omega) hmask]
    refine pk_eq (pd_out mask (c / 32)) 0 (fun a => ⟨by decide, pk_eq (pd_out mask (c % 32)) 0 (fun b => ?_) (fun b => ?_)⟩) (fun a => ?_)
    · refine br_f (by decide) ⟨by decide, by decide, ?_⟩
      rw [e2, e1]
      refine py_expectation (by omega) (by omega) hA (fun k => ?_) (fun k => ?_) (fun k => ?_)
      · rw [pd_in_t ⟨⟨a, b⟩, by omega⟩] at nx
        exact br_f (by decide) (nm_r (nI_1 _) (nm_r (nI_1 c) nx))
      · exact br_t rfl (nm_r (nI_1 c) (skip (fun k2 => k2.2 k)))
      · rw [pd_in_t ⟨⟨a, b⟩, by omega⟩] at nx
        exact br_f (by decide) (nm_r (nI_1 _) (nm_r (nI_1 c) nx))
    · exact br_t rfl (nm_r (nI_1 c) (skip (fun k => b k.1.2)))
    · exact br_t rfl (nm_r (nI_1 c) (skip (fun k => a k.1.1)))
end
/-- the products within a mask that keep the state, counted -/
theorem pd_knows_cnt {n mask rank : Nat} {X Z S : Nat → Nat} {V : Nat → Int × Int} (hn : n ≤ 5) (hSt : pd_St n X Z S 0 V) (hmask : mask < 2 ^ n) (hK : pd_Kn (fun q => 32 * pd_out mask (X (5 + q)) + pd_out mask (Z (5 + q))) n rank) :
    pd_sm (fun c => pd_in ((pd_out mask (c / 32) = 0 ∧ pd_out mask (c % 32) = 0) ∧ pd_si (pd_T (c / 32) (c % 32) V) 32 ≠ 0)) 1024 = 2 ^ (n - rank) := by
  have h32 := px_2n hn
  have bd : ∀ q, q < 5 → X (5 + q) < 32 ∧ Z (5 + q) < 32 := fun q hq => by
    have := hSt.1 (5 + q) (by omega)
    rw [Nat.zero_add] at this
    exact ⟨this.1, this.2.1⟩
  have sy := hSt.2.1
  have z0 : ∀ i, 0 + i = i := Nat.zero_add
  have gx : ∀ m, pd_xs (fun q => pd_d m q * X (5 + q)) n < 32 := fun m => pd_xs_lt32 (x := fun q => X (5 + q)) (e := fun q => pd_d m q) (fun j _ => pd_d_le m j) (fun j hj => (bd j (by omega)).1)
  have gz : ∀ m, pd_xs (fun q => pd_d m q * Z (5 + q)) n < 32 := fun m => pd_xs_lt32 (x := fun q => Z (5 + q)) (e := fun q => pd_d m q) (fun j _ => pd_d_le m j) (fun j hj => (bd j (by omega)).2)
  have clP : ∀ m i, i < 5 → pd_cl (X i) (Z i) (pd_xs (fun q => pd_d m q * X (5 + q)) n) (pd_xs (fun q => pd_d m q * Z (5 + q)) n) = if i < n then pd_d m i else 0 := by
    intro m i hi
    rw [pd_cl_xs]
    have s := fun k (hk : k < 5) => sy i (5 + k) (by omega) (by omega)
    by_cases c : i < n
    · rw [if_pos c, pd_sm_1 (j := i) c]
      · have e := s i hi
        rw [z0, z0, if_pos (by omega)] at e
        rw [pd_cl_d _ _ _ _ _ (pd_d_le m i), e]
        have := pd_d_le m i
        omega
      · intro k hk hne
        have e := s k (by omega)
        rw [z0, z0, if_neg (by omega)] at e
        rw [pd_cl_d _ _ _ _ _ (pd_d_le m k), e, Nat.mul_zero]
    · rw [if_neg c, pd_sm_0]
      intro k hk
      have e := s k (by omega)
      rw [z0, z0, if_neg (by omega)] at e
      rw [pd_cl_d _ _ _ _ _ (pd_d_le m k), e, Nat.mul_zero]
  have clS : ∀ m i, i < 5 → pd_cl (X (5 + i)) (Z (5 + i)) (pd_xs (fun q => pd_d m q * X (5 + q)) n) (pd_xs (fun q => pd_d m q * Z (5 + q)) n) = 0 := by
    intro m i hi
    rw [pd_cl_xs, pd_sm_0]
    intro k hk
    have e := sy (5 + i) (5 + k) (by omega) (by omega)
    rw [z0, z0, if_neg (by omega)] at e
    rw [pd_cl_d _ _ _ _ _ (pd_d_le m k), e, Nat.mul_zero]
  have outG : ∀ m, 32 * pd_out mask (pd_xs (fun q => pd_d m q * X (5 + q)) n) + pd_out mask (pd_xs (fun q => pd_d m q * Z (5 + q)) n) = pd_xs (fun q => pd_d m q * (32 * pd_out mask (X (5 + q)) + pd_out mask (Z (5 + q)))) n := by
    intro m
    rw [pd_out_xs mask (fun q => pd_d m q) (fun q => X (5 + q)) (fun j => pd_d_le m j), pd_out_xs mask (fun q => pd_d m q) (fun q => Z (5 + q)) (fun j => pd_d_le m j)]
    exact ((pd_xs_32 (x := fun q => pd_out mask (X (5 + q))) (z := fun q => pd_out mask (Z (5 + q))) (e := fun q => pd_d m q) (r := n) (fun j _ => pd_d_le m j) (fun j hj => pd_out_lt (bd j (by omega)).2)).2).symm
  have main := pd_cnt (C := 1024) (K := 2 ^ n) (G := fun m => 32 * pd_xs (fun q => pd_d m q * X (5 + q)) n + pd_xs (fun q => pd_d m q * Z (5 + q)) n) (P := fun m => pd_xs (fun q => pd_d m q * (32 * pd_out mask (X (5 + q)) + pd_out mask (Z (5 + q)))) n = 0)
    (fun m _ => pd_lt1024 (gx m) (gz m)) (fun m m' hm hm' e => by
      have a1 := gx m; have a2 := gz m; have a3 := gx m'; have a4 := gz m'
      have ex : pd_xs (fun q => pd_d m q * X (5 + q)) n = pd_xs (fun q => pd_d m' q * X (5 + q)) n := by omega
      have ez : pd_xs (fun q => pd_d m q * Z (5 + q)) n = pd_xs (fun q => pd_d m' q * Z (5 + q)) n := by omega
      apply pd_d_ext_lt hm hm'
      intro k hk
      have c1 := clP m k (by omega)
      have c2 := clP m' k (by omega)
      rw [if_pos hk] at c1 c2
      rw [← c1, ← c2, ex, ez])
  have nk : pd_sm (fun m => pd_in (pd_xs (fun q => pd_d m q * (32 * pd_out mask (X (5 + q)) + pd_out mask (Z (5 + q)))) n = 0)) (2 ^ n) = 2 ^ (n - rank) := hK 0 (pd_sp_0 _ _)
  rw [← nk, ← main]
  apply pd_sm_cg
  intro c hc
  apply pd_in_cg
  constructor
  · intro ⟨⟨o1, o2⟩, hE⟩
    have hx : c / 32 < 32 := by omega
    have hz : c % 32 < 32 := by omega
    have inm : ∀ a, a < 32 → pd_out mask a = 0 → a < 2 ^ n := by
      intro a ha ho
      apply pd_lt_of_d (N := 5) ha
      intro k h1 h2
      rcases pd_d_01 a k with e | e
      · exact e
      · have := pd_out_z.mp ho k e
        have := pd_d_ge hmask h1
        omega
    have hxn := inm _ hx o1
    have hzn := inm _ hz o2
    have com : ∀ q, q < 5 → pd_cl (X (5 + q)) (Z (5 + q)) (c / 32) (c % 32) = 0 := by
      intro q hq
      rcases pd_cl_01 (X (5 + q)) (Z (5 + q)) (c / 32) (c % 32) with k | k
      · exact k
      · have r := hSt.2.2.2.1 q hq
        unfold pd_Rw at r
        rw [z0] at r
        exact absurd (pd_E_cl (bd q hq).1 hx r k) hE
    have le1 : ∀ q, pd_cl (X q) (Z q) (c / 32) (c % 32) ≤ 1 := fun q => pd_le1 (pd_cl_lt _ _ _ _)
    have dg : ∀ i, pd_d (pd_xs (fun q => pd_cl (X q) (Z q) (c / 32) (c % 32) * 2 ^ q) n) i = if i < n then pd_cl (X i) (Z i) (c / 32) (c % 32) else 0 := fun i => pd_xs_dig le1 n i
    refine ⟨pd_xs (fun q => pd_cl (X q) (Z q) (c / 32) (c % 32) * 2 ^ q) n, pd_xs_lt (fun k hk => pd_dpow_lt (le1 k) hk), ?_⟩
    have eq := pd_nd2 (pd_St_b hSt) hSt.2.1 (gx (pd_xs (fun q => pd_cl (X q) (Z q) (c / 32) (c % 32) * 2 ^ q) n)) (gz (pd_xs (fun q => pd_cl (X q) (Z q) (c / 32) (c % 32) * 2 ^ q) n)) hx hz (fun i hi => by
      rw [z0]
      by_cases c5 : i < 5
      · rw [clP _ i c5, dg i]
        by_cases cn : i < n
        · rw [if_pos cn, if_pos cn]
        · have := (pd_St_hi hSt hxn hzn (q := i) (by omega) c5).1
          rw [z0] at this
          rw [if_neg cn, this]
      · obtain ⟨k, rfl⟩ : ∃ k, i = 5 + k := ⟨i - 5, by omega⟩
        rw [clS _ k (by omega), com k (by omega)])
    refine ⟨by rw [eq.1, eq.2]; omega, ?_⟩
    rw [← outG, eq.1, eq.2, o1, o2]
  · intro ⟨m, hm, e, hz0⟩
    have a1 := gx m; have a2 := gz m
    have ex : c / 32 = pd_xs (fun q => pd_d m q * X (5 + q)) n := by omega
    have ez : c % 32 = pd_xs (fun q => pd_d m q * Z (5 + q)) n := by omega
    rw [← outG, ← ex, ← ez] at hz0
    refine ⟨⟨by omega, by omega⟩, ?_⟩
    rw [ex, ez]
    obtain ⟨p, hp⟩ := pd_St_in hSt a1 a2 (fun q hq => by rw [z0]; exact clS m q hq)
    have hs := pd_Fx_sign hSt.2.2.1 hp a1
    have E := pd_E_fx (by omega) hs
    have pos := pd_nrm_pos hSt.2.2.1
    rw [E]
    split <;> omega
theorem i_vc_knows {k : Nat} {u : SX} {v : SY} (I : i_Rel k u v) (hk : k + 4 ≤ 2049) (v1 : Int32) : wpX_knows (fun r u' => wpY_knows (fun r' => r' = r ∧ i_Rel (k + 4) u' v) v v1) u v1 := by
  refine zz_el (P := fun u v => wpX_knows (fun r u' => wpY_knows (fun r' => r' = r ∧ i_Rel (k + 4) u' v) v v1) u v1) I ?_
  intro n r X Z S qx qz bs A N B kp g1 g2 g3 g4 g5 g6 h1 h2 h3 h4 h5 h6 h7 i1 i2
  have hn := i1.1.2
  have h32 := px_2n hn
  unfold wpX_knows
  dsimp only
  by_cases c : ∃ m, m < 2 ^ n ∧ v1 = nI m
  · obtain ⟨mask, hm, rfl⟩ := c
    refine px_isMask_t hn hm (br_f (by decide) ⟨n + 1, ?_⟩)
    obtain ⟨eq, rfl⟩ := px_fun h5
    refine px_knows14 hn i1.2.1 (by omega) (fun rank eq' hr hK => ?_) n 0 (by omega) 0 eq (fun _ => 0) (by omega) ⟨fun j hj => absurd hj (Nat.not_lt_zero j), fun i j _ hj => absurd hj (Nat.not_lt_zero j)⟩ (fun w => ?_) (fun w hw => ?_)
    · unfold wpY_knows
      dsimp only
      refine py_isMask_t hn hm (br_f (by decide) ⟨1025, ?_⟩)
      refine py_knows14 (by omega) (fun j hj => pd_Un_bd (i1.2.2.2.2.1 j hj)) ?_ 1024 0 rfl
      rw [pd_knows_cnt hn i1.2.2.1 hm hK]
      exact ⟨rfl, zz_in i1 i2⟩
    · constructor
      · intro ⟨m, hm2, e⟩; exact ⟨m, hm2, e⟩
      · intro ⟨m, hm2, e⟩; exact ⟨m, hm2, e⟩
    · obtain ⟨m, hm2, e⟩ := hw
      have e : w = 0 := e
      subst e
      show 0 + pd_in (0 = 0) = 1
      rw [pd_in_t rfl]
  · refine px_isMask_f hn c (br_t rfl ?_)
    unfold wpY_knows
    dsimp only
    exact py_isMask_f hn c (br_t rfl ⟨rfl, zz_in i1 i2⟩)
end
section
/-- what the products of the first m cells add to a syndrome; how many cells they touch; what they cost -/
def pd_sig (ax az : Nat → Nat) (m x z : Nat) : Nat := pd_xs (fun q => (pd_d x q * ax q) ^^^ (pd_d z q * az q)) m
def pd_wt (x z m : Nat) : Nat := pd_sm (fun q => pd_d x q + pd_d z q - pd_d x q * pd_d z q) m
def pd_val (m x z : Nat) : Nat := 2048 * pd_wt x z m + (32 * x + z)
theorem pd_wt_le (x z : Nat) : ∀ m, pd_wt x z m ≤ m := by
  intro m
  apply pd_sm_le
  intro k _
  rcases pd_d_01 x k with a | a <;> rcases pd_d_01 z k with b | b <;> rw [a, b] <;> decide
theorem pd_val_le {m x z : Nat} (hm : m ≤ 5) (hx : x < 32) (hz : z < 32) : pd_val m x z ≤ 11263 := by
  have := pd_wt_le x z m
  unfold pd_val
  omega
theorem pd_sig_mod (ax az : Nat → Nat) (m x z : Nat) : pd_sig ax az m (x % 2 ^ m) (z % 2 ^ m) = pd_sig ax az m x z :=
  pd_xs_cg (fun k hk => by rw [pd_d_mod hk, pd_d_mod hk])
theorem pd_wt_mod (m x z : Nat) : pd_wt (x % 2 ^ m) (z % 2 ^ m) m = pd_wt x z m :=
  pd_sm_cg (fun k hk => by rw [pd_d_mod hk, pd_d_mod hk])
theorem pd_mod_step {x m : Nat} (hx : x < 2 ^ (m + 1)) : x = x % 2 ^ m + pd_d x m * 2 ^ m := by
  have h := Nat.div_add_mod x (2 ^ m)
  have hp : 2 ^ (m + 1) = 2 ^ m * 2 := Nat.pow_succ 2 m
  have lt : x / 2 ^ m < 2 := Nat.div_lt_of_lt_mul (by omega)
  have e : pd_d x m = x / 2 ^ m := by rw [pd_d_def, Nat.mod_eq_of_lt lt]
  rw [e, Nat.mul_comm (x / 2 ^ m)]
  omega
theorem pd_add_dig {x e m : Nat} (hx : x < 2 ^ m) (he : e ≤ 1) : x + e * 2 ^ m < 2 ^ (m + 1) ∧ (x + e * 2 ^ m) % 2 ^ m = x ∧ pd_d (x + e * 2 ^ m) m = e := by
  have hp : 2 ^ (m + 1) = 2 ^ m * 2 := Nat.pow_succ 2 m
  have e01 : e = 0 ∨ e = 1 := by omega
  refine ⟨?_, ?_, ?_⟩
  · rcases e01 with rfl | rfl <;> omega
  · rw [Nat.add_mul_mod_self_right, Nat.mod_eq_of_lt hx]
  · rw [pd_d_def, Nat.add_mul_div_right _ _ (Nat.two_pow_pos m), Nat.div_eq_of_lt hx, Nat.zero_add, Nat.mod_eq_of_lt (by omega)]
/-- least costs of the products of the first m cells, by what they add -/
def pd_Co (ax az cost : Nat → Nat) (R m : Nat) : Prop :=
  ∀ t, t < 2 ^ R → (∀ x z, x < 2 ^ m → z < 2 ^ m → pd_sig ax az m x z = t → cost t ≤ pd_val m x z) ∧ (cost t = 1000000 ∨ ∃ x z, x < 2 ^ m ∧ z < 2 ^ m ∧ pd_sig ax az m x z = t ∧ cost t = pd_val m x z)
theorem pd_Co_b {ax az cost : Nat → Nat} {R m t : Nat} (h : pd_Co ax az cost R m) (hm : m ≤ 5) (ht : t < 2 ^ R) : cost t ≤ 1000000 := by
  rcases (h t ht).2 with e | ⟨x, z, hx, hz, _, e⟩
  · omega
  · have h32 := px_2n hm
    have := pd_val_le (m := m) (x := x) (z := z) hm (by omega) (by omega)
    omega
/-- with one cell more: letter l -/
def pd_vl (ax az cost : Nat → Nat) (m t l : Nat) : Nat := cost ((t ^^^ (l % 2 * ax m)) ^^^ (l / 2 * az m)) + 2048 + 32 * (l % 2) * 2 ^ m + l / 2 * 2 ^ m
def pd_mn (a b : Nat) : Nat := if b < a then b else a
def pd_bst (ax az cost : Nat → Nat) (m t : Nat) : Nat → Nat
  | 0 => cost t
  | l + 1 => pd_mn (pd_bst ax az cost m t l) (pd_vl ax az cost m t (l + 1))
theorem pd_mn_le (a b : Nat) : pd_mn a b ≤ a ∧ pd_mn a b ≤ b := by unfold pd_mn; split <;> omega
theorem pd_bst_le {ax az cost : Nat → Nat} {m t : Nat} : ∀ k, pd_bst ax az cost m t k ≤ cost t ∧ ∀ l, 1 ≤ l → l ≤ k → pd_bst ax az cost m t k ≤ pd_vl ax az cost m t l := by
  intro k
  induction k with
  | zero => exact ⟨Nat.le_refl _, fun l h1 h2 => by omega⟩
  | succ k ih =>
    have a := pd_mn_le (pd_bst ax az cost m t k) (pd_vl ax az cost m t (k + 1))
    refine ⟨Nat.le_trans a.1 ih.1, fun l h1 h2 => ?_⟩
    by_cases e : l = k + 1
    · rw [e]; exact a.2
    · exact Nat.le_trans a.1 (ih.2 l h1 (by omega))
theorem pd_bst_at {ax az cost : Nat → Nat} {m t : Nat} : ∀ k, pd_bst ax az cost m t k = cost t ∨ ∃ l, 1 ≤ l ∧ l ≤ k ∧ pd_bst ax az cost m t k = pd_vl ax az cost m t l ∧ pd_vl ax az cost m t l < cost t := by
  intro k
  induction k with
  | zero => exact Or.inl rfl
  | succ k ih =>
    show pd_mn (pd_bst ax az cost m t k) (pd_vl ax az cost m t (k + 1)) = _ ∨ _
    have d : pd_bst ax az cost m t (k + 1) = pd_mn (pd_bst ax az cost m t k) (pd_vl ax az cost m t (k + 1)) := rfl
    by_cases c : pd_vl ax az cost m t (k + 1) < pd_bst ax az cost m t k
    · right
      refine ⟨k + 1, by omega, by omega, ?_, Nat.lt_of_lt_of_le c (pd_bst_le k).1⟩
      rw [d]; exact if_pos c
    · have e : pd_mn (pd_bst ax az cost m t k) (pd_vl ax az cost m t (k + 1)) = pd_bst ax az cost m t k := if_neg c
      rw [d, e]
      rcases ih with h | ⟨l, h1, h2, h3, h4⟩
      · exact Or.inl h
      · exact Or.inr ⟨l, h1, by omega, h3, h4⟩
theorem pd_mulx {e a R : Nat} (he : e ≤ 1) (ha : a < 2 ^ R) : e * a < 2 ^ R := by
  have p := Nat.two_pow_pos R
  have : e = 0 ∨ e = 1 := by omega
  rcases this with rfl | rfl <;> omega
theorem pd_Co_s {ax az cost cost' : Nat → Nat} {R m : Nat} (h : pd_Co ax az cost R m) (hm : m < 5) (hax : ax m < 2 ^ R) (haz : az m < 2 ^ R) (hc : ∀ t, t < 2 ^ R → cost' t = pd_bst ax az cost m t 3) : pd_Co ax az cost' R (m + 1) := by
  have h32 := px_2n (show m + 1 ≤ 5 by omega)
  have hp : 2 ^ (m + 1) = 2 ^ m * 2 := Nat.pow_succ 2 m
  intro t ht
  rw [hc t ht]
  have sg : ∀ x z, pd_sig ax az (m + 1) x z = pd_sig ax az m x z ^^^ ((pd_d x m * ax m) ^^^ (pd_d z m * az m)) := fun x z => rfl
  have wg : ∀ x z, pd_wt x z (m + 1) = pd_wt x z m + (pd_d x m + pd_d z m - pd_d x m * pd_d z m) := fun x z => rfl
  constructor
  · intro x z hx hz hs
    have ex := pd_mod_step hx
    have ez := pd_mod_step hz
    have dx := pd_d_le x m; have dz := pd_d_le z m
    have before : pd_sig ax az m (x % 2 ^ m) (z % 2 ^ m) = (t ^^^ (pd_d x m * ax m)) ^^^ (pd_d z m * az m) := by
      rw [pd_sig_mod, ← hs, sg, Nat.xor_assoc (pd_sig ax az m x z ^^^ (pd_d x m * ax m ^^^ pd_d z m * az m)), pd_xx]
    have lt : (t ^^^ (pd_d x m * ax m)) ^^^ (pd_d z m * az m) < 2 ^ R := pd_xor_lt (pd_xor_lt ht (pd_mulx dx hax)) (pd_mulx dz haz)
    have low := (h _ lt).1 (x % 2 ^ m) (z % 2 ^ m) (Nat.mod_lt _ (Nat.two_pow_pos m)) (Nat.mod_lt _ (Nat.two_pow_pos m)) before
    unfold pd_val at low ⊢
    rw [pd_wt_mod] at low
    rw [wg]
    by_cases l0 : pd_d x m + 2 * pd_d z m = 0
    · have x0 : pd_d x m = 0 := by omega
      have z0 : pd_d z m = 0 := by omega
      have b := (pd_bst_le (ax := ax) (az := az) (cost := cost) (m := m) (t := t) 3).1
      rw [x0, z0, Nat.zero_mul, Nat.zero_mul, Nat.xor_zero, Nat.xor_zero] at low
      rw [x0, Nat.zero_mul] at ex
      rw [z0, Nat.zero_mul] at ez
      rw [x0, z0]
      omega
    · have b := (pd_bst_le (ax := ax) (az := az) (cost := cost) (m := m) (t := t) 3).2 (pd_d x m + 2 * pd_d z m) (by omega) (by omega)
      unfold pd_vl at b
      have k1 : (pd_d x m + 2 * pd_d z m) % 2 = pd_d x m := by omega
      have k2 : (pd_d x m + 2 * pd_d z m) / 2 = pd_d z m := by omega
      rw [k1, k2] at b
      have w1 : pd_d x m + pd_d z m - pd_d x m * pd_d z m = 1 := by
        rcases pd_d_01 x m with a | a <;> rcases pd_d_01 z m with c | c <;> rw [a, c] at l0 ⊢
        · omega
      have m32 : 32 * pd_d x m * 2 ^ m = 32 * (pd_d x m * 2 ^ m) := Nat.mul_assoc _ _ _
      omega
  · rcases pd_bst_at (ax := ax) (az := az) (cost := cost) (m := m) (t := t) 3 with e | ⟨l, h1, h2, e, hlt⟩
    · rw [e]
      rcases (h t ht).2 with k | ⟨x, z, hx, hz, hs, hv⟩
      · exact Or.inl k
      · refine Or.inr ⟨x, z, by omega, by omega, ?_, ?_⟩
        · rw [sg, pd_d_lt hx, pd_d_lt hz, Nat.zero_mul, Nat.zero_mul, Nat.xor_zero, Nat.xor_zero]; exact hs
        · rw [hv]; unfold pd_val; rw [wg, pd_d_lt hx, pd_d_lt hz]; omega
    · have le2 : l / 2 ≤ 1 := by omega
      have le1 : l % 2 ≤ 1 := by omega
      have lt : (t ^^^ (l % 2 * ax m)) ^^^ (l / 2 * az m) < 2 ^ R := pd_xor_lt (pd_xor_lt ht (pd_mulx le1 hax)) (pd_mulx le2 haz)
      have tb := pd_Co_b h (by omega) ht
      rcases (h _ lt).2 with k | ⟨x, z, hx, hz, hs, hv⟩
      · unfold pd_vl at hlt
        rw [k] at hlt
        omega
      · obtain ⟨a1, a2, a3⟩ := pd_add_dig hx le1
        obtain ⟨b1, b2, b3⟩ := pd_add_dig hz le2
        refine Or.inr ⟨x + l % 2 * 2 ^ m, z + l / 2 * 2 ^ m, a1, b1, ?_, ?_⟩
        · rw [sg, ← pd_sig_mod, a2, b2, hs, a3, b3, ← Nat.xor_assoc, pd_xr _ (l / 2 * az m), pd_xx, pd_xx]
        · rw [e]
          unfold pd_vl pd_val
          have w1 : l % 2 + l / 2 - l % 2 * (l / 2) = 1 := by
            have : l = 1 ∨ l = 2 ∨ l = 3 := by omega
            rcases this with rfl | rfl | rfl <;> rfl
          rw [wg, ← pd_wt_mod, a2, b2, a3, b3, w1, hv]
          unfold pd_val
          have m32 : 32 * (l % 2) * 2 ^ m = 32 * (l % 2 * 2 ^ m) := Nat.mul_assoc _ _ _
          omega
theorem pd_Co_0 {ax az cost : Nat → Nat} {R : Nat} (h : ∀ t, t < 2 ^ R → cost t = if t = 0 then 0 else 1000000) : pd_Co ax az cost R 0 := by
  intro t ht
  rw [h t ht]
  constructor
  · intro x z hx hz hs
    have e : (0 : Nat) = t := hs
    rw [if_pos e.symm]; exact Nat.zero_le _
  · by_cases e : t = 0
    · refine Or.inr ⟨0, 0, by decide, by decide, e.symm, ?_⟩
      rw [if_pos e]; rfl
    · rw [if_neg e]; exact Or.inl rfl
section
variable {f_gatheredX f_gatheredZ f_gatheredPower f_rules f_solutions : Int32} {a_kept a_ruleX a_ruleZ a_basis a_cost a_nextCost a_addsX a_addsZ a_equation a_leading a_solution : Nat → Int32} {n : Nat} {X Z S : Nat → Nat}
theorem px_cell70 {post : SX → Prop} {J2 : Int32 → (Nat → Int32) → (Nat → Int32) → (Nat → Int32) → (Nat → Int32) → (Nat → Int32) → (Nat → Int32) → (Nat → Int32) → (Nat → Int32) → (Nat → Int32) → (Nat → Int32) → (Nat → Int32) → (Nat → Int32) → (Nat → Int32) → (Nat → Int32) → Prop} {J18 : Int32 → Int32 → Prop}
    {x2 : Int32} {m t l b c1 c2 : Nat} {cost : Nat → Nat} (hm : m < 5) (hl : l < 4) (hc1 : c1 < 1024) (hc2 : c2 < 1024) (hco1 : cost (c1 ^^^ c2) ≤ 1000000) (hb : b ≤ 1000000)
    (h : J18 (nI (pd_mn b (cost (c1 ^^^ c2) + 2048 + 32 * (l % 2) * 2 ^ m + l / 2 * 2 ^ m))) (nI (l + 1))) :
    wX_addCell_70 post J2 J18 (nI m) x2 (nI t) (nI b) (nI l) (nI (l % 2)) (nI (l / 2)) (nI c2) (nI c1) (nI n) f_gatheredX f_gatheredZ f_gatheredPower f_rules f_solutions (fun jj => nI (X jj)) (fun jj => nI (Z jj)) (fun jj => nI (S jj)) a_kept a_ruleX a_ruleZ a_basis (fun jj => nI (cost jj)) a_nextCost a_addsX a_addsZ a_equation a_leading a_solution := by
  have lx := pd_xor1024 hc1 hc2
  have p32 := pd_pow32 hm
  unfold wX_addCell_70
  refine nm_r (nx_xor c1 c2) ⟨vp_in_nI lx (by decide), ?_⟩
  rw [nI_clamp (n := c1 ^^^ c2) (by omega)]
  have l1 : l % 2 ≤ 1 := by omega
  have l2 : l / 2 ≤ 1 := by omega
  have q1 : l % 2 * 2 ^ m < 32 := pd_dp32 l1 hm
  have q2 : l / 2 * 2 ^ m < 32 := pd_dp32 l2 hm
  have m32 : 32 * (l % 2) * 2 ^ m = 32 * (l % 2 * 2 ^ m) := Nat.mul_assoc _ _ _
  have e : nI (cost (c1 ^^^ c2)) + 2048 + ((32 : Int32) * nI (l % 2)) <<< (nI m &&& 31) + nI (l / 2) <<< (nI m &&& 31) = nI (cost (c1 ^^^ c2) + 2048 + 32 * (l % 2) * 2 ^ m + l / 2 * 2 ^ m) := by
    have e1 : (32 : Int32) * nI (l % 2) = nI (32 * (l % 2)) := pk_mul 32 _
    rw [e1, px_shl (by omega) (by omega), px_shl (by omega) (by omega)]
    show nI _ + nI 2048 + nI _ + nI _ = _
    rw [nI_add, nI_add, nI_add]
  refine nm_r e ?_
  refine pk_le b (cost (c1 ^^^ c2) + 2048 + 32 * (l % 2) * 2 ^ m + l / 2 * 2 ^ m) (fun c => ?_) (fun c => ?_)
  · unfold pd_mn at h
    rw [if_neg (by omega)] at h
    exact nm_r (nI_1 l) h
  · unfold pd_mn at h
    rw [if_pos c] at h
    exact nm_r (nI_1 l) h
theorem px_cell18 {post : SX → Prop} {J2 : Int32 → (Nat → Int32) → (Nat → Int32) → (Nat → Int32) → (Nat → Int32) → (Nat → Int32) → (Nat → Int32) → (Nat → Int32) → (Nat → Int32) → (Nat → Int32) → (Nat → Int32) → (Nat → Int32) → (Nat → Int32) → (Nat → Int32) → (Nat → Int32) → Prop}
    {x2 : Int32} {m t R : Nat} {cost next ax az : Nat → Nat} (hR : R ≤ 10) (hm : m < 5) (ht : t < 2 ^ R) (hax : ax m < 2 ^ R) (haz : az m < 2 ^ R) (hco : ∀ j, j < 2 ^ R → cost j ≤ 1000000)
    (h : J2 (nI (t + 1)) (fun jj => nI (X jj)) (fun jj => nI (Z jj)) (fun jj => nI (S jj)) a_kept a_ruleX a_ruleZ a_basis (fun jj => nI (cost jj)) (fun jj => nI (pd_u next t (pd_bst ax az cost m t 3) jj)) (fun jj => nI (ax jj)) (fun jj => nI (az jj)) a_equation a_leading a_solution) :
    ∀ f l, l + f = 3 → wX_addCell_18 post J2 (nI m) x2 (nI t) (nI n) f_gatheredX f_gatheredZ f_gatheredPower f_rules f_solutions (fun jj => nI (X jj)) (fun jj => nI (Z jj)) (fun jj => nI (S jj)) a_kept a_ruleX a_ruleZ a_basis (fun jj => nI (cost jj)) (fun jj => nI (next jj)) (fun jj => nI (ax jj)) (fun jj => nI (az jj)) a_equation a_leading a_solution (f + 1) (nI (pd_bst ax az cost m t l)) (nI (l + 1)) := by
  have hR2 : 2 ^ R ≤ 1024 := show 2 ^ R ≤ 2 ^ 10 from Nat.pow_le_pow_right (by decide) hR
  have ht2 : t < 1024 := by omega
  have hi5 : vp_in (nI m) 5 := vp_in_nI hm (by decide)
  have em : (nI m).toNatClampNeg = m := nI_clamp (by omega)
  intro f
  induction f with
  | zero =>
    intro l hl
    have e : l = 3 := by omega
    subst e
    refine br_t (show (4 : Int32) ≤ nI (3 + 1) by decide) ⟨vp_in_nI ht2 (by decide), ?_⟩
    rw [nI_clamp (n := t) (by omega)]
    exact nm_r (px_upk next t rfl) (nm_r (nI_1 t) h)
  | succ f ih =>
    intro l hl
    refine br_f (nI_ge (b := 4) (by omega) (by decide)) ?_
    have e1 : nI (l + 1) &&& 1 = nI ((l + 1) % 2) := pk_andN (m := 1) (by omega) 1 (by decide)
    have e2 : nI (l + 1) >>> ((1 : Int32) &&& 31) = nI ((l + 1) / 2) := pk_shrN (by omega) _ 1 (by decide)
    refine nm_r e1 (nm_r e2 ?_)
    have nx := ih (l + 1) (by omega)
    have bb : pd_bst ax az cost m t l ≤ 1000000 := Nat.le_trans (pd_bst_le l).1 (hco t ht)
    have d : pd_bst ax az cost m t (l + 1) = pd_mn (pd_bst ax az cost m t l) (pd_vl ax az cost m t (l + 1)) := rfl
    unfold pd_vl at d
    rw [d] at nx
    have fin : ∀ c1 c2 : Nat, c1 = t ^^^ ((l + 1) % 2 * ax m) → c2 = (l + 1) / 2 * az m →
        wX_addCell_70 post J2 (wX_addCell_18 post J2 (nI m) x2 (nI t) (nI n) f_gatheredX f_gatheredZ f_gatheredPower f_rules f_solutions (fun jj => nI (X jj)) (fun jj => nI (Z jj)) (fun jj => nI (S jj)) a_kept a_ruleX a_ruleZ a_basis (fun jj => nI (cost jj)) (fun jj => nI (next jj)) (fun jj => nI (ax jj)) (fun jj => nI (az jj)) a_equation a_leading a_solution (f + 1)) (nI m) x2 (nI t) (nI (pd_bst ax az cost m t l)) (nI (l + 1)) (nI ((l + 1) % 2)) (nI ((l + 1) / 2)) (nI c2) (nI c1) (nI n) f_gatheredX f_gatheredZ f_gatheredPower f_rules f_solutions (fun jj => nI (X jj)) (fun jj => nI (Z jj)) (fun jj => nI (S jj)) a_kept a_ruleX a_ruleZ a_basis (fun jj => nI (cost jj)) (fun jj => nI (next jj)) (fun jj => nI (ax jj)) (fun jj => nI (az jj)) a_equation a_leading a_solution := by
      intro c1 c2 h1 h2
      subst h1 h2
      have k1 : t ^^^ ((l + 1) % 2 * ax m) < 2 ^ R := pd_xor_lt ht (pd_mulx (by omega) hax)
      have k2 : (l + 1) / 2 * az m < 2 ^ R := pd_mulx (by omega) haz
      exact px_cell70 hm (by omega) (by omega) (by omega) (hco _ (pd_xor_lt k1 k2)) bb nx
    have mid : ∀ c1 : Nat, c1 = (l + 1) % 2 * ax m →
        wX_addCell_53 post J2 (wX_addCell_18 post J2 (nI m) x2 (nI t) (nI n) f_gatheredX f_gatheredZ f_gatheredPower f_rules f_solutions (fun jj => nI (X jj)) (fun jj => nI (Z jj)) (fun jj => nI (S jj)) a_kept a_ruleX a_ruleZ a_basis (fun jj => nI (cost jj)) (fun jj => nI (next jj)) (fun jj => nI (ax jj)) (fun jj => nI (az jj)) a_equation a_leading a_solution (f + 1)) (nI m) x2 (nI t) (nI (pd_bst ax az cost m t l)) (nI (l + 1)) (nI ((l + 1) % 2)) (nI ((l + 1) / 2)) (nI c1) (nI t) (nI n) f_gatheredX f_gatheredZ f_gatheredPower f_rules f_solutions (fun jj => nI (X jj)) (fun jj => nI (Z jj)) (fun jj => nI (S jj)) a_kept a_ruleX a_ruleZ a_basis (fun jj => nI (cost jj)) (fun jj => nI (next jj)) (fun jj => nI (ax jj)) (fun jj => nI (az jj)) a_equation a_leading a_solution := by
      intro c1 h1
      unfold wX_addCell_53
      rw [nx_xor, em]
      have z01 : (l + 1) / 2 = 0 ∨ (l + 1) / 2 = 1 := by omega
      rcases z01 with z | z
      · refine br_f (by rw [z]; decide) ?_
        exact fin _ 0 (by rw [h1]) (by rw [z, Nat.zero_mul])
      · refine br_t (by rw [z]; rfl) ⟨hi5, ?_⟩
        exact fin _ (az m) (by rw [h1]) (by rw [z, Nat.one_mul])
    have x01 : (l + 1) % 2 = 0 ∨ (l + 1) % 2 = 1 := by omega
    rw [em]
    rcases x01 with x | x
    · refine br_f (by rw [x]; decide) ?_
      exact mid 0 (by rw [x, Nat.zero_mul])
    · refine br_t (by rw [x]; rfl) ⟨hi5, ?_⟩
      exact mid (ax m) (by rw [x, Nat.one_mul])
theorem px_cell137 {post : SX → Prop} {R : Nat} {next : Nat → Nat} (hR : R ≤ 10)
    (h : ∀ cost' : Nat → Nat, (∀ t, t < 2 ^ R → cost' t = next t) → post ((nI n), f_gatheredX, f_gatheredZ, f_gatheredPower, f_rules, f_solutions, (fun jj => nI (X jj)), (fun jj => nI (Z jj)), (fun jj => nI (S jj)), a_kept, a_ruleX, a_ruleZ, a_basis, (fun jj => nI (cost' jj)), (fun jj => nI (next jj)), a_addsX, a_addsZ, a_equation, a_leading, a_solution)) :
    ∀ f t, t + f = 2 ^ R → ∀ cost : Nat → Nat, (∀ j, j < t → cost j = next j) → wX_addCell_137 post (nI (2 ^ R)) (nI n) f_gatheredX f_gatheredZ f_gatheredPower f_rules f_solutions (f + 1) (nI t) (fun jj => nI (X jj)) (fun jj => nI (Z jj)) (fun jj => nI (S jj)) a_kept a_ruleX a_ruleZ a_basis (fun jj => nI (cost jj)) (fun jj => nI (next jj)) a_addsX a_addsZ a_equation a_leading a_solution := by
  have hR2 : 2 ^ R ≤ 1024 := show 2 ^ R ≤ 2 ^ 10 from Nat.pow_le_pow_right (by decide) hR
  intro f
  induction f with
  | zero =>
    intro t ht cost hc
    refine br_t (nI_le (by omega) (by omega)) (h cost (fun j hj => hc j (by omega)))
  | succ f ih =>
    intro t ht cost hc
    refine br_f (nI_ge (by omega) (by omega)) ?_
    have hi : vp_in (nI t) 1024 := vp_in_nI (by omega) (by decide)
    rw [nI_clamp (n := t) (by omega)]
    refine ⟨hi, hi, nm_r (px_upk cost t rfl) (nm_r (nI_1 t) (ih (t + 1) (by omega) _ (fun j hj => ?_)))⟩
    by_cases e : j = t
    · rw [e, pd_u_s]
    · rw [pd_u_n e]; exact hc j (by omega)
theorem px_cell2 {post : SX → Prop} {m R : Nat} {cost ax az : Nat → Nat} (hR : R ≤ 10) (hm : m < 5) (hax : ax m < 2 ^ R) (haz : az m < 2 ^ R) (hco : ∀ j, j < 2 ^ R → cost j ≤ 1000000)
    (h : ∀ cost' next' : Nat → Nat, (∀ t, t < 2 ^ R → cost' t = pd_bst ax az cost m t 3) → post ((nI n), f_gatheredX, f_gatheredZ, f_gatheredPower, f_rules, f_solutions, (fun jj => nI (X jj)), (fun jj => nI (Z jj)), (fun jj => nI (S jj)), a_kept, a_ruleX, a_ruleZ, a_basis, (fun jj => nI (cost' jj)), (fun jj => nI (next' jj)), (fun jj => nI (ax jj)), (fun jj => nI (az jj)), a_equation, a_leading, a_solution)) :
    ∀ f t, t + f = 2 ^ R → ∀ next : Nat → Nat, (∀ j, j < t → next j = pd_bst ax az cost m j 3) →
      wX_addCell_2 post (nI m) (nI (2 ^ R)) (nI n) f_gatheredX f_gatheredZ f_gatheredPower f_rules f_solutions (f + 1) (nI t) (fun jj => nI (X jj)) (fun jj => nI (Z jj)) (fun jj => nI (S jj)) a_kept a_ruleX a_ruleZ a_basis (fun jj => nI (cost jj)) (fun jj => nI (next jj)) (fun jj => nI (ax jj)) (fun jj => nI (az jj)) a_equation a_leading a_solution := by
  have hR2 : 2 ^ R ≤ 1024 := show 2 ^ R ≤ 2 ^ 10 from Nat.pow_le_pow_right (by decide) hR
  intro f
  induction f with
  | zero =>
    intro t ht next hx
    refine br_t (nI_le (by omega) (by omega)) ⟨2 ^ R + 1, ?_⟩
    exact px_cell137 hR (fun cost' hc => h cost' next (fun j hj => (hc j hj).trans (hx j (by omega)))) (2 ^ R) 0 (by omega) cost (fun j hj => absurd hj (Nat.not_lt_zero j))
  | succ f ih =>
    intro t ht next hx
    have hi : vp_in (nI t) 1024 := vp_in_nI (by omega) (by decide)
    refine br_f (nI_ge (by omega) (by omega)) ⟨hi, ?_⟩
    rw [nI_clamp (n := t) (by omega)]
    refine nm_e ⟨4, px_cell18 (R := R) hR hm (by omega) hax haz hco (ih (t + 1) (by omega) _ (fun j hj => ?_)) 3 0 rfl⟩
    by_cases e : j = t
    · rw [e, pd_u_s]
    · rw [pd_u_n e]; exact hx j (by omega)
theorem px_addCell {post : SX → Prop} {m R : Nat} {cost next ax az : Nat → Nat} (hR : R ≤ 10) (hm : m < 5) (hax : ax m < 2 ^ R) (haz : az m < 2 ^ R) (hco : ∀ j, j < 2 ^ R → cost j ≤ 1000000)
    (h : ∀ cost' next' : Nat → Nat, (∀ t, t < 2 ^ R → cost' t = pd_bst ax az cost m t 3) → post ((nI n), f_gatheredX, f_gatheredZ, f_gatheredPower, f_rules, f_solutions, (fun jj => nI (X jj)), (fun jj => nI (Z jj)), (fun jj => nI (S jj)), a_kept, a_ruleX, a_ruleZ, a_basis, (fun jj => nI (cost' jj)), (fun jj => nI (next' jj)), (fun jj => nI (ax jj)), (fun jj => nI (az jj)), a_equation, a_leading, a_solution)) :
    wpX_addCell post ((nI n), f_gatheredX, f_gatheredZ, f_gatheredPower, f_rules, f_solutions, (fun jj => nI (X jj)), (fun jj => nI (Z jj)), (fun jj => nI (S jj)), a_kept, a_ruleX, a_ruleZ, a_basis, (fun jj => nI (cost jj)), (fun jj => nI (next jj)), (fun jj => nI (ax jj)), (fun jj => nI (az jj)), a_equation, a_leading, a_solution) (nI m) (nI (2 ^ R)) :=
  ⟨2 ^ R + 1, px_cell2 hR hm hax haz hco h (2 ^ R) 0 (by omega) next (fun j hj => absurd hj (Nat.not_lt_zero j))⟩
theorem px_costs35 {post : SX → Prop} {R : Nat} {ax az : Nat → Nat} (hn : n ≤ 5) (hR : R ≤ 10) (hax : ∀ q, q < n → ax q < 2 ^ R) (haz : ∀ q, q < n → az q < 2 ^ R)
    (h : ∀ cost' next' : Nat → Nat, pd_Co ax az cost' R n → post ((nI n), f_gatheredX, f_gatheredZ, f_gatheredPower, f_rules, f_solutions, (fun jj => nI (X jj)), (fun jj => nI (Z jj)), (fun jj => nI (S jj)), a_kept, a_ruleX, a_ruleZ, a_basis, (fun jj => nI (cost' jj)), (fun jj => nI (next' jj)), (fun jj => nI (ax jj)), (fun jj => nI (az jj)), a_equation, a_leading, a_solution)) :
    ∀ f m, m + f = n → ∀ cost next : Nat → Nat, pd_Co ax az cost R m →
      wX_findCosts_35 post (nI (2 ^ R)) (f + 1) (nI m) (nI n) f_gatheredX f_gatheredZ f_gatheredPower f_rules f_solutions (fun jj => nI (X jj)) (fun jj => nI (Z jj)) (fun jj => nI (S jj)) a_kept a_ruleX a_ruleZ a_basis (fun jj => nI (cost jj)) (fun jj => nI (next jj)) (fun jj => nI (ax jj)) (fun jj => nI (az jj)) a_equation a_leading a_solution := by
  intro f
  induction f with
  | zero =>
    intro m hm cost next hC
    have e : m = n := by omega
    subst e
    exact br_t (nI_le (by omega) (by omega)) (h cost next hC)
  | succ f ih =>
    intro m hm cost next hC
    refine br_f (nI_ge (by omega) (by omega)) ?_
    refine px_addCell (R := R) hR (by omega) (hax m (by omega)) (haz m (by omega)) (fun j hj => pd_Co_b hC (by omega) hj) (fun cost' next' hc => ?_)
    exact nm_r (nI_1 m) (ih (m + 1) (by omega) cost' next' (pd_Co_s hC (by omega) (hax m (by omega)) (haz m (by omega)) hc))
theorem px_costs6 {post : SX → Prop} {R : Nat} {ax az next : Nat → Nat} (hn : n ≤ 5) (hR : R ≤ 10) (hax : ∀ q, q < n → ax q < 2 ^ R) (haz : ∀ q, q < n → az q < 2 ^ R)
    (h : ∀ cost' next' : Nat → Nat, pd_Co ax az cost' R n → post ((nI n), f_gatheredX, f_gatheredZ, f_gatheredPower, f_rules, f_solutions, (fun jj => nI (X jj)), (fun jj => nI (Z jj)), (fun jj => nI (S jj)), a_kept, a_ruleX, a_ruleZ, a_basis, (fun jj => nI (cost' jj)), (fun jj => nI (next' jj)), (fun jj => nI (ax jj)), (fun jj => nI (az jj)), a_equation, a_leading, a_solution)) :
    ∀ f t, t + f = 2 ^ R → ∀ cost : Nat → Nat, (∀ j, j < t → cost j = if j = 0 then 0 else 1000000) →
      wX_findCosts_6 post (nI (2 ^ R)) (nI n) f_gatheredX f_gatheredZ f_gatheredPower f_rules f_solutions (f + 1) (nI t) (fun jj => nI (X jj)) (fun jj => nI (Z jj)) (fun jj => nI (S jj)) a_kept a_ruleX a_ruleZ a_basis (fun jj => nI (cost jj)) (fun jj => nI (next jj)) (fun jj => nI (ax jj)) (fun jj => nI (az jj)) a_equation a_leading a_solution := by
  have hR2 : 2 ^ R ≤ 1024 := show 2 ^ R ≤ 2 ^ 10 from Nat.pow_le_pow_right (by decide) hR
  intro f
  induction f with
  | zero =>
    intro t ht cost hc
    refine br_t (nI_le (by omega) (by omega)) ⟨n + 1, ?_⟩
    exact px_costs35 hn hR hax haz h n 0 (by omega) cost next (pd_Co_0 (fun j hj => hc j (by omega)))
  | succ f ih =>
    intro t ht cost hc
    have hi : vp_in (nI t) 1024 := vp_in_nI (by omega) (by decide)
    refine br_f (nI_ge (by omega) (by omega)) ?_
    rw [nI_clamp (n := t) (by omega)]
    refine pk_eq t 0 (fun e => ⟨hi, nm_r (px_upk cost t (v := 0) rfl) (nm_r (nI_1 t) (ih (t + 1) (by omega) _ (fun j hj => ?_)))⟩) (fun e => ⟨hi, nm_r (px_upk cost t (v := 1000000) rfl) (nm_r (nI_1 t) (ih (t + 1) (by omega) _ (fun j hj => ?_)))⟩)
    · by_cases ej : j = t
      · rw [ej, pd_u_s, if_pos e]
      · rw [pd_u_n ej]; exact hc j (by omega)
    · by_cases ej : j = t
      · rw [ej, pd_u_s, if_neg e]
      · rw [pd_u_n ej]; exact hc j (by omega)
theorem px_findCosts {post : SX → Prop} {p0 : Int32} {R : Nat} {ax az : Nat → Nat} (e0 : p0 = nI R) (hn : n ≤ 5) (hR : R ≤ 10) (hax : ∀ q, q < n → ax q < 2 ^ R) (haz : ∀ q, q < n → az q < 2 ^ R)
    (h : ∀ cost' next' : Nat → Nat, pd_Co ax az cost' R n → post ((nI n), f_gatheredX, f_gatheredZ, f_gatheredPower, f_rules, f_solutions, (fun jj => nI (X jj)), (fun jj => nI (Z jj)), (fun jj => nI (S jj)), a_kept, a_ruleX, a_ruleZ, a_basis, (fun jj => nI (cost' jj)), (fun jj => nI (next' jj)), (fun jj => nI (ax jj)), (fun jj => nI (az jj)), a_equation, a_leading, a_solution)) :
    wpX_findCosts post ((nI n), f_gatheredX, f_gatheredZ, f_gatheredPower, f_rules, f_solutions, (fun jj => nI (X jj)), (fun jj => nI (Z jj)), (fun jj => nI (S jj)), a_kept, a_ruleX, a_ruleZ, a_basis, a_cost, a_nextCost, (fun jj => nI (ax jj)), (fun jj => nI (az jj)), a_equation, a_leading, a_solution) p0 := by
  subst e0
  obtain ⟨cost, rfl⟩ := px_fun a_cost
  obtain ⟨next, rfl⟩ := px_fun a_nextCost
  exact nm_r (px_pow (by omega)) ⟨2 ^ R + 1, px_costs6 hn hR hax haz h (2 ^ R) 0 (by omega) cost (fun j hj => absurd hj (Nat.not_lt_zero j))⟩
end
end
section
/-- what single products add, added up -/
theorem pd_sig_lin {L : Nat → Nat → Nat} (hL : ∀ x z x' z', L (x ^^^ x') (z ^^^ z') = L x z ^^^ L x' z') {ax az : Nat → Nat} {n : Nat} (hx : ∀ q, q < n → ax q = L (2 ^ q) 0) (hz : ∀ q, q < n → az q = L 0 (2 ^ q)) (x z : Nat) :
    ∀ m, m ≤ n → pd_sig ax az m x z = L (x % 2 ^ m) (z % 2 ^ m) := by
  have L0 : L 0 0 = 0 := by
    have := hL 0 0 0 0
    rw [Nat.xor_self, Nat.xor_self] at this
    exact this
  intro m
  induction m with
  | zero => intro _; rw [Nat.pow_zero, Nat.mod_one, Nat.mod_one, L0]; rfl
  | succ m ih =>
    intro hm
    show pd_sig ax az m x z ^^^ ((pd_d x m * ax m) ^^^ (pd_d z m * az m)) = _
    rw [ih (by omega), hx m (by omega), hz m (by omega)]
    have md : ∀ a, a % 2 ^ (m + 1) = a % 2 ^ m ^^^ (pd_d a m * 2 ^ m) := by
      intro a
      rcases pd_d_01 a m with d | d
      · rw [d, Nat.zero_mul, Nat.xor_zero]; exact pd_mod_f (by omega)
      · rw [d, Nat.one_mul]; exact pd_mod_t d
    have sp : L (pd_d x m * 2 ^ m) (pd_d z m * 2 ^ m) = (pd_d x m * L (2 ^ m) 0) ^^^ (pd_d z m * L 0 (2 ^ m)) := by
      have e := hL (pd_d x m * 2 ^ m) 0 0 (pd_d z m * 2 ^ m)
      rw [Nat.xor_zero, Nat.zero_xor] at e
      rw [e]
      congr 1
      · rcases pd_d_01 x m with d | d
        · rw [d, Nat.zero_mul, Nat.zero_mul, L0]
        · rw [d, Nat.one_mul, Nat.one_mul]
      · rcases pd_d_01 z m with d | d
        · rw [d, Nat.zero_mul, Nat.zero_mul, L0]
        · rw [d, Nat.one_mul, Nat.one_mul]
    rw [md x, md z, hL, sp]
theorem pd_sy_lin (qx qz : Nat → Nat) (r x z x' z' : Nat) : pd_sy qx qz r (x ^^^ x') (z ^^^ z') = pd_sy qx qz r x z ^^^ pd_sy qx qz r x' z' := by
  apply pd_d_ext
  intro k
  rw [pd_d_xor', pd_sy_d, pd_sy_d, pd_sy_d]
  by_cases c : k < r
  · rw [if_pos c, if_pos c, if_pos c, pd_cl_xor_r]
  · rw [if_neg c, if_neg c, if_neg c]
/-- every syndrome comes from some product -/
theorem pd_sy_surj {n r : Nat} {qx qz bs : Nat → Nat} (h : pd_Ru n r qx qz bs) {s : Nat} (hs : s < 2 ^ r) : ∃ x z, x < 2 ^ n ∧ z < 2 ^ n ∧ pd_sy qx qz r x z = s := by
  obtain ⟨D, E, hD⟩ := h.2.2.2.1
  refine ⟨pd_xs (fun j => pd_d s j * D j) r, pd_xs (fun j => pd_d s j * E j) r, pd_xs_lt (fun j hj => pd_mulx (pd_d_le s j) (hD j hj).1), pd_xs_lt (fun j hj => pd_mulx (pd_d_le s j) (hD j hj).2.1), ?_⟩
  apply pd_d_ext
  intro k
  rw [pd_sy_d]
  by_cases c : k < r
  · rw [if_pos c, pd_cl_xs, pd_sm_1 (j := k) c]
    · rw [pd_cl_d _ _ _ _ _ (pd_d_le s k), (hD k c).2.2 k c, if_pos rfl]
      have := pd_d_le s k
      omega
    · intro j hj hne
      rw [pd_cl_d _ _ _ _ _ (pd_d_le s j), (hD j hj).2.2 k c, if_neg (fun e => hne e.symm), Nat.mul_zero]
  · rw [if_neg c]; exact (pd_d_ge hs (by omega)).symm
theorem pd_or_d (a b k : Nat) : pd_d (a ||| b) k = pd_d a k + pd_d b k - pd_d a k * pd_d b k := by
  unfold pd_d; rw [Nat.testBit_or]; cases a.testBit k <;> cases b.testBit k <;> decide
theorem pd_or32 {a b : Nat} (ha : a < 32) (hb : b < 32) : a ||| b < 32 := Nat.or_lt_two_pow (n := 5) ha hb
theorem pd_on_or {x z : Nat} (hx : x < 32) (hz : z < 32) : pd_on (x ||| z) = pd_wt x z 5 := by
  rw [pd_on5 (pd_or32 hx hz)]
  rw [pd_or_d, pd_or_d, pd_or_d, pd_or_d, pd_or_d]
  unfold pd_wt
  simp only [pd_sm, Nat.zero_add]
theorem pd_wt_n {n x z : Nat} (hn : n ≤ 5) (hx : x < 2 ^ n) (hz : z < 2 ^ n) : pd_wt x z n = pd_wt x z 5 := by
  have A : ∀ k, pd_wt x z (n + k) = pd_wt x z n := by
    intro k
    induction k with
    | zero => rfl
    | succ k ih =>
      show pd_wt x z (n + k) + (pd_d x (n + k) + pd_d z (n + k) - pd_d x (n + k) * pd_d z (n + k)) = _
      rw [ih, pd_d_ge hx (by omega), pd_d_ge hz (by omega)]
      omega
  have := A (5 - n)
  rw [show n + (5 - n) = 5 by omega] at this
  exact this.symm
section
variable {f_gatheredX f_gatheredZ f_gatheredPower f_rules f_solutions : Int32} {a_kept a_ruleX a_ruleZ a_basis a_cost a_nextCost a_addsX a_addsZ a_equation a_leading a_solution : Nat → Int32} {n : Nat} {X Z S : Nat → Nat}
theorem px_light18 {post : Int32 → SX → Prop} {r s : Nat} {qx qz : Nat → Nat} (hn : n ≤ 5) (hr : r ≤ 5) (hq : ∀ j, j < r → qx j < 32 ∧ qz j < 32) (hs : s < 2 ^ r) (hex : ∃ x z, x < 2 ^ n ∧ z < 2 ^ n ∧ pd_sy qx qz r x z = s)
    (h : ∀ x z c1 c2 c3 c4, x < 2 ^ n → z < 2 ^ n → pd_sy qx qz r x z = s → (∀ x' z', x' < 2 ^ n → z' < 2 ^ n → pd_sy qx qz r x' z' = s → pd_val n x z ≤ pd_val n x' z') →
      post (nI (32 * x + z)) ((nI n), f_gatheredX, f_gatheredZ, f_gatheredPower, (nI r), f_solutions, (fun jj => nI (X jj)), (fun jj => nI (Z jj)), (fun jj => nI (S jj)), a_kept, (fun jj => nI (qx jj)), (fun jj => nI (qz jj)), a_basis, c1, c2, c3, c4, a_equation, a_leading, a_solution)) :
    ∀ f q, q + f = n → ∀ ax az : Nat → Nat, (∀ i, i < q → ax i = pd_sy qx qz r (2 ^ i) 0) → (∀ i, i < q → az i = pd_sy qx qz r 0 (2 ^ i)) →
      wX_lightest_18 post (nI s) (nI n) f_gatheredX f_gatheredZ f_gatheredPower (nI r) f_solutions (f + 1) (nI q) (fun jj => nI (X jj)) (fun jj => nI (Z jj)) (fun jj => nI (S jj)) a_kept (fun jj => nI (qx jj)) (fun jj => nI (qz jj)) a_basis a_cost a_nextCost (fun jj => nI (ax jj)) (fun jj => nI (az jj)) a_equation a_leading a_solution := by
  have h32 := px_2n hn
  have r32 := px_2n hr
  intro f
  induction f with
  | zero =>
    intro q hq0 ax az hax haz
    have e : q = n := by omega
    subst e
    refine br_t (nI_le (by omega) (by omega)) ?_
    refine px_findCosts rfl hn (by omega) (fun i hi => by rw [hax i hi]; exact pd_sy_lt _ _ _ _ _) (fun i hi => by rw [haz i hi]; exact pd_sy_lt _ _ _ _ _) (fun cost next hC => ⟨vp_in_nI (by omega) (by decide), ?_⟩)
    rw [nI_clamp (n := s) (by omega)]
    have lin : ∀ x z, x < 2 ^ q → z < 2 ^ q → pd_sig ax az q x z = pd_sy qx qz r x z := by
      intro x z hx hz
      have := pd_sig_lin (L := pd_sy qx qz r) (pd_sy_lin qx qz r) hax haz x z q (Nat.le_refl q)
      rw [Nat.mod_eq_of_lt hx, Nat.mod_eq_of_lt hz] at this
      exact this
    obtain ⟨lo, at_⟩ := hC s hs
    rcases at_ with e | ⟨x, z, hx, hz, hsg, hv⟩
    · obtain ⟨x, z, hx, hz, hsy⟩ := hex
      have := lo x z hx hz (by rw [lin x z hx hz]; exact hsy)
      have := pd_val_le (m := q) (x := x) (z := z) hn (by omega) (by omega)
      omega
    · have vb := pd_val_le (m := q) (x := x) (z := z) hn (by omega) (by omega)
      have e1 : nI (cost s) &&& 1023 = nI (32 * x + z) := by
        rw [hv, pk_andN (m := 1023) (by omega) 10 (by decide)]
        congr 1
        unfold pd_val
        omega
      dsimp only
      rw [e1]
      refine h x z _ _ _ _ hx hz (by rw [← lin x z hx hz]; exact hsg) (fun x' z' hx' hz' hs' => ?_)
      rw [← hv]
      exact lo x' z' hx' hz' (by rw [lin x' z' hx' hz']; exact hs')
  | succ f ih =>
    intro q hq0 ax az hax haz
    have q2n : 2 ^ q < 2 ^ n := Nat.pow_lt_pow_right (by decide) (by omega)
    have ep : (1 : Int32) <<< (nI q &&& 31) = nI (2 ^ q) := px_pow (by omega)
    have hi : vp_in (nI q) 5 := vp_in_nI (by omega) (by decide)
    refine br_f (nI_ge (by omega) (by omega)) ?_
    rw [ep]
    refine px_syn (z := 0) hn hr hq q2n (Nat.two_pow_pos n) ⟨hi, ?_⟩
    rw [nI_clamp (n := q) (by omega)]
    refine nm_r (px_upk ax q rfl) ?_
    refine px_syn (x := 0) hn hr hq (Nat.two_pow_pos n) q2n ⟨hi, nm_r (px_upk az q rfl) (nm_r (nI_1 q) (ih (q + 1) (by omega) _ _ (fun i hi => ?_) (fun i hi => ?_)))⟩
    · by_cases e : i = q
      · rw [e, pd_u_s]
      · rw [pd_u_n e]; exact hax i (by omega)
    · by_cases e : i = q
      · rw [e, pd_u_s]
      · rw [pd_u_n e]; exact haz i (by omega)
theorem px_lightest {post : Int32 → SX → Prop} {r s : Nat} {qx qz : Nat → Nat} (hn : n ≤ 5) (hr : r ≤ 5) (hq : ∀ j, j < r → qx j < 32 ∧ qz j < 32) (hs : s < 2 ^ r) (hex : ∃ x z, x < 2 ^ n ∧ z < 2 ^ n ∧ pd_sy qx qz r x z = s)
    (h : ∀ x z c1 c2 c3 c4, x < 2 ^ n → z < 2 ^ n → pd_sy qx qz r x z = s → (∀ x' z', x' < 2 ^ n → z' < 2 ^ n → pd_sy qx qz r x' z' = s → pd_val n x z ≤ pd_val n x' z') →
      post (nI (32 * x + z)) ((nI n), f_gatheredX, f_gatheredZ, f_gatheredPower, (nI r), f_solutions, (fun jj => nI (X jj)), (fun jj => nI (Z jj)), (fun jj => nI (S jj)), a_kept, (fun jj => nI (qx jj)), (fun jj => nI (qz jj)), a_basis, c1, c2, c3, c4, a_equation, a_leading, a_solution)) :
    wpX_lightest post ((nI n), f_gatheredX, f_gatheredZ, f_gatheredPower, (nI r), f_solutions, (fun jj => nI (X jj)), (fun jj => nI (Z jj)), (fun jj => nI (S jj)), a_kept, (fun jj => nI (qx jj)), (fun jj => nI (qz jj)), a_basis, a_cost, a_nextCost, a_addsX, a_addsZ, a_equation, a_leading, a_solution) (nI s) := by
  have r32 := px_2n hr
  have ep : (1 : Int32) <<< (nI r &&& 31) = nI (2 ^ r) := px_pow (by omega)
  obtain ⟨ax, rfl⟩ := px_fun a_addsX
  obtain ⟨az, rfl⟩ := px_fun a_addsZ
  refine br_f (nI_pos (by omega)) (br_t (by rw [ep]; exact nI_lt hs (by omega)) ⟨n + 1, ?_⟩)
  exact px_light18 hn hr hq hs hex h n 0 (by omega) ax az (fun i hi => absurd hi (Nat.not_lt_zero i)) (fun i hi => absurd hi (Nat.not_lt_zero i))
end
/-- good for a syndrome -/
def pd_gd (n r : Nat) (qx qz : Nat → Nat) (s c : Nat) : Prop := c / 32 < 2 ^ n ∧ c % 32 < 2 ^ n ∧ pd_sy qx qz r (c / 32) (c % 32) = s
def pd_cv (c : Nat) : Nat := 2048 * pd_on ((c / 32) ||| (c % 32)) + c
section
variable {f_rules f_sumRe f_sumIm : Int32} {a_isSaved a_ruleX a_ruleZ : Nat → Int32} {n : Nat} {A N B : Nat → Int × Int}
theorem py_l94 {post : Int32 → Prop} {J : Int32 → Int32 → Prop} {x1 x2 : Int32} {c g w : Nat} {Q : Prop} (hg : g = 0 ∨ g = 1) (hw : w = 0 ∨ w = 1) (h0 : ¬ (g = 1 ∧ w = 1) → J x2 (nI (c + 1))) (h1 : g = 1 → w = 1 → J (nI c) (nI (c + 1))) :
    wY_lightestOf_94 post J x1 x2 (nI c) (nI g) (nI w) (nI n) (nI (2 ^ n)) f_rules f_sumRe f_sumIm (fun jj => pd_I (A jj).1) (fun jj => pd_I (A jj).2) (fun jj => pd_I (N jj).1) (fun jj => pd_I (N jj).2) (fun jj => pd_I (B jj).1) (fun jj => pd_I (B jj).2) a_isSaved a_ruleX a_ruleZ := by
  unfold wY_lightestOf_94
  rcases hg with rfl | rfl
  · exact br_t rfl (nm_r (nI_1 c) (h0 (fun k => by omega)))
  · refine br_f (by decide) ?_
    rcases hw with rfl | rfl
    · exact br_t rfl (nm_r (nI_1 c) (h0 (fun k => by omega)))
    · exact br_f (by decide) (nm_r (nI_1 c) (h1 rfl rfl))
theorem py_l58 {post : Int32 → Prop} {J : Int32 → Int32 → Prop} {x1 x2 : Int32} {c g : Nat} (hc : c < 1024) (hg : g = 0 ∨ g = 1) (hb : x2 = -1 ∨ ∃ b, b < 1024 ∧ x2 = nI b)
    (h0 : g = 0 → J x2 (nI (c + 1))) (h1 : g = 1 → x2 = -1 → J (nI c) (nI (c + 1))) (h2 : ∀ b, b < 1024 → x2 = nI b → g = 1 → pd_on ((c / 32) ||| (c % 32)) < pd_on ((b / 32) ||| (b % 32)) → J (nI c) (nI (c + 1)))
    (h3 : ∀ b, b < 1024 → x2 = nI b → g = 1 → ¬ pd_on ((c / 32) ||| (c % 32)) < pd_on ((b / 32) ||| (b % 32)) → J x2 (nI (c + 1))) :
    wY_lightestOf_58 post J x1 x2 (nI c) (nI (c / 32)) (nI (c % 32)) (nI g) (nI n) (nI (2 ^ n)) f_rules f_sumRe f_sumIm (fun jj => pd_I (A jj).1) (fun jj => pd_I (A jj).2) (fun jj => pd_I (N jj).1) (fun jj => pd_I (N jj).2) (fun jj => pd_I (B jj).1) (fun jj => pd_I (B jj).2) a_isSaved a_ruleX a_ruleZ := by
  unfold wY_lightestOf_58
  rcases hb with e | ⟨b, hb, e⟩
  · subst e
    refine br_t (by decide) ?_
    exact py_l94 (w := 1) (Q := True) hg (Or.inr rfl) (fun k => h0 (by omega)) (fun k _ => h1 k rfl)
  · subst e
    refine br_f (nI_pos (by omega)) ?_
    rw [px_or]
    have e1 : nI b / 32 = nI (b / 32) := pk_div (d := 32) (by omega) (by decide) (by decide)
    have e2 : nI b - nI b / 32 * 32 = nI (b % 32) := pk_rem (d := 32) (by omega) (by decide) (by decide)
    have b1 := pd_on_le ((c / 32) ||| (c % 32)); have b2 := pd_on_le ((b / 32) ||| (b % 32))
    refine py_ones (pd_or32 (by omega) (by omega)) ⟨by decide, by decide, ?_⟩
    rw [e2, e1, px_or]
    refine py_ones (pd_or32 (by omega) (by omega)) ?_
    refine pk_le (pd_on ((b / 32) ||| (b % 32))) (pd_on ((c / 32) ||| (c % 32))) (fun k => ?_) (fun k => ?_)
    · refine py_l94 (w := 0) (Q := True) hg (Or.inl rfl) (fun _ => ?_) (fun _ k2 => by omega)
      rcases hg with g0 | g1
      · exact h0 g0
      · exact h3 b hb rfl g1 (by omega)
    · exact py_l94 (w := 1) (Q := True) hg (Or.inr rfl) (fun k2 => h0 (by omega)) (fun k2 _ => h2 b hb rfl k2 k)
theorem py_light4 {post : Int32 → Prop} {r s : Nat} {qx qz : Nat → Nat} (hn : n ≤ 5) (hr : r ≤ 5) (hq : ∀ j, j < r → qx j < 32 ∧ qz j < 32) (hs : s < 2 ^ r) (hex : ∃ c, c < 1024 ∧ pd_gd n r qx qz s c)
    (h : ∀ b, b < 1024 → pd_gd n r qx qz s b → (∀ c, c < 1024 → pd_gd n r qx qz s c → pd_cv b ≤ pd_cv c) → post (nI b)) :
    ∀ f c, c + f = 1024 → ∀ x2 : Int32, (x2 = -1 ∧ ∀ c', c' < c → ¬ pd_gd n r qx qz s c') ∨ (∃ b, b < c ∧ x2 = nI b ∧ pd_gd n r qx qz s b ∧ ∀ c', c' < c → pd_gd n r qx qz s c' → pd_cv b ≤ pd_cv c') →
      wY_lightestOf_4 post (nI s) (nI n) (nI (2 ^ n)) (nI r) f_sumRe f_sumIm (fun jj => pd_I (A jj).1) (fun jj => pd_I (A jj).2) (fun jj => pd_I (N jj).1) (fun jj => pd_I (N jj).2) (fun jj => pd_I (B jj).1) (fun jj => pd_I (B jj).2) a_isSaved (fun jj => nI (qx jj)) (fun jj => nI (qz jj)) (f + 1) x2 (nI c) := by
  have h32 := px_2n hn
  have r32 := px_2n hr
  intro f
  induction f with
  | zero =>
    intro c hc x2 hI
    have e : c = 1024 := by omega
    subst e
    refine br_t (show (1024 : Int32) ≤ nI 1024 by decide) ?_
    rcases hI with ⟨_, no⟩ | ⟨b, hb, e, g, m⟩
    · obtain ⟨c, hc, g⟩ := hex
      exact absurd g (no c hc)
    · rw [e]; exact h b hb g m
  | succ f ih =>
    intro c hc x2 hI
    refine br_f (nI_ge (b := 1024) (by omega) (by decide)) ⟨by decide, nm_r (pk_div (d := 32) (by omega) (by decide) (by decide)) ⟨by decide, nm_r (pk_rem (d := 32) (by omega) (by decide) (by decide)) ?_⟩⟩
    have hb : x2 = -1 ∨ ∃ b, b < 1024 ∧ x2 = nI b := by
      rcases hI with ⟨e, _⟩ | ⟨b, hb, e, _⟩
      · exact Or.inl e
      · exact Or.inr ⟨b, by omega, e⟩
    have bad : ¬ pd_gd n r qx qz s c → wY_lightestOf_4 post (nI s) (nI n) (nI (2 ^ n)) (nI r) f_sumRe f_sumIm (fun jj => pd_I (A jj).1) (fun jj => pd_I (A jj).2) (fun jj => pd_I (N jj).1) (fun jj => pd_I (N jj).2) (fun jj => pd_I (B jj).1) (fun jj => pd_I (B jj).2) a_isSaved (fun jj => nI (qx jj)) (fun jj => nI (qz jj)) (f + 1) x2 (nI (c + 1)) := by
      intro no
      refine ih (c + 1) (by omega) x2 ?_
      rcases hI with ⟨e, m⟩ | ⟨b, hb, e, g, m⟩
      · refine Or.inl ⟨e, fun c' h' => ?_⟩
        by_cases k : c' = c
        · rw [k]; exact no
        · exact m c' (by omega)
      · refine Or.inr ⟨b, by omega, e, g, fun c' h' g' => ?_⟩
        by_cases k : c' = c
        · rw [k] at g'; exact absurd g' no
        · exact m c' (by omega) g'
    have skip : ¬ pd_gd n r qx qz s c → wY_lightestOf_57 post (wY_lightestOf_4 post (nI s) (nI n) (nI (2 ^ n)) (nI r) f_sumRe f_sumIm (fun jj => pd_I (A jj).1) (fun jj => pd_I (A jj).2) (fun jj => pd_I (N jj).1) (fun jj => pd_I (N jj).2) (fun jj => pd_I (B jj).1) (fun jj => pd_I (B jj).2) a_isSaved (fun jj => nI (qx jj)) (fun jj => nI (qz jj)) (f + 1)) (nI s) x2 (nI c) (nI (c / 32)) (nI (c % 32)) (nI n) (nI (2 ^ n)) (nI r) f_sumRe f_sumIm (fun jj => pd_I (A jj).1) (fun jj => pd_I (A jj).2) (fun jj => pd_I (N jj).1) (fun jj => pd_I (N jj).2) (fun jj => pd_I (B jj).1) (fun jj => pd_I (B jj).2) a_isSaved (fun jj => nI (qx jj)) (fun jj => nI (qz jj)) := by
      intro no
      exact py_l58 (g := 0) (by omega) (Or.inl rfl) hb (fun _ => bad no) (fun k => by omega) (fun b _ _ k => by omega) (fun b _ _ k => by omega)
    by_cases k1 : c / 32 < 2 ^ n
    · refine br_f (nI_ge k1 (by omega)) ?_
      by_cases k2 : c % 32 < 2 ^ n
      · refine br_f (nI_ge k2 (by omega)) (py_syn hr hq ?_)
        have sl := pd_sy_lt qx qz r (c / 32) (c % 32)
        refine pk_eq (pd_sy qx qz r (c / 32) (c % 32)) s (fun e => ?_) (fun e => skip (fun g => e g.2.2))
        have g : pd_gd n r qx qz s c := ⟨k1, k2, e⟩
        refine py_l58 (g := 1) (by omega) (Or.inr rfl) hb (fun k => by omega) (fun _ ex => ?_) (fun b hb2 ex _ hlt => ?_) (fun b hb2 ex _ hge => ?_)
        · refine ih (c + 1) (by omega) (nI c) (Or.inr ⟨c, by omega, rfl, g, fun c' h' g' => ?_⟩)
          by_cases k : c' = c
          · rw [k]; exact Nat.le_refl _
          · rcases hI with ⟨_, m⟩ | ⟨b, hb, e2, _, _⟩
            · exact absurd g' (m c' (by omega))
            · rw [ex] at e2
              exact absurd e2 (fun e3 => by
                have t := congrArg Int32.toInt e3
                rw [nI_toInt (by omega)] at t
                have : (-1 : Int32).toInt = -1 := by decide
                omega)
        · refine ih (c + 1) (by omega) (nI c) (Or.inr ⟨c, by omega, rfl, g, fun c' h' g' => ?_⟩)
          by_cases k : c' = c
          · rw [k]; exact Nat.le_refl _
          · rcases hI with ⟨_, m⟩ | ⟨b', hb', e2, _, m⟩
            · exact absurd g' (m c' (by omega))
            · have eb : b' = b := (nI_eq (by omega) (by omega)).mp (e2.symm.trans ex)
              rw [eb] at m
              have := m c' (by omega) g'
              unfold pd_cv at this ⊢
              omega
        · refine ih (c + 1) (by omega) x2 (Or.inr ?_)
          rcases hI with ⟨e2, _⟩ | ⟨b', hb', e2, g2, m⟩
          · rw [ex] at e2
            exact absurd e2 (fun e3 => by
              have t := congrArg Int32.toInt e3
              rw [nI_toInt (by omega)] at t
              have : (-1 : Int32).toInt = -1 := by decide
              omega)
          · have eb : b' = b := (nI_eq (by omega) (by omega)).mp (e2.symm.trans ex)
            subst eb
            refine ⟨b', by omega, e2, g2, fun c' h' g' => ?_⟩
            by_cases k : c' = c
            · rw [k]; unfold pd_cv; omega
            · exact m c' (by omega) g'
      · exact br_t (nI_le (by omega) (by omega)) (skip (fun g => k2 g.2.1))
    · exact br_t (nI_le (by omega) (by omega)) (skip (fun g => k1 g.1))
theorem py_lightestOf {post : Int32 → Prop} {r s : Nat} {qx qz : Nat → Nat} (hn : n ≤ 5) (hr : r ≤ 5) (hq : ∀ j, j < r → qx j < 32 ∧ qz j < 32) (hs : s < 2 ^ r)
    {x z : Nat} (hx : x < 2 ^ n) (hz : z < 2 ^ n) (hsy : pd_sy qx qz r x z = s) (hmin : ∀ x' z', x' < 2 ^ n → z' < 2 ^ n → pd_sy qx qz r x' z' = s → pd_val n x z ≤ pd_val n x' z') (h : post (nI (32 * x + z))) :
    wpY_lightestOf post ((nI n), (nI (2 ^ n)), (nI r), f_sumRe, f_sumIm, (fun jj => pd_I (A jj).1), (fun jj => pd_I (A jj).2), (fun jj => pd_I (N jj).1), (fun jj => pd_I (N jj).2), (fun jj => pd_I (B jj).1), (fun jj => pd_I (B jj).2), a_isSaved, (fun jj => nI (qx jj)), (fun jj => nI (qz jj))) (nI s) := by
  have h32 := px_2n hn
  have cv : ∀ x z, x < 2 ^ n → z < 2 ^ n → pd_cv (32 * x + z) = pd_val n x z := by
    intro x z hx hz
    unfold pd_cv pd_val
    rw [show (32 * x + z) / 32 = x by omega, show (32 * x + z) % 32 = z by omega, pd_on_or (by omega) (by omega), pd_wt_n hn hx hz]
  have gd : pd_gd n r qx qz s (32 * x + z) := by
    unfold pd_gd
    rw [show (32 * x + z) / 32 = x by omega, show (32 * x + z) % 32 = z by omega]
    exact ⟨hx, hz, hsy⟩
  refine ⟨1025, py_light4 hn hr hq hs ⟨32 * x + z, by omega, gd⟩ (fun b hb g m => ?_) 1024 0 rfl (-1) (Or.inl ⟨rfl, fun c' h' => absurd h' (Nat.not_lt_zero c')⟩)⟩
  have m1 := m (32 * x + z) (by omega) gd
  have m2 := hmin (b / 32) (b % 32) g.1 g.2.1 g.2.2
  rw [← cv _ _ hx hz, ← cv _ _ g.1 g.2.1, show 32 * (b / 32) + b % 32 = b by omega] at m2
  have e : b = 32 * x + z := by
    unfold pd_cv at m1 m2
    omega
  rw [e]; exact h
end
theorem i_vc_lightest {k : Nat} {u : SX} {v : SY} (I : i_Rel k u v) (hk : k + 4 ≤ 2049) (v1 : Int32) : wpX_lightest (fun r u' => wpY_lightest (fun r' => r' = r ∧ i_Rel (k + 4) u' v) v v1) u v1 := by
  refine zz_el (P := fun u v => wpX_lightest (fun r u' => wpY_lightest (fun r' => r' = r ∧ i_Rel (k + 4) u' v) v v1) u v1) I ?_
  intro n r X Z S qx qz bs A N B kp g1 g2 g3 g4 g5 g6 h1 h2 h3 h4 h5 h6 h7 i1 i2
  have hn := i1.1.2
  have h32 := px_2n hn
  have r32 := px_2n i2.1
  have hr := i2.1
  have hq := pd_Ru_b hn i2
  have ep : (1 : Int32) <<< (nI r &&& 31) = nI (2 ^ r) := px_pow (by omega)
  by_cases c : ∃ s, s < 2 ^ r ∧ v1 = nI s
  · obtain ⟨s, hs, rfl⟩ := c
    refine px_lightest hn hr hq hs (pd_sy_surj i2 hs) (fun x z c1 c2 c3 c4 hx hz hsy hmin => ?_)
    unfold wpY_lightest
    dsimp only
    refine br_f (nI_pos (by omega)) (br_t (by rw [ep]; exact nI_lt hs (by omega)) ?_)
    exact py_lightestOf hn hr hq hs hx hz hsy hmin ⟨rfl, zz_in i1 i2⟩
  · unfold wpX_lightest
    dsimp only
    by_cases h0 : v1 < 0
    · refine br_t h0 ?_
      unfold wpY_lightest
      dsimp only
      exact br_t h0 ⟨rfl, zz_in i1 i2⟩
    · obtain ⟨j, hj, rfl⟩ := nI_of h0
      have hge : ¬ nI j < (1 : Int32) <<< (nI r &&& 31) := by
        rw [ep, nI_ltI hj (by omega)]
        intro hlt
        exact c ⟨j, hlt, rfl⟩
      refine br_f h0 (br_f hge ?_)
      unfold wpY_lightest
      dsimp only
      exact br_f h0 (br_f hge ⟨rfl, zz_in i1 i2⟩)
end
section
/-! measuring once more, for every vector that the rows keep -/
section
variable {f_gatheredX f_gatheredZ f_gatheredPower f_rules f_solutions : Int32} {a_kept a_ruleX a_ruleZ a_basis a_cost a_nextCost a_addsX a_addsZ a_equation a_leading a_solution : Nat → Int32} {n : Nat} {X Z S : Nat → Nat}
theorem pu_signIn8 {post : Int32 → SX → Prop} {b x z : Nat} {V : Nat → Int × Int} (hn : n ≤ 5) (hb : b < 6) (hB : pd_Bn X Z S) (hSt : pd_St n X Z S (10 * b) V) (hx : x < 2 ^ n) (hz : z < 2 ^ n)
    (hc : ∀ q, q < n → pd_cl (X (10 * b + (5 + q))) (Z (10 * b + (5 + q))) x z = 0)
    (h : ∀ sg gx gz gp, sg < 2 → (∀ V, pd_St n X Z S (10 * b) V → pd_Fx 5 (pd_on (x &&& z) + 2 * sg) x z V) → post (nI sg) ((nI n), gx, gz, gp, f_rules, f_solutions, (fun jj => nI (X jj)), (fun jj => nI (Z jj)), (fun jj => nI (S jj)), a_kept, a_ruleX, a_ruleZ, a_basis, a_cost, a_nextCost, a_addsX, a_addsZ, a_equation, a_leading, a_solution)) :
    ∀ f q, q + f = n → ∀ gx gz gp : Nat, pd_Gi X Z (10 * b) x z q gx gz → (∀ V, pd_St n X Z S (10 * b) V → pd_Fx 5 gp gx gz V) → wX_signIn_8 post (nI b) (nI x) (nI z) (f + 1) (nI q) (nI n) (nI gx) (nI gz) (nI gp) f_rules f_solutions (fun jj => nI (X jj)) (fun jj => nI (Z jj)) (fun jj => nI (S jj)) a_kept a_ruleX a_ruleZ a_basis a_cost a_nextCost a_addsX a_addsZ a_equation a_leading a_solution := by
  have h32 := px_2n hn
  intro f
  induction f with
  | zero =>
    intro q hq gx gz gp hG hF
    have e : q = n := by omega
    subst e
    refine br_t (nI_le (by omega) (by omega)) ?_
    obtain ⟨e1, e2⟩ := pd_Gi_end hSt (by omega) (by omega) hG (fun i h1 h2 => (pd_St_hi hSt hx hz h1 h2).1) (fun i hi => by
      by_cases c : i < q
      · exact hc i c
      · exact (pd_St_hi hSt hx hz (by omega) hi).2)
    subst e1 e2
    refine px_gatheredSign hG.1 ?_
    exact h _ _ _ _ (by omega) (fun V hV => pd_Fx_sign hV.2.2.1 (hF V hV) hG.1)
  | succ f ih =>
    intro q hq gx gz gp hG hF
    refine br_f (nI_ge (by omega) (by omega)) ?_
    refine px_clashOfRow (px_row b q) (by omega) hB ?_
    rcases pd_cl_01 (X (10 * b + q)) (Z (10 * b + q)) x z with c | c
    · rw [c]
      exact br_f (by decide) (nm_r (nI_1 q) (ih (q + 1) (by omega) gx gz gp (pd_Gi_f (by omega) hG (by rw [c]; decide)) hF))
    · rw [c]
      refine br_t rfl (px_gather (px_row5 b q) (by omega) hB hG.2.1 ?_)
      exact nm_r (nI_1 q) (ih (q + 1) (by omega) _ _ _ (pd_Gi_t hSt (by omega) hG c) (fun V hV => pd_St_ga hV (by omega) (hF V hV)))
theorem pu_signIn {post : Int32 → SX → Prop} {p0 : Int32} {b x z : Nat} {V : Nat → Int × Int} (e0 : p0 = nI b) (hn : n ≤ 5) (hb : b < 6) (hB : pd_Bn X Z S) (hSt : pd_St n X Z S (10 * b) V) (hx : x < 2 ^ n) (hz : z < 2 ^ n)
    (hc : ∀ q, q < n → pd_cl (X (10 * b + (5 + q))) (Z (10 * b + (5 + q))) x z = 0)
    (h : ∀ sg gx gz gp, sg < 2 → (∀ V, pd_St n X Z S (10 * b) V → pd_Fx 5 (pd_on (x &&& z) + 2 * sg) x z V) → post (nI sg) ((nI n), gx, gz, gp, f_rules, f_solutions, (fun jj => nI (X jj)), (fun jj => nI (Z jj)), (fun jj => nI (S jj)), a_kept, a_ruleX, a_ruleZ, a_basis, a_cost, a_nextCost, a_addsX, a_addsZ, a_equation, a_leading, a_solution)) : wpX_signIn post ((nI n), f_gatheredX, f_gatheredZ, f_gatheredPower, f_rules, f_solutions, (fun jj => nI (X jj)), (fun jj => nI (Z jj)), (fun jj => nI (S jj)), a_kept, a_ruleX, a_ruleZ, a_basis, a_cost, a_nextCost, a_addsX, a_addsZ, a_equation, a_leading, a_solution) p0 (nI x) (nI z) := by
  subst e0
  unfold wpX_signIn
  dsimp only
  refine px_gatherNothing (p := 0) rfl ?_
  exact ⟨n + 1, pu_signIn8 hn hb hB hSt hx hz hc h n 0 (by omega) 0 0 0 (pd_Gi_0 _ _ _ _ _) (fun V _ => pd_Fx_0 5 V)⟩
theorem pu_measureIn25 {post : Int32 → SX → Prop} {b x z w p : Nat} {want : Int32} {V : Nat → Int × Int} {X0 Z0 S0 : Nat → Nat} (hn : n ≤ 5) (hb : b < 6) (hB0 : pd_Bn X0 Z0 S0) (hSt : pd_St n X0 Z0 S0 (10 * b) V) (hx : x < 2 ^ n) (hz : z < 2 ^ n)
    (hw : w < 2) (hwant : want &&& 1 = nI w) (hp : p < n) (hc : pd_cl (X0 (10 * b + (5 + p))) (Z0 (10 * b + (5 + p))) x z = 1)
    (h : ∀ X' Z' S' gx gz gp, (∀ V, pd_St n X0 Z0 S0 (10 * b) V → pd_St n X' Z' S' (10 * b) (pd_mz w x z V)) → pd_Bn X' Z' S' → pd_Same X0 Z0 S0 X' Z' S' (10 * b) → post (nI (2 + w)) ((nI n), gx, gz, gp, f_rules, f_solutions, (fun jj => nI (X' jj)), (fun jj => nI (Z' jj)), (fun jj => nI (S' jj)), a_kept, a_ruleX, a_ruleZ, a_basis, a_cost, a_nextCost, a_addsX, a_addsZ, a_equation, a_leading, a_solution)) :
    ∀ f q, q + f = n → ∀ (X Z S : Nat → Nat) (gx gz gp : Int32), pd_Sep (fun i => i % 5 < q) X0 Z0 S0 X Z S (10 * b) p x z → pd_Bn X Z S → pd_Same X0 Z0 S0 X Z S (10 * b) →
      wX_measureIn_25 post (nI b) (nI x) (nI z) want (nI (10 * b + (5 + p))) (f + 1) (nI q) (nI n) gx gz gp f_rules f_solutions (fun jj => nI (X jj)) (fun jj => nI (Z jj)) (fun jj => nI (S jj)) a_kept a_ruleX a_ruleZ a_basis a_cost a_nextCost a_addsX a_addsZ a_equation a_leading a_solution := by
  have h32 := px_2n hn
  intro f
  induction f with
  | zero =>
    intro q hq X Z S gx gz gp hS hB hSm
    have e : q = n := by omega
    subst e
    refine br_t (nI_le (by omega) (by omega)) ?_
    have e5 : nI (10 * b + (5 + p)) - 5 = nI (10 * b + p) := by
      have := pk_sub (a := 10 * b + (5 + p)) (b := 5) (by omega)
      rw [show 10 * b + (5 + p) - 5 = 10 * b + p by omega] at this
      exact this
    refine px_copyRow rfl e5 (by omega) (by omega) ?_
    refine px_setRow rfl rfl rfl hwant (by omega) ?_
    have e2 : 2 + (want &&& 1) = nI (2 + w) := by
      rw [hwant]; exact nI_add 2 w
    rw [e2]
    have hR := pd_Sep_end (w := w) hSt hn hp hx hz hS
    have hSt' := pd_St_mz (X' := pd_u (pd_u X (10 * b + p) (X (10 * b + (5 + p)))) (10 * b + (5 + p)) x) (Z' := pd_u (pd_u Z (10 * b + p) (Z (10 * b + (5 + p)))) (10 * b + (5 + p)) z) (S' := pd_u (pd_u S (10 * b + p) (S (10 * b + (5 + p)))) (10 * b + (5 + p)) w) hSt hx hz hn hw hp hc hR
    have hSm' := pd_Same_u (k := 10 * b + (5 + p)) (a := x) (b := z) (c := w) (pd_Same_u (k := 10 * b + p) (a := X (10 * b + (5 + p))) (b := Z (10 * b + (5 + p))) (c := S (10 * b + (5 + p))) hSm (by omega) (by omega)) (by omega) (by omega)
    exact h _ _ _ _ _ _ (fun V hV => pd_St_mz hV hx hz hn hw hp hc hR) (pd_Bn_of hB0 hSm' hSt'.1) hSm'
  | succ f ih =>
    intro q hq X Z S gx gz gp hS hB hSm
    refine br_f (nI_ge (by omega) (by omega)) ?_
    have second : ∀ (X Z S : Nat → Nat) (gx gz gp : Int32), pd_Sep (fun i => i % 5 < q ∨ i = q) X0 Z0 S0 X Z S (10 * b) p x z → pd_Bn X Z S → pd_Same X0 Z0 S0 X Z S (10 * b) →
        wpX_separate (fun u => match u with
          | (f_n, f_gatheredX, f_gatheredZ, f_gatheredPower, f_rules, f_solutions, a_rowX, a_rowZ, a_rowSign, a_kept, a_ruleX, a_ruleZ, a_basis, a_cost, a_nextCost, a_addsX, a_addsZ, a_equation, a_leading, a_solution) =>
            ∀ x6, x6 = nI q + 1 → wX_measureIn_25 post (nI b) (nI x) (nI z) want (nI (10 * b + (5 + p))) (f + 1) x6 f_n f_gatheredX f_gatheredZ f_gatheredPower f_rules f_solutions a_rowX a_rowZ a_rowSign a_kept a_ruleX a_ruleZ a_basis a_cost a_nextCost a_addsX a_addsZ a_equation a_leading a_solution)
          ((nI n), gx, gz, gp, f_rules, f_solutions, (fun jj => nI (X jj)), (fun jj => nI (Z jj)), (fun jj => nI (S jj)), a_kept, a_ruleX, a_ruleZ, a_basis, a_cost, a_nextCost, a_addsX, a_addsZ, a_equation, a_leading, a_solution) (((nI b * 10) + 5) + nI q) (nI (10 * b + (5 + p))) (nI x) (nI z) := by
      intro X Z S gx gz gp hS hB hSm
      have hbq := hB (10 * b + (5 + q)) (by omega)
      have hbp := hB (10 * b + (5 + p)) (by omega)
      have hsq := (hS (5 + q) (by omega)).2 (fun d => by rcases d.1 with d | d <;> omega)
      have key : ∀ {X' Z' S'}, pd_Sep (fun i => (i % 5 < q ∨ i = q) ∨ i = 5 + q) X0 Z0 S0 X' Z' S' (10 * b) p x z → pd_Sep (fun i => i % 5 < q + 1) X0 Z0 S0 X' Z' S' (10 * b) p x z :=
        fun h => pd_Sep_D h (fun i hi => by omega)
      refine px_separate (px_row5 b q) rfl (by omega) (by omega) (by omega) hB ?_ ?_
      · intro n1 n2 c gx' gz' gp'
        rw [hsq.1, hsq.2.1] at c
        refine nm_r (nI_1 q) (ih (q + 1) (by omega) _ _ _ _ _ _ (key (pd_Sep_t hS (by omega) (by omega) (fun d => by omega) ⟨by omega, by omega, c⟩)) ?_ ?_)
        · exact pd_Bn_u hB (pd_xor32 hbq.1 hbp.1) (pd_xor32 hbq.2.1 hbp.2.1) (pd_ms_lt _ _ _ _ _)
        · exact pd_Same_u hSm (by omega) (by omega)
      · intro c
        rw [hsq.1, hsq.2.1] at c
        exact nm_r (nI_1 q) (ih (q + 1) (by omega) _ _ _ _ _ _ (key (pd_Sep_f hS (fun d => c ⟨by omega, by omega, d.2.2⟩))) hB hSm)
    have hbq := hB (10 * b + q) (by omega)
    have hbp := hB (10 * b + (5 + p)) (by omega)
    have hsq := (hS q (by omega)).2 (fun d => by omega)
    refine px_separate (px_row b q) rfl (by omega) (by omega) (by omega) hB ?_ ?_
    · intro n1 n2 c gx' gz' gp'
      rw [hsq.1, hsq.2.1] at c
      refine second _ _ _ _ _ _ (pd_Sep_t hS (by omega) (by omega) (fun d => by omega) ⟨by omega, by omega, c⟩) ?_ ?_
      · exact pd_Bn_u hB (pd_xor32 hbq.1 hbp.1) (pd_xor32 hbq.2.1 hbp.2.1) (pd_ms_lt _ _ _ _ _)
      · exact pd_Same_u hSm (by omega) (by omega)
    · intro c
      rw [hsq.1, hsq.2.1] at c
      exact second _ _ _ _ _ _ (pd_Sep_f hS (fun d => c ⟨by omega, by omega, d.2.2⟩)) hB hSm
/-- measuring: an outcome that is settled, or one that is not -/
theorem pu_measureIn {post : Int32 → SX → Prop} {p0 want : Int32} {b x z w : Nat} {V : Nat → Int × Int} (e0 : p0 = nI b) (hn : n ≤ 5) (hb : b < 6) (hB : pd_Bn X Z S) (hSt : pd_St n X Z S (10 * b) V) (hx : x < 2 ^ n) (hz : z < 2 ^ n)
    (hw : w < 2) (hwant : want &&& 1 = nI w)
    (h0 : ∀ sg gx gz gp, sg < 2 → (∀ V, pd_St n X Z S (10 * b) V → pd_Fx 5 (pd_on (x &&& z) + 2 * sg) x z V) → post (nI sg) ((nI n), gx, gz, gp, f_rules, f_solutions, (fun jj => nI (X jj)), (fun jj => nI (Z jj)), (fun jj => nI (S jj)), a_kept, a_ruleX, a_ruleZ, a_basis, a_cost, a_nextCost, a_addsX, a_addsZ, a_equation, a_leading, a_solution))
    (h1 : ∀ X' Z' S' gx gz gp, (∃ p, p < n ∧ pd_cl (X (10 * b + (5 + p))) (Z (10 * b + (5 + p))) x z = 1) → (∀ V, pd_St n X Z S (10 * b) V → pd_St n X' Z' S' (10 * b) (pd_mz w x z V)) → pd_Bn X' Z' S' → pd_Same X Z S X' Z' S' (10 * b) → post (nI (2 + w)) ((nI n), gx, gz, gp, f_rules, f_solutions, (fun jj => nI (X' jj)), (fun jj => nI (Z' jj)), (fun jj => nI (S' jj)), a_kept, a_ruleX, a_ruleZ, a_basis, a_cost, a_nextCost, a_addsX, a_addsZ, a_equation, a_leading, a_solution)) :
    wpX_measureIn post ((nI n), f_gatheredX, f_gatheredZ, f_gatheredPower, f_rules, f_solutions, (fun jj => nI (X jj)), (fun jj => nI (Z jj)), (fun jj => nI (S jj)), a_kept, a_ruleX, a_ruleZ, a_basis, a_cost, a_nextCost, a_addsX, a_addsZ, a_equation, a_leading, a_solution) p0 (nI x) (nI z) want := by
  subst e0
  unfold wpX_measureIn
  dsimp only
  refine px_firstClash rfl hn hb hB (fun p hp hc => ?_) (fun hc => ?_)
  · refine br_t (nI_pos' (by omega)) ⟨n + 1, ?_⟩
    have hbp := hB (10 * b + (5 + p)) (by omega)
    refine pu_measureIn25 hn hb hB hSt hx hz hw hwant hp hc (fun X' Z' S' gx gz gp a1 a2 a3 => h1 X' Z' S' gx gz gp ⟨p, hp, hc⟩ a1 a2 a3) n 0 (by omega) X Z S _ _ _ ?_ hB (pd_Same_rf _ _ _ _)
    exact pd_Sep_D pd_Sep_0 (fun i hi => ⟨fun a => a.elim, fun a => absurd a (Nat.not_lt_zero _)⟩)
  · exact br_f (by decide) (pu_signIn rfl hn hb hB hSt hx hz hc h0)
end
end
section
section
variable {f_gatheredX f_gatheredZ f_gatheredPower f_solutions f_sumRe f_sumIm : Int32} {a_kept a_cost a_nextCost a_addsX a_addsZ a_equation a_leading a_solution : Nat → Int32} {n r : Nat} {X Z S qx qz bs : Nat → Nat} {A N B : Nat → Int × Int}
theorem pd_bit_of (e : Nat) (he : e < 2) : nI (2 + e) &&& 1 = nI e ∧ nI e &&& 1 = nI e := by
  have : e = 0 ∨ e = 1 := by omega
  rcases this with rfl | rfl <;> exact ⟨by decide, by decide⟩
/-- the reference's step: an outcome, and its digit -/
theorem py_mend_s {P : Int32 → SY → Prop} {want : Int32} {f j t e : Nat} (hn : n ≤ 5) (hr : r ≤ 5) (hq : ∀ j, j < r → qx j < 32 ∧ qz j < 32) (hj : j < r) (ht : t < 2 ^ j) (he : e < 2)
    (h : ∀ R : Int32 → SY → Prop, (∀ A' N' : Nat → Int × Int, pd_Inv n X Z S A' B a_kept → (∀ x, x &&& 1 = nI e → R x ((nI n), (nI (2 ^ n)), (nI r), f_sumRe, f_sumIm, (fun jj => pd_I (A' jj).1), (fun jj => pd_I (A' jj).2), (fun jj => pd_I (N' jj).1), (fun jj => pd_I (N' jj).2), (fun jj => pd_I (B jj).1), (fun jj => pd_I (B jj).2), a_kept, (fun jj => nI (qx jj)), (fun jj => nI (qz jj))))) →
      wpY_outcome R ((nI n), (nI (2 ^ n)), (nI r), f_sumRe, f_sumIm, (fun jj => pd_I (A jj).1), (fun jj => pd_I (A jj).2), (fun jj => pd_I (N jj).1), (fun jj => pd_I (N jj).2), (fun jj => pd_I (B jj).1), (fun jj => pd_I (B jj).2), a_kept, (fun jj => nI (qx jj)), (fun jj => nI (qz jj))) (nI (qx j)) (nI (qz j)) (want >>> (nI j &&& 31)))
    (hnext : ∀ A' N' : Nat → Int × Int, pd_Inv n X Z S A' B a_kept → wY_mend_4 P want (f + 1) (nI (t ^^^ (e * 2 ^ j))) (nI (j + 1)) (nI n) (nI (2 ^ n)) (nI r) f_sumRe f_sumIm (fun jj => pd_I (A' jj).1) (fun jj => pd_I (A' jj).2) (fun jj => pd_I (N' jj).1) (fun jj => pd_I (N' jj).2) (fun jj => pd_I (B jj).1) (fun jj => pd_I (B jj).2) a_kept (fun jj => nI (qx jj)) (fun jj => nI (qz jj))) :
    wY_mend_4 P want (f + 1 + 1) (nI t) (nI j) (nI n) (nI (2 ^ n)) (nI r) f_sumRe f_sumIm (fun jj => pd_I (A jj).1) (fun jj => pd_I (A jj).2) (fun jj => pd_I (N jj).1) (fun jj => pd_I (N jj).2) (fun jj => pd_I (B jj).1) (fun jj => pd_I (B jj).2) a_kept (fun jj => nI (qx jj)) (fun jj => nI (qz jj)) := by
  have hi : vp_in (nI j) 10 := vp_in_nI (by omega) (by decide)
  refine br_f (nI_ge hj (by omega)) ⟨hi, hi, ?_⟩
  rw [nI_clamp (n := j) (by omega)]
  refine h _ (fun A' N' hI x hx => ?_)
  have nx := hnext A' N' hI
  have e01 : e = 0 ∨ e = 1 := by omega
  dsimp only
  rw [hx]
  rcases e01 with rfl | rfl
  · rw [Nat.zero_mul, Nat.xor_zero] at nx
    exact br_f (by decide) (nm_r (nI_1 j) nx)
  · exact br_t rfl (nm_r (px_orw (e := 1) ht (by decide) (by omega)) (nm_r (nI_1 j) nx))
theorem px_mend4 {k : Nat} {W : (Int32 → SY → Prop) → Prop} {want : Int32} (hn : n ≤ 5) (hRu : pd_Ru n r qx qz bs) :
    ∀ f j, j + f = r → ∀ (t : Nat) (X Z S : Nat → Nat) (gx gz gp : Int32), t < 2 ^ j → (∃ A, pd_Inv n X Z S A B a_kept) →
      (∀ P : Int32 → SY → Prop, (∀ A N : Nat → Int × Int, pd_Inv n X Z S A B a_kept → wY_mend_4 P want (f + 1) (nI t) (nI j) (nI n) (nI (2 ^ n)) (nI r) f_sumRe f_sumIm (fun jj => pd_I (A jj).1) (fun jj => pd_I (A jj).2) (fun jj => pd_I (N jj).1) (fun jj => pd_I (N jj).2) (fun jj => pd_I (B jj).1) (fun jj => pd_I (B jj).2) a_kept (fun jj => nI (qx jj)) (fun jj => nI (qz jj))) → W P) →
      wX_mend_4 (fun rr u' => W (fun r' v' => r' = rr ∧ i_Rel k u' v')) want (f + 1) (nI t) (nI j) (nI n) gx gz gp (nI r) f_solutions (fun jj => nI (X jj)) (fun jj => nI (Z jj)) (fun jj => nI (S jj)) a_kept (fun jj => nI (qx jj)) (fun jj => nI (qz jj)) (fun jj => nI (bs jj)) a_cost a_nextCost a_addsX a_addsZ a_equation a_leading a_solution := by
  have h32 := px_2n hn
  have hr := hRu.1
  have r32 := px_2n hr
  have hq := pd_Ru_b hn hRu
  intro f
  induction f with
  | zero =>
    intro j hj t X Z S gx gz gp ht ⟨A0, i0⟩ hY
    have e : j = r := by omega
    subst e
    refine br_t (nI_le (by omega) (by omega)) ?_
    refine px_lightest hn hr hq ht (pd_sy_surj hRu ht) (fun x z c1 c2 c3 c4 hx hz hsy hmin => ?_)
    have e5 : nI (32 * x + z) >>> ((5 : Int32) &&& 31) = nI x := by
      rw [pk_shrN (by omega) _ 5 (by decide), show (32 * x + z) / 2 ^ 5 = x by omega]
    have e31 : nI (32 * x + z) &&& 31 = nI z := by
      rw [pk_andN (m := 31) (by omega) 5 (by decide), show (32 * x + z) % 2 ^ 5 = z by omega]
    rw [e5, e31]
    refine px_turnSigns (b := 0) rfl (by decide) i0.2.1 (fun S' e1 s1 => ?_)
    refine hY _ (fun A N hI => ?_)
    refine br_t (nI_le (by omega) (by omega)) (py_lightestOf hn hr hq ht hx hz hsy hmin ?_)
    have d1 : nI (32 * x + z) / 32 = nI x := by
      have := pk_div (a := 32 * x + z) (d := 32) (by omega) (by decide) (by decide)
      rw [show (32 * x + z) / 32 = x by omega] at this
      exact this
    have d2 : nI (32 * x + z) - nI (32 * x + z) / 32 * 32 = nI z := by
      have := pk_rem (a := 32 * x + z) (d := 32) (by omega) (by decide) (by decide)
      rw [show (32 * x + z) % 32 = z by omega] at this
      exact this
    refine br_f (nI_pos (by omega)) ⟨by decide, by decide, ?_⟩
    rw [d2, d1]
    refine py_apply (fr := 32) (mn := 1) rfl rfl (by decide) (by omega) (by omega) (fun A1 N1 hO hN1 => ?_)
    have st := hI.2.2.1
    have st1 : pd_St n X Z S' 0 (pd_gP x z (fun b => A (1024 + b))) := by
      refine pd_Gate_St (pd_Gate_P hn hx hz) st (fun i hi => ⟨rfl, rfl, ?_⟩)
      have := e1 i hi
      rw [Nat.mul_zero] at this
      exact this
    have ev : ∀ b, b < 32 → A1 (1024 + b) = pd_gP x z (fun b => A (1024 + b)) b := by
      intro b hb
      rw [hO.1 (1024 + b) ⟨by omega, by omega⟩]
      exact pd_L_P (by omega) (by omega) A b hb
    refine py_level (fr := 32) (mn := 1) rfl rfl (by decide) (by decide) ?_ ?_ ?_
    · intro i h1 h2
      rw [hO.1 i ⟨h1, h2⟩]
      exact pd_b_P (by omega) hI.2.2.2.2.1 i (by omega)
    · obtain ⟨b, hb, hne⟩ := st1.2.2.1
      exact ⟨b, hb, by rw [ev b hb]; exact hne⟩
    · intro a A2 h1 h2 h3 hO2
      obtain ⟨c, rfl⟩ : ∃ c, a = 1024 + c := ⟨a - 1024, by omega⟩
      rw [ev c (by omega)] at h3
      refine ⟨rfl, zz_in (pd_Inv_lv hI st1 (fun i hi => ?_) (fun i hi => ?_) (show c < 32 by omega) h3 (fun b hb => ?_)) hRu⟩
      · exact ⟨rfl, rfl, s1 i (by omega)⟩
      · rw [hO2.2 i (fun c => by omega), hO.2 i (fun c => by omega)]
      · have := hO2.1 (1024 + b) ⟨by omega, by omega⟩
        dsimp only at this
        rw [this, ev b hb, ev c (by omega)]
  | succ f ih =>
    intro j hj t X Z S gx gz gp ht ⟨A0, i0⟩ hY
    have hi : vp_in (nI j) 5 := vp_in_nI (by omega) (by decide)
    refine br_f (nI_ge (by omega) (by omega)) ⟨hi, hi, ?_⟩
    rw [nI_clamp (n := j) (by omega)]
    obtain ⟨w, hw, hwant⟩ := pd_and1 (want >>> (nI j &&& 31))
    have qj := hRu.2.1 j (by omega)
    have qb := hq j (by omega)
    have tl : ∀ e, e < 2 → t ^^^ (e * 2 ^ j) < 2 ^ (j + 1) := by
      intro e he
      have hp : 2 ^ (j + 1) = 2 ^ j * 2 := Nat.pow_succ 2 j
      exact pd_xor_lt (n := j + 1) (by omega) (pd_dpow_lt (by omega) (by omega))
    refine pu_measureIn (b := 0) rfl hn (by decide) i0.2.1 i0.2.2.1 qj.1 qj.2 hw hwant ?_ ?_
    · intro sg gx' gz' gp' hs hF
      refine nm_r (e' := nI (t ^^^ (sg * 2 ^ j))) (by rw [(pd_bit_of sg hs).2]; exact px_orw ht (by omega) (by omega)) (nm_r (nI_1 j) ?_)
      refine ih (j + 1) (by omega) _ X Z S _ _ _ (tl sg hs) ⟨A0, i0⟩ (fun P hP => hY P (fun A N hI => ?_))
      refine py_mend_s (X := X) (Z := Z) (S := S) hn hr hq (by omega) ht hs (fun R hR => ?_) hP
      exact py_out_det qb.1 qb.2 hI.2.2.2.2.1 hI.2.2.1.2.2.1 hs (hF _ hI.2.2.1) (hR A N hI (nI sg) (pd_bit_of sg hs).2)
    · intro X' Z' S' gx' gz' gp' hcl hSt hB hs
      obtain ⟨p, hp, hc⟩ := hcl
      refine nm_r (e' := nI (t ^^^ (w * 2 ^ j))) (by rw [(pd_bit_of w hw).1]; exact px_orw ht (by omega) (by omega)) (nm_r (nI_1 j) ?_)
      have nextInv : ∀ A A' : Nat → Int × Int, pd_Inv n X Z S A B a_kept → ∀ c, (∀ i, i < 1024 → A' i = A i) → c < 32 → pd_mz w (qx j) (qz j) (fun b => A (1024 + b)) c ≠ (0, 0) → (∀ b, b < 32 → A' (1024 + b) = pd_lv (pd_mz w (qx j) (qz j) (fun b => A (1024 + b)) c) (pd_mz w (qx j) (qz j) (fun b => A (1024 + b)) b)) → pd_Inv n X' Z' S' A' B a_kept :=
        fun A A' hI c hA hc hne hV => pd_Inv_lv hI (hSt _ hI.2.2.1) hs hA hc hne hV
      have ex : ∃ A', pd_Inv n X' Z' S' A' B a_kept := by
        obtain ⟨c, hc2, hne⟩ := (hSt _ i0.2.2.1).2.2.1
        refine ⟨fun i => if i < 1024 then A0 i else pd_lv (pd_mz w (qx j) (qz j) (fun b => A0 (1024 + b)) c) (pd_mz w (qx j) (qz j) (fun b => A0 (1024 + b)) (i - 1024)), nextInv A0 _ i0 c (fun i hi => if_pos hi) hc2 hne (fun b hb => ?_)⟩
        rw [if_neg (by omega), show 1024 + b - 1024 = b by omega]
      refine ih (j + 1) (by omega) _ X' Z' S' _ _ _ (tl w hw) ex (fun P hP => hY P (fun A N hI => ?_))
      refine py_mend_s (X := X') (Z := Z') (S := S') hn hr hq (by omega) ht hw (fun R hR => ?_) hP
      have bp := hI.2.1 (10 * 0 + (5 + p)) (by omega)
      refine py_out_opn qb.1 qb.2 hI.2.2.2.2.1 hI.2.2.1.2.2.1 hw hwant ⟨_, _, _, bp.1, bp.2.1, hI.2.2.1.2.2.2.1 p (by omega), hc⟩ ?_
      intro A' N' c hA hc2 hne hV
      refine hR A' N' (nextInv A A' hI c hA hc2 hne hV) _ ?_
      rw [Nat.add_comm]; exact (pd_bit_of w hw).1
end
theorem i_vc_mend {k : Nat} {u : SX} {v : SY} (I : i_Rel k u v) (hk : k + 4 ≤ 2049) (v1 : Int32) : wpX_mend (fun r u' => wpY_mend (fun r' v' => r' = r ∧ i_Rel (k + 4) u' v') v v1) u v1 := by
  refine zz_el (P := fun u v => wpX_mend (fun r u' => wpY_mend (fun r' v' => r' = r ∧ i_Rel (k + 4) u' v') v v1) u v1) I ?_
  intro n r X Z S qx qz bs A N B kp g1 g2 g3 g4 g5 g6 h1 h2 h3 h4 h5 h6 h7 i1 i2
  refine ⟨r + 1, px_mend4 (k := k + 4) (W := fun P => wpY_mend P ((nI n), (nI (2 ^ n)), (nI r), g5, g6, (fun jj => pd_I (A jj).1), (fun jj => pd_I (A jj).2), (fun jj => pd_I (N jj).1), (fun jj => pd_I (N jj).2), (fun jj => pd_I (B jj).1), (fun jj => pd_I (B jj).2), kp, (fun jj => nI (qx jj)), (fun jj => nI (qz jj))) v1) i1.1.2 i2 r 0 (by omega) 0 X Z S _ _ _ (by decide) ⟨A, i1⟩ (fun P hP => ⟨r + 1, hP A N i1⟩)⟩
end
section
/-- equations: in digits of cells that are there, with the same solutions as at first, independent -/
def pd_Eq (n r : Nat) (e0 eq : Nat → Nat) : Prop :=
  (∀ i, i < r → eq i < 1024 ∧ ∀ d, n ≤ d % 5 → pd_d (eq i) d = 0) ∧ (∀ c, (∀ i, i < r → pd_on (eq i &&& c) % 2 = 0) ↔ (∀ i, i < r → pd_on (e0 i &&& c) % 2 = 0)) ∧
  (∃ D : Nat → Nat, ∀ i j, i < r → j < r → pd_on (eq i &&& D j) % 2 = if i = j then 1 else 0)
theorem pd_Eq_cg {n r : Nat} {e0 eq eq' : Nat → Nat} (h : pd_Eq n r e0 eq) (e : ∀ i, i < r → eq' i = eq i) : pd_Eq n r e0 eq' := by
  obtain ⟨a, b, D, c⟩ := h
  refine ⟨fun i hi => by rw [e i hi]; exact a i hi, fun c => ?_, D, fun i j hi hj => by rw [e i hi]; exact c i j hi hj⟩
  rw [← b c]
  constructor
  · intro k i hi; rw [← e i hi]; exact k i hi
  · intro k i hi; rw [e i hi]; exact k i hi
theorem pd_Eq_add {n r : Nat} {e0 eq : Nat → Nat} (h : pd_Eq n r e0 eq) {i j : Nat} (hi : i < r) (hj : j < r) (hne : i ≠ j) : pd_Eq n r e0 (pd_u eq i (eq i ^^^ eq j)) := by
  obtain ⟨a, b, D, c⟩ := h
  refine ⟨fun k hk => ?_, fun x => ?_, pd_u D j (D j ^^^ D i), fun k m hk hm => ?_⟩
  · by_cases e : k = i
    · rw [e, pd_u_s]
      have ai := a i hi; have aj := a j hj
      exact ⟨pd_xor1024 ai.1 aj.1, fun d hd => by rw [pd_d_xor', ai.2 d hd, aj.2 d hd]⟩
    · rw [pd_u_n e]; exact a k hk
  · rw [← b x]
    have l := pd_lin_l (eq i) (eq j) x
    constructor
    · intro t k hk
      have tj := t j hj
      rw [pd_u_n (fun e => hne e.symm)] at tj
      by_cases e : k = i
      · have ti := t i hi
        rw [pd_u_s] at ti
        rw [e]; omega
      · have tk := t k hk
        rw [pd_u_n e] at tk
        exact tk
    · intro t k hk
      by_cases e : k = i
      · rw [e, pd_u_s]
        have := t i hi; have := t j hj
        omega
      · rw [pd_u_n e]; exact t k hk
  · have cc := c
    by_cases em : m = j
    · subst em
      rw [pd_u_s]
      by_cases ek : k = i
      · subst ek
        rw [pd_u_s]
        have l1 := pd_lin_l (eq k) (eq m) (D m ^^^ D k)
        have l2 := pd_lin_r (eq k) (D m) (D k)
        have l3 := pd_lin_r (eq m) (D m) (D k)
        have c1 := cc k m hk hm; have c2 := cc k k hk hk; have c3 := cc m m hm hm; have c4 := cc m k hm hk
        rw [if_neg hne] at c1 ⊢
        rw [if_pos rfl] at c2 c3
        rw [if_neg (fun e => hne e.symm)] at c4
        omega
      · rw [pd_u_n ek]
        have l2 := pd_lin_r (eq k) (D m) (D i)
        have c1 := cc k m hk hm; have c2 := cc k i hk hi
        rw [if_neg ek] at c2
        by_cases e3 : k = m
        · rw [if_pos e3] at c1 ⊢; omega
        · rw [if_neg e3] at c1 ⊢; omega
    · rw [pd_u_n em]
      by_cases ek : k = i
      · subst ek
        rw [pd_u_s]
        have l1 := pd_lin_l (eq k) (eq j) (D m)
        have c1 := cc k m hk hm; have c2 := cc j m hj hm
        rw [if_neg (fun e => em e.symm)] at c2
        by_cases e3 : k = m
        · rw [if_pos e3] at c1 ⊢; omega
        · rw [if_neg e3] at c1 ⊢; omega
      · rw [pd_u_n ek]; exact cc k m hk hm
theorem pd_Eq_ne {n r : Nat} {e0 eq : Nat → Nat} (h : pd_Eq n r e0 eq) {i : Nat} (hi : i < r) : eq i ≠ 0 := by
  obtain ⟨_, _, D, c⟩ := h
  intro e
  have := c i i hi hi
  rw [e, Nat.zero_and, pd_on_0, if_pos rfl] at this
  omega
/-- leading digits of the first p equations stand there alone -/
def pd_Ld (r p : Nat) (eq le : Nat → Nat) : Prop := ∀ i, i < p → le i < 10 ∧ pd_d (eq i) (le i) = 1 ∧ ∀ k, k < r → k ≠ i → pd_d (eq k) (le i) = 0
theorem pd_Ld_s {r p t : Nat} {eq eq' le : Nat → Nat} (h : pd_Ld r p eq le) (hp : p < r) (ht : t < 10) (hd : pd_d (eq p) t = 1) (hx : ∀ k, k < r → eq' k = if k ≠ p ∧ pd_d (eq k) t = 1 then eq k ^^^ eq p else eq k) : pd_Ld r (p + 1) eq' (pd_u le p t) := by
  intro i hi
  by_cases e : i = p
  · subst e
    rw [pd_u_s, hx i hp, if_neg (fun k => k.1 rfl)]
    refine ⟨ht, hd, fun k hk hne => ?_⟩
    rw [hx k hk]
    by_cases c : pd_d (eq k) t = 1
    · rw [if_pos ⟨hne, c⟩, pd_d_xor', c, hd]
    · rw [if_neg (fun j => c j.2)]
      have := pd_d_01 (eq k) t
      omega
  · rw [pd_u_n e]
    obtain ⟨a, b, c⟩ := h i (by omega)
    have p0 := c p hp (fun k => e k.symm)
    have same : ∀ k, k < r → pd_d (eq' k) (le i) = pd_d (eq k) (le i) := by
      intro k hk
      rw [hx k hk]
      split
      · rw [pd_d_xor', p0]
        have := pd_d_le (eq k) (le i)
        omega
      · rfl
    refine ⟨a, by rw [same i (by omega)]; exact b, fun k hk hne => by rw [same k hk]; exact c k hk hne⟩
theorem pd_Ld_inj {r p : Nat} {eq le : Nat → Nat} (h : pd_Ld r p eq le) (hp : p ≤ r) {i j : Nat} (hi : i < p) (hj : j < p) (e : le i = le j) : i = j := by
  apply Classical.byContradiction
  intro hne
  have := (h i hi).2.2 j (by omega) (fun k => hne k.symm)
  rw [e, (h j hj).2.1] at this
  omega
/-- the solution for digit d -/
def pd_so (eq le : Nat → Nat) (d m : Nat) : Nat := 2 ^ d ^^^ pd_xs (fun j => pd_d (eq j) d * 2 ^ le j) m
theorem pd_so_d {r : Nat} {eq le : Nat → Nat} (hL : pd_Ld r r eq le) {d : Nat} (hfree : ∀ j, j < r → le j ≠ d) : ∀ m, m ≤ r → ∀ x, pd_d (pd_so eq le d m) x = ((if x = d then 1 else 0) + pd_sm (fun j => pd_d (eq j) d * (if le j = x then 1 else 0)) m) % 2 := by
  intro m hm x
  unfold pd_so
  rw [pd_d_xor', pd_d_pow, pd_d_xs]
  have : pd_sm (fun i => pd_d (pd_d (eq i) d * 2 ^ le i) x) m = pd_sm (fun j => pd_d (eq j) d * (if le j = x then 1 else 0)) m := by
    apply pd_sm_cg
    intro k _
    rw [pd_d_mul _ _ _ (pd_d_le _ _), pd_d_pow]
  rw [this]
  by_cases c : d = x
  · rw [if_pos c, if_pos c.symm]; omega
  · rw [if_neg c, if_neg (fun k => c k.symm)]; omega
/-- what the search for solutions gives -/
def pd_Sol (n r : Nat) (qx qz : Nat → Nat) (ns : Nat) (sol : Nat → Nat) : Prop :=
  ns + r ≤ 10 ∧ (∀ k, k < ns → sol k < 1024 ∧ ∀ j, j < r → pd_cl (qx j) (qz j) (sol k / 32) (sol k % 32) = 0) ∧
  (∀ u v, u < 2 ^ n → v < 2 ^ n → (∀ j, j < r → pd_cl (qx j) (qz j) u v = 0) → pd_sp sol ns (32 * u + v))
theorem pd_e0 {qx qz x z : Nat} (hqx : qx < 32) (hqz : qz < 32) (hz : z < 32) : pd_on ((32 * qz + qx) &&& (32 * x + z)) % 2 = pd_cl qx qz x z := by
  rw [pd_on_and_32 hqz hqx hz]
  unfold pd_cl
  omega
theorem pd_Sol_of {n r ns : Nat} {qx qz eq le sol fd : Nat → Nat} (hn : n ≤ 5) (hr : r ≤ 5) (hq : ∀ j, j < r → qx j < 32 ∧ qz j < 32) (hE : pd_Eq n r (fun j => 32 * qz j + qx j) eq) (hL : pd_Ld r r eq le)
    (hcnt : ns + pd_sm (fun x => pd_in (∃ j, j < r ∧ le j = x ∧ True)) 10 ≤ 10) (hfd : ∀ k, k < ns → fd k < 10 ∧ fd k % 5 < n ∧ (∀ j, j < r → le j ≠ fd k) ∧ sol k = pd_so eq le (fd k) r) (hinj : ∀ k k', k < ns → k' < ns → fd k = fd k' → k = k')
    (hall : ∀ d, d < 10 → d % 5 < n → (∀ j, j < r → le j ≠ d) → ∃ k, k < ns ∧ fd k = d) : pd_Sol n r qx qz ns sol := by
  have h32 := px_2n hn
  have lec : pd_sm (fun x => pd_in (∃ j, j < r ∧ le j = x ∧ True)) 10 = r := by
    rw [pd_cnt (C := 10) (K := r) (G := le) (P := fun _ => True) (fun m hm => (hL m hm).1) (fun m m' hm hm' e => pd_Ld_inj hL (Nat.le_refl r) hm hm' e)]
    have A : ∀ m, pd_sm (fun _ => pd_in True) m = m := by
      intro m
      induction m with
      | zero => rfl
      | succ m ih =>
        show pd_sm (fun _ => pd_in True) m + pd_in True = m + 1
        rw [ih, pd_in_t trivial]
    exact A r
  have solb : ∀ k, k < ns → sol k < 1024 := by
    intro k hk
    obtain ⟨a, _, _, e⟩ := hfd k hk
    rw [e]
    exact pd_xor1024 (show 2 ^ fd k < 2 ^ 10 from Nat.pow_lt_pow_right (by decide) a) (pd_xs_lt (N := 10) (fun j hj => pd_dpow_lt (pd_d_le _ _) (hL j hj).1))
  -- a solution's digits
  have sd : ∀ k, k < ns → ∀ x, (∀ j, j < r → le j ≠ x) → pd_d (sol k) x = if x = fd k then 1 else 0 := by
    intro k hk x hx
    obtain ⟨a, b, c, e⟩ := hfd k hk
    rw [e, pd_so_d hL c r (Nat.le_refl r), pd_sm_0 (fun j hj => by rw [if_neg (hx j hj), Nat.mul_zero])]
    split <;> rfl
  have sl : ∀ k, k < ns → ∀ j, j < r → pd_d (sol k) (le j) = pd_d (eq j) (fd k) := by
    intro k hk j hj
    obtain ⟨a, b, c, e⟩ := hfd k hk
    rw [e, pd_so_d hL c r (Nat.le_refl r), if_neg (c j hj), pd_sm_1 (j := j) hj]
    · rw [if_pos rfl]
      have := pd_d_le (eq j) (fd k)
      omega
    · intro i hi hne
      rw [if_neg (fun e2 => hne (pd_Ld_inj hL (Nat.le_refl r) hi hj e2)), Nat.mul_zero]
  -- all equations hold of a solution
  have sol0 : ∀ k, k < ns → ∀ j, j < r → pd_on (eq j &&& sol k) % 2 = 0 := by
    intro k hk j hj
    obtain ⟨a, b, c, e⟩ := hfd k hk
    have both : eq j &&& sol k = (pd_d (eq j) (fd k) * 2 ^ fd k) ^^^ (pd_d (eq j) (fd k) * 2 ^ le j) := by
      apply pd_d_ext
      intro x
      rw [pd_d_and, pd_d_xor', pd_d_dpow _ _ _ (pd_d_le _ _), pd_d_dpow _ _ _ (pd_d_le _ _)]
      by_cases c1 : fd k = x
      · subst c1
        rw [if_pos rfl, if_neg (c j hj), sd k hk (fd k) c, if_pos rfl]
        have := pd_d_le (eq j) (fd k)
        omega
      · rw [if_neg c1]
        by_cases c2 : le j = x
        · subst c2
          rw [if_pos rfl, sl k hk j hj, (hL j hj).2.1]
          have := pd_d_le (eq j) (fd k)
          omega
        · rw [if_neg c2]
          by_cases c3 : ∀ i, i < r → le i ≠ x
          · rw [sd k hk x c3, if_neg (fun e2 => c1 e2.symm), Nat.mul_zero]
          · have ⟨i, hi, ei⟩ : ∃ i, i < r ∧ le i = x := by
              apply Classical.byContradiction
              intro hno
              exact c3 (fun i hi ei => hno ⟨i, hi, ei⟩)
            have := (hL i hi).2.2 j hj (fun e2 => c2 (by rw [e2]; exact ei))
            rw [ei] at this
            rw [this, Nat.zero_mul]
    have l10 := (hL j hj).1
    have := pd_on_xor (pd_d (eq j) (fd k) * 2 ^ fd k) (pd_d (eq j) (fd k) * 2 ^ le j)
    rw [pd_on_dpow _ a (pd_d_le _ _), pd_on_dpow _ l10 (pd_d_le _ _)] at this
    rw [both]
    omega
  refine ⟨by omega, fun k hk => ⟨solb k hk, fun j hj => ?_⟩, ?_⟩
  · have e := (hE.2.1 (sol k)).mp (sol0 k hk) j hj
    dsimp only at e
    have sb := solb k hk
    rw [← pd_e0 (hq j hj).1 (hq j hj).2 (show sol k % 32 < 32 by omega), show 32 * (sol k / 32) + sol k % 32 = sol k by omega]
    exact e
  · intro u v hu hv hc
    have cd : ∀ d, n ≤ d % 5 → d < 10 → pd_d (32 * u + v) d = 0 := by
      intro d h1 h2
      rw [pd_d32 u (by omega)]
      by_cases c5 : d < 5
      · rw [if_pos c5]; exact pd_d_ge hv (by omega)
      · rw [if_neg c5]; exact pd_d_ge hu (by omega)
    have ec : ∀ j, j < r → pd_on (eq j &&& (32 * u + v)) % 2 = 0 := by
      refine (hE.2.1 (32 * u + v)).mpr (fun j hj => ?_)
      dsimp only
      rw [pd_e0 (hq j hj).1 (hq j hj).2 (by omega)]
      exact hc j hj
    -- what is left when all free digits are taken away
    have left : (32 * u + v) ^^^ pd_xs (fun k => pd_d (32 * u + v) (fd k) * sol k) ns = 0 := by
      have lt : (32 * u + v) ^^^ pd_xs (fun k => pd_d (32 * u + v) (fd k) * sol k) ns < 2 ^ 10 :=
        pd_xor_lt (n := 10) (pd_lt1024 (by omega) (by omega)) (pd_xs_lt (fun k hk => pd_mulx (pd_d_le _ _) (solb k hk)))
      have fr : ∀ x, x < 10 → (∀ j, j < r → le j ≠ x) → pd_d ((32 * u + v) ^^^ pd_xs (fun k => pd_d (32 * u + v) (fd k) * sol k) ns) x = 0 := by
        intro x hx hno
        rw [pd_d_xor', pd_d_xs]
        have e1 : pd_sm (fun k => pd_d (pd_d (32 * u + v) (fd k) * sol k) x) ns = pd_sm (fun k => pd_d (32 * u + v) (fd k) * (if x = fd k then 1 else 0)) ns := by
          apply pd_sm_cg
          intro k hk
          rw [pd_d_mul _ _ _ (pd_d_le _ _), sd k hk x hno]
        rw [e1]
        by_cases c : x % 5 < n
        · obtain ⟨k, hk, ek⟩ := hall x hx c hno
          rw [pd_sm_1 (j := k) hk]
          · rw [ek, if_pos rfl]; omega
          · intro k' hk' hne
            rw [if_neg (fun e2 => hne (hinj k' k hk' hk (by rw [← e2, ek]))), Nat.mul_zero]
        · rw [cd x (by omega) hx, pd_sm_0]
          intro k hk
          rw [if_neg (fun e2 => by have := (hfd k hk).2.1; rw [← e2] at this; omega), Nat.mul_zero]
      have eqs : ∀ j, j < r → pd_on (eq j &&& ((32 * u + v) ^^^ pd_xs (fun k => pd_d (32 * u + v) (fd k) * sol k) ns)) % 2 = 0 := by
        intro j hj
        have l1 := pd_lin_r (eq j) (32 * u + v) (pd_xs (fun k => pd_d (32 * u + v) (fd k) * sol k) ns)
        have l2 := pd_on_xs (fun k => pd_d (32 * u + v) (fd k) * sol k) (eq j) ns
        have l3 : pd_sm (fun k => pd_on ((pd_d (32 * u + v) (fd k) * sol k) &&& eq j)) ns % 2 = 0 := by
          have A : ∀ m, m ≤ ns → pd_sm (fun k => pd_on ((pd_d (32 * u + v) (fd k) * sol k) &&& eq j)) m % 2 = 0 := by
            intro m
            induction m with
            | zero => intro _; rfl
            | succ m ih =>
              intro hm
              have a := ih (by omega)
              have b := sol0 m (by omega) j hj
              show (pd_sm (fun k => pd_on ((pd_d (32 * u + v) (fd k) * sol k) &&& eq j)) m + pd_on ((pd_d (32 * u + v) (fd m) * sol m) &&& eq j)) % 2 = 0
              rcases pd_d_01 (32 * u + v) (fd m) with k | k
              · rw [k, Nat.zero_mul, Nat.zero_and, pd_on_0]; omega
              · rw [k, Nat.one_mul, pd_on_comm]; omega
          exact A ns (Nat.le_refl ns)
        have l4 := ec j hj
        rw [pd_on_comm (pd_xs (fun k => pd_d (32 * u + v) (fd k) * sol k) ns)] at l2
        omega
      apply pd_d_ext_lt (n := 10) lt (by decide)
      intro x hx
      rw [pd_d_0]
      by_cases c : ∀ j, j < r → le j ≠ x
      · exact fr x hx c
      · have ⟨j, hj, ej⟩ : ∃ j, j < r ∧ le j = x := by
          apply Classical.byContradiction
          intro hno
          exact c (fun i hi ei => hno ⟨i, hi, ei⟩)
        have one : eq j &&& ((32 * u + v) ^^^ pd_xs (fun k => pd_d (32 * u + v) (fd k) * sol k) ns) = pd_d ((32 * u + v) ^^^ pd_xs (fun k => pd_d (32 * u + v) (fd k) * sol k) ns) x * 2 ^ x := by
          apply pd_d_ext
          intro y
          rw [pd_d_and, pd_d_dpow _ _ _ (pd_d_le _ _)]
          by_cases c1 : x = y
          · subst c1
            have := (hL j hj).2.1
            rw [ej] at this
            rw [if_pos rfl, this, Nat.one_mul]
          · rw [if_neg c1]
            by_cases y10 : y < 10
            · by_cases c2 : ∀ i, i < r → le i ≠ y
              · rw [fr y y10 c2, Nat.mul_zero]
              · have ⟨i, hi, ei⟩ : ∃ i, i < r ∧ le i = y := by
                  apply Classical.byContradiction
                  intro hno
                  exact c2 (fun i hi ei => hno ⟨i, hi, ei⟩)
                have := (hL i hi).2.2 j hj (fun e2 => c1 (by rw [← ej, e2, ei]))
                rw [ei] at this
                rw [this, Nat.zero_mul]
            · rw [pd_d_ge lt (by omega), Nat.mul_zero]
        have z := eqs j hj
        rw [one, pd_on_dpow _ hx (pd_d_le _ _)] at z
        have := pd_d_le ((32 * u + v) ^^^ pd_xs (fun k => pd_d (32 * u + v) (fd k) * sol k) ns) x
        omega
    have e := pd_xor_eq0 left
    rw [e]
    have : pd_xs (fun k => pd_d (32 * u + v) (fd k) * sol k) ns = pd_xs (fun j => pd_d (pd_xs (fun k => pd_d (32 * u + v) (fd k) * 2 ^ k) ns) j * sol j) ns := by
      apply pd_xs_cg
      intro k hk
      rw [pd_xs_dig (g := fun k => pd_d (32 * u + v) (fd k)) (fun _ => pd_d_le _ _), if_pos hk]
    rw [this]
    exact pd_sp_any sol ns _
end
section
section
variable {f_gatheredX f_gatheredZ f_gatheredPower f_solutions : Int32} {a_kept a_basis a_cost a_nextCost a_addsX a_addsZ : Nat → Int32} {n r : Nat} {X Z S qx qz : Nat → Nat}
theorem px_clead2 {post : SX → Prop} {j t : Nat} {e0 eq le sl : Nat → Nat} (hr : r ≤ 5) (hj : j < r) (ht : t < 10) (hlej : le j = t)
    (h : ∀ eq', pd_Eq n r e0 eq' → (∀ k, k < r → eq' k = if k ≠ j ∧ pd_d (eq k) t = 1 then eq k ^^^ eq j else eq k) → post ((nI n), f_gatheredX, f_gatheredZ, f_gatheredPower, (nI r), f_solutions, (fun jj => nI (X jj)), (fun jj => nI (Z jj)), (fun jj => nI (S jj)), a_kept, (fun jj => nI (qx jj)), (fun jj => nI (qz jj)), a_basis, a_cost, a_nextCost, a_addsX, a_addsZ, (fun jj => nI (eq' jj)), (fun jj => nI (le jj)), (fun jj => nI (sl jj)))) :
    ∀ f i, i + f = r → ∀ eq1 : Nat → Nat, pd_Eq n r e0 eq1 → (∀ k, k < r → eq1 k = if k < i ∧ k ≠ j ∧ pd_d (eq k) t = 1 then eq k ^^^ eq j else eq k) →
      wX_clearLeading_2 post (nI j) (nI n) f_gatheredX f_gatheredZ f_gatheredPower (nI r) f_solutions (f + 1) (nI i) (fun jj => nI (X jj)) (fun jj => nI (Z jj)) (fun jj => nI (S jj)) a_kept (fun jj => nI (qx jj)) (fun jj => nI (qz jj)) a_basis a_cost a_nextCost a_addsX a_addsZ (fun jj => nI (eq1 jj)) (fun jj => nI (le jj)) (fun jj => nI (sl jj)) := by
  have hj5 : vp_in (nI j) 5 := vp_in_nI (by omega) (by decide)
  intro f
  induction f with
  | zero =>
    intro i hi eq1 hE hx
    have e : i = r := by omega
    subst e
    refine br_t (nI_le (by omega) (by omega)) (h eq1 hE (fun k hk => ?_))
    rw [hx k hk]
    by_cases c : k ≠ j ∧ pd_d (eq k) t = 1
    · rw [if_pos ⟨hk, c⟩, if_pos c]
    · rw [if_neg c, if_neg (fun a => c a.2)]
  | succ f ih =>
    intro i hi eq1 hE hx
    refine br_f (nI_ge (by omega) (by omega)) ?_
    have xi := hx i (by omega)
    rw [if_neg (fun k => by omega)] at xi
    have keep : (i = j ∨ pd_d (eq i) t = 0) → wX_clearLeading_2 post (nI j) (nI n) f_gatheredX f_gatheredZ f_gatheredPower (nI r) f_solutions (f + 1) (nI (i + 1)) (fun jj => nI (X jj)) (fun jj => nI (Z jj)) (fun jj => nI (S jj)) a_kept (fun jj => nI (qx jj)) (fun jj => nI (qz jj)) a_basis a_cost a_nextCost a_addsX a_addsZ (fun jj => nI (eq1 jj)) (fun jj => nI (le jj)) (fun jj => nI (sl jj)) := by
      intro hk0
      refine ih (i + 1) (by omega) eq1 hE (fun k hk => ?_)
      rw [hx k hk]
      by_cases c : k < i ∧ k ≠ j ∧ pd_d (eq k) t = 1
      · rw [if_pos c, if_pos ⟨by omega, c.2⟩]
      · rw [if_neg c, if_neg (fun a => ?_)]
        by_cases e2 : k = i
        · rw [e2] at a
          rcases hk0 with k1 | k1
          · exact a.2.1 k1
          · omega
        · exact c ⟨by omega, a.2⟩
    refine pk_eq i j (fun e => nm_r (nI_1 i) (keep (Or.inl e))) (fun e => ⟨hj5, ?_⟩)
    rw [nI_clamp (n := j) (by omega)]
    have ei : vp_in (nI i) 5 := vp_in_nI (by omega) (by decide)
    have b := (hE.1 i (by omega)).1
    dsimp only
    rw [hlej, nI_clamp (n := i) (by omega)]
    refine br_f (nI_pos (by omega)) ⟨ei, hj5, px_digit (by omega) (by omega) ?_⟩
    rw [xi]
    rcases pd_d_01 (eq i) t with d | d
    · rw [d]
      exact br_f (by decide) (nm_r (nI_1 i) (keep (Or.inr d)))
    · rw [d]
      have xj := hx j hj
      rw [if_neg (fun a => a.2.1 rfl)] at xj
      refine br_t rfl ⟨ei, hj5, ei, nm_r (px_upk eq1 i (v := eq1 i ^^^ eq1 j) ?_) (nm_r (nI_1 i) (ih (i + 1) (by omega) _ (pd_Eq_add hE (by omega) hj e) (fun k hk => ?_)))⟩
      · rw [← xi, nx_xor]
      · by_cases e2 : k = i
        · rw [e2, pd_u_s, xi, xj, if_pos ⟨by omega, e, d⟩]
        · rw [pd_u_n e2, hx k hk]
          by_cases c : k < i ∧ k ≠ j ∧ pd_d (eq k) t = 1
          · rw [if_pos c, if_pos ⟨by omega, c.2⟩]
          · rw [if_neg c, if_neg (fun a => c ⟨by omega, a.2⟩)]
theorem px_solved6 {post : Int32 → Prop} {d : Nat} {eq le sl : Nat → Nat} (hr : r ≤ 5) (hd : d < 10) (hb : ∀ i, i < r → eq i < 1024) (hL : pd_Ld r r eq le) (hfree : ∀ j, j < r → le j ≠ d) (h : post (nI (pd_so eq le d r))) :
    ∀ f j, j + f = r → wX_solvedFor_6 post (nI d) (nI n) f_gatheredX f_gatheredZ f_gatheredPower (nI r) f_solutions (fun jj => nI (X jj)) (fun jj => nI (Z jj)) (fun jj => nI (S jj)) a_kept (fun jj => nI (qx jj)) (fun jj => nI (qz jj)) a_basis a_cost a_nextCost a_addsX a_addsZ (fun jj => nI (eq jj)) (fun jj => nI (le jj)) (fun jj => nI (sl jj)) (f + 1) (nI (pd_so eq le d j)) (nI j) := by
  intro f
  induction f with
  | zero =>
    intro j hj
    have e : j = r := by omega
    subst e
    exact br_t (nI_le (by omega) (by omega)) h
  | succ f ih =>
    intro j hj
    have hi : vp_in (nI j) 5 := vp_in_nI (by omega) (by decide)
    have l10 := (hL j (by omega)).1
    have bj := hb j (by omega)
    refine br_f (nI_ge (by omega) (by omega)) ⟨hi, ?_⟩
    rw [nI_clamp (n := j) (by omega)]
    refine br_f (nI_pos (by omega)) ⟨hi, px_digit (by omega) (by omega) ?_⟩
    have nx := ih (j + 1) (by omega)
    have step : pd_so eq le d (j + 1) = pd_so eq le d j ^^^ (pd_d (eq j) d * 2 ^ le j) := by
      unfold pd_so
      rw [Nat.xor_assoc]; rfl
    rcases pd_d_01 (eq j) d with k | k
    · rw [step, k, Nat.zero_mul, Nat.xor_zero] at nx
      rw [k]
      exact br_f (by decide) (nm_r (nI_1 j) nx)
    · rw [step, k] at nx
      rw [k]
      have z : pd_d (pd_so eq le d j) (le j) = 0 := by
        rw [pd_so_d hL hfree j (by omega), if_neg (hfree j (by omega)), pd_sm_0]
        intro i hi2
        rw [if_neg (fun e2 => by have := pd_Ld_inj hL (Nat.le_refl r) (show i < r by omega) (show j < r by omega) e2; omega), Nat.mul_zero]
      exact br_t rfl ⟨hi, nm_r (px_orw' (e := 1) z (by decide) (by omega)) (nm_r (nI_1 j) nx)⟩
theorem px_solve107 {post : SX → Prop} {led : Nat} {eq le : Nat → Nat} (hn : n ≤ 5) (hr : r ≤ 5) (hq : ∀ j, j < r → qx j < 32 ∧ qz j < 32) (hE : pd_Eq n r (fun j => 32 * qz j + qx j) eq) (hL : pd_Ld r r eq le) (hled : led < 1024) (hld : ∀ x, pd_d led x = 1 ↔ ∃ i, i < r ∧ le i = x)
    (h : ∀ ns sol, pd_Sol n r qx qz ns sol → post ((nI n), f_gatheredX, f_gatheredZ, f_gatheredPower, (nI r), (nI ns), (fun jj => nI (X jj)), (fun jj => nI (Z jj)), (fun jj => nI (S jj)), a_kept, (fun jj => nI (qx jj)), (fun jj => nI (qz jj)), a_basis, a_cost, a_nextCost, a_addsX, a_addsZ, (fun jj => nI (eq jj)), (fun jj => nI (le jj)), (fun jj => nI (sol jj)))) :
    ∀ f d, d + f = 10 → ∀ (ns : Nat) (sol fd : Nat → Nat), ns + pd_sm (fun x => pd_in (∃ j, j < r ∧ le j = x ∧ True)) d ≤ d → (∀ k, k < ns → fd k < d ∧ fd k % 5 < n ∧ (∀ j, j < r → le j ≠ fd k) ∧ sol k = pd_so eq le (fd k) r) → (∀ k k', k < ns → k' < ns → fd k = fd k' → k = k') →
      (∀ x, x < d → x % 5 < n → (∀ j, j < r → le j ≠ x) → ∃ k, k < ns ∧ fd k = x) →
      wX_solveRules_107 post (nI led) (nI n) f_gatheredX f_gatheredZ f_gatheredPower (nI r) (f + 1) (nI d) (nI ns) (fun jj => nI (X jj)) (fun jj => nI (Z jj)) (fun jj => nI (S jj)) a_kept (fun jj => nI (qx jj)) (fun jj => nI (qz jj)) a_basis a_cost a_nextCost a_addsX a_addsZ (fun jj => nI (eq jj)) (fun jj => nI (le jj)) (fun jj => nI (sol jj)) := by
  intro f
  induction f with
  | zero =>
    intro d hd ns sol fd hc hfd hinj hall
    have e : d = 10 := by omega
    subst e
    exact br_t (show (10 : Int32) ≤ nI 10 by decide) (h ns sol (pd_Sol_of hn hr hq hE hL hc hfd hinj hall))
  | succ f ih =>
    intro d hd ns sol fd hc hfd hinj hall
    have s1 : pd_sm (fun x => pd_in (∃ j, j < r ∧ le j = x ∧ True)) (d + 1) = pd_sm (fun x => pd_in (∃ j, j < r ∧ le j = x ∧ True)) d + pd_in (∃ j, j < r ∧ le j = d ∧ True) := rfl
    have le1 := pd_in_le (∃ j, j < r ∧ le j = d ∧ True)
    refine br_f (nI_ge (b := 10) (by omega) (by decide)) ⟨by decide, ?_⟩
    have e5 : nI d - nI d / 5 * 5 = nI (d % 5) := pk_rem (d := 5) (by omega) (by decide) (by decide)
    rw [e5]
    have skip : (d % 5 < n → ∃ j, j < r ∧ le j = d) → wX_solveRules_107 post (nI led) (nI n) f_gatheredX f_gatheredZ f_gatheredPower (nI r) (f + 1) (nI (d + 1)) (nI ns) (fun jj => nI (X jj)) (fun jj => nI (Z jj)) (fun jj => nI (S jj)) a_kept (fun jj => nI (qx jj)) (fun jj => nI (qz jj)) a_basis a_cost a_nextCost a_addsX a_addsZ (fun jj => nI (eq jj)) (fun jj => nI (le jj)) (fun jj => nI (sol jj)) := by
      intro hs
      refine ih (d + 1) (by omega) ns sol fd (by omega) (fun k hk => ?_) hinj (fun x hx hx5 hno => ?_)
      · obtain ⟨a, b⟩ := hfd k hk
        exact ⟨by omega, b⟩
      · by_cases e : x = d
        · subst e
          obtain ⟨j, hj, ej⟩ := hs hx5
          exact absurd ej (hno j hj)
        · exact hall x (by omega) hx5 hno
    by_cases c : d % 5 < n
    · refine br_f (nI_ge c (by omega)) (px_digit (by omega) (by omega) ?_)
      rcases pd_d_01 led d with k | k
      · rw [k]
        have free : ∀ j, j < r → le j ≠ d := by
          intro j hj ej
          have := (hld d).mpr ⟨j, hj, ej⟩
          omega
        refine br_t rfl ?_
        have ep : (1 : Int32) <<< (nI d &&& 31) = nI (pd_so eq le d 0) := by
          have e0 : pd_so eq le d 0 = 2 ^ d := by
            unfold pd_so
            rw [show pd_xs (fun j => pd_d (eq j) d * 2 ^ le j) 0 = 0 from rfl, Nat.xor_zero]
          rw [e0]; exact px_pow (by omega)
        refine nm_r ep ⟨r + 1, px_solved6 hr (by omega) (fun i hi => (hE.1 i hi).1) hL free ?_ r 0 (by omega)⟩
        have hi : vp_in (nI ns) 10 := vp_in_nI (by omega) (by decide)
        have in0 : pd_in (∃ j, j < r ∧ le j = d ∧ True) = 0 := pd_in_f (fun ⟨j, hj, ej, _⟩ => free j hj ej)
        rw [nI_clamp (n := ns) (by omega)]
        refine ⟨hi, nm_r (px_upk sol ns rfl) (nm_r (nI_1 ns) (nm_r (nI_1 d) (ih (d + 1) (by omega) (ns + 1) _ (pd_u fd ns d) (by omega) (fun k hk => ?_) (fun k k' hk hk' e => ?_) (fun x hx hx5 hno => ?_))))⟩
        · by_cases e : k = ns
          · rw [e, pd_u_s, pd_u_s]; exact ⟨by omega, c, free, rfl⟩
          · rw [pd_u_n e, pd_u_n e]
            obtain ⟨a, b⟩ := hfd k (by omega)
            exact ⟨by omega, b⟩
        · by_cases e1 : k = ns
          · by_cases e2 : k' = ns
            · omega
            · rw [e1, pd_u_s, pd_u_n e2] at e
              have := (hfd k' (by omega)).1
              omega
          · by_cases e2 : k' = ns
            · rw [e2, pd_u_s, pd_u_n e1] at e
              have := (hfd k (by omega)).1
              omega
            · rw [pd_u_n e1, pd_u_n e2] at e
              exact hinj k k' (by omega) (by omega) e
        · by_cases e : x = d
          · exact ⟨ns, by omega, by rw [pd_u_s]; exact e.symm⟩
          · obtain ⟨k, hk, ek⟩ := hall x (by omega) hx5 hno
            exact ⟨k, by omega, by rw [pd_u_n (by omega)]; exact ek⟩
      · rw [k]
        exact br_f (by decide) (nm_r (nI_1 d) (skip (fun _ => (hld d).mp k)))
    · exact br_t (nI_le (by omega) (by omega)) (nm_r (nI_1 d) (skip (fun k => absurd k c)))
theorem px_solve42 {post : SX → Prop} {sl : Nat → Nat} (hn : n ≤ 5) (hr : r ≤ 5) (hq : ∀ j, j < r → qx j < 32 ∧ qz j < 32)
    (h : ∀ ns sol c1 c2, pd_Sol n r qx qz ns sol → post ((nI n), f_gatheredX, f_gatheredZ, f_gatheredPower, (nI r), (nI ns), (fun jj => nI (X jj)), (fun jj => nI (Z jj)), (fun jj => nI (S jj)), a_kept, (fun jj => nI (qx jj)), (fun jj => nI (qz jj)), a_basis, a_cost, a_nextCost, a_addsX, a_addsZ, c1, c2, (fun jj => nI (sol jj)))) :
    ∀ f j, j + f = r → ∀ (led : Nat) (eq le : Nat → Nat), pd_Eq n r (fun j => 32 * qz j + qx j) eq → pd_Ld r j eq le → led < 1024 → (∀ x, pd_d led x = 1 ↔ ∃ i, i < j ∧ le i = x) →
      wX_solveRules_42 post (f + 1) (nI led) (nI j) (nI n) f_gatheredX f_gatheredZ f_gatheredPower (nI r) f_solutions (fun jj => nI (X jj)) (fun jj => nI (Z jj)) (fun jj => nI (S jj)) a_kept (fun jj => nI (qx jj)) (fun jj => nI (qz jj)) a_basis a_cost a_nextCost a_addsX a_addsZ (fun jj => nI (eq jj)) (fun jj => nI (le jj)) (fun jj => nI (sl jj)) := by
  intro f
  induction f with
  | zero =>
    intro j hj led eq le hE hL hled hld
    have e : j = r := by omega
    subst e
    refine br_t (nI_le (by omega) (by omega)) ⟨11, ?_⟩
    refine px_solve107 hn hr hq hE hL hled hld (fun ns sol hS => h ns sol _ _ hS) 10 0 rfl 0 sl (fun _ => 0) (Nat.le_refl 0) (fun k hk => absurd hk (Nat.not_lt_zero k)) (fun k k' hk => absurd hk (Nat.not_lt_zero k)) (fun x hx => absurd hx (Nat.not_lt_zero x))
  | succ f ih =>
    intro j hj led eq le hE hL hled hld
    have hi : vp_in (nI j) 5 := vp_in_nI (by omega) (by decide)
    have bj := (hE.1 j (by omega)).1
    refine br_f (nI_ge (by omega) (by omega)) ⟨hi, ?_⟩
    rw [nI_clamp (n := j) (by omega)]
    refine px_top bj (fun t ht d1 dh => ⟨hi, nm_r (px_upk le j rfl) ⟨hi, ?_⟩⟩) (fun e => absurd e (pd_Eq_ne hE (by omega)))
    have us : pd_u le j t j = t := pd_u_s le j t
    dsimp only
    rw [us]
    refine br_t (nI_pos' (by omega)) ⟨hi, ?_⟩
    have lt0 : pd_d led t = 0 := by
      rcases pd_d_01 led t with k | k
      · exact k
      · obtain ⟨i, hi2, ei⟩ := (hld t).mp k
        have := (hL i hi2).2.2 j (by omega) (by omega)
        rw [ei] at this
        omega
    unfold wX_solveRules_87
    rw [px_pow (q := t) (by omega)]
    have eo : nI led ||| nI (2 ^ t) = nI (led ^^^ 2 ^ t) := by
      have := pd_or_x' (a := led) (e := 1) (q := t) lt0 (by decide)
      rw [Nat.one_mul] at this
      rw [px_or, this]
    refine nm_r eo ⟨r + 1, ?_⟩
    refine px_clead2 (t := t) (eq := eq) hr (by omega) ht us (fun eq' hE' hx => ?_) r 0 (by omega) eq hE (fun k hk => ?_)
    · refine nm_r (nI_1 j) (ih (j + 1) (by omega) _ eq' (pd_u le j t) hE' (pd_Ld_s hL (by omega) ht d1 hx) ?_ (fun x => ?_))
      · exact pd_xor1024 hled (show 2 ^ t < 2 ^ 10 from Nat.pow_lt_pow_right (by decide) ht)
      · rw [pd_d_xor', pd_d_pow]
        have := pd_d_le led x
        by_cases c : t = x
        · subst c
          rw [if_pos rfl, lt0]
          exact ⟨fun _ => ⟨j, by omega, us⟩, fun _ => rfl⟩
        · rw [if_neg c]
          constructor
          · intro k
            obtain ⟨i, hi2, ei⟩ := (hld x).mp (by omega)
            exact ⟨i, by omega, by rw [pd_u_n (by omega)]; exact ei⟩
          · intro ⟨i, hi2, ei⟩
            by_cases e2 : i = j
            · rw [e2, us] at ei; exact absurd ei c
            · rw [pd_u_n e2] at ei
              have := (hld x).mpr ⟨i, by omega, ei⟩
              omega
    · rw [if_neg (fun a => absurd a.1 (Nat.not_lt_zero k))]
theorem px_solve4 {post : SX → Prop} {le sl : Nat → Nat} (hn : n ≤ 5) (hr : r ≤ 5) (hq : ∀ j, j < r → qx j < 32 ∧ qz j < 32) (hE0 : pd_Eq n r (fun j => 32 * qz j + qx j) (fun j => 32 * qz j + qx j))
    (h : ∀ ns sol c1 c2, pd_Sol n r qx qz ns sol → post ((nI n), f_gatheredX, f_gatheredZ, f_gatheredPower, (nI r), (nI ns), (fun jj => nI (X jj)), (fun jj => nI (Z jj)), (fun jj => nI (S jj)), a_kept, (fun jj => nI (qx jj)), (fun jj => nI (qz jj)), a_basis, a_cost, a_nextCost, a_addsX, a_addsZ, c1, c2, (fun jj => nI (sol jj)))) :
    ∀ f j, j + f = r → ∀ eq : Nat → Nat, (∀ i, i < j → eq i = 32 * qz i + qx i) →
      wX_solveRules_4 post 0 (nI n) f_gatheredX f_gatheredZ f_gatheredPower (nI r) f_solutions (f + 1) (nI j) (fun jj => nI (X jj)) (fun jj => nI (Z jj)) (fun jj => nI (S jj)) a_kept (fun jj => nI (qx jj)) (fun jj => nI (qz jj)) a_basis a_cost a_nextCost a_addsX a_addsZ (fun jj => nI (eq jj)) (fun jj => nI (le jj)) (fun jj => nI (sl jj)) := by
  intro f
  induction f with
  | zero =>
    intro j hj eq hq0
    have e : j = r := by omega
    subst e
    refine br_t (nI_le (by omega) (by omega)) ⟨j + 1, ?_⟩
    refine px_solve42 hn hr hq h j 0 (by omega) 0 eq le (pd_Eq_cg hE0 hq0) (fun i hi => absurd hi (Nat.not_lt_zero i)) (by decide) (fun x => ?_)
    rw [pd_d_0]
    exact ⟨fun k => by omega, fun ⟨i, hi, _⟩ => absurd hi (Nat.not_lt_zero i)⟩
  | succ f ih =>
    intro j hj eq hq0
    have hi : vp_in (nI j) 5 := vp_in_nI (by omega) (by decide)
    refine br_f (nI_ge (by omega) (by omega)) ⟨hi, hi, hi, ?_⟩
    rw [nI_clamp (n := j) (by omega)]
    have ev : (32 : Int32) * nI (qz j) + nI (qx j) = nI (32 * qz j + qx j) := by
      show nI 32 * nI _ + nI _ = _
      rw [pk_mul, nI_add]
    refine nm_r (px_upk eq j ev) (nm_r (nI_1 j) (ih (j + 1) (by omega) _ (fun i hi2 => ?_)))
    by_cases e : i = j
    · rw [e, pd_u_s]
    · rw [pd_u_n e]; exact hq0 i (by omega)
end
theorem pd_Eq_0 {n r : Nat} {qx qz bs : Nat → Nat} (hn : n ≤ 5) (h : pd_Ru n r qx qz bs) : pd_Eq n r (fun j => 32 * qz j + qx j) (fun j => 32 * qz j + qx j) := by
  have h32 := px_2n hn
  have hq := pd_Ru_b hn h
  obtain ⟨D, E, hD⟩ := h.2.2.2.1
  refine ⟨fun i hi => ⟨pd_lt1024 (hq i hi).2 (hq i hi).1, fun d hd => ?_⟩, fun c => Iff.rfl, fun j => 32 * D j + E j, fun i j hi hj => ?_⟩
  · have b := h.2.1 i hi
    rw [pd_d32 _ (hq i hi).1]
    by_cases c : d < 5
    · rw [if_pos c]; exact pd_d_ge b.1 (by omega)
    · rw [if_neg c]
      by_cases c2 : d < 10
      · exact pd_d_ge b.2 (by omega)
      · exact pd_d_ge (n := 5) (hq i hi).2 (by omega)
  · have b := hD j hj
    rw [pd_e0 (hq i hi).1 (hq i hi).2 (by omega)]
    exact b.2.2 i hi
section
variable {f_gatheredX f_gatheredZ f_gatheredPower f_rules f_solutions : Int32} {a_kept a_ruleX a_ruleZ a_basis a_cost a_nextCost a_addsX a_addsZ a_equation a_leading a_solution : Nat → Int32} {n : Nat} {X Z S : Nat → Nat}
theorem px_solveRules {post : SX → Prop} {r : Nat} {qx qz bs : Nat → Nat} (hn : n ≤ 5) (hRu : pd_Ru n r qx qz bs)
    (h : ∀ ns sol c1 c2, pd_Sol n r qx qz ns sol → post ((nI n), f_gatheredX, f_gatheredZ, f_gatheredPower, (nI r), (nI ns), (fun jj => nI (X jj)), (fun jj => nI (Z jj)), (fun jj => nI (S jj)), a_kept, (fun jj => nI (qx jj)), (fun jj => nI (qz jj)), a_basis, a_cost, a_nextCost, a_addsX, a_addsZ, c1, c2, (fun jj => nI (sol jj)))) :
    wpX_solveRules post ((nI n), f_gatheredX, f_gatheredZ, f_gatheredPower, (nI r), f_solutions, (fun jj => nI (X jj)), (fun jj => nI (Z jj)), (fun jj => nI (S jj)), a_kept, (fun jj => nI (qx jj)), (fun jj => nI (qz jj)), a_basis, a_cost, a_nextCost, a_addsX, a_addsZ, a_equation, a_leading, a_solution) := by
  obtain ⟨eq, rfl⟩ := px_fun a_equation
  obtain ⟨le, rfl⟩ := px_fun a_leading
  obtain ⟨sl, rfl⟩ := px_fun a_solution
  exact ⟨r + 1, px_solve4 hn hRu.1 (pd_Ru_b hn hRu) (pd_Eq_0 hn hRu) h r 0 (by omega) eq (fun i hi => absurd hi (Nat.not_lt_zero i))⟩
end
end
section
theorem pd_or_shl {a b r : Nat} (ha : a < 2 ^ r) : a ||| (b * 2 ^ r) = a ^^^ (b * 2 ^ r) := by
  apply Nat.eq_of_testBit_eq
  intro i
  rw [Nat.testBit_or, Nat.testBit_xor]
  by_cases c : i < r
  · have : (b * 2 ^ r).testBit i = false := by
      rw [Nat.testBit_mul_two_pow]
      simp only [show ¬ r ≤ i by omega, decide_false, Bool.false_and]
    rw [this]
    cases a.testBit i <;> rfl
  · have : a.testBit i = false := pd_d_f.mp (pd_d_ge ha (by omega))
    rw [this]
    cases (b * 2 ^ r).testBit i <;> rfl
theorem pd_shl_x (a b r : Nat) : (a ^^^ b) * 2 ^ r = (a * 2 ^ r) ^^^ (b * 2 ^ r) := by
  rw [← Nat.shiftLeft_eq, ← Nat.shiftLeft_eq, ← Nat.shiftLeft_eq, Nat.shiftLeft_xor_distrib]
/-- both syndromes side by side -/
def pd_L2 (qx qz sol : Nat → Nat) (r ns x z : Nat) : Nat := pd_sy qx qz r x z ^^^ (pd_sy (fun k => sol k / 32) (fun k => sol k % 32) ns x z * 2 ^ r)
theorem pd_L2_lin (qx qz sol : Nat → Nat) (r ns x z x' z' : Nat) : pd_L2 qx qz sol r ns (x ^^^ x') (z ^^^ z') = pd_L2 qx qz sol r ns x z ^^^ pd_L2 qx qz sol r ns x' z' := by
  unfold pd_L2
  rw [pd_sy_lin, pd_sy_lin, pd_shl_x, Nat.xor_assoc, Nat.xor_assoc]
  congr 1
  rw [← Nat.xor_assoc, ← Nat.xor_assoc, Nat.xor_comm (pd_sy qx qz r x' z')]
theorem pd_L2_lt (qx qz sol : Nat → Nat) (r ns x z : Nat) : pd_L2 qx qz sol r ns x z < 2 ^ (r + ns) := by
  apply pd_xor_lt
  · exact Nat.lt_of_lt_of_le (pd_sy_lt _ _ _ _ _) (Nat.pow_le_pow_right (by decide) (by omega))
  · have := pd_sy_lt (fun k => sol k / 32) (fun k => sol k % 32) ns x z
    rw [Nat.pow_add, Nat.mul_comm]
    exact Nat.mul_lt_mul_of_pos_left this (Nat.two_pow_pos r)
theorem pd_L2_iff {qx qz sol : Nat → Nat} {r ns x z t : Nat} : pd_L2 qx qz sol r ns x z = t * 2 ^ r ↔ pd_sy qx qz r x z = 0 ∧ pd_sy (fun k => sol k / 32) (fun k => sol k % 32) ns x z = t := by
  have l := pd_sy_lt qx qz r x z
  have p := Nat.two_pow_pos r
  unfold pd_L2
  constructor
  · intro h
    have h1 : (pd_sy qx qz r x z ^^^ (pd_sy (fun k => sol k / 32) (fun k => sol k % 32) ns x z * 2 ^ r)) % 2 ^ r = t * 2 ^ r % 2 ^ r := by rw [h]
    have h2 : (pd_sy qx qz r x z ^^^ (pd_sy (fun k => sol k / 32) (fun k => sol k % 32) ns x z * 2 ^ r)) / 2 ^ r = t * 2 ^ r / 2 ^ r := by rw [h]
    rw [Nat.xor_mod_two_pow, Nat.mod_eq_of_lt l, Nat.mul_mod_left, Nat.mul_mod_left, Nat.xor_zero] at h1
    rw [Nat.xor_div_two_pow, Nat.div_eq_of_lt l, Nat.mul_div_cancel _ p, Nat.mul_div_cancel _ p, Nat.zero_xor] at h2
    exact ⟨h1, h2⟩
  · intro ⟨h1, h2⟩
    rw [h1, h2, Nat.zero_xor]
/-- of the products that commute with all rules, those made of them are those that commute with all solutions -/
theorem pd_Sol_md {n r ns : Nat} {qx qz bs sol : Nat → Nat} (hn : n ≤ 5) (hRu : pd_Ru n r qx qz bs) (hS : pd_Sol n r qx qz ns sol) {x z : Nat} (hx : x < 2 ^ n) (hz : z < 2 ^ n) :
    pd_md qx qz r x z ↔ pd_sy (fun k => sol k / 32) (fun k => sol k % 32) ns x z = 0 := by
  have h32 := px_2n hn
  have hq := pd_Ru_b hn hRu
  rw [pd_sy_0]
  constructor
  · intro ⟨m, hm, e1, e2⟩ k hk
    rw [← e1, ← e2, pd_cl_xs, pd_sm_0]
    intro j hj
    rw [pd_cl_d _ _ _ _ _ (pd_d_le m j), pd_cl_comm, (hS.2.1 k hk).2 j hj, Nat.mul_zero]
  · intro hcl
    rw [pd_md_sp (fun j hj => (hq j hj).2) (by omega)]
    apply Classical.byContradiction
    intro hno
    obtain ⟨u, v, hu, hv, huv, hxz⟩ := pd_newdual hn hRu.2.1 hx hz hno
    obtain ⟨m, hm, e⟩ := hS.2.2 u v hu hv huv
    have sb : ∀ k, k < ns → sol k % 32 < 32 := fun k _ => by omega
    have cg : pd_xs (fun j => pd_d m j * sol j) ns = pd_xs (fun j => pd_d m j * (32 * (sol j / 32) + sol j % 32)) ns := pd_xs_cg (fun k _ => by rw [show 32 * (sol k / 32) + sol k % 32 = sol k by omega])
    obtain ⟨lt, e2⟩ := pd_xs_32 (x := fun k => sol k / 32) (z := fun k => sol k % 32) (e := fun k => pd_d m k) (r := ns) (fun j _ => pd_d_le m j) sb
    rw [cg, e2] at e
    have eu : u = pd_xs (fun j => pd_d m j * (sol j / 32)) ns := by omega
    have ev : v = pd_xs (fun j => pd_d m j * (sol j % 32)) ns := by omega
    rw [eu, ev, pd_cl_xs, pd_sm_0] at hxz
    · omega
    · intro k hk
      have := hcl k hk
      rw [pd_cl_d _ _ _ _ _ (pd_d_le m k), pd_cl_comm, this, Nat.mul_zero]
section
variable {f_gatheredX f_gatheredZ f_gatheredPower f_rules f_solutions : Int32} {a_kept a_ruleX a_ruleZ a_basis a_cost a_nextCost a_addsX a_addsZ a_equation a_leading a_solution : Nat → Int32} {n : Nat} {X Z S : Nat → Nat}
theorem px_clashes5 {post : Int32 → Prop} {ns x z : Nat} {sol : Nat → Nat} (hns : ns ≤ 10) (hs : ∀ k, k < ns → sol k < 1024) (h : post (nI (pd_sy (fun k => sol k / 32) (fun k => sol k % 32) ns x z))) :
    ∀ f k, k + f = ns → wX_clashes_5 post (nI x) (nI z) (nI n) f_gatheredX f_gatheredZ f_gatheredPower f_rules (nI ns) (fun jj => nI (X jj)) (fun jj => nI (Z jj)) (fun jj => nI (S jj)) a_kept a_ruleX a_ruleZ a_basis a_cost a_nextCost a_addsX a_addsZ a_equation a_leading (fun jj => nI (sol jj)) (f + 1) (nI (pd_sy (fun k => sol k / 32) (fun k => sol k % 32) k x z)) (nI k) := by
  intro f
  induction f with
  | zero =>
    intro k hk
    have e : k = ns := by omega
    subst e
    exact br_t (nI_le (by omega) (by omega)) h
  | succ f ih =>
    intro k hk
    have hi : vp_in (nI k) 10 := vp_in_nI (by omega) (by decide)
    have b := hs k (by omega)
    refine br_f (nI_ge (by omega) (by omega)) ⟨hi, hi, ?_⟩
    rw [nI_clamp (n := k) (by omega)]
    have e1 : nI (sol k) >>> ((5 : Int32) &&& 31) = nI (sol k / 32) := pk_shrN (by omega) _ 5 (by decide)
    have e2 : nI (sol k) &&& 31 = nI (sol k % 32) := pk_andN (m := 31) (by omega) 5 (by decide)
    rw [e1, e2]
    refine px_clash (by omega) (by omega) (nm_r (px_orw (pd_sy_lt _ _ _ _ _) (pd_le1 (pd_cl_lt _ _ _ _)) (by omega)) (nm_r (nI_1 k) ?_))
    exact ih (k + 1) (by omega)
theorem px_clashes {post : Int32 → Prop} {ns x z : Nat} {sol : Nat → Nat} (hns : ns ≤ 10) (hs : ∀ k, k < ns → sol k < 1024) (h : post (nI (pd_sy (fun k => sol k / 32) (fun k => sol k % 32) ns x z))) :
    wpX_clashes post ((nI n), f_gatheredX, f_gatheredZ, f_gatheredPower, f_rules, (nI ns), (fun jj => nI (X jj)), (fun jj => nI (Z jj)), (fun jj => nI (S jj)), a_kept, a_ruleX, a_ruleZ, a_basis, a_cost, a_nextCost, a_addsX, a_addsZ, a_equation, a_leading, (fun jj => nI (sol jj))) (nI x) (nI z) := ⟨ns + 1, px_clashes5 hns hs h ns 0 (by omega)⟩
theorem px_dist94 {post : Int32 → SX → Prop} {r ns : Nat} {cost : Nat → Nat} (hR : r + ns ≤ 10) (hco : ∀ t, t < 2 ^ ns → cost (t * 2 ^ r) ≤ 1000000)
    (h0 : (∀ i, 1 ≤ i → i < 2 ^ ns → 1000000 ≤ cost (i * 2 ^ r)) → post 0 ((nI n), f_gatheredX, f_gatheredZ, f_gatheredPower, (nI r), (nI ns), (fun jj => nI (X jj)), (fun jj => nI (Z jj)), (fun jj => nI (S jj)), a_kept, a_ruleX, a_ruleZ, a_basis, (fun jj => nI (cost jj)), a_nextCost, a_addsX, a_addsZ, a_equation, a_leading, a_solution))
    (h1 : ∀ i, 1 ≤ i → i < 2 ^ ns → cost (i * 2 ^ r) ≠ 1000000 → (∀ k, 1 ≤ k → k < 2 ^ ns → cost (i * 2 ^ r) ≤ cost (k * 2 ^ r)) → post (nI (cost (i * 2 ^ r) / 2048)) ((nI n), f_gatheredX, f_gatheredZ, f_gatheredPower, (nI r), (nI ns), (fun jj => nI (X jj)), (fun jj => nI (Z jj)), (fun jj => nI (S jj)), a_kept, a_ruleX, a_ruleZ, a_basis, (fun jj => nI (cost jj)), a_nextCost, a_addsX, a_addsZ, a_equation, a_leading, a_solution)) :
    ∀ f t, t + f = 2 ^ ns → 1 ≤ t → ∀ m : Nat, m ≤ 1000000 → (∀ i, 1 ≤ i → i < t → m ≤ cost (i * 2 ^ r)) → (m = 1000000 ∨ ∃ i, 1 ≤ i ∧ i < t ∧ m = cost (i * 2 ^ r)) →
      wX_distance_94 post (nI n) f_gatheredX f_gatheredZ f_gatheredPower (nI r) (nI ns) (fun jj => nI (X jj)) (fun jj => nI (Z jj)) (fun jj => nI (S jj)) a_kept a_ruleX a_ruleZ a_basis (fun jj => nI (cost jj)) a_nextCost a_addsX a_addsZ a_equation a_leading a_solution (f + 1) (nI m) (nI t) := by
  have n10 : 2 ^ ns ≤ 1024 := show 2 ^ ns ≤ 2 ^ 10 from Nat.pow_le_pow_right (by decide) (by omega)
  have e2 : (1 : Int32) <<< (nI ns &&& 31) = nI (2 ^ ns) := px_pow (by omega)
  intro f
  induction f with
  | zero =>
    intro t ht ht1 m hm hle hat
    refine br_t (by rw [e2]; exact nI_le (by omega) (by omega)) ?_
    refine pk_eq m 1000000 (fun e => h0 (fun i h1 h2 => ?_)) (fun e => ⟨by decide, ?_⟩)
    · have := hle i h1 (by omega)
      omega
    · have ed : nI m / 2048 = nI (m / 2048) := pk_div (d := 2048) (by omega) (by decide) (by decide)
      rw [ed]
      rcases hat with k | ⟨i, a1, a2, a3⟩
      · exact absurd k e
      · rw [a3]
        rw [a3] at e hle
        exact h1 i a1 (by omega) e (fun k b1 b2 => hle k b1 (by omega))
  | succ f ih =>
    intro t ht ht1 m hm hle hat
    have lt : t * 2 ^ r < 1024 := by
      have a : t * 2 ^ r < 2 ^ ns * 2 ^ r := Nat.mul_lt_mul_of_pos_right (by omega) (Nat.two_pow_pos r)
      rw [← Nat.pow_add] at a
      have : 2 ^ (ns + r) ≤ 2 ^ 10 := Nat.pow_le_pow_right (by decide) (by omega)
      omega
    have es : nI t <<< (nI r &&& 31) = nI (t * 2 ^ r) := px_shl (by omega) (by omega)
    have ct := hco t (by omega)
    refine br_f (by rw [e2]; exact nI_ge (by omega) (by omega)) ?_
    rw [es, nI_clamp (n := t * 2 ^ r) (by omega)]
    refine ⟨vp_in_nI lt (by decide), nm_e (pk_le m (cost (t * 2 ^ r)) (fun c => ?_) (fun c => ?_))⟩
    · refine nm_r (nI_1 t) (ih (t + 1) (by omega) (by omega) m hm (fun i a1 a2 => ?_) ?_)
      · by_cases e : i = t
        · rw [e]; exact c
        · exact hle i a1 (by omega)
      · rcases hat with k | ⟨i, a1, a2, a3⟩
        · exact Or.inl k
        · exact Or.inr ⟨i, a1, by omega, a3⟩
    · refine nm_r (nI_1 t) (ih (t + 1) (by omega) (by omega) (cost (t * 2 ^ r)) ct (fun i a1 a2 => ?_) (Or.inr ⟨t, ht1, by omega, rfl⟩))
      by_cases e : i = t
      · rw [e]; exact Nat.le_refl _
      · have := hle i a1 (by omega)
        omega
theorem px_dist6 {post : Int32 → SX → Prop} {r ns : Nat} {qx qz sol : Nat → Nat} (hn : n ≤ 5) (hr : r ≤ 5) (hq : ∀ j, j < r → qx j < 32 ∧ qz j < 32) (hR : r + ns ≤ 10) (hs : ∀ k, k < ns → sol k < 1024)
    (h0 : ∀ c1 c2 c3 c4, (∀ x z, x < 2 ^ n → z < 2 ^ n → pd_sy qx qz r x z = 0 → pd_sy (fun k => sol k / 32) (fun k => sol k % 32) ns x z = 0) → post 0 ((nI n), f_gatheredX, f_gatheredZ, f_gatheredPower, (nI r), (nI ns), (fun jj => nI (X jj)), (fun jj => nI (Z jj)), (fun jj => nI (S jj)), a_kept, (fun jj => nI (qx jj)), (fun jj => nI (qz jj)), a_basis, c1, c2, c3, c4, a_equation, a_leading, (fun jj => nI (sol jj))))
    (h1 : ∀ c1 c2 c3 c4 x z, x < 2 ^ n → z < 2 ^ n → pd_sy qx qz r x z = 0 → pd_sy (fun k => sol k / 32) (fun k => sol k % 32) ns x z ≠ 0 →
      (∀ x' z', x' < 2 ^ n → z' < 2 ^ n → pd_sy qx qz r x' z' = 0 → pd_sy (fun k => sol k / 32) (fun k => sol k % 32) ns x' z' ≠ 0 → pd_val n x z ≤ pd_val n x' z') → post (nI (pd_wt x z n)) ((nI n), f_gatheredX, f_gatheredZ, f_gatheredPower, (nI r), (nI ns), (fun jj => nI (X jj)), (fun jj => nI (Z jj)), (fun jj => nI (S jj)), a_kept, (fun jj => nI (qx jj)), (fun jj => nI (qz jj)), a_basis, c1, c2, c3, c4, a_equation, a_leading, (fun jj => nI (sol jj)))) :
    ∀ f q, q + f = n → ∀ ax az : Nat → Nat, (∀ i, i < q → ax i = pd_L2 qx qz sol r ns (2 ^ i) 0) → (∀ i, i < q → az i = pd_L2 qx qz sol r ns 0 (2 ^ i)) →
      wX_distance_6 post (nI n) f_gatheredX f_gatheredZ f_gatheredPower (nI r) (nI ns) (f + 1) (nI q) (fun jj => nI (X jj)) (fun jj => nI (Z jj)) (fun jj => nI (S jj)) a_kept (fun jj => nI (qx jj)) (fun jj => nI (qz jj)) a_basis a_cost a_nextCost (fun jj => nI (ax jj)) (fun jj => nI (az jj)) a_equation a_leading (fun jj => nI (sol jj)) := by
  have h32 := px_2n hn
  have n10 : 2 ^ ns ≤ 1024 := show 2 ^ ns ≤ 2 ^ 10 from Nat.pow_le_pow_right (by decide) (by omega)
  intro f
  induction f with
  | zero =>
    intro q hq0 ax az hax haz
    have e : q = n := by omega
    subst e
    refine br_t (nI_le (by omega) (by omega)) ?_
    refine px_findCosts (nI_add r ns) hn (by omega) (fun i hi => by rw [hax i hi]; exact pd_L2_lt _ _ _ _ _ _ _) (fun i hi => by rw [haz i hi]; exact pd_L2_lt _ _ _ _ _ _ _) (fun cost next hC => ⟨2 ^ ns, ?_⟩)
    have lin : ∀ x z, x < 2 ^ q → z < 2 ^ q → pd_sig ax az q x z = pd_L2 qx qz sol r ns x z := by
      intro x z hx hz
      have := pd_sig_lin (L := pd_L2 qx qz sol r ns) (pd_L2_lin qx qz sol r ns) hax haz x z q (Nat.le_refl q)
      rw [Nat.mod_eq_of_lt hx, Nat.mod_eq_of_lt hz] at this
      exact this
    have lt : ∀ t, t < 2 ^ ns → t * 2 ^ r < 2 ^ (r + ns) := by
      intro t ht
      rw [Nat.pow_add, Nat.mul_comm]
      exact Nat.mul_lt_mul_of_pos_left ht (Nat.two_pow_pos r)
    have p1 : 1 ≤ 2 ^ ns := Nat.two_pow_pos ns
    have go := px_dist94 (post := post) (f_gatheredX := f_gatheredX) (f_gatheredZ := f_gatheredZ) (f_gatheredPower := f_gatheredPower) (n := q) (X := X) (Z := Z) (S := S) (a_kept := a_kept) (a_ruleX := fun jj => nI (qx jj)) (a_ruleZ := fun jj => nI (qz jj)) (a_basis := a_basis) (a_nextCost := fun jj => nI (next jj)) (a_addsX := fun jj => nI (ax jj)) (a_addsZ := fun jj => nI (az jj)) (a_equation := a_equation) (a_leading := a_leading) (a_solution := fun jj => nI (sol jj)) (cost := cost) hR (fun t ht => pd_Co_b hC hn (lt t ht)) (fun hall => ?_) (fun i i1 i2 ine imin => ?_) (2 ^ ns - 1) 1 (by omega) (Nat.le_refl 1) 1000000 (Nat.le_refl _) (fun i a1 a2 => by omega) (Or.inl rfl)
    · rw [show 2 ^ ns - 1 + 1 = 2 ^ ns by omega] at go
      exact go
    · refine h0 _ _ _ _ (fun x z hx hz hsy => ?_)
      apply Classical.byContradiction
      intro hne
      have sl := pd_sy_lt (fun k => sol k / 32) (fun k => sol k % 32) ns x z
      have := (hC _ (lt _ sl)).1 x z hx hz (by rw [lin x z hx hz]; exact pd_L2_iff.mpr ⟨hsy, rfl⟩)
      have v := pd_val_le (m := q) (x := x) (z := z) hn (by omega) (by omega)
      have w := hall _ (by omega) sl
      omega
    · rcases (hC _ (lt i i2)).2 with e | ⟨x, z, hx, hz, hsg, hv⟩
      · exact absurd e ine
      · rw [lin x z hx hz] at hsg
        obtain ⟨s1, s2⟩ := pd_L2_iff.mp hsg
        have ew : cost (i * 2 ^ r) / 2048 = pd_wt x z q := by
          rw [hv]; unfold pd_val; omega
        rw [ew]
        refine h1 _ _ _ _ x z hx hz s1 (by omega) (fun x' z' hx' hz' hs' hne' => ?_)
        have sl := pd_sy_lt (fun k => sol k / 32) (fun k => sol k % 32) ns x' z'
        have a := (hC _ (lt _ sl)).1 x' z' hx' hz' (by rw [lin x' z' hx' hz']; exact pd_L2_iff.mpr ⟨hs', rfl⟩)
        have b := imin _ (by omega) sl
        omega
  | succ f ih =>
    intro q hq0 ax az hax haz
    have q2n : 2 ^ q < 2 ^ n := Nat.pow_lt_pow_right (by decide) (by omega)
    have ep : (1 : Int32) <<< (nI q &&& 31) = nI (2 ^ q) := px_pow (by omega)
    have hi : vp_in (nI q) 5 := vp_in_nI (by omega) (by decide)
    have eor : ∀ x z, nI (pd_sy qx qz r x z) ||| (nI (pd_sy (fun k => sol k / 32) (fun k => sol k % 32) ns x z) <<< (nI r &&& 31)) = nI (pd_L2 qx qz sol r ns x z) := by
      intro x z
      have sl := pd_sy_lt (fun k => sol k / 32) (fun k => sol k % 32) ns x z
      have p5 : 2 ^ r ≤ 32 := px_2n hr
      have : pd_sy (fun k => sol k / 32) (fun k => sol k % 32) ns x z * 2 ^ r ≤ 1024 * 32 := Nat.mul_le_mul (by omega) p5
      rw [px_shl (by omega) (by omega), px_or, pd_or_shl (pd_sy_lt _ _ _ _ _)]
      rfl
    refine br_f (nI_ge (by omega) (by omega)) ?_
    rw [ep]
    refine px_syn (z := 0) hn hr hq q2n (Nat.two_pow_pos n) ?_
    refine px_clashes (z := 0) (by omega) hs ⟨hi, ?_⟩
    rw [nI_clamp (n := q) (by omega)]
    refine nm_r (px_upk ax q (eor (2 ^ q) 0)) ?_
    refine px_syn (x := 0) hn hr hq (Nat.two_pow_pos n) q2n ?_
    refine px_clashes (x := 0) (by omega) hs ⟨hi, nm_r (px_upk az q (eor 0 (2 ^ q))) (nm_r (nI_1 q) (ih (q + 1) (by omega) _ _ (fun i hi => ?_) (fun i hi => ?_)))⟩
    · by_cases e : i = q
      · rw [e, pd_u_s]
      · rw [pd_u_n e]; exact hax i (by omega)
    · by_cases e : i = q
      · rw [e, pd_u_s]
      · rw [pd_u_n e]; exact haz i (by omega)
end
/-- good for the distance -/
def pd_gd2 (n r : Nat) (qx qz : Nat → Nat) (c : Nat) : Prop := c / 32 < 2 ^ n ∧ c % 32 < 2 ^ n ∧ pd_sy qx qz r (c / 32) (c % 32) = 0 ∧ ¬ pd_md qx qz r (c / 32) (c % 32)
theorem pd_on_pos {m : Nat} (hm : m < 32) (h : m ≠ 0) : 1 ≤ pd_on m := by
  have T : ∀ m, m < 32 → m ≠ 0 → 1 ≤ pd_on m := by decide +kernel
  exact T m hm h
theorem pd_gd2_pos {n r : Nat} {qx qz : Nat → Nat} (hn : n ≤ 5) {c : Nat} (h : pd_gd2 n r qx qz c) : 1 ≤ pd_on ((c / 32) ||| (c % 32)) := by
  have h32 := px_2n hn
  have a := h.1; have b := h.2.1
  apply pd_on_pos (pd_or32 (by omega) (by omega))
  intro e
  have := Nat.or_eq_zero_iff.mp e
  apply h.2.2.2
  rw [this.1, this.2]
  exact ⟨0, Nat.two_pow_pos r, pd_xs_z qx r, pd_xs_z qz r⟩
section
variable {f_rules f_sumRe f_sumIm : Int32} {a_isSaved a_ruleX a_ruleZ : Nat → Int32} {n : Nat} {A N B : Nat → Int × Int}
theorem py_d64 {post : Int32 → Prop} {J : Int32 → Int32 → Prop} {m c g : Nat} (hc : c < 1024) (hm : m < 2 ^ 31) (hg : g = 0 ∨ g = 1) (h0 : g = 0 → J (nI m) (nI (c + 1))) (h1 : g = 1 → (m = 0 ∨ pd_on ((c / 32) ||| (c % 32)) < m) → J (nI (pd_on ((c / 32) ||| (c % 32)))) (nI (c + 1)))
    (h2 : g = 1 → m ≠ 0 → ¬ pd_on ((c / 32) ||| (c % 32)) < m → J (nI m) (nI (c + 1))) : wY_distance_64 post J (nI m) (nI c) (nI (c / 32)) (nI (c % 32)) (nI g) (nI n) (nI (2 ^ n)) f_rules f_sumRe f_sumIm (fun jj => pd_I (A jj).1) (fun jj => pd_I (A jj).2) (fun jj => pd_I (N jj).1) (fun jj => pd_I (N jj).2) (fun jj => pd_I (B jj).1) (fun jj => pd_I (B jj).2) a_isSaved a_ruleX a_ruleZ := by
  unfold wY_distance_64
  rw [px_or]
  have b1 := pd_on_le ((c / 32) ||| (c % 32))
  refine py_ones (pd_or32 (by omega) (by omega)) ?_
  rcases hg with rfl | rfl
  · exact br_t rfl (nm_r (nI_1 c) (h0 rfl))
  · refine br_f (by decide) (pk_eq m 0 (fun e => nm_r (nI_1 c) (h1 rfl (Or.inl e))) (fun e => ?_))
    exact pk_le m (pd_on ((c / 32) ||| (c % 32))) (fun k => nm_r (nI_1 c) (h2 rfl e (by omega))) (fun k => nm_r (nI_1 c) (h1 rfl (Or.inr k)))
theorem py_dist4 {post : Int32 → Prop} {r : Nat} {qx qz : Nat → Nat} (hn : n ≤ 5) (hr : r ≤ 5) (hq : ∀ j, j < r → qx j < 32 ∧ qz j < 32)
    (h0 : (∀ c, c < 1024 → ¬ pd_gd2 n r qx qz c) → post 0) (h1 : ∀ b, b < 1024 → pd_gd2 n r qx qz b → (∀ c, c < 1024 → pd_gd2 n r qx qz c → pd_on ((b / 32) ||| (b % 32)) ≤ pd_on ((c / 32) ||| (c % 32))) → post (nI (pd_on ((b / 32) ||| (b % 32))))) :
    ∀ f c, c + f = 1024 → ∀ m : Nat, (m = 0 ∧ ∀ c', c' < c → ¬ pd_gd2 n r qx qz c') ∨ (∃ b, b < c ∧ pd_gd2 n r qx qz b ∧ m = pd_on ((b / 32) ||| (b % 32)) ∧ ∀ c', c' < c → pd_gd2 n r qx qz c' → m ≤ pd_on ((c' / 32) ||| (c' % 32))) →
      wY_distance_4 post (nI n) (nI (2 ^ n)) (nI r) f_sumRe f_sumIm (fun jj => pd_I (A jj).1) (fun jj => pd_I (A jj).2) (fun jj => pd_I (N jj).1) (fun jj => pd_I (N jj).2) (fun jj => pd_I (B jj).1) (fun jj => pd_I (B jj).2) a_isSaved (fun jj => nI (qx jj)) (fun jj => nI (qz jj)) (f + 1) (nI m) (nI c) := by
  have h32 := px_2n hn
  intro f
  induction f with
  | zero =>
    intro c hc m hI
    have e : c = 1024 := by omega
    subst e
    refine br_t (show (1024 : Int32) ≤ nI 1024 by decide) ?_
    rcases hI with ⟨e, no⟩ | ⟨b, hb, g, e, mn⟩
    · rw [e]; exact h0 no
    · rw [e]; rw [e] at mn; exact h1 b hb g mn
  | succ f ih =>
    intro c hc m hI
    have mb : m < 2 ^ 31 := by
      rcases hI with ⟨e, _⟩ | ⟨b, _, _, e, _⟩
      · omega
      · have := pd_on_le ((b / 32) ||| (b % 32)); omega
    refine br_f (nI_ge (b := 1024) (by omega) (by decide)) ⟨by decide, nm_r (pk_div (d := 32) (by omega) (by decide) (by decide)) ⟨by decide, nm_r (pk_rem (d := 32) (by omega) (by decide) (by decide)) ?_⟩⟩
    have skip : ¬ pd_gd2 n r qx qz c → wY_distance_63 post (wY_distance_4 post (nI n) (nI (2 ^ n)) (nI r) f_sumRe f_sumIm (fun jj => pd_I (A jj).1) (fun jj => pd_I (A jj).2) (fun jj => pd_I (N jj).1) (fun jj => pd_I (N jj).2) (fun jj => pd_I (B jj).1) (fun jj => pd_I (B jj).2) a_isSaved (fun jj => nI (qx jj)) (fun jj => nI (qz jj)) (f + 1)) (nI m) (nI c) (nI (c / 32)) (nI (c % 32)) (nI n) (nI (2 ^ n)) (nI r) f_sumRe f_sumIm (fun jj => pd_I (A jj).1) (fun jj => pd_I (A jj).2) (fun jj => pd_I (N jj).1) (fun jj => pd_I (N jj).2) (fun jj => pd_I (B jj).1) (fun jj => pd_I (B jj).2) a_isSaved (fun jj => nI (qx jj)) (fun jj => nI (qz jj)) := by
      intro no
      refine py_d64 (g := 0) (by omega) mb (Or.inl rfl) (fun _ => ih (c + 1) (by omega) m ?_) (fun k => by omega) (fun k => by omega)
      rcases hI with ⟨e, mm⟩ | ⟨b, hb, g, e, mn⟩
      · refine Or.inl ⟨e, fun c' h' => ?_⟩
        by_cases k : c' = c
        · rw [k]; exact no
        · exact mm c' (by omega)
      · refine Or.inr ⟨b, by omega, g, e, fun c' h' g' => ?_⟩
        by_cases k : c' = c
        · rw [k] at g'; exact absurd g' no
        · exact mn c' (by omega) g'
    by_cases k1 : c / 32 < 2 ^ n
    · refine br_f (nI_ge k1 (by omega)) ?_
      by_cases k2 : c % 32 < 2 ^ n
      · refine br_f (nI_ge k2 (by omega)) (py_syn hr hq ?_)
        have sl := pd_sy_lt qx qz r (c / 32) (c % 32)
        have r32 := px_2n hr
        refine pk_eq (pd_sy qx qz r (c / 32) (c % 32)) 0 (fun e => ?_) (fun e => skip (fun g => e g.2.2.1))
        refine py_made hr (by omega) (by omega) hq (fun yes => br_f (by decide) (skip (fun g => g.2.2.2 yes))) (fun no => br_t rfl ?_)
        have g : pd_gd2 n r qx qz c := ⟨k1, k2, e, no⟩
        have gp := pd_gd2_pos hn g
        refine py_d64 (g := 1) (by omega) mb (Or.inr rfl) (fun k => by omega) (fun _ k => ?_) (fun _ k3 k4 => ?_)
        · refine ih (c + 1) (by omega) _ (Or.inr ⟨c, by omega, g, rfl, fun c' h' g' => ?_⟩)
          by_cases k5 : c' = c
          · rw [k5]; exact Nat.le_refl _
          · rcases hI with ⟨_, mm⟩ | ⟨b, hb, g2, e2, mn⟩
            · exact absurd g' (mm c' (by omega))
            · have a := mn c' (by omega) g'
              have bp := pd_gd2_pos hn g2
              omega
        · refine ih (c + 1) (by omega) m (Or.inr ?_)
          rcases hI with ⟨e2, _⟩ | ⟨b, hb, g2, e2, mn⟩
          · exact absurd e2 k3
          · refine ⟨b, by omega, g2, e2, fun c' h' g' => ?_⟩
            by_cases k5 : c' = c
            · rw [k5]; omega
            · exact mn c' (by omega) g'
      · exact br_t (nI_le (by omega) (by omega)) (skip (fun g => k2 g.2.1))
    · exact br_t (nI_le (by omega) (by omega)) (skip (fun g => k1 g.1))
end
theorem i_vc_distance {k : Nat} {u : SX} {v : SY} (I : i_Rel k u v) (hk : k + 4 ≤ 2049) : wpX_distance (fun r u' => wpY_distance (fun r' => r' = r ∧ i_Rel (k + 4) u' v) v) u := by
  refine zz_el (P := fun u v => wpX_distance (fun r u' => wpY_distance (fun r' => r' = r ∧ i_Rel (k + 4) u' v) v) u) I ?_
  intro n r X Z S qx qz bs A N B kp g1 g2 g3 g4 g5 g6 h1 h2 h3 h4 h5 h6 h7 i1 i2
  have hn := i1.1.2
  have h32 := px_2n hn
  have hr := i2.1
  have hq := pd_Ru_b hn i2
  unfold wpX_distance
  dsimp only
  refine px_solveRules hn i2 (fun ns sol c1 c2 hS => ?_)
  obtain ⟨ax, rfl⟩ := px_fun h3
  obtain ⟨az, rfl⟩ := px_fun h4
  have md := fun {x z} (hx : x < 2 ^ n) (hz : z < 2 ^ n) => pd_Sol_md hn i2 hS hx hz
  refine ⟨n + 1, px_dist6 hn hr hq (by have := hS.1; omega) (fun k hk => (hS.2.1 k hk).1) (fun d1 d2 d3 d4 none => ?_) (fun d1 d2 d3 d4 x z hx hz hsy hne hmin => ?_) n 0 (by omega) ax az (fun i hi => absurd hi (Nat.not_lt_zero i)) (fun i hi => absurd hi (Nat.not_lt_zero i))⟩
  · refine ⟨1025, py_dist4 hn hr hq (fun _ => ⟨rfl, zz_in i1 i2⟩) (fun b hb g _ => ?_) 1024 0 rfl 0 (Or.inl ⟨rfl, fun c' h' => absurd h' (Nat.not_lt_zero c')⟩)⟩
    exact absurd ((md g.1 g.2.1).mpr (none _ _ g.1 g.2.1 g.2.2.1)) g.2.2.2
  · have gx : pd_gd2 n r qx qz (32 * x + z) := by
      unfold pd_gd2
      rw [show (32 * x + z) / 32 = x by omega, show (32 * x + z) % 32 = z by omega]
      exact ⟨hx, hz, hsy, fun yes => hne ((md hx hz).mp yes)⟩
    refine ⟨1025, py_dist4 hn hr hq (fun no => absurd gx (no _ (by omega))) (fun b hb g mn => ?_) 1024 0 rfl 0 (Or.inl ⟨rfl, fun c' h' => absurd h' (Nat.not_lt_zero c')⟩)⟩
    have a := mn _ (by omega) gx
    rw [show (32 * x + z) / 32 = x by omega, show (32 * x + z) % 32 = z by omega] at a
    have b2 := hmin (b / 32) (b % 32) g.1 g.2.1 g.2.2.1 (fun z0 => g.2.2.2 ((md g.1 g.2.1).mpr z0))
    have bx := g.1; have bz := g.2.1
    unfold pd_val at b2
    rw [pd_wt_n hn hx hz, pd_wt_n hn g.1 g.2.1] at b2
    rw [pd_on_or (by omega) (by omega), pd_on_or (by omega) (by omega)] at a
    have ew : pd_on ((b / 32) ||| (b % 32)) = pd_wt x z n := by
      rw [pd_wt_n hn hx hz, pd_on_or (by omega) (by omega)]
      omega
    rw [ew]
    exact ⟨rfl, zz_in i1 i2⟩
end
