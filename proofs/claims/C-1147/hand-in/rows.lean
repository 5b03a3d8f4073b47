section
/-! pure rows to paste: stores, nI and lN arithmetic, masks, shifts, narrowing, branches by naturals (pk_le, pk_lt, pk_eq), loops (lp1 .. lp16: the measure of the state; rp1 ..: recursion), negatives. Take what you need -/
theorem pk_us {f : Nat → Int32} {k : Nat} {x : Int32} : upd f k x k = x := if_pos rfl
theorem pk_un {f : Nat → Int32} {k j : Nat} {x : Int32} (h : j ≠ k) : upd f k x j = f j := if_neg h
theorem pk_uLs {f : Nat → Int64} {k : Nat} {x : Int64} : vp_updL f k x k = x := if_pos rfl
theorem pk_uLn {f : Nat → Int64} {k j : Nat} {x : Int64} (h : j ≠ k) : vp_updL f k x j = f j := if_neg h
theorem pk_sub {a b : Nat} (h : b ≤ a) : nI a - nI b = nI (a - b) := by
  obtain ⟨c, rfl⟩ : ∃ c, a = c + b := ⟨a - b, by omega⟩
  rw [← nI_add, Int32.add_sub_cancel, Nat.add_sub_cancel]
theorem pk_m1 (n : Nat) : nI (n + 1) + (-1) = nI n := by
  rw [← nI_1, Int32.add_assoc, show (1 : Int32) + (-1) = 0 from rfl, Int32.add_zero]
theorem pk_mul (a b : Nat) : nI a * nI b = nI (a * b) := (Int32.ofNat_mul a b).symm
theorem pk_div {a d : Nat} (ha : a < 2 ^ 31) (h0 : 0 < d) (hd : d < 2 ^ 31) : nI a / nI d = nI (a / d) := by
  apply Int32.toInt_inj.mp
  rw [lg_idiv_nonneg (by rw [nI_toInt ha]; omega) (by rw [nI_toInt hd]; omega), nI_toInt ha, nI_toInt hd, nI_toInt (Nat.lt_of_le_of_lt (Nat.div_le_self a d) ha)]
  first | rfl | exact (Int.natCast_ediv _ _).symm
theorem pk_rem {a d : Nat} (ha : a < 2 ^ 31) (h0 : 0 < d) (hd : d < 2 ^ 31) : nI a - nI a / nI d * nI d = nI (a % d) := by
  rw [pk_div ha h0 hd, pk_mul, pk_sub (Nat.div_mul_le_self a d)]
  exact congrArg nI (by have := Nat.div_add_mod' a d; omega)
theorem pk_sub_toInt {a b : Nat} (ha : a < 2 ^ 30) (hb : b < 2 ^ 30) : (nI a - nI b).toInt = (a : Int) - b := by
  rw [Int32.toInt_sub, nI_toInt (by omega), nI_toInt (by omega)]
  exact Int.bmod_eq_of_le (by omega) (by omega)
theorem pk_sneg {a b : Nat} (hb : b < 2 ^ 30) (h : a < b) : nI a - nI b < 0 := by
  rw [Int32.lt_iff_toInt_lt, pk_sub_toInt (by omega) hb, show (0 : Int32).toInt = 0 from by decide]
  omega
theorem pk_ix (x : Int32) {n : Nat} (hn : n < 2 ^ 31) : x < 0 ∨ nI n ≤ x ∨ ∃ j : Nat, j < n ∧ x = nI j := by
  by_cases h : x < 0
  · exact Or.inl h
  · obtain ⟨j, hj, rfl⟩ := nI_of h
    by_cases h2 : j < n
    · exact Or.inr (Or.inr ⟨j, h2, rfl⟩)
    · exact Or.inr (Or.inl (nI_le (by omega) hj))
theorem pk_le {x y : Int32} {A B : Prop} (a b : Nat) (f : a ≤ b → A) (g : b < a → B) (hx : x = nI a := by rfl) (hy : y = nI b := by rfl) (ha : a < 2 ^ 31 := by omega) (hb : b < 2 ^ 31 := by omega) : (x ≤ y → A) ∧ (¬ x ≤ y → B) := by
  subst hx hy
  rw [nI_leI ha hb]
  exact ⟨f, fun z => g (by omega)⟩
theorem pk_lt {x y : Int32} {A B : Prop} (a b : Nat) (f : a < b → A) (g : b ≤ a → B) (hx : x = nI a := by rfl) (hy : y = nI b := by rfl) (ha : a < 2 ^ 31 := by omega) (hb : b < 2 ^ 31 := by omega) : (x < y → A) ∧ (¬ x < y → B) := by
  subst hx hy
  rw [nI_ltI ha hb]
  exact ⟨f, fun z => g (by omega)⟩
theorem pk_eq {x y : Int32} {A B : Prop} (a b : Nat) (f : a = b → A) (g : a ≠ b → B) (hx : x = nI a := by rfl) (hy : y = nI b := by rfl) (ha : a < 2 ^ 31 := by omega) (hb : b < 2 ^ 31 := by omega) : (x = y → A) ∧ (¬ x = y → B) := by
  subst hx hy
  rw [nI_eq ha hb]
  exact ⟨f, g⟩
theorem pk_in {x : Int32} (n N : Nat) (h : n < N) (hx : x = nI n := by rfl) (hN : N < 2 ^ 31 := by omega) : vp_in x N := by
  subst hx
  exact vp_in_nI h hN
theorem pk_cl {x : Int32} (n : Nat) (hx : x = nI n := by rfl) (h : n < 2 ^ 31 := by omega) : x.toNatClampNeg = n := by
  subst hx
  exact nI_clamp h
theorem pk_tn {n : Nat} (h : n < 2 ^ 32) : (nI n).toBitVec.toNat = n := Nat.mod_eq_of_lt h
theorem pk_and (x : Int32) {m : Int32} (k : Nat) (hm : m.toBitVec.toNat = 2 ^ k - 1) : x &&& m = nI (x.toBitVec.toNat % 2 ^ k) := by
  apply Int32.toBitVec_inj.mp
  apply BitVec.eq_of_toNat_eq
  rw [Int32.toBitVec_and, BitVec.toNat_and, hm, Nat.and_two_pow_sub_one_eq_mod]
  show _ = (BitVec.ofNat 32 _).toNat
  rw [BitVec.toNat_ofNat]
  exact (Nat.mod_eq_of_lt (Nat.lt_of_le_of_lt (Nat.mod_le _ _) x.toBitVec.isLt)).symm
theorem pk_andN {n : Nat} (h : n < 2 ^ 32) {m : Int32} (k : Nat) (hm : m.toBitVec.toNat = 2 ^ k - 1) : nI n &&& m = nI (n % 2 ^ k) := by
  rw [pk_and _ k hm, pk_tn h]
theorem pk_andE (x : Int32) {m : Int32} (k : Nat) (hm : m.toBitVec.toNat = 2 ^ k - 1) : ∃ j : Nat, j < 2 ^ k ∧ x &&& m = nI j := ⟨_, Nat.mod_lt _ (Nat.two_pow_pos k), pk_and x k hm⟩
theorem pk_andIn (x : Int32) {m : Int32} (k : Nat) (hm : m.toBitVec.toNat = 2 ^ k - 1) (hk : k ≤ 30) : vp_in (x &&& m) (2 ^ k) := by
  obtain ⟨j, hj, e⟩ := pk_andE x k hm
  rw [e]
  exact vp_in_nI hj (Nat.lt_of_le_of_lt (Nat.pow_le_pow_right (by decide) hk) (by decide))
theorem pk_shl (a s : Int32) (k : Nat) (hs : (s.toBitVec.smod 32).toNat = k) : (a <<< s).toBitVec.toNat = a.toBitVec.toNat * 2 ^ k % 2 ^ 32 := by
  show (a.toBitVec <<< (s.toBitVec.smod 32).toNat).toNat = _
  rw [hs, BitVec.toNat_shiftLeft, Nat.shiftLeft_eq]
theorem pk_shlN {n : Nat} (s : Int32) (k : Nat) (hs : (s.toBitVec.smod 32).toNat = k) (h : n * 2 ^ k < 2 ^ 32) : nI n <<< s = nI (n * 2 ^ k) := by
  apply Int32.toBitVec_inj.mp
  apply BitVec.eq_of_toNat_eq
  have hn : n < 2 ^ 32 := Nat.lt_of_le_of_lt (Nat.le_mul_of_pos_right n (Nat.two_pow_pos k)) h
  rw [pk_shl _ _ k hs, pk_tn hn, pk_tn h, Nat.mod_eq_of_lt h]
theorem pk_shr (a s : Int32) (k : Nat) (hs : (s.toBitVec.smod 32).toNat = k) : (a >>> s).toInt = a.toInt >>> k := by
  show (a.toBitVec.sshiftRight (s.toBitVec.smod 32).toNat).toInt = _
  rw [hs, BitVec.toInt_sshiftRight]
  rfl
theorem pk_shrN {n : Nat} (h : n < 2 ^ 31) (s : Int32) (k : Nat) (hs : (s.toBitVec.smod 32).toNat = k) : nI n >>> s = nI (n / 2 ^ k) := by
  apply Int32.toInt_inj.mp
  have h2 : n / 2 ^ k ≤ n := Nat.div_le_self _ _
  rw [pk_shr _ _ k hs, nI_toInt h, nI_toInt (by omega), Int.shiftRight_eq_div_pow]
  rfl
theorem pk_ushr (x s : Int32) (k : Nat) (hs : ((s.toUInt32 &&& Int32.toUInt32 31).toBitVec % 32).toNat = k) : (x.toUInt32 >>> (s.toUInt32 &&& Int32.toUInt32 31)).toInt32.toBitVec.toNat = x.toBitVec.toNat / 2 ^ k := by
  have e : (x.toUInt32 >>> (s.toUInt32 &&& Int32.toUInt32 31)).toInt32.toBitVec = x.toBitVec >>> k := by
    rw [← hs]
    exact UInt32.toBitVec_shiftRight _ _
  rw [e, BitVec.toNat_ushiftRight, Nat.shiftRight_eq_div_pow]
theorem pk_ushrN {n : Nat} (hn : n < 2 ^ 32) (s : Int32) (k : Nat) (hs : ((s.toUInt32 &&& Int32.toUInt32 31).toBitVec % 32).toNat = k) : ((nI n).toUInt32 >>> (s.toUInt32 &&& Int32.toUInt32 31)).toInt32 = nI (n / 2 ^ k) := by
  apply Int32.toBitVec_inj.mp
  apply BitVec.eq_of_toNat_eq
  rw [pk_ushr _ s k hs, pk_tn hn, pk_tn (Nat.lt_of_le_of_lt (Nat.div_le_self _ _) hn)]
theorem pk_nb (z : Int32) : narrow .byte (.int z.toInt8.toInt32) = .int z.toInt8.toInt32 := congrArg Value.int (by simp)
theorem pk_ns (z : Int32) : narrow .short (.int z.toInt16.toInt32) = .int z.toInt16.toInt32 := congrArg Value.int (by simp)
theorem pk_fb (r : Int32) : fits .byte (.int r.toInt8.toInt32) = true := by
  have ⟨a, b⟩ := lg_i2b_range r
  have h1 : (-128 : Int32).toInt = -128 := by decide
  have h2 : (127 : Int32).toInt = 127 := by decide
  simp only [fits, Bool.and_eq_true, decide_eq_true_eq, Int32.le_iff_toInt_le, h1, h2]
  omega
theorem pk_fs (r : Int32) : fits .short (.int r.toInt16.toInt32) = true := by
  have ⟨a, b⟩ := lg_i2s_range r
  have h1 : (-32768 : Int32).toInt = -32768 := by decide
  have h2 : (32767 : Int32).toInt = 32767 := by decide
  simp only [fits, Bool.and_eq_true, decide_eq_true_eq, Int32.le_iff_toInt_le, h1, h2]
  omega
theorem pk_charN {q : Nat} (hq : q < 65536) : narrow .char (.int (nI q)) = .int (nI q) ∧ fits .char (.int (nI q)) = true := by
  constructor
  · have e : (nI q).toUInt32.toUInt16.toUInt32.toInt32 = nI q := by
      apply Int32.toBitVec_inj.mp
      apply BitVec.eq_of_toNat_eq
      show (nI q).toUInt32.toUInt16.toUInt32.toNat = q % 2 ^ 32
      rw [UInt16.toNat_toUInt32, UInt32.toNat_toUInt16, show (nI q).toUInt32.toNat = q % 2 ^ 32 from rfl]
      omega
    exact congrArg Value.int e
  · have a : (0 : Int32) ≤ nI q := nI_pos' (by omega)
    have b : nI q ≤ 65535 := nI_le (b := 65535) (by omega) (by decide)
    show (decide ((0 : Int32) ≤ nI q) && decide (nI q ≤ 65535)) = true
    rw [decide_eq_true a, decide_eq_true b]
    rfl
theorem pk_char (x : Int32) : (x.toUInt32 % 65536).toInt32 = nI (x.toBitVec.toNat % 65536) := by
  apply Int32.toBitVec_inj.mp
  apply BitVec.eq_of_toNat_eq
  rw [pk_tn (by omega)]
  show (x.toUInt32 % 65536).toNat = _
  rw [UInt32.toNat_mod]
  rfl
theorem pk_nc (x : Int32) : narrow .char (.int (x.toUInt32 % 65536).toInt32) = .int (x.toUInt32 % 65536).toInt32 := by
  rw [pk_char]
  exact (pk_charN (Nat.mod_lt _ (by decide))).1
theorem pk_fc (x : Int32) : fits .char (.int (x.toUInt32 % 65536).toInt32) = true := by
  rw [pk_char]
  exact (pk_charN (Nat.mod_lt _ (by decide))).2
theorem pk_vb (z : Int32) : vp_nar .byte z.toInt8.toInt32 = z.toInt8.toInt32 := by rw [vp_nar_byte]; simp
theorem pk_vs (z : Int32) : vp_nar .short z.toInt16.toInt32 = z.toInt16.toInt32 := by rw [vp_nar_short]; simp
theorem pk_vc (z : Int32) : vp_nar .char (z.toUInt32 % 65536).toInt32 = (z.toUInt32 % 65536).toInt32 := Value.int.inj (pk_nc z)
theorem pk_lT {n : Nat} (h : n < 2 ^ 63) : (lN n).toInt = (n : Int) := lg_ofNat_toInt h
theorem pk_lLT {a b : Nat} (ha : a < 2 ^ 63) (hb : b < 2 ^ 63) : lN a < lN b ↔ a < b := by
  rw [Int64.lt_iff_toInt_lt, pk_lT ha, pk_lT hb]; omega
theorem pk_lLE {a b : Nat} (ha : a < 2 ^ 63) (hb : b < 2 ^ 63) : lN a ≤ lN b ↔ a ≤ b := by
  rw [Int64.le_iff_toInt_le, pk_lT ha, pk_lT hb]; omega
theorem pk_lEQ {a b : Nat} (ha : a < 2 ^ 63) (hb : b < 2 ^ 63) : lN a = lN b ↔ a = b := by
  rw [← Int64.toInt_inj, pk_lT ha, pk_lT hb]; omega
theorem pk_lOf {x : Int64} (h : ¬ x < 0) : ∃ k : Nat, k < 2 ^ 63 ∧ x = lN k := by
  rw [Int64.lt_iff_toInt_lt] at h
  have h0 : (0 : Int64).toInt = 0 := by decide
  have hx := Int64.toInt_lt x
  refine ⟨x.toInt.toNat, by omega, Int64.toInt_inj.mp ?_⟩
  rw [pk_lT (by omega)]
  omega
theorem pk_lDiv {a b : Nat} (ha : a < 2 ^ 63) (h0 : 0 < b) (hb : b < 2 ^ 63) : lN a / lN b = lN (a / b) := by
  apply Int64.toInt_inj.mp
  rw [lg_ldiv_nonneg (by rw [pk_lT ha]; omega) (by rw [pk_lT hb]; omega), pk_lT ha, pk_lT hb, pk_lT (Nat.lt_of_le_of_lt (Nat.div_le_self a b) ha)]
  rfl
theorem pk_lRem {a b : Nat} (ha : a < 2 ^ 63) (h0 : 0 < b) (hb : b < 2 ^ 63) : lN a - lN a / lN b * lN b = lN (a % b) := by
  rw [pk_lDiv ha h0 hb, lN_mul, lN_sub (Nat.div_mul_le_self a b)]
  exact congrArg lN (by have := Nat.div_add_mod' a b; omega)
theorem pk_loop {σ : Type} (W : Nat → Nat → σ → Prop) (I : Nat → σ → Prop) (e i0 : Nat) (s : σ) (hi : i0 ≤ e) (h0 : I i0 s) (hx : ∀ n s, I e s → W (n + 1) e s)
    (hs : ∀ n i s, i < e → I i s → (∀ s', I (i + 1) s' → W n (i + 1) s') → W (n + 1) i s) : ∃ n, W n i0 s :=
  ⟨e + 1, loop_i W I e hx hs (e + 1) i0 s hi (by omega) h0⟩
theorem pk_loopD {σ : Type} (W : Nat → Nat → σ → Prop) (I : Nat → σ → Prop) (hx : ∀ n s, I 0 s → W (n + 1) 0 s)
    (hs : ∀ n i s, I (i + 1) s → (∀ s', I i s' → W n i s') → W (n + 1) (i + 1) s) : ∀ (e : Nat) (s : σ), I e s → W (e + 1) e s := by
  intro e
  induction e with
  | zero => exact fun s h => hx 0 s h
  | succ e ih => exact fun s h => hs (e + 1) e s h (fun s' h' => ih s' h')
theorem lp1 {A1 : Type} (W : Nat → A1 → Prop) (I : A1 → Prop) (μ : A1 → Nat) (hs : ∀ (n : Nat) (a1 : A1), I a1 → (∀ (b1 : A1), I b1 → μ b1 < μ a1 → W n b1) → W (n + 1) a1) (a1 : A1) (h : I a1) : ∃ n, W n a1 :=
  loop_m (σ := A1) (fun n s => W n s) (fun s => I s) (fun s => μ s) (fun n s hI hk => hs n s hI (fun b1 h9 hm => hk b1 h9 hm)) a1 h
theorem lp2 {A1 A2 : Type} (W : Nat → A1 → A2 → Prop) (I : A1 → A2 → Prop) (μ : A1 → A2 → Nat) (hs : ∀ (n : Nat) (a1 : A1) (a2 : A2), I a1 a2 → (∀ (b1 : A1) (b2 : A2), I b1 b2 → μ b1 b2 < μ a1 a2 → W n b1 b2) → W (n + 1) a1 a2) (a1 : A1) (a2 : A2) (h : I a1 a2) : ∃ n, W n a1 a2 :=
  loop_m (σ := A1 × A2) (fun n s => W n s.1 s.2) (fun s => I s.1 s.2) (fun s => μ s.1 s.2) (fun n s hI hk => hs n s.1 s.2 hI (fun b1 b2 h9 hm => hk (b1, b2) h9 hm)) (a1, a2) h
theorem lp3 {A1 A2 A3 : Type} (W : Nat → A1 → A2 → A3 → Prop) (I : A1 → A2 → A3 → Prop) (μ : A1 → A2 → A3 → Nat) (hs : ∀ (n : Nat) (a1 : A1) (a2 : A2) (a3 : A3), I a1 a2 a3 → (∀ (b1 : A1) (b2 : A2) (b3 : A3), I b1 b2 b3 → μ b1 b2 b3 < μ a1 a2 a3 → W n b1 b2 b3) → W (n + 1) a1 a2 a3) (a1 : A1) (a2 : A2) (a3 : A3) (h : I a1 a2 a3) : ∃ n, W n a1 a2 a3 :=
  loop_m (σ := A1 × A2 × A3) (fun n s => W n s.1 s.2.1 s.2.2) (fun s => I s.1 s.2.1 s.2.2) (fun s => μ s.1 s.2.1 s.2.2) (fun n s hI hk => hs n s.1 s.2.1 s.2.2 hI (fun b1 b2 b3 h9 hm => hk (b1, b2, b3) h9 hm)) (a1, a2, a3) h
theorem lp4 {A1 A2 A3 A4 : Type} (W : Nat → A1 → A2 → A3 → A4 → Prop) (I : A1 → A2 → A3 → A4 → Prop) (μ : A1 → A2 → A3 → A4 → Nat) (hs : ∀ (n : Nat) (a1 : A1) (a2 : A2) (a3 : A3) (a4 : A4), I a1 a2 a3 a4 → (∀ (b1 : A1) (b2 : A2) (b3 : A3) (b4 : A4), I b1 b2 b3 b4 → μ b1 b2 b3 b4 < μ a1 a2 a3 a4 → W n b1 b2 b3 b4) → W (n + 1) a1 a2 a3 a4) (a1 : A1) (a2 : A2) (a3 : A3) (a4 : A4) (h : I a1 a2 a3 a4) : ∃ n, W n a1 a2 a3 a4 :=
  loop_m (σ := A1 × A2 × A3 × A4) (fun n s => W n s.1 s.2.1 s.2.2.1 s.2.2.2) (fun s => I s.1 s.2.1 s.2.2.1 s.2.2.2) (fun s => μ s.1 s.2.1 s.2.2.1 s.2.2.2) (fun n s hI hk => hs n s.1 s.2.1 s.2.2.1 s.2.2.2 hI (fun b1 b2 b3 b4 h9 hm => hk (b1, b2, b3, b4) h9 hm)) (a1, a2, a3, a4) h
theorem lp5 {A1 A2 A3 A4 A5 : Type} (W : Nat → A1 → A2 → A3 → A4 → A5 → Prop) (I : A1 → A2 → A3 → A4 → A5 → Prop) (μ : A1 → A2 → A3 → A4 → A5 → Nat) (hs : ∀ (n : Nat) (a1 : A1) (a2 : A2) (a3 : A3) (a4 : A4) (a5 : A5), I a1 a2 a3 a4 a5 → (∀ (b1 : A1) (b2 : A2) (b3 : A3) (b4 : A4) (b5 : A5), I b1 b2 b3 b4 b5 → μ b1 b2 b3 b4 b5 < μ a1 a2 a3 a4 a5 → W n b1 b2 b3 b4 b5) → W (n + 1) a1 a2 a3 a4 a5) (a1 : A1) (a2 : A2) (a3 : A3) (a4 : A4) (a5 : A5) (h : I a1 a2 a3 a4 a5) : ∃ n, W n a1 a2 a3 a4 a5 :=
  loop_m (σ := A1 × A2 × A3 × A4 × A5) (fun n s => W n s.1 s.2.1 s.2.2.1 s.2.2.2.1 s.2.2.2.2) (fun s => I s.1 s.2.1 s.2.2.1 s.2.2.2.1 s.2.2.2.2) (fun s => μ s.1 s.2.1 s.2.2.1 s.2.2.2.1 s.2.2.2.2) (fun n s hI hk => hs n s.1 s.2.1 s.2.2.1 s.2.2.2.1 s.2.2.2.2 hI (fun b1 b2 b3 b4 b5 h9 hm => hk (b1, b2, b3, b4, b5) h9 hm)) (a1, a2, a3, a4, a5) h
theorem lp6 {A1 A2 A3 A4 A5 A6 : Type} (W : Nat → A1 → A2 → A3 → A4 → A5 → A6 → Prop) (I : A1 → A2 → A3 → A4 → A5 → A6 → Prop) (μ : A1 → A2 → A3 → A4 → A5 → A6 → Nat) (hs : ∀ (n : Nat) (a1 : A1) (a2 : A2) (a3 : A3) (a4 : A4) (a5 : A5) (a6 : A6), I a1 a2 a3 a4 a5 a6 → (∀ (b1 : A1) (b2 : A2) (b3 : A3) (b4 : A4) (b5 : A5) (b6 : A6), I b1 b2 b3 b4 b5 b6 → μ b1 b2 b3 b4 b5 b6 < μ a1 a2 a3 a4 a5 a6 → W n b1 b2 b3 b4 b5 b6) → W (n + 1) a1 a2 a3 a4 a5 a6) (a1 : A1) (a2 : A2) (a3 : A3) (a4 : A4) (a5 : A5) (a6 : A6) (h : I a1 a2 a3 a4 a5 a6) : ∃ n, W n a1 a2 a3 a4 a5 a6 :=
  loop_m (σ := A1 × A2 × A3 × A4 × A5 × A6) (fun n s => W n s.1 s.2.1 s.2.2.1 s.2.2.2.1 s.2.2.2.2.1 s.2.2.2.2.2) (fun s => I s.1 s.2.1 s.2.2.1 s.2.2.2.1 s.2.2.2.2.1 s.2.2.2.2.2) (fun s => μ s.1 s.2.1 s.2.2.1 s.2.2.2.1 s.2.2.2.2.1 s.2.2.2.2.2) (fun n s hI hk => hs n s.1 s.2.1 s.2.2.1 s.2.2.2.1 s.2.2.2.2.1 s.2.2.2.2.2 hI (fun b1 b2 b3 b4 b5 b6 h9 hm => hk (b1, b2, b3, b4, b5, b6) h9 hm)) (a1, a2, a3, a4, a5, a6) h
theorem lp7 {A1 A2 A3 A4 A5 A6 A7 : Type} (W : Nat → A1 → A2 → A3 → A4 → A5 → A6 → A7 → Prop) (I : A1 → A2 → A3 → A4 → A5 → A6 → A7 → Prop) (μ : A1 → A2 → A3 → A4 → A5 → A6 → A7 → Nat) (hs : ∀ (n : Nat) (a1 : A1) (a2 : A2) (a3 : A3) (a4 : A4) (a5 : A5) (a6 : A6) (a7 : A7), I a1 a2 a3 a4 a5 a6 a7 → (∀ (b1 : A1) (b2 : A2) (b3 : A3) (b4 : A4) (b5 : A5) (b6 : A6) (b7 : A7), I b1 b2 b3 b4 b5 b6 b7 → μ b1 b2 b3 b4 b5 b6 b7 < μ a1 a2 a3 a4 a5 a6 a7 → W n b1 b2 b3 b4 b5 b6 b7) → W (n + 1) a1 a2 a3 a4 a5 a6 a7) (a1 : A1) (a2 : A2) (a3 : A3) (a4 : A4) (a5 : A5) (a6 : A6) (a7 : A7) (h : I a1 a2 a3 a4 a5 a6 a7) : ∃ n, W n a1 a2 a3 a4 a5 a6 a7 :=
  loop_m (σ := A1 × A2 × A3 × A4 × A5 × A6 × A7) (fun n s => W n s.1 s.2.1 s.2.2.1 s.2.2.2.1 s.2.2.2.2.1 s.2.2.2.2.2.1 s.2.2.2.2.2.2) (fun s => I s.1 s.2.1 s.2.2.1 s.2.2.2.1 s.2.2.2.2.1 s.2.2.2.2.2.1 s.2.2.2.2.2.2) (fun s => μ s.1 s.2.1 s.2.2.1 s.2.2.2.1 s.2.2.2.2.1 s.2.2.2.2.2.1 s.2.2.2.2.2.2) (fun n s hI hk => hs n s.1 s.2.1 s.2.2.1 s.2.2.2.1 s.2.2.2.2.1 s.2.2.2.2.2.1 s.2.2.2.2.2.2 hI (fun b1 b2 b3 b4 b5 b6 b7 h9 hm => hk (b1, b2, b3, b4, b5, b6, b7) h9 hm)) (a1, a2, a3, a4, a5, a6, a7) h
theorem lp8 {A1 A2 A3 A4 A5 A6 A7 A8 : Type} (W : Nat → A1 → A2 → A3 → A4 → A5 → A6 → A7 → A8 → Prop) (I : A1 → A2 → A3 → A4 → A5 → A6 → A7 → A8 → Prop) (μ : A1 → A2 → A3 → A4 → A5 → A6 → A7 → A8 → Nat) (hs : ∀ (n : Nat) (a1 : A1) (a2 : A2) (a3 : A3) (a4 : A4) (a5 : A5) (a6 : A6) (a7 : A7) (a8 : A8), I a1 a2 a3 a4 a5 a6 a7 a8 → (∀ (b1 : A1) (b2 : A2) (b3 : A3) (b4 : A4) (b5 : A5) (b6 : A6) (b7 : A7) (b8 : A8), I b1 b2 b3 b4 b5 b6 b7 b8 → μ b1 b2 b3 b4 b5 b6 b7 b8 < μ a1 a2 a3 a4 a5 a6 a7 a8 → W n b1 b2 b3 b4 b5 b6 b7 b8) → W (n + 1) a1 a2 a3 a4 a5 a6 a7 a8) (a1 : A1) (a2 : A2) (a3 : A3) (a4 : A4) (a5 : A5) (a6 : A6) (a7 : A7) (a8 : A8) (h : I a1 a2 a3 a4 a5 a6 a7 a8) : ∃ n, W n a1 a2 a3 a4 a5 a6 a7 a8 :=
  loop_m (σ := A1 × A2 × A3 × A4 × A5 × A6 × A7 × A8) (fun n s => W n s.1 s.2.1 s.2.2.1 s.2.2.2.1 s.2.2.2.2.1 s.2.2.2.2.2.1 s.2.2.2.2.2.2.1 s.2.2.2.2.2.2.2) (fun s => I s.1 s.2.1 s.2.2.1 s.2.2.2.1 s.2.2.2.2.1 s.2.2.2.2.2.1 s.2.2.2.2.2.2.1 s.2.2.2.2.2.2.2) (fun s => μ s.1 s.2.1 s.2.2.1 s.2.2.2.1 s.2.2.2.2.1 s.2.2.2.2.2.1 s.2.2.2.2.2.2.1 s.2.2.2.2.2.2.2) (fun n s hI hk => hs n s.1 s.2.1 s.2.2.1 s.2.2.2.1 s.2.2.2.2.1 s.2.2.2.2.2.1 s.2.2.2.2.2.2.1 s.2.2.2.2.2.2.2 hI (fun b1 b2 b3 b4 b5 b6 b7 b8 h9 hm => hk (b1, b2, b3, b4, b5, b6, b7, b8) h9 hm)) (a1, a2, a3, a4, a5, a6, a7, a8) h
theorem lp9 {A1 A2 A3 A4 A5 A6 A7 A8 A9 : Type} (W : Nat → A1 → A2 → A3 → A4 → A5 → A6 → A7 → A8 → A9 → Prop) (I : A1 → A2 → A3 → A4 → A5 → A6 → A7 → A8 → A9 → Prop) (μ : A1 → A2 → A3 → A4 → A5 → A6 → A7 → A8 → A9 → Nat) (hs : ∀ (n : Nat) (a1 : A1) (a2 : A2) (a3 : A3) (a4 : A4) (a5 : A5) (a6 : A6) (a7 : A7) (a8 : A8) (a9 : A9), I a1 a2 a3 a4 a5 a6 a7 a8 a9 → (∀ (b1 : A1) (b2 : A2) (b3 : A3) (b4 : A4) (b5 : A5) (b6 : A6) (b7 : A7) (b8 : A8) (b9 : A9), I b1 b2 b3 b4 b5 b6 b7 b8 b9 → μ b1 b2 b3 b4 b5 b6 b7 b8 b9 < μ a1 a2 a3 a4 a5 a6 a7 a8 a9 → W n b1 b2 b3 b4 b5 b6 b7 b8 b9) → W (n + 1) a1 a2 a3 a4 a5 a6 a7 a8 a9) (a1 : A1) (a2 : A2) (a3 : A3) (a4 : A4) (a5 : A5) (a6 : A6) (a7 : A7) (a8 : A8) (a9 : A9) (h : I a1 a2 a3 a4 a5 a6 a7 a8 a9) : ∃ n, W n a1 a2 a3 a4 a5 a6 a7 a8 a9 :=
  loop_m (σ := A1 × A2 × A3 × A4 × A5 × A6 × A7 × A8 × A9) (fun n s => W n s.1 s.2.1 s.2.2.1 s.2.2.2.1 s.2.2.2.2.1 s.2.2.2.2.2.1 s.2.2.2.2.2.2.1 s.2.2.2.2.2.2.2.1 s.2.2.2.2.2.2.2.2) (fun s => I s.1 s.2.1 s.2.2.1 s.2.2.2.1 s.2.2.2.2.1 s.2.2.2.2.2.1 s.2.2.2.2.2.2.1 s.2.2.2.2.2.2.2.1 s.2.2.2.2.2.2.2.2) (fun s => μ s.1 s.2.1 s.2.2.1 s.2.2.2.1 s.2.2.2.2.1 s.2.2.2.2.2.1 s.2.2.2.2.2.2.1 s.2.2.2.2.2.2.2.1 s.2.2.2.2.2.2.2.2) (fun n s hI hk => hs n s.1 s.2.1 s.2.2.1 s.2.2.2.1 s.2.2.2.2.1 s.2.2.2.2.2.1 s.2.2.2.2.2.2.1 s.2.2.2.2.2.2.2.1 s.2.2.2.2.2.2.2.2 hI (fun b1 b2 b3 b4 b5 b6 b7 b8 b9 h9 hm => hk (b1, b2, b3, b4, b5, b6, b7, b8, b9) h9 hm)) (a1, a2, a3, a4, a5, a6, a7, a8, a9) h
theorem lp10 {A1 A2 A3 A4 A5 A6 A7 A8 A9 A10 : Type} (W : Nat → A1 → A2 → A3 → A4 → A5 → A6 → A7 → A8 → A9 → A10 → Prop) (I : A1 → A2 → A3 → A4 → A5 → A6 → A7 → A8 → A9 → A10 → Prop) (μ : A1 → A2 → A3 → A4 → A5 → A6 → A7 → A8 → A9 → A10 → Nat) (hs : ∀ (n : Nat) (a1 : A1) (a2 : A2) (a3 : A3) (a4 : A4) (a5 : A5) (a6 : A6) (a7 : A7) (a8 : A8) (a9 : A9) (a10 : A10), I a1 a2 a3 a4 a5 a6 a7 a8 a9 a10 → (∀ (b1 : A1) (b2 : A2) (b3 : A3) (b4 : A4) (b5 : A5) (b6 : A6) (b7 : A7) (b8 : A8) (b9 : A9) (b10 : A10), I b1 b2 b3 b4 b5 b6 b7 b8 b9 b10 → μ b1 b2 b3 b4 b5 b6 b7 b8 b9 b10 < μ a1 a2 a3 a4 a5 a6 a7 a8 a9 a10 → W n b1 b2 b3 b4 b5 b6 b7 b8 b9 b10) → W (n + 1) a1 a2 a3 a4 a5 a6 a7 a8 a9 a10) (a1 : A1) (a2 : A2) (a3 : A3) (a4 : A4) (a5 : A5) (a6 : A6) (a7 : A7) (a8 : A8) (a9 : A9) (a10 : A10) (h : I a1 a2 a3 a4 a5 a6 a7 a8 a9 a10) : ∃ n, W n a1 a2 a3 a4 a5 a6 a7 a8 a9 a10 :=
  loop_m (σ := A1 × A2 × A3 × A4 × A5 × A6 × A7 × A8 × A9 × A10) (fun n s => W n s.1 s.2.1 s.2.2.1 s.2.2.2.1 s.2.2.2.2.1 s.2.2.2.2.2.1 s.2.2.2.2.2.2.1 s.2.2.2.2.2.2.2.1 s.2.2.2.2.2.2.2.2.1 s.2.2.2.2.2.2.2.2.2) (fun s => I s.1 s.2.1 s.2.2.1 s.2.2.2.1 s.2.2.2.2.1 s.2.2.2.2.2.1 s.2.2.2.2.2.2.1 s.2.2.2.2.2.2.2.1 s.2.2.2.2.2.2.2.2.1 s.2.2.2.2.2.2.2.2.2) (fun s => μ s.1 s.2.1 s.2.2.1 s.2.2.2.1 s.2.2.2.2.1 s.2.2.2.2.2.1 s.2.2.2.2.2.2.1 s.2.2.2.2.2.2.2.1 s.2.2.2.2.2.2.2.2.1 s.2.2.2.2.2.2.2.2.2) (fun n s hI hk => hs n s.1 s.2.1 s.2.2.1 s.2.2.2.1 s.2.2.2.2.1 s.2.2.2.2.2.1 s.2.2.2.2.2.2.1 s.2.2.2.2.2.2.2.1 s.2.2.2.2.2.2.2.2.1 s.2.2.2.2.2.2.2.2.2 hI (fun b1 b2 b3 b4 b5 b6 b7 b8 b9 b10 h9 hm => hk (b1, b2, b3, b4, b5, b6, b7, b8, b9, b10) h9 hm)) (a1, a2, a3, a4, a5, a6, a7, a8, a9, a10) h
theorem lp11 {A1 A2 A3 A4 A5 A6 A7 A8 A9 A10 A11 : Type} (W : Nat → A1 → A2 → A3 → A4 → A5 → A6 → A7 → A8 → A9 → A10 → A11 → Prop) (I : A1 → A2 → A3 → A4 → A5 → A6 → A7 → A8 → A9 → A10 → A11 → Prop) (μ : A1 → A2 → A3 → A4 → A5 → A6 → A7 → A8 → A9 → A10 → A11 → Nat) (hs : ∀ (n : Nat) (a1 : A1) (a2 : A2) (a3 : A3) (a4 : A4) (a5 : A5) (a6 : A6) (a7 : A7) (a8 : A8) (a9 : A9) (a10 : A10) (a11 : A11), I a1 a2 a3 a4 a5 a6 a7 a8 a9 a10 a11 → (∀ (b1 : A1) (b2 : A2) (b3 : A3) (b4 : A4) (b5 : A5) (b6 : A6) (b7 : A7) (b8 : A8) (b9 : A9) (b10 : A10) (b11 : A11), I b1 b2 b3 b4 b5 b6 b7 b8 b9 b10 b11 → μ b1 b2 b3 b4 b5 b6 b7 b8 b9 b10 b11 < μ a1 a2 a3 a4 a5 a6 a7 a8 a9 a10 a11 → W n b1 b2 b3 b4 b5 b6 b7 b8 b9 b10 b11) → W (n + 1) a1 a2 a3 a4 a5 a6 a7 a8 a9 a10 a11) (a1 : A1) (a2 : A2) (a3 : A3) (a4 : A4) (a5 : A5) (a6 : A6) (a7 : A7) (a8 : A8) (a9 : A9) (a10 : A10) (a11 : A11) (h : I a1 a2 a3 a4 a5 a6 a7 a8 a9 a10 a11) : ∃ n, W n a1 a2 a3 a4 a5 a6 a7 a8 a9 a10 a11 :=
  loop_m (σ := A1 × A2 × A3 × A4 × A5 × A6 × A7 × A8 × A9 × A10 × A11) (fun n s => W n s.1 s.2.1 s.2.2.1 s.2.2.2.1 s.2.2.2.2.1 s.2.2.2.2.2.1 s.2.2.2.2.2.2.1 s.2.2.2.2.2.2.2.1 s.2.2.2.2.2.2.2.2.1 s.2.2.2.2.2.2.2.2.2.1 s.2.2.2.2.2.2.2.2.2.2) (fun s => I s.1 s.2.1 s.2.2.1 s.2.2.2.1 s.2.2.2.2.1 s.2.2.2.2.2.1 s.2.2.2.2.2.2.1 s.2.2.2.2.2.2.2.1 s.2.2.2.2.2.2.2.2.1 s.2.2.2.2.2.2.2.2.2.1 s.2.2.2.2.2.2.2.2.2.2) (fun s => μ s.1 s.2.1 s.2.2.1 s.2.2.2.1 s.2.2.2.2.1 s.2.2.2.2.2.1 s.2.2.2.2.2.2.1 s.2.2.2.2.2.2.2.1 s.2.2.2.2.2.2.2.2.1 s.2.2.2.2.2.2.2.2.2.1 s.2.2.2.2.2.2.2.2.2.2) (fun n s hI hk => hs n s.1 s.2.1 s.2.2.1 s.2.2.2.1 s.2.2.2.2.1 s.2.2.2.2.2.1 s.2.2.2.2.2.2.1 s.2.2.2.2.2.2.2.1 s.2.2.2.2.2.2.2.2.1 s.2.2.2.2.2.2.2.2.2.1 s.2.2.2.2.2.2.2.2.2.2 hI (fun b1 b2 b3 b4 b5 b6 b7 b8 b9 b10 b11 h9 hm => hk (b1, b2, b3, b4, b5, b6, b7, b8, b9, b10, b11) h9 hm)) (a1, a2, a3, a4, a5, a6, a7, a8, a9, a10, a11) h
theorem lp12 {A1 A2 A3 A4 A5 A6 A7 A8 A9 A10 A11 A12 : Type} (W : Nat → A1 → A2 → A3 → A4 → A5 → A6 → A7 → A8 → A9 → A10 → A11 → A12 → Prop) (I : A1 → A2 → A3 → A4 → A5 → A6 → A7 → A8 → A9 → A10 → A11 → A12 → Prop) (μ : A1 → A2 → A3 → A4 → A5 → A6 → A7 → A8 → A9 → A10 → A11 → A12 → Nat) (hs : ∀ (n : Nat) (a1 : A1) (a2 : A2) (a3 : A3) (a4 : A4) (a5 : A5) (a6 : A6) (a7 : A7) (a8 : A8) (a9 : A9) (a10 : A10) (a11 : A11) (a12 : A12), I a1 a2 a3 a4 a5 a6 a7 a8 a9 a10 a11 a12 → (∀ (b1 : A1) (b2 : A2) (b3 : A3) (b4 : A4) (b5 : A5) (b6 : A6) (b7 : A7) (b8 : A8) (b9 : A9) (b10 : A10) (b11 : A11) (b12 : A12), I b1 b2 b3 b4 b5 b6 b7 b8 b9 b10 b11 b12 → μ b1 b2 b3 b4 b5 b6 b7 b8 b9 b10 b11 b12 < μ a1 a2 a3 a4 a5 a6 a7 a8 a9 a10 a11 a12 → W n b1 b2 b3 b4 b5 b6 b7 b8 b9 b10 b11 b12) → W (n + 1) a1 a2 a3 a4 a5 a6 a7 a8 a9 a10 a11 a12) (a1 : A1) (a2 : A2) (a3 : A3) (a4 : A4) (a5 : A5) (a6 : A6) (a7 : A7) (a8 : A8) (a9 : A9) (a10 : A10) (a11 : A11) (a12 : A12) (h : I a1 a2 a3 a4 a5 a6 a7 a8 a9 a10 a11 a12) : ∃ n, W n a1 a2 a3 a4 a5 a6 a7 a8 a9 a10 a11 a12 :=
  loop_m (σ := A1 × A2 × A3 × A4 × A5 × A6 × A7 × A8 × A9 × A10 × A11 × A12) (fun n s => W n s.1 s.2.1 s.2.2.1 s.2.2.2.1 s.2.2.2.2.1 s.2.2.2.2.2.1 s.2.2.2.2.2.2.1 s.2.2.2.2.2.2.2.1 s.2.2.2.2.2.2.2.2.1 s.2.2.2.2.2.2.2.2.2.1 s.2.2.2.2.2.2.2.2.2.2.1 s.2.2.2.2.2.2.2.2.2.2.2) (fun s => I s.1 s.2.1 s.2.2.1 s.2.2.2.1 s.2.2.2.2.1 s.2.2.2.2.2.1 s.2.2.2.2.2.2.1 s.2.2.2.2.2.2.2.1 s.2.2.2.2.2.2.2.2.1 s.2.2.2.2.2.2.2.2.2.1 s.2.2.2.2.2.2.2.2.2.2.1 s.2.2.2.2.2.2.2.2.2.2.2) (fun s => μ s.1 s.2.1 s.2.2.1 s.2.2.2.1 s.2.2.2.2.1 s.2.2.2.2.2.1 s.2.2.2.2.2.2.1 s.2.2.2.2.2.2.2.1 s.2.2.2.2.2.2.2.2.1 s.2.2.2.2.2.2.2.2.2.1 s.2.2.2.2.2.2.2.2.2.2.1 s.2.2.2.2.2.2.2.2.2.2.2) (fun n s hI hk => hs n s.1 s.2.1 s.2.2.1 s.2.2.2.1 s.2.2.2.2.1 s.2.2.2.2.2.1 s.2.2.2.2.2.2.1 s.2.2.2.2.2.2.2.1 s.2.2.2.2.2.2.2.2.1 s.2.2.2.2.2.2.2.2.2.1 s.2.2.2.2.2.2.2.2.2.2.1 s.2.2.2.2.2.2.2.2.2.2.2 hI (fun b1 b2 b3 b4 b5 b6 b7 b8 b9 b10 b11 b12 h9 hm => hk (b1, b2, b3, b4, b5, b6, b7, b8, b9, b10, b11, b12) h9 hm)) (a1, a2, a3, a4, a5, a6, a7, a8, a9, a10, a11, a12) h
theorem lp13 {A1 A2 A3 A4 A5 A6 A7 A8 A9 A10 A11 A12 A13 : Type} (W : Nat → A1 → A2 → A3 → A4 → A5 → A6 → A7 → A8 → A9 → A10 → A11 → A12 → A13 → Prop) (I : A1 → A2 → A3 → A4 → A5 → A6 → A7 → A8 → A9 → A10 → A11 → A12 → A13 → Prop) (μ : A1 → A2 → A3 → A4 → A5 → A6 → A7 → A8 → A9 → A10 → A11 → A12 → A13 → Nat) (hs : ∀ (n : Nat) (a1 : A1) (a2 : A2) (a3 : A3) (a4 : A4) (a5 : A5) (a6 : A6) (a7 : A7) (a8 : A8) (a9 : A9) (a10 : A10) (a11 : A11) (a12 : A12) (a13 : A13), I a1 a2 a3 a4 a5 a6 a7 a8 a9 a10 a11 a12 a13 → (∀ (b1 : A1) (b2 : A2) (b3 : A3) (b4 : A4) (b5 : A5) (b6 : A6) (b7 : A7) (b8 : A8) (b9 : A9) (b10 : A10) (b11 : A11) (b12 : A12) (b13 : A13), I b1 b2 b3 b4 b5 b6 b7 b8 b9 b10 b11 b12 b13 → μ b1 b2 b3 b4 b5 b6 b7 b8 b9 b10 b11 b12 b13 < μ a1 a2 a3 a4 a5 a6 a7 a8 a9 a10 a11 a12 a13 → W n b1 b2 b3 b4 b5 b6 b7 b8 b9 b10 b11 b12 b13) → W (n + 1) a1 a2 a3 a4 a5 a6 a7 a8 a9 a10 a11 a12 a13) (a1 : A1) (a2 : A2) (a3 : A3) (a4 : A4) (a5 : A5) (a6 : A6) (a7 : A7) (a8 : A8) (a9 : A9) (a10 : A10) (a11 : A11) (a12 : A12) (a13 : A13) (h : I a1 a2 a3 a4 a5 a6 a7 a8 a9 a10 a11 a12 a13) : ∃ n, W n a1 a2 a3 a4 a5 a6 a7 a8 a9 a10 a11 a12 a13 :=
  loop_m (σ := A1 × A2 × A3 × A4 × A5 × A6 × A7 × A8 × A9 × A10 × A11 × A12 × A13) (fun n s => W n s.1 s.2.1 s.2.2.1 s.2.2.2.1 s.2.2.2.2.1 s.2.2.2.2.2.1 s.2.2.2.2.2.2.1 s.2.2.2.2.2.2.2.1 s.2.2.2.2.2.2.2.2.1 s.2.2.2.2.2.2.2.2.2.1 s.2.2.2.2.2.2.2.2.2.2.1 s.2.2.2.2.2.2.2.2.2.2.2.1 s.2.2.2.2.2.2.2.2.2.2.2.2) (fun s => I s.1 s.2.1 s.2.2.1 s.2.2.2.1 s.2.2.2.2.1 s.2.2.2.2.2.1 s.2.2.2.2.2.2.1 s.2.2.2.2.2.2.2.1 s.2.2.2.2.2.2.2.2.1 s.2.2.2.2.2.2.2.2.2.1 s.2.2.2.2.2.2.2.2.2.2.1 s.2.2.2.2.2.2.2.2.2.2.2.1 s.2.2.2.2.2.2.2.2.2.2.2.2) (fun s => μ s.1 s.2.1 s.2.2.1 s.2.2.2.1 s.2.2.2.2.1 s.2.2.2.2.2.1 s.2.2.2.2.2.2.1 s.2.2.2.2.2.2.2.1 s.2.2.2.2.2.2.2.2.1 s.2.2.2.2.2.2.2.2.2.1 s.2.2.2.2.2.2.2.2.2.2.1 s.2.2.2.2.2.2.2.2.2.2.2.1 s.2.2.2.2.2.2.2.2.2.2.2.2) (fun n s hI hk => hs n s.1 s.2.1 s.2.2.1 s.2.2.2.1 s.2.2.2.2.1 s.2.2.2.2.2.1 s.2.2.2.2.2.2.1 s.2.2.2.2.2.2.2.1 s.2.2.2.2.2.2.2.2.1 s.2.2.2.2.2.2.2.2.2.1 s.2.2.2.2.2.2.2.2.2.2.1 s.2.2.2.2.2.2.2.2.2.2.2.1 s.2.2.2.2.2.2.2.2.2.2.2.2 hI (fun b1 b2 b3 b4 b5 b6 b7 b8 b9 b10 b11 b12 b13 h9 hm => hk (b1, b2, b3, b4, b5, b6, b7, b8, b9, b10, b11, b12, b13) h9 hm)) (a1, a2, a3, a4, a5, a6, a7, a8, a9, a10, a11, a12, a13) h
theorem lp14 {A1 A2 A3 A4 A5 A6 A7 A8 A9 A10 A11 A12 A13 A14 : Type} (W : Nat → A1 → A2 → A3 → A4 → A5 → A6 → A7 → A8 → A9 → A10 → A11 → A12 → A13 → A14 → Prop) (I : A1 → A2 → A3 → A4 → A5 → A6 → A7 → A8 → A9 → A10 → A11 → A12 → A13 → A14 → Prop) (μ : A1 → A2 → A3 → A4 → A5 → A6 → A7 → A8 → A9 → A10 → A11 → A12 → A13 → A14 → Nat) (hs : ∀ (n : Nat) (a1 : A1) (a2 : A2) (a3 : A3) (a4 : A4) (a5 : A5) (a6 : A6) (a7 : A7) (a8 : A8) (a9 : A9) (a10 : A10) (a11 : A11) (a12 : A12) (a13 : A13) (a14 : A14), I a1 a2 a3 a4 a5 a6 a7 a8 a9 a10 a11 a12 a13 a14 → (∀ (b1 : A1) (b2 : A2) (b3 : A3) (b4 : A4) (b5 : A5) (b6 : A6) (b7 : A7) (b8 : A8) (b9 : A9) (b10 : A10) (b11 : A11) (b12 : A12) (b13 : A13) (b14 : A14), I b1 b2 b3 b4 b5 b6 b7 b8 b9 b10 b11 b12 b13 b14 → μ b1 b2 b3 b4 b5 b6 b7 b8 b9 b10 b11 b12 b13 b14 < μ a1 a2 a3 a4 a5 a6 a7 a8 a9 a10 a11 a12 a13 a14 → W n b1 b2 b3 b4 b5 b6 b7 b8 b9 b10 b11 b12 b13 b14) → W (n + 1) a1 a2 a3 a4 a5 a6 a7 a8 a9 a10 a11 a12 a13 a14) (a1 : A1) (a2 : A2) (a3 : A3) (a4 : A4) (a5 : A5) (a6 : A6) (a7 : A7) (a8 : A8) (a9 : A9) (a10 : A10) (a11 : A11) (a12 : A12) (a13 : A13) (a14 : A14) (h : I a1 a2 a3 a4 a5 a6 a7 a8 a9 a10 a11 a12 a13 a14) : ∃ n, W n a1 a2 a3 a4 a5 a6 a7 a8 a9 a10 a11 a12 a13 a14 :=
  loop_m (σ := A1 × A2 × A3 × A4 × A5 × A6 × A7 × A8 × A9 × A10 × A11 × A12 × A13 × A14) (fun n s => W n s.1 s.2.1 s.2.2.1 s.2.2.2.1 s.2.2.2.2.1 s.2.2.2.2.2.1 s.2.2.2.2.2.2.1 s.2.2.2.2.2.2.2.1 s.2.2.2.2.2.2.2.2.1 s.2.2.2.2.2.2.2.2.2.1 s.2.2.2.2.2.2.2.2.2.2.1 s.2.2.2.2.2.2.2.2.2.2.2.1 s.2.2.2.2.2.2.2.2.2.2.2.2.1 s.2.2.2.2.2.2.2.2.2.2.2.2.2) (fun s => I s.1 s.2.1 s.2.2.1 s.2.2.2.1 s.2.2.2.2.1 s.2.2.2.2.2.1 s.2.2.2.2.2.2.1 s.2.2.2.2.2.2.2.1 s.2.2.2.2.2.2.2.2.1 s.2.2.2.2.2.2.2.2.2.1 s.2.2.2.2.2.2.2.2.2.2.1 s.2.2.2.2.2.2.2.2.2.2.2.1 s.2.2.2.2.2.2.2.2.2.2.2.2.1 s.2.2.2.2.2.2.2.2.2.2.2.2.2) (fun s => μ s.1 s.2.1 s.2.2.1 s.2.2.2.1 s.2.2.2.2.1 s.2.2.2.2.2.1 s.2.2.2.2.2.2.1 s.2.2.2.2.2.2.2.1 s.2.2.2.2.2.2.2.2.1 s.2.2.2.2.2.2.2.2.2.1 s.2.2.2.2.2.2.2.2.2.2.1 s.2.2.2.2.2.2.2.2.2.2.2.1 s.2.2.2.2.2.2.2.2.2.2.2.2.1 s.2.2.2.2.2.2.2.2.2.2.2.2.2) (fun n s hI hk => hs n s.1 s.2.1 s.2.2.1 s.2.2.2.1 s.2.2.2.2.1 s.2.2.2.2.2.1 s.2.2.2.2.2.2.1 s.2.2.2.2.2.2.2.1 s.2.2.2.2.2.2.2.2.1 s.2.2.2.2.2.2.2.2.2.1 s.2.2.2.2.2.2.2.2.2.2.1 s.2.2.2.2.2.2.2.2.2.2.2.1 s.2.2.2.2.2.2.2.2.2.2.2.2.1 s.2.2.2.2.2.2.2.2.2.2.2.2.2 hI (fun b1 b2 b3 b4 b5 b6 b7 b8 b9 b10 b11 b12 b13 b14 h9 hm => hk (b1, b2, b3, b4, b5, b6, b7, b8, b9, b10, b11, b12, b13, b14) h9 hm)) (a1, a2, a3, a4, a5, a6, a7, a8, a9, a10, a11, a12, a13, a14) h
theorem lp15 {A1 A2 A3 A4 A5 A6 A7 A8 A9 A10 A11 A12 A13 A14 A15 : Type} (W : Nat → A1 → A2 → A3 → A4 → A5 → A6 → A7 → A8 → A9 → A10 → A11 → A12 → A13 → A14 → A15 → Prop) (I : A1 → A2 → A3 → A4 → A5 → A6 → A7 → A8 → A9 → A10 → A11 → A12 → A13 → A14 → A15 → Prop) (μ : A1 → A2 → A3 → A4 → A5 → A6 → A7 → A8 → A9 → A10 → A11 → A12 → A13 → A14 → A15 → Nat) (hs : ∀ (n : Nat) (a1 : A1) (a2 : A2) (a3 : A3) (a4 : A4) (a5 : A5) (a6 : A6) (a7 : A7) (a8 : A8) (a9 : A9) (a10 : A10) (a11 : A11) (a12 : A12) (a13 : A13) (a14 : A14) (a15 : A15), I a1 a2 a3 a4 a5 a6 a7 a8 a9 a10 a11 a12 a13 a14 a15 → (∀ (b1 : A1) (b2 : A2) (b3 : A3) (b4 : A4) (b5 : A5) (b6 : A6) (b7 : A7) (b8 : A8) (b9 : A9) (b10 : A10) (b11 : A11) (b12 : A12) (b13 : A13) (b14 : A14) (b15 : A15), I b1 b2 b3 b4 b5 b6 b7 b8 b9 b10 b11 b12 b13 b14 b15 → μ b1 b2 b3 b4 b5 b6 b7 b8 b9 b10 b11 b12 b13 b14 b15 < μ a1 a2 a3 a4 a5 a6 a7 a8 a9 a10 a11 a12 a13 a14 a15 → W n b1 b2 b3 b4 b5 b6 b7 b8 b9 b10 b11 b12 b13 b14 b15) → W (n + 1) a1 a2 a3 a4 a5 a6 a7 a8 a9 a10 a11 a12 a13 a14 a15) (a1 : A1) (a2 : A2) (a3 : A3) (a4 : A4) (a5 : A5) (a6 : A6) (a7 : A7) (a8 : A8) (a9 : A9) (a10 : A10) (a11 : A11) (a12 : A12) (a13 : A13) (a14 : A14) (a15 : A15) (h : I a1 a2 a3 a4 a5 a6 a7 a8 a9 a10 a11 a12 a13 a14 a15) : ∃ n, W n a1 a2 a3 a4 a5 a6 a7 a8 a9 a10 a11 a12 a13 a14 a15 :=
  loop_m (σ := A1 × A2 × A3 × A4 × A5 × A6 × A7 × A8 × A9 × A10 × A11 × A12 × A13 × A14 × A15) (fun n s => W n s.1 s.2.1 s.2.2.1 s.2.2.2.1 s.2.2.2.2.1 s.2.2.2.2.2.1 s.2.2.2.2.2.2.1 s.2.2.2.2.2.2.2.1 s.2.2.2.2.2.2.2.2.1 s.2.2.2.2.2.2.2.2.2.1 s.2.2.2.2.2.2.2.2.2.2.1 s.2.2.2.2.2.2.2.2.2.2.2.1 s.2.2.2.2.2.2.2.2.2.2.2.2.1 s.2.2.2.2.2.2.2.2.2.2.2.2.2.1 s.2.2.2.2.2.2.2.2.2.2.2.2.2.2) (fun s => I s.1 s.2.1 s.2.2.1 s.2.2.2.1 s.2.2.2.2.1 s.2.2.2.2.2.1 s.2.2.2.2.2.2.1 s.2.2.2.2.2.2.2.1 s.2.2.2.2.2.2.2.2.1 s.2.2.2.2.2.2.2.2.2.1 s.2.2.2.2.2.2.2.2.2.2.1 s.2.2.2.2.2.2.2.2.2.2.2.1 s.2.2.2.2.2.2.2.2.2.2.2.2.1 s.2.2.2.2.2.2.2.2.2.2.2.2.2.1 s.2.2.2.2.2.2.2.2.2.2.2.2.2.2) (fun s => μ s.1 s.2.1 s.2.2.1 s.2.2.2.1 s.2.2.2.2.1 s.2.2.2.2.2.1 s.2.2.2.2.2.2.1 s.2.2.2.2.2.2.2.1 s.2.2.2.2.2.2.2.2.1 s.2.2.2.2.2.2.2.2.2.1 s.2.2.2.2.2.2.2.2.2.2.1 s.2.2.2.2.2.2.2.2.2.2.2.1 s.2.2.2.2.2.2.2.2.2.2.2.2.1 s.2.2.2.2.2.2.2.2.2.2.2.2.2.1 s.2.2.2.2.2.2.2.2.2.2.2.2.2.2) (fun n s hI hk => hs n s.1 s.2.1 s.2.2.1 s.2.2.2.1 s.2.2.2.2.1 s.2.2.2.2.2.1 s.2.2.2.2.2.2.1 s.2.2.2.2.2.2.2.1 s.2.2.2.2.2.2.2.2.1 s.2.2.2.2.2.2.2.2.2.1 s.2.2.2.2.2.2.2.2.2.2.1 s.2.2.2.2.2.2.2.2.2.2.2.1 s.2.2.2.2.2.2.2.2.2.2.2.2.1 s.2.2.2.2.2.2.2.2.2.2.2.2.2.1 s.2.2.2.2.2.2.2.2.2.2.2.2.2.2 hI (fun b1 b2 b3 b4 b5 b6 b7 b8 b9 b10 b11 b12 b13 b14 b15 h9 hm => hk (b1, b2, b3, b4, b5, b6, b7, b8, b9, b10, b11, b12, b13, b14, b15) h9 hm)) (a1, a2, a3, a4, a5, a6, a7, a8, a9, a10, a11, a12, a13, a14, a15) h
theorem lp16 {A1 A2 A3 A4 A5 A6 A7 A8 A9 A10 A11 A12 A13 A14 A15 A16 : Type} (W : Nat → A1 → A2 → A3 → A4 → A5 → A6 → A7 → A8 → A9 → A10 → A11 → A12 → A13 → A14 → A15 → A16 → Prop) (I : A1 → A2 → A3 → A4 → A5 → A6 → A7 → A8 → A9 → A10 → A11 → A12 → A13 → A14 → A15 → A16 → Prop) (μ : A1 → A2 → A3 → A4 → A5 → A6 → A7 → A8 → A9 → A10 → A11 → A12 → A13 → A14 → A15 → A16 → Nat) (hs : ∀ (n : Nat) (a1 : A1) (a2 : A2) (a3 : A3) (a4 : A4) (a5 : A5) (a6 : A6) (a7 : A7) (a8 : A8) (a9 : A9) (a10 : A10) (a11 : A11) (a12 : A12) (a13 : A13) (a14 : A14) (a15 : A15) (a16 : A16), I a1 a2 a3 a4 a5 a6 a7 a8 a9 a10 a11 a12 a13 a14 a15 a16 → (∀ (b1 : A1) (b2 : A2) (b3 : A3) (b4 : A4) (b5 : A5) (b6 : A6) (b7 : A7) (b8 : A8) (b9 : A9) (b10 : A10) (b11 : A11) (b12 : A12) (b13 : A13) (b14 : A14) (b15 : A15) (b16 : A16), I b1 b2 b3 b4 b5 b6 b7 b8 b9 b10 b11 b12 b13 b14 b15 b16 → μ b1 b2 b3 b4 b5 b6 b7 b8 b9 b10 b11 b12 b13 b14 b15 b16 < μ a1 a2 a3 a4 a5 a6 a7 a8 a9 a10 a11 a12 a13 a14 a15 a16 → W n b1 b2 b3 b4 b5 b6 b7 b8 b9 b10 b11 b12 b13 b14 b15 b16) → W (n + 1) a1 a2 a3 a4 a5 a6 a7 a8 a9 a10 a11 a12 a13 a14 a15 a16) (a1 : A1) (a2 : A2) (a3 : A3) (a4 : A4) (a5 : A5) (a6 : A6) (a7 : A7) (a8 : A8) (a9 : A9) (a10 : A10) (a11 : A11) (a12 : A12) (a13 : A13) (a14 : A14) (a15 : A15) (a16 : A16) (h : I a1 a2 a3 a4 a5 a6 a7 a8 a9 a10 a11 a12 a13 a14 a15 a16) : ∃ n, W n a1 a2 a3 a4 a5 a6 a7 a8 a9 a10 a11 a12 a13 a14 a15 a16 :=
  loop_m (σ := A1 × A2 × A3 × A4 × A5 × A6 × A7 × A8 × A9 × A10 × A11 × A12 × A13 × A14 × A15 × A16) (fun n s => W n s.1 s.2.1 s.2.2.1 s.2.2.2.1 s.2.2.2.2.1 s.2.2.2.2.2.1 s.2.2.2.2.2.2.1 s.2.2.2.2.2.2.2.1 s.2.2.2.2.2.2.2.2.1 s.2.2.2.2.2.2.2.2.2.1 s.2.2.2.2.2.2.2.2.2.2.1 s.2.2.2.2.2.2.2.2.2.2.2.1 s.2.2.2.2.2.2.2.2.2.2.2.2.1 s.2.2.2.2.2.2.2.2.2.2.2.2.2.1 s.2.2.2.2.2.2.2.2.2.2.2.2.2.2.1 s.2.2.2.2.2.2.2.2.2.2.2.2.2.2.2) (fun s => I s.1 s.2.1 s.2.2.1 s.2.2.2.1 s.2.2.2.2.1 s.2.2.2.2.2.1 s.2.2.2.2.2.2.1 s.2.2.2.2.2.2.2.1 s.2.2.2.2.2.2.2.2.1 s.2.2.2.2.2.2.2.2.2.1 s.2.2.2.2.2.2.2.2.2.2.1 s.2.2.2.2.2.2.2.2.2.2.2.1 s.2.2.2.2.2.2.2.2.2.2.2.2.1 s.2.2.2.2.2.2.2.2.2.2.2.2.2.1 s.2.2.2.2.2.2.2.2.2.2.2.2.2.2.1 s.2.2.2.2.2.2.2.2.2.2.2.2.2.2.2) (fun s => μ s.1 s.2.1 s.2.2.1 s.2.2.2.1 s.2.2.2.2.1 s.2.2.2.2.2.1 s.2.2.2.2.2.2.1 s.2.2.2.2.2.2.2.1 s.2.2.2.2.2.2.2.2.1 s.2.2.2.2.2.2.2.2.2.1 s.2.2.2.2.2.2.2.2.2.2.1 s.2.2.2.2.2.2.2.2.2.2.2.1 s.2.2.2.2.2.2.2.2.2.2.2.2.1 s.2.2.2.2.2.2.2.2.2.2.2.2.2.1 s.2.2.2.2.2.2.2.2.2.2.2.2.2.2.1 s.2.2.2.2.2.2.2.2.2.2.2.2.2.2.2) (fun n s hI hk => hs n s.1 s.2.1 s.2.2.1 s.2.2.2.1 s.2.2.2.2.1 s.2.2.2.2.2.1 s.2.2.2.2.2.2.1 s.2.2.2.2.2.2.2.1 s.2.2.2.2.2.2.2.2.1 s.2.2.2.2.2.2.2.2.2.1 s.2.2.2.2.2.2.2.2.2.2.1 s.2.2.2.2.2.2.2.2.2.2.2.1 s.2.2.2.2.2.2.2.2.2.2.2.2.1 s.2.2.2.2.2.2.2.2.2.2.2.2.2.1 s.2.2.2.2.2.2.2.2.2.2.2.2.2.2.1 s.2.2.2.2.2.2.2.2.2.2.2.2.2.2.2 hI (fun b1 b2 b3 b4 b5 b6 b7 b8 b9 b10 b11 b12 b13 b14 b15 b16 h9 hm => hk (b1, b2, b3, b4, b5, b6, b7, b8, b9, b10, b11, b12, b13, b14, b15, b16) h9 hm)) (a1, a2, a3, a4, a5, a6, a7, a8, a9, a10, a11, a12, a13, a14, a15, a16) h
theorem pk_least (P : Nat → Prop) (h : ∃ k, P k) : ∃ k, P k ∧ ∀ j, j < k → ¬ P j := by
  obtain ⟨k, hk⟩ := h
  induction k using Nat.strongRecOn with
  | ind k ih =>
    by_cases e : ∃ j, j < k ∧ P j
    · obtain ⟨j, hj, pj⟩ := e
      exact ih j hj pj
    · exact ⟨k, hk, fun j hj pj => e ⟨j, hj, pj⟩⟩
theorem rp1 {ρ A1 : Type} (W : Nat → (ρ → Prop) → A1 → Prop) (ok : A1 → Prop) (μ : A1 → Nat) (val : A1 → ρ)
    (hs : ∀ (d : Nat) (post : ρ → Prop) (a1 : A1), ok a1 → post (val a1) → (∀ (post' : ρ → Prop) (b1 : A1), ok b1 → μ b1 < μ a1 → post' (val b1) → W d post' b1) → W (d + 1) post a1) :
    ∀ (d : Nat) (post : ρ → Prop) (a1 : A1), ok a1 → μ a1 < d → post (val a1) → W d post a1 := by
  intro d
  induction d with
  | zero => intro post a1 _ h; omega
  | succ d ih =>
    intro post a1 ho hm hp
    exact hs d post a1 ho hp (fun post' b1 ho' hm' hp' => ih post' b1 ho' (by omega) hp')
theorem rp2 {ρ A1 A2 : Type} (W : Nat → (ρ → Prop) → A1 → A2 → Prop) (ok : A1 → A2 → Prop) (μ : A1 → A2 → Nat) (val : A1 → A2 → ρ)
    (hs : ∀ (d : Nat) (post : ρ → Prop) (a1 : A1) (a2 : A2), ok a1 a2 → post (val a1 a2) → (∀ (post' : ρ → Prop) (b1 : A1) (b2 : A2), ok b1 b2 → μ b1 b2 < μ a1 a2 → post' (val b1 b2) → W d post' b1 b2) → W (d + 1) post a1 a2) :
    ∀ (d : Nat) (post : ρ → Prop) (a1 : A1) (a2 : A2), ok a1 a2 → μ a1 a2 < d → post (val a1 a2) → W d post a1 a2 := by
  intro d
  induction d with
  | zero => intro post a1 a2 _ h; omega
  | succ d ih =>
    intro post a1 a2 ho hm hp
    exact hs d post a1 a2 ho hp (fun post' b1 b2 ho' hm' hp' => ih post' b1 b2 ho' (by omega) hp')
theorem rp3 {ρ A1 A2 A3 : Type} (W : Nat → (ρ → Prop) → A1 → A2 → A3 → Prop) (ok : A1 → A2 → A3 → Prop) (μ : A1 → A2 → A3 → Nat) (val : A1 → A2 → A3 → ρ)
    (hs : ∀ (d : Nat) (post : ρ → Prop) (a1 : A1) (a2 : A2) (a3 : A3), ok a1 a2 a3 → post (val a1 a2 a3) → (∀ (post' : ρ → Prop) (b1 : A1) (b2 : A2) (b3 : A3), ok b1 b2 b3 → μ b1 b2 b3 < μ a1 a2 a3 → post' (val b1 b2 b3) → W d post' b1 b2 b3) → W (d + 1) post a1 a2 a3) :
    ∀ (d : Nat) (post : ρ → Prop) (a1 : A1) (a2 : A2) (a3 : A3), ok a1 a2 a3 → μ a1 a2 a3 < d → post (val a1 a2 a3) → W d post a1 a2 a3 := by
  intro d
  induction d with
  | zero => intro post a1 a2 a3 _ h; omega
  | succ d ih =>
    intro post a1 a2 a3 ho hm hp
    exact hs d post a1 a2 a3 ho hp (fun post' b1 b2 b3 ho' hm' hp' => ih post' b1 b2 b3 ho' (by omega) hp')
theorem rp4 {ρ A1 A2 A3 A4 : Type} (W : Nat → (ρ → Prop) → A1 → A2 → A3 → A4 → Prop) (ok : A1 → A2 → A3 → A4 → Prop) (μ : A1 → A2 → A3 → A4 → Nat) (val : A1 → A2 → A3 → A4 → ρ)
    (hs : ∀ (d : Nat) (post : ρ → Prop) (a1 : A1) (a2 : A2) (a3 : A3) (a4 : A4), ok a1 a2 a3 a4 → post (val a1 a2 a3 a4) → (∀ (post' : ρ → Prop) (b1 : A1) (b2 : A2) (b3 : A3) (b4 : A4), ok b1 b2 b3 b4 → μ b1 b2 b3 b4 < μ a1 a2 a3 a4 → post' (val b1 b2 b3 b4) → W d post' b1 b2 b3 b4) → W (d + 1) post a1 a2 a3 a4) :
    ∀ (d : Nat) (post : ρ → Prop) (a1 : A1) (a2 : A2) (a3 : A3) (a4 : A4), ok a1 a2 a3 a4 → μ a1 a2 a3 a4 < d → post (val a1 a2 a3 a4) → W d post a1 a2 a3 a4 := by
  intro d
  induction d with
  | zero => intro post a1 a2 a3 a4 _ h; omega
  | succ d ih =>
    intro post a1 a2 a3 a4 ho hm hp
    exact hs d post a1 a2 a3 a4 ho hp (fun post' b1 b2 b3 b4 ho' hm' hp' => ih post' b1 b2 b3 b4 ho' (by omega) hp')
theorem rp5 {ρ A1 A2 A3 A4 A5 : Type} (W : Nat → (ρ → Prop) → A1 → A2 → A3 → A4 → A5 → Prop) (ok : A1 → A2 → A3 → A4 → A5 → Prop) (μ : A1 → A2 → A3 → A4 → A5 → Nat) (val : A1 → A2 → A3 → A4 → A5 → ρ)
    (hs : ∀ (d : Nat) (post : ρ → Prop) (a1 : A1) (a2 : A2) (a3 : A3) (a4 : A4) (a5 : A5), ok a1 a2 a3 a4 a5 → post (val a1 a2 a3 a4 a5) → (∀ (post' : ρ → Prop) (b1 : A1) (b2 : A2) (b3 : A3) (b4 : A4) (b5 : A5), ok b1 b2 b3 b4 b5 → μ b1 b2 b3 b4 b5 < μ a1 a2 a3 a4 a5 → post' (val b1 b2 b3 b4 b5) → W d post' b1 b2 b3 b4 b5) → W (d + 1) post a1 a2 a3 a4 a5) :
    ∀ (d : Nat) (post : ρ → Prop) (a1 : A1) (a2 : A2) (a3 : A3) (a4 : A4) (a5 : A5), ok a1 a2 a3 a4 a5 → μ a1 a2 a3 a4 a5 < d → post (val a1 a2 a3 a4 a5) → W d post a1 a2 a3 a4 a5 := by
  intro d
  induction d with
  | zero => intro post a1 a2 a3 a4 a5 _ h; omega
  | succ d ih =>
    intro post a1 a2 a3 a4 a5 ho hm hp
    exact hs d post a1 a2 a3 a4 a5 ho hp (fun post' b1 b2 b3 b4 b5 ho' hm' hp' => ih post' b1 b2 b3 b4 b5 ho' (by omega) hp')
theorem rp6 {ρ A1 A2 A3 A4 A5 A6 : Type} (W : Nat → (ρ → Prop) → A1 → A2 → A3 → A4 → A5 → A6 → Prop) (ok : A1 → A2 → A3 → A4 → A5 → A6 → Prop) (μ : A1 → A2 → A3 → A4 → A5 → A6 → Nat) (val : A1 → A2 → A3 → A4 → A5 → A6 → ρ)
    (hs : ∀ (d : Nat) (post : ρ → Prop) (a1 : A1) (a2 : A2) (a3 : A3) (a4 : A4) (a5 : A5) (a6 : A6), ok a1 a2 a3 a4 a5 a6 → post (val a1 a2 a3 a4 a5 a6) → (∀ (post' : ρ → Prop) (b1 : A1) (b2 : A2) (b3 : A3) (b4 : A4) (b5 : A5) (b6 : A6), ok b1 b2 b3 b4 b5 b6 → μ b1 b2 b3 b4 b5 b6 < μ a1 a2 a3 a4 a5 a6 → post' (val b1 b2 b3 b4 b5 b6) → W d post' b1 b2 b3 b4 b5 b6) → W (d + 1) post a1 a2 a3 a4 a5 a6) :
    ∀ (d : Nat) (post : ρ → Prop) (a1 : A1) (a2 : A2) (a3 : A3) (a4 : A4) (a5 : A5) (a6 : A6), ok a1 a2 a3 a4 a5 a6 → μ a1 a2 a3 a4 a5 a6 < d → post (val a1 a2 a3 a4 a5 a6) → W d post a1 a2 a3 a4 a5 a6 := by
  intro d
  induction d with
  | zero => intro post a1 a2 a3 a4 a5 a6 _ h; omega
  | succ d ih =>
    intro post a1 a2 a3 a4 a5 a6 ho hm hp
    exact hs d post a1 a2 a3 a4 a5 a6 ho hp (fun post' b1 b2 b3 b4 b5 b6 ho' hm' hp' => ih post' b1 b2 b3 b4 b5 b6 ho' (by omega) hp')
theorem rec_p {σ ρ : Type} (W : Nat → (ρ → Prop) → σ → Prop) (ok : σ → Prop) (μ : σ → Nat) (val : σ → ρ)
    (hs : ∀ d s post, ok s → post (val s) → (∀ s' post', ok s' → μ s' < μ s → post' (val s') → W d post' s') → W (d + 1) post s) :
    ∀ d s post, ok s → μ s < d → post (val s) → W d post s := by
  intro d
  induction d with
  | zero => intro s post _ h; omega
  | succ d ih =>
    intro s post ho hm hp
    exact hs d s post ho hp (fun s' post' ho' hm' hp' => ih s' post' ho' (by omega) hp')
theorem rec_q {σ ρ : Type} (W : Nat → (ρ → Prop) → σ → Prop) (ok : σ → Prop) (μ : σ → Nat) (Q : σ → ρ → Prop)
    (hs : ∀ d s post, ok s → (∀ r, Q s r → post r) → (∀ s' post', ok s' → μ s' < μ s → (∀ r, Q s' r → post' r) → W d post' s') → W (d + 1) post s) :
    ∀ d s post, ok s → μ s < d → (∀ r, Q s r → post r) → W d post s := by
  intro d
  induction d with
  | zero => intro s post _ h; omega
  | succ d ih =>
    intro s post ho hm hp
    exact hs d s post ho hp (fun s' post' ho' hm' hp' => ih s' post' ho' (by omega) hp')
def bx_sum (f : Nat → Int32) : Nat → Int32
  | 0 => 0
  | n + 1 => bx_sum f n + f n
theorem ek_u {A : Prop} {B : Nat → Prop} {k N : Nat} (hk : k < N) (h : B k) : (some k = none → A) ∧ (∀ y : Nat, some k = some y → (y < N ∧ B y)) :=
  ⟨fun z => absurd z (Option.some_ne_none k), fun _ e => (by cases e; exact ⟨hk, h⟩)⟩
theorem ek_nu {A : Prop} {B : Nat → Prop} (h : A) : ((none : Option Nat) = none → A) ∧ (∀ y : Nat, (none : Option Nat) = some y → B y) :=
  ⟨fun _ => h, fun _ e => (by cases e)⟩
theorem ek_if {c d A B : Prop} (e : c ↔ d) (f : d → A) (g : ¬ d → B) : (c → A) ∧ (¬ c → B) :=
  ⟨fun z => f (e.mp z), fun z => g (fun y => z (e.mpr y))⟩
theorem ek_v {α : Sort _} {P : α → Prop} {a b : α} (e : a = b) (h : P b) : P a := e ▸ h
theorem co_some {x : Option Nat} {A : Prop} {B : Nat → Prop} (i : Nat) (h : B i) (hx : x = some i := by rfl) : (x = none → A) ∧ (∀ y : Nat, x = some y → B y) := by
  subst hx
  exact ⟨fun e => (nomatch e), fun y e => Option.some.inj e ▸ h⟩
theorem co_none {x : Option Nat} {A : Prop} {B : Nat → Prop} (h : A) (hx : x = none := by rfl) : (x = none → A) ∧ (∀ y : Nat, x = some y → B y) := by
  subst hx
  exact ⟨fun _ => h, fun y e => (nomatch e)⟩
theorem co_any {x : Option Nat} {A : Prop} {B : Nat → Prop} (hn : x = none → A) (hs : ∀ i : Nat, x = some i → B i) : (x = none → A) ∧ (∀ y : Nat, x = some y → B y) := ⟨hn, hs⟩
theorem co_2 {P : Nat → Prop} (h0 : P 0) (h1 : P 1) {i : Nat} (hi : i < 2) : P i :=
  match i, hi with
  | 0, _ => h0
  | 1, _ => h1
theorem co_3 {P : Nat → Prop} (h0 : P 0) (h1 : P 1) (h2 : P 2) {i : Nat} (hi : i < 3) : P i :=
  match i, hi with
  | 0, _ => h0
  | 1, _ => h1
  | 2, _ => h2
theorem co_4 {P : Nat → Prop} (h0 : P 0) (h1 : P 1) (h2 : P 2) (h3 : P 3) {i : Nat} (hi : i < 4) : P i :=
  match i, hi with
  | 0, _ => h0
  | 1, _ => h1
  | 2, _ => h2
  | 3, _ => h3
theorem co_dec {N : Nat} {P : Nat → Prop} [DecidablePred P] (h : (List.range N).all (fun i => decide (P i)) = true) {i : Nat} (hi : i < N) : P i := by
  have := List.all_eq_true.mp h i (List.mem_range.mpr hi)
  exact of_decide_eq_true this
theorem co_tab {α : Type} {l : List α} {d : α} {P : α → Prop} (h : ∀ a, a ∈ l → P a) {i : Nat} (hi : i < l.length) : P (l.getD i d) := by
  rw [List.getD_eq_getElem?_getD, List.getElem?_eq_getElem hi]
  exact h _ (List.getElem_mem hi)
theorem pk_mu {x : Int32} {L : Nat} (h0 : ¬ x < 0) (h : ¬ nI L ≤ x) (hL : L < 2 ^ 31) : ∃ j : Nat, j < L ∧ x = nI j ∧ x + 1 = nI (j + 1) ∧ x.toNatClampNeg = j ∧ L - (x + 1).toNatClampNeg < L - x.toNatClampNeg := by
  obtain ⟨j, hj, rfl⟩ := nI_of h0
  have hl : j < L := Nat.not_le.mp fun q => h (nI_le q hj)
  refine ⟨j, hl, rfl, nI_1 j, nI_clamp hj, ?_⟩
  rw [nI_1, nI_clamp (by omega), nI_clamp hj]
  omega
theorem op_s {α : Type} {r : Option α} {A : Prop} {B : α → Prop} {y : α} (h : r = some y) (b : B y) : (r = none → A) ∧ ∀ z, r = some z → B z :=
  ⟨fun e => (by rw [h] at e; cases e), fun z e => (by rw [h] at e; cases e; exact b)⟩
def l_holds {α : Type} (a : Nat → Option Nat) (LP : List Nat) (p : Nat → α) (c : Nat) (b : Nat → α) : Prop :=
  ∀ j, j < c → ∃ y, a j = some y ∧ y ∈ LP ∧ p y = b j
theorem l_holds_0 {α : Type} {a : Nat → Option Nat} {LP : List Nat} {p b : Nat → α} : l_holds a LP p 0 b := fun j h => absurd h (Nat.not_lt_zero j)
theorem l_in_new (LP : List Nat) (q : Nat) : q ∈ LP ++ [q] := List.mem_append.mpr (Or.inr (List.mem_singleton.mpr rfl))
def l_sum (b : Nat → Int32) : Nat → Int32
  | 0 => 0
  | k + 1 => l_sum b k + b k
theorem sb_shr0 (x : Int32) : x >>> ((0 : Int32) &&& 31) = x := by
  rw [show ((0 : Int32) &&& 31) = 0 by decide]
  simp
theorem sb_shl0 (x : Int32) : x <<< ((0 : Int32) &&& 31) = x := by
  rw [show ((0 : Int32) &&& 31) = 0 by decide]
  simp
theorem sb_cl0 : (0 : Int32).toNatClampNeg = 0 := by decide
theorem sb_m1 {p : Nat} (h : 0 < p) : nI p + (-1) = nI (p - 1) := by
  obtain ⟨q, rfl⟩ : ∃ q, p = q + 1 := ⟨p - 1, by omega⟩
  exact pk_m1 q
def sb_b (c : Nat) : Int32 := (nI c).toInt8.toInt32
theorem sb_byte : ∀ c, c < 256 → sb_b c &&& 255 = nI c ∧ ((nI c).toUInt32 % 65536).toInt32 = nI c ∧ nI c ≤ 255 := by decide +kernel
def sb_Fit (a : Nat → Int32) : Prop := ∀ j, fits .byte (.int (a j)) = true
def sb_Lat (t : Nat → Nat) (n : Nat) (a : Nat → Int32) : Prop := ∀ j, j < n → t j < 256 ∧ a j = sb_b (t j)
theorem sb_fitB (c : Nat) : fits .byte (.int (sb_b c)) = true := pk_fb _
theorem sb_fit0 : sb_Fit (fun _ => 0) := fun _ => by
  show fits .byte (.int 0) = true
  decide
theorem sb_fitU {a : Nat → Int32} {k : Nat} {x : Int32} (h : sb_Fit a) (hx : fits .byte (.int x) = true) : sb_Fit (upd a k x) := by
  intro j
  by_cases e : j = k
  · subst e
    rw [pk_us]
    exact hx
  · rw [pk_un e]
    exact h j
def sb_cat (t : Nat → Nat) (n : Nat) (s : Nat → Nat) : Nat → Nat := fun j => if j < n then t j else s (j - n)
theorem sb_cat_lo {t s : Nat → Nat} {n j : Nat} (h : j < n) : sb_cat t n s j = t j := if_pos h
theorem sb_cat_hi {t s : Nat → Nat} {n j : Nat} : sb_cat t n s (n + j) = s j := by
  show (if n + j < n then t (n + j) else s (n + j - n)) = s j
  rw [if_neg (by omega), Nat.add_sub_cancel_left]
theorem sb_latPut {t s : Nat → Nat} {n w : Nat} {a a' : Nat → Int32} (h : sb_Lat t n a) (hk : ∀ j, j < n → a' j = a j) (hs : ∀ i, i < w → s i < 256 ∧ a' (n + i) = sb_b (s i)) : sb_Lat (sb_cat t n s) (n + w) a' := by
  intro j hj
  by_cases e : j < n
  · rw [sb_cat_lo e, hk j e]
    exact h j e
  · obtain ⟨i, rfl⟩ : ∃ i, j = n + i := ⟨j - n, by omega⟩
    rw [sb_cat_hi]
    exact hs i (by omega)
theorem sb_latKeep {t : Nat → Nat} {n : Nat} {a a' : Nat → Int32} (h : sb_Lat t n a) (hk : ∀ j, j < n → a' j = a j) : sb_Lat t n a' := fun j hj => by
  rw [hk j hj]
  exact h j hj
def sb_cap (q m : Nat) : Nat := if q ≤ m then m else if 2 * m + 2 < q then q else 2 * m + 2
def sb_Room (q m mc ms : Nat) : Prop := q ≤ m ∨ (1 ≤ mc ∧ sb_cap q m ≤ ms ∧ sb_cap q m ≤ 65536)
theorem sb_cap_ge (q m : Nat) : q ≤ sb_cap q m := by
  unfold sb_cap
  split
  · omega
  · split <;> omega
theorem sb_cap_gem (q m : Nat) : m ≤ sb_cap q m := by
  unfold sb_cap
  split
  · omega
  · split <;> omega
theorem sb_cap_le {q m mc ms : Nat} (hm : m ≤ 65536) (hr : sb_Room q m mc ms) : sb_cap q m ≤ 65536 := by
  rcases hr with h | h
  · rw [sb_cap, if_pos h]
    exact hm
  · exact h.2.2
theorem sb_at {P : Int32 → Prop} {x y : Int32} (e : x = y) (h : P y) : P x := e ▸ h
def sb_dg (w : Nat) : Nat := if w < 10 then 1 else if w < 100 then 2 else if w < 1000 then 3 else if w < 10000 then 4 else if w < 100000 then 5 else if w < 1000000 then 6 else if w < 10000000 then 7 else if w < 100000000 then 8 else if w < 1000000000 then 9 else 10
def sb_dec (v : Nat) : Nat → Nat := fun i => 48 + v / 10 ^ (sb_dg v - 1 - i) % 10
theorem sb_dg_in (w : Nat) : 1 ≤ sb_dg w ∧ sb_dg w ≤ 10 := by
  unfold sb_dg
  constructor <;> (repeat' split) <;> omega
theorem sb_dg100 {w : Nat} (h : 100 ≤ w) (hw : w < 2 ^ 31) : sb_dg w = sb_dg (w / 100) + 2 := by
  rw [sb_dg, sb_dg, if_neg (show ¬ w < 10 by omega), if_neg (show ¬ w < 100 by omega)]
  by_cases h3 : w < 1000
  · rw [if_pos h3, if_pos (show w / 100 < 10 by omega)]
  rw [if_neg h3, if_neg (show ¬ w / 100 < 10 by omega)]
  by_cases h4 : w < 10000
  · rw [if_pos h4, if_pos (show w / 100 < 100 by omega)]
  rw [if_neg h4, if_neg (show ¬ w / 100 < 100 by omega)]
  by_cases h5 : w < 100000
  · rw [if_pos h5, if_pos (show w / 100 < 1000 by omega)]
  rw [if_neg h5, if_neg (show ¬ w / 100 < 1000 by omega)]
  by_cases h6 : w < 1000000
  · rw [if_pos h6, if_pos (show w / 100 < 10000 by omega)]
  rw [if_neg h6, if_neg (show ¬ w / 100 < 10000 by omega)]
  by_cases h7 : w < 10000000
  · rw [if_pos h7, if_pos (show w / 100 < 100000 by omega)]
  rw [if_neg h7, if_neg (show ¬ w / 100 < 100000 by omega)]
  by_cases h8 : w < 100000000
  · rw [if_pos h8, if_pos (show w / 100 < 1000000 by omega)]
  rw [if_neg h8, if_neg (show ¬ w / 100 < 1000000 by omega)]
  by_cases h9 : w < 1000000000
  · rw [if_pos h9, if_pos (show w / 100 < 10000000 by omega)]
  rw [if_neg h9, if_neg (show ¬ w / 100 < 10000000 by omega)]
  rw [if_pos (show w / 100 < 100000000 by omega)]
theorem sb_negT {w : Nat} (h : w < 2 ^ 31) : (-nI w).toInt = -(w : Int) := by
  rw [Int32.toInt_neg, nI_toInt h]
  exact Int.bmod_eq_of_le (by omega) (by omega)
theorem sb_nle {a b : Nat} (ha : a < 2 ^ 31) (hb : b < 2 ^ 31) : -nI a ≤ -nI b ↔ b ≤ a := by
  rw [Int32.le_iff_toInt_le, sb_negT ha, sb_negT hb]
  omega
theorem sb_nlt {a b : Nat} (ha : a < 2 ^ 31) (hb : b < 2 ^ 31) : -nI a < -nI b ↔ b < a := by
  rw [Int32.lt_iff_toInt_lt, sb_negT ha, sb_negT hb]
  omega
theorem sb_cmp {A B : Prop} {x : Int32} (v c : Nat) (f : c ≤ v → A) (g : v < c → B) (hv : v < 2 ^ 31) (hx : x = -nI c := by rfl) (hc : c < 2 ^ 31 := by omega) : (-nI v ≤ x → A) ∧ (¬ -nI v ≤ x → B) := by
  subst hx
  rw [sb_nle hv hc]
  exact ⟨f, fun z => g (by omega)⟩
theorem sb_ndiv {w : Nat} (hw : w < 2 ^ 31) : (-nI w) / 100 = -nI (w / 100) := by
  apply Int32.toInt_inj.mp
  have h100 : (100 : Int32).toInt = 100 := by decide
  rw [Int32.toInt_div, sb_negT hw, h100, sb_negT (by omega), Int.neg_tdiv, Int.tdiv_eq_ediv_of_nonneg (by omega), Int.bmod_eq_of_le (by omega) (by omega)]
  omega
theorem sb_nrem {w : Nat} (hw : w < 2 ^ 31) : (-nI (w / 100)) * 100 - (-nI w) = nI (w % 100) := by
  have h := pk_rem (a := w) (d := 100) hw (by decide) (by decide)
  rw [pk_div hw (by decide) (by decide)] at h
  rw [← h]
  show (-nI (w / 100)) * nI 100 - (-nI w) = nI w - nI (w / 100) * nI 100
  rw [Int32.neg_mul, Int32.sub_neg, Int32.add_comm, ← Int32.sub_eq_add_neg]
end
section
/-! rows on bits, shifts and unsigned numbers, to paste: each family out of a closed proof of our own, whole with what it rests on; each by itself clean at Lean in its own claim (generation 39, form 5). Take a family whole -/
/-! ===== Int32 by its bits: bt x i ===== -/
def bt (x : Int32) (i : Nat) : Bool := x.toBitVec.getLsbD i
theorem b_ext {x y : Int32} (h : ∀ i, i < 32 → bt x i = bt y i) : x = y := Int32.toBitVec_inj.mp (BitVec.eq_of_getLsbD_eq (fun i hi => h i hi))
theorem b_or (x y : Int32) (i : Nat) : bt (x ||| y) i = (bt x i || bt y i) := by unfold bt; rw [Int32.toBitVec_or, BitVec.getLsbD_or]
theorem b_and (x y : Int32) (i : Nat) : bt (x &&& y) i = (bt x i && bt y i) := by unfold bt; rw [Int32.toBitVec_and, BitVec.getLsbD_and]
theorem b_xor (x y : Int32) (i : Nat) : bt (x ^^^ y) i = (bt x i ^^ bt y i) := by unfold bt; rw [Int32.toBitVec_xor, BitVec.getLsbD_xor]
theorem b_big {x : Int32} {i : Nat} (h : 32 ≤ i) : bt x i = false := BitVec.getLsbD_of_ge _ _ h
theorem b_255 (i : Nat) : bt 255 i = decide (i < 8) := by
  rcases Nat.lt_or_ge i 32 with h | h
  · exact (by decide +kernel : ∀ i, i < 32 → bt 255 i = decide (i < 8)) i h
  · rw [b_big h, decide_eq_false (by omega)]
theorem b_65535 (i : Nat) : bt 65535 i = decide (i < 16) := by
  rcases Nat.lt_or_ge i 32 with h | h
  · exact (by decide +kernel : ∀ i, i < 32 → bt 65535 i = decide (i < 16)) i h
  · rw [b_big h, decide_eq_false (by omega)]
theorem b_m1 : ∀ i, i < 32 → bt (-1) i = true := by decide +kernel
theorem b_0 (i : Nat) : bt 0 i = false := BitVec.getLsbD_zero
theorem s_l : ∀ n, n < 32 → ((nI n &&& 31).toBitVec.smod 32).toNat = n := by decide +kernel
theorem s_u : ∀ n, n < 32 → (((nI n).toUInt32 &&& Int32.toUInt32 31).toBitVec % 32).toNat = n := by decide +kernel
theorem b_shl (n : Nat) (hn : n < 32) (x : Int32) {i : Nat} (hi : i < 32) : bt (x <<< (nI n &&& 31)) i = (decide (n ≤ i) && bt x (i - n)) := by
  unfold bt
  rw [Int32.toBitVec_shiftLeft]
  show (x.toBitVec <<< ((nI n &&& 31).toBitVec.smod 32).toNat).getLsbD i = _
  rw [s_l n hn, BitVec.getLsbD_shiftLeft]
  rcases Nat.lt_or_ge i n with h | h
  · simp [h, Nat.not_le.mpr h]
  · simp [hi, h, Nat.not_lt.mpr h]
theorem b_ushr (n : Nat) (hn : n < 32) (x : Int32) (i : Nat) : bt ((x.toUInt32 >>> ((nI n).toUInt32 &&& Int32.toUInt32 31)).toInt32) i = bt x (n + i) := by
  show (x.toUInt32 >>> ((nI n).toUInt32 &&& Int32.toUInt32 31)).toBitVec.getLsbD i = x.toUInt32.toBitVec.getLsbD (n + i)
  rw [UInt32.toBitVec_shiftRight]
  show (x.toUInt32.toBitVec >>> (((nI n).toUInt32 &&& Int32.toUInt32 31).toBitVec % 32).toNat).getLsbD i = _
  rw [s_u n hn, BitVec.getLsbD_ushiftRight]
theorem b_sshr (n : Nat) (hn : n < 32) (x : Int32) {i : Nat} (hi : i < 32) : bt (x >>> (nI n &&& 31)) i = if n + i < 32 then bt x (n + i) else bt x 31 := by
  unfold bt
  rw [Int32.toBitVec_shiftRight]
  show (x.toBitVec.sshiftRight ((nI n &&& 31).toBitVec.smod 32).toNat).getLsbD i = _
  rw [s_l n hn, BitVec.getLsbD_sshiftRight, BitVec.msb_eq_getLsbD_last]
  simp [hi]
theorem b_shl8 (x : Int32) {i : Nat} (hi : i < 32) : bt (x <<< ((8 : Int32) &&& 31)) i = (decide (8 ≤ i) && bt x (i - 8)) := b_shl 8 (by omega) x hi
theorem b_shl16 (x : Int32) {i : Nat} (hi : i < 32) : bt (x <<< ((16 : Int32) &&& 31)) i = (decide (16 ≤ i) && bt x (i - 16)) := b_shl 16 (by omega) x hi
theorem b_shl24 (x : Int32) {i : Nat} (hi : i < 32) : bt (x <<< ((24 : Int32) &&& 31)) i = (decide (24 ≤ i) && bt x (i - 24)) := b_shl 24 (by omega) x hi
theorem b_sshr8 (x : Int32) {i : Nat} (hi : i < 32) : bt (x >>> ((8 : Int32) &&& 31)) i = if 8 + i < 32 then bt x (8 + i) else bt x 31 := b_sshr 8 (by omega) x hi
/-! ===== nI under and, xor, >>>, one bit, 65535 ===== -/
theorem nx_and (a b : Nat) : nI a &&& nI b = nI (a &&& b) := by
  apply Int32.toBitVec_inj.1
  show BitVec.ofNat 32 a &&& BitVec.ofNat 32 b = BitVec.ofNat 32 (a &&& b)
  apply BitVec.eq_of_getLsbD_eq
  intro i hi
  simp [hi]
theorem nx_xor (a b : Nat) : nI a ^^^ nI b = nI (a ^^^ b) := by
  apply Int32.toBitVec_inj.1
  show BitVec.ofNat 32 a ^^^ BitVec.ofNat 32 b = BitVec.ofNat 32 (a ^^^ b)
  apply BitVec.eq_of_getLsbD_eq
  intro i hi
  simp [hi]
theorem nx_cnt : ∀ j : Fin 32, (UInt32.ofNat j.val &&& Int32.toUInt32 31).toNat % 32 = j.val := by decide +kernel
theorem nx_ush {k j : Nat} (hk : k < 65536) (hj : j < 32) : ((nI k).toUInt32 >>> ((nI j).toUInt32 &&& Int32.toUInt32 31)).toInt32 = nI (k >>> j) := by
  have hs : k >>> j ≤ k := by
    rw [Nat.shiftRight_eq_div_pow]
    exact Nat.div_le_self _ _
  have e2 : UInt32.ofNat k >>> (UInt32.ofNat j &&& Int32.toUInt32 31) = UInt32.ofNat (k >>> j) := by
    apply UInt32.toNat_inj.1
    have h1 : (UInt32.ofNat k).toNat = k := Nat.mod_eq_of_lt (by omega)
    have h2 : (UInt32.ofNat (k >>> j)).toNat = k >>> j := Nat.mod_eq_of_lt (by omega)
    rw [UInt32.toNat_shiftRight, nx_cnt ⟨j, hj⟩, h1, h2]
  show (UInt32.ofNat k >>> (UInt32.ofNat j &&& Int32.toUInt32 31)).toInt32 = _
  rw [e2]
  rfl
theorem nx_bit {k j : Nat} (hk : k < 65536) (hj : j < 16) : (((nI k).toUInt32 >>> ((nI j).toUInt32 &&& Int32.toUInt32 31)).toInt32 &&& 1) = 0 ↔ k.testBit j = false := by
  rw [nx_ush hk (by omega)]
  show nI (k >>> j) &&& nI 1 = 0 ↔ _
  rw [nx_and, Nat.and_one_is_mod, ← nI_0, nI_eq (by omega) (by omega), Nat.testBit_eq_decide_div_mod_eq, Nat.shiftRight_eq_div_pow, decide_eq_false_iff_not]
  generalize k / 2 ^ j = z
  omega
theorem nx_mod (k : Nat) : nI k &&& 65535 = nI (k % 65536) := by
  show nI k &&& nI 65535 = _
  rw [nx_and, show (65535 : Nat) = 2 ^ 16 - 1 from rfl, Nat.and_two_pow_sub_one_eq_mod]
theorem nx_m16 {k : Nat} (h : k < 65536) : nI k &&& 65535 = nI k := by rw [nx_mod, Nat.mod_eq_of_lt h]
theorem nx_mask (x : Int32) : ∃ k, k < 65536 ∧ x &&& 65535 = nI k := by
  have e : x = nI x.toBitVec.toNat := by
    apply Int32.toBitVec_inj.1
    show x.toBitVec = BitVec.ofNat 32 x.toBitVec.toNat
    simp
  refine ⟨x.toBitVec.toNat % 65536, Nat.mod_lt _ (by omega), ?_⟩
  rw [← nx_mod, ← e]
/-! ===== Int32 as a set of bits: test, set ===== -/
def nf_M (m : Int32) : Nat := 4294967296 - m.toBitVec.toNat
theorem nf_sh : ∀ l, l < 32 → ((1 : Int32) <<< (nI l &&& 31)).toBitVec = BitVec.twoPow 32 l := by decide +kernel
theorem nf_sl : ∀ l, l < 32 → (((nI l).toUInt32 &&& Int32.toUInt32 31).toBitVec % 32).toNat = l := by decide +kernel
theorem nf_tp : ∀ l, l < 32 → BitVec.twoPow 32 l ≠ 0#32 := by decide +kernel
theorem nf_bit (m : Int32) (l : Nat) (hl : l < 32) : ((m.toUInt32 >>> ((nI l).toUInt32 &&& Int32.toUInt32 31)).toInt32 &&& 1) = 0 ↔ (m &&& ((1 : Int32) <<< (nI l &&& 31))) = 0 := by
  have e : ((m.toUInt32 >>> ((nI l).toUInt32 &&& Int32.toUInt32 31)).toInt32).toBitVec = m.toBitVec >>> l := by
    show m.toBitVec >>> (((nI l).toUInt32 &&& Int32.toUInt32 31).toBitVec % 32) = m.toBitVec >>> l
    rw [BitVec.ushiftRight_eq', nf_sl l hl]
  rw [← Int32.toBitVec_inj, ← Int32.toBitVec_inj, Int32.toBitVec_and, Int32.toBitVec_and, nf_sh l hl, e, BitVec.and_twoPow]
  show (m.toBitVec >>> l &&& 1#32) = 0#32 ↔ _ = 0#32
  rw [BitVec.and_one_eq_setWidth_ofBool_getLsbD, BitVec.getLsbD_ushiftRight, Nat.add_zero]
  cases hb : m.toBitVec.getLsbD l
  · exact ⟨fun _ => by simp, fun _ => by decide⟩
  · exact ⟨fun z => absurd z (by decide), fun z => absurd ((if_pos rfl).symm.trans z) (nf_tp l hl)⟩
theorem nf_gr (m k : Int32) (h : m &&& k = 0) (hk : k ≠ 0) : nf_M (m ||| k) < nf_M m := by
  have hm := m.toBitVec.isLt
  have hm' := (m ||| k).toBitVec.isLt
  have h1 : m.toBitVec.toNat ≤ (m ||| k).toBitVec.toNat := by
    rw [Int32.toBitVec_or, BitVec.toNat_or]
    exact Nat.left_le_or
  have h2 : m.toBitVec.toNat ≠ (m ||| k).toBitVec.toNat := by
    intro e
    have e2 : m = m ||| k := Int32.toBitVec_inj.mp (BitVec.eq_of_toNat_eq e)
    apply hk
    apply Int32.toBitVec_inj.mp
    show k.toBitVec = 0#32
    apply BitVec.eq_of_getLsbD_eq
    intro i hi
    have a : m.toBitVec.getLsbD i = (m.toBitVec.getLsbD i || k.toBitVec.getLsbD i) := by rw [← BitVec.getLsbD_or, ← Int32.toBitVec_or, ← e2]
    have b : (m.toBitVec.getLsbD i && k.toBitVec.getLsbD i) = false := by
      rw [← BitVec.getLsbD_and, ← Int32.toBitVec_and, h]
      exact BitVec.getLsbD_zero
    rw [BitVec.getLsbD_zero]
    revert a b
    cases m.toBitVec.getLsbD i <;> cases k.toBitVec.getLsbD i <;> simp
  unfold nf_M
  omega
/-! ===== a byte read unsigned ===== -/
theorem bp_b (x : Int32) : x.toInt8.toInt32 &&& 255 = x &&& 255 := by
  apply Int32.toBitVec_inj.mp
  rw [Int32.toBitVec_and, Int32.toBitVec_and, Int8.toBitVec_toInt32, Int32.toBitVec_toInt8]
  apply BitVec.eq_of_getLsbD_eq
  intro i hi
  rw [BitVec.getLsbD_and, BitVec.getLsbD_and]
  have hm : ∀ i < 32, 8 ≤ i → (255 : Int32).toBitVec.getLsbD i = false := by decide
  rcases Nat.lt_or_ge i 8 with z | z
  · rw [BitVec.getLsbD_signExtend, BitVec.getLsbD_signExtend, if_pos z, if_pos hi]
    simp only [z, hi, decide_true, Bool.true_and]
  · rw [hm i hi z]; simp
/-! ===== the char cast and 65535 ===== -/
theorem em_w (v : Int32) : ∃ w : Nat, w < 65536 ∧ (v.toUInt32 % 65536).toInt32 = nI w ∧ v &&& 65535 = nI w := by
  have hr := lw_u16_r v
  have h0 : (0 : Int32).toInt = 0 := by decide
  obtain ⟨w, h1, h2⟩ := nI_of (x := lw_u16 v) (by rw [Int32.lt_iff_toInt_lt]; omega)
  have h3 : (v.toUInt32 % 65536).toInt32 = nI w := h2
  rw [h2, nI_toInt h1] at hr
  exact ⟨w, by omega, h3, by rw [← lg_i2c_mask, ← lg_i2c_nf, h3]⟩
/-! ===== Int64 as a set of bits: test, set, clear ===== -/
theorem ts_nf {x : Bool} (h : ¬ x = false) : x = true := by cases x <;> first | rfl | exact absurd rfl h
theorem ts_nt {x : Bool} (h : ¬ x = true) : x = false := by cases x <;> first | rfl | exact absurd rfl h
theorem ts_bit {w : Int64} {s : UInt64} {j : Nat} (hj : j < 64) (hs : s.toNat = j) : ((w.toUInt64 >>> s).toInt64 &&& 1) = 0 ↔ w.toBitVec.getLsbD j = false := by
  have e : (w.toUInt64 >>> s).toInt64.toBitVec = w.toBitVec >>> j := by
    apply BitVec.eq_of_toNat_eq
    show (w.toUInt64 >>> s).toNat = _
    rw [UInt64.toNat_shiftRight, hs, Nat.mod_eq_of_lt hj, BitVec.toNat_ushiftRight]
    rfl
  rw [← Int64.toBitVec_inj, Int64.toBitVec_and, e]
  show w.toBitVec >>> j &&& 1#64 = 0#64 ↔ _
  constructor
  · intro h
    have t := congrArg (fun x => x.getLsbD 0) h
    simpa using t
  · intro h
    apply BitVec.eq_of_getLsbD_eq
    intro i hi
    cases i with
    | zero => simp [h]
    | succ i => simp
theorem ts_or {w m : Int64} {j : Nat} (hj : j < 64) (hm : m.toBitVec = BitVec.twoPow 64 j) : (w ||| m) = w ↔ w.toBitVec.getLsbD j = true := by
  rw [← Int64.toBitVec_inj, Int64.toBitVec_or, hm]
  constructor
  · intro h
    have t := congrArg (fun x => x.getLsbD j) h
    simp only [BitVec.getLsbD_or, BitVec.getLsbD_twoPow] at t
    simpa [hj] using t.symm
  · intro h
    apply BitVec.eq_of_getLsbD_eq
    intro i hi
    rw [BitVec.getLsbD_or, BitVec.getLsbD_twoPow]
    by_cases e : j = i
    · subst e; rw [h, Bool.true_or]
    · simp [e]
theorem ts_and {w m : Int64} {j : Nat} (hj : j < 64) (hm : m.toBitVec = BitVec.twoPow 64 j) : (w &&& (m ^^^ (-1))) = w ↔ w.toBitVec.getLsbD j = false := by
  have ha : (-1 : Int64).toBitVec = BitVec.allOnes 64 := by decide
  rw [← Int64.toBitVec_inj, Int64.toBitVec_and, Int64.toBitVec_xor, hm, ha]
  constructor
  · intro h
    have t := congrArg (fun x => x.getLsbD j) h
    simp only [BitVec.getLsbD_and, BitVec.getLsbD_xor, BitVec.getLsbD_twoPow, BitVec.getLsbD_allOnes] at t
    simpa [hj] using t.symm
  · intro h
    apply BitVec.eq_of_getLsbD_eq
    intro i hi
    rw [BitVec.getLsbD_and, BitVec.getLsbD_xor, BitVec.getLsbD_twoPow, BitVec.getLsbD_allOnes]
    by_cases e : j = i
    · subst e; rw [h, Bool.false_and]
    · simp [e, hi]
/-! ===== lN n to 2^64: shifts, and, or, masks, one bit ===== -/
theorem wb_tb (n : Nat) : (lN n).toBitVec = BitVec.ofNat 64 n := rfl
theorem wb_inj {a b : Int64} (h : a.toBitVec = b.toBitVec) : a = b := Int64.toBitVec_inj.mp h
theorem wb_tn {n : Nat} (h : n < 2 ^ 64) : (lN n).toBitVec.toNat = n := by rw [wb_tb, BitVec.toNat_ofNat, Nat.mod_eq_of_lt h]
theorem wb_of (x : Int64) : ∃ n, n < 2 ^ 64 ∧ x = lN n := ⟨x.toBitVec.toNat, x.toBitVec.isLt, wb_inj (by rw [wb_tb]; simp)⟩
theorem wb_of32 (x : Int32) : ∃ n, n < 2 ^ 32 ∧ x = nI n := ⟨x.toBitVec.toNat, x.toBitVec.isLt, Int32.toBitVec_inj.mp (by show _ = BitVec.ofNat 32 _; simp)⟩
theorem wb_c : ∀ k, k < 64 → ((nI k).toInt64 &&& 63) = lN k := by decide +kernel
theorem wb_cu : ∀ k, k < 64 → ((nI k).toInt64.toUInt64 &&& Int64.toUInt64 63) = UInt64.ofNat k := by decide +kernel
theorem wb_sm : ∀ k, k < 64 → (BitVec.ofNat 64 k).smod 64 = BitVec.ofNat 64 k := by decide +kernel
theorem wb_pw {a b : Nat} (h : a ≤ b) : 2 ^ b = 2 ^ a * 2 ^ (b - a) := by rw [← Nat.pow_add]; congr 1; omega
theorem wb_lt2 {a b : Nat} (h : a < b) : 2 ^ a < 2 ^ b := Nat.pow_lt_pow_right (by decide) h
theorem wb_mod (n : Nat) : lN n = lN (n % 2 ^ 64) := wb_inj (by rw [wb_tb, wb_tb]; apply BitVec.eq_of_toNat_eq; rw [BitVec.toNat_ofNat, BitVec.toNat_ofNat, Nat.mod_mod])
theorem wb_shr {n k : Nat} (hn : n < 2 ^ 64) (hk : k < 64) : ((lN n).toUInt64 >>> ((nI k).toInt64.toUInt64 &&& Int64.toUInt64 63)).toInt64 = lN (n / 2 ^ k) := by
  rw [wb_cu k hk]
  apply wb_inj
  apply BitVec.eq_of_toNat_eq
  show ((lN n).toUInt64 >>> UInt64.ofNat k).toNat = (BitVec.ofNat 64 _).toNat
  have h1 : (UInt64.ofNat k).toNat = k := by
    show (BitVec.ofNat 64 k).toNat = k
    rw [BitVec.toNat_ofNat, Nat.mod_eq_of_lt (by omega)]
  have h2 : (lN n).toUInt64.toNat = n := wb_tn hn
  rw [UInt64.toNat_shiftRight, h1, h2, Nat.mod_eq_of_lt hk, Nat.shiftRight_eq_div_pow, BitVec.toNat_ofNat, Nat.mod_eq_of_lt (Nat.lt_of_le_of_lt (Nat.div_le_self _ _) hn)]
theorem wb_shl (n : Nat) {k : Nat} (hk : k < 64) : lN n <<< ((nI k).toInt64 &&& 63) = lN (n * 2 ^ k) := by
  rw [wb_c k hk]
  apply wb_inj
  rw [Int64.toBitVec_shiftLeft, wb_tb, wb_tb, wb_tb, wb_sm k hk]
  apply BitVec.eq_of_toNat_eq
  rw [BitVec.shiftLeft_eq', BitVec.toNat_shiftLeft, BitVec.toNat_ofNat, BitVec.toNat_ofNat, BitVec.toNat_ofNat, Nat.mod_eq_of_lt (show k < 2 ^ 64 by omega), Nat.shiftLeft_eq, Nat.mul_mod, Nat.mod_mod, ← Nat.mul_mod]
theorem wb_and {a b : Nat} (ha : a < 2 ^ 64) (hb : b < 2 ^ 64) : lN a &&& lN b = lN (a &&& b) := by
  apply wb_inj
  rw [Int64.toBitVec_and, wb_tb, wb_tb, wb_tb]
  apply BitVec.eq_of_toNat_eq
  rw [BitVec.toNat_and, BitVec.toNat_ofNat, BitVec.toNat_ofNat, BitVec.toNat_ofNat, Nat.mod_eq_of_lt ha, Nat.mod_eq_of_lt hb, Nat.mod_eq_of_lt (Nat.and_lt_two_pow _ hb)]
theorem wb_or {a b : Nat} (ha : a < 2 ^ 64) (hb : b < 2 ^ 64) : lN a ||| lN b = lN (a ||| b) := by
  apply wb_inj
  rw [Int64.toBitVec_or, wb_tb, wb_tb, wb_tb]
  apply BitVec.eq_of_toNat_eq
  rw [BitVec.toNat_or, BitVec.toNat_ofNat, BitVec.toNat_ofNat, BitVec.toNat_ofNat, Nat.mod_eq_of_lt ha, Nat.mod_eq_of_lt hb, Nat.mod_eq_of_lt (Nat.or_lt_two_pow ha hb)]
theorem wb_mask {n k : Nat} (hn : n < 2 ^ 64) (hk : k < 64) : lN n &&& lN (2 ^ k - 1) = lN (n % 2 ^ k) := by
  rw [wb_and hn (by have := wb_lt2 hk; omega), Nat.and_two_pow_sub_one_eq_mod]
theorem wb_a1 {n : Nat} (hn : n < 2 ^ 64) : lN n &&& 1 = lN (n % 2) := wb_mask (k := 1) hn (by decide)
theorem wb_bit {n k : Nat} (hn : n < 2 ^ 64) (hk : k < 64) : ((lN n).toUInt64 >>> ((nI k).toInt64.toUInt64 &&& Int64.toUInt64 63)).toInt64 &&& 1 = lN (n / 2 ^ k % 2) := by
  rw [wb_shr hn hk, wb_a1 (Nat.lt_of_le_of_lt (Nat.div_le_self _ _) hn)]
theorem wb_xor {q k : Nat} (hk : k < 63) (h : 2 ^ k ≤ q) (h2 : q < 2 ^ (k + 1)) : lN q ^^^ lN (2 ^ k) = lN (q - 2 ^ k) := by
  obtain ⟨r, rfl⟩ : ∃ r, q = 2 ^ k + r := ⟨q - 2 ^ k, by omega⟩
  have hr : r < 2 ^ k := by rw [Nat.pow_succ] at h2; omega
  have hx : (2 ^ k + r) ^^^ 2 ^ k = r := by
    apply Nat.eq_of_testBit_eq
    intro i
    rw [Nat.testBit_xor, Nat.testBit_two_pow]
    rcases Nat.lt_trichotomy i k with h | h | h
    · rw [Nat.testBit_two_pow_add_gt h]
      simp [show ¬ k = i by omega]
    · subst h
      rw [Nat.testBit_two_pow_add_eq]
      simp
    · have a1 : 2 ^ (k + 1) ≤ 2 ^ i := Nat.pow_le_pow_right (by decide) h
      rw [Nat.testBit_lt_two_pow (show 2 ^ k + r < 2 ^ i by omega), Nat.testBit_lt_two_pow (show r < 2 ^ i by omega)]
      simp [show ¬ k = i by omega]
  have b1 := wb_lt2 (show k + 1 < 64 by omega)
  have b2 := wb_lt2 (show k < 64 by omega)
  apply wb_inj
  rw [Int64.toBitVec_xor, wb_tb, wb_tb, wb_tb]
  apply BitVec.eq_of_toNat_eq
  rw [BitVec.toNat_xor, BitVec.toNat_ofNat, BitVec.toNat_ofNat, BitVec.toNat_ofNat, Nat.mod_eq_of_lt (by omega : 2 ^ k + r < 2 ^ 64), Nat.mod_eq_of_lt b2, hx, Nat.add_sub_cancel_left, Nat.mod_eq_of_lt (by omega)]
/-! ===== lN: masks, 'or' of parts that don't overlap is a sum ===== -/
theorem u_tn {n : Nat} (h : n < 2 ^ 64) : (UInt64.ofNat n).toNat = n := Nat.mod_eq_of_lt h
theorem g_and {a b c : Nat} (ha : a < 2 ^ 64) (hb : b < 2 ^ 64) (hc : a &&& b = c) : lN a &&& lN b = lN c := by
  subst hc
  have h : UInt64.ofNat a &&& UInt64.ofNat b = UInt64.ofNat (a &&& b) := UInt64.toNat_inj.mp (by rw [UInt64.toNat_and, u_tn ha, u_tn hb, u_tn (Nat.and_lt_two_pow a hb)])
  have h2 := congrArg UInt64.toInt64 h
  exact h2
theorem g_and1 {a : Nat} (ha : a < 2 ^ 64) : lN a &&& 1 = lN (a % 2) := g_and (b := 1) ha (by decide) (Nat.and_two_pow_sub_one_eq_mod a 1)
theorem g_mask {a s p : Nat} (hp : 2 ^ s = p) (hs : s < 64) (ha : a < 2 ^ 64) : lN a &&& lN (p - 1) = lN (a % p) := by
  subst hp
  have := Nat.pow_lt_pow_right (show 1 < 2 by decide) hs
  exact g_and ha (by omega) (Nat.and_two_pow_sub_one_eq_mod a s)
theorem g_or {k p a b : Nat} (hp : 2 ^ k = p) (ha : a < p) (h : b * p + a < 2 ^ 64) : lN (b * p) ||| lN a = lN (b * p + a) := by
  subst hp
  have h1 : b * 2 ^ k ||| a = b * 2 ^ k + a := by rw [← Nat.shiftLeft_eq, Nat.shiftLeft_add_eq_or_of_lt ha]
  have h3 : UInt64.ofNat (b * 2 ^ k) ||| UInt64.ofNat a = UInt64.ofNat (b * 2 ^ k + a) := UInt64.toNat_inj.mp (by rw [UInt64.toNat_or, u_tn (by omega), u_tn (by omega), u_tn h, h1])
  have h2 := congrArg UInt64.toInt64 h3
  exact h2
theorem g_or' {k p a b : Nat} (hp : 2 ^ k = p) (ha : a < p) (h : a + b * p < 2 ^ 64) : lN a ||| lN (b * p) = lN (a + b * p) := by
  rw [Int64.or_comm, g_or hp ha (by omega), Nat.add_comm]
theorem g_ushr {a k p : Nat} {y : UInt64} (hy : y = UInt64.ofNat k) (hk : k < 64) (hp : 2 ^ k = p) (ha : a < 2 ^ 64) : ((lN a).toUInt64 >>> y).toInt64 = lN (a / p) := by
  subst hy hp
  have h : UInt64.ofNat a >>> UInt64.ofNat k = UInt64.ofNat (a / 2 ^ k) := UInt64.toNat_inj.mp (by rw [UInt64.toNat_shiftRight, u_tn ha, u_tn (by omega), u_tn (Nat.lt_of_le_of_lt (Nat.div_le_self _ _) ha), Nat.mod_eq_of_lt hk, Nat.shiftRight_eq_div_pow])
  have h2 := congrArg UInt64.toInt64 h
  exact h2
theorem g_shl {a k p : Nat} {y : Int64} (hy : y.toBitVec.smod 64 = BitVec.ofNat 64 k) (hk : k < 64) (hp : 2 ^ k = p) (ha : a < 2 ^ 64) : lN a <<< y = lN (a * p) := by
  subst hp
  apply Int64.toBitVec_inj.mp
  rw [Int64.toBitVec_shiftLeft, hy]
  apply BitVec.eq_of_toNat_eq
  have hb : (lN a).toBitVec.toNat = a := Nat.mod_eq_of_lt ha
  have hk' : (BitVec.ofNat 64 k).toNat = k := Nat.mod_eq_of_lt (by omega)
  have h : ((lN a).toBitVec <<< BitVec.ofNat 64 k).toNat = (a * 2 ^ k) % 2 ^ 64 := by simp only [BitVec.shiftLeft_eq', BitVec.toNat_shiftLeft, hb, hk', Nat.shiftLeft_eq]
  exact h
/-! ===== lN to 2^62 under >> and >>> ===== -/
theorem pf_lI {a : Nat} (h : a < 2 ^ 63) : (lN a).toInt = (a : Int) := lg_ofNat_toInt h
theorem pf_shr {a d : Nat} {D : Int64} (hD : (D.toBitVec.smod 64).toNat = d) (h : a < 2 ^ 62) : lN a >>> D = lN (a / 2 ^ d) := by
  have hd : a / 2 ^ d ≤ a := Nat.div_le_self _ _
  apply Int64.toInt_inj.mp
  have e : (lN a >>> D).toInt = (lN a).toInt >>> d := by
    rw [← hD]
    exact BitVec.toInt_sshiftRight ..
  rw [e, Int.shiftRight_eq_div_pow, pf_lI (by omega), pf_lI (by omega)]
  rfl
theorem pf_ushr {a d : Nat} {D : UInt64} (hD : D.toNat % 64 = d) (h : a < 2 ^ 62) : ((lN a).toUInt64 >>> D).toInt64 = lN (a / 2 ^ d) := by
  have hd : a / 2 ^ d ≤ a := Nat.div_le_self _ _
  have e : (lN a).toUInt64 >>> D = UInt64.ofNat (a / 2 ^ d) := UInt64.toNat_inj.mp (by
    rw [UInt64.toNat_shiftRight, hD, Nat.shiftRight_eq_div_pow, UInt64.toNat_ofNat']
    show (UInt64.ofNat a).toNat / 2 ^ d = _
    rw [UInt64.toNat_ofNat', Nat.mod_eq_of_lt (by omega), Nat.mod_eq_of_lt (by omega)])
  rw [e]
  rfl
theorem pf_andw (x : Int64) : ∃ m, m < 2 ^ 32 ∧ x &&& 4294967295 = lN m := ⟨x.toBitVec.toNat % 2 ^ 32, Nat.mod_lt _ (by decide), Int64.toBitVec_inj.mp (BitVec.eq_of_toNat_eq (by
  show (x.toBitVec &&& 4294967295#64).toNat = (BitVec.ofNat 64 (x.toBitVec.toNat % 2 ^ 32)).toNat
  rw [BitVec.toNat_and, show (4294967295#64).toNat = 2 ^ 32 - 1 from by decide, Nat.and_two_pow_sub_one_eq_mod, BitVec.toNat_ofNat]
  omega))⟩
/-! ===== Int64 as an unsigned number: uN x ===== -/
def uN (x : Int64) : Nat := x.toUInt64.toNat
theorem uN_lt (x : Int64) : uN x < 18446744073709551616 := x.toUInt64.toNat_lt
theorem uN_inj {x y : Int64} (h : uN x = uN y) : x = y := congrArg UInt64.toInt64 (UInt64.toNat_inj.mp h)
theorem uN_add (x y : Int64) : uN (x + y) = (uN x + uN y) % 18446744073709551616 := by
  show (x.toUInt64 + y.toUInt64).toNat = _
  exact UInt64.toNat_add _ _
theorem uN_mul (x y : Int64) : uN (x * y) = (uN x * uN y) % 18446744073709551616 := by
  show (x.toUInt64 * y.toUInt64).toNat = _
  exact UInt64.toNat_mul _ _
theorem uN_shl (x : Int64) : uN (x <<< ((1 : Int32).toInt64 &&& 63)) = (2 * uN x) % 18446744073709551616 := by
  have h : (((1 : Int32).toInt64 &&& 63).toBitVec.smod 64).toNat = 1 := by decide
  show (x.toBitVec <<< (((1 : Int32).toInt64 &&& 63).toBitVec.smod 64).toNat).toNat = _
  rw [h, BitVec.toNat_shiftLeft, Nat.shiftLeft_eq, Nat.mul_comm]
  rfl
theorem uN_shr (x : Int64) (s : UInt64) : uN (x.toUInt64 >>> s).toInt64 = uN x / 2 ^ (s.toNat % 64) := by
  show (x.toUInt64 >>> s).toNat = _
  rw [UInt64.toNat_shiftRight, Nat.shiftRight_eq_div_pow]
  rfl
theorem uN_s32 (x : Int64) : uN (x.toUInt64 >>> ((32 : Int32).toInt64.toUInt64 &&& Int64.toUInt64 63)).toInt64 = uN x / 4294967296 := by
  have h : ((32 : Int32).toInt64.toUInt64 &&& Int64.toUInt64 63).toNat % 64 = 32 := by decide
  rw [uN_shr, h]
theorem uN_s63 (x : Int64) : uN (x.toUInt64 >>> ((63 : Int32).toInt64.toUInt64 &&& Int64.toUInt64 63)).toInt64 = uN x / 9223372036854775808 := by
  have h : ((63 : Int32).toInt64.toUInt64 &&& Int64.toUInt64 63).toNat % 64 = 63 := by decide
  rw [uN_shr, h]
theorem uN_lo (x : Int64) : uN (x &&& 4294967295) = uN x % 4294967296 := by
  show (x.toUInt64 &&& Int64.toUInt64 4294967295).toNat = _
  rw [UInt64.toNat_and]
  exact Nat.and_two_pow_sub_one_eq_mod _ 32
theorem uN_bit (x : Int64) : (x &&& 1) = 0 ↔ uN x % 2 = 0 := by
  have h : uN (x &&& 1) = uN x % 2 := by
    show (x.toUInt64 &&& Int64.toUInt64 1).toNat = _
    rw [UInt64.toNat_and]
    exact Nat.and_two_pow_sub_one_eq_mod _ 1
  rw [← h]
  exact ⟨fun z => by rw [z]; rfl, fun z => uN_inj (z.trans rfl)⟩
theorem uN_or {x y : Int64} (hy : uN y < 2) : uN ((x <<< ((1 : Int32).toInt64 &&& 63)) ||| y) = (2 * uN x) % 18446744073709551616 + uN y := by
  have h1 : uN ((x <<< ((1 : Int32).toInt64 &&& 63)) ||| y) = uN (x <<< ((1 : Int32).toInt64 &&& 63)) ||| uN y := UInt64.toNat_or _ _
  have h2 : (2 * uN x) % 18446744073709551616 = 2 ^ 1 * (uN x % 9223372036854775808) := by omega
  rw [h1, uN_shl, h2]
  exact (Nat.two_pow_add_eq_or_of_lt (i := 1) hy _).symm
theorem nat_xor {a : Nat} (h : a < 18446744073709551616) : a ^^^ 2 ^ 63 = (a + 9223372036854775808) % 18446744073709551616 := by
  have h1 : (a ^^^ 2 ^ 63) % 2 ^ 63 = a % 2 ^ 63 := by rw [Nat.xor_mod_two_pow, Nat.mod_self, Nat.xor_zero]
  have h2 : (a ^^^ 2 ^ 63) / 2 ^ 63 = (a / 2 ^ 63) ^^^ 1 := by rw [Nat.xor_div_two_pow, Nat.div_self (Nat.two_pow_pos 63)]
  have h3 : a / 2 ^ 63 = 0 ∨ a / 2 ^ 63 = 1 := by omega
  generalize a ^^^ 2 ^ 63 = t at h1 h2
  rcases h3 with h3 | h3
  · rw [h3] at h2
    have h2 : t / 2 ^ 63 = 1 := h2
    omega
  · rw [h3] at h2
    have h2 : t / 2 ^ 63 = 0 := h2
    omega
theorem uN_xor (x : Int64) : uN (x ^^^ (-9223372036854775808)) = (uN x + 9223372036854775808) % 18446744073709551616 := by
  rw [← nat_xor (uN_lt x)]
  exact UInt64.toNat_xor _ _
theorem uN_int (x : Int64) : x.toInt = if 2 * uN x < 18446744073709551616 then (uN x : Int) else (uN x : Int) - 18446744073709551616 := BitVec.toInt_eq_toNat_cond _
theorem uN_le (x y : Int64) : (x ^^^ (-9223372036854775808)) ≤ (y ^^^ (-9223372036854775808)) ↔ uN x ≤ uN y := by
  have hx := uN_lt x
  have hy := uN_lt y
  rw [Int64.le_iff_toInt_le, uN_int, uN_int, uN_xor, uN_xor]
  omega
theorem uN_sk (x : Int64) {k : Nat} (hk : k < 64) : uN (x.toUInt64 >>> ((nI k).toInt64.toUInt64 &&& Int64.toUInt64 63)).toInt64 = uN x / 2 ^ k := by
  have h : ((nI k).toInt64.toUInt64 &&& Int64.toUInt64 63).toNat % 64 = k := by
    rw [nI_l (by omega), UInt64.toNat_and]
    have e : (lN k).toUInt64.toNat = k % 2 ^ 64 := rfl
    have e2 : (Int64.toUInt64 63).toNat = 2 ^ 6 - 1 := by decide
    rw [e, e2, Nat.and_two_pow_sub_one_eq_mod]
    omega
  rw [uN_shr, h]
/-! ===== unsigned comparison by xor with the least ===== -/
theorem lN_bv (n : Nat) : (lN n).toBitVec = BitVec.ofNat 64 n := rfl
theorem lN_nat {n : Nat} (h : n < 2 ^ 64) : (lN n).toBitVec.toNat = n := by rw [lN_bv, BitVec.toNat_ofNat]; exact Nat.mod_eq_of_lt h
theorem lN_xor (a b : Nat) : lN a ^^^ lN b = lN (a ^^^ b) := by
  apply Int64.toBitVec_inj.mp; rw [Int64.toBitVec_xor, lN_bv, lN_bv, lN_bv]; apply BitVec.eq_of_getLsbD_eq; intro i hi; simp [BitVec.getLsbD_ofNat, Nat.testBit_xor, hi]
theorem lN_ti {m : Nat} (h : m < 2 ^ 64) : (lN m).toInt = if m < 2 ^ 63 then (m : Int) else (m : Int) - 2 ^ 64 := by
  have c := BitVec.toInt_eq_toNat_cond (lN m).toBitVec
  rw [lN_nat h] at c
  show (lN m).toBitVec.toInt = _
  rw [c]
  split <;> split <;> omega
theorem xor63 {x : Nat} (h : x < 2 ^ 63) : x ^^^ 2 ^ 63 = 2 ^ 63 + x := by
  apply Nat.eq_of_testBit_eq
  intro i
  rw [Nat.testBit_xor, Nat.testBit_two_pow]
  rcases Nat.lt_trichotomy i 63 with z | z | z
  · rw [Nat.testBit_two_pow_add_gt z, decide_eq_false (by omega)]; simp
  · subst z; rw [Nat.testBit_two_pow_add_eq]; simp
  · have hp : 2 ^ 64 ≤ 2 ^ i := Nat.pow_le_pow_right (by decide) z
    rw [Nat.testBit_lt_two_pow (show x < 2 ^ i by omega), Nat.testBit_lt_two_pow (show 2 ^ 63 + x < 2 ^ i by omega), decide_eq_false (by omega)]; rfl
theorem xorS {a : Nat} (h : a < 2 ^ 64) : (lN a ^^^ (-9223372036854775808)).toInt = (a : Int) - 2 ^ 63 := by
  rw [show (-9223372036854775808 : Int64) = lN (2 ^ 63) from by decide +kernel, lN_xor]
  rcases Nat.lt_or_ge a (2 ^ 63) with z | z
  · rw [xor63 z, lN_ti (by omega), if_neg (by omega)]; omega
  · obtain ⟨x, rfl⟩ : ∃ x, a = 2 ^ 63 + x := ⟨a - 2 ^ 63, by omega⟩
    rw [← xor63 (by omega), Nat.xor_assoc, Nat.xor_self, Nat.xor_zero, lN_ti (by omega), if_pos (by omega), xor63 (by omega)]; omega
theorem ultL {a b : Nat} (ha : a < 2 ^ 64) (hb : b < 2 ^ 64) : ((lN b ^^^ (-9223372036854775808)) ≤ (lN a ^^^ (-9223372036854775808))) ↔ b ≤ a := by
  rw [Int64.le_iff_toInt_le, xorS ha, xorS hb]; omega
/-! ===== Int64 masks of n low bits ===== -/
theorem cr_bits (W U M : BitVec 64) : ((W &&& U) &&& (U &&& (M ^^^ BitVec.allOnes 64))) = 0#64 ↔ (W &&& U) &&& M = W &&& U := by
  constructor
  · intro h
    apply BitVec.eq_of_getLsbD_eq
    intro i hi
    have e := congrArg (fun x => BitVec.getLsbD x i) h
    simp only [BitVec.getLsbD_and, BitVec.getLsbD_xor, BitVec.getLsbD_allOnes, BitVec.getLsbD_zero, hi, decide_true] at e ⊢
    revert e
    cases W.getLsbD i <;> cases U.getLsbD i <;> cases M.getLsbD i <;> decide
  · intro h
    apply BitVec.eq_of_getLsbD_eq
    intro i hi
    have e := congrArg (fun x => BitVec.getLsbD x i) h
    simp only [BitVec.getLsbD_and, BitVec.getLsbD_xor, BitVec.getLsbD_allOnes, BitVec.getLsbD_zero, hi, decide_true] at e ⊢
    revert e
    cases W.getLsbD i <;> cases U.getLsbD i <;> cases M.getLsbD i <;> decide
theorem cr_mask (w U m : Int64) (n : Nat) (hm : m.toBitVec.toNat = 2 ^ n - 1) : ((w &&& U) &&& (U &&& (m ^^^ (-1)))) = 0 ↔ (w &&& U).toBitVec.toNat < 2 ^ n := by
  have e0 : (-1 : Int64).toBitVec = BitVec.allOnes 64 := by decide
  have z0 : (0 : Int64).toBitVec = 0#64 := by decide
  rw [← Int64.toBitVec_inj, z0, Int64.toBitVec_and, Int64.toBitVec_and, Int64.toBitVec_and, Int64.toBitVec_xor, e0, cr_bits]
  generalize w.toBitVec &&& U.toBitVec = T
  rw [← BitVec.toNat_inj, BitVec.toNat_and, hm, Nat.and_two_pow_sub_one_eq_mod]
  constructor
  · intro h
    have t := Nat.mod_lt T.toNat (Nat.two_pow_pos n)
    rw [h] at t
    exact t
  · exact Nat.mod_eq_of_lt
theorem cr_shr (t : Int64) (x : UInt64) (n : Nat) (hx : x.toNat % 64 = n) : (t.toUInt64 >>> x).toInt64 = 0 ↔ t.toBitVec.toNat < 2 ^ n := by
  rw [← Int64.toBitVec_inj, ← BitVec.toNat_inj]
  show (t.toUInt64 >>> x).toNat = 0 ↔ t.toUInt64.toNat < 2 ^ n
  rw [UInt64.toNat_shiftRight, hx, Nat.shiftRight_eq_div_pow]
  constructor
  · intro h
    have d : t.toUInt64.toNat / 2 ^ n < 1 := by
      rw [h]
      decide
    have e := (Nat.div_lt_iff_lt_mul (Nat.two_pow_pos n)).mp d
    rw [Nat.one_mul] at e
    exact e
  · exact Nat.div_eq_of_lt
theorem cr_amt (s : Int64) : ∃ n, n < 64 ∧ s &&& 63 = lN n ∧ (s.toUInt64 &&& Int64.toUInt64 63).toNat % 64 = n := by
  have e : (s.toUInt64 &&& Int64.toUInt64 63).toNat = s.toUInt64.toNat % 2 ^ 6 := by
    rw [UInt64.toNat_and, show (Int64.toUInt64 63).toNat = 2 ^ 6 - 1 from by decide, Nat.and_two_pow_sub_one_eq_mod]
  refine ⟨s.toUInt64.toNat % 2 ^ 6, by omega, ?_, by omega⟩
  rw [← Int64.toBitVec_inj, ← BitVec.toNat_inj]
  show (s.toUInt64 &&& Int64.toUInt64 63).toNat = (BitVec.ofNat 64 (s.toUInt64.toNat % 2 ^ 6)).toNat
  rw [e, BitVec.toNat_ofNat]
  omega
end
section
/-! ===== my own basics: nI for simp, bits of longs, bits of naturals, counts ===== -/
theorem gw_in {n N : Nat} (h : n < N) (hN : N < 2147483648) : vp_in (nI n) N ↔ True := iff_true_intro (vp_in_nI h hN)
theorem gw_cl {n : Nat} (h : n < 2147483648) : (nI n).toNatClampNeg = n := nI_clamp h
theorem gw_Lle (k a : Nat) (hk : (OfNat.ofNat k : Nat) < 2147483648) (ha : a < 2147483648) : ((no_index (OfNat.ofNat k : Int32)) ≤ nI a) ↔ (OfNat.ofNat k : Nat) ≤ a := nI_leI hk ha
theorem gw_leL (k a : Nat) (hk : (OfNat.ofNat k : Nat) < 2147483648) (ha : a < 2147483648) : (nI a ≤ (no_index (OfNat.ofNat k : Int32))) ↔ a ≤ (OfNat.ofNat k : Nat) := nI_leI ha hk
theorem gw_Llt (k a : Nat) (hk : (OfNat.ofNat k : Nat) < 2147483648) (ha : a < 2147483648) : ((no_index (OfNat.ofNat k : Int32)) < nI a) ↔ (OfNat.ofNat k : Nat) < a := nI_ltI hk ha
theorem gw_ltL (k a : Nat) (hk : (OfNat.ofNat k : Nat) < 2147483648) (ha : a < 2147483648) : (nI a < (no_index (OfNat.ofNat k : Int32))) ↔ a < (OfNat.ofNat k : Nat) := nI_ltI ha hk
theorem gw_eqL (k a : Nat) (hk : (OfNat.ofNat k : Nat) < 2147483648) (ha : a < 2147483648) : (nI a = (no_index (OfNat.ofNat k : Int32))) ↔ a = (OfNat.ofNat k : Nat) := nI_eq ha hk
theorem gw_Leq (k a : Nat) (hk : (OfNat.ofNat k : Nat) < 2147483648) (ha : a < 2147483648) : ((no_index (OfNat.ofNat k : Int32)) = nI a) ↔ (OfNat.ofNat k : Nat) = a := nI_eq hk ha
theorem gw_Lmul (k a : Nat) : (no_index (OfNat.ofNat k : Int32)) * nI a = nI ((OfNat.ofNat k : Nat) * a) := pk_mul k a
theorem gw_Ladd (k a : Nat) : (no_index (OfNat.ofNat k : Int32)) + nI a = nI ((OfNat.ofNat k : Nat) + a) := nI_add k a
theorem gw_addL (k a : Nat) : nI a + (no_index (OfNat.ofNat k : Int32)) = nI (a + (OfNat.ofNat k : Nat)) := nI_add a k
theorem gw_m1 {a : Nat} (h : a < 2147483648) : ¬ nI a = -1 := by
  intro e
  have := congrArg Int32.toInt e
  rw [nI_toInt h, show (-1 : Int32).toInt = -1 from by decide] at this
  omega
theorem gw_10 : ((1 : Int32) = 0) ↔ False := iff_false_intro (by decide)
theorem gw_01 : ((0 : Int32) = 1) ↔ False := iff_false_intro (by decide)
theorem gw_m1lt : (-1 : Int32) < 0 := by decide
theorem gw_m1le : ¬ (0 : Int32) ≤ -1 := by decide
theorem gw_sub (a b : Nat) (h : b ≤ a) : nI a - nI b = nI (a - b) := pk_sub h
theorem gw_subL (k a : Nat) (h : (OfNat.ofNat k : Nat) ≤ a) : nI a - (no_index (OfNat.ofNat k : Int32)) = nI (a - (OfNat.ofNat k : Nat)) := pk_sub h
theorem gw_byte {a : Nat} (h : a < 128) : (nI a).toInt8.toInt32 = nI a := (by decide +kernel : ∀ a, a < 128 → (nI a).toInt8.toInt32 = nI a) a h
theorem gw_nbyte {a : Nat} (h : a < 128) : vp_nar .byte (nI a) = nI a := by rw [vp_nar_byte]; exact gw_byte h
theorem gw_nbyte2 {a : Nat} (h : a < 128) : vp_nar .byte (nI a).toInt8.toInt32 = nI a := by rw [pk_vb]; exact gw_byte h
theorem gw_nb0 : vp_nar .byte 0 = 0 := by rw [vp_nar_byte]; decide
theorem gw_nbm : vp_nar .byte (-1) = -1 := by rw [vp_nar_byte]; decide
theorem gw_nbm2 : vp_nar .byte (-1 : Int32).toInt8.toInt32 = -1 := by rw [pk_vb]; decide
theorem gw_nb02 : vp_nar .byte (0 : Int32).toInt8.toInt32 = 0 := by rw [pk_vb]; decide
theorem gw_bool (b : Bool) : vp_nar .boolean (nI b.toNat) = nI b.toNat := by cases b <;> rfl
theorem gw_bool0 : vp_nar .boolean 0 = 0 := rfl
theorem gw_bool1 : vp_nar .boolean 1 = 1 := rfl
theorem gw_nbool (b : Bool) : narrow .boolean (.int (nI b.toNat)) = .int (nI b.toNat) := by cases b <;> rfl
theorem gw_bt {b : Bool} : nI b.toNat = 0 ↔ b = false := by cases b <;> decide
theorem gw_bt1 {b : Bool} : nI b.toNat = 1 ↔ b = true := by cases b <;> decide
theorem gw_beq {a b : Bool} : nI a.toNat = nI b.toNat ↔ a = b := by cases a <;> cases b <;> decide
theorem gw_bl (b : Bool) : b.toNat < 2 := by cases b <;> decide
theorem gw_p2 {s : Nat} (h : s ≤ 10) : 2 ^ s ≤ 1024 := Nat.pow_le_pow_right (n := 2) (by decide) h
theorem gw_p2' {s : Nat} (h : s ≤ 30) : 2 ^ s ≤ 1073741824 := Nat.pow_le_pow_right (n := 2) (by decide) h
theorem gw_1shl {s : Nat} (h : s < 31) : (1 : Int32) <<< (nI s &&& 31) = nI (2 ^ s) := by
  have := pk_shlN (n := 1) (nI s &&& 31) s (s_l s (by omega)) (by have := gw_p2' (s := s) (by omega); omega)
  rw [Nat.one_mul] at this
  exact this
theorem gw_shl {a s : Nat} (h : s < 32) (h2 : a * 2 ^ s < 4294967296) : nI a <<< (nI s &&& 31) = nI (a * 2 ^ s) := pk_shlN (nI s &&& 31) s (s_l s h) h2
theorem gw_shr {a s : Nat} (h : s < 32) (ha : a < 2147483648) : nI a >>> (nI s &&& 31) = nI (a / 2 ^ s) := pk_shrN ha (nI s &&& 31) s (s_l s h)
theorem gw_shr6 {a : Nat} (ha : a < 2147483648) : nI a >>> ((6 : Int32) &&& 31) = nI (a / 64) := gw_shr (s := 6) (by decide) ha
theorem gw_and1 (a : Nat) (h : a < 4294967296) : nI a &&& 1 = nI (a % 2) := pk_andN (k := 1) h (by decide)
theorem gw_and63 (a : Nat) (h : a < 4294967296) : nI a &&& 63 = nI (a % 64) := pk_andN (k := 6) h (by decide)
theorem gw_and31 (a : Nat) (h : a < 4294967296) : nI a &&& 31 = nI (a % 32) := pk_andN (k := 5) h (by decide)
theorem gw_bit {a s : Nat} (h : s < 32) (ha : a < 2147483648) : (nI a >>> (nI s &&& 31)) &&& 1 = nI (a.testBit s).toNat := by
  rw [gw_shr h ha, gw_and1 _ (by have := Nat.div_le_self a (2 ^ s); omega), Nat.toNat_testBit]
theorem gw_or (a b : Nat) : nI a ||| nI b = nI (a ||| b) := by
  apply Int32.toBitVec_inj.1
  show BitVec.ofNat 32 a ||| BitVec.ofNat 32 b = BitVec.ofNat 32 (a ||| b)
  apply BitVec.eq_of_getLsbD_eq
  intro i hi
  simp [hi]
theorem gw_bt32 (a i : Nat) (h : i < 32) : bt (nI a) i = a.testBit i := by
  show (BitVec.ofNat 32 a).getLsbD i = _
  rw [BitVec.getLsbD_ofNat, decide_eq_true h, Bool.true_and]
/-- the number with given bits -/
def bld (p : Nat → Bool) : Nat → Nat
  | 0 => 0
  | n + 1 => bld p n + (p n).toNat * 2 ^ n
theorem bld_lt (p : Nat → Bool) : ∀ n, bld p n < 2 ^ n
  | 0 => Nat.one_pos
  | n + 1 => by
    have h := bld_lt p n
    show bld p n + (p n).toNat * 2 ^ n < 2 ^ (n + 1)
    rw [Nat.pow_succ]
    cases p n
    · simp; omega
    · simp; omega
theorem bld_s (p : Nat → Bool) (n : Nat) : bld p (n + 1) = bld p n + (p n).toNat * 2 ^ n := rfl
theorem bld_tb (p : Nat → Bool) (n i : Nat) : (bld p n).testBit i = (decide (i < n) && p i) := by
  induction n with
  | zero => simp [bld]
  | succ n ih =>
    rw [bld_s, Nat.add_comm, Nat.mul_comm, Nat.testBit_two_pow_mul_add _ (bld_lt p n)]
    by_cases h : i < n
    · rw [if_pos h, ih]
      simp [h, Nat.lt_succ_of_lt h]
    · rw [if_neg h, Nat.testBit_bool_toNat]
      by_cases e : i = n
      · subst e; simp
      · have h1 : ¬ i < n + 1 := by omega
        have h2 : ¬ i - n = 0 := by omega
        simp [h1, h2]
theorem bld_or (p : Nat → Bool) {n : Nat} (h : n < 31) : nI (bld p n) ||| (nI (p n).toNat <<< (nI n &&& 31)) = nI (bld p (n + 1)) := by
  have h2 := gw_p2' (s := n) (by omega)
  have h3 : (p n).toNat * 2 ^ n ≤ 2 ^ n := by cases p n <;> simp
  have e : bld p n ||| (p n).toNat * 2 ^ n = bld p n + (p n).toNat * 2 ^ n := by
    rw [Nat.or_comm, Nat.mul_comm, ← Nat.two_pow_add_eq_or_of_lt (bld_lt p n), Nat.add_comm]
  rw [gw_shl (by omega) (by omega), gw_or, bld_s, e]
theorem bld_congr {p q : Nat → Bool} {n : Nat} (h : ∀ i, i < n → p i = q i) : bld p n = bld q n := by
  induction n with
  | zero => rfl
  | succ n ih => rw [bld_s, bld_s, ih (fun i hi => h i (by omega)), h n (by omega)]
theorem tb_ext {a b n : Nat} (ha : a < 2 ^ n) (hb : b < 2 ^ n) (h : ∀ i, i < n → a.testBit i = b.testBit i) : a = b := by
  apply Nat.eq_of_testBit_eq
  intro i
  by_cases hi : i < n
  · exact h i hi
  · have := Nat.pow_le_pow_right (n := 2) (by decide) (Nat.not_lt.mp hi)
    rw [Nat.testBit_lt_two_pow (by omega), Nat.testBit_lt_two_pow (by omega)]
theorem tb_hi {a n i : Nat} (ha : a < 2 ^ n) (h : n ≤ i) : a.testBit i = false := by
  have := Nat.pow_le_pow_right (n := 2) (by decide) h
  exact Nat.testBit_lt_two_pow (by omega)
theorem bld_self {a n : Nat} (h : a < 2 ^ n) : bld a.testBit n = a := tb_ext (bld_lt _ n) h (fun i hi => by rw [bld_tb]; simp [hi])
/-- how many of the first n -/
def cnt (p : Nat → Bool) : Nat → Nat
  | 0 => 0
  | n + 1 => cnt p n + (p n).toNat
theorem cnt_s (p : Nat → Bool) (n : Nat) : cnt p (n + 1) = cnt p n + (p n).toNat := rfl
theorem cnt_le (p : Nat → Bool) : ∀ n, cnt p n ≤ n
  | 0 => Nat.le_refl _
  | n + 1 => by
    have := cnt_le p n
    have := gw_bl (p n)
    show cnt p n + (p n).toNat ≤ n + 1
    omega
theorem cnt_congr {p q : Nat → Bool} {n : Nat} (h : ∀ i, i < n → p i = q i) : cnt p n = cnt q n := by
  induction n with
  | zero => rfl
  | succ n ih => rw [cnt_s, cnt_s, ih (fun i hi => h i (by omega)), h n (by omega)]
theorem cnt_add (p : Nat → Bool) (m : Nat) : ∀ n, cnt p (m + n) = cnt p m + cnt (fun i => p (m + i)) n
  | 0 => rfl
  | n + 1 => by
    show cnt p (m + n) + (p (m + n)).toNat = _
    rw [cnt_add p m n, cnt_s, Nat.add_assoc]
theorem cnt_0 {p : Nat → Bool} {n : Nat} (h : ∀ i, i < n → p i = false) : cnt p n = 0 := by
  induction n with
  | zero => rfl
  | succ n ih => rw [cnt_s, ih (fun i hi => h i (by omega)), h n (by omega)]; rfl
theorem cnt_ext {p : Nat → Bool} {m n : Nat} (hm : m ≤ n) (h : ∀ i, m ≤ i → i < n → p i = false) : cnt p n = cnt p m := by
  obtain ⟨d, rfl⟩ : ∃ d, n = m + d := ⟨n - m, by omega⟩
  rw [cnt_add, cnt_0 (fun i hi => h (m + i) (by omega) (by omega)), Nat.add_zero]
/-- the bits of a long -/
def lb (x : Int64) (i : Nat) : Bool := x.toBitVec.getLsbD i
theorem lb_ext {x y : Int64} (h : ∀ i, i < 64 → lb x i = lb y i) : x = y := Int64.toBitVec_inj.mp (BitVec.eq_of_getLsbD_eq (fun i hi => h i hi))
theorem lb_or (x y : Int64) (i : Nat) : lb (x ||| y) i = (lb x i || lb y i) := by unfold lb; rw [Int64.toBitVec_or, BitVec.getLsbD_or]
theorem lb_and (x y : Int64) (i : Nat) : lb (x &&& y) i = (lb x i && lb y i) := by unfold lb; rw [Int64.toBitVec_and, BitVec.getLsbD_and]
theorem lb_xor (x y : Int64) (i : Nat) : lb (x ^^^ y) i = (lb x i ^^ lb y i) := by unfold lb; rw [Int64.toBitVec_xor, BitVec.getLsbD_xor]
theorem lb_ge {x : Int64} {i : Nat} (h : 64 ≤ i) : lb x i = false := BitVec.getLsbD_of_ge _ _ h
theorem lb_m1 {i : Nat} (h : i < 64) : lb (-1) i = true := (by decide +kernel : ∀ i, i < 64 → lb (-1) i = true) i h
theorem lb_0 (i : Nat) : lb 0 i = false := BitVec.getLsbD_zero
theorem lb_1 {i : Nat} : lb 1 i = decide (i = 0) := by
  by_cases h : i < 64
  · exact (by decide +kernel : ∀ i, i < 64 → lb 1 i = decide (i = 0)) i h
  · rw [lb_ge (by omega)]; simp; omega
theorem lb_not (x : Int64) {i : Nat} (h : i < 64) : lb (x ^^^ (-1)) i = !lb x i := by rw [lb_xor, lb_m1 h]; simp
theorem lb_ne0 {x : Int64} : x ≠ 0 ↔ ∃ i, i < 64 ∧ lb x i = true := by
  constructor
  · intro h
    apply Classical.byContradiction
    intro hn
    apply h
    apply lb_ext
    intro i hi
    rw [lb_0]
    cases e : lb x i
    · rfl
    · exact absurd ⟨i, hi, e⟩ hn
  · rintro ⟨i, hi, e⟩ h
    rw [h, lb_0] at e
    exact absurd e (by decide)
theorem lb_eq0 {x : Int64} : x = 0 ↔ ∀ i, i < 64 → lb x i = false := by
  constructor
  · intro h i _
    rw [h, lb_0]
  · intro h
    apply lb_ext
    intro i hi
    rw [lb_0, h i hi]
theorem lb_shl {k : Nat} (hk : k < 64) (x : Int64) {i : Nat} (hi : i < 64) : lb (x <<< ((nI k).toInt64 &&& 63)) i = (decide (k ≤ i) && lb x (i - k)) := by
  unfold lb
  rw [wb_c k hk, Int64.toBitVec_shiftLeft, wb_tb, wb_sm k hk, BitVec.shiftLeft_eq', BitVec.toNat_ofNat, Nat.mod_eq_of_lt (by omega), BitVec.getLsbD_shiftLeft]
  rcases Nat.lt_or_ge i k with h | h
  · simp [h, Nat.not_le.mpr h]
  · simp [hi, h, Nat.not_lt.mpr h]
theorem lb_ushr {k : Nat} (hk : k < 64) (x : Int64) (i : Nat) : lb ((x.toUInt64 >>> ((nI k).toInt64.toUInt64 &&& Int64.toUInt64 63)).toInt64) i = lb x (k + i) := by
  rw [wb_cu k hk]
  have e : ((x.toUInt64 >>> UInt64.ofNat k).toInt64).toBitVec = x.toBitVec >>> k := by
    apply BitVec.eq_of_toNat_eq
    show (x.toUInt64 >>> UInt64.ofNat k).toNat = _
    rw [UInt64.toNat_shiftRight, u_tn (by omega), Nat.mod_eq_of_lt hk, BitVec.toNat_ushiftRight]
    rfl
  unfold lb
  rw [e, BitVec.getLsbD_ushiftRight]
theorem lb_sshr {k : Nat} (hk : k < 64) (x : Int64) {i : Nat} (hi : i < 64) : lb (x >>> ((nI k).toInt64 &&& 63)) i = if k + i < 64 then lb x (k + i) else lb x 63 := by
  unfold lb
  rw [wb_c k hk, Int64.toBitVec_shiftRight, wb_tb, wb_sm k hk]
  rw [BitVec.sshiftRight_eq', BitVec.toNat_ofNat, Nat.mod_eq_of_lt (by omega), BitVec.getLsbD_sshiftRight, BitVec.msb_eq_getLsbD_last]
  simp [hi]
theorem lb_a1 (x : Int64) : x &&& 1 = 0 ↔ lb x 0 = false := by
  rw [lb_eq0]
  constructor
  · intro h
    have := h 0 (by decide)
    rw [lb_and, lb_1] at this
    simpa using this
  · intro h i _
    rw [lb_and, lb_1]
    by_cases e : i = 0
    · subst e; rw [h]; rfl
    · simp [e]
theorem lb_bit0 {k : Nat} (hk : k < 64) (x : Int64) : (x >>> ((nI k).toInt64 &&& 63)) &&& 1 = 0 ↔ lb x k = false := by
  rw [lb_a1, lb_sshr hk x (by decide), if_pos (by omega), Nat.add_zero]
theorem lb_1shl {k : Nat} (hk : k < 64) {i : Nat} (hi : i < 64) : lb ((1 : Int64) <<< ((nI k).toInt64 &&& 63)) i = decide (i = k) := by
  rw [lb_shl hk _ hi, lb_1]
  by_cases h : k ≤ i
  · simp [h]; omega
  · simp [h]; omega
theorem lb_int (x : Int64) : x.toInt32 &&& 1 = nI (lb x 0).toNat := by
  apply b_ext
  intro i hi
  rw [b_and, gw_bt32 _ _ hi, Nat.testBit_bool_toNat]
  show (x.toInt32.toBitVec.getLsbD i && bt (nI 1) i) = _
  rw [gw_bt32 _ _ hi, Int64.toBitVec_toInt32]
  by_cases e : i = 0
  · subst e
    rw [BitVec.getLsbD_signExtend]
    simp [lb]
  · have : Nat.testBit 1 i = false := by
      cases h : Nat.testBit 1 i
      · rfl
      · exact absurd (Nat.testBit_one_eq_true_iff_self_eq_zero.mp h) e
    simp [this, e]
theorem lb_i64 (b : Bool) {i : Nat} (h : i < 64) : lb (nI b.toNat).toInt64 i = (b && decide (i = 0)) := by
  cases b
  · exact (by decide +kernel : ∀ i, i < 64 → lb (nI false.toNat).toInt64 i = (false && decide (i = 0))) i h
  · exact (by decide +kernel : ∀ i, i < 64 → lb (nI true.toNat).toInt64 i = (true && decide (i = 0))) i h
theorem gw_u (f : Nat → Int32) (k j : Nat) (x : Int32) : upd f k x j = if j = k then x else f j := rfl
theorem gw_uL (f : Nat → Int64) (k j : Nat) (x : Int64) : vp_updL f k x j = if j = k then x else f j := rfl
end
section
/-! ===== ones, lowest: the bits of a long counted by lanes of 8 ===== -/
def pc_m (m : Nat) : Nat → Nat
  | 0 => 0
  | k + 1 => 256 * pc_m m k + m
def pc_f1 (M v : Nat) : Nat := v - (v / 2 &&& M)
def pc_f2 (M v : Nat) : Nat := (v &&& M) + (v / 4 &&& M)
def pc_f3 (M v : Nat) : Nat := (v + v / 16) &&& M
theorem pc_and (a b M m : Nat) (hb : b < 256) (hm : m < 256) : (256 * a + b) &&& (256 * M + m) = 256 * (a &&& M) + (b &&& m) := by
  have hbm : b &&& m < 2 ^ 8 := Nat.and_lt_two_pow _ hm
  have e : ∀ x y, 256 * x + y = 2 ^ 8 * x + y := fun _ _ => rfl
  apply Nat.eq_of_testBit_eq
  intro i
  rw [Nat.testBit_and, e a b, e M m, e (a &&& M) (b &&& m), Nat.testBit_two_pow_mul_add _ hb, Nat.testBit_two_pow_mul_add _ hm, Nat.testBit_two_pow_mul_add _ hbm]
  by_cases h : i < 8
  · rw [if_pos h, if_pos h, if_pos h, Nat.testBit_and]
  · rw [if_neg h, if_neg h, if_neg h, Nat.testBit_and]
theorem pc_k1 : ∀ r, r < 2 → ∀ b, b < 256 → (128 * r + b / 2) &&& 85 = b / 2 &&& 85 := by decide +kernel
theorem pc_k2 : ∀ r, r < 4 → ∀ b, b < 256 → (64 * r + b / 4) &&& 51 = b / 4 &&& 51 := by decide +kernel
theorem pc_k3 : ∀ r, r < 5 → ∀ b, b < 69 → (b + 16 * r + b / 16) &&& 15 = (b + b / 16) &&& 15 := by decide +kernel
theorem pc_l1 (a b M : Nat) (hb : b < 256) : pc_f1 (256 * M + 85) (256 * a + b) = 256 * pc_f1 M a + pc_f1 85 b := by
  have e : (256 * a + b) / 2 = 256 * (a / 2) + (128 * (a % 2) + b / 2) := by omega
  unfold pc_f1
  rw [e, pc_and _ _ _ _ (by omega) (by decide), pc_k1 _ (by omega) _ hb]
  have h1 : a / 2 &&& M ≤ a / 2 := Nat.and_le_left
  have h2 : b / 2 &&& 85 ≤ b / 2 := Nat.and_le_left
  generalize a / 2 &&& M = p at *
  generalize b / 2 &&& 85 = q at *
  omega
theorem pc_l2 (a b M : Nat) (hb : b < 256) : pc_f2 (256 * M + 51) (256 * a + b) = 256 * pc_f2 M a + pc_f2 51 b := by
  have e : (256 * a + b) / 4 = 256 * (a / 4) + (64 * (a % 4) + b / 4) := by omega
  unfold pc_f2
  rw [e, pc_and _ _ _ _ (by omega) (by decide), pc_and _ _ _ _ (by omega) (by decide), pc_k2 _ (by omega) _ hb]
  omega
theorem pc_l3 (a b M : Nat) (hb : b < 69) (ha : a % 16 < 5) : pc_f3 (256 * M + 15) (256 * a + b) = 256 * pc_f3 M a + pc_f3 15 b := by
  have e : 256 * a + b + (256 * a + b) / 16 = 256 * (a + a / 16) + (b + 16 * (a % 16) + b / 16) := by omega
  unfold pc_f3
  rw [e, pc_and _ _ _ _ (by omega) (by decide), pc_k3 _ ha _ hb]
theorem pc_b1 : ∀ b, b < 256 → pc_f1 85 b < 256 ∧ pc_f2 51 (pc_f1 85 b) < 69 ∧ pc_f2 51 (pc_f1 85 b) % 16 < 5 := by decide +kernel
def pc_g (b : Nat) : Nat := pc_f3 15 (pc_f2 51 (pc_f1 85 b))
theorem pc_gc : ∀ b, b < 256 → pc_g b = cnt b.testBit 8 := by decide +kernel
def pc_2 (k v : Nat) : Nat := pc_f2 (pc_m 51 k) (pc_f1 (pc_m 85 k) v)
def pc_T (k v : Nat) : Nat := pc_f3 (pc_m 15 k) (pc_2 k v)
theorem pc_2s (k v : Nat) : pc_2 (k + 1) v = 256 * pc_2 k (v / 256) + pc_f2 51 (pc_f1 85 (v % 256)) := by
  have e : v = 256 * (v / 256) + v % 256 := by omega
  have hb : v % 256 < 256 := by omega
  generalize v / 256 = a at *
  generalize v % 256 = b at *
  subst e
  show pc_f2 (256 * pc_m 51 k + 51) (pc_f1 (256 * pc_m 85 k + 85) (256 * a + b)) = _
  rw [pc_l1 _ _ _ hb, pc_l2 _ _ _ (pc_b1 b hb).1]
  rfl
theorem pc_nib (k v : Nat) : pc_2 k v % 16 < 5 := by
  cases k with
  | zero =>
    have : pc_2 0 v = 0 := by
      show (_ &&& 0) + (_ &&& 0) = 0
      rw [Nat.and_zero, Nat.and_zero]
    rw [this]; decide
  | succ k =>
    rw [pc_2s]
    have := (pc_b1 (v % 256) (by omega)).2.2
    omega
theorem pc_Ts (k v : Nat) : pc_T (k + 1) v = 256 * pc_T k (v / 256) + pc_g (v % 256) := by
  show pc_f3 (256 * pc_m 15 k + 15) (pc_2 (k + 1) v) = _
  rw [pc_2s, pc_l3 _ _ _ (pc_b1 (v % 256) (by omega)).2.1 (pc_nib k _)]
  rfl
theorem pc_T0 (v : Nat) : pc_T 0 v = 0 := Nat.and_zero _
theorem pc_sum (a b c d e f g h : Nat) (ha : a ≤ 8) (hb : b ≤ 8) (hc : c ≤ 8) (hd : d ≤ 8) (he : e ≤ 8) (hf : f ≤ 8) (hg : g ≤ 8) (hh : h ≤ 8) :
    (256 * (256 * (256 * (256 * (256 * (256 * (256 * (256 * 0 + h) + g) + f) + e) + d) + c) + b) + a) * 72340172838076673 % 18446744073709551616 / 72057594037927936 = a + (b + (c + (d + (e + (f + (g + (h + 0))))))) := by
  have e1 : (256 * (256 * (256 * (256 * (256 * (256 * (256 * (256 * 0 + h) + g) + f) + e) + d) + c) + b) + a) * 72340172838076673
    = 18446744073709551616 * (h * 282578800148737 + g * 1103823438081 + f * 4311810305 + e * 16843009 + d * 65793 + c * 257 + b) + (72057594037927936 * (a + (b + (c + (d + (e + (f + (g + h))))))) + (a * 282578800148737 + b * 282578800148736 + c * 282578800148480 + d * 282578800082944 + e * 282578783305728 + f * 282574488338432 + g * 281474976710656)) := by omega
  rw [e1, Nat.mul_add_mod, Nat.mod_eq_of_lt (by omega)]
  omega
theorem pc_cs (k v : Nat) : cnt v.testBit (8 * (k + 1)) = pc_g (v % 256) + cnt (v / 256).testBit (8 * k) := by
  have e : 8 * (k + 1) = 8 + 8 * k := by omega
  rw [e, cnt_add, pc_gc _ (by omega)]
  have e1 : cnt v.testBit 8 = cnt (v % 256).testBit 8 := cnt_congr (fun i hi => by
    rw [show 256 = 2 ^ 8 from rfl, Nat.testBit_mod_two_pow]; simp [hi])
  have e2 : cnt (fun i => v.testBit (8 + i)) (8 * k) = cnt (v / 256).testBit (8 * k) := cnt_congr (fun i hi => by
    rw [show 256 = 2 ^ 8 from rfl, Nat.testBit_div_two_pow, Nat.add_comm])
  rw [e1, e2]
theorem pc_all (v : Nat) : pc_T 8 v * 72340172838076673 % 18446744073709551616 / 72057594037927936 = cnt v.testBit 64 := by
  have hg : ∀ x, pc_g (x % 256) ≤ 8 := fun x => by
    rw [pc_gc _ (by omega)]
    exact cnt_le _ 8
  rw [pc_Ts, pc_Ts, pc_Ts, pc_Ts, pc_Ts, pc_Ts, pc_Ts, pc_Ts, pc_T0]
  rw [pc_sum _ _ _ _ _ _ _ _ (hg _) (hg _) (hg _) (hg _) (hg _) (hg _) (hg _) (hg _)]
  rw [show (64 : Nat) = 8 * (7 + 1) from rfl, pc_cs, pc_cs, pc_cs, pc_cs, pc_cs, pc_cs, pc_cs, pc_cs]
  rfl
theorem lb_lN (n : Nat) {i : Nat} (h : i < 64) : lb (lN n) i = n.testBit i := by
  show (BitVec.ofNat 64 n).getLsbD i = _
  rw [BitVec.getLsbD_ofNat]
  simp [h]
theorem pc_lt3 (v : Nat) : pc_2 8 v + pc_2 8 v / 16 < 18446744073709551616 := by
  have h : pc_2 8 v < 1229782938247303442 * 4 := by
    have hb : ∀ x, pc_f2 51 (pc_f1 85 (x % 256)) < 69 := fun x => (pc_b1 _ (by omega)).2.1
    have h0 : ∀ x, pc_2 0 x = 0 := fun x => by
      show (_ &&& 0) + (_ &&& 0) = 0
      rw [Nat.and_zero, Nat.and_zero]
    rw [pc_2s, pc_2s, pc_2s, pc_2s, pc_2s, pc_2s, pc_2s, pc_2s, h0]
    have h1 := hb v
    have h2 := hb (v / 256)
    have h3 := hb (v / 256 / 256)
    have h4 := hb (v / 256 / 256 / 256)
    have h5 := hb (v / 256 / 256 / 256 / 256)
    have h6 := hb (v / 256 / 256 / 256 / 256 / 256)
    have h7 := hb (v / 256 / 256 / 256 / 256 / 256 / 256)
    have h8 := hb (v / 256 / 256 / 256 / 256 / 256 / 256 / 256)
    generalize pc_f2 51 (pc_f1 85 (v % 256)) = a1 at *
    generalize pc_f2 51 (pc_f1 85 (v / 256 % 256)) = a2 at *
    generalize pc_f2 51 (pc_f1 85 (v / 256 / 256 % 256)) = a3 at *
    generalize pc_f2 51 (pc_f1 85 (v / 256 / 256 / 256 % 256)) = a4 at *
    generalize pc_f2 51 (pc_f1 85 (v / 256 / 256 / 256 / 256 % 256)) = a5 at *
    generalize pc_f2 51 (pc_f1 85 (v / 256 / 256 / 256 / 256 / 256 % 256)) = a6 at *
    generalize pc_f2 51 (pc_f1 85 (v / 256 / 256 / 256 / 256 / 256 / 256 % 256)) = a7 at *
    generalize pc_f2 51 (pc_f1 85 (v / 256 / 256 / 256 / 256 / 256 / 256 / 256 % 256)) = a8 at *
    clear hb h0
    omega
  omega
theorem xw_ones {post : Int32 → Prop} (p : Int64) (h : post (nI (cnt (lb p) 64))) : wpX_ones post p := by
  obtain ⟨v, hv, rfl⟩ := wb_of p
  have e0 : cnt (lb (lN v)) 64 = cnt v.testBit 64 := cnt_congr (fun i hi => lb_lN v hi)
  rw [e0, ← pc_all] at h
  have m5 : (6148914691236517205 : Int64) = lN (pc_m 85 8) := by decide +kernel
  have m3 : (3689348814741910323 : Int64) = lN (pc_m 51 8) := by decide +kernel
  have mF : (1085102592571150095 : Int64) = lN (pc_m 15 8) := by decide +kernel
  have mK : (72340172838076673 : Int64) = lN 72340172838076673 := by decide +kernel
  have b5 : pc_m 85 8 < 2 ^ 64 := by decide +kernel
  have b3 : pc_m 51 8 < 2 ^ 64 := by decide +kernel
  have bF : pc_m 15 8 < 2 ^ 64 := by decide +kernel
  have l1 : pc_f1 (pc_m 85 8) v ≤ v := Nat.sub_le _ _
  have l2 := pc_lt3 v
  unfold wpX_ones
  refine nm_r (e' := lN (pc_f1 (pc_m 85 8) v)) ?_ (nm_r (e' := lN (pc_2 8 v)) ?_ (nm_r (e' := lN (pc_T 8 v)) ?_ ?_))
  · rw [show (1 : Int32) = nI 1 from rfl, wb_shr hv (by decide), m5, wb_and (by have := Nat.div_le_self v (2 ^ 1); omega) b5]
    exact lN_sub (Nat.le_trans Nat.and_le_left (Nat.div_le_self _ _))
  · rw [show (2 : Int32) = nI 2 from rfl, wb_shr (by omega) (by decide), m3, wb_and (by omega) b3, wb_and (by have := Nat.div_le_self (pc_f1 (pc_m 85 8) v) (2 ^ 2); omega) b3, lN_add]
    rfl
  · rw [show (4 : Int32) = nI 4 from rfl, wb_shr (by omega) (by decide), mF, lN_add, wb_and (by omega) bF]
    rfl
  · rw [mK, lN_mul, wb_mod, show (56 : Int32) = nI 56 from rfl, wb_shr (Nat.mod_lt _ (by decide)) (by decide), lN_i]
    exact h
theorem lb_neg (x : Int64) {i : Nat} (hi : i < 64) : lb (-x) i = (lb x i ^^ decide (∃ j < i, lb x j = true)) := by
  unfold lb
  rw [Int64.toBitVec_neg, BitVec.getLsbD_neg]
  simp [hi]
theorem lb_low {v : Int64} {k : Nat} (hk : k < 64) (h1 : lb v k = true) (h2 : ∀ i, i < k → lb v i = false) : v &&& (-v) = lN (2 ^ k) := by
  apply lb_ext
  intro i hi
  rw [lb_and, lb_neg v hi, lb_lN _ hi, Nat.testBit_two_pow]
  rcases Nat.lt_trichotomy i k with h | h | h
  · rw [h2 i h]; simp; omega
  · subst h
    rw [h1]
    have : ¬ ∃ j < i, lb v j = true := by
      rintro ⟨j, hj, e⟩
      rw [h2 j hj] at e
      exact absurd e (by decide)
    simp [this]
  · have : ∃ j < i, lb v j = true := ⟨k, h, h1⟩
    rw [decide_eq_true this]
    cases lb v i <;> simp <;> omega
theorem cnt_lt {k : Nat} : ∀ n, k ≤ n → cnt (fun i => decide (i < k)) n = k := by
  intro n hn
  rw [cnt_ext hn (fun i hi _ => by simp; omega)]
  clear hn
  suffices h : ∀ m, m ≤ k → cnt (fun i => decide (i < k)) m = m from h k (Nat.le_refl _)
  intro m
  induction m with
  | zero => intro _; rfl
  | succ m ih =>
    intro hm
    rw [cnt_s, ih (by omega)]
    have : m < k := by omega
    simp [this]
theorem xw_lowest {post : Int32 → Prop} {v : Int64} {k : Nat} (hk : k < 64) (h1 : lb v k = true) (h2 : ∀ i, i < k → lb v i = false) (h : post (nI k)) : wpX_lowest post v := by
  unfold wpX_lowest
  apply xw_ones
  have hp : 2 ^ k ≤ 2 ^ 63 := Nat.pow_le_pow_right (by decide) (by omega)
  have hq : 0 < 2 ^ k := Nat.two_pow_pos k
  have e : (v &&& -v) - 1 = lN (2 ^ k - 1) := by
    rw [lb_low hk h1 h2, show (1 : Int64) = lN 1 from rfl, lN_sub hq]
  rw [e]
  have e2 : cnt (lb (lN (2 ^ k - 1))) 64 = cnt (fun i => decide (i < k)) 64 := cnt_congr (fun i hi => by
    rw [lb_lN _ hi, Nat.testBit_two_pow_sub_one])
  rw [e2, cnt_lt 64 (by omega)]
  exact h
theorem lb_clr {v : Int64} {k : Nat} (hk : k < 64) (h1 : lb v k = true) (h2 : ∀ i, i < k → lb v i = false) {i : Nat} (hi : i < 64) : lb (v &&& (v - 1)) i = (lb v i && !decide (i = k)) := by
  obtain ⟨n, hn, rfl⟩ := wb_of v
  have e1 : n % 2 ^ k = 0 := by
    apply Nat.eq_of_testBit_eq
    intro j
    rw [Nat.testBit_mod_two_pow, Nat.zero_testBit]
    by_cases hj : j < k
    · have := h2 j hj
      rw [lb_lN _ (by omega)] at this
      simp [this]
    · simp [hj]
  have e2 : n / 2 ^ k % 2 = 1 := by
    rw [lb_lN _ hk, Nat.testBit_eq_decide_div_mod_eq] at h1
    simpa using h1
  have e3 : n = 2 ^ (k + 1) * (n / 2 ^ k / 2) + 2 ^ k := by
    have a := Nat.div_add_mod n (2 ^ k)
    have b := Nat.div_add_mod (n / 2 ^ k) 2
    rw [e1, Nat.add_zero] at a
    rw [e2] at b
    rw [Nat.pow_succ, Nat.mul_assoc]
    calc n = 2 ^ k * (n / 2 ^ k) := a.symm
      _ = 2 ^ k * (2 * (n / 2 ^ k / 2) + 1) := by rw [b]
      _ = _ := by rw [Nat.mul_add, Nat.mul_one]
  generalize n / 2 ^ k / 2 = q at e3
  have hp : 0 < 2 ^ k := Nat.two_pow_pos k
  have hp2 : 2 ^ k < 2 ^ (k + 1) := Nat.pow_lt_pow_right (by decide) (by omega)
  have e4 : n - 1 = 2 ^ (k + 1) * q + (2 ^ k - 1) := by omega
  rw [lb_and, show (1 : Int64) = lN 1 from rfl, lN_sub (by omega), lb_lN _ hi, lb_lN _ hi, e4, e3, Nat.testBit_two_pow_mul_add _ hp2, Nat.testBit_two_pow_mul_add _ (by omega)]
  by_cases h : i < k + 1
  · rw [if_pos h, if_pos h, Nat.testBit_two_pow, Nat.testBit_two_pow_sub_one]
    by_cases e : k = i
    · subst e; simp
    · simp [e]
  · rw [if_neg h, if_neg h]
    have : ¬ i = k := by omega
    simp [this]
end
section
/-! ===== the circuit, and what its nets show ===== -/
/-- nets, sources, registers, kinds, operands, follows, nets of sources, nets of registers, sources of registers -/
abbrev CK : Type := Nat × Nat × Nat × (Nat → Nat) × (Nat → Nat) × (Nat → Nat) × (Nat → Nat) × (Nat → Nat) × (Nat → Nat)
def cN (c : CK) : Nat := c.1
def cS (c : CK) : Nat := c.2.1
def cR (c : CK) : Nat := c.2.2.1
def cK (c : CK) : Nat → Nat := c.2.2.2.1
def cO (c : CK) : Nat → Nat := c.2.2.2.2.1
def cF (c : CK) : Nat → Nat := c.2.2.2.2.2.1
def cA (c : CK) : Nat → Nat := c.2.2.2.2.2.2.1
def cG (c : CK) : Nat → Nat := c.2.2.2.2.2.2.2.1
def cB (c : CK) : Nat → Nat := c.2.2.2.2.2.2.2.2
def xK (c : CK) : Nat → Int32 := fun i => nI (cK c i)
def xO (c : CK) : Nat → Int32 := fun i => nI (cO c i)
def xF (c : CK) : Nat → Int32 := fun i => nI (cF c i)
def xA (c : CK) : Nat → Int32 := fun i => nI (cA c i)
def xG (c : CK) : Nat → Int32 := fun i => nI (cG c i)
def xB (c : CK) : Nat → Int32 := fun i => nI (cB c i)
def WF (c : CK) : Prop :=
  cN c ≤ 32 ∧ cS c ≤ 10 ∧ cR c ≤ 6 ∧ (∀ n, cK c n ≤ 7) ∧ (∀ j, cO c j < 32) ∧ (∀ n, cF c n < 32)
  ∧ (∀ n, n < cN c → 3 ≤ cK c n → cO c (3 * n) < n) ∧ (∀ n, n < cN c → 4 ≤ cK c n → cO c (3 * n + 1) < n) ∧ (∀ n, n < cN c → 7 ≤ cK c n → cO c (3 * n + 2) < n)
  ∧ (∀ i, i < cS c → cA c i < cN c ∧ cK c (cA c i) < 2) ∧ (∀ i j, i < j → j < cS c → cA c i < cA c j) ∧ (∀ n, n < cN c → cK c n < 2 → ∃ i, i < cS c ∧ cA c i = n)
  ∧ (∀ i, i < cR c → cB c i < cS c ∧ cG c i = cA c (cB c i) ∧ cK c (cG c i) = 1 ∧ cF c (cG c i) < cN c) ∧ (∀ i j, i < j → j < cR c → cB c i < cB c j) ∧ (∀ n, n < cN c → cK c n = 1 → ∃ i, i < cR c ∧ cG c i = n)
section
variable {c : CK}
theorem wf_N (w : WF c) : cN c ≤ 32 := w.1
theorem wf_S (w : WF c) : cS c ≤ 10 := w.2.1
theorem wf_R (w : WF c) : cR c ≤ 6 := w.2.2.1
theorem wf_K (w : WF c) (n : Nat) : cK c n ≤ 7 := w.2.2.2.1 n
theorem wf_O (w : WF c) (j : Nat) : cO c j < 32 := w.2.2.2.2.1 j
theorem wf_F (w : WF c) (n : Nat) : cF c n < 32 := w.2.2.2.2.2.1 n
theorem wf_o1 (w : WF c) {n : Nat} (h : n < cN c) (k : 3 ≤ cK c n) : cO c (3 * n) < n := w.2.2.2.2.2.2.1 n h k
theorem wf_o2 (w : WF c) {n : Nat} (h : n < cN c) (k : 4 ≤ cK c n) : cO c (3 * n + 1) < n := w.2.2.2.2.2.2.2.1 n h k
theorem wf_o3 (w : WF c) {n : Nat} (h : n < cN c) (k : 7 ≤ cK c n) : cO c (3 * n + 2) < n := w.2.2.2.2.2.2.2.2.1 n h k
theorem wf_A (w : WF c) {i : Nat} (h : i < cS c) : cA c i < cN c := (w.2.2.2.2.2.2.2.2.2.1 i h).1
theorem wf_AK (w : WF c) {i : Nat} (h : i < cS c) : cK c (cA c i) < 2 := (w.2.2.2.2.2.2.2.2.2.1 i h).2
theorem wf_Am (w : WF c) {i j : Nat} (h : i < j) (hj : j < cS c) : cA c i < cA c j := w.2.2.2.2.2.2.2.2.2.2.1 i j h hj
theorem wf_Ax (w : WF c) {n : Nat} (h : n < cN c) (k : cK c n < 2) : ∃ i, i < cS c ∧ cA c i = n := w.2.2.2.2.2.2.2.2.2.2.2.1 n h k
theorem wf_B (w : WF c) {i : Nat} (h : i < cR c) : cB c i < cS c := (w.2.2.2.2.2.2.2.2.2.2.2.2.1 i h).1
theorem wf_G (w : WF c) {i : Nat} (h : i < cR c) : cG c i = cA c (cB c i) := (w.2.2.2.2.2.2.2.2.2.2.2.2.1 i h).2.1
theorem wf_GK (w : WF c) {i : Nat} (h : i < cR c) : cK c (cG c i) = 1 := (w.2.2.2.2.2.2.2.2.2.2.2.2.1 i h).2.2.1
theorem wf_GF (w : WF c) {i : Nat} (h : i < cR c) : cF c (cG c i) < cN c := (w.2.2.2.2.2.2.2.2.2.2.2.2.1 i h).2.2.2
theorem wf_Bm (w : WF c) {i j : Nat} (h : i < j) (hj : j < cR c) : cB c i < cB c j := w.2.2.2.2.2.2.2.2.2.2.2.2.2.1 i j h hj
theorem wf_Gx (w : WF c) {n : Nat} (h : n < cN c) (k : cK c n = 1) : ∃ i, i < cR c ∧ cG c i = n := w.2.2.2.2.2.2.2.2.2.2.2.2.2.2 n h k
theorem wf_GN (w : WF c) {i : Nat} (h : i < cR c) : cG c i < cN c := by rw [wf_G w h]; exact wf_A w (wf_B w h)
theorem wf_Ai (w : WF c) {i j : Nat} (hi : i < cS c) (hj : j < cS c) (e : cA c i = cA c j) : i = j := by
  rcases Nat.lt_trichotomy i j with h | h | h
  · have := wf_Am w h hj; omega
  · exact h
  · have := wf_Am w h hi; omega
theorem wf_Bi (w : WF c) {i j : Nat} (hi : i < cR c) (hj : j < cR c) (e : cB c i = cB c j) : i = j := by
  rcases Nat.lt_trichotomy i j with h | h | h
  · have := wf_Bm w h hj; omega
  · exact h
  · have := wf_Bm w h hi; omega
theorem wf_Gi (w : WF c) {i j : Nat} (hi : i < cR c) (hj : j < cR c) (e : cG c i = cG c j) : i = j := by
  rw [wf_G w hi, wf_G w hj] at e
  exact wf_Bi w hi hj (wf_Ai w (wf_B w hi) (wf_B w hj) e)
end
/-- a gate's value by the values of the nets below it -/
def gv0 (c : CK) (sv g : Nat → Bool) (n : Nat) : Bool :=
  if cK c n < 2 then sv n
  else if cK c n = 2 then decide (cO c (3 * n) = 1)
  else if cK c n = 3 then !(g (cO c (3 * n)))
  else if cK c n = 4 then g (cO c (3 * n)) && g (cO c (3 * n + 1))
  else if cK c n = 5 then g (cO c (3 * n)) || g (cO c (3 * n + 1))
  else if cK c n = 6 then g (cO c (3 * n)) ^^ g (cO c (3 * n + 1))
  else (g (cO c (3 * n)) && g (cO c (3 * n + 1))) || (!(g (cO c (3 * n))) && g (cO c (3 * n + 2)))
/-- with one net forced -/
def gv (c : CK) (f : Nat) (o : Bool) (sv g : Nat → Bool) (n : Nat) : Bool := if n = f then o else gv0 c sv g n
def evs (c : CK) (f : Nat) (o : Bool) (sv : Nat → Bool) : Nat → Nat → Bool
  | 0 => fun _ => false
  | m + 1 => fun n => if n = m then gv c f o sv (evs c f o sv m) m else evs c f o sv m n
def ev (c : CK) (f : Nat) (o : Bool) (sv : Nat → Bool) (n : Nat) : Bool := evs c f o sv (n + 1) n
section
variable {c : CK}
theorem gv0_congr (w : WF c) {sv sv' g g' : Nat → Bool} {n : Nat} (hn : n < cN c) (hs : cK c n < 2 → sv n = sv' n) (hg : ∀ m, m < n → g m = g' m) : gv0 c sv g n = gv0 c sv' g' n := by
  have k7 := wf_K w n
  unfold gv0
  by_cases h1 : cK c n < 2
  · rw [if_pos h1, if_pos h1, hs h1]
  rw [if_neg h1, if_neg h1]
  by_cases h2 : cK c n = 2
  · rw [if_pos h2, if_pos h2]
  rw [if_neg h2, if_neg h2]
  have a1 := hg _ (wf_o1 w hn (by omega))
  by_cases h3 : cK c n = 3
  · rw [if_pos h3, if_pos h3, a1]
  rw [if_neg h3, if_neg h3]
  have a2 := hg _ (wf_o2 w hn (by omega))
  by_cases h4 : cK c n = 4
  · rw [if_pos h4, if_pos h4, a1, a2]
  rw [if_neg h4, if_neg h4]
  by_cases h5 : cK c n = 5
  · rw [if_pos h5, if_pos h5, a1, a2]
  rw [if_neg h5, if_neg h5]
  by_cases h6 : cK c n = 6
  · rw [if_pos h6, if_pos h6, a1, a2]
  rw [if_neg h6, if_neg h6]
  have a3 := hg _ (wf_o3 w hn (by omega))
  rw [a1, a2, a3]
theorem gv_congr (w : WF c) {f : Nat} {o : Bool} {sv sv' g g' : Nat → Bool} {n : Nat} (hn : n < cN c) (hs : cK c n < 2 → sv n = sv' n) (hg : ∀ m, m < n → g m = g' m) : gv c f o sv g n = gv c f o sv' g' n := by
  unfold gv
  rw [gv0_congr w hn hs hg]
theorem evs_lt {f : Nat} {o : Bool} {sv : Nat → Bool} {n : Nat} : ∀ m, n < m → evs c f o sv m n = ev c f o sv n := by
  intro m hm
  induction m with
  | zero => omega
  | succ m ih =>
    by_cases e : n = m
    · subst e; rfl
    · show (if n = m then _ else evs c f o sv m n) = _
      rw [if_neg e, ih (by omega)]
theorem ev_eq (w : WF c) {f : Nat} {o : Bool} {sv : Nat → Bool} {n : Nat} (hn : n < cN c) : ev c f o sv n = gv c f o sv (ev c f o sv) n := by
  show (if n = n then _ else _) = _
  rw [if_pos rfl]
  exact gv_congr w hn (fun _ => rfl) (fun m hm => evs_lt n hm)
theorem ev_uni (w : WF c) {f : Nat} {o : Bool} {sv sv' : Nat → Bool} {g : Nat → Bool} {k : Nat} (hk : k ≤ cN c) (hs : ∀ n, n < k → cK c n < 2 → sv n = sv' n) (h : ∀ n, n < k → g n = gv c f o sv g n) : ∀ n, n < k → g n = ev c f o sv' n := by
  intro n
  induction n using Nat.strongRecOn with
  | _ n ih =>
    intro hn
    rw [h n hn, ev_eq w (by omega)]
    exact gv_congr w (by omega) (hs n hn) (fun m hm => ih m hm (by omega))
theorem ev_congr (w : WF c) {f : Nat} {o : Bool} {sv sv' : Nat → Bool} (hs : ∀ n, n < cN c → cK c n < 2 → sv n = sv' n) {n : Nat} (hn : n < cN c) : ev c f o sv n = ev c f o sv' n :=
  ev_uni w (Nat.le_refl _) hs (fun _ hn => ev_eq w hn) n hn
/-- nothing below a forced net is changed -/
theorem ev_below (w : WF c) {f f' : Nat} {o o' : Bool} {sv : Nat → Bool} {n : Nat} (hn : n < cN c) (h : n < f) (h' : n < f') : ev c f o sv n = ev c f' o' sv n := by
  induction n using Nat.strongRecOn with
  | _ n ih =>
    rw [ev_eq w hn, ev_eq w hn]
    unfold gv
    rw [if_neg (by omega), if_neg (by omega)]
    exact gv0_congr w hn (fun _ => rfl) (fun m hm => ih m hm (by omega) (by omega) (by omega))
end
/-- the value of a source in an assignment -/
def sa (c : CK) (a : Nat) (n : Nat) : Bool := (List.range (cS c)).any fun i => decide (cA c i = n) && a.testBit i
theorem sa_A {c : CK} (w : WF c) {a i : Nat} (hi : i < cS c) : sa c a (cA c i) = a.testBit i := by
  unfold sa
  cases h : a.testBit i
  · rw [List.any_eq_false]
    intro j hj
    rw [List.mem_range] at hj
    by_cases e : cA c j = cA c i
    · have := wf_Ai w hj hi e
      subst this
      simp [h]
    · simp [e]
  · rw [List.any_eq_true]
    exact ⟨i, List.mem_range.mpr hi, by simp [h]⟩
/-- a net's value in an assignment; with a net forced -/
def EV (c : CK) (a n : Nat) : Bool := ev c 99 false (sa c a) n
def EVF (c : CK) (f : Nat) (o : Bool) (a n : Nat) : Bool := ev c f o (sa c a) n
theorem EV_src {c : CK} (w : WF c) {a i : Nat} (hi : i < cS c) : EV c a (cA c i) = a.testBit i := by
  have hn := wf_A w hi
  have := wf_N w
  unfold EV
  rw [ev_eq w hn]
  unfold gv gv0
  rw [if_neg (by omega), if_pos (wf_AK w hi), sa_A w hi]
/-- how many longs, at 64 assignments each -/
def cL (c : CK) : Nat := if cS c < 7 then 1 else 2 ^ (cS c - 6)
theorem cL_le {c : CK} (w : WF c) : cL c ≤ 16 := by
  have := wf_S w
  unfold cL
  split
  · decide
  · exact Nat.le_trans (Nat.pow_le_pow_right (n := 2) (by decide) (show cS c - 6 ≤ 4 by omega)) (by decide)
theorem cL_pos (c : CK) : 0 < cL c := by
  unfold cL
  split
  · decide
  · exact Nat.two_pow_pos _
theorem cL_big {c : CK} (h : 6 ≤ cS c) : 64 * cL c = 2 ^ cS c := by
  unfold cL
  split
  · have : cS c = 6 := by omega
    rw [this]
  · have e : cS c = (cS c - 6) + 6 := by omega
    calc 64 * 2 ^ (cS c - 6) = 2 ^ (cS c - 6) * 2 ^ 6 := Nat.mul_comm _ _
      _ = 2 ^ (cS c - 6 + 6) := (Nat.pow_add _ _ _).symm
      _ = 2 ^ cS c := by rw [← e]
theorem cL_small {c : CK} (h : cS c ≤ 6) : cL c = 1 := by
  unfold cL
  rw [if_pos (by omega)]
theorem cL_in {c : CK} {a : Nat} (h : a < 2 ^ cS c) : a / 64 < cL c := by
  by_cases h6 : 6 ≤ cS c
  · have := cL_big h6; omega
  · have := cL_small (c := c) (by omega)
    have : 2 ^ cS c ≤ 2 ^ 6 := Nat.pow_le_pow_right (by decide) (by omega)
    omega
/-- the first k longs of a net's row are right -/
def ROW (c : CK) (f : Nat) (o : Bool) (t : Nat → Int64) (n k : Nat) : Prop :=
  ∀ v, v < k → ∀ b, b < 64 → lb (t (16 * n + v)) b = (decide (64 * v + b < 2 ^ cS c) && EVF c f o (64 * v + b) n)
/-- all rows of nets below k are right -/
def TBL (c : CK) (f : Nat) (o : Bool) (t : Nat → Int64) (k : Nat) : Prop := ∀ n, n < k → ROW c f o t n (cL c)
end
section
/-! ===== X: reading, and the tables of functions ===== -/
theorem xK_ap (c : CK) (i : Nat) : xK c i = nI (cK c i) := rfl
theorem xO_ap (c : CK) (i : Nat) : xO c i = nI (cO c i) := rfl
theorem xF_ap (c : CK) (i : Nat) : xF c i = nI (cF c i) := rfl
theorem xA_ap (c : CK) (i : Nat) : xA c i = nI (cA c i) := rfl
theorem xG_ap (c : CK) (i : Nat) : xG c i = nI (cG c i) := rfl
theorem xB_ap (c : CK) (i : Nat) : xB c i = nI (cB c i) := rfl
section
variable {c : CK} {f_now : Int32} {f_right : Int32} {f_levelsKnown : Int32} {f_head : Int32} {f_tail : Int32} {f_met : Int64} {f_comesKnown : Int32} {f_entry : Int32} {f_round : Int32} {a_table : Nat → Int64} {a_saved : Nat → Int64} {a_matters : Nat → Int32} {a_cubes : Nat → Int64} {a_levels : Nat → Int32} {a_edgeFlow : Nat → Int32} {a_netFlow : Nat → Int32} {a_queue : Nat → Int32} {a_before : Nat → Int32} {a_edge : Nat → Int32} {a_leads : Nat → Int64} {a_comes : Nat → Int32} {a_group : Nat → Int32} {a_later : Nat → Int32} {a_goes : Nat → Int32} {a_shows : Nat → Int32}
theorem xw_isNet_t (w : WF c) {j : Nat} (hj : j < cN c) {post : Int32 → Prop} (h : post 1) : wpX_isNet post (nI (cN c), nI (cS c), nI (cR c), f_now, f_right, f_levelsKnown, f_head, f_tail, f_met, f_comesKnown, f_entry, f_round, xK c, xO c, xF c, xA c, xG c, xB c, a_table, a_saved, a_matters, a_cubes, a_levels, a_edgeFlow, a_netFlow, a_queue, a_before, a_edge, a_leads, a_comes, a_group, a_later, a_goes, a_shows) (nI j) := by
  have := wf_N w
  dsimp only [wpX_isNet]
  exact br_f (nI_pos (by omega)) (br_f (nI_ge hj (by omega)) h)
theorem xw_isNet_f (w : WF c) {p : Int32} (hp : p < 0 ∨ nI (cN c) ≤ p) {post : Int32 → Prop} (h : post 0) : wpX_isNet post (nI (cN c), nI (cS c), nI (cR c), f_now, f_right, f_levelsKnown, f_head, f_tail, f_met, f_comesKnown, f_entry, f_round, xK c, xO c, xF c, xA c, xG c, xB c, a_table, a_saved, a_matters, a_cubes, a_levels, a_edgeFlow, a_netFlow, a_queue, a_before, a_edge, a_leads, a_comes, a_group, a_later, a_goes, a_shows) p := by
  dsimp only [wpX_isNet]
  refine br_c (fun _ => h) (fun h0 => br_t ?_ h)
  rcases hp with hp | hp
  · exact absurd hp h0
  · exact hp
theorem xw_length (w : WF c) {post : Int32 → Prop} (h : post (nI (cL c))) : wpX_length post (nI (cN c), nI (cS c), nI (cR c), f_now, f_right, f_levelsKnown, f_head, f_tail, f_met, f_comesKnown, f_entry, f_round, xK c, xO c, xF c, xA c, xG c, xB c, a_table, a_saved, a_matters, a_cubes, a_levels, a_edgeFlow, a_netFlow, a_queue, a_before, a_edge, a_leads, a_comes, a_group, a_later, a_goes, a_shows) := by
  have hS := wf_S w
  dsimp only [wpX_length]
  refine pk_le 7 (cS c) (fun h7 => ?_) (fun h7 => ?_)
  · have e1 : nI (cS c) - 6 = nI (cS c - 6) := pk_sub (show 6 ≤ cS c by omega)
    rw [e1, gw_1shl (by omega)]
    unfold cL at h
    rw [if_neg (by omega)] at h
    exact h
  · unfold cL at h
    rw [if_pos (by omega)] at h
    exact h
theorem xw_valid (w : WF c) {post : Int64 → Prop} (h : ∀ z, (∀ b, b < 64 → lb z b = decide (b < 2 ^ cS c)) → post z) : wpX_valid post (nI (cN c), nI (cS c), nI (cR c), f_now, f_right, f_levelsKnown, f_head, f_tail, f_met, f_comesKnown, f_entry, f_round, xK c, xO c, xF c, xA c, xG c, xB c, a_table, a_saved, a_matters, a_cubes, a_levels, a_edgeFlow, a_netFlow, a_queue, a_before, a_edge, a_leads, a_comes, a_group, a_later, a_goes, a_shows) := by
  have hS := wf_S w
  dsimp only [wpX_valid]
  refine pk_le (cS c) 5 (fun h5 => ?_) (fun h5 => ?_)
  · apply h
    intro b hb
    have hp : 2 ^ cS c ≤ 2 ^ 5 := Nat.pow_le_pow_right (by decide) h5
    have e : (1 : Int64) <<< ((nI (2 ^ cS c)).toInt64 &&& 63) - 1 = lN (2 ^ 2 ^ cS c - 1) := by
      have e1 : (1 : Int64) <<< ((nI (2 ^ cS c)).toInt64 &&& 63) = lN (2 ^ 2 ^ cS c) := by
        have := wb_shl 1 (k := 2 ^ cS c) (by omega)
        rw [Nat.one_mul] at this
        exact this
      rw [e1]
      exact lN_sub (b := 1) (Nat.two_pow_pos _)
    rw [gw_1shl (by omega), e, lb_lN _ hb, Nat.testBit_two_pow_sub_one]
  · apply h
    intro b hb
    have hp : 2 ^ 6 ≤ 2 ^ cS c := Nat.pow_le_pow_right (by decide) (by omega)
    rw [lb_m1 hb]
    symm
    exact decide_eq_true (by omega)
theorem cL_dec {v b : Nat} (hv : v < cL c) (hb : b < 64) : decide (b < 2 ^ cS c) = decide (64 * v + b < 2 ^ cS c) := by
  by_cases h6 : 6 ≤ cS c
  · have := cL_big h6
    rw [decide_eq_true (show b < 2 ^ cS c by omega), decide_eq_true (show 64 * v + b < 2 ^ cS c by omega)]
  · have := cL_small (c := c) (by omega)
    have : v = 0 := by omega
    subst this
    rw [Nat.mul_zero, Nat.zero_add]
theorem xw_pattern {s v : Nat} (hs : s < 10) (hv : v < 16) {post : Int64 → Prop} (h : ∀ z, (∀ b, b < 64 → lb z b = (64 * v + b).testBit s) → post z) : wpX_pattern post (nI s) (nI v) := by
  unfold wpX_pattern
  refine br_f (nI_pos (by omega)) (pk_lt 5 s (fun h5 => ?_) (fun h5 => ?_))
  · have e1 : nI s - 6 = nI (s - 6) := gw_subL 6 s (show 6 ≤ s by omega)
    have t : ∀ b, b < 64 → (64 * v + b).testBit s = v.testBit (s - 6) := fun b hb => by
      rw [show 64 = 2 ^ 6 from rfl, Nat.testBit_two_pow_mul_add _ hb, if_neg (by omega)]
    rw [e1, gw_bit (by omega) (by omega)]
    cases e : v.testBit (s - 6)
    · refine br_f (by decide) (h _ (fun b hb => ?_))
      rw [t b hb, e, lb_0]
    · refine br_t rfl (h _ (fun b hb => ?_))
      rw [t b hb, e, lb_m1 hb]
  · have t : ∀ b, b < 64 → (64 * v + b).testBit s = b.testBit s := fun b hb => by
      rw [show 64 = 2 ^ 6 from rfl, Nat.testBit_two_pow_mul_add _ hb, if_pos (by omega)]
    have h6 : s = 0 ∨ s = 1 ∨ s = 2 ∨ s = 3 ∨ s = 4 ∨ s = 5 := by omega
    rcases h6 with rfl | rfl | rfl | rfl | rfl | rfl
    · refine br_t rfl (h _ (fun b hb => ?_))
      rw [t b hb]
      exact (by decide +kernel : ∀ b, b < 64 → lb (-6148914691236517206) b = b.testBit 0) b hb
    · refine br_f (by decide) (br_t rfl (h _ (fun b hb => ?_)))
      rw [t b hb]
      exact (by decide +kernel : ∀ b, b < 64 → lb (-3689348814741910324) b = b.testBit 1) b hb
    · refine br_f (by decide) (br_f (by decide) (br_t rfl (h _ (fun b hb => ?_))))
      rw [t b hb]
      exact (by decide +kernel : ∀ b, b < 64 → lb (-1085102592571150096) b = b.testBit 2) b hb
    · refine br_f (by decide) (br_f (by decide) (br_f (by decide) (br_t rfl (h _ (fun b hb => ?_)))))
      rw [t b hb]
      exact (by decide +kernel : ∀ b, b < 64 → lb (-71777214294589696) b = b.testBit 3) b hb
    · refine br_f (by decide) (br_f (by decide) (br_f (by decide) (br_f (by decide) (br_t rfl (h _ (fun b hb => ?_))))))
      rw [t b hb]
      exact (by decide +kernel : ∀ b, b < 64 → lb (-281470681808896) b = b.testBit 4) b hb
    · refine br_f (by decide) (br_f (by decide) (br_f (by decide) (br_f (by decide) (br_f (by decide) (br_t rfl (h _ (fun b hb => ?_)))))))
      rw [t b hb]
      exact (by decide +kernel : ∀ b, b < 64 → lb (-4294967296) b = b.testBit 5) b hb
theorem xw_sourceOf (w : WF c) {i : Nat} (hi : i < cS c) {post : Int32 → Prop} (h : post (nI i)) : wpX_sourceOf post (nI (cN c), nI (cS c), nI (cR c), f_now, f_right, f_levelsKnown, f_head, f_tail, f_met, f_comesKnown, f_entry, f_round, xK c, xO c, xF c, xA c, xG c, xB c, a_table, a_saved, a_matters, a_cubes, a_levels, a_edgeFlow, a_netFlow, a_queue, a_before, a_edge, a_leads, a_comes, a_group, a_later, a_goes, a_shows) (nI (cA c i)) := by
  have hS := wf_S w
  have hN := wf_N w
  have hA := wf_A w hi
  have L : ∀ d j n, j + d = i → d < n → wX_sourceOf_2 post (nI (cA c i)) (nI (cN c)) (nI (cS c)) (nI (cR c)) f_now f_right f_levelsKnown f_head f_tail f_met f_comesKnown f_entry f_round (xK c) (xO c) (xF c) (xA c) (xG c) (xB c) a_table a_saved a_matters a_cubes a_levels a_edgeFlow a_netFlow a_queue a_before a_edge a_leads a_comes a_group a_later a_goes a_shows n (nI j) := by
    intro d
    induction d with
    | zero =>
      intro j n hj hn
      obtain ⟨m, rfl⟩ : ∃ m, n = m + 1 := ⟨n - 1, by omega⟩
      have : j = i := by omega
      subst this
      have h1 : ¬ cS c ≤ j := by omega
      simp (disch := omega) only [gw_in, gw_cl, gw_Lle, gw_leL, gw_Llt, gw_ltL, gw_eqL, gw_Leq, gw_Lmul, gw_Ladd, gw_addL, nI_leI, nI_ltI, nI_eq, nI_add, nI_1, pk_mul, xK_ap, xO_ap, xF_ap, xA_ap, xG_ap, xB_ap, forall_eq, true_and, and_true, false_imp_iff, true_imp_iff, not_false_eq_true, not_true_eq_false, eq_self, Nat.reduceLT, Nat.reduceLeDiff, Nat.reduceEqDiff, gw_10, gw_01, wX_sourceOf_2, h1]
      exact h
    | succ d ih =>
      intro j n hj hn
      obtain ⟨m, rfl⟩ : ∃ m, n = m + 1 := ⟨n - 1, by omega⟩
      have h1 : ¬ cS c ≤ j := by omega
      have h2 := wf_Am w (show j < i by omega) hi
      have h3 : ¬ cA c j = cA c i := by omega
      simp (disch := omega) only [gw_in, gw_cl, gw_Lle, gw_leL, gw_Llt, gw_ltL, gw_eqL, gw_Leq, gw_Lmul, gw_Ladd, gw_addL, nI_leI, nI_ltI, nI_eq, nI_add, nI_1, pk_mul, xK_ap, xO_ap, xF_ap, xA_ap, xG_ap, xB_ap, forall_eq, true_and, and_true, false_imp_iff, true_imp_iff, not_false_eq_true, not_true_eq_false, eq_self, Nat.reduceLT, Nat.reduceLeDiff, Nat.reduceEqDiff, gw_10, gw_01, wX_sourceOf_2, h1, h3]
      exact ih (j + 1) m (by omega) (by omega)
  exact ⟨i + 1, L i 0 (i + 1) (by omega) (by omega)⟩
theorem xw_sourceOf_no (w : WF c) {p : Int32} (hp : ∀ i, i < cS c → ¬ nI (cA c i) = p) {post : Int32 → Prop} (h : post (-1)) : wpX_sourceOf post (nI (cN c), nI (cS c), nI (cR c), f_now, f_right, f_levelsKnown, f_head, f_tail, f_met, f_comesKnown, f_entry, f_round, xK c, xO c, xF c, xA c, xG c, xB c, a_table, a_saved, a_matters, a_cubes, a_levels, a_edgeFlow, a_netFlow, a_queue, a_before, a_edge, a_leads, a_comes, a_group, a_later, a_goes, a_shows) p := by
  have hS := wf_S w
  have L : ∀ d j n, j + d = cS c → d < n → wX_sourceOf_2 post p (nI (cN c)) (nI (cS c)) (nI (cR c)) f_now f_right f_levelsKnown f_head f_tail f_met f_comesKnown f_entry f_round (xK c) (xO c) (xF c) (xA c) (xG c) (xB c) a_table a_saved a_matters a_cubes a_levels a_edgeFlow a_netFlow a_queue a_before a_edge a_leads a_comes a_group a_later a_goes a_shows n (nI j) := by
    intro d
    induction d with
    | zero =>
      intro j n hj hn
      obtain ⟨m, rfl⟩ : ∃ m, n = m + 1 := ⟨n - 1, by omega⟩
      have h1 : cS c ≤ j := by omega
      simp (disch := omega) only [gw_in, gw_cl, gw_Lle, gw_leL, gw_Llt, gw_ltL, gw_eqL, gw_Leq, gw_Lmul, gw_Ladd, gw_addL, nI_leI, nI_ltI, nI_eq, nI_add, nI_1, pk_mul, xK_ap, xO_ap, xF_ap, xA_ap, xG_ap, xB_ap, forall_eq, true_and, and_true, false_imp_iff, true_imp_iff, not_false_eq_true, not_true_eq_false, eq_self, Nat.reduceLT, Nat.reduceLeDiff, Nat.reduceEqDiff, gw_10, gw_01, wX_sourceOf_2, h1]
      exact h
    | succ d ih =>
      intro j n hj hn
      obtain ⟨m, rfl⟩ : ∃ m, n = m + 1 := ⟨n - 1, by omega⟩
      have h1 : ¬ cS c ≤ j := by omega
      have h3 := hp j (by omega)
      simp (disch := omega) only [gw_in, gw_cl, gw_Lle, gw_leL, gw_Llt, gw_ltL, gw_eqL, gw_Leq, gw_Lmul, gw_Ladd, gw_addL, nI_leI, nI_ltI, nI_eq, nI_add, nI_1, pk_mul, xK_ap, xO_ap, xF_ap, xA_ap, xG_ap, xB_ap, forall_eq, true_and, and_true, false_imp_iff, true_imp_iff, not_false_eq_true, not_true_eq_false, eq_self, Nat.reduceLT, Nat.reduceLeDiff, Nat.reduceEqDiff, gw_10, gw_01, wX_sourceOf_2, h1, h3]
      exact ih (j + 1) m (by omega) (by omega)
  exact ⟨cS c + 1, L (cS c) 0 (cS c + 1) (by omega) (by omega)⟩
theorem xw_gate (w : WF c) {f : Nat} {o : Bool} {n v : Nat} (hn : n < cN c) (hk : 2 ≤ cK c n) (hv : v < cL c) (ht : TBL c f o a_table n) {post : Int64 → Prop}
    (h : ∀ z, (∀ b, b < 64 → 64 * v + b < 2 ^ cS c → lb z b = gv0 c (sa c (64 * v + b)) (EVF c f o (64 * v + b)) n) → post z) : wpX_gate post (nI (cN c), nI (cS c), nI (cR c), f_now, f_right, f_levelsKnown, f_head, f_tail, f_met, f_comesKnown, f_entry, f_round, xK c, xO c, xF c, xA c, xG c, xB c, a_table, a_saved, a_matters, a_cubes, a_levels, a_edgeFlow, a_netFlow, a_queue, a_before, a_edge, a_leads, a_comes, a_group, a_later, a_goes, a_shows) (nI n) (nI v) := by
  have hN := wf_N w
  have hL := cL_le w
  have k7 := wf_K w n
  have o1 := wf_O w (3 * n)
  have o2 := wf_O w (3 * n + 1)
  have o3 := wf_O w (3 * n + 2)
  have g : ∀ m, m < n → ∀ b, b < 64 → 64 * v + b < 2 ^ cS c → lb (a_table (16 * m + v)) b = EVF c f o (64 * v + b) m := fun m hm b hb hlt => by
    rw [ht m hm v hv b hb, decide_eq_true hlt, Bool.true_and]
  have h8 : cK c n = 2 ∨ cK c n = 3 ∨ cK c n = 4 ∨ cK c n = 5 ∨ cK c n = 6 ∨ cK c n = 7 := by omega
  rcases h8 with e | e | e | e | e | e
  · have e0 : (cO c (3 * n) = 1 → post (-1)) ∧ (¬ cO c (3 * n) = 1 → post 0) := by
      constructor
      · intro e1
        refine h _ (fun b hb hlt => ?_)
        rw [lb_m1 hb]
        simp [gv0, e, e1]
      · intro e1
        refine h _ (fun b hb hlt => ?_)
        rw [lb_0]
        simp [gv0, e, e1]
    simp (disch := omega) only [gw_in, gw_cl, gw_Lle, gw_leL, gw_Llt, gw_ltL, gw_eqL, gw_Leq, gw_Lmul, gw_Ladd, gw_addL, nI_leI, nI_ltI, nI_eq, nI_add, nI_1, pk_mul, xK_ap, xO_ap, xF_ap, xA_ap, xG_ap, xB_ap, forall_eq, true_and, and_true, false_imp_iff, true_imp_iff, not_false_eq_true, not_true_eq_false, eq_self, Nat.reduceLT, Nat.reduceLeDiff, Nat.reduceEqDiff, gw_10, gw_01, wpX_gate, e]
    exact e0
  · simp (disch := omega) only [gw_in, gw_cl, gw_Lle, gw_leL, gw_Llt, gw_ltL, gw_eqL, gw_Leq, gw_Lmul, gw_Ladd, gw_addL, nI_leI, nI_ltI, nI_eq, nI_add, nI_1, pk_mul, xK_ap, xO_ap, xF_ap, xA_ap, xG_ap, xB_ap, forall_eq, true_and, and_true, false_imp_iff, true_imp_iff, not_false_eq_true, not_true_eq_false, eq_self, Nat.reduceLT, Nat.reduceLeDiff, Nat.reduceEqDiff, gw_10, gw_01, wpX_gate, e]
    refine h _ (fun b hb hlt => ?_)
    have a1 := g _ (wf_o1 w hn (by omega)) b hb hlt
    rw [lb_not _ hb, a1]
    simp [gv0, e]
  · simp (disch := omega) only [gw_in, gw_cl, gw_Lle, gw_leL, gw_Llt, gw_ltL, gw_eqL, gw_Leq, gw_Lmul, gw_Ladd, gw_addL, nI_leI, nI_ltI, nI_eq, nI_add, nI_1, pk_mul, xK_ap, xO_ap, xF_ap, xA_ap, xG_ap, xB_ap, forall_eq, true_and, and_true, false_imp_iff, true_imp_iff, not_false_eq_true, not_true_eq_false, eq_self, Nat.reduceLT, Nat.reduceLeDiff, Nat.reduceEqDiff, gw_10, gw_01, wpX_gate, e]
    refine h _ (fun b hb hlt => ?_)
    have a1 := g _ (wf_o1 w hn (by omega)) b hb hlt
    have a2 := g _ (wf_o2 w hn (by omega)) b hb hlt
    simp [gv0, e, lb_and, a1, a2]
  · simp (disch := omega) only [gw_in, gw_cl, gw_Lle, gw_leL, gw_Llt, gw_ltL, gw_eqL, gw_Leq, gw_Lmul, gw_Ladd, gw_addL, nI_leI, nI_ltI, nI_eq, nI_add, nI_1, pk_mul, xK_ap, xO_ap, xF_ap, xA_ap, xG_ap, xB_ap, forall_eq, true_and, and_true, false_imp_iff, true_imp_iff, not_false_eq_true, not_true_eq_false, eq_self, Nat.reduceLT, Nat.reduceLeDiff, Nat.reduceEqDiff, gw_10, gw_01, wpX_gate, e]
    refine h _ (fun b hb hlt => ?_)
    have a1 := g _ (wf_o1 w hn (by omega)) b hb hlt
    have a2 := g _ (wf_o2 w hn (by omega)) b hb hlt
    simp [gv0, e, lb_or, a1, a2]
  · simp (disch := omega) only [gw_in, gw_cl, gw_Lle, gw_leL, gw_Llt, gw_ltL, gw_eqL, gw_Leq, gw_Lmul, gw_Ladd, gw_addL, nI_leI, nI_ltI, nI_eq, nI_add, nI_1, pk_mul, xK_ap, xO_ap, xF_ap, xA_ap, xG_ap, xB_ap, forall_eq, true_and, and_true, false_imp_iff, true_imp_iff, not_false_eq_true, not_true_eq_false, eq_self, Nat.reduceLT, Nat.reduceLeDiff, Nat.reduceEqDiff, gw_10, gw_01, wpX_gate, e]
    refine h _ (fun b hb hlt => ?_)
    have a1 := g _ (wf_o1 w hn (by omega)) b hb hlt
    have a2 := g _ (wf_o2 w hn (by omega)) b hb hlt
    simp [gv0, e, lb_xor, a1, a2]
  · simp (disch := omega) only [gw_in, gw_cl, gw_Lle, gw_leL, gw_Llt, gw_ltL, gw_eqL, gw_Leq, gw_Lmul, gw_Ladd, gw_addL, nI_leI, nI_ltI, nI_eq, nI_add, nI_1, pk_mul, xK_ap, xO_ap, xF_ap, xA_ap, xG_ap, xB_ap, forall_eq, true_and, and_true, false_imp_iff, true_imp_iff, not_false_eq_true, not_true_eq_false, eq_self, Nat.reduceLT, Nat.reduceLeDiff, Nat.reduceEqDiff, gw_10, gw_01, wpX_gate, e]
    refine h _ (fun b hb hlt => ?_)
    have a1 := g _ (wf_o1 w hn (by omega)) b hb hlt
    have a2 := g _ (wf_o2 w hn (by omega)) b hb hlt
    have a3 := g _ (wf_o3 w hn (by omega)) b hb hlt
    rw [lb_or, lb_and, lb_and, lb_not _ hb, a1, a2, a3]
    simp [gv0, e]
theorem xw_bit (w : WF c) {f : Nat} {o : Bool} {n a k : Nat} (hn : n < k) (hk : n < 32) (ha : a < 2 ^ cS c) (ht : TBL c f o a_table k) {post : Int32 → Prop}
    (h : post (nI (EVF c f o a n).toNat)) : wpX_bit post (nI (cN c), nI (cS c), nI (cR c), f_now, f_right, f_levelsKnown, f_head, f_tail, f_met, f_comesKnown, f_entry, f_round, xK c, xO c, xF c, xA c, xG c, xB c, a_table, a_saved, a_matters, a_cubes, a_levels, a_edgeFlow, a_netFlow, a_queue, a_before, a_edge, a_leads, a_comes, a_group, a_later, a_goes, a_shows) (nI n) (nI a) := by
  have hL := cL_le w
  have h1 := cL_in ha
  have hS := gw_p2 (wf_S w)
  have e := ht n hn (a / 64) h1 (a % 64) (by omega)
  rw [show 64 * (a / 64) + a % 64 = a by omega, decide_eq_true ha, Bool.true_and] at e
  dsimp only [wpX_bit]
  rw [gw_shr6 (by omega), gw_and63 _ (by omega), gw_Lmul, nI_add, gw_cl (by omega), lb_int, lb_ushr (by omega), Nat.add_zero, e]
  exact ⟨vp_in_nI (by omega) (by omega), h⟩
theorem row_upd {f : Nat} {o : Bool} {t : Nat → Int64} {r v : Nat} {z : Int64} (hv : v < 16) {n k : Nat} (hk : k ≤ 16) (hr : ROW c f o t n k) (h : n ≠ r ∨ k ≤ v) : ROW c f o (vp_updL t (16 * r + v) z) n k := by
  intro v' hv' b hb
  rw [gw_uL, if_neg (by omega)]
  exact hr v' hv' b hb
theorem row_step {f : Nat} {o : Bool} {t : Nat → Int64} {r v : Nat} {z : Int64} (hv : v < 16) (hr : ROW c f o t r v) (h : ∀ b, b < 64 → lb z b = (decide (64 * v + b < 2 ^ cS c) && EVF c f o (64 * v + b) r)) : ROW c f o (vp_updL t (16 * r + v) z) r (v + 1) := by
  intro v' hv' b hb
  by_cases e : v' = v
  · subst e
    rw [gw_uL, if_pos rfl]
    exact h b hb
  · rw [gw_uL, if_neg (by omega)]
    exact hr v' (by omega) b hb
theorem tbl_upd (w : WF c) {f : Nat} {o : Bool} {t : Nat → Int64} {r v k : Nat} {z : Int64} (hv : v < 16) (ht : TBL c f o t k) (h : k ≤ r) : TBL c f o (vp_updL t (16 * r + v) z) k :=
  fun n hn => row_upd hv (cL_le w) (ht n hn) (Or.inl (by omega))
theorem tbl_s {f : Nat} {o : Bool} {t : Nat → Int64} {r : Nat} (ht : TBL c f o t r) (hr : ROW c f o t r (cL c)) : TBL c f o t (r + 1) := by
  intro n hn
  by_cases e : n = r
  · subst e; exact hr
  · exact ht n (by omega)
end
end
section
/-! ===== X: learn ===== -/
section
variable {c : CK} {f_now : Int32} {f_right : Int32} {f_levelsKnown : Int32} {f_head : Int32} {f_tail : Int32} {f_met : Int64} {f_comesKnown : Int32} {f_entry : Int32} {f_round : Int32} {a_table : Nat → Int64} {a_saved : Nat → Int64} {a_matters : Nat → Int32} {a_cubes : Nat → Int64} {a_levels : Nat → Int32} {a_edgeFlow : Nat → Int32} {a_netFlow : Nat → Int32} {a_queue : Nat → Int32} {a_before : Nat → Int32} {a_edge : Nat → Int32} {a_leads : Nat → Int64} {a_comes : Nat → Int32} {a_group : Nat → Int32} {a_later : Nat → Int32} {a_goes : Nat → Int32} {a_shows : Nat → Int32}
theorem xw_learn44 (w : WF c) {r : Nat} (hr : r < cN c) {post : SX → Prop} {J5 : Int32 → (Nat → Int32) → (Nat → Int32) → (Nat → Int32) → (Nat → Int32) → (Nat → Int32) → (Nat → Int32) → (Nat → Int64) → (Nat → Int64) → (Nat → Int32) → (Nat → Int64) → (Nat → Int32) → (Nat → Int32) → (Nat → Int32) → (Nat → Int32) → (Nat → Int32) → (Nat → Int32) → (Nat → Int64) → (Nat → Int32) → (Nat → Int32) → (Nat → Int32) → (Nat → Int32) → (Nat → Int32) → Prop}
    {x2 : Int32} (hx : (2 ≤ cK c r ∧ x2 = -1) ∨ (∃ s, s < cS c ∧ cA c s = r ∧ x2 = nI s))
    (hJ : ∀ t, TBL c 99 false t (r + 1) → J5 (nI (r + 1)) (xK c) (xO c) (xF c) (xA c) (xG c) (xB c) t a_saved a_matters a_cubes a_levels a_edgeFlow a_netFlow a_queue a_before a_edge a_leads a_comes a_group a_later a_goes a_shows) :
    ∀ d v t n, v + d = cL c → d < n → TBL c 99 false t r → ROW c 99 false t r v → wX_learn_44 post J5 (nI (cL c)) x2 (nI (cN c)) (nI (cS c)) (nI (cR c)) f_now (nI r) f_levelsKnown f_head f_tail f_met f_comesKnown f_entry f_round n (nI v) (xK c) (xO c) (xF c) (xA c) (xG c) (xB c) t a_saved a_matters a_cubes a_levels a_edgeFlow a_netFlow a_queue a_before a_edge a_leads a_comes a_group a_later a_goes a_shows := by
  have hN := wf_N w
  have hL := cL_le w
  have hS := wf_S w
  intro d
  induction d with
  | zero =>
    intro v t n hv hn ht hrow
    obtain ⟨m, rfl⟩ : ∃ m, n = m + 1 := ⟨n - 1, by omega⟩
    have h1 : cL c ≤ v := by omega
    have h2 : v = cL c := by omega
    simp (disch := omega) only [gw_in, gw_cl, gw_Lle, gw_leL, gw_Llt, gw_ltL, gw_eqL, gw_Leq, gw_Lmul, gw_Ladd, gw_addL, nI_leI, nI_ltI, nI_eq, nI_add, nI_1, pk_mul, xK_ap, xO_ap, xF_ap, xA_ap, xG_ap, xB_ap, forall_eq, true_and, and_true, false_imp_iff, true_imp_iff, not_false_eq_true, not_true_eq_false, eq_self, Nat.reduceLT, Nat.reduceLeDiff, Nat.reduceEqDiff, gw_10, gw_01, wX_learn_44, h1]
    subst h2
    exact hJ t (tbl_s ht hrow)
  | succ d ih =>
    intro v t n hv hn ht hrow
    obtain ⟨m, rfl⟩ : ∃ m, n = m + 1 := ⟨n - 1, by omega⟩
    have h1 : ¬ cL c ≤ v := by omega
    rcases hx with ⟨hk, rfl⟩ | ⟨s, hs, rfl, rfl⟩
    · have h2 := gw_m1le
      simp (disch := omega) only [gw_in, gw_cl, gw_Lle, gw_leL, gw_Llt, gw_ltL, gw_eqL, gw_Leq, gw_Lmul, gw_Ladd, gw_addL, nI_leI, nI_ltI, nI_eq, nI_add, nI_1, pk_mul, xK_ap, xO_ap, xF_ap, xA_ap, xG_ap, xB_ap, forall_eq, true_and, and_true, false_imp_iff, true_imp_iff, not_false_eq_true, not_true_eq_false, eq_self, Nat.reduceLT, Nat.reduceLeDiff, Nat.reduceEqDiff, gw_10, gw_01, wX_learn_44, h1, h2]
      refine xw_gate w hr hk (by omega) ht (fun z hz => ?_)
      simp (disch := omega) only [gw_in, gw_cl, gw_Lle, gw_leL, gw_Llt, gw_ltL, gw_eqL, gw_Leq, gw_Lmul, gw_Ladd, gw_addL, nI_leI, nI_ltI, nI_eq, nI_add, nI_1, pk_mul, xK_ap, xO_ap, xF_ap, xA_ap, xG_ap, xB_ap, forall_eq, true_and, and_true, false_imp_iff, true_imp_iff, not_false_eq_true, not_true_eq_false, eq_self, Nat.reduceLT, Nat.reduceLeDiff, Nat.reduceEqDiff, gw_10, gw_01, wX_learn_70]
      refine xw_valid w (fun y hy => ?_)
      refine ih (v + 1) _ m (by omega) (by omega) (tbl_upd w (by omega) ht (Nat.le_refl _)) (row_step (by omega) hrow (fun b hb => ?_))
      rw [lb_and, hy b hb, cL_dec (c := c) (v := v) (by omega) hb]
      by_cases hlt : 64 * v + b < 2 ^ cS c
      · rw [hz b hb hlt]
        unfold EVF
        rw [ev_eq w hr]
        unfold gv
        rw [if_neg (by omega), Bool.and_comm]
      · rw [decide_eq_false hlt, Bool.and_false, Bool.false_and]
    · have h2 : 0 ≤ s := by omega
      simp (disch := omega) only [gw_in, gw_cl, gw_Lle, gw_leL, gw_Llt, gw_ltL, gw_eqL, gw_Leq, gw_Lmul, gw_Ladd, gw_addL, nI_leI, nI_ltI, nI_eq, nI_add, nI_1, pk_mul, xK_ap, xO_ap, xF_ap, xA_ap, xG_ap, xB_ap, forall_eq, true_and, and_true, false_imp_iff, true_imp_iff, not_false_eq_true, not_true_eq_false, eq_self, Nat.reduceLT, Nat.reduceLeDiff, Nat.reduceEqDiff, gw_10, gw_01, wX_learn_44, h1, h2]
      refine xw_pattern (by omega) (by omega) (fun z hz => ?_)
      simp (disch := omega) only [gw_in, gw_cl, gw_Lle, gw_leL, gw_Llt, gw_ltL, gw_eqL, gw_Leq, gw_Lmul, gw_Ladd, gw_addL, nI_leI, nI_ltI, nI_eq, nI_add, nI_1, pk_mul, xK_ap, xO_ap, xF_ap, xA_ap, xG_ap, xB_ap, forall_eq, true_and, and_true, false_imp_iff, true_imp_iff, not_false_eq_true, not_true_eq_false, eq_self, Nat.reduceLT, Nat.reduceLeDiff, Nat.reduceEqDiff, gw_10, gw_01, wX_learn_70]
      refine xw_valid w (fun y hy => ?_)
      refine ih (v + 1) _ m (by omega) (by omega) (tbl_upd w (by omega) ht (Nat.le_refl _)) (row_step (by omega) hrow (fun b hb => ?_))
      rw [lb_and, hy b hb, cL_dec (c := c) (v := v) (by omega) hb, hz b hb, Bool.and_comm]
      have := EV_src w (a := 64 * v + b) hs
      unfold EV at this
      unfold EVF
      rw [this]
theorem xw_learn5 (w : WF c) {post : SX → Prop} (h : ∀ t, TBL c 99 false t (cN c) → post (nI (cN c), nI (cS c), nI (cR c), f_now, nI (cN c), f_levelsKnown, f_head, f_tail, f_met, f_comesKnown, f_entry, f_round, xK c, xO c, xF c, xA c, xG c, xB c, t, a_saved, a_matters, a_cubes, a_levels, a_edgeFlow, a_netFlow, a_queue, a_before, a_edge, a_leads, a_comes, a_group, a_later, a_goes, a_shows)) :
    ∀ d r t n, r + d = cN c → d < n → TBL c 99 false t r → wX_learn_5 post (nI (cL c)) (nI (cN c)) (nI (cS c)) (nI (cR c)) f_now f_levelsKnown f_head f_tail f_met f_comesKnown f_entry f_round n (nI r) (xK c) (xO c) (xF c) (xA c) (xG c) (xB c) t a_saved a_matters a_cubes a_levels a_edgeFlow a_netFlow a_queue a_before a_edge a_leads a_comes a_group a_later a_goes a_shows := by
  have hN := wf_N w
  intro d
  induction d with
  | zero =>
    intro r t n hr hn ht
    obtain ⟨m, rfl⟩ : ∃ m, n = m + 1 := ⟨n - 1, by omega⟩
    have h1 : cN c ≤ r := by omega
    have h2 : r = cN c := by omega
    simp (disch := omega) only [gw_in, gw_cl, gw_Lle, gw_leL, gw_Llt, gw_ltL, gw_eqL, gw_Leq, gw_Lmul, gw_Ladd, gw_addL, nI_leI, nI_ltI, nI_eq, nI_add, nI_1, pk_mul, xK_ap, xO_ap, xF_ap, xA_ap, xG_ap, xB_ap, forall_eq, true_and, and_true, false_imp_iff, true_imp_iff, not_false_eq_true, not_true_eq_false, eq_self, Nat.reduceLT, Nat.reduceLeDiff, Nat.reduceEqDiff, gw_10, gw_01, wX_learn_5, h1]
    subst h2
    exact h t ht
  | succ d ih =>
    intro r t n hr hn ht
    obtain ⟨m, rfl⟩ : ∃ m, n = m + 1 := ⟨n - 1, by omega⟩
    have h1 : ¬ cN c ≤ r := by omega
    have k7 := wf_K w r
    have hJ : ∀ t', TBL c 99 false t' (r + 1) → wX_learn_5 post (nI (cL c)) (nI (cN c)) (nI (cS c)) (nI (cR c)) f_now f_levelsKnown f_head f_tail f_met f_comesKnown f_entry f_round m (nI (r + 1)) (xK c) (xO c) (xF c) (xA c) (xG c) (xB c) t' a_saved a_matters a_cubes a_levels a_edgeFlow a_netFlow a_queue a_before a_edge a_leads a_comes a_group a_later a_goes a_shows := fun t' ht' => ih (r + 1) t' m (by omega) (by omega) ht'
    have r0 : ROW c 99 false t r 0 := fun v hv => absurd hv (Nat.not_lt_zero _)
    by_cases hk : 2 ≤ cK c r
    · simp (disch := omega) only [gw_in, gw_cl, gw_Lle, gw_leL, gw_Llt, gw_ltL, gw_eqL, gw_Leq, gw_Lmul, gw_Ladd, gw_addL, nI_leI, nI_ltI, nI_eq, nI_add, nI_1, pk_mul, xK_ap, xO_ap, xF_ap, xA_ap, xG_ap, xB_ap, forall_eq, true_and, and_true, false_imp_iff, true_imp_iff, not_false_eq_true, not_true_eq_false, eq_self, Nat.reduceLT, Nat.reduceLeDiff, Nat.reduceEqDiff, gw_10, gw_01, wX_learn_5, h1, hk]
      exact ⟨cL c + 1, xw_learn44 w (by omega) (Or.inl ⟨hk, rfl⟩) hJ (cL c) 0 t (cL c + 1) (by omega) (by omega) ht r0⟩
    · obtain ⟨s, hs, e⟩ := wf_Ax w (show r < cN c by omega) (by omega)
      simp (disch := omega) only [gw_in, gw_cl, gw_Lle, gw_leL, gw_Llt, gw_ltL, gw_eqL, gw_Leq, gw_Lmul, gw_Ladd, gw_addL, nI_leI, nI_ltI, nI_eq, nI_add, nI_1, pk_mul, xK_ap, xO_ap, xF_ap, xA_ap, xG_ap, xB_ap, forall_eq, true_and, and_true, false_imp_iff, true_imp_iff, not_false_eq_true, not_true_eq_false, eq_self, Nat.reduceLT, Nat.reduceLeDiff, Nat.reduceEqDiff, gw_10, gw_01, wX_learn_5, h1, hk]
      subst e
      refine xw_sourceOf w hs ?_
      exact ⟨cL c + 1, xw_learn44 w (by omega) (Or.inr ⟨s, hs, rfl, rfl⟩) hJ (cL c) 0 t (cL c + 1) (by omega) (by omega) ht r0⟩
theorem xw_learn (w : WF c) {r : Nat} (hr : r ≤ cN c) (ht : TBL c 99 false a_table r) {post : SX → Prop} (h : ∀ t, TBL c 99 false t (cN c) → post (nI (cN c), nI (cS c), nI (cR c), f_now, nI (cN c), f_levelsKnown, f_head, f_tail, f_met, f_comesKnown, f_entry, f_round, xK c, xO c, xF c, xA c, xG c, xB c, t, a_saved, a_matters, a_cubes, a_levels, a_edgeFlow, a_netFlow, a_queue, a_before, a_edge, a_leads, a_comes, a_group, a_later, a_goes, a_shows)) : wpX_learn post (nI (cN c), nI (cS c), nI (cR c), f_now, nI r, f_levelsKnown, f_head, f_tail, f_met, f_comesKnown, f_entry, f_round, xK c, xO c, xF c, xA c, xG c, xB c, a_table, a_saved, a_matters, a_cubes, a_levels, a_edgeFlow, a_netFlow, a_queue, a_before, a_edge, a_leads, a_comes, a_group, a_later, a_goes, a_shows) := by
  dsimp only [wpX_learn]
  refine xw_length w ?_
  exact ⟨cN c - r + 1, xw_learn5 w h (cN c - r) r a_table _ (by omega) (by omega) ht⟩
end
end
section
/-! ===== Y: working out ===== -/
def YS (c : CK) (a_first a_second a_third a_source a_register : Nat → Int32) : Prop :=
  (∀ n, n < cN c → 2 ≤ cK c n → a_first n = nI (cO c (3 * n))) ∧ (∀ n, n < cN c → 4 ≤ cK c n → a_second n = nI (cO c (3 * n + 1))) ∧ (∀ n, n < cN c → 7 ≤ cK c n → a_third n = nI (cO c (3 * n + 2)))
  ∧ (∀ i, i < cS c → a_source i = nI (cA c i)) ∧ (∀ i, i < cR c → a_register i = nI (cG c i))
def YN (c : CK) (now : Nat) (a_now : Nat → Int32) : Prop := ∀ i, i < cS c → a_now (cA c i) = nI (now.testBit i).toNat
section
variable {c : CK} {a_first : Nat → Int32} {a_second : Nat → Int32} {a_third : Nat → Int32} {a_now : Nat → Int32} {a_at : Nat → Int32} {a_other : Nat → Int32} {a_source : Nat → Int32} {a_register : Nat → Int32} {a_level : Nat → Int32} {a_soon : Nat → Int32} {a_depend : Nat → Int32} {a_table : Nat → Int32} {a_marked : Nat → Int32} {a_after : Nat → Int32} {a_shows : Nat → Int32} {a_apart : Nat → Int32}
theorem yw_isNet_t (w : WF c) {j : Nat} (hj : j < cN c) {post : Int32 → Prop} (h : post 1) : wpY_isNet post (nI (cN c), nI (cS c), nI (cR c), xK c, a_first, a_second, a_third, xF c, a_now, a_at, a_other, a_source, a_register, a_level, a_soon, a_depend, a_table, a_marked, a_after, a_shows, a_apart) (nI j) := by
  have := wf_N w
  dsimp only [wpY_isNet, wpY_in]
  have e : nI (cN c) - 1 = nI (cN c - 1) := gw_subL 1 (cN c) (show 1 ≤ cN c by omega)
  rw [e]
  exact br_f (nI_pos (by omega)) (br_f (nI_nlt (by omega) (by omega)) ⟨narrow_b1, h⟩)
theorem yw_isNet_f (w : WF c) {p : Int32} (hp : p < 0 ∨ nI (cN c) ≤ p) {post : Int32 → Prop} (h : post 0) : wpY_isNet post (nI (cN c), nI (cS c), nI (cR c), xK c, a_first, a_second, a_third, xF c, a_now, a_at, a_other, a_source, a_register, a_level, a_soon, a_depend, a_table, a_marked, a_after, a_shows, a_apart) p := by
  have := wf_N w
  dsimp only [wpY_isNet, wpY_in]
  refine br_c (fun _ => ⟨narrow_b0, h⟩) (fun h0 => br_t ?_ ⟨narrow_b0, h⟩)
  rcases hp with hp | hp
  · exact absurd hp h0
  · obtain ⟨j, hj, rfl⟩ := nI_of h0
    rw [nI_leI (by omega) hj] at hp
    rw [Int32.lt_iff_toInt_lt, nI_toInt hj]
    by_cases e : cN c = 0
    · rw [e]
      have : (nI 0 - 1).toInt = -1 := by decide
      omega
    · have e1 : nI (cN c) - 1 = nI (cN c - 1) := pk_sub (show 1 ≤ cN c by omega)
      rw [e1, nI_toInt (by omega)]
      omega
section
variable {post : SY → Prop} {J2 : Int32 → (Nat → Int32) → (Nat → Int32) → (Nat → Int32) → (Nat → Int32) → (Nat → Int32) → (Nat → Int32) → (Nat → Int32) → (Nat → Int32) → (Nat → Int32) → (Nat → Int32) → (Nat → Int32) → (Nat → Int32) → (Nat → Int32) → (Nat → Int32) → (Nat → Int32) → (Nat → Int32) → (Nat → Int32) → (Nat → Int32) → Prop}
variable {f : Nat} {o : Bool} {x1 : Int32} {sv g : Nat → Bool} {n : Nat} {t : Nat → Int32}
theorem yw_wo262 (w : WF c) (hf : ∀ n, n < cN c → (nI n = x1 ↔ n = f)) (hn : n < cN c) (he : t n = nI (gv0 c sv g n).toNat)
    (hJ : ∀ t', t' n = nI (gv c f o sv g n).toNat → (∀ m, m ≠ n → t' m = t m) → J2 (nI (n + 1)) (xK c) a_first a_second a_third (xF c) a_now t' a_other a_source a_register a_level a_soon a_depend a_table a_marked a_after a_shows a_apart) :
    wY_workOut_262 post J2 x1 (nI o.toNat) (nI n) (nI (cN c)) (nI (cS c)) (nI (cR c)) (xK c) a_first a_second a_third (xF c) a_now t a_other a_source a_register a_level a_soon a_depend a_table a_marked a_after a_shows a_apart := by
  have hN := wf_N w
  unfold wY_workOut_262
  refine br_c (fun h => ?_) (fun h => ?_)
  · refine ⟨vp_in_nI (by omega) (by omega), nm_e (nm_r (nI_1 n) ?_)⟩
    rw [gw_cl (by omega), gw_bool]
    have := (hf n hn).mp h
    refine hJ _ ?_ (fun m hm => pk_un hm)
    rw [pk_us]
    unfold gv
    rw [if_pos this]
  · refine nm_r (nI_1 n) (hJ _ ?_ (fun m hm => rfl))
    have : ¬ n = f := fun z => h ((hf n hn).mpr z)
    unfold gv
    rw [if_neg this]
    exact he
theorem yw_wo70 (w : WF c) (hY : YS c a_first a_second a_third a_source a_register) (hf : ∀ n, n < cN c → (nI n = x1 ↔ n = f)) (hn : n < cN c) {x4 z0 : Int32}
    (hx : 3 ≤ cK c n → x4 = nI (g (cO c (3 * n))).toNat) (hy : 4 ≤ cK c n → z0 = nI (g (cO c (3 * n + 1))).toNat) (h3 : 7 ≤ cK c n → t (cO c (3 * n + 2)) = nI (g (cO c (3 * n + 2))).toNat) (hs : cK c n < 2 → t n = nI (sv n).toNat)
    (hJ : ∀ t', t' n = nI (gv c f o sv g n).toNat → (∀ m, m ≠ n → t' m = t m) → J2 (nI (n + 1)) (xK c) a_first a_second a_third (xF c) a_now t' a_other a_source a_register a_level a_soon a_depend a_table a_marked a_after a_shows a_apart) :
    wY_workOut_70 post J2 x1 (nI o.toNat) (nI n) x4 z0 (nI (cN c)) (nI (cS c)) (nI (cR c)) (xK c) a_first a_second a_third (xF c) a_now t a_other a_source a_register a_level a_soon a_depend a_table a_marked a_after a_shows a_apart := by
  have hN := wf_N w
  have k7 := wf_K w n
  have q : ∀ b : Bool, gv0 c sv g n = b → wY_workOut_262 post J2 x1 (nI o.toNat) (nI n) (nI (cN c)) (nI (cS c)) (nI (cR c)) (xK c) a_first a_second a_third (xF c) a_now (upd t n (nI b.toNat)) a_other a_source a_register a_level a_soon a_depend a_table a_marked a_after a_shows a_apart := fun b hb => by
    refine yw_wo262 w hf hn (by rw [pk_us, hb]) (fun t' h1 h2 => hJ t' h1 (fun m hm => ?_))
    rw [h2 m hm, pk_un hm]
  have q0 := q false
  have q1 := q true
  have z0' : nI false.toNat = 0 := rfl
  have z1' : nI true.toNat = 1 := rfl
  rw [z0'] at q0
  rw [z1'] at q1
  have h8 : cK c n < 2 ∨ cK c n = 2 ∨ cK c n = 3 ∨ cK c n = 4 ∨ cK c n = 5 ∨ cK c n = 6 ∨ cK c n = 7 := by omega
  rcases h8 with e | e | e | e | e | e | e
  · have e2 : cK c n = 0 ∨ cK c n = 1 := by omega
    have r : wY_workOut_262 post J2 x1 (nI o.toNat) (nI n) (nI (cN c)) (nI (cS c)) (nI (cR c)) (xK c) a_first a_second a_third (xF c) a_now t a_other a_source a_register a_level a_soon a_depend a_table a_marked a_after a_shows a_apart := yw_wo262 w hf hn (by rw [hs e]; unfold gv0; rw [if_pos e]) hJ
    rcases e2 with e2 | e2
    · simp (disch := omega) only [gw_in, gw_cl, gw_Lle, gw_leL, gw_Llt, gw_ltL, gw_eqL, gw_Leq, gw_Lmul, gw_Ladd, gw_addL, nI_leI, nI_ltI, nI_eq, nI_add, nI_1, pk_mul, xK_ap, xO_ap, xF_ap, xA_ap, xG_ap, xB_ap, forall_eq, true_and, and_true, false_imp_iff, true_imp_iff, not_false_eq_true, not_true_eq_false, eq_self, Nat.reduceLT, Nat.reduceLeDiff, Nat.reduceEqDiff, gw_10, gw_01, wY_workOut_70, wY_workOut_120, e2, Nat.not_lt_zero]
      exact r
    · simp (disch := omega) only [gw_in, gw_cl, gw_Lle, gw_leL, gw_Llt, gw_ltL, gw_eqL, gw_Leq, gw_Lmul, gw_Ladd, gw_addL, nI_leI, nI_ltI, nI_eq, nI_add, nI_1, pk_mul, xK_ap, xO_ap, xF_ap, xA_ap, xG_ap, xB_ap, forall_eq, true_and, and_true, false_imp_iff, true_imp_iff, not_false_eq_true, not_true_eq_false, eq_self, Nat.reduceLT, Nat.reduceLeDiff, Nat.reduceEqDiff, gw_10, gw_01, wY_workOut_70, wY_workOut_120, e2, Nat.not_lt_zero]
      exact r
  · have a1 := hY.1 n hn (by omega)
    have o1 := wf_O w (3 * n)
    by_cases e1 : cO c (3 * n) = 1
    · simp (disch := omega) only [gw_in, gw_cl, gw_Lle, gw_leL, gw_Llt, gw_ltL, gw_eqL, gw_Leq, gw_Lmul, gw_Ladd, gw_addL, nI_leI, nI_ltI, nI_eq, nI_add, nI_1, pk_mul, xK_ap, xO_ap, xF_ap, xA_ap, xG_ap, xB_ap, forall_eq, true_and, and_true, false_imp_iff, true_imp_iff, not_false_eq_true, not_true_eq_false, eq_self, Nat.reduceLT, Nat.reduceLeDiff, Nat.reduceEqDiff, gw_10, gw_01, wY_workOut_70, wY_workOut_143, e, a1, e1, Nat.not_lt_zero, gw_bool1]
      exact q1 (by simp [gv0, e, e1])
    · simp (disch := omega) only [gw_in, gw_cl, gw_Lle, gw_leL, gw_Llt, gw_ltL, gw_eqL, gw_Leq, gw_Lmul, gw_Ladd, gw_addL, nI_leI, nI_ltI, nI_eq, nI_add, nI_1, pk_mul, xK_ap, xO_ap, xF_ap, xA_ap, xG_ap, xB_ap, forall_eq, true_and, and_true, false_imp_iff, true_imp_iff, not_false_eq_true, not_true_eq_false, eq_self, Nat.reduceLT, Nat.reduceLeDiff, Nat.reduceEqDiff, gw_10, gw_01, wY_workOut_70, wY_workOut_143, e, a1, e1, Nat.not_lt_zero, gw_bool0]
      exact q0 (by simp [gv0, e, e1])
  · rw [hx (by omega)]
    cases b1 : g (cO c (3 * n))
    · simp (disch := omega) only [gw_in, gw_cl, gw_Lle, gw_leL, gw_Llt, gw_ltL, gw_eqL, gw_Leq, gw_Lmul, gw_Ladd, gw_addL, nI_leI, nI_ltI, nI_eq, nI_add, nI_1, pk_mul, xK_ap, xO_ap, xF_ap, xA_ap, xG_ap, xB_ap, forall_eq, true_and, and_true, false_imp_iff, true_imp_iff, not_false_eq_true, not_true_eq_false, eq_self, Nat.reduceLT, Nat.reduceLeDiff, Nat.reduceEqDiff, gw_10, gw_01, wY_workOut_70, wY_workOut_162, e, Nat.not_lt_zero, gw_bool1, z0']
      exact q1 (by simp [gv0, e, b1])
    · simp (disch := omega) only [gw_in, gw_cl, gw_Lle, gw_leL, gw_Llt, gw_ltL, gw_eqL, gw_Leq, gw_Lmul, gw_Ladd, gw_addL, nI_leI, nI_ltI, nI_eq, nI_add, nI_1, pk_mul, xK_ap, xO_ap, xF_ap, xA_ap, xG_ap, xB_ap, forall_eq, true_and, and_true, false_imp_iff, true_imp_iff, not_false_eq_true, not_true_eq_false, eq_self, Nat.reduceLT, Nat.reduceLeDiff, Nat.reduceEqDiff, gw_10, gw_01, wY_workOut_70, wY_workOut_162, e, Nat.not_lt_zero, gw_bool0, z1']
      exact q0 (by simp [gv0, e, b1])
  · rw [hx (by omega), hy (by omega)]
    cases b1 : g (cO c (3 * n)) <;> cases b2 : g (cO c (3 * n + 1))
    · simp (disch := omega) only [gw_in, gw_cl, gw_Lle, gw_leL, gw_Llt, gw_ltL, gw_eqL, gw_Leq, gw_Lmul, gw_Ladd, gw_addL, nI_leI, nI_ltI, nI_eq, nI_add, nI_1, pk_mul, xK_ap, xO_ap, xF_ap, xA_ap, xG_ap, xB_ap, forall_eq, true_and, and_true, false_imp_iff, true_imp_iff, not_false_eq_true, not_true_eq_false, eq_self, Nat.reduceLT, Nat.reduceLeDiff, Nat.reduceEqDiff, gw_10, gw_01, wY_workOut_70, wY_workOut_185, wY_workOut_186, e, Nat.not_lt_zero, gw_bool0, gw_bool1, z0', z1']
      exact q0 (by simp [gv0, e, b1, b2])
    · simp (disch := omega) only [gw_in, gw_cl, gw_Lle, gw_leL, gw_Llt, gw_ltL, gw_eqL, gw_Leq, gw_Lmul, gw_Ladd, gw_addL, nI_leI, nI_ltI, nI_eq, nI_add, nI_1, pk_mul, xK_ap, xO_ap, xF_ap, xA_ap, xG_ap, xB_ap, forall_eq, true_and, and_true, false_imp_iff, true_imp_iff, not_false_eq_true, not_true_eq_false, eq_self, Nat.reduceLT, Nat.reduceLeDiff, Nat.reduceEqDiff, gw_10, gw_01, wY_workOut_70, wY_workOut_185, wY_workOut_186, e, Nat.not_lt_zero, gw_bool0, gw_bool1, z0', z1']
      exact q0 (by simp [gv0, e, b1, b2])
    · simp (disch := omega) only [gw_in, gw_cl, gw_Lle, gw_leL, gw_Llt, gw_ltL, gw_eqL, gw_Leq, gw_Lmul, gw_Ladd, gw_addL, nI_leI, nI_ltI, nI_eq, nI_add, nI_1, pk_mul, xK_ap, xO_ap, xF_ap, xA_ap, xG_ap, xB_ap, forall_eq, true_and, and_true, false_imp_iff, true_imp_iff, not_false_eq_true, not_true_eq_false, eq_self, Nat.reduceLT, Nat.reduceLeDiff, Nat.reduceEqDiff, gw_10, gw_01, wY_workOut_70, wY_workOut_185, wY_workOut_186, e, Nat.not_lt_zero, gw_bool0, gw_bool1, z0', z1']
      exact q0 (by simp [gv0, e, b1, b2])
    · simp (disch := omega) only [gw_in, gw_cl, gw_Lle, gw_leL, gw_Llt, gw_ltL, gw_eqL, gw_Leq, gw_Lmul, gw_Ladd, gw_addL, nI_leI, nI_ltI, nI_eq, nI_add, nI_1, pk_mul, xK_ap, xO_ap, xF_ap, xA_ap, xG_ap, xB_ap, forall_eq, true_and, and_true, false_imp_iff, true_imp_iff, not_false_eq_true, not_true_eq_false, eq_self, Nat.reduceLT, Nat.reduceLeDiff, Nat.reduceEqDiff, gw_10, gw_01, wY_workOut_70, wY_workOut_185, wY_workOut_186, e, Nat.not_lt_zero, gw_bool0, gw_bool1, z0', z1']
      exact q1 (by simp [gv0, e, b1, b2])
  · rw [hx (by omega), hy (by omega)]
    cases b1 : g (cO c (3 * n)) <;> cases b2 : g (cO c (3 * n + 1))
    · simp (disch := omega) only [gw_in, gw_cl, gw_Lle, gw_leL, gw_Llt, gw_ltL, gw_eqL, gw_Leq, gw_Lmul, gw_Ladd, gw_addL, nI_leI, nI_ltI, nI_eq, nI_add, nI_1, pk_mul, xK_ap, xO_ap, xF_ap, xA_ap, xG_ap, xB_ap, forall_eq, true_and, and_true, false_imp_iff, true_imp_iff, not_false_eq_true, not_true_eq_false, eq_self, Nat.reduceLT, Nat.reduceLeDiff, Nat.reduceEqDiff, gw_10, gw_01, wY_workOut_70, wY_workOut_205, wY_workOut_210, e, Nat.not_lt_zero, gw_bool0, gw_bool1, z0', z1']
      exact q0 (by simp [gv0, e, b1, b2])
    · simp (disch := omega) only [gw_in, gw_cl, gw_Lle, gw_leL, gw_Llt, gw_ltL, gw_eqL, gw_Leq, gw_Lmul, gw_Ladd, gw_addL, nI_leI, nI_ltI, nI_eq, nI_add, nI_1, pk_mul, xK_ap, xO_ap, xF_ap, xA_ap, xG_ap, xB_ap, forall_eq, true_and, and_true, false_imp_iff, true_imp_iff, not_false_eq_true, not_true_eq_false, eq_self, Nat.reduceLT, Nat.reduceLeDiff, Nat.reduceEqDiff, gw_10, gw_01, wY_workOut_70, wY_workOut_205, wY_workOut_210, e, Nat.not_lt_zero, gw_bool0, gw_bool1, z0', z1']
      exact q1 (by simp [gv0, e, b1, b2])
    · simp (disch := omega) only [gw_in, gw_cl, gw_Lle, gw_leL, gw_Llt, gw_ltL, gw_eqL, gw_Leq, gw_Lmul, gw_Ladd, gw_addL, nI_leI, nI_ltI, nI_eq, nI_add, nI_1, pk_mul, xK_ap, xO_ap, xF_ap, xA_ap, xG_ap, xB_ap, forall_eq, true_and, and_true, false_imp_iff, true_imp_iff, not_false_eq_true, not_true_eq_false, eq_self, Nat.reduceLT, Nat.reduceLeDiff, Nat.reduceEqDiff, gw_10, gw_01, wY_workOut_70, wY_workOut_205, wY_workOut_210, e, Nat.not_lt_zero, gw_bool0, gw_bool1, z0', z1']
      exact q1 (by simp [gv0, e, b1, b2])
    · simp (disch := omega) only [gw_in, gw_cl, gw_Lle, gw_leL, gw_Llt, gw_ltL, gw_eqL, gw_Leq, gw_Lmul, gw_Ladd, gw_addL, nI_leI, nI_ltI, nI_eq, nI_add, nI_1, pk_mul, xK_ap, xO_ap, xF_ap, xA_ap, xG_ap, xB_ap, forall_eq, true_and, and_true, false_imp_iff, true_imp_iff, not_false_eq_true, not_true_eq_false, eq_self, Nat.reduceLT, Nat.reduceLeDiff, Nat.reduceEqDiff, gw_10, gw_01, wY_workOut_70, wY_workOut_205, wY_workOut_210, e, Nat.not_lt_zero, gw_bool0, gw_bool1, z0', z1']
      exact q1 (by simp [gv0, e, b1, b2])
  · rw [hx (by omega), hy (by omega)]
    cases b1 : g (cO c (3 * n)) <;> cases b2 : g (cO c (3 * n + 1))
    · simp (disch := omega) only [gw_in, gw_cl, gw_Lle, gw_leL, gw_Llt, gw_ltL, gw_eqL, gw_Leq, gw_Lmul, gw_Ladd, gw_addL, nI_leI, nI_ltI, nI_eq, nI_add, nI_1, pk_mul, xK_ap, xO_ap, xF_ap, xA_ap, xG_ap, xB_ap, forall_eq, true_and, and_true, false_imp_iff, true_imp_iff, not_false_eq_true, not_true_eq_false, eq_self, Nat.reduceLT, Nat.reduceLeDiff, Nat.reduceEqDiff, gw_10, gw_01, wY_workOut_70, wY_workOut_231, e, Nat.not_lt_zero, gw_bool0, gw_bool1, z0', z1']
      exact q0 (by simp [gv0, e, b1, b2])
    · simp (disch := omega) only [gw_in, gw_cl, gw_Lle, gw_leL, gw_Llt, gw_ltL, gw_eqL, gw_Leq, gw_Lmul, gw_Ladd, gw_addL, nI_leI, nI_ltI, nI_eq, nI_add, nI_1, pk_mul, xK_ap, xO_ap, xF_ap, xA_ap, xG_ap, xB_ap, forall_eq, true_and, and_true, false_imp_iff, true_imp_iff, not_false_eq_true, not_true_eq_false, eq_self, Nat.reduceLT, Nat.reduceLeDiff, Nat.reduceEqDiff, gw_10, gw_01, wY_workOut_70, wY_workOut_231, e, Nat.not_lt_zero, gw_bool0, gw_bool1, z0', z1']
      exact q1 (by simp [gv0, e, b1, b2])
    · simp (disch := omega) only [gw_in, gw_cl, gw_Lle, gw_leL, gw_Llt, gw_ltL, gw_eqL, gw_Leq, gw_Lmul, gw_Ladd, gw_addL, nI_leI, nI_ltI, nI_eq, nI_add, nI_1, pk_mul, xK_ap, xO_ap, xF_ap, xA_ap, xG_ap, xB_ap, forall_eq, true_and, and_true, false_imp_iff, true_imp_iff, not_false_eq_true, not_true_eq_false, eq_self, Nat.reduceLT, Nat.reduceLeDiff, Nat.reduceEqDiff, gw_10, gw_01, wY_workOut_70, wY_workOut_231, e, Nat.not_lt_zero, gw_bool0, gw_bool1, z0', z1']
      exact q1 (by simp [gv0, e, b1, b2])
    · simp (disch := omega) only [gw_in, gw_cl, gw_Lle, gw_leL, gw_Llt, gw_ltL, gw_eqL, gw_Leq, gw_Lmul, gw_Ladd, gw_addL, nI_leI, nI_ltI, nI_eq, nI_add, nI_1, pk_mul, xK_ap, xO_ap, xF_ap, xA_ap, xG_ap, xB_ap, forall_eq, true_and, and_true, false_imp_iff, true_imp_iff, not_false_eq_true, not_true_eq_false, eq_self, Nat.reduceLT, Nat.reduceLeDiff, Nat.reduceEqDiff, gw_10, gw_01, wY_workOut_70, wY_workOut_231, e, Nat.not_lt_zero, gw_bool0, gw_bool1, z0', z1']
      exact q0 (by simp [gv0, e, b1, b2])
  · rw [hx (by omega), hy (by omega)]
    have a3 := hY.2.2.1 n hn (by omega)
    have o3 := wf_O w (3 * n + 2)
    have c3 := h3 (by omega)
    cases b1 : g (cO c (3 * n))
    · simp (disch := omega) only [gw_in, gw_cl, gw_Lle, gw_leL, gw_Llt, gw_ltL, gw_eqL, gw_Leq, gw_Lmul, gw_Ladd, gw_addL, nI_leI, nI_ltI, nI_eq, nI_add, nI_1, pk_mul, xK_ap, xO_ap, xF_ap, xA_ap, xG_ap, xB_ap, forall_eq, true_and, and_true, false_imp_iff, true_imp_iff, not_false_eq_true, not_true_eq_false, eq_self, Nat.reduceLT, Nat.reduceLeDiff, Nat.reduceEqDiff, gw_10, gw_01, wY_workOut_70, wY_workOut_261, e, Nat.not_lt_zero, gw_bool, z0', z1', a3, c3]
      exact q _ (by simp [gv0, e, b1])
    · simp (disch := omega) only [gw_in, gw_cl, gw_Lle, gw_leL, gw_Llt, gw_ltL, gw_eqL, gw_Leq, gw_Lmul, gw_Ladd, gw_addL, nI_leI, nI_ltI, nI_eq, nI_add, nI_1, pk_mul, xK_ap, xO_ap, xF_ap, xA_ap, xG_ap, xB_ap, forall_eq, true_and, and_true, false_imp_iff, true_imp_iff, not_false_eq_true, not_true_eq_false, eq_self, Nat.reduceLT, Nat.reduceLeDiff, Nat.reduceEqDiff, gw_10, gw_01, wY_workOut_70, wY_workOut_261, e, Nat.not_lt_zero, gw_bool, z0', z1', a3, c3]
      exact q _ (by simp [gv0, e, b1])
theorem yw_wo39 (w : WF c) (hY : YS c a_first a_second a_third a_source a_register) (hf : ∀ n, n < cN c → (nI n = x1 ↔ n = f)) (hn : n < cN c) {z0 : Int32}
    (hx : 3 ≤ cK c n → z0 = nI (g (cO c (3 * n))).toNat) (hg : ∀ m, m < n → t m = nI (g m).toNat) (hs : cK c n < 2 → t n = nI (sv n).toNat)
    (hJ : ∀ t', t' n = nI (gv c f o sv g n).toNat → (∀ m, m ≠ n → t' m = t m) → J2 (nI (n + 1)) (xK c) a_first a_second a_third (xF c) a_now t' a_other a_source a_register a_level a_soon a_depend a_table a_marked a_after a_shows a_apart) :
    wY_workOut_39 post J2 x1 (nI o.toNat) (nI n) z0 (nI (cN c)) (nI (cS c)) (nI (cR c)) (xK c) a_first a_second a_third (xF c) a_now t a_other a_source a_register a_level a_soon a_depend a_table a_marked a_after a_shows a_apart := by
  have hN := wf_N w
  have k7 := wf_K w n
  have h3 : 7 ≤ cK c n → t (cO c (3 * n + 2)) = nI (g (cO c (3 * n + 2))).toNat := fun h => hg _ (wf_o3 w hn h)
  by_cases hk : cK c n ≤ 3
  · simp (disch := omega) only [gw_in, gw_cl, gw_Lle, gw_leL, gw_Llt, gw_ltL, gw_eqL, gw_Leq, gw_Lmul, gw_Ladd, gw_addL, nI_leI, nI_ltI, nI_eq, nI_add, nI_1, pk_mul, xK_ap, xO_ap, xF_ap, xA_ap, xG_ap, xB_ap, forall_eq, true_and, and_true, false_imp_iff, true_imp_iff, not_false_eq_true, not_true_eq_false, eq_self, Nat.reduceLT, Nat.reduceLeDiff, Nat.reduceEqDiff, gw_10, gw_01, wY_workOut_39, wY_workOut_69, hk]
    exact yw_wo70 w hY hf hn hx (fun h => by omega) h3 hs hJ
  · have a2 := hY.2.1 n hn (by omega)
    have o2 := wf_O w (3 * n + 1)
    have c2 := hg _ (wf_o2 w hn (by omega))
    cases b2 : g (cO c (3 * n + 1))
    · have z : nI false.toNat = 0 := rfl
      rw [b2] at c2
      simp (disch := omega) only [gw_in, gw_cl, gw_Lle, gw_leL, gw_Llt, gw_ltL, gw_eqL, gw_Leq, gw_Lmul, gw_Ladd, gw_addL, nI_leI, nI_ltI, nI_eq, nI_add, nI_1, pk_mul, xK_ap, xO_ap, xF_ap, xA_ap, xG_ap, xB_ap, forall_eq, true_and, and_true, false_imp_iff, true_imp_iff, not_false_eq_true, not_true_eq_false, eq_self, Nat.reduceLT, Nat.reduceLeDiff, Nat.reduceEqDiff, gw_10, gw_01, wY_workOut_39, wY_workOut_69, hk, a2, c2, z]
      exact yw_wo70 w hY hf hn hx (fun h => by rw [b2]; rfl) h3 hs hJ
    · have z : nI true.toNat = 1 := rfl
      have z2 : ¬ (1 : Int32) = 0 := by decide
      rw [b2] at c2
      simp (disch := omega) only [gw_in, gw_cl, gw_Lle, gw_leL, gw_Llt, gw_ltL, gw_eqL, gw_Leq, gw_Lmul, gw_Ladd, gw_addL, nI_leI, nI_ltI, nI_eq, nI_add, nI_1, pk_mul, xK_ap, xO_ap, xF_ap, xA_ap, xG_ap, xB_ap, forall_eq, true_and, and_true, false_imp_iff, true_imp_iff, not_false_eq_true, not_true_eq_false, eq_self, Nat.reduceLT, Nat.reduceLeDiff, Nat.reduceEqDiff, gw_10, gw_01, wY_workOut_39, wY_workOut_69, hk, a2, c2, z, z2]
      exact yw_wo70 w hY hf hn hx (fun h => by rw [b2]; rfl) h3 hs hJ
end
theorem yw_workOut (w : WF c) (hY : YS c a_first a_second a_third a_source a_register) {f : Nat} {o : Bool} {x1 : Int32} {sv : Nat → Bool} (hf : ∀ n, n < cN c → (nI n = x1 ↔ n = f)) (hs : ∀ m, m < cN c → cK c m < 2 → a_at m = nI (sv m).toNat)
    {post : SY → Prop} (h : ∀ t, (∀ m, m < cN c → t m = nI (ev c f o sv m).toNat) → post (nI (cN c), nI (cS c), nI (cR c), xK c, a_first, a_second, a_third, xF c, a_now, t, a_other, a_source, a_register, a_level, a_soon, a_depend, a_table, a_marked, a_after, a_shows, a_apart)) : wpY_workOut post (nI (cN c), nI (cS c), nI (cR c), xK c, a_first, a_second, a_third, xF c, a_now, a_at, a_other, a_source, a_register, a_level, a_soon, a_depend, a_table, a_marked, a_after, a_shows, a_apart) x1 (nI o.toNat) := by
  have hN := wf_N w
  have L : ∀ d n t k, n + d = cN c → d < k → (∀ m, m < n → t m = nI (ev c f o sv m).toNat) → (∀ m, n ≤ m → m < cN c → cK c m < 2 → t m = nI (sv m).toNat) →
      wY_workOut_2 post x1 (nI o.toNat) (nI (cN c)) (nI (cS c)) (nI (cR c)) k (nI n) (xK c) a_first a_second a_third (xF c) a_now t a_other a_source a_register a_level a_soon a_depend a_table a_marked a_after a_shows a_apart := by
    intro d
    induction d with
    | zero =>
      intro n t k hn hk h1 h2
      obtain ⟨m, rfl⟩ : ∃ m, k = m + 1 := ⟨k - 1, by omega⟩
      have h3 : cN c ≤ n := by omega
      simp (disch := omega) only [gw_in, gw_cl, gw_Lle, gw_leL, gw_Llt, gw_ltL, gw_eqL, gw_Leq, gw_Lmul, gw_Ladd, gw_addL, nI_leI, nI_ltI, nI_eq, nI_add, nI_1, pk_mul, xK_ap, xO_ap, xF_ap, xA_ap, xG_ap, xB_ap, forall_eq, true_and, and_true, false_imp_iff, true_imp_iff, not_false_eq_true, not_true_eq_false, eq_self, Nat.reduceLT, Nat.reduceLeDiff, Nat.reduceEqDiff, gw_10, gw_01, wY_workOut_2, h3]
      exact h t (fun m hm => h1 m (by omega))
    | succ d ih =>
      intro n t k hn hk h1 h2
      obtain ⟨m, rfl⟩ : ∃ m, k = m + 1 := ⟨k - 1, by omega⟩
      have h3 : ¬ cN c ≤ n := by omega
      have hn' : n < cN c := by omega
      have hJ : ∀ t', t' n = nI (gv c f o sv (ev c f o sv) n).toNat → (∀ m, m ≠ n → t' m = t m) → wY_workOut_2 post x1 (nI o.toNat) (nI (cN c)) (nI (cS c)) (nI (cR c)) m (nI (n + 1)) (xK c) a_first a_second a_third (xF c) a_now t' a_other a_source a_register a_level a_soon a_depend a_table a_marked a_after a_shows a_apart := by
        intro t' e1 e2
        refine ih (n + 1) t' m (by omega) (by omega) (fun q hq => ?_) (fun q hq hq2 hq3 => ?_)
        · by_cases e : q = n
          · subst e
            rw [e1, ← ev_eq w hn']
          · rw [e2 q e]
            exact h1 q (by omega)
        · rw [e2 q (by omega)]
          exact h2 q (by omega) hq2 hq3
      have k7 := wf_K w n
      by_cases hk2 : cK c n ≤ 2
      · simp (disch := omega) only [gw_in, gw_cl, gw_Lle, gw_leL, gw_Llt, gw_ltL, gw_eqL, gw_Leq, gw_Lmul, gw_Ladd, gw_addL, nI_leI, nI_ltI, nI_eq, nI_add, nI_1, pk_mul, xK_ap, xO_ap, xF_ap, xA_ap, xG_ap, xB_ap, forall_eq, true_and, and_true, false_imp_iff, true_imp_iff, not_false_eq_true, not_true_eq_false, eq_self, Nat.reduceLT, Nat.reduceLeDiff, Nat.reduceEqDiff, gw_10, gw_01, wY_workOut_2, wY_workOut_38, h3, hk2]
        exact yw_wo39 w hY hf hn' (fun h => by omega) h1 (h2 n (by omega) hn') hJ
      · have a1 := hY.1 n hn' (by omega)
        have o1 := wf_O w (3 * n)
        have c1 := h1 _ (wf_o1 w hn' (by omega))
        cases b1 : ev c f o sv (cO c (3 * n))
        · have z : nI false.toNat = 0 := rfl
          rw [b1] at c1
          simp (disch := omega) only [gw_in, gw_cl, gw_Lle, gw_leL, gw_Llt, gw_ltL, gw_eqL, gw_Leq, gw_Lmul, gw_Ladd, gw_addL, nI_leI, nI_ltI, nI_eq, nI_add, nI_1, pk_mul, xK_ap, xO_ap, xF_ap, xA_ap, xG_ap, xB_ap, forall_eq, true_and, and_true, false_imp_iff, true_imp_iff, not_false_eq_true, not_true_eq_false, eq_self, Nat.reduceLT, Nat.reduceLeDiff, Nat.reduceEqDiff, gw_10, gw_01, wY_workOut_2, wY_workOut_38, h3, hk2, a1, c1, z]
          exact yw_wo39 w hY hf hn' (fun h => by rw [b1]; rfl) h1 (h2 n (by omega) hn') hJ
        · have z : nI true.toNat = 1 := rfl
          have z2 : ¬ (1 : Int32) = 0 := by decide
          rw [b1] at c1
          simp (disch := omega) only [gw_in, gw_cl, gw_Lle, gw_leL, gw_Llt, gw_ltL, gw_eqL, gw_Leq, gw_Lmul, gw_Ladd, gw_addL, nI_leI, nI_ltI, nI_eq, nI_add, nI_1, pk_mul, xK_ap, xO_ap, xF_ap, xA_ap, xG_ap, xB_ap, forall_eq, true_and, and_true, false_imp_iff, true_imp_iff, not_false_eq_true, not_true_eq_false, eq_self, Nat.reduceLT, Nat.reduceLeDiff, Nat.reduceEqDiff, gw_10, gw_01, wY_workOut_2, wY_workOut_38, h3, hk2, a1, c1, z, z2]
          exact yw_wo39 w hY hf hn' (fun h => by rw [b1]; rfl) h1 (h2 n (by omega) hn') hJ
  exact ⟨cN c + 1, L (cN c) 0 a_at _ (by omega) (by omega) (fun m hm => by omega) (fun m _ hm hk => hs m hm hk)⟩
theorem yw_f99 (w : WF c) : ∀ n, n < cN c → (nI n = -1 ↔ n = 99) := by
  have hN := wf_N w
  intro n hn
  constructor
  · intro h
    exact absurd h (gw_m1 (by omega))
  · omega
theorem yw_assign (w : WF c) (hY : YS c a_first a_second a_third a_source a_register) {a : Nat} (ha : a < 2147483648)
    {post : SY → Prop} (h : ∀ t, (∀ m, m < cN c → t m = nI (EV c a m).toNat) → post (nI (cN c), nI (cS c), nI (cR c), xK c, a_first, a_second, a_third, xF c, a_now, t, a_other, a_source, a_register, a_level, a_soon, a_depend, a_table, a_marked, a_after, a_shows, a_apart)) : wpY_assign post (nI (cN c), nI (cS c), nI (cR c), xK c, a_first, a_second, a_third, xF c, a_now, a_at, a_other, a_source, a_register, a_level, a_soon, a_depend, a_table, a_marked, a_after, a_shows, a_apart) (nI a) := by
  have hN := wf_N w
  have hS := wf_S w
  have L : ∀ d i t k, i + d = cS c → d < k → (∀ j, j < i → t (cA c j) = nI (a.testBit j).toNat) → wY_assign_2 post (nI a) (nI (cN c)) (nI (cS c)) (nI (cR c)) k (nI i) (xK c) a_first a_second a_third (xF c) a_now t a_other a_source a_register a_level a_soon a_depend a_table a_marked a_after a_shows a_apart := by
    intro d
    induction d with
    | zero =>
      intro i t k hi hk h1
      obtain ⟨m, rfl⟩ : ∃ m, k = m + 1 := ⟨k - 1, by omega⟩
      have h3 : cS c ≤ i := by omega
      simp (disch := omega) only [gw_in, gw_cl, gw_Lle, gw_leL, gw_Llt, gw_ltL, gw_eqL, gw_Leq, gw_Lmul, gw_Ladd, gw_addL, nI_leI, nI_ltI, nI_eq, nI_add, nI_1, pk_mul, xK_ap, xO_ap, xF_ap, xA_ap, xG_ap, xB_ap, forall_eq, true_and, and_true, false_imp_iff, true_imp_iff, not_false_eq_true, not_true_eq_false, eq_self, Nat.reduceLT, Nat.reduceLeDiff, Nat.reduceEqDiff, gw_10, gw_01, wY_assign_2, h3]
      refine yw_workOut (o := false) w hY (yw_f99 w) (sv := sa c a) (fun m hm hk => ?_) (fun t' ht' => h t' ht')
      obtain ⟨j, hj, rfl⟩ := wf_Ax w hm hk
      rw [sa_A w hj]
      exact h1 j (by omega)
    | succ d ih =>
      intro i t k hi hk h1
      obtain ⟨m, rfl⟩ : ∃ m, k = m + 1 := ⟨k - 1, by omega⟩
      have h3 : ¬ cS c ≤ i := by omega
      have hi' : i < cS c := by omega
      have a1 := hY.2.2.2.1 i hi'
      have hA := wf_A w hi'
      have e : (nI a >>> (nI i &&& 31)) &&& 1 = nI (a.testBit i).toNat := gw_bit (by omega) ha
      have stp : ∀ b : Bool, a.testBit i = b → ∀ j, j < i + 1 → upd t (cA c i) (nI b.toNat) (cA c j) = nI (a.testBit j).toNat := fun b hb j hj => by
        by_cases ej : j = i
        · subst ej; rw [pk_us, hb]
        · have := wf_Am w (show j < i by omega) hi'
          rw [pk_un (by omega)]
          exact h1 j (by omega)
      cases b : a.testBit i
      · rw [b] at e
        have e2 : ¬ nI false.toNat = 1 := by decide
        simp (disch := omega) only [gw_in, gw_cl, gw_Lle, gw_leL, gw_Llt, gw_ltL, gw_eqL, gw_Leq, gw_Lmul, gw_Ladd, gw_addL, nI_leI, nI_ltI, nI_eq, nI_add, nI_1, pk_mul, xK_ap, xO_ap, xF_ap, xA_ap, xG_ap, xB_ap, forall_eq, true_and, and_true, false_imp_iff, true_imp_iff, not_false_eq_true, not_true_eq_false, eq_self, Nat.reduceLT, Nat.reduceLeDiff, Nat.reduceEqDiff, gw_10, gw_01, wY_assign_2, h3, a1, e, e2, gw_bool0]
        exact ih (i + 1) _ m (by omega) (by omega) (stp false b)
      · rw [b] at e
        have e2 : nI true.toNat = 1 := by decide
        simp (disch := omega) only [gw_in, gw_cl, gw_Lle, gw_leL, gw_Llt, gw_ltL, gw_eqL, gw_Leq, gw_Lmul, gw_Ladd, gw_addL, nI_leI, nI_ltI, nI_eq, nI_add, nI_1, pk_mul, xK_ap, xO_ap, xF_ap, xA_ap, xG_ap, xB_ap, forall_eq, true_and, and_true, false_imp_iff, true_imp_iff, not_false_eq_true, not_true_eq_false, eq_self, Nat.reduceLT, Nat.reduceLeDiff, Nat.reduceEqDiff, gw_10, gw_01, wY_assign_2, h3, a1, e, e2, gw_bool1]
        exact ih (i + 1) _ m (by omega) (by omega) (stp true b)
  exact ⟨cS c + 1, L (cS c) 0 a_at _ (by omega) (by omega) (fun m hm => by omega)⟩
theorem yw_present (w : WF c) (hY : YS c a_first a_second a_third a_source a_register) {now : Nat} (hn : YN c now a_now)
    {post : SY → Prop} (h : ∀ t, (∀ m, m < cN c → t m = nI (EV c now m).toNat) → post (nI (cN c), nI (cS c), nI (cR c), xK c, a_first, a_second, a_third, xF c, a_now, t, a_other, a_source, a_register, a_level, a_soon, a_depend, a_table, a_marked, a_after, a_shows, a_apart)) : wpY_present post (nI (cN c), nI (cS c), nI (cR c), xK c, a_first, a_second, a_third, xF c, a_now, a_at, a_other, a_source, a_register, a_level, a_soon, a_depend, a_table, a_marked, a_after, a_shows, a_apart) := by
  have hN := wf_N w
  have hS := wf_S w
  have L : ∀ d i t k, i + d = cS c → d < k → (∀ j, j < i → t (cA c j) = nI (now.testBit j).toNat) → wY_present_2 post (nI (cN c)) (nI (cS c)) (nI (cR c)) k (nI i) (xK c) a_first a_second a_third (xF c) a_now t a_other a_source a_register a_level a_soon a_depend a_table a_marked a_after a_shows a_apart := by
    intro d
    induction d with
    | zero =>
      intro i t k hi hk h1
      obtain ⟨m, rfl⟩ : ∃ m, k = m + 1 := ⟨k - 1, by omega⟩
      have h3 : cS c ≤ i := by omega
      simp (disch := omega) only [gw_in, gw_cl, gw_Lle, gw_leL, gw_Llt, gw_ltL, gw_eqL, gw_Leq, gw_Lmul, gw_Ladd, gw_addL, nI_leI, nI_ltI, nI_eq, nI_add, nI_1, pk_mul, xK_ap, xO_ap, xF_ap, xA_ap, xG_ap, xB_ap, forall_eq, true_and, and_true, false_imp_iff, true_imp_iff, not_false_eq_true, not_true_eq_false, eq_self, Nat.reduceLT, Nat.reduceLeDiff, Nat.reduceEqDiff, gw_10, gw_01, wY_present_2, h3]
      refine yw_workOut (o := false) w hY (yw_f99 w) (sv := sa c now) (fun m hm hk => ?_) (fun t' ht' => h t' ht')
      obtain ⟨j, hj, rfl⟩ := wf_Ax w hm hk
      rw [sa_A w hj]
      exact h1 j (by omega)
    | succ d ih =>
      intro i t k hi hk h1
      obtain ⟨m, rfl⟩ : ∃ m, k = m + 1 := ⟨k - 1, by omega⟩
      have h3 : ¬ cS c ≤ i := by omega
      have hi' : i < cS c := by omega
      have a1 := hY.2.2.2.1 i hi'
      have a2 := hn i hi'
      have hA := wf_A w hi'
      simp (disch := omega) only [gw_in, gw_cl, gw_Lle, gw_leL, gw_Llt, gw_ltL, gw_eqL, gw_Leq, gw_Lmul, gw_Ladd, gw_addL, nI_leI, nI_ltI, nI_eq, nI_add, nI_1, pk_mul, xK_ap, xO_ap, xF_ap, xA_ap, xG_ap, xB_ap, forall_eq, true_and, and_true, false_imp_iff, true_imp_iff, not_false_eq_true, not_true_eq_false, eq_self, Nat.reduceLT, Nat.reduceLeDiff, Nat.reduceEqDiff, gw_10, gw_01, wY_present_2, h3, a1, a2, gw_bool]
      refine ih (i + 1) _ m (by omega) (by omega) (fun j hj => ?_)
      by_cases ej : j = i
      · subst ej; rw [pk_us]
      · have := wf_Am w (show j < i by omega) hi'
        rw [pk_un (by omega)]
        exact h1 j (by omega)
  exact ⟨cS c + 1, L (cS c) 0 a_at _ (by omega) (by omega) (fun m hm => by omega)⟩
end
end
section
/-! ===== configurations, levels, what can come: the pure pictures; the relation ===== -/
/-- the configuration in an assignment; one tick on; an assignment with another configuration -/
def cfgOf (c : CK) (a : Nat) : Nat := bld (fun r => a.testBit (cB c r)) (cR c)
def aft (c : CK) (a : Nat) : Nat := bld (fun r => EV c a (cF c (cG c r))) (cR c)
def wbt (c : CK) (now q : Nat) : Nat → Nat → Bool
  | 0 => fun s => now.testBit s
  | r + 1 => fun s => if s = cB c r then q.testBit r else wbt c now q r s
def wth (c : CK) (now q : Nat) : Nat := bld (wbt c now q (cR c)) (cS c)
/-- a configuration can come after t ticks -/
def rch (c : CK) : Nat → Nat → Prop
  | 0 => fun q => q = 0
  | t + 1 => fun q => ∃ a, a < 2 ^ cS c ∧ rch c t (cfgOf c a) ∧ aft c a = q
def SN (c : CK) (q : Nat) (x : Int32) : Prop := (∃ t, t < 64 ∧ rch c t q ∧ (∀ t', t' < t → ¬ rch c t' q) ∧ x = nI t) ∨ ((∀ t, ¬ rch c t q) ∧ x = -1)
/-- M: a marking of nets below T and of T itself that no source belongs to and that is closed backwards, but through C -/
def SEP (c : CK) (T : Nat) (C : Nat → Bool) : Prop := ∃ M : Nat → Bool, M T = true ∧
  ∀ n, n ≤ T → M n = true → (n = T ∨ C n = false) → 2 ≤ cK c n ∧ (3 ≤ cK c n → M (cO c (3 * n)) = true) ∧ (4 ≤ cK c n → M (cO c (3 * n + 1)) = true) ∧ (7 ≤ cK c n → M (cO c (3 * n + 2)) = true)
def CUT (c : CK) (k : Nat) (L : Nat → Nat) (l T : Nat) : Prop := ∃ C : Nat → Bool, cnt C T ≤ k ∧ (∀ n, n < T → C n = true → L n < l) ∧ SEP c T C
def LVS (c : CK) (k : Nat) (L : Nat → Nat) (m : Nat) : Prop := ∀ n, n < m → (cK c n < 3 → L n = 0) ∧ (3 ≤ cK c n → (L n = 99 ∧ ∀ l, l < 99 → ¬ CUT c k L l n) ∨ (1 ≤ L n ∧ L n ≤ n ∧ CUT c k L (L n) n ∧ ∀ l, 1 ≤ l → l < L n → ¬ CUT c k L l n))
def lvI (x : Nat) : Int32 := if x = 99 then -1 else nI x
def LV (c : CK) (f : Int32) (a : Nat → Int32) : Prop := ∃ lk, lk < 16 ∧ f = nI lk ∧ ∀ k, 1 ≤ k → k ≤ 3 → lk.testBit k = true → ∃ L, LVS c k L (cN c) ∧ ∀ n, n < cN c → a (32 * (k - 1) + n) = lvI (L n)
def CM (c : CK) (f : Int32) (a : Nat → Int32) : Prop := f = 0 ∨ (f = 1 ∧ ∀ q, q < 64 → SN c q (a q))
def XR (c : CK) (now : Nat) (u : SX) : Prop := match u with
  | (f_nets, f_sources, f_registers, f_now, f_right, f_levelsKnown, f_head, f_tail, f_met, f_comesKnown, f_entry, f_round, a_kinds, a_operand, a_nexts, a_sourceAt, a_registerAt, a_registerSource, a_table, a_saved, a_matters, a_cubes, a_levels, a_edgeFlow, a_netFlow, a_queue, a_before, a_edge, a_leads, a_comes, a_group, a_later, a_goes, a_shows) => f_nets = nI (cN c) ∧ f_sources = nI (cS c) ∧ f_registers = nI (cR c) ∧ a_kinds = xK c ∧ a_operand = xO c ∧ a_nexts = xF c ∧ a_sourceAt = xA c ∧ a_registerAt = xG c ∧ a_registerSource = xB c ∧ f_now = nI now ∧ (∃ r, r ≤ cN c ∧ f_right = nI r ∧ TBL c 99 false a_table r) ∧ LV c f_levelsKnown a_levels ∧ CM c f_comesKnown a_comes
def YR (c : CK) (now : Nat) (v : SY) : Prop := match v with
  | (f_nets, f_sources, f_registers, a_kind, a_first, a_second, a_third, a_follows, a_now, a_at, a_other, a_source, a_register, a_level, a_soon, a_depend, a_table, a_marked, a_after, a_shows, a_apart) => f_nets = nI (cN c) ∧ f_sources = nI (cS c) ∧ f_registers = nI (cR c) ∧ a_kind = xK c ∧ a_follows = xF c ∧ YS c a_first a_second a_third a_source a_register ∧ YN c now a_now
/-- both show one circuit, in one assignment -/
def i_Rel (_ : Nat) (u : SX) (v : SY) : Prop := ∃ c now, WF c ∧ now < 2 ^ cS c ∧ XR c now u ∧ YR c now v
theorem i_up {k : Nat} {u : SX} {v : SY} (h : i_Rel k u v) : i_Rel (k + 6) u v := h
section
variable {c : CK} {f_now : Int32} {f_right : Int32} {f_levelsKnown : Int32} {f_head : Int32} {f_tail : Int32} {f_met : Int64} {f_comesKnown : Int32} {f_entry : Int32} {f_round : Int32} {a_table : Nat → Int64} {a_saved : Nat → Int64} {a_matters : Nat → Int32} {a_cubes : Nat → Int64} {a_levels : Nat → Int32} {a_edgeFlow : Nat → Int32} {a_netFlow : Nat → Int32} {a_queue : Nat → Int32} {a_before : Nat → Int32} {a_edge : Nat → Int32} {a_leads : Nat → Int64} {a_comes : Nat → Int32} {a_group : Nat → Int32} {a_later : Nat → Int32} {a_goes : Nat → Int32} {a_shows : Nat → Int32}
theorem xr_in {now r : Nat} (hr : r ≤ cN c) (ht : TBL c 99 false a_table r) (hl : LV c f_levelsKnown a_levels) (hc : CM c f_comesKnown a_comes) : XR c now (nI (cN c), nI (cS c), nI (cR c), nI now, nI r, f_levelsKnown, f_head, f_tail, f_met, f_comesKnown, f_entry, f_round, xK c, xO c, xF c, xA c, xG c, xB c, a_table, a_saved, a_matters, a_cubes, a_levels, a_edgeFlow, a_netFlow, a_queue, a_before, a_edge, a_leads, a_comes, a_group, a_later, a_goes, a_shows) :=
  ⟨rfl, rfl, rfl, rfl, rfl, rfl, rfl, rfl, rfl, rfl, ⟨r, hr, rfl, ht⟩, hl, hc⟩
end
section
variable {c : CK} {a_first : Nat → Int32} {a_second : Nat → Int32} {a_third : Nat → Int32} {a_now : Nat → Int32} {a_at : Nat → Int32} {a_other : Nat → Int32} {a_source : Nat → Int32} {a_register : Nat → Int32} {a_level : Nat → Int32} {a_soon : Nat → Int32} {a_depend : Nat → Int32} {a_table : Nat → Int32} {a_marked : Nat → Int32} {a_after : Nat → Int32} {a_shows : Nat → Int32} {a_apart : Nat → Int32}
theorem yr_in {now : Nat} (hY : YS c a_first a_second a_third a_source a_register) (hn : YN c now a_now) : YR c now (nI (cN c), nI (cS c), nI (cR c), xK c, a_first, a_second, a_third, xF c, a_now, a_at, a_other, a_source, a_register, a_level, a_soon, a_depend, a_table, a_marked, a_after, a_shows, a_apart) := ⟨rfl, rfl, rfl, rfl, rfl, hY, hn⟩
end
theorem ir_in {k : Nat} {c : CK} {now : Nat} {u : SX} {v : SY} (w : WF c) (hn : now < 2 ^ cS c) (hX : XR c now u) (hY : YR c now v) : i_Rel k u v := ⟨c, now, w, hn, hX, hY⟩
theorem xr_el {P : SX → Prop} {c : CK} {now : Nat} {u : SX} (hX : XR c now u)
    (h : ∀ (r : Nat) (f_levelsKnown : Int32) (f_head : Int32) (f_tail : Int32) (f_met : Int64) (f_comesKnown : Int32) (f_entry : Int32) (f_round : Int32) (a_table : Nat → Int64) (a_saved : Nat → Int64) (a_matters : Nat → Int32) (a_cubes : Nat → Int64) (a_levels : Nat → Int32) (a_edgeFlow : Nat → Int32) (a_netFlow : Nat → Int32) (a_queue : Nat → Int32) (a_before : Nat → Int32) (a_edge : Nat → Int32) (a_leads : Nat → Int64) (a_comes : Nat → Int32) (a_group : Nat → Int32) (a_later : Nat → Int32) (a_goes : Nat → Int32) (a_shows : Nat → Int32), r ≤ cN c → TBL c 99 false a_table r → LV c f_levelsKnown a_levels → CM c f_comesKnown a_comes → P (nI (cN c), nI (cS c), nI (cR c), nI now, nI r, f_levelsKnown, f_head, f_tail, f_met, f_comesKnown, f_entry, f_round, xK c, xO c, xF c, xA c, xG c, xB c, a_table, a_saved, a_matters, a_cubes, a_levels, a_edgeFlow, a_netFlow, a_queue, a_before, a_edge, a_leads, a_comes, a_group, a_later, a_goes, a_shows)) : P u := by
  obtain ⟨f_nets, f_sources, f_registers, f_now, f_right, f_levelsKnown, f_head, f_tail, f_met, f_comesKnown, f_entry, f_round, a_kinds, a_operand, a_nexts, a_sourceAt, a_registerAt, a_registerSource, a_table, a_saved, a_matters, a_cubes, a_levels, a_edgeFlow, a_netFlow, a_queue, a_before, a_edge, a_leads, a_comes, a_group, a_later, a_goes, a_shows⟩ := u
  obtain ⟨rfl, rfl, rfl, rfl, rfl, rfl, rfl, rfl, rfl, rfl, ⟨r, hr, rfl, ht⟩, hl, hc⟩ := hX
  exact h r f_levelsKnown f_head f_tail f_met f_comesKnown f_entry f_round a_table a_saved a_matters a_cubes a_levels a_edgeFlow a_netFlow a_queue a_before a_edge a_leads a_comes a_group a_later a_goes a_shows hr ht hl hc
theorem yr_el {P : SY → Prop} {c : CK} {now : Nat} {v : SY} (hY : YR c now v)
    (h : ∀ (a_first : Nat → Int32) (a_second : Nat → Int32) (a_third : Nat → Int32) (a_now : Nat → Int32) (a_at : Nat → Int32) (a_other : Nat → Int32) (a_source : Nat → Int32) (a_register : Nat → Int32) (a_level : Nat → Int32) (a_soon : Nat → Int32) (a_depend : Nat → Int32) (a_table : Nat → Int32) (a_marked : Nat → Int32) (a_after : Nat → Int32) (a_shows : Nat → Int32) (a_apart : Nat → Int32), YS c a_first a_second a_third a_source a_register → YN c now a_now → P (nI (cN c), nI (cS c), nI (cR c), xK c, a_first, a_second, a_third, xF c, a_now, a_at, a_other, a_source, a_register, a_level, a_soon, a_depend, a_table, a_marked, a_after, a_shows, a_apart)) : P v := by
  obtain ⟨f_nets, f_sources, f_registers, a_kind, a_first, a_second, a_third, a_follows, a_now, a_at, a_other, a_source, a_register, a_level, a_soon, a_depend, a_table, a_marked, a_after, a_shows, a_apart⟩ := v
  obtain ⟨rfl, rfl, rfl, rfl, rfl, hS, hN⟩ := hY
  exact h a_first a_second a_third a_now a_at a_other a_source a_register a_level a_soon a_depend a_table a_marked a_after a_shows a_apart hS hN
end
section
/-! ===== X: value, count, witness, same ===== -/
/-- yes or no -/
def BA (P : Prop) (r : Int32) : Prop := (r = 1 ∧ P) ∨ (r = 0 ∧ ¬ P)
theorem BA_uni {P : Prop} {r r' : Int32} (h : BA P r) (h' : BA P r') : r' = r := by
  rcases h with ⟨rfl, p⟩ | ⟨rfl, p⟩ <;> rcases h' with ⟨rfl, q⟩ | ⟨rfl, q⟩
  · rfl
  · exact absurd p q
  · exact absurd q p
  · rfl
theorem BA_iff {P Q : Prop} {r : Int32} (h : BA P r) (e : P ↔ Q) : BA Q r := by
  rcases h with ⟨h1, p⟩ | ⟨h1, p⟩
  · exact Or.inl ⟨h1, e.mp p⟩
  · exact Or.inr ⟨h1, fun q => p (e.mpr q)⟩
theorem cL_cnt {c : CK} (p : Nat → Bool) : cnt (fun a => decide (a < 2 ^ cS c) && p a) (64 * cL c) = cnt p (2 ^ cS c) := by
  have h1 : 2 ^ cS c ≤ 64 * cL c := by
    by_cases h6 : 6 ≤ cS c
    · rw [cL_big h6]; exact Nat.le_refl _
    · rw [cL_small (by omega)]
      exact Nat.pow_le_pow_right (n := 2) (j := 6) (by decide) (by omega)
  rw [cnt_ext h1 (fun i hi _ => by rw [decide_eq_false (by omega), Bool.false_and])]
  exact cnt_congr (fun i hi => by rw [decide_eq_true hi, Bool.true_and])
theorem cL_up {c : CK} {a : Nat} (h : a < 2 ^ cS c) : a < 64 * cL c := by have := cL_in h; omega
section
variable {c : CK} {f_now : Int32} {f_right : Int32} {f_levelsKnown : Int32} {f_head : Int32} {f_tail : Int32} {f_met : Int64} {f_comesKnown : Int32} {f_entry : Int32} {f_round : Int32} {a_table : Nat → Int64} {a_saved : Nat → Int64} {a_matters : Nat → Int32} {a_cubes : Nat → Int64} {a_levels : Nat → Int32} {a_edgeFlow : Nat → Int32} {a_netFlow : Nat → Int32} {a_queue : Nat → Int32} {a_before : Nat → Int32} {a_edge : Nat → Int32} {a_leads : Nat → Int64} {a_comes : Nat → Int32} {a_group : Nat → Int32} {a_later : Nat → Int32} {a_goes : Nat → Int32} {a_shows : Nat → Int32}
theorem xw_count18 (w : WF c) {j : Nat} (hj : j < cN c) (ht : TBL c 99 false a_table (cN c)) {post : Int32 → SX → Prop} (h : post (nI (cnt (fun a => EV c a j) (2 ^ cS c))) (nI (cN c), nI (cS c), nI (cR c), f_now, f_right, f_levelsKnown, f_head, f_tail, f_met, f_comesKnown, f_entry, f_round, xK c, xO c, xF c, xA c, xG c, xB c, a_table, a_saved, a_matters, a_cubes, a_levels, a_edgeFlow, a_netFlow, a_queue, a_before, a_edge, a_leads, a_comes, a_group, a_later, a_goes, a_shows)) :
    ∀ d v n, v + d = cL c → d < n → wX_count_18 post (nI j) (nI (cN c)) (nI (cS c)) (nI (cR c)) f_now f_right f_levelsKnown f_head f_tail f_met f_comesKnown f_entry f_round (xK c) (xO c) (xF c) (xA c) (xG c) (xB c) a_table a_saved a_matters a_cubes a_levels a_edgeFlow a_netFlow a_queue a_before a_edge a_leads a_comes a_group a_later a_goes a_shows n (nI (cnt (fun a => decide (a < 2 ^ cS c) && EV c a j) (64 * v))) (nI v) := by
  have hN := wf_N w
  have hL := cL_le w
  intro d
  induction d with
  | zero =>
    intro v n hv hn
    obtain ⟨m, rfl⟩ : ∃ m, n = m + 1 := ⟨n - 1, by omega⟩
    have h1 : v = cL c := by omega
    subst h1
    rw [cL_cnt]
    unfold wX_count_18
    exact xw_length w (br_t (nI_le (Nat.le_refl _) (by omega)) h)
  | succ d ih =>
    intro v n hv hn
    obtain ⟨m, rfl⟩ : ∃ m, n = m + 1 := ⟨n - 1, by omega⟩
    unfold wX_count_18
    refine xw_length w (br_f (nI_ge (by omega) (by omega)) ?_)
    rw [gw_Lmul, nI_add, gw_cl (by omega)]
    refine ⟨vp_in_nI (by omega) (by omega), xw_ones _ (nm_r (nI_add _ _) (nm_r (nI_1 v) ?_))⟩
    have e : cnt (fun a => decide (a < 2 ^ cS c) && EV c a j) (64 * (v + 1)) = cnt (fun a => decide (a < 2 ^ cS c) && EV c a j) (64 * v) + cnt (lb (a_table (16 * j + v))) 64 := by
      have e2 : cnt (fun i => decide (64 * v + i < 2 ^ cS c) && EV c (64 * v + i) j) 64 = cnt (lb (a_table (16 * j + v))) 64 := cnt_congr (fun b hb => (ht j hj v (by omega) b hb).symm)
      rw [show 64 * (v + 1) = 64 * v + 64 by omega, cnt_add, e2]
    rw [← e]
    exact ih (v + 1) m (by omega) (by omega)
theorem xm_value (w : WF c) {now : Nat} (hn : now < 2 ^ cS c) {u : SX} (hX : XR c now u) {j : Nat} (hj : j < cN c) {post : Int32 → SX → Prop} (h : ∀ u', XR c now u' → post (nI (EV c now j).toNat) u') : wpX_value post u (nI j) := by
  have hN := wf_N w
  refine xr_el (P := fun u => wpX_value post u (nI j)) hX ?_
  intro r f_levelsKnown f_head f_tail f_met f_comesKnown f_entry f_round a_table a_saved a_matters a_cubes a_levels a_edgeFlow a_netFlow a_queue a_before a_edge a_leads a_comes a_group a_later a_goes a_shows hr ht hl hc
  dsimp only [wpX_value]
  refine xw_isNet_t w hj (br_f (by decide) ?_)
  refine xw_learn w hr ht (fun t ht' => ?_)
  dsimp only
  refine xw_bit w (f := 99) (o := false) hj (by omega) hn ht' ?_
  exact h _ (xr_in (Nat.le_refl _) ht' hl hc)
theorem xm_count (w : WF c) {now : Nat} {u : SX} (hX : XR c now u) {j : Nat} (hj : j < cN c) {post : Int32 → SX → Prop} (h : ∀ u', XR c now u' → post (nI (cnt (fun a => EV c a j) (2 ^ cS c))) u') : wpX_count post u (nI j) := by
  have hN := wf_N w
  refine xr_el (P := fun u => wpX_count post u (nI j)) hX ?_
  intro r f_levelsKnown f_head f_tail f_met f_comesKnown f_entry f_round a_table a_saved a_matters a_cubes a_levels a_edgeFlow a_netFlow a_queue a_before a_edge a_leads a_comes a_group a_later a_goes a_shows hr ht hl hc
  dsimp only [wpX_count]
  refine xw_isNet_t w hj (br_f (by decide) ?_)
  refine xw_learn w hr ht (fun t ht' => ?_)
  dsimp only
  exact ⟨cL c + 1, xw_count18 w hj ht' (h _ (xr_in (Nat.le_refl _) ht' hl hc)) (cL c) 0 _ (by omega) (by omega)⟩
end
/-- the least assignment from one on in which a net is 1 -/
def WT (c : CK) (j lo : Nat) (r : Int32) : Prop := (∃ a, lo ≤ a ∧ a < 2 ^ cS c ∧ EV c a j = true ∧ (∀ a', lo ≤ a' → a' < a → EV c a' j = false) ∧ r = nI a) ∨ ((∀ a, lo ≤ a → a < 2 ^ cS c → EV c a j = false) ∧ r = -1)
theorem WT_uni {c : CK} {j lo : Nat} {r r' : Int32} (h : WT c j lo r) (h' : WT c j lo r') : r' = r := by
  rcases h with ⟨a, h1, h2, h3, h4, rfl⟩ | ⟨h1, rfl⟩ <;> rcases h' with ⟨b, k1, k2, k3, k4, rfl⟩ | ⟨k1, rfl⟩
  · rcases Nat.lt_trichotomy a b with e | e | e
    · rw [k4 a h1 e] at h3; exact absurd h3 (by decide)
    · rw [e]
    · rw [h4 b k1 e] at k3; exact absurd k3 (by decide)
  · rw [k1 a h1 h2] at h3; exact absurd h3 (by decide)
  · rw [h1 b k1 k2] at k3; exact absurd k3 (by decide)
  · rfl
section
variable {c : CK} {f_now : Int32} {f_right : Int32} {f_levelsKnown : Int32} {f_head : Int32} {f_tail : Int32} {f_met : Int64} {f_comesKnown : Int32} {f_entry : Int32} {f_round : Int32} {a_table : Nat → Int64} {a_saved : Nat → Int64} {a_matters : Nat → Int32} {a_cubes : Nat → Int64} {a_levels : Nat → Int32} {a_edgeFlow : Nat → Int32} {a_netFlow : Nat → Int32} {a_queue : Nat → Int32} {a_before : Nat → Int32} {a_edge : Nat → Int32} {a_leads : Nat → Int64} {a_comes : Nat → Int32} {a_group : Nat → Int32} {a_later : Nat → Int32} {a_goes : Nat → Int32} {a_shows : Nat → Int32}
theorem xw_witness65 (w : WF c) {j lo : Nat} (hj : j < cN c) (ht : TBL c 99 false a_table (cN c)) {post : Int32 → SX → Prop} (h : ∀ r, WT c j lo r → post r (nI (cN c), nI (cS c), nI (cR c), f_now, f_right, f_levelsKnown, f_head, f_tail, f_met, f_comesKnown, f_entry, f_round, xK c, xO c, xF c, xA c, xG c, xB c, a_table, a_saved, a_matters, a_cubes, a_levels, a_edgeFlow, a_netFlow, a_queue, a_before, a_edge, a_leads, a_comes, a_group, a_later, a_goes, a_shows)) :
    ∀ d v n x4, v + d + 1 = cL c → d < n → lo < 64 * v + 64 → (∀ b, b < 64 → lb x4 b = (decide (lo ≤ 64 * v + b) && (decide (64 * v + b < 2 ^ cS c) && EV c (64 * v + b) j))) → (∀ a, lo ≤ a → a < 64 * v → EV c a j = false) →
      wX_witness_65 post (nI j) (nI (cN c)) (nI (cS c)) (nI (cR c)) f_now f_right f_levelsKnown f_head f_tail f_met f_comesKnown f_entry f_round (xK c) (xO c) (xF c) (xA c) (xG c) (xB c) a_table a_saved a_matters a_cubes a_levels a_edgeFlow a_netFlow a_queue a_before a_edge a_leads a_comes a_group a_later a_goes a_shows n x4 (nI v) := by
  have hN := wf_N w
  have hL := cL_le w
  have hit : ∀ v x4, v < cL c → (∀ b, b < 64 → lb x4 b = (decide (lo ≤ 64 * v + b) && (decide (64 * v + b < 2 ^ cS c) && EV c (64 * v + b) j))) → (∀ a, lo ≤ a → a < 64 * v → EV c a j = false) → ¬ x4 = 0 → wX_witness_103 post x4 (nI v) (nI (cN c)) (nI (cS c)) (nI (cR c)) f_now f_right f_levelsKnown f_head f_tail f_met f_comesKnown f_entry f_round (xK c) (xO c) (xF c) (xA c) (xG c) (xB c) a_table a_saved a_matters a_cubes a_levels a_edgeFlow a_netFlow a_queue a_before a_edge a_leads a_comes a_group a_later a_goes a_shows := by
    intro v x4 hv h1 h2 h0
    obtain ⟨b, ⟨hb, hb1⟩, hmin⟩ := pk_least (fun i => i < 64 ∧ lb x4 i = true) (lb_ne0.mp h0)
    unfold wX_witness_103
    refine br_f h0 (xw_lowest hb hb1 (fun i hi => ?_) ?_)
    · have := hmin i hi
      cases e : lb x4 i
      · rfl
      · exact absurd ⟨by omega, e⟩ this
    · rw [gw_Lmul, nI_add]
      have hq := h1 b hb
      rw [hb1] at hq
      have hq1 : lo ≤ 64 * v + b ∧ 64 * v + b < 2 ^ cS c ∧ EV c (64 * v + b) j = true := by simpa using hq.symm
      refine h _ (Or.inl ⟨64 * v + b, hq1.1, hq1.2.1, hq1.2.2, fun a' l1 l2 => ?_, rfl⟩)
      by_cases e : a' < 64 * v
      · exact h2 a' l1 e
      · have hm := hmin (a' - 64 * v) (by omega)
        have hp := h1 (a' - 64 * v) (by omega)
        rw [show 64 * v + (a' - 64 * v) = a' by omega, decide_eq_true l1, decide_eq_true (show a' < 2 ^ cS c by omega)] at hp
        cases e2 : EV c a' j
        · rfl
        · rw [e2] at hp
          exact absurd ⟨by omega, hp⟩ hm
  intro d
  induction d with
  | zero =>
    intro v n x4 hv hn hlo h1 h2
    obtain ⟨m, rfl⟩ : ∃ m, n = m + 1 := ⟨n - 1, by omega⟩
    unfold wX_witness_65
    refine br_c (fun h0 => ?_) (fun h0 => hit v x4 (by omega) h1 h2 h0)
    refine xw_length w (br_t ?_ ?_)
    · rw [nI_1]; exact nI_le (by omega) (by omega)
    · unfold wX_witness_103
      refine br_t h0 (h _ (Or.inr ⟨fun a l1 l2 => ?_, rfl⟩))
      have l3 := cL_up l2
      by_cases e : a < 64 * v
      · exact h2 a l1 e
      · have hp := h1 (a - 64 * v) (by omega)
        rw [h0, lb_0, show 64 * v + (a - 64 * v) = a by omega, decide_eq_true l1, decide_eq_true l2] at hp
        simpa using hp.symm
  | succ d ih =>
    intro v n x4 hv hn hlo h1 h2
    obtain ⟨m, rfl⟩ : ∃ m, n = m + 1 := ⟨n - 1, by omega⟩
    unfold wX_witness_65
    refine br_c (fun h0 => ?_) (fun h0 => hit v x4 (by omega) h1 h2 h0)
    refine xw_length w (br_f ?_ (nm_r (nI_1 v) ?_))
    · rw [nI_1]; exact nI_ge (by omega) (by omega)
    rw [gw_Lmul, nI_add, gw_cl (by omega)]
    refine ⟨vp_in_nI (by omega) (by omega), nm_e ?_⟩
    have h3 : ∀ a, lo ≤ a → a < 64 * (v + 1) → EV c a j = false := by
      intro a l1 l2
      by_cases e : a < 64 * v
      · exact h2 a l1 e
      · have hp := h1 (a - 64 * v) (by omega)
        have hS : 64 * cL c = 2 ^ cS c := by
          apply cL_big
          apply Classical.byContradiction
          intro z
          have := cL_small (c := c) (by omega)
          omega
        rw [h0, lb_0, show 64 * v + (a - 64 * v) = a by omega, decide_eq_true l1, decide_eq_true (by omega)] at hp
        simpa using hp.symm
    refine ih (v + 1) m _ (by omega) (by omega) (by omega) (fun b hb => ?_) h3
    rw [ht j hj (v + 1) (by omega) b hb, decide_eq_true (show lo ≤ 64 * (v + 1) + b by omega), Bool.true_and]
    rfl
theorem xw_witness33 (w : WF c) {j lo : Nat} (hj : j < cN c) (hlo : lo < 2 ^ cS c) (ht : TBL c 99 false a_table (cN c)) {post : Int32 → SX → Prop} (h : ∀ r, WT c j lo r → post r (nI (cN c), nI (cS c), nI (cR c), f_now, f_right, f_levelsKnown, f_head, f_tail, f_met, f_comesKnown, f_entry, f_round, xK c, xO c, xF c, xA c, xG c, xB c, a_table, a_saved, a_matters, a_cubes, a_levels, a_edgeFlow, a_netFlow, a_queue, a_before, a_edge, a_leads, a_comes, a_group, a_later, a_goes, a_shows)) : wX_witness_33 post (nI j) (nI lo) (nI (cN c)) (nI (cS c)) (nI (cR c)) f_now f_right f_levelsKnown f_head f_tail f_met f_comesKnown f_entry f_round (xK c) (xO c) (xF c) (xA c) (xG c) (xB c) a_table a_saved a_matters a_cubes a_levels a_edgeFlow a_netFlow a_queue a_before a_edge a_leads a_comes a_group a_later a_goes a_shows := by
  have hN := wf_N w
  have hL := cL_le w
  have hS := gw_p2 (wf_S w)
  have hv := cL_in hlo
  unfold wX_witness_33
  rw [gw_shr6 (by omega), gw_and63 _ (by omega), gw_Lmul, nI_add, gw_cl (by omega)]
  refine ⟨vp_in_nI (by omega) (by omega), nm_e (nm_e ?_)⟩
  refine ⟨cL c + 1, xw_witness65 w hj ht h (cL c - lo / 64 - 1) (lo / 64) _ _ (by omega) (by omega) (by omega) (fun b hb => ?_) (fun a l1 l2 => by omega)⟩
  rw [lb_and, ht j hj (lo / 64) hv b hb, lb_shl (by omega) _ hb]
  by_cases e : lo ≤ 64 * (lo / 64) + b
  · rw [decide_eq_true e, decide_eq_true (show lo % 64 ≤ b by omega), lb_m1 (by omega), Bool.and_true, Bool.and_true, Bool.true_and]
    rfl
  · rw [decide_eq_false e, decide_eq_false (show ¬ lo % 64 ≤ b by omega)]
    simp
theorem xm_witness (w : WF c) {now : Nat} {u : SX} (hX : XR c now u) {j : Nat} (hj : j < cN c) {p : Int32} {lo : Nat} (hp : (p < 0 ∧ lo = 0) ∨ p = nI lo) (hlo : lo < 2 ^ cS c) {post : Int32 → SX → Prop} (h : ∀ u' r, XR c now u' → WT c j lo r → post r u') : wpX_witness post u (nI j) p := by
  have hN := wf_N w
  have hS := wf_S w
  have hS2 := gw_p2 hS
  refine xr_el (P := fun u => wpX_witness post u (nI j) p) hX ?_
  intro r f_levelsKnown f_head f_tail f_met f_comesKnown f_entry f_round a_table a_saved a_matters a_cubes a_levels a_edgeFlow a_netFlow a_queue a_before a_edge a_leads a_comes a_group a_later a_goes a_shows hr ht hl hc
  dsimp only [wpX_witness]
  refine xw_isNet_t w hj (br_f (by decide) ?_)
  rw [gw_1shl (by omega)]
  have hlt : p < nI (2 ^ cS c) := by
    rcases hp with ⟨hp, _⟩ | rfl
    · exact Int32.lt_of_lt_of_le hp (nI_pos' (by omega))
    · exact nI_lt hlo (by omega)
  refine br_t hlt (xw_learn w hr ht (fun t ht' => ?_))
  dsimp only
  rcases hp with ⟨hp, rfl⟩ | rfl
  · exact br_f (Int32.not_le.mpr hp) (xw_witness33 w hj hlo ht' (fun r hr => h _ r (xr_in (Nat.le_refl _) ht' hl hc) hr))
  · exact br_t (nI_pos' (by omega)) (xw_witness33 w hj hlo ht' (fun r hr => h _ r (xr_in (Nat.le_refl _) ht' hl hc) hr))
theorem xm_witness_no (w : WF c) {now : Nat} {u : SX} (hX : XR c now u) {j : Nat} (hj : j < cN c) {p : Int32} (hp : nI (2 ^ cS c) ≤ p) {post : Int32 → SX → Prop} (h : ∀ u', XR c now u' → post (-1) u') : wpX_witness post u (nI j) p := by
  have hS := wf_S w
  have hu := h u hX
  revert hu
  refine xr_el (P := fun u => post (-1) u → wpX_witness post u (nI j) p) hX ?_
  intro r f_levelsKnown f_head f_tail f_met f_comesKnown f_entry f_round a_table a_saved a_matters a_cubes a_levels a_edgeFlow a_netFlow a_queue a_before a_edge a_leads a_comes a_group a_later a_goes a_shows hr ht hl hc hu
  dsimp only [wpX_witness]
  refine xw_isNet_t w hj (br_f (by decide) ?_)
  rw [gw_1shl (by omega)]
  exact br_f (Int32.not_lt.mpr hp) hu
theorem xw_same24 (w : WF c) {i j : Nat} (hi : i < cN c) (hj : j < cN c) (ht : TBL c 99 false a_table (cN c)) {post : Int32 → SX → Prop} (h : ∀ r, BA (∀ a, a < 2 ^ cS c → EV c a i = EV c a j) r → post r (nI (cN c), nI (cS c), nI (cR c), f_now, f_right, f_levelsKnown, f_head, f_tail, f_met, f_comesKnown, f_entry, f_round, xK c, xO c, xF c, xA c, xG c, xB c, a_table, a_saved, a_matters, a_cubes, a_levels, a_edgeFlow, a_netFlow, a_queue, a_before, a_edge, a_leads, a_comes, a_group, a_later, a_goes, a_shows)) :
    ∀ d v n, v + d = cL c → d < n → (∀ a, a < 64 * v → a < 2 ^ cS c → EV c a i = EV c a j) → wX_same_24 post (nI i) (nI j) (nI (cN c)) (nI (cS c)) (nI (cR c)) f_now f_right f_levelsKnown f_head f_tail f_met f_comesKnown f_entry f_round (xK c) (xO c) (xF c) (xA c) (xG c) (xB c) a_table a_saved a_matters a_cubes a_levels a_edgeFlow a_netFlow a_queue a_before a_edge a_leads a_comes a_group a_later a_goes a_shows n (nI v) := by
  have hN := wf_N w
  have hL := cL_le w
  intro d
  induction d with
  | zero =>
    intro v n hv hn h1
    obtain ⟨m, rfl⟩ : ∃ m, n = m + 1 := ⟨n - 1, by omega⟩
    unfold wX_same_24
    refine xw_length w (br_t (nI_le (by omega) (by omega)) (h _ (Or.inl ⟨rfl, fun a ha => ?_⟩)))
    have := cL_up ha
    exact h1 a (by omega) ha
  | succ d ih =>
    intro v n hv hn h1
    obtain ⟨m, rfl⟩ : ∃ m, n = m + 1 := ⟨n - 1, by omega⟩
    unfold wX_same_24
    refine xw_length w (br_f (nI_ge (by omega) (by omega)) ?_)
    rw [gw_Lmul, gw_Lmul, nI_add, nI_add, gw_cl (by omega), gw_cl (by omega)]
    refine ⟨vp_in_nI (by omega) (by omega), vp_in_nI (by omega) (by omega), br_c (fun e => nm_r (nI_1 v) ?_) (fun e => ?_)⟩
    · refine ih (v + 1) m (by omega) (by omega) (fun a l1 l2 => ?_)
      by_cases e2 : a < 64 * v
      · exact h1 a e2 l2
      · have p1 := ht i hi v (by omega) (a - 64 * v) (by omega)
        have p2 := ht j hj v (by omega) (a - 64 * v) (by omega)
        rw [e, p2, show 64 * v + (a - 64 * v) = a by omega, decide_eq_true l2, Bool.true_and, Bool.true_and] at p1
        exact p1.symm
    · refine h _ (Or.inr ⟨rfl, fun hall => e ?_⟩)
      apply lb_ext
      intro b hb
      rw [ht i hi v (by omega) b hb, ht j hj v (by omega) b hb]
      by_cases e2 : 64 * v + b < 2 ^ cS c
      · have := hall (64 * v + b) e2
        unfold EV at this
        unfold EVF
        rw [this]
      · rw [decide_eq_false e2, Bool.false_and, Bool.false_and]
theorem xm_same (w : WF c) {now : Nat} {u : SX} (hX : XR c now u) {i j : Nat} (hi : i < cN c) (hj : j < cN c) {post : Int32 → SX → Prop} (h : ∀ u' r, XR c now u' → BA (∀ a, a < 2 ^ cS c → EV c a i = EV c a j) r → post r u') : wpX_same post u (nI i) (nI j) := by
  refine xr_el (P := fun u => wpX_same post u (nI i) (nI j)) hX ?_
  intro r f_levelsKnown f_head f_tail f_met f_comesKnown f_entry f_round a_table a_saved a_matters a_cubes a_levels a_edgeFlow a_netFlow a_queue a_before a_edge a_leads a_comes a_group a_later a_goes a_shows hr ht hl hc
  dsimp only [wpX_same]
  refine xw_isNet_t w hi (br_f (by decide) (xw_isNet_t w hj (br_f (by decide) ?_)))
  refine xw_learn w hr ht (fun t ht' => ?_)
  dsimp only
  exact ⟨cL c + 1, xw_same24 w hi hj ht' (fun r hr => h _ r (xr_in (Nat.le_refl _) ht' hl hc) hr) (cL c) 0 _ (by omega) (by omega) (fun a ha => by omega)⟩
end
end
section
/-! ===== Y: value, count, witness, same ===== -/
section
variable {c : CK} {a_first : Nat → Int32} {a_second : Nat → Int32} {a_third : Nat → Int32} {a_now : Nat → Int32} {a_at : Nat → Int32} {a_other : Nat → Int32} {a_source : Nat → Int32} {a_register : Nat → Int32} {a_level : Nat → Int32} {a_soon : Nat → Int32} {a_depend : Nat → Int32} {a_table : Nat → Int32} {a_marked : Nat → Int32} {a_after : Nat → Int32} {a_shows : Nat → Int32} {a_apart : Nat → Int32}
theorem ym_value (w : WF c) {now : Nat} {v : SY} (hv : YR c now v) {j : Nat} (hj : j < cN c) {post : Int32 → SY → Prop} (h : ∀ v', YR c now v' → post (nI (EV c now j).toNat) v') : wpY_value post v (nI j) := by
  have hN := wf_N w
  refine yr_el (P := fun v => wpY_value post v (nI j)) hv ?_
  intro a_first a_second a_third a_now a_at a_other a_source a_register a_level a_soon a_depend a_table a_marked a_after a_shows a_apart hY hn
  dsimp only [wpY_value]
  refine yw_isNet_t w hj (br_f (by decide) ?_)
  refine yw_present w hY hn (fun t ht => ?_)
  dsimp only
  rw [gw_cl (by omega), ht j hj]
  refine ⟨vp_in_nI (by omega) (by omega), br_c (fun e => ?_) (fun e => ?_)⟩
  · rw [gw_bt] at e
    rw [e] at h
    exact h _ (yr_in hY hn)
  · rw [gw_bt] at e
    rw [ts_nf e] at h
    exact h _ (yr_in hY hn)
theorem yw_count14 (w : WF c) (hY : YS c a_first a_second a_third a_source a_register) {j : Nat} (hj : j < cN c) {post : Int32 → SY → Prop} (h : ∀ t, post (nI (cnt (fun a => EV c a j) (2 ^ cS c))) (nI (cN c), nI (cS c), nI (cR c), xK c, a_first, a_second, a_third, xF c, a_now, t, a_other, a_source, a_register, a_level, a_soon, a_depend, a_table, a_marked, a_after, a_shows, a_apart)) :
    ∀ d a n t, a + d = 2 ^ cS c → d < n → wY_count_14 post (nI j) n (nI (cnt (fun a => EV c a j) a)) (nI a) (nI (cN c)) (nI (cS c)) (nI (cR c)) (xK c) a_first a_second a_third (xF c) a_now t a_other a_source a_register a_level a_soon a_depend a_table a_marked a_after a_shows a_apart := by
  have hN := wf_N w
  have hS := wf_S w
  have hS2 := gw_p2 hS
  intro d
  induction d with
  | zero =>
    intro a n t ha hn
    obtain ⟨m, rfl⟩ : ∃ m, n = m + 1 := ⟨n - 1, by omega⟩
    have : a = 2 ^ cS c := by omega
    subst this
    unfold wY_count_14
    rw [gw_1shl (by omega)]
    exact br_t (nI_le (Nat.le_refl _) (by omega)) (h t)
  | succ d ih =>
    intro a n t ha hn
    obtain ⟨m, rfl⟩ : ∃ m, n = m + 1 := ⟨n - 1, by omega⟩
    unfold wY_count_14
    rw [gw_1shl (by omega)]
    refine br_f (nI_ge (by omega) (by omega)) (yw_assign w hY (by omega) (fun t' ht' => ?_))
    dsimp only
    rw [gw_cl (by omega), ht' j hj]
    have hi := ih (a + 1) m t' (by omega) (by omega)
    rw [cnt_s] at hi
    refine ⟨vp_in_nI (by omega) (by omega), br_c (fun e => nm_r (nI_1 a) ?_) (fun e => nm_r (nI_1 _) (nm_r (nI_1 a) ?_))⟩
    · rw [gw_bt] at e
      rw [e] at hi
      exact hi
    · rw [gw_bt] at e
      rw [ts_nf e] at hi
      exact hi
theorem ym_count (w : WF c) {now : Nat} {v : SY} (hv : YR c now v) {j : Nat} (hj : j < cN c) {post : Int32 → SY → Prop} (h : ∀ v', YR c now v' → post (nI (cnt (fun a => EV c a j) (2 ^ cS c))) v') : wpY_count post v (nI j) := by
  refine yr_el (P := fun v => wpY_count post v (nI j)) hv ?_
  intro a_first a_second a_third a_now a_at a_other a_source a_register a_level a_soon a_depend a_table a_marked a_after a_shows a_apart hY hn
  dsimp only [wpY_count]
  refine yw_isNet_t w hj (br_f (by decide) ?_)
  exact ⟨2 ^ cS c + 1, yw_count14 w hY hj (fun t => h _ (yr_in hY hn)) (2 ^ cS c) 0 _ a_at (by omega) (by omega)⟩
theorem yw_witness20 (w : WF c) (hY : YS c a_first a_second a_third a_source a_register) {j lo : Nat} (hj : j < cN c) {post : Int32 → SY → Prop} (h : ∀ t r, WT c j lo r → post r (nI (cN c), nI (cS c), nI (cR c), xK c, a_first, a_second, a_third, xF c, a_now, t, a_other, a_source, a_register, a_level, a_soon, a_depend, a_table, a_marked, a_after, a_shows, a_apart)) :
    ∀ d a n t, lo ≤ a → a + d = 2 ^ cS c → d < n → (∀ b, lo ≤ b → b < a → EV c b j = false) → wY_witness_20 post (nI j) n (nI a) (nI (cN c)) (nI (cS c)) (nI (cR c)) (xK c) a_first a_second a_third (xF c) a_now t a_other a_source a_register a_level a_soon a_depend a_table a_marked a_after a_shows a_apart := by
  have hN := wf_N w
  have hS := wf_S w
  have hS2 := gw_p2 hS
  intro d
  induction d with
  | zero =>
    intro a n t hl ha hn h1
    obtain ⟨m, rfl⟩ : ∃ m, n = m + 1 := ⟨n - 1, by omega⟩
    unfold wY_witness_20
    rw [gw_1shl (by omega)]
    exact br_t (nI_le (by omega) (by omega)) (h t _ (Or.inr ⟨fun b l1 l2 => h1 b l1 (by omega), rfl⟩))
  | succ d ih =>
    intro a n t hl ha hn h1
    obtain ⟨m, rfl⟩ : ∃ m, n = m + 1 := ⟨n - 1, by omega⟩
    unfold wY_witness_20
    rw [gw_1shl (by omega)]
    refine br_f (nI_ge (by omega) (by omega)) (yw_assign w hY (by omega) (fun t' ht' => ?_))
    dsimp only
    rw [gw_cl (by omega), ht' j hj]
    refine ⟨vp_in_nI (by omega) (by omega), br_c (fun e => nm_r (nI_1 a) ?_) (fun e => ?_)⟩
    · rw [gw_bt] at e
      refine ih (a + 1) m t' (by omega) (by omega) (by omega) (fun b l1 l2 => ?_)
      by_cases q : b = a
      · rw [q, e]
      · exact h1 b l1 (by omega)
    · rw [gw_bt] at e
      exact h t' _ (Or.inl ⟨a, hl, by omega, ts_nf e, h1, rfl⟩)
theorem ym_witness (w : WF c) {now : Nat} {v : SY} (hv : YR c now v) {j : Nat} (hj : j < cN c) {p : Int32} {lo : Nat} (hp : (p < 0 ∧ lo = 0) ∨ p = nI lo) (hlo : lo < 2 ^ cS c) {post : Int32 → SY → Prop} (h : ∀ v' r, YR c now v' → WT c j lo r → post r v') : wpY_witness post v (nI j) p := by
  have hS2 := gw_p2 (wf_S w)
  refine yr_el (P := fun v => wpY_witness post v (nI j) p) hv ?_
  intro a_first a_second a_third a_now a_at a_other a_source a_register a_level a_soon a_depend a_table a_marked a_after a_shows a_apart hY hn
  dsimp only [wpY_witness]
  refine yw_isNet_t w hj (br_f (by decide) ?_)
  rcases hp with ⟨hp, rfl⟩ | rfl
  · exact br_f (Int32.not_le.mpr hp) ⟨2 ^ cS c + 1, yw_witness20 w hY hj (fun t r hr => h _ r (yr_in hY hn) hr) (2 ^ cS c) 0 _ a_at (by omega) (by omega) (by omega) (fun b l1 l2 => by omega)⟩
  · exact br_t (nI_pos' (by omega)) ⟨2 ^ cS c + 1, yw_witness20 w hY hj (fun t r hr => h _ r (yr_in hY hn) hr) (2 ^ cS c - lo) lo _ a_at (by omega) (by omega) (by omega) (fun b l1 l2 => by omega)⟩
theorem ym_witness_no (w : WF c) {now : Nat} {v : SY} (hv : YR c now v) {j : Nat} (hj : j < cN c) {p : Int32} (hp : nI (2 ^ cS c) ≤ p) {post : Int32 → SY → Prop} (h : ∀ v', YR c now v' → post (-1) v') : wpY_witness post v (nI j) p := by
  have hS := wf_S w
  have hS2 := gw_p2 (wf_S w)
  refine yr_el (P := fun v => wpY_witness post v (nI j) p) hv ?_
  intro a_first a_second a_third a_now a_at a_other a_source a_register a_level a_soon a_depend a_table a_marked a_after a_shows a_apart hY hn
  dsimp only [wpY_witness]
  refine yw_isNet_t w hj (br_f (by decide) ?_)
  refine br_t (Int32.le_trans (nI_pos' (by omega)) hp) ⟨1, ?_⟩
  unfold wY_witness_20
  rw [gw_1shl (by omega)]
  exact br_t hp (h _ (yr_in hY hn))
theorem yw_same20 (w : WF c) (hY : YS c a_first a_second a_third a_source a_register) {i j : Nat} (hi : i < cN c) (hj : j < cN c) {post : Int32 → SY → Prop} (h : ∀ t r, BA (∀ a, a < 2 ^ cS c → EV c a i = EV c a j) r → post r (nI (cN c), nI (cS c), nI (cR c), xK c, a_first, a_second, a_third, xF c, a_now, t, a_other, a_source, a_register, a_level, a_soon, a_depend, a_table, a_marked, a_after, a_shows, a_apart)) :
    ∀ d a n t, a + d = 2 ^ cS c → d < n → (∀ b, b < a → EV c b i = EV c b j) → wY_same_20 post (nI i) (nI j) n (nI a) (nI (cN c)) (nI (cS c)) (nI (cR c)) (xK c) a_first a_second a_third (xF c) a_now t a_other a_source a_register a_level a_soon a_depend a_table a_marked a_after a_shows a_apart := by
  have hN := wf_N w
  have hS := wf_S w
  have hS2 := gw_p2 hS
  intro d
  induction d with
  | zero =>
    intro a n t ha hn h1
    obtain ⟨m, rfl⟩ : ∃ m, n = m + 1 := ⟨n - 1, by omega⟩
    unfold wY_same_20
    rw [gw_1shl (by omega)]
    exact br_t (nI_le (by omega) (by omega)) (h t _ (Or.inl ⟨rfl, fun b l2 => h1 b (by omega)⟩))
  | succ d ih =>
    intro a n t ha hn h1
    obtain ⟨m, rfl⟩ : ∃ m, n = m + 1 := ⟨n - 1, by omega⟩
    unfold wY_same_20
    rw [gw_1shl (by omega)]
    refine br_f (nI_ge (by omega) (by omega)) (yw_assign w hY (by omega) (fun t' ht' => ?_))
    dsimp only
    rw [gw_cl (by omega), gw_cl (by omega), ht' i hi, ht' j hj]
    refine ⟨vp_in_nI (by omega) (by omega), vp_in_nI (by omega) (by omega), br_c (fun e => nm_r (nI_1 a) ?_) (fun e => ?_)⟩
    · rw [gw_beq] at e
      refine ih (a + 1) m t' (by omega) (by omega) (fun b l2 => ?_)
      by_cases q : b = a
      · rw [q, e]
      · exact h1 b (by omega)
    · rw [gw_beq] at e
      exact h t' _ (Or.inr ⟨rfl, fun z => e (z a (by omega))⟩)
theorem ym_same (w : WF c) {now : Nat} {v : SY} (hv : YR c now v) {i j : Nat} (hi : i < cN c) (hj : j < cN c) {post : Int32 → SY → Prop} (h : ∀ v' r, YR c now v' → BA (∀ a, a < 2 ^ cS c → EV c a i = EV c a j) r → post r v') : wpY_same post v (nI i) (nI j) := by
  refine yr_el (P := fun v => wpY_same post v (nI i) (nI j)) hv ?_
  intro a_first a_second a_third a_now a_at a_other a_source a_register a_level a_soon a_depend a_table a_marked a_after a_shows a_apart hY hn
  dsimp only [wpY_same]
  refine yw_isNet_t w hi (br_f (by decide) (yw_isNet_t w hj (br_f (by decide) ?_)))
  exact ⟨2 ^ cS c + 1, yw_same20 w hY hi hj (fun t r hr => h _ r (yr_in hY hn) hr) (2 ^ cS c) 0 _ a_at (by omega) (by omega) (fun b hb => by omega)⟩
end
end
section
/-! ===== X: depends, tests ===== -/
def DEP (c : CK) (j s : Nat) : Prop := ∃ a, a < 2 ^ cS c ∧ a.testBit s = false ∧ EV c a j ≠ EV c (a ||| 2 ^ s) j
theorem or_addt {a s : Nat} (h : a.testBit s = false) : a ||| 2 ^ s = a + 2 ^ s := by
  have h1 : a / 2 ^ s % 2 = 0 := by
    rw [Nat.testBit_eq_decide_div_mod_eq] at h
    have := of_decide_eq_false h
    omega
  have h2 : a % 2 ^ (s + 1) < 2 ^ s := by
    rw [Nat.mod_pow_succ, h1, Nat.mul_zero, Nat.add_zero]
    exact Nat.mod_lt _ (Nat.two_pow_pos s)
  have h3 : a = 2 ^ (s + 1) * (a / 2 ^ (s + 1)) + a % 2 ^ (s + 1) := (Nat.div_add_mod _ _).symm
  have h4 : 2 ^ (s + 1) = 2 ^ s + 2 ^ s := by rw [Nat.pow_succ]; omega
  generalize a / 2 ^ (s + 1) = q at h3
  generalize a % 2 ^ (s + 1) = r at h2 h3
  subst h3
  apply Nat.eq_of_testBit_eq
  intro i
  rw [Nat.testBit_or, Nat.testBit_two_pow, Nat.add_assoc, Nat.testBit_two_pow_mul_add _ (by omega), Nat.testBit_two_pow_mul_add _ (by omega)]
  by_cases hi : i < s + 1
  · rw [if_pos hi, if_pos hi, ← Nat.or_two_pow_eq_add_of_lt h2, Nat.testBit_or, Nat.testBit_two_pow]
  · rw [if_neg hi, if_neg hi, decide_eq_false (by omega), Bool.or_false]
theorem or_lt {a s n : Nat} (ha : a < 2 ^ n) (hs : s < n) : a ||| 2 ^ s < 2 ^ n := Nat.or_lt_two_pow ha (Nat.pow_lt_pow_right (by decide) hs)
theorem or_ne0 {x z : Int64} : x ||| z ≠ 0 ↔ x ≠ 0 ∨ ∃ b, b < 64 ∧ lb z b = true := by
  rw [lb_ne0, lb_ne0]
  constructor
  · rintro ⟨i, hi, e⟩
    rw [lb_or] at e
    cases h : lb x i
    · rw [h, Bool.false_or] at e
      exact Or.inr ⟨i, hi, e⟩
    · exact Or.inl ⟨i, hi, h⟩
  · rintro (⟨i, hi, e⟩ | ⟨i, hi, e⟩)
    · exact ⟨i, hi, by rw [lb_or, e, Bool.true_or]⟩
    · exact ⟨i, hi, by rw [lb_or, e, Bool.or_true]⟩
/-- an assignment shows that a net depends on a source -/
def dpa (c : CK) (j s a : Nat) : Bool := (decide (a < 2 ^ cS c) && !(a.testBit s)) && (EV c a j ^^ EV c (a ||| 2 ^ s) j)
theorem dpa_dep {c : CK} {j s : Nat} : DEP c j s ↔ ∃ a, dpa c j s a = true := by
  unfold DEP dpa
  constructor
  · rintro ⟨a, h1, h2, h3⟩
    refine ⟨a, ?_⟩
    rw [decide_eq_true h1, h2]
    cases e1 : EV c a j <;> cases e2 : EV c (a ||| 2 ^ s) j <;> simp_all
  · rintro ⟨a, h⟩
    simp only [Bool.and_eq_true, decide_eq_true_eq, Bool.not_eq_true'] at h
    refine ⟨a, h.1.1, h.1.2, fun z => ?_⟩
    rw [z] at h
    simp at h
section
variable {c : CK} {f_now : Int32} {f_right : Int32} {f_levelsKnown : Int32} {f_head : Int32} {f_tail : Int32} {f_met : Int64} {f_comesKnown : Int32} {f_entry : Int32} {f_round : Int32} {a_table : Nat → Int64} {a_saved : Nat → Int64} {a_matters : Nat → Int32} {a_cubes : Nat → Int64} {a_levels : Nat → Int32} {a_edgeFlow : Nat → Int32} {a_netFlow : Nat → Int32} {a_queue : Nat → Int32} {a_before : Nat → Int32} {a_edge : Nat → Int32} {a_leads : Nat → Int64} {a_comes : Nat → Int32} {a_group : Nat → Int32} {a_later : Nat → Int32} {a_goes : Nat → Int32} {a_shows : Nat → Int32}
theorem xw_dep30 (w : WF c) {j s : Nat} (hj : j < cN c) (hs : s < cS c) (ht : TBL c 99 false a_table (cN c)) {post : Int32 → SX → Prop} (h : ∀ r, BA (DEP c j s) r → post r (nI (cN c), nI (cS c), nI (cR c), f_now, f_right, f_levelsKnown, f_head, f_tail, f_met, f_comesKnown, f_entry, f_round, xK c, xO c, xF c, xA c, xG c, xB c, a_table, a_saved, a_matters, a_cubes, a_levels, a_edgeFlow, a_netFlow, a_queue, a_before, a_edge, a_leads, a_comes, a_group, a_later, a_goes, a_shows)) :
    ∀ d v n x4, v + d = cL c → d < n → (x4 ≠ 0 ↔ ∃ a, a < 64 * v ∧ dpa c j s a = true) → wX_depends_30 post (nI j) (nI s) (nI (cN c)) (nI (cS c)) (nI (cR c)) f_now f_right f_levelsKnown f_head f_tail f_met f_comesKnown f_entry f_round (xK c) (xO c) (xF c) (xA c) (xG c) (xB c) a_table a_saved a_matters a_cubes a_levels a_edgeFlow a_netFlow a_queue a_before a_edge a_leads a_comes a_group a_later a_goes a_shows n x4 (nI v) := by
  have hN := wf_N w
  have hL := cL_le w
  have hS := wf_S w
  have nxt : ∀ v x4 z, (x4 ≠ 0 ↔ ∃ a, a < 64 * v ∧ dpa c j s a = true) → (∀ b, b < 64 → lb z b = dpa c j s (64 * v + b)) → (x4 ||| z ≠ 0 ↔ ∃ a, a < 64 * (v + 1) ∧ dpa c j s a = true) := by
    intro v x4 z h1 h2
    rw [or_ne0, h1]
    constructor
    · rintro (⟨a, l, e⟩ | ⟨b, l, e⟩)
      · exact ⟨a, by omega, e⟩
      · exact ⟨64 * v + b, by omega, by rw [← h2 b l]; exact e⟩
    · rintro ⟨a, l, e⟩
      by_cases q : a < 64 * v
      · exact Or.inl ⟨a, q, e⟩
      · exact Or.inr ⟨a - 64 * v, by omega, by rw [h2 _ (by omega), show 64 * v + (a - 64 * v) = a by omega]; exact e⟩
  intro d
  induction d with
  | zero =>
    intro v n x4 hv hn h1
    obtain ⟨m, rfl⟩ : ∃ m, n = m + 1 := ⟨n - 1, by omega⟩
    unfold wX_depends_30
    refine xw_length w (br_t (nI_le (by omega) (by omega)) (br_c (fun e => h _ (Or.inr ⟨rfl, fun z => ?_⟩)) (fun e => h _ (Or.inl ⟨rfl, ?_⟩))))
    · obtain ⟨a, ha⟩ := dpa_dep.mp z
      have hlt : a < 2 ^ cS c := by
        unfold dpa at ha
        simp only [Bool.and_eq_true, decide_eq_true_eq] at ha
        exact ha.1.1
      have := cL_up hlt
      exact h1.mpr ⟨a, by omega, ha⟩ e
    · obtain ⟨a, _, ha⟩ := h1.mp e
      exact dpa_dep.mpr ⟨a, ha⟩
  | succ d ih =>
    intro v n x4 hv hn h1
    obtain ⟨m, rfl⟩ : ∃ m, n = m + 1 := ⟨n - 1, by omega⟩
    unfold wX_depends_30
    refine xw_length w (br_f (nI_ge (by omega) (by omega)) ?_)
    rw [gw_Lmul, nI_add, gw_cl (by omega)]
    refine ⟨vp_in_nI (by omega) (by omega), nm_e (pk_le 6 s (fun h6 => ?_) (fun h6 => ?_))⟩
    · have hbig : 64 * cL c = 2 ^ cS c := cL_big (by omega)
      have hLp : cL c = 2 ^ (cS c - 6) := by unfold cL; rw [if_neg (by omega)]
      have e1 : nI s - 6 = nI (s - 6) := gw_subL 6 s h6
      rw [e1, gw_bit (by omega) (by omega), gw_1shl (by omega), gw_or]
      have tb : ∀ b, b < 64 → (64 * v + b).testBit s = v.testBit (s - 6) := fun b hb => by
        rw [show 64 = 2 ^ 6 from rfl, Nat.testBit_two_pow_mul_add _ hb, if_neg (by omega)]
      refine br_c (fun e => ?_) (fun e => ?_)
      · rw [gw_bt] at e
        have hv2 : v ||| 2 ^ (s - 6) < cL c := by
          rw [hLp]
          exact or_lt (by omega) (by omega)
        rw [nI_add, gw_cl (by omega)]
        refine ⟨vp_in_nI (by omega) (by omega), nm_e (nm_r (nI_1 v) ?_)⟩
        refine ih (v + 1) m _ (by omega) (by omega) (nxt v x4 _ h1 (fun b hb => ?_))
        have e2 : 64 * (v ||| 2 ^ (s - 6)) + b = (64 * v + b) ||| 2 ^ s := by
          rw [or_addt e, or_addt (by rw [tb b hb]; exact e)]
          have : 2 ^ s = 64 * 2 ^ (s - 6) := by
            rw [show 64 = 2 ^ 6 from rfl, ← Nat.pow_add]
            congr 1
            omega
          omega
        rw [lb_xor, ht j hj v (by omega) b hb, ht j hj _ hv2 b hb, e2, decide_eq_true (show 64 * v + b < 2 ^ cS c by omega), decide_eq_true (by rw [← e2]; omega)]
        unfold dpa
        rw [decide_eq_true (show 64 * v + b < 2 ^ cS c by omega), tb b hb, e]
        rfl
      · rw [gw_bt] at e
        have e := ts_nf e
        refine nm_r (nI_1 v) (ih (v + 1) m _ (by omega) (by omega) ?_)
        have := nxt v x4 0 h1 (fun b hb => by
          rw [lb_0]
          unfold dpa
          rw [tb b hb, e]
          simp)
        rw [Int64.or_zero] at this
        exact this
    · have hp6 : 2 ^ s ≤ 2 ^ 5 := Nat.pow_le_pow_right (by decide) (by omega)
      refine xw_pattern (v := 0) (by omega) (by omega) (fun y hy => xw_valid w (fun z hz => nm_e (nm_r (nI_1 v) ?_)))
      refine ih (v + 1) m _ (by omega) (by omega) (nxt v x4 _ h1 (fun b hb => ?_))
      rw [gw_1shl (by omega), lb_and, lb_and, lb_not _ hb, lb_xor, lb_ushr (by omega), hy b hb, hz b hb, cL_dec (c := c) (v := v) (by omega) hb, ht j hj v (by omega) b hb]
      rw [Nat.mul_zero, Nat.zero_add]
      have tb : (64 * v + b).testBit s = b.testBit s := by
        rw [show 64 = 2 ^ 6 from rfl, Nat.testBit_two_pow_mul_add _ hb, if_pos (by omega)]
      unfold dpa
      rw [tb]
      by_cases hlt : 64 * v + b < 2 ^ cS c
      · cases e : b.testBit s
        · have e3 : b ||| 2 ^ s = b + 2 ^ s := or_addt e
          have hb2 : b ||| 2 ^ s < 2 ^ 6 := or_lt hb (by omega)
          have e4 : (64 * v + b) ||| 2 ^ s = 64 * v + (2 ^ s + b) := by
            rw [or_addt (by rw [tb]; exact e)]
            omega
          have hlt2 := or_lt (s := s) hlt hs
          rw [ht j hj v (by omega) (2 ^ s + b) (by omega), ← e4, decide_eq_true hlt, decide_eq_true hlt2]
          simp [EV, EVF]
        · simp
      · rw [decide_eq_false hlt]
        simp
theorem xw_depends (w : WF c) {j s r0 : Nat} (hj : j < cN c) (hs : s < cS c) (hr : r0 ≤ cN c) (ht : TBL c 99 false a_table r0) {post : Int32 → SX → Prop} (h : ∀ t r, TBL c 99 false t (cN c) → BA (DEP c j s) r → post r (nI (cN c), nI (cS c), nI (cR c), f_now, nI (cN c), f_levelsKnown, f_head, f_tail, f_met, f_comesKnown, f_entry, f_round, xK c, xO c, xF c, xA c, xG c, xB c, t, a_saved, a_matters, a_cubes, a_levels, a_edgeFlow, a_netFlow, a_queue, a_before, a_edge, a_leads, a_comes, a_group, a_later, a_goes, a_shows)) : wpX_depends post (nI (cN c), nI (cS c), nI (cR c), f_now, nI r0, f_levelsKnown, f_head, f_tail, f_met, f_comesKnown, f_entry, f_round, xK c, xO c, xF c, xA c, xG c, xB c, a_table, a_saved, a_matters, a_cubes, a_levels, a_edgeFlow, a_netFlow, a_queue, a_before, a_edge, a_leads, a_comes, a_group, a_later, a_goes, a_shows) (nI j) (nI (cA c s)) := by
  have hS := wf_S w
  dsimp only [wpX_depends]
  refine xw_sourceOf w hs (xw_isNet_t w hj (br_f (by decide) (br_t (nI_pos' (by omega)) ?_)))
  refine xw_learn w hr ht (fun t ht' => ?_)
  dsimp only
  refine ⟨cL c + 1, xw_dep30 w hj hs ht' (fun r hr => h t r ht' hr) (cL c) 0 _ _ (by omega) (by omega) ?_⟩
  constructor
  · intro z; exact absurd rfl z
  · rintro ⟨a, ha, _⟩; omega
theorem xm_depends (w : WF c) {now : Nat} {u : SX} (hX : XR c now u) {j s : Nat} (hj : j < cN c) (hs : s < cS c) {post : Int32 → SX → Prop} (h : ∀ u' r, XR c now u' → BA (DEP c j s) r → post r u') : wpX_depends post u (nI j) (nI (cA c s)) := by
  refine xr_el (P := fun u => wpX_depends post u (nI j) (nI (cA c s))) hX ?_
  intro r f_levelsKnown f_head f_tail f_met f_comesKnown f_entry f_round a_table a_saved a_matters a_cubes a_levels a_edgeFlow a_netFlow a_queue a_before a_edge a_leads a_comes a_group a_later a_goes a_shows hr ht hl hc
  exact xw_depends w hj hs hr ht (fun t x ht' hx => h _ x (xr_in (Nat.le_refl _) ht' hl hc) hx)
theorem xm_depends_no (w : WF c) {now : Nat} {u : SX} (hX : XR c now u) {p q : Int32} (hp : (p < 0 ∨ nI (cN c) ≤ p) ∨ (∀ i, i < cS c → ¬ nI (cA c i) = q)) {post : Int32 → SX → Prop} (h : post 0 u) : wpX_depends post u p q := by
  revert h
  refine xr_el (P := fun u => post 0 u → wpX_depends post u p q) hX ?_
  intro r f_levelsKnown f_head f_tail f_met f_comesKnown f_entry f_round a_table a_saved a_matters a_cubes a_levels a_edgeFlow a_netFlow a_queue a_before a_edge a_leads a_comes a_group a_later a_goes a_shows hr ht hl hc hu
  have hS := wf_S w
  dsimp only [wpX_depends]
  by_cases hq : ∀ i, i < cS c → ¬ nI (cA c i) = q
  · refine xw_sourceOf_no w hq ?_
    rcases pk_ix p (n := cN c) (by have := wf_N w; omega) with h1 | h1 | ⟨i, hi, rfl⟩
    · exact xw_isNet_f w (Or.inl h1) (br_t rfl hu)
    · exact xw_isNet_f w (Or.inr h1) (br_t rfl hu)
    · exact xw_isNet_t w hi (br_f (by decide) (br_f gw_m1le hu))
  · have hp' : p < 0 ∨ nI (cN c) ≤ p := by
      rcases hp with h1 | h1
      · exact h1
      · exact absurd h1 hq
    have : ∃ i, i < cS c ∧ nI (cA c i) = q := by
      apply Classical.byContradiction
      intro z
      apply hq
      intro i hi e
      exact z ⟨i, hi, e⟩
    obtain ⟨i, hi, rfl⟩ := this
    exact xw_sourceOf w hi (xw_isNet_f w hp' (br_t rfl hu))
end
end
section
/-! ===== X: tests ===== -/
/-- rows from n on still show the circuit with nothing forced -/
def OLD (c : CK) (t : Nat → Int64) (n : Nat) : Prop := ∀ m, n ≤ m → m < cN c → ROW c 99 false t m (cL c)
theorem evf_src {c : CK} (w : WF c) {f n a : Nat} {o : Bool} (hn : n < cN c) (hk : cK c n < 2) (h : n ≠ f) : EVF c f o a n = EV c a n := by
  have := wf_N w
  unfold EVF EV
  rw [ev_eq w hn, ev_eq w hn]
  unfold gv gv0
  rw [if_neg h, if_pos hk, if_neg (show ¬ n = 99 by omega), if_pos hk]
theorem evf_low {c : CK} (w : WF c) {f n a : Nat} {o : Bool} (hn : n < cN c) (h : n < f) : EVF c f o a n = EV c a n := by
  have := wf_N w
  exact ev_below w hn h (by omega)
theorem evf_at {c : CK} (w : WF c) {f a : Nat} {o : Bool} (hn : f < cN c) : EVF c f o a f = o := by
  unfold EVF
  rw [ev_eq w hn]
  unfold gv
  rw [if_pos rfl]
section
variable {c : CK} {f_now : Int32} {f_right : Int32} {f_levelsKnown : Int32} {f_head : Int32} {f_tail : Int32} {f_met : Int64} {f_comesKnown : Int32} {f_entry : Int32} {f_round : Int32} {a_table : Nat → Int64} {a_saved : Nat → Int64} {a_matters : Nat → Int32} {a_cubes : Nat → Int64} {a_levels : Nat → Int32} {a_edgeFlow : Nat → Int32} {a_netFlow : Nat → Int32} {a_queue : Nat → Int32} {a_before : Nat → Int32} {a_edge : Nat → Int32} {a_leads : Nat → Int64} {a_comes : Nat → Int32} {a_group : Nat → Int32} {a_later : Nat → Int32} {a_goes : Nat → Int32} {a_shows : Nat → Int32}
theorem xw_remake2 (w : WF c) {f : Nat} {o : Bool} {n : Nat} (hn : n < cN c) (hk : 2 ≤ cK c n) (hf : n ≠ f) {post : SX → Prop} (h : ∀ t, TBL c f o t (n + 1) → OLD c t (n + 1) → post (nI (cN c), nI (cS c), nI (cR c), f_now, f_right, f_levelsKnown, f_head, f_tail, f_met, f_comesKnown, f_entry, f_round, xK c, xO c, xF c, xA c, xG c, xB c, t, a_saved, a_matters, a_cubes, a_levels, a_edgeFlow, a_netFlow, a_queue, a_before, a_edge, a_leads, a_comes, a_group, a_later, a_goes, a_shows)) :
    ∀ d v t k, v + d = cL c → d < k → TBL c f o t n → ROW c f o t n v → OLD c t (n + 1) → wX_remake_2 post (nI n) (nI (cL c)) (nI (cN c)) (nI (cS c)) (nI (cR c)) f_now f_right f_levelsKnown f_head f_tail f_met f_comesKnown f_entry f_round k (nI v) (xK c) (xO c) (xF c) (xA c) (xG c) (xB c) t a_saved a_matters a_cubes a_levels a_edgeFlow a_netFlow a_queue a_before a_edge a_leads a_comes a_group a_later a_goes a_shows := by
  have hN := wf_N w
  have hL := cL_le w
  have k7 := wf_K w n
  intro d
  induction d with
  | zero =>
    intro v t k hv hk' ht hrow hold
    obtain ⟨m, rfl⟩ : ∃ m, k = m + 1 := ⟨k - 1, by omega⟩
    have h1 : cL c ≤ v := by omega
    have h2 : v = cL c := by omega
    subst h2
    simp (disch := omega) only [gw_in, gw_cl, gw_Lle, gw_leL, gw_Llt, gw_ltL, gw_eqL, gw_Leq, gw_Lmul, gw_Ladd, gw_addL, nI_leI, nI_ltI, nI_eq, nI_add, nI_1, pk_mul, xK_ap, xO_ap, xF_ap, xA_ap, xG_ap, xB_ap, forall_eq, true_and, and_true, false_imp_iff, true_imp_iff, not_false_eq_true, not_true_eq_false, eq_self, Nat.reduceLT, Nat.reduceLeDiff, Nat.reduceEqDiff, gw_10, gw_01, wX_remake_2, h1]
    exact h t (tbl_s ht hrow) hold
  | succ d ih =>
    intro v t k hv hk' ht hrow hold
    obtain ⟨m, rfl⟩ : ∃ m, k = m + 1 := ⟨k - 1, by omega⟩
    have h1 : ¬ cL c ≤ v := by omega
    have h2 : ¬ cK c n < 2 := by omega
    simp (disch := omega) only [gw_in, gw_cl, gw_Lle, gw_leL, gw_Llt, gw_ltL, gw_eqL, gw_Leq, gw_Lmul, gw_Ladd, gw_addL, nI_leI, nI_ltI, nI_eq, nI_add, nI_1, pk_mul, xK_ap, xO_ap, xF_ap, xA_ap, xG_ap, xB_ap, forall_eq, true_and, and_true, false_imp_iff, true_imp_iff, not_false_eq_true, not_true_eq_false, eq_self, Nat.reduceLT, Nat.reduceLeDiff, Nat.reduceEqDiff, gw_10, gw_01, wX_remake_2, h1, h2]
    refine xw_gate w hn hk (by omega) ht (fun z hz => xw_valid w (fun y hy => ?_))
    refine ih (v + 1) _ m (by omega) (by omega) (tbl_upd w (by omega) ht (Nat.le_refl _)) (row_step (by omega) hrow (fun b hb => ?_)) (fun q hq hq2 => row_upd (by omega) hL (hold q hq hq2) (Or.inl (by omega)))
    rw [lb_and, hy b hb, cL_dec (c := c) (v := v) (by omega) hb]
    by_cases hlt : 64 * v + b < 2 ^ cS c
    · rw [hz b hb hlt]
      unfold EVF
      rw [ev_eq w hn]
      unfold gv
      rw [if_neg hf, Bool.and_comm]
    · rw [decide_eq_false hlt, Bool.and_false, Bool.false_and]
theorem xw_remake (w : WF c) {f : Nat} {o : Bool} {n : Nat} (hn : n < cN c) (hf : n ≠ f) (ht : TBL c f o a_table n) (hold : OLD c a_table n) {post : SX → Prop} (h : ∀ t, TBL c f o t (n + 1) → OLD c t (n + 1) → post (nI (cN c), nI (cS c), nI (cR c), f_now, f_right, f_levelsKnown, f_head, f_tail, f_met, f_comesKnown, f_entry, f_round, xK c, xO c, xF c, xA c, xG c, xB c, t, a_saved, a_matters, a_cubes, a_levels, a_edgeFlow, a_netFlow, a_queue, a_before, a_edge, a_leads, a_comes, a_group, a_later, a_goes, a_shows)) : wpX_remake post (nI (cN c), nI (cS c), nI (cR c), f_now, f_right, f_levelsKnown, f_head, f_tail, f_met, f_comesKnown, f_entry, f_round, xK c, xO c, xF c, xA c, xG c, xB c, a_table, a_saved, a_matters, a_cubes, a_levels, a_edgeFlow, a_netFlow, a_queue, a_before, a_edge, a_leads, a_comes, a_group, a_later, a_goes, a_shows) (nI n) (nI (cL c)) := by
  have hN := wf_N w
  have hL := cL_le w
  have hL0 := cL_pos c
  have k7 := wf_K w n
  dsimp only [wpX_remake]
  by_cases hk : cK c n < 2
  · refine ⟨1, ?_⟩
    have h1 : ¬ cL c ≤ 0 := by omega
    rw [← nI_0]
    simp (disch := omega) only [gw_in, gw_cl, gw_Lle, gw_leL, gw_Llt, gw_ltL, gw_eqL, gw_Leq, gw_Lmul, gw_Ladd, gw_addL, nI_leI, nI_ltI, nI_eq, nI_add, nI_1, pk_mul, xK_ap, xO_ap, xF_ap, xA_ap, xG_ap, xB_ap, forall_eq, true_and, and_true, false_imp_iff, true_imp_iff, not_false_eq_true, not_true_eq_false, eq_self, Nat.reduceLT, Nat.reduceLeDiff, Nat.reduceEqDiff, gw_10, gw_01, wX_remake_2, h1, hk]
    refine h _ (tbl_s ht (fun v hv b hb => ?_)) (fun m hm hm2 => hold m (by omega) hm2)
    rw [hold n (Nat.le_refl _) hn v hv b hb, evf_src w hn hk hf]
    rfl
  · exact ⟨cL c + 1, xw_remake2 w hn (by omega) hf h (cL c) 0 a_table _ (by omega) (by omega) ht (fun v hv => absurd hv (Nat.not_lt_zero _)) (fun m hm hm2 => hold m (by omega) hm2)⟩
theorem xw_tests134 (w : WF c) {net out : Nat} {o : Bool} (hn : net < cN c) (ho : out < cN c) (ht : ROW c net o a_table out (cL c)) (hs : ∀ v, v < cL c → ∀ b, b < 64 → lb (a_saved v) b = (decide (64 * v + b < 2 ^ cS c) && EV c (64 * v + b) out)) {post : Int32 → SX → Prop}
    (h : post (nI (cnt (fun a => EV c a out ^^ EVF c net o a out) (2 ^ cS c))) (nI (cN c), nI (cS c), nI (cR c), f_now, nI net, f_levelsKnown, f_head, f_tail, f_met, f_comesKnown, f_entry, f_round, xK c, xO c, xF c, xA c, xG c, xB c, a_table, a_saved, a_matters, a_cubes, a_levels, a_edgeFlow, a_netFlow, a_queue, a_before, a_edge, a_leads, a_comes, a_group, a_later, a_goes, a_shows)) :
    ∀ d v n, v + d = cL c → d < n → wX_tests_134 post (nI net) (nI out) (nI (cL c)) (nI (cN c)) (nI (cS c)) (nI (cR c)) f_now f_right f_levelsKnown f_head f_tail f_met f_comesKnown f_entry f_round (xK c) (xO c) (xF c) (xA c) (xG c) (xB c) a_table a_saved a_matters a_cubes a_levels a_edgeFlow a_netFlow a_queue a_before a_edge a_leads a_comes a_group a_later a_goes a_shows n (nI (cnt (fun a => decide (a < 2 ^ cS c) && (EV c a out ^^ EVF c net o a out)) (64 * v))) (nI v) := by
  have hN := wf_N w
  have hL := cL_le w
  intro d
  induction d with
  | zero =>
    intro v n hv hk
    obtain ⟨m, rfl⟩ : ∃ m, n = m + 1 := ⟨n - 1, by omega⟩
    have h1 : v = cL c := by omega
    subst h1
    rw [cL_cnt]
    unfold wX_tests_134
    exact br_t (nI_le (Nat.le_refl _) (by omega)) h
  | succ d ih =>
    intro v n hv hk
    obtain ⟨m, rfl⟩ : ∃ m, n = m + 1 := ⟨n - 1, by omega⟩
    unfold wX_tests_134
    refine br_f (nI_ge (by omega) (by omega)) ?_
    rw [gw_Lmul, nI_add, gw_cl (by omega), gw_cl (by omega)]
    refine ⟨vp_in_nI (by omega) (by omega), vp_in_nI (by omega) (by omega), xw_ones _ (nm_r (nI_add _ _) (nm_r (nI_1 v) ?_))⟩
    have e : cnt (fun a => decide (a < 2 ^ cS c) && (EV c a out ^^ EVF c net o a out)) (64 * (v + 1)) = cnt (fun a => decide (a < 2 ^ cS c) && (EV c a out ^^ EVF c net o a out)) (64 * v) + cnt (lb (a_saved v ^^^ a_table (16 * out + v))) 64 := by
      have e2 : cnt (fun i => decide (64 * v + i < 2 ^ cS c) && (EV c (64 * v + i) out ^^ EVF c net o (64 * v + i) out)) 64 = cnt (lb (a_saved v ^^^ a_table (16 * out + v))) 64 := cnt_congr (fun b hb => by
        rw [lb_xor, hs v (by omega) b hb, ht v (by omega) b hb]
        cases decide (64 * v + b < 2 ^ cS c) <;> simp)
      rw [show 64 * (v + 1) = 64 * v + 64 by omega, cnt_add, e2]
    rw [← e]
    exact ih (v + 1) m (by omega) (by omega)
theorem xw_tests108 (w : WF c) {net out : Nat} {o : Bool} (hn : net < cN c) (ho : out < cN c) (hs : ∀ v, v < cL c → ∀ b, b < 64 → lb (a_saved v) b = (decide (64 * v + b < 2 ^ cS c) && EV c (64 * v + b) out)) {post : Int32 → SX → Prop}
    (h : ∀ t, TBL c 99 false t net → post (nI (cnt (fun a => EV c a out ^^ EVF c net o a out) (2 ^ cS c))) (nI (cN c), nI (cS c), nI (cR c), f_now, nI net, f_levelsKnown, f_head, f_tail, f_met, f_comesKnown, f_entry, f_round, xK c, xO c, xF c, xA c, xG c, xB c, t, a_saved, a_matters, a_cubes, a_levels, a_edgeFlow, a_netFlow, a_queue, a_before, a_edge, a_leads, a_comes, a_group, a_later, a_goes, a_shows)) :
    ∀ d n t k, out + 1 - n = d → net < n → d < k → n ≤ 32 → TBL c net o t n → OLD c t n → wX_tests_108 post (nI net) (nI out) (nI (cL c)) k (nI n) (nI (cN c)) (nI (cS c)) (nI (cR c)) f_now f_right f_levelsKnown f_head f_tail f_met f_comesKnown f_entry f_round (xK c) (xO c) (xF c) (xA c) (xG c) (xB c) t a_saved a_matters a_cubes a_levels a_edgeFlow a_netFlow a_queue a_before a_edge a_leads a_comes a_group a_later a_goes a_shows := by
  have hN := wf_N w
  intro d
  induction d with
  | zero =>
    intro n t k hd hnn hk h32 ht hold
    obtain ⟨m, rfl⟩ : ∃ m, k = m + 1 := ⟨k - 1, by omega⟩
    unfold wX_tests_108
    refine br_t (nI_lt (by omega) (by omega)) ⟨cL c + 1, xw_tests134 w hn ho (ht out (by omega)) hs (h t (fun q hq v hv b hb => ?_)) (cL c) 0 _ (by omega) (by omega)⟩
    rw [ht q (by omega) v hv b hb, evf_low w (by omega) hq]
    rfl
  | succ d ih =>
    intro n t k hd hnn hk h32 ht hold
    obtain ⟨m, rfl⟩ : ∃ m, k = m + 1 := ⟨k - 1, by omega⟩
    unfold wX_tests_108
    refine br_f (nI_nlt (by omega) (by omega)) (xw_remake w (by omega) (by omega) ht hold (fun t' ht' hold' => ?_))
    dsimp only
    refine nm_r (nI_1 n) (ih (n + 1) t' m (by omega) (by omega) (by omega) (by omega) ht' hold')
theorem xw_tests66 (w : WF c) {net out : Nat} {o : Bool} (hn : net < cN c) (ho : out < cN c) (hs : ∀ v, v < cL c → ∀ b, b < 64 → lb (a_saved v) b = (decide (64 * v + b < 2 ^ cS c) && EV c (64 * v + b) out)) {post : Int32 → SX → Prop}
    (h : ∀ t, TBL c 99 false t net → post (nI (cnt (fun a => EV c a out ^^ EVF c net o a out) (2 ^ cS c))) (nI (cN c), nI (cS c), nI (cR c), f_now, nI net, f_levelsKnown, f_head, f_tail, f_met, f_comesKnown, f_entry, f_round, xK c, xO c, xF c, xA c, xG c, xB c, t, a_saved, a_matters, a_cubes, a_levels, a_edgeFlow, a_netFlow, a_queue, a_before, a_edge, a_leads, a_comes, a_group, a_later, a_goes, a_shows)) :
    ∀ d v t k, v + d = cL c → d < k → TBL c net o t net → ROW c net o t net v → OLD c t (net + 1) → wX_tests_66 post (nI net) (nI o.toNat) (nI out) (nI (cL c)) (nI (cN c)) (nI (cS c)) (nI (cR c)) f_now f_right f_levelsKnown f_head f_tail f_met f_comesKnown f_entry f_round k (nI v) (xK c) (xO c) (xF c) (xA c) (xG c) (xB c) t a_saved a_matters a_cubes a_levels a_edgeFlow a_netFlow a_queue a_before a_edge a_leads a_comes a_group a_later a_goes a_shows := by
  have hN := wf_N w
  have hL := cL_le w
  intro d
  induction d with
  | zero =>
    intro v t k hv hk ht hrow hold
    obtain ⟨m, rfl⟩ : ∃ m, k = m + 1 := ⟨k - 1, by omega⟩
    have h1 : cL c ≤ v := by omega
    have h2 : v = cL c := by omega
    subst h2
    simp (disch := omega) only [gw_in, gw_cl, gw_Lle, gw_leL, gw_Llt, gw_ltL, gw_eqL, gw_Leq, gw_Lmul, gw_Ladd, gw_addL, nI_leI, nI_ltI, nI_eq, nI_add, nI_1, pk_mul, xK_ap, xO_ap, xF_ap, xA_ap, xG_ap, xB_ap, forall_eq, true_and, and_true, false_imp_iff, true_imp_iff, not_false_eq_true, not_true_eq_false, eq_self, Nat.reduceLT, Nat.reduceLeDiff, Nat.reduceEqDiff, gw_10, gw_01, wX_tests_66, h1]
    exact ⟨34, xw_tests108 w hn ho hs h _ (net + 1) t 34 rfl (by omega) (by omega) (by omega) (tbl_s ht hrow) hold⟩
  | succ d ih =>
    intro v t k hv hk ht hrow hold
    obtain ⟨m, rfl⟩ : ∃ m, k = m + 1 := ⟨k - 1, by omega⟩
    have h1 : ¬ cL c ≤ v := by omega
    have nx : ∀ z, (∀ b, b < 64 → lb z b = (decide (b < 2 ^ cS c) && o)) → wX_tests_66 post (nI net) (nI o.toNat) (nI out) (nI (cL c)) (nI (cN c)) (nI (cS c)) (nI (cR c)) f_now f_right f_levelsKnown f_head f_tail f_met f_comesKnown f_entry f_round m (nI (v + 1)) (xK c) (xO c) (xF c) (xA c) (xG c) (xB c) (vp_updL t (16 * net + v) z) a_saved a_matters a_cubes a_levels a_edgeFlow a_netFlow a_queue a_before a_edge a_leads a_comes a_group a_later a_goes a_shows := fun z hz => by
      refine ih (v + 1) _ m (by omega) (by omega) (tbl_upd w (by omega) ht (Nat.le_refl _)) (row_step (by omega) hrow (fun b hb => ?_)) (fun q hq hq2 => row_upd (by omega) hL (hold q hq hq2) (Or.inl (by omega)))
      rw [hz b hb, cL_dec (c := c) (v := v) (by omega) hb, evf_at w hn]
    cases o
    · have e : nI false.toNat = 0 := rfl
      simp (disch := omega) only [gw_in, gw_cl, gw_Lle, gw_leL, gw_Llt, gw_ltL, gw_eqL, gw_Leq, gw_Lmul, gw_Ladd, gw_addL, nI_leI, nI_ltI, nI_eq, nI_add, nI_1, pk_mul, xK_ap, xO_ap, xF_ap, xA_ap, xG_ap, xB_ap, forall_eq, true_and, and_true, false_imp_iff, true_imp_iff, not_false_eq_true, not_true_eq_false, eq_self, Nat.reduceLT, Nat.reduceLeDiff, Nat.reduceEqDiff, gw_10, gw_01, wX_tests_66, h1, e]
      exact nx 0 (fun b hb => by rw [lb_0, Bool.and_false])
    · have e : ¬ nI true.toNat = 0 := by decide
      simp (disch := omega) only [gw_in, gw_cl, gw_Lle, gw_leL, gw_Llt, gw_ltL, gw_eqL, gw_Leq, gw_Lmul, gw_Ladd, gw_addL, nI_leI, nI_ltI, nI_eq, nI_add, nI_1, pk_mul, xK_ap, xO_ap, xF_ap, xA_ap, xG_ap, xB_ap, forall_eq, true_and, and_true, false_imp_iff, true_imp_iff, not_false_eq_true, not_true_eq_false, eq_self, Nat.reduceLT, Nat.reduceLeDiff, Nat.reduceEqDiff, gw_10, gw_01, wX_tests_66, h1, e]
      exact xw_valid w (fun y hy => nx y (fun b hb => by rw [hy b hb, Bool.and_true]))
theorem xw_tests31 (w : WF c) {net out : Nat} {o : Bool} (hn : net < cN c) (ho : out < cN c) (ht : TBL c 99 false a_table (cN c)) {post : Int32 → SX → Prop}
    (h : ∀ t s, TBL c 99 false t net → post (nI (cnt (fun a => EV c a out ^^ EVF c net o a out) (2 ^ cS c))) (nI (cN c), nI (cS c), nI (cR c), f_now, nI net, f_levelsKnown, f_head, f_tail, f_met, f_comesKnown, f_entry, f_round, xK c, xO c, xF c, xA c, xG c, xB c, t, s, a_matters, a_cubes, a_levels, a_edgeFlow, a_netFlow, a_queue, a_before, a_edge, a_leads, a_comes, a_group, a_later, a_goes, a_shows)) :
    ∀ d v s k, v + d = cL c → d < k → (∀ q, q < v → ∀ b, b < 64 → lb (s q) b = (decide (64 * q + b < 2 ^ cS c) && EV c (64 * q + b) out)) → wX_tests_31 post (nI net) (nI o.toNat) (nI out) (nI (cL c)) (nI (cN c)) (nI (cS c)) (nI (cR c)) f_now f_right f_levelsKnown f_head f_tail f_met f_comesKnown f_entry f_round k (nI v) (xK c) (xO c) (xF c) (xA c) (xG c) (xB c) a_table s a_matters a_cubes a_levels a_edgeFlow a_netFlow a_queue a_before a_edge a_leads a_comes a_group a_later a_goes a_shows := by
  have hN := wf_N w
  have hL := cL_le w
  intro d
  induction d with
  | zero =>
    intro v s k hv hk hs
    obtain ⟨m, rfl⟩ : ∃ m, k = m + 1 := ⟨k - 1, by omega⟩
    have h1 : cL c ≤ v := by omega
    simp (disch := omega) only [gw_in, gw_cl, gw_Lle, gw_leL, gw_Llt, gw_ltL, gw_eqL, gw_Leq, gw_Lmul, gw_Ladd, gw_addL, nI_leI, nI_ltI, nI_eq, nI_add, nI_1, pk_mul, xK_ap, xO_ap, xF_ap, xA_ap, xG_ap, xB_ap, forall_eq, true_and, and_true, false_imp_iff, true_imp_iff, not_false_eq_true, not_true_eq_false, eq_self, Nat.reduceLT, Nat.reduceLeDiff, Nat.reduceEqDiff, gw_10, gw_01, wX_tests_31, h1]
    refine ⟨cL c + 1, xw_tests66 w hn ho (fun q hq => hs q (by omega)) (fun t ht' => h t s ht') (cL c) 0 a_table _ (by omega) (by omega) (fun n hn' v' hv' b hb => ?_) (fun q hq => absurd hq (Nat.not_lt_zero _)) (fun m hm hm2 => ht m hm2)⟩
    rw [ht n (by omega) v' hv' b hb, evf_low (f := net) w (by omega) hn']
    rfl
  | succ d ih =>
    intro v s k hv hk hs
    obtain ⟨m, rfl⟩ : ∃ m, k = m + 1 := ⟨k - 1, by omega⟩
    have h1 : ¬ cL c ≤ v := by omega
    simp (disch := omega) only [gw_in, gw_cl, gw_Lle, gw_leL, gw_Llt, gw_ltL, gw_eqL, gw_Leq, gw_Lmul, gw_Ladd, gw_addL, nI_leI, nI_ltI, nI_eq, nI_add, nI_1, pk_mul, xK_ap, xO_ap, xF_ap, xA_ap, xG_ap, xB_ap, forall_eq, true_and, and_true, false_imp_iff, true_imp_iff, not_false_eq_true, not_true_eq_false, eq_self, Nat.reduceLT, Nat.reduceLeDiff, Nat.reduceEqDiff, gw_10, gw_01, wX_tests_31, h1]
    refine ih (v + 1) _ m (by omega) (by omega) (fun q hq b hb => ?_)
    by_cases e : q = v
    · subst e
      rw [gw_uL, if_pos rfl]
      exact ht out ho q (by omega) b hb
    · rw [gw_uL, if_neg e]
      exact hs q (by omega) b hb
theorem xm_tests (w : WF c) {now : Nat} {u : SX} (hX : XR c now u) {net out : Nat} {o : Bool} (hn : net < cN c) (ho : out < cN c) {post : Int32 → SX → Prop} (h : ∀ u', XR c now u' → post (nI (cnt (fun a => EV c a out ^^ EVF c net o a out) (2 ^ cS c))) u') : wpX_tests post u (nI net) (nI o.toNat) (nI out) := by
  refine xr_el (P := fun u => wpX_tests post u (nI net) (nI o.toNat) (nI out)) hX ?_
  intro r f_levelsKnown f_head f_tail f_met f_comesKnown f_entry f_round a_table a_saved a_matters a_cubes a_levels a_edgeFlow a_netFlow a_queue a_before a_edge a_leads a_comes a_group a_later a_goes a_shows hr ht hl hc
  dsimp only [wpX_tests]
  refine xw_isNet_t w hn (br_f (by decide) (xw_isNet_t w ho (br_f (by decide) ?_)))
  refine xw_learn w hr ht (fun t ht' => ?_)
  dsimp only
  refine xw_length w ⟨cL c + 1, xw_tests31 w hn ho ht' (fun t2 s2 ht2 => h _ (xr_in (by omega) ht2 hl hc)) (cL c) 0 a_saved _ (by omega) (by omega) (fun q hq => absurd hq (Nat.not_lt_zero _))⟩
end
end
section
/-! ===== Y: depends, tests ===== -/
section
variable {c : CK} {a_first : Nat → Int32} {a_second : Nat → Int32} {a_third : Nat → Int32} {a_now : Nat → Int32} {a_at : Nat → Int32} {a_other : Nat → Int32} {a_source : Nat → Int32} {a_register : Nat → Int32} {a_level : Nat → Int32} {a_soon : Nat → Int32} {a_depend : Nat → Int32} {a_table : Nat → Int32} {a_marked : Nat → Int32} {a_after : Nat → Int32} {a_shows : Nat → Int32} {a_apart : Nat → Int32}
theorem yw_isSource_t (w : WF c) {j : Nat} (hj : j < cN c) (hk : cK c j < 2) {post : Int32 → Prop} (h : post 1) : wpY_isSource post (nI (cN c), nI (cS c), nI (cR c), xK c, a_first, a_second, a_third, xF c, a_now, a_at, a_other, a_source, a_register, a_level, a_soon, a_depend, a_table, a_marked, a_after, a_shows, a_apart) (nI j) := by
  have hN := wf_N w
  dsimp only [wpY_isSource]
  refine yw_isNet_t w hj (br_f (by decide) ?_)
  have h2 : ¬ 2 ≤ cK c j := by omega
  simp (disch := omega) only [gw_in, gw_cl, gw_Lle, gw_leL, gw_Llt, gw_ltL, gw_eqL, gw_Leq, gw_Lmul, gw_Ladd, gw_addL, nI_leI, nI_ltI, nI_eq, nI_add, nI_1, pk_mul, xK_ap, xO_ap, xF_ap, xA_ap, xG_ap, xB_ap, forall_eq, true_and, and_true, false_imp_iff, true_imp_iff, not_false_eq_true, not_true_eq_false, eq_self, Nat.reduceLT, Nat.reduceLeDiff, Nat.reduceEqDiff, gw_10, gw_01, h2]
  exact h
theorem yw_isSource_g (w : WF c) {j : Nat} (hj : j < cN c) (hk : 2 ≤ cK c j) {post : Int32 → Prop} (h : post 0) : wpY_isSource post (nI (cN c), nI (cS c), nI (cR c), xK c, a_first, a_second, a_third, xF c, a_now, a_at, a_other, a_source, a_register, a_level, a_soon, a_depend, a_table, a_marked, a_after, a_shows, a_apart) (nI j) := by
  have hN := wf_N w
  have k7 := wf_K w j
  dsimp only [wpY_isSource]
  refine yw_isNet_t w hj (br_f (by decide) ?_)
  simp (disch := omega) only [gw_in, gw_cl, gw_Lle, gw_leL, gw_Llt, gw_ltL, gw_eqL, gw_Leq, gw_Lmul, gw_Ladd, gw_addL, nI_leI, nI_ltI, nI_eq, nI_add, nI_1, pk_mul, xK_ap, xO_ap, xF_ap, xA_ap, xG_ap, xB_ap, forall_eq, true_and, and_true, false_imp_iff, true_imp_iff, not_false_eq_true, not_true_eq_false, eq_self, Nat.reduceLT, Nat.reduceLeDiff, Nat.reduceEqDiff, gw_10, gw_01, hk]
  exact h
theorem yw_isSource_f (w : WF c) {p : Int32} (hp : p < 0 ∨ nI (cN c) ≤ p) {post : Int32 → Prop} (h : post 0) : wpY_isSource post (nI (cN c), nI (cS c), nI (cR c), xK c, a_first, a_second, a_third, xF c, a_now, a_at, a_other, a_source, a_register, a_level, a_soon, a_depend, a_table, a_marked, a_after, a_shows, a_apart) p := by
  dsimp only [wpY_isSource]
  exact yw_isNet_f w hp (br_t rfl h)
theorem yw_leans2 (w : WF c) (hY : YS c a_first a_second a_third a_source a_register) {j s : Nat} (hj : j < cN c) (hs : s < cS c) {post : Int32 → SY → Prop} (h : ∀ t r, BA (DEP c j s) r → post r (nI (cN c), nI (cS c), nI (cR c), xK c, a_first, a_second, a_third, xF c, a_now, t, a_other, a_source, a_register, a_level, a_soon, a_depend, a_table, a_marked, a_after, a_shows, a_apart)) :
    ∀ d a n t, a + d = 2 ^ cS c → d < n → (∀ b, b < a → b.testBit s = false → EV c b j = EV c (b ||| 2 ^ s) j) → wY_leans_2 post (nI j) (nI s) n (nI a) (nI (cN c)) (nI (cS c)) (nI (cR c)) (xK c) a_first a_second a_third (xF c) a_now t a_other a_source a_register a_level a_soon a_depend a_table a_marked a_after a_shows a_apart := by
  have hN := wf_N w
  have hS := wf_S w
  have hS2 := gw_p2 hS
  intro d
  induction d with
  | zero =>
    intro a n t ha hn h1
    obtain ⟨m, rfl⟩ : ∃ m, n = m + 1 := ⟨n - 1, by omega⟩
    unfold wY_leans_2
    rw [gw_1shl (by omega)]
    refine br_t (nI_le (by omega) (by omega)) (h t _ (Or.inr ⟨rfl, ?_⟩))
    rintro ⟨b, l1, l2, l3⟩
    exact l3 (h1 b (by omega) l2)
  | succ d ih =>
    intro a n t ha hn h1
    obtain ⟨m, rfl⟩ : ∃ m, n = m + 1 := ⟨n - 1, by omega⟩
    unfold wY_leans_2
    have hor := or_lt (a := a) (s := s) (n := cS c) (by omega) hs
    rw [gw_1shl (by omega), gw_1shl (by omega), gw_bit (by omega) (by omega), gw_or]
    refine br_f (nI_ge (by omega) (by omega)) (br_c (fun e => nm_r (nI_1 a) ?_) (fun e => ?_))
    · rw [gw_bt1] at e
      refine ih (a + 1) m t (by omega) (by omega) (fun b l1 l2 => ?_)
      by_cases q : b = a
      · subst q; rw [e] at l2; exact absurd l2 (by decide)
      · exact h1 b (by omega) l2
    · rw [gw_bt1] at e
      have e := ts_nt e
      refine yw_assign w hY (by omega) (fun t1 ht1 => ?_)
      dsimp only
      rw [gw_cl (by omega), ht1 j hj]
      refine ⟨vp_in_nI (by omega) (by omega), nm_e ?_⟩
      refine yw_assign w hY (by omega) (fun t2 ht2 => ?_)
      dsimp only
      rw [ht2 j hj]
      refine ⟨vp_in_nI (by omega) (by omega), br_c (fun e2 => nm_r (nI_1 a) ?_) (fun e2 => ?_)⟩
      · rw [gw_beq] at e2
        refine ih (a + 1) m t2 (by omega) (by omega) (fun b l1 l2 => ?_)
        by_cases q : b = a
        · subst q; exact e2.symm
        · exact h1 b (by omega) l2
      · rw [gw_beq] at e2
        exact h t2 _ (Or.inl ⟨rfl, a, by omega, e, fun z => e2 z.symm⟩)
theorem yw_leans (w : WF c) (hY : YS c a_first a_second a_third a_source a_register) {j s : Nat} (hj : j < cN c) (hs : s < cS c) {post : Int32 → SY → Prop} (h : ∀ t r, BA (DEP c j s) r → post r (nI (cN c), nI (cS c), nI (cR c), xK c, a_first, a_second, a_third, xF c, a_now, t, a_other, a_source, a_register, a_level, a_soon, a_depend, a_table, a_marked, a_after, a_shows, a_apart)) : wpY_leans post (nI (cN c), nI (cS c), nI (cR c), xK c, a_first, a_second, a_third, xF c, a_now, a_at, a_other, a_source, a_register, a_level, a_soon, a_depend, a_table, a_marked, a_after, a_shows, a_apart) (nI j) (nI s) := by
  dsimp only [wpY_leans]
  exact ⟨2 ^ cS c + 1, yw_leans2 w hY hj hs h (2 ^ cS c) 0 _ a_at (by omega) (by omega) (fun b hb => by omega)⟩
theorem BA_nar {P : Prop} {r : Int32} (h : BA P r) : narrow .boolean (.int r) = .int r := by
  rcases h with ⟨rfl, _⟩ | ⟨rfl, _⟩
  · exact narrow_b1
  · exact narrow_b0
theorem ym_depends (w : WF c) {now : Nat} {v : SY} (hv : YR c now v) {j s : Nat} (hj : j < cN c) (hs : s < cS c) {post : Int32 → SY → Prop} (h : ∀ v' r, YR c now v' → BA (DEP c j s) r → post r v') : wpY_depends post v (nI j) (nI (cA c s)) := by
  have hN := wf_N w
  have hS := wf_S w
  have hA := wf_A w hs
  refine yr_el (P := fun v => wpY_depends post v (nI j) (nI (cA c s))) hv ?_
  intro a_first a_second a_third a_now a_at a_other a_source a_register a_level a_soon a_depend a_table a_marked a_after a_shows a_apart hY hn
  dsimp only [wpY_depends]
  refine yw_isNet_t w hj (br_f (by decide) (yw_isSource_t w hA (wf_AK w hs) (br_f (by decide) ?_)))
  have L : ∀ d i n, i + d = s → d < n → wY_depends_20 post (nI j) (nI (cA c s)) (nI (cN c)) (nI (cS c)) (nI (cR c)) (xK c) a_first a_second a_third (xF c) a_now a_at a_other a_source a_register a_level a_soon a_depend a_table a_marked a_after a_shows a_apart n (nI i) := by
    intro d
    induction d with
    | zero =>
      intro i n hi hk
      obtain ⟨m, rfl⟩ : ∃ m, n = m + 1 := ⟨n - 1, by omega⟩
      have : i = s := by omega
      subst this
      have a1 := hY.2.2.2.1 i hs
      simp (disch := omega) only [gw_in, gw_cl, gw_Lle, gw_leL, gw_Llt, gw_ltL, gw_eqL, gw_Leq, gw_Lmul, gw_Ladd, gw_addL, nI_leI, nI_ltI, nI_eq, nI_add, nI_1, pk_mul, xK_ap, xO_ap, xF_ap, xA_ap, xG_ap, xB_ap, forall_eq, true_and, and_true, false_imp_iff, true_imp_iff, not_false_eq_true, not_true_eq_false, eq_self, Nat.reduceLT, Nat.reduceLeDiff, Nat.reduceEqDiff, gw_10, gw_01, wY_depends_20, a1]
      refine yw_leans w hY hj hs (fun t r hr => ?_)
      exact ⟨BA_nar hr, h _ r (yr_in hY hn) hr⟩
    | succ d ih =>
      intro i n hi hk
      obtain ⟨m, rfl⟩ : ∃ m, n = m + 1 := ⟨n - 1, by omega⟩
      have a1 := hY.2.2.2.1 i (by omega)
      have h2 := wf_Am w (show i < s by omega) hs
      have h3 : ¬ cA c i = cA c s := by omega
      simp (disch := omega) only [gw_in, gw_cl, gw_Lle, gw_leL, gw_Llt, gw_ltL, gw_eqL, gw_Leq, gw_Lmul, gw_Ladd, gw_addL, nI_leI, nI_ltI, nI_eq, nI_add, nI_1, pk_mul, xK_ap, xO_ap, xF_ap, xA_ap, xG_ap, xB_ap, forall_eq, true_and, and_true, false_imp_iff, true_imp_iff, not_false_eq_true, not_true_eq_false, eq_self, Nat.reduceLT, Nat.reduceLeDiff, Nat.reduceEqDiff, gw_10, gw_01, wY_depends_20, a1, h3]
      exact ih (i + 1) m (by omega) (by omega)
  exact ⟨s + 1, L s 0 _ (by omega) (by omega)⟩
theorem ym_depends_no (w : WF c) {now : Nat} {v : SY} (hv : YR c now v) {p q : Int32} (hp : (p < 0 ∨ nI (cN c) ≤ p) ∨ (∀ i, i < cS c → ¬ nI (cA c i) = q)) {post : Int32 → SY → Prop} (h : post 0 v) : wpY_depends post v p q := by
  have hN := wf_N w
  revert h
  refine yr_el (P := fun v => post 0 v → wpY_depends post v p q) hv ?_
  intro a_first a_second a_third a_now a_at a_other a_source a_register a_level a_soon a_depend a_table a_marked a_after a_shows a_apart hY hn hu
  dsimp only [wpY_depends]
  rcases pk_ix p (n := cN c) (by omega) with h1 | h1 | ⟨i, hi, rfl⟩
  · exact yw_isNet_f w (Or.inl h1) (br_t rfl hu)
  · exact yw_isNet_f w (Or.inr h1) (br_t rfl hu)
  · refine yw_isNet_t w hi (br_f (by decide) ?_)
    have hq : ∀ i, i < cS c → ¬ nI (cA c i) = q := by
      rcases hp with (h1 | h1) | h1
      · exact absurd h1 (nI_pos (by omega))
      · exact absurd h1 (nI_ge hi (by omega))
      · exact h1
    rcases pk_ix q (n := cN c) (by omega) with h1 | h1 | ⟨m, hm, rfl⟩
    · exact yw_isSource_f w (Or.inl h1) (br_t rfl hu)
    · exact yw_isSource_f w (Or.inr h1) (br_t rfl hu)
    · refine yw_isSource_g w hm ?_ (br_t rfl hu)
      apply Classical.byContradiction
      intro z
      obtain ⟨k, hk, e⟩ := wf_Ax w hm (by omega)
      exact hq k hk (by rw [e])
theorem yw_tests24 (w : WF c) (hY : YS c a_first a_second a_third a_source a_register) {net out : Nat} {o : Bool} (hn : net < cN c) (ho : out < cN c) {post : Int32 → SY → Prop} (h : ∀ t, post (nI (cnt (fun a => EV c a out ^^ EVF c net o a out) (2 ^ cS c))) (nI (cN c), nI (cS c), nI (cR c), xK c, a_first, a_second, a_third, xF c, a_now, t, a_other, a_source, a_register, a_level, a_soon, a_depend, a_table, a_marked, a_after, a_shows, a_apart)) :
    ∀ d a n t, a + d = 2 ^ cS c → d < n → wY_tests_24 post (nI net) (nI o.toNat) (nI out) n (nI (cnt (fun a => EV c a out ^^ EVF c net o a out) a)) (nI a) (nI (cN c)) (nI (cS c)) (nI (cR c)) (xK c) a_first a_second a_third (xF c) a_now t a_other a_source a_register a_level a_soon a_depend a_table a_marked a_after a_shows a_apart := by
  have hN := wf_N w
  have hS := wf_S w
  have hS2 := gw_p2 hS
  intro d
  induction d with
  | zero =>
    intro a n t ha hk
    obtain ⟨m, rfl⟩ : ∃ m, n = m + 1 := ⟨n - 1, by omega⟩
    have : a = 2 ^ cS c := by omega
    subst this
    unfold wY_tests_24
    rw [gw_1shl (by omega)]
    exact br_t (nI_le (Nat.le_refl _) (by omega)) (h t)
  | succ d ih =>
    intro a n t ha hk
    obtain ⟨m, rfl⟩ : ∃ m, n = m + 1 := ⟨n - 1, by omega⟩
    unfold wY_tests_24
    rw [gw_1shl (by omega)]
    refine br_f (nI_ge (by omega) (by omega)) (yw_assign w hY (by omega) (fun t1 ht1 => ?_))
    dsimp only
    rw [gw_cl (by omega), ht1 out ho]
    refine ⟨vp_in_nI (by omega) (by omega), nm_e ?_⟩
    refine yw_workOut (f := net) (sv := sa c a) w hY (fun q hq => nI_eq (by omega) (by omega)) (fun q hq hk2 => ?_) (fun t2 ht2 => ?_)
    · rw [ht1 q hq]
      obtain ⟨i, hi, rfl⟩ := wf_Ax w hq hk2
      rw [EV_src w hi, sa_A w hi]
    · dsimp only
      rw [ht2 out ho]
      have hi := ih (a + 1) m t2 (by omega) (by omega)
      rw [cnt_s] at hi
      refine ⟨vp_in_nI (by omega) (by omega), br_c (fun e => nm_r (nI_1 a) ?_) (fun e => nm_r (nI_1 _) (nm_r (nI_1 a) ?_))⟩
      · rw [gw_beq] at e
        have e2 : (EV c a out ^^ EVF c net o a out) = false := by
          unfold EVF
          rw [e]
          simp
        rw [e2] at hi
        exact hi
      · rw [gw_beq] at e
        have e2 : (EV c a out ^^ EVF c net o a out) = true := by
          unfold EVF
          revert e
          cases EV c a out <;> cases ev c net o (sa c a) out <;> simp
        rw [e2] at hi
        exact hi
theorem ym_tests (w : WF c) {now : Nat} {v : SY} (hv : YR c now v) {net out : Nat} {o : Bool} (hn : net < cN c) (ho : out < cN c) {post : Int32 → SY → Prop} (h : ∀ v', YR c now v' → post (nI (cnt (fun a => EV c a out ^^ EVF c net o a out) (2 ^ cS c))) v') : wpY_tests post v (nI net) (nI o.toNat) (nI out) := by
  refine yr_el (P := fun v => wpY_tests post v (nI net) (nI o.toNat) (nI out)) hv ?_
  intro a_first a_second a_third a_now a_at a_other a_source a_register a_level a_soon a_depend a_table a_marked a_after a_shows a_apart hY hnow
  dsimp only [wpY_tests]
  refine yw_isNet_t w hn (br_f (by decide) (yw_isNet_t w ho (br_f (by decide) ?_)))
  exact ⟨2 ^ cS c + 1, yw_tests24 w hY hn ho (fun t => h _ (yr_in hY hnow)) (2 ^ cS c) 0 _ a_at (by omega) (by omega)⟩
end
end
section
/-! ===== configurations: pure rows, X's and Y's reading and stepping ===== -/
def stp (c : CK) (now q : Nat) : Nat := aft c (wth c now q)
section
variable {c : CK}
theorem cfg_lt (a : Nat) : cfgOf c a < 2 ^ cR c := bld_lt _ _
theorem aft_lt (a : Nat) : aft c a < 2 ^ cR c := bld_lt _ _
theorem wth_lt (now q : Nat) : wth c now q < 2 ^ cS c := bld_lt _ _
theorem r64 (w : WF c) {q : Nat} (h : q < 2 ^ cR c) : q < 64 := Nat.lt_of_lt_of_le h (Nat.pow_le_pow_right (n := 2) (j := 6) (by decide) (wf_R w))
theorem wbt_B (w : WF c) {now q r : Nat} : ∀ k, k ≤ cR c → r < k → wbt c now q k (cB c r) = q.testBit r := by
  intro k
  induction k with
  | zero => intro _ h; omega
  | succ k ih =>
    intro hk hr
    show (if cB c r = cB c k then q.testBit k else wbt c now q k (cB c r)) = _
    by_cases e : r = k
    · subst e; rw [if_pos rfl]
    · rw [if_neg (fun z => e (wf_Bi w (by omega) (by omega) z))]
      exact ih (by omega) (by omega)
theorem wbt_no {now q s : Nat} : ∀ k, (∀ r, r < k → s ≠ cB c r) → wbt c now q k s = now.testBit s := by
  intro k
  induction k with
  | zero => intro _; rfl
  | succ k ih =>
    intro h
    show (if s = cB c k then q.testBit k else wbt c now q k s) = _
    rw [if_neg (h k (by omega))]
    exact ih (fun r hr => h r (by omega))
theorem wth_tb {now q s : Nat} (hs : s < cS c) : (wth c now q).testBit s = wbt c now q (cR c) s := by
  unfold wth
  rw [bld_tb, decide_eq_true hs, Bool.true_and]
theorem reg_or {s : Nat} : (∃ r, r < cR c ∧ s = cB c r) ∨ (∀ r, r < cR c → s ≠ cB c r) := by
  by_cases h : ∃ r, r < cR c ∧ s = cB c r
  · exact Or.inl h
  · exact Or.inr (fun r hr e => h ⟨r, hr, e⟩)
theorem cfg_wth (w : WF c) {now q : Nat} (hq : q < 2 ^ cR c) : cfgOf c (wth c now q) = q := by
  refine tb_ext (cfg_lt _) hq (fun r hr => ?_)
  unfold cfgOf
  rw [bld_tb, decide_eq_true hr, Bool.true_and, wth_tb (wf_B w hr), wbt_B w _ (Nat.le_refl _) hr]
theorem wth_wth (w : WF c) {now q q' : Nat} : wth c (wth c now q) q' = wth c now q' := by
  refine tb_ext (wth_lt _ _) (wth_lt _ _) (fun s hs => ?_)
  rw [wth_tb hs, wth_tb hs]
  rcases reg_or (c := c) (s := s) with ⟨r, hr, rfl⟩ | h
  · rw [wbt_B w _ (Nat.le_refl _) hr, wbt_B w _ (Nat.le_refl _) hr]
  · rw [wbt_no _ h, wbt_no _ h, wth_tb hs, wbt_no _ h]
theorem wth_self (w : WF c) {now : Nat} (hn : now < 2 ^ cS c) : wth c now (cfgOf c now) = now := by
  refine tb_ext (wth_lt _ _) hn (fun s hs => ?_)
  rw [wth_tb hs]
  rcases reg_or (c := c) (s := s) with ⟨r, hr, rfl⟩ | h
  · rw [wbt_B w _ (Nat.le_refl _) hr]
    unfold cfgOf
    rw [bld_tb, decide_eq_true hr, Bool.true_and]
  · rw [wbt_no _ h]
theorem aft_tb {a r : Nat} (hr : r < cR c) : (aft c a).testBit r = EV c a (cF c (cG c r)) := by
  unfold aft
  rw [bld_tb, decide_eq_true hr, Bool.true_and]
/-- registers and sources, side by side -/
theorem sr_1 (w : WF c) {s i : Nat} (hs : s < cS c) (h1 : ∀ r, r < i → cB c r < s) (h2 : ∀ r, i ≤ r → r < cR c → s ≤ cB c r) (hk : cK c (cA c s) = 1) : i < cR c ∧ cB c i = s := by
  obtain ⟨r, hr, e⟩ := wf_Gx w (wf_A w hs) hk
  rw [wf_G w hr] at e
  have e := wf_Ai w (wf_B w hr) hs e
  have h3 : i ≤ r := by
    apply Classical.byContradiction
    intro z
    have := h1 r (by omega)
    omega
  have h4 := h2 i (Nat.le_refl _) (by omega)
  rcases Nat.lt_or_ge i r with h5 | h5
  · have := wf_Bm w h5 hr
    omega
  · have : i = r := by omega
    subst this
    exact ⟨hr, e⟩
theorem sr_2 (w : WF c) {s i : Nat} (h2 : ∀ r, i ≤ r → r < cR c → s ≤ cB c r) (hk : cK c (cA c s) ≠ 1) : ∀ r, i ≤ r → r < cR c → s + 1 ≤ cB c r := by
  intro r h3 hr
  have h4 := h2 r h3 hr
  rcases Nat.lt_or_ge s (cB c r) with h5 | h5
  · omega
  · have : s = cB c r := by omega
    rw [this, ← wf_G w hr] at hk
    exact absurd (wf_GK w hr) hk
end
theorem clr_set {x s : Nat} {b : Bool} (hx : x < 4294967296) (hs : s < 31) {y : Nat} (hy : y < 4294967296) (h : ∀ i, i < 32 → y.testBit i = if i = s then b else x.testBit i) : (nI x &&& (((1 : Int32) <<< (nI s &&& 31)) ^^^ (-1))) ||| (nI b.toNat <<< (nI s &&& 31)) = nI y := by
  apply b_ext
  intro i hi
  rw [b_or, b_and, b_xor, b_m1 i hi, b_shl s (by omega) _ hi, b_shl s (by omega) _ hi, gw_bt32 _ _ hi, gw_bt32 _ _ hi, h i hi]
  have e1 : bt (1 : Int32) (i - s) = decide (i - s = 0) := by
    show bt (nI true.toNat) (i - s) = _
    rw [gw_bt32 _ _ (by omega), Nat.testBit_bool_toNat, Bool.and_true]
  rw [e1, gw_bt32 _ _ (by omega), Nat.testBit_bool_toNat]
  by_cases e : i = s
  · subst e
    simp
  · rw [if_neg e]
    by_cases hle : s ≤ i
    · have : ¬ i - s = 0 := by omega
      simp [this]
    · simp [hle]
section
variable {c : CK} {f_now : Int32} {f_right : Int32} {f_levelsKnown : Int32} {f_head : Int32} {f_tail : Int32} {f_met : Int64} {f_comesKnown : Int32} {f_entry : Int32} {f_round : Int32} {a_table : Nat → Int64} {a_saved : Nat → Int64} {a_matters : Nat → Int32} {a_cubes : Nat → Int64} {a_levels : Nat → Int32} {a_edgeFlow : Nat → Int32} {a_netFlow : Nat → Int32} {a_queue : Nat → Int32} {a_before : Nat → Int32} {a_edge : Nat → Int32} {a_leads : Nat → Int64} {a_comes : Nat → Int32} {a_group : Nat → Int32} {a_later : Nat → Int32} {a_goes : Nat → Int32} {a_shows : Nat → Int32}
theorem xw_cfg (w : WF c) {a : Nat} (ha : a < 2147483648) {post : Int32 → Prop} (h : post (nI (cfgOf c a))) : wpX_configurationOf post (nI (cN c), nI (cS c), nI (cR c), f_now, f_right, f_levelsKnown, f_head, f_tail, f_met, f_comesKnown, f_entry, f_round, xK c, xO c, xF c, xA c, xG c, xB c, a_table, a_saved, a_matters, a_cubes, a_levels, a_edgeFlow, a_netFlow, a_queue, a_before, a_edge, a_leads, a_comes, a_group, a_later, a_goes, a_shows) (nI a) := by
  have hR := wf_R w
  have hS := wf_S w
  have L : ∀ d i n, i + d = cR c → d < n → wX_configurationOf_4 post (nI a) (nI (cN c)) (nI (cS c)) (nI (cR c)) f_now f_right f_levelsKnown f_head f_tail f_met f_comesKnown f_entry f_round (xK c) (xO c) (xF c) (xA c) (xG c) (xB c) a_table a_saved a_matters a_cubes a_levels a_edgeFlow a_netFlow a_queue a_before a_edge a_leads a_comes a_group a_later a_goes a_shows n (nI (bld (fun r => a.testBit (cB c r)) i)) (nI i) := by
    intro d
    induction d with
    | zero =>
      intro i n hi hn
      obtain ⟨m, rfl⟩ : ∃ m, n = m + 1 := ⟨n - 1, by omega⟩
      have h1 : i = cR c := by omega
      subst h1
      unfold wX_configurationOf_4
      exact br_t (nI_le (Nat.le_refl _) (by omega)) h
    | succ d ih =>
      intro i n hi hn
      obtain ⟨m, rfl⟩ : ∃ m, n = m + 1 := ⟨n - 1, by omega⟩
      unfold wX_configurationOf_4
      have hB := wf_B w (show i < cR c by omega)
      rw [gw_cl (by omega), xB_ap, gw_bit (by omega) ha]
      refine br_f (nI_ge (by omega) (by omega)) ⟨vp_in_nI (by omega) (by omega), nm_r (bld_or (fun r => a.testBit (cB c r)) (by omega)) (nm_r (nI_1 i) (ih (i + 1) m (by omega) (by omega)))⟩
  exact ⟨cR c + 1, L (cR c) 0 _ (by omega) (by omega)⟩
theorem xw_aft (w : WF c) {a : Nat} (ha : a < 2 ^ cS c) (ht : TBL c 99 false a_table (cN c)) {post : Int32 → Prop} (h : post (nI (aft c a))) : wpX_after post (nI (cN c), nI (cS c), nI (cR c), f_now, f_right, f_levelsKnown, f_head, f_tail, f_met, f_comesKnown, f_entry, f_round, xK c, xO c, xF c, xA c, xG c, xB c, a_table, a_saved, a_matters, a_cubes, a_levels, a_edgeFlow, a_netFlow, a_queue, a_before, a_edge, a_leads, a_comes, a_group, a_later, a_goes, a_shows) (nI a) := by
  have hR := wf_R w
  have hN := wf_N w
  have L : ∀ d i n, i + d = cR c → d < n → wX_after_4 post (nI a) (nI (cN c)) (nI (cS c)) (nI (cR c)) f_now f_right f_levelsKnown f_head f_tail f_met f_comesKnown f_entry f_round (xK c) (xO c) (xF c) (xA c) (xG c) (xB c) a_table a_saved a_matters a_cubes a_levels a_edgeFlow a_netFlow a_queue a_before a_edge a_leads a_comes a_group a_later a_goes a_shows n (nI (bld (fun r => EV c a (cF c (cG c r))) i)) (nI i) := by
    intro d
    induction d with
    | zero =>
      intro i n hi hn
      obtain ⟨m, rfl⟩ : ∃ m, n = m + 1 := ⟨n - 1, by omega⟩
      have h1 : i = cR c := by omega
      subst h1
      unfold wX_after_4
      exact br_t (nI_le (Nat.le_refl _) (by omega)) h
    | succ d ih =>
      intro i n hi hn
      obtain ⟨m, rfl⟩ : ∃ m, n = m + 1 := ⟨n - 1, by omega⟩
      unfold wX_after_4
      have hG := wf_GN w (show i < cR c by omega)
      have hF := wf_GF w (show i < cR c by omega)
      rw [gw_cl (by omega), xG_ap, gw_cl (by omega), xF_ap]
      refine br_f (nI_ge (by omega) (by omega)) ⟨vp_in_nI (by omega) (by omega), vp_in_nI (by omega) (by omega), xw_bit w (f := 99) (o := false) hF (by omega) ha ht ?_⟩
      refine nm_r (bld_or (fun r => EV c a (cF c (cG c r))) (by omega)) (nm_r (nI_1 i) (ih (i + 1) m (by omega) (by omega)))
  exact ⟨cR c + 1, L (cR c) 0 _ (by omega) (by omega)⟩
theorem xw_with (w : WF c) {now q : Nat} (hnow : now < 2 ^ cS c) (hq : q < 2147483648) {post : Int32 → Prop} (h : post (nI (wth c now q))) : wpX_with post (nI (cN c), nI (cS c), nI (cR c), nI now, f_right, f_levelsKnown, f_head, f_tail, f_met, f_comesKnown, f_entry, f_round, xK c, xO c, xF c, xA c, xG c, xB c, a_table, a_saved, a_matters, a_cubes, a_levels, a_edgeFlow, a_netFlow, a_queue, a_before, a_edge, a_leads, a_comes, a_group, a_later, a_goes, a_shows) (nI q) := by
  have hR := wf_R w
  have hS := wf_S w
  have L : ∀ d i n, i + d = cR c → d < n → wX_with_7 post (nI q) (nI (cN c)) (nI (cS c)) (nI (cR c)) (nI now) f_right f_levelsKnown f_head f_tail f_met f_comesKnown f_entry f_round (xK c) (xO c) (xF c) (xA c) (xG c) (xB c) a_table a_saved a_matters a_cubes a_levels a_edgeFlow a_netFlow a_queue a_before a_edge a_leads a_comes a_group a_later a_goes a_shows n (nI (bld (wbt c now q i) (cS c))) (nI i) := by
    intro d
    induction d with
    | zero =>
      intro i n hi hn
      obtain ⟨m, rfl⟩ : ∃ m, n = m + 1 := ⟨n - 1, by omega⟩
      have h1 : i = cR c := by omega
      subst h1
      unfold wX_with_7
      exact br_t (nI_le (Nat.le_refl _) (by omega)) h
    | succ d ih =>
      intro i n hi hn
      obtain ⟨m, rfl⟩ : ∃ m, n = m + 1 := ⟨n - 1, by omega⟩
      have hB := wf_B w (show i < cR c by omega)
      have hS2 := gw_p2 hS
      have b1 := bld_lt (wbt c now q i) (cS c)
      have b2 := bld_lt (wbt c now q (i + 1)) (cS c)
      unfold wX_with_7
      rw [gw_cl (by omega), xB_ap, gw_bit (by omega) hq]
      refine br_f (nI_ge (by omega) (by omega)) ⟨vp_in_nI (by omega) (by omega), vp_in_nI (by omega) (by omega), nm_r (clr_set (y := bld (wbt c now q (i + 1)) (cS c)) (by omega) (by omega) (by omega) (fun s hs => ?_)) (nm_r (nI_1 i) (ih (i + 1) m (by omega) (by omega)))⟩
      rw [bld_tb, bld_tb]
      show (decide (s < cS c) && if s = cB c i then q.testBit i else wbt c now q i s) = _
      by_cases e : s = cB c i
      · rw [if_pos e, if_pos e, decide_eq_true (by omega), Bool.true_and]
      · rw [if_neg e, if_neg e]
  have e : bld (wbt c now q 0) (cS c) = now := bld_self hnow
  have := L (cR c) 0 (cR c + 1) (by omega) (by omega)
  rw [e] at this
  exact ⟨cR c + 1, this⟩
theorem xw_step (w : WF c) {now q : Nat} (hnow : now < 2 ^ cS c) (hq : q < 2147483648) (ht : TBL c 99 false a_table (cN c)) {post : Int32 → Prop} (h : post (nI (stp c now q))) : wpX_step post (nI (cN c), nI (cS c), nI (cR c), nI now, f_right, f_levelsKnown, f_head, f_tail, f_met, f_comesKnown, f_entry, f_round, xK c, xO c, xF c, xA c, xG c, xB c, a_table, a_saved, a_matters, a_cubes, a_levels, a_edgeFlow, a_netFlow, a_queue, a_before, a_edge, a_leads, a_comes, a_group, a_later, a_goes, a_shows) (nI q) := by
  dsimp only [wpX_step]
  exact xw_with w hnow hq (xw_aft w (wth_lt _ _) ht h)
end
section
variable {c : CK} {a_first : Nat → Int32} {a_second : Nat → Int32} {a_third : Nat → Int32} {a_now : Nat → Int32} {a_at : Nat → Int32} {a_other : Nat → Int32} {a_source : Nat → Int32} {a_register : Nat → Int32} {a_level : Nat → Int32} {a_soon : Nat → Int32} {a_depend : Nat → Int32} {a_table : Nat → Int32} {a_marked : Nat → Int32} {a_after : Nat → Int32} {a_shows : Nat → Int32} {a_apart : Nat → Int32}
theorem yw_cfg (w : WF c) (hY : YS c a_first a_second a_third a_source a_register) {now : Nat} (hn : YN c now a_now) {post : Int32 → Prop} (h : post (nI (cfgOf c now))) : wpY_configuration post (nI (cN c), nI (cS c), nI (cR c), xK c, a_first, a_second, a_third, xF c, a_now, a_at, a_other, a_source, a_register, a_level, a_soon, a_depend, a_table, a_marked, a_after, a_shows, a_apart) := by
  have hR := wf_R w
  have hN := wf_N w
  have L : ∀ d i n, i + d = cR c → d < n → wY_configuration_4 post (nI (cN c)) (nI (cS c)) (nI (cR c)) (xK c) a_first a_second a_third (xF c) a_now a_at a_other a_source a_register a_level a_soon a_depend a_table a_marked a_after a_shows a_apart n (nI (bld (fun r => now.testBit (cB c r)) i)) (nI i) := by
    intro d
    induction d with
    | zero =>
      intro i n hi hk
      obtain ⟨m, rfl⟩ : ∃ m, n = m + 1 := ⟨n - 1, by omega⟩
      have h1 : i = cR c := by omega
      subst h1
      unfold wY_configuration_4
      exact br_t (nI_le (Nat.le_refl _) (by omega)) h
    | succ d ih =>
      intro i n hi hk
      obtain ⟨m, rfl⟩ : ∃ m, n = m + 1 := ⟨n - 1, by omega⟩
      have hi' : i < cR c := by omega
      have hG := wf_GN w hi'
      have a1 := hY.2.2.2.2 i hi'
      have a2 := hn _ (wf_B w hi')
      rw [← wf_G w hi'] at a2
      have b := bld_or (fun r => now.testBit (cB c r)) (n := i) (by omega)
      have hi2 := ih (i + 1) m (by omega) (by omega)
      have h1 : ¬ cR c ≤ i := by omega
      rw [← b] at hi2
      cases e : now.testBit (cB c i)
      · rw [e] at a2 hi2
        have z : nI false.toNat = 0 := rfl
        rw [z] at a2 hi2
        simp (disch := omega) only [gw_in, gw_cl, gw_Lle, gw_leL, gw_Llt, gw_ltL, gw_eqL, gw_Leq, gw_Lmul, gw_Ladd, gw_addL, nI_leI, nI_ltI, nI_eq, nI_add, nI_1, pk_mul, xK_ap, xO_ap, xF_ap, xA_ap, xG_ap, xB_ap, forall_eq, true_and, and_true, false_imp_iff, true_imp_iff, not_false_eq_true, not_true_eq_false, eq_self, Nat.reduceLT, Nat.reduceLeDiff, Nat.reduceEqDiff, gw_10, gw_01, wY_configuration_4, h1, a1, a2]
        exact hi2
      · rw [e] at a2 hi2
        have z : nI true.toNat = 1 := rfl
        rw [z] at a2 hi2
        simp (disch := omega) only [gw_in, gw_cl, gw_Lle, gw_leL, gw_Llt, gw_ltL, gw_eqL, gw_Leq, gw_Lmul, gw_Ladd, gw_addL, nI_leI, nI_ltI, nI_eq, nI_add, nI_1, pk_mul, xK_ap, xO_ap, xF_ap, xA_ap, xG_ap, xB_ap, forall_eq, true_and, and_true, false_imp_iff, true_imp_iff, not_false_eq_true, not_true_eq_false, eq_self, Nat.reduceLT, Nat.reduceLeDiff, Nat.reduceEqDiff, gw_10, gw_01, wY_configuration_4, h1, a1, a2]
        exact hi2
  exact ⟨cR c + 1, L (cR c) 0 _ (by omega) (by omega)⟩
/-- the values of the sources while registers are being written -/
def YB (c : CK) (p : Nat → Bool) (a : Nat → Int32) : Prop := ∀ s, s < cS c → a (cA c s) = nI (p s).toNat
theorem yb_upd (w : WF c) {now q i : Nat} (hi : i < cR c) {a : Nat → Int32} (h : YB c (wbt c now q i) a) : YB c (wbt c now q (i + 1)) (upd a (cG c i) (nI (q.testBit i).toNat)) := by
  intro s hs
  show _ = nI (if s = cB c i then q.testBit i else wbt c now q i s).toNat
  rw [wf_G w hi]
  by_cases e : s = cB c i
  · subst e
    rw [if_pos rfl, pk_us]
  · rw [if_neg e, pk_un (fun z => e (wf_Ai w hs (wf_B w hi) z))]
    exact h s hs
theorem yb_yn {now q : Nat} {a : Nat → Int32} (h : YB c (wbt c now q (cR c)) a) : YN c (wth c now q) a := by
  intro s hs
  rw [wth_tb hs]
  exact h s hs
theorem yw_step (w : WF c) (hY : YS c a_first a_second a_third a_source a_register) {now : Nat} (hn : YN c now a_now) {post : SY → Prop}
    (h : ∀ t o a, YN c (wth c now (aft c now)) a → post (nI (cN c), nI (cS c), nI (cR c), xK c, a_first, a_second, a_third, xF c, a, t, o, a_source, a_register, a_level, a_soon, a_depend, a_table, a_marked, a_after, a_shows, a_apart)) : wpY_step post (nI (cN c), nI (cS c), nI (cR c), xK c, a_first, a_second, a_third, xF c, a_now, a_at, a_other, a_source, a_register, a_level, a_soon, a_depend, a_table, a_marked, a_after, a_shows, a_apart) := by
  have hR := wf_R w
  have hN := wf_N w
  dsimp only [wpY_step]
  refine yw_present w hY hn (fun t ht => ?_)
  dsimp only
  have L2 : ∀ d i n o a, i + d = cR c → d < n → (∀ j, j < cR c → o j = nI ((aft c now).testBit j).toNat) → YB c (wbt c now (aft c now) i) a → wY_step_44 post (nI (cN c)) (nI (cS c)) (nI (cR c)) n (nI i) (xK c) a_first a_second a_third (xF c) a t o a_source a_register a_level a_soon a_depend a_table a_marked a_after a_shows a_apart := by
    intro d
    induction d with
    | zero =>
      intro i n o a hi hk ho ha
      obtain ⟨m, rfl⟩ : ∃ m, n = m + 1 := ⟨n - 1, by omega⟩
      have h1 : i = cR c := by omega
      subst h1
      unfold wY_step_44
      exact br_t (nI_le (Nat.le_refl _) (by omega)) (h t o a (yb_yn ha))
    | succ d ih =>
      intro i n o a hi hk ho ha
      obtain ⟨m, rfl⟩ : ∃ m, n = m + 1 := ⟨n - 1, by omega⟩
      have hi' : i < cR c := by omega
      have hG := wf_GN w hi'
      have a1 := hY.2.2.2.2 i hi'
      have a2 := ho i hi'
      have h1 : ¬ cR c ≤ i := by omega
      simp (disch := omega) only [gw_in, gw_cl, gw_Lle, gw_leL, gw_Llt, gw_ltL, gw_eqL, gw_Leq, gw_Lmul, gw_Ladd, gw_addL, nI_leI, nI_ltI, nI_eq, nI_add, nI_1, pk_mul, xK_ap, xO_ap, xF_ap, xA_ap, xG_ap, xB_ap, forall_eq, true_and, and_true, false_imp_iff, true_imp_iff, not_false_eq_true, not_true_eq_false, eq_self, Nat.reduceLT, Nat.reduceLeDiff, Nat.reduceEqDiff, gw_10, gw_01, wY_step_44, h1, a1, a2, gw_bool]
      exact ih (i + 1) m o _ (by omega) (by omega) ho (yb_upd w hi' ha)
  have L1 : ∀ d i n o, i + d = cR c → d < n → (∀ j, j < i → o j = nI ((aft c now).testBit j).toNat) → wY_step_6 post (nI (cN c)) (nI (cS c)) (nI (cR c)) n (nI i) (xK c) a_first a_second a_third (xF c) a_now t o a_source a_register a_level a_soon a_depend a_table a_marked a_after a_shows a_apart := by
    intro d
    induction d with
    | zero =>
      intro i n o hi hk ho
      obtain ⟨m, rfl⟩ : ∃ m, n = m + 1 := ⟨n - 1, by omega⟩
      unfold wY_step_6
      exact br_t (nI_le (by omega) (by omega)) ⟨cR c + 1, L2 (cR c) 0 _ o a_now (by omega) (by omega) (fun j hj => ho j (by omega)) hn⟩
    | succ d ih =>
      intro i n o hi hk ho
      obtain ⟨m, rfl⟩ : ∃ m, n = m + 1 := ⟨n - 1, by omega⟩
      have hi' : i < cR c := by omega
      have hG := wf_GN w hi'
      have hF := wf_GF w hi'
      have a1 := hY.2.2.2.2 i hi'
      have a2 := ht _ hF
      have h1 : ¬ cR c ≤ i := by omega
      simp (disch := omega) only [gw_in, gw_cl, gw_Lle, gw_leL, gw_Llt, gw_ltL, gw_eqL, gw_Leq, gw_Lmul, gw_Ladd, gw_addL, nI_leI, nI_ltI, nI_eq, nI_add, nI_1, pk_mul, xK_ap, xO_ap, xF_ap, xA_ap, xG_ap, xB_ap, forall_eq, true_and, and_true, false_imp_iff, true_imp_iff, not_false_eq_true, not_true_eq_false, eq_self, Nat.reduceLT, Nat.reduceLeDiff, Nat.reduceEqDiff, gw_10, gw_01, wY_step_6, h1, a1, a2, gw_bool]
      refine ih (i + 1) m _ (by omega) (by omega) (fun j hj => ?_)
      by_cases e : j = i
      · subst e
        rw [pk_us, aft_tb hi']
      · rw [pk_un e]
        exact ho j (by omega)
  exact ⟨cR c + 1, L1 (cR c) 0 _ a_other (by omega) (by omega) (fun j hj => by omega)⟩
theorem yw_restore (w : WF c) (hY : YS c a_first a_second a_third a_source a_register) {now q : Nat} (hq : q < 2147483648) (hn : YN c now a_now) {post : SY → Prop}
    (h : ∀ a, YN c (wth c now q) a → post (nI (cN c), nI (cS c), nI (cR c), xK c, a_first, a_second, a_third, xF c, a, a_at, a_other, a_source, a_register, a_level, a_soon, a_depend, a_table, a_marked, a_after, a_shows, a_apart)) : wpY_restore post (nI (cN c), nI (cS c), nI (cR c), xK c, a_first, a_second, a_third, xF c, a_now, a_at, a_other, a_source, a_register, a_level, a_soon, a_depend, a_table, a_marked, a_after, a_shows, a_apart) (nI q) := by
  have hR := wf_R w
  have hN := wf_N w
  have L2 : ∀ d i n a, i + d = cR c → d < n → YB c (wbt c now q i) a → wY_restore_2 post (nI q) (nI (cN c)) (nI (cS c)) (nI (cR c)) n (nI i) (xK c) a_first a_second a_third (xF c) a a_at a_other a_source a_register a_level a_soon a_depend a_table a_marked a_after a_shows a_apart := by
    intro d
    induction d with
    | zero =>
      intro i n a hi hk ha
      obtain ⟨m, rfl⟩ : ∃ m, n = m + 1 := ⟨n - 1, by omega⟩
      have h1 : i = cR c := by omega
      subst h1
      unfold wY_restore_2
      exact br_t (nI_le (Nat.le_refl _) (by omega)) (h a (yb_yn ha))
    | succ d ih =>
      intro i n a hi hk ha
      obtain ⟨m, rfl⟩ : ∃ m, n = m + 1 := ⟨n - 1, by omega⟩
      have hi' : i < cR c := by omega
      have hG := wf_GN w hi'
      have a1 := hY.2.2.2.2 i hi'
      have h1 : ¬ cR c ≤ i := by omega
      have hb : (nI q >>> (nI i &&& 31)) &&& 1 = nI (q.testBit i).toNat := gw_bit (by omega) hq
      have hu := ih (i + 1) m _ (by omega) (by omega) (yb_upd w hi' ha)
      cases e : q.testBit i
      · rw [e] at hb hu
        have z : nI false.toNat = 0 := rfl
        rw [z] at hb hu
        simp (disch := omega) only [gw_in, gw_cl, gw_Lle, gw_leL, gw_Llt, gw_ltL, gw_eqL, gw_Leq, gw_Lmul, gw_Ladd, gw_addL, nI_leI, nI_ltI, nI_eq, nI_add, nI_1, pk_mul, xK_ap, xO_ap, xF_ap, xA_ap, xG_ap, xB_ap, forall_eq, true_and, and_true, false_imp_iff, true_imp_iff, not_false_eq_true, not_true_eq_false, eq_self, Nat.reduceLT, Nat.reduceLeDiff, Nat.reduceEqDiff, gw_10, gw_01, wY_restore_2, h1, a1, hb, gw_bool0]
        exact hu
      · rw [e] at hb hu
        have z : nI true.toNat = 1 := rfl
        rw [z] at hb hu
        simp (disch := omega) only [gw_in, gw_cl, gw_Lle, gw_leL, gw_Llt, gw_ltL, gw_eqL, gw_Leq, gw_Lmul, gw_Ladd, gw_addL, nI_leI, nI_ltI, nI_eq, nI_add, nI_1, pk_mul, xK_ap, xO_ap, xF_ap, xA_ap, xG_ap, xB_ap, forall_eq, true_and, and_true, false_imp_iff, true_imp_iff, not_false_eq_true, not_true_eq_false, eq_self, Nat.reduceLT, Nat.reduceLeDiff, Nat.reduceEqDiff, gw_10, gw_01, wY_restore_2, h1, a1, hb, gw_bool1]
        exact hu
  exact ⟨cR c + 1, L2 (cR c) 0 _ a_now (by omega) (by omega) hn⟩
end
end
section
/-! ===== going round: the pure rows ===== -/
def itr (f : Nat → Nat) (x : Nat) : Nat → Nat
  | 0 => x
  | k + 1 => f (itr f x k)
theorem itr_s (f : Nat → Nat) (x k : Nat) : itr f x (k + 1) = f (itr f x k) := rfl
theorem itr_sh {f : Nat → Nat} {x p q : Nat} (h : itr f x p = itr f x q) : ∀ r, itr f x (p + r) = itr f x (q + r)
  | 0 => h
  | r + 1 => by
    show f (itr f x (p + r)) = f (itr f x (q + r))
    rw [itr_sh h r]
theorem pg_hole : ∀ n (X : Nat → Nat), (∀ k, k ≤ n → X k < n) → ∃ i j, i < j ∧ j ≤ n ∧ X i = X j := by
  intro n
  induction n with
  | zero => intro X h; exact absurd (h 0 (Nat.le_refl _)) (Nat.not_lt_zero _)
  | succ n ih =>
    intro X h
    by_cases hv : ∃ i, i ≤ n ∧ X i = X (n + 1)
    · obtain ⟨i, hi, e⟩ := hv
      exact ⟨i, n + 1, by omega, Nat.le_refl _, e⟩
    · have hne : ∀ i, i ≤ n → X i ≠ X (n + 1) := fun i hi e => hv ⟨i, hi, e⟩
      have hlast := h (n + 1) (Nat.le_refl _)
      obtain ⟨i, j, hij, hj, e⟩ := ih (fun k => if X k = n then X (n + 1) else X k) (fun k hk => by
        show (if X k = n then X (n + 1) else X k) < n
        have h1 := h k (by omega)
        have h2 := hne k hk
        by_cases e : X k = n
        · rw [if_pos e]; omega
        · rw [if_neg e]; omega)
      refine ⟨i, j, hij, by omega, ?_⟩
      have e' : (if X i = n then X (n + 1) else X i) = (if X j = n then X (n + 1) else X j) := e
      have h1 := hne i (by omega)
      have h2 := hne j hj
      by_cases e1 : X i = n <;> by_cases e2 : X j = n
      · rw [e1, e2]
      · rw [if_pos e1, if_neg e2] at e'; exact absurd e'.symm h2
      · rw [if_neg e1, if_pos e2] at e'; exact absurd e' h1
      · rw [if_neg e1, if_neg e2] at e'; exact e'
section
variable {f : Nat → Nat} {x : Nat}
theorem cy_ge {a r : Nat} (h : itr f x a = itr f x (a + r)) {m : Nat} (hm : a ≤ m) : itr f x m = itr f x (m + r) := by
  have := itr_sh h (m - a)
  rw [show a + (m - a) = m by omega, show a + r + (m - a) = m + r by omega] at this
  exact this
theorem cy_mul {a r : Nat} (h : itr f x a = itr f x (a + r)) {m : Nat} (hm : a ≤ m) : ∀ t, itr f x m = itr f x (m + t * r)
  | 0 => by rw [Nat.zero_mul]; rfl
  | t + 1 => by
    rw [cy_mul h hm t, cy_ge h (m := m + t * r) (by omega), Nat.succ_mul, Nat.add_assoc]
theorem cy_two {a r b s : Nat} (hr : 1 ≤ r) (h1 : itr f x a = itr f x (a + r)) (h2 : itr f x b = itr f x (b + s)) : itr f x a = itr f x (a + s) := by
  have hb : b ≤ a + b * r := Nat.le_trans (Nat.le_mul_of_pos_right b (by omega)) (Nat.le_add_left _ _)
  rw [cy_mul h1 (Nat.le_refl a) b, cy_ge h2 hb, cy_mul h1 (m := a + s) (by omega) b]
  congr 1
  omega
/-- the length of the cycle, and how long it takes to it -/
def PER (f : Nat → Nat) (x l : Nat) : Prop := 1 ≤ l ∧ l ≤ 64 ∧ itr f x 64 = itr f x (64 + l) ∧ ∀ r, 1 ≤ r → r < l → itr f x 64 ≠ itr f x (64 + r)
def ENT (f : Nat → Nat) (x l m : Nat) : Prop := m ≤ 64 ∧ itr f x m = itr f x (m + l) ∧ ∀ e, e < m → itr f x e ≠ itr f x (e + l)
theorem per_ex (h : ∀ k, itr f x k < 64) : ∃ l, PER f x l := by
  obtain ⟨i, j, hij, hj, e⟩ := pg_hole 64 (itr f x) (fun k _ => h k)
  have e2 : itr f x i = itr f x (i + (j - i)) := by rw [show i + (j - i) = j by omega]; exact e
  have e3 := cy_ge e2 (m := 64) (by omega)
  obtain ⟨l, ⟨h1, h2⟩, h3⟩ := pk_least (fun r => 1 ≤ r ∧ itr f x 64 = itr f x (64 + r)) ⟨j - i, by omega, e3⟩
  refine ⟨l, h1, ?_, h2, fun r hr hl e4 => h3 r hl ⟨hr, e4⟩⟩
  apply Classical.byContradiction
  intro z
  exact h3 (j - i) (by omega) ⟨by omega, e3⟩
theorem per_uni {l l' : Nat} (h : PER f x l) (h' : PER f x l') : l' = l := by
  rcases Nat.lt_trichotomy l l' with e | e | e
  · exact absurd h.2.2.1 (h'.2.2.2 l h.1 e)
  · exact e.symm
  · exact absurd h'.2.2.1 (h.2.2.2 l' h'.1 e)
theorem ent_ex {l : Nat} (h : PER f x l) : ∃ m, ENT f x l m := by
  obtain ⟨m, h1, h2⟩ := pk_least (fun e => itr f x e = itr f x (e + l)) ⟨64, h.2.2.1⟩
  refine ⟨m, ?_, h1, fun e he z => h2 e he z⟩
  apply Classical.byContradiction
  intro z
  exact h2 64 (by omega) h.2.2.1
theorem ent_uni {l m m' : Nat} (h : ENT f x l m) (h' : ENT f x l m') : m' = m := by
  rcases Nat.lt_trichotomy m m' with e | e | e
  · exact absurd h.2.1 (h'.2.2 m e)
  · exact e.symm
  · exact absurd h'.2.1 (h.2.2 m' e)
/-- a least distance of two equal ones, found anywhere, is the length of the cycle -/
theorem per_of {l p r : Nat} (h : PER f x l) (hr : 1 ≤ r) (h1 : itr f x p = itr f x (p + r)) (h2 : ∀ s, 1 ≤ s → s < r → itr f x p ≠ itr f x (p + s)) : r = l := by
  have e1 := cy_two h.1 h.2.2.1 h1
  have e2 := cy_two hr h1 h.2.2.1
  rcases Nat.lt_trichotomy r l with e | e | e
  · exact absurd e1 (h.2.2.2 r hr e)
  · exact e
  · exact absurd e2 (h2 l h.1 e)
theorem ent_mod {l m n : Nat} (h : ENT f x l m) (hn : m ≤ n) : itr f x (m + (n - m) % l) = itr f x n := by
  have e := cy_mul h.2.1 (m := m + (n - m) % l) (by omega) ((n - m) / l)
  rw [e]
  congr 1
  have := Nat.div_add_mod (n - m) l
  rw [Nat.mul_comm] at this
  omega
theorem per_mod {l n : Nat} (h : PER f x l) (hn : 64 ≤ n) : itr f x (64 + (n - 64) % l) = itr f x n := by
  have e := cy_mul h.2.2.1 (m := 64 + (n - 64) % l) (by omega) ((n - 64) / l)
  rw [e]
  congr 1
  have := Nat.div_add_mod (n - 64) l
  rw [Nat.mul_comm] at this
  omega
end
/-- the configurations that come one after another -/
def seq (c : CK) (now k : Nat) : Nat := itr (stp c now) (cfgOf c now) k
theorem seq_lt (c : CK) (now : Nat) : ∀ k, seq c now k < 2 ^ cR c
  | 0 => cfg_lt _
  | k + 1 => aft_lt _
theorem seq_64 {c : CK} (w : WF c) (now k : Nat) : seq c now k < 64 := r64 w (seq_lt c now k)
theorem seq_s (c : CK) (now k : Nat) : seq c now (k + 1) = stp c now (seq c now k) := rfl
end
section
/-! ===== X: circle, tick, cycle ===== -/
section
variable {c : CK} {f_now : Int32} {f_right : Int32} {f_levelsKnown : Int32} {f_head : Int32} {f_tail : Int32} {f_met : Int64} {f_comesKnown : Int32} {f_entry : Int32} {f_round : Int32} {a_table : Nat → Int64} {a_saved : Nat → Int64} {a_matters : Nat → Int32} {a_cubes : Nat → Int64} {a_levels : Nat → Int32} {a_edgeFlow : Nat → Int32} {a_netFlow : Nat → Int32} {a_queue : Nat → Int32} {a_before : Nat → Int32} {a_edge : Nat → Int32} {a_leads : Nat → Int64} {a_comes : Nat → Int32} {a_group : Nat → Int32} {a_later : Nat → Int32} {a_goes : Nat → Int32} {a_shows : Nat → Int32}
theorem xw_circle109 (w : WF c) {now l m : Nat} (hnow : now < 2 ^ cS c) (ht : TBL c 99 false a_table (cN c)) (hp : PER (stp c now) (cfgOf c now) l) (he : ENT (stp c now) (cfgOf c now) l m) {post : SX → Prop} (h : post (nI (cN c), nI (cS c), nI (cR c), nI now, f_right, f_levelsKnown, f_head, f_tail, f_met, f_comesKnown, nI m, nI l, xK c, xO c, xF c, xA c, xG c, xB c, a_table, a_saved, a_matters, a_cubes, a_levels, a_edgeFlow, a_netFlow, a_queue, a_before, a_edge, a_leads, a_comes, a_group, a_later, a_goes, a_shows)) :
    ∀ d e n, e + d = m → d < n → wX_circle_109 post (nI (cN c)) (nI (cS c)) (nI (cR c)) (nI now) f_right f_levelsKnown f_head f_tail f_met f_comesKnown (nI l) (xK c) (xO c) (xF c) (xA c) (xG c) (xB c) a_table a_saved a_matters a_cubes a_levels a_edgeFlow a_netFlow a_queue a_before a_edge a_leads a_comes a_group a_later a_goes a_shows n (nI (seq c now e)) (nI (seq c now (e + l))) (nI e) := by
  intro d
  induction d with
  | zero =>
    intro e n hd hn
    obtain ⟨k, rfl⟩ : ∃ k, n = k + 1 := ⟨n - 1, by omega⟩
    have : e = m := by omega
    subst this
    unfold wX_circle_109
    refine br_t ?_ h
    exact congrArg nI he.2.1
  | succ d ih =>
    intro e n hd hn
    obtain ⟨k, rfl⟩ : ∃ k, n = k + 1 := ⟨n - 1, by omega⟩
    have h1 := seq_64 w now e
    have h2 := seq_64 w now (e + l)
    unfold wX_circle_109
    refine br_f ?_ (xw_step w hnow (by omega) ht (xw_step w hnow (by omega) ht (nm_r (nI_1 e) ?_)))
    · rw [nI_eq (by omega) (by omega)]
      exact he.2.2 e (by omega)
    · rw [← seq_s, ← seq_s, show e + l + 1 = e + 1 + l by omega]
      exact ih (e + 1) k (by omega) (by omega)
theorem xw_circle83 (w : WF c) {now l m : Nat} (hnow : now < 2 ^ cS c) (ht : TBL c 99 false a_table (cN c)) (hp : PER (stp c now) (cfgOf c now) l) (he : ENT (stp c now) (cfgOf c now) l m) {post : SX → Prop} (h : post (nI (cN c), nI (cS c), nI (cR c), nI now, f_right, f_levelsKnown, f_head, f_tail, f_met, f_comesKnown, nI m, nI l, xK c, xO c, xF c, xA c, xG c, xB c, a_table, a_saved, a_matters, a_cubes, a_levels, a_edgeFlow, a_netFlow, a_queue, a_before, a_edge, a_leads, a_comes, a_group, a_later, a_goes, a_shows)) :
    ∀ d k n, k + d = l → d < n → wX_circle_83 post (nI (seq c now 0)) (nI (cN c)) (nI (cS c)) (nI (cR c)) (nI now) f_right f_levelsKnown f_head f_tail f_met f_comesKnown f_entry (nI l) (xK c) (xO c) (xF c) (xA c) (xG c) (xB c) a_table a_saved a_matters a_cubes a_levels a_edgeFlow a_netFlow a_queue a_before a_edge a_leads a_comes a_group a_later a_goes a_shows n (nI (seq c now k)) (nI k) := by
  have hl := hp.2.1
  intro d
  induction d with
  | zero =>
    intro k n hd hn
    obtain ⟨q, rfl⟩ : ∃ q, n = q + 1 := ⟨n - 1, by omega⟩
    have : k = l := by omega
    subst this
    unfold wX_circle_83
    refine br_t (nI_le (Nat.le_refl _) (by omega)) ⟨m + 1, ?_⟩
    have := xw_circle109 (f_right := f_right) (f_levelsKnown := f_levelsKnown) (f_head := f_head) (f_tail := f_tail) (f_met := f_met) (f_comesKnown := f_comesKnown) w hnow ht hp he h m 0 (m + 1) (by omega) (by omega)
    rw [Nat.zero_add] at this
    exact this
  | succ d ih =>
    intro k n hd hn
    obtain ⟨q, rfl⟩ : ∃ q, n = q + 1 := ⟨n - 1, by omega⟩
    have h1 := seq_64 w now k
    unfold wX_circle_83
    refine br_f (nI_ge (by omega) (by omega)) (xw_step w hnow (by omega) ht (nm_r (nI_1 k) ?_))
    rw [← seq_s]
    exact ih (k + 1) q (by omega) (by omega)
theorem xw_circle26 (w : WF c) {now l m : Nat} (hnow : now < 2 ^ cS c) (ht : TBL c 99 false a_table (cN c)) (hp : PER (stp c now) (cfgOf c now) l) (he : ENT (stp c now) (cfgOf c now) l m) {post : SX → Prop} (h : post (nI (cN c), nI (cS c), nI (cR c), nI now, f_right, f_levelsKnown, f_head, f_tail, f_met, f_comesKnown, nI m, nI l, xK c, xO c, xF c, xA c, xG c, xB c, a_table, a_saved, a_matters, a_cubes, a_levels, a_edgeFlow, a_netFlow, a_queue, a_before, a_edge, a_leads, a_comes, a_group, a_later, a_goes, a_shows)) :
    ∀ d p r n, p + r + d = 256 → d < n → p ≤ 127 → 1 ≤ r → r ≤ p + 1 → (∀ s, 1 ≤ s → s < r → seq c now p ≠ seq c now (p + s)) →
      wX_circle_26 post (nI (cN c)) (nI (cS c)) (nI (cR c)) (nI now) f_right f_levelsKnown f_head f_tail f_met f_comesKnown f_entry (xK c) (xO c) (xF c) (xA c) (xG c) (xB c) a_table a_saved a_matters a_cubes a_levels a_edgeFlow a_netFlow a_queue a_before a_edge a_leads a_comes a_group a_later a_goes a_shows n (nI (p + 1)) (nI (seq c now p)) (nI (seq c now (p + r))) (nI r) := by
  have hl := hp.2.1
  have hl1 := hp.1
  have hS2 := gw_p2 (wf_S w)
  intro d
  induction d with
  | zero => intro p r n hd hn hp1 hr1 hr2 hmin; omega
  | succ d ih =>
    intro p r n hd hn hp1 hr1 hr2 hmin
    obtain ⟨k, rfl⟩ : ∃ k, n = k + 1 := ⟨n - 1, by omega⟩
    have h1 := seq_64 w now p
    have h2 := seq_64 w now (p + r)
    unfold wX_circle_26
    refine pk_eq (seq c now p) (seq c now (p + r)) (fun e => ?_) (fun e => ?_)
    · have e2 : r = l := per_of hp hr1 e hmin
      subst e2
      refine xw_cfg w (by omega) ⟨r + 1, ?_⟩
      exact xw_circle83 w hnow ht hp he h r 0 _ (by omega) (by omega)
    · have hmin2 : ∀ s, 1 ≤ s → s < r + 1 → seq c now p ≠ seq c now (p + s) := fun s hs1 hs2 => by
        by_cases q : s = r
        · subst q; exact e
        · exact hmin s hs1 (by omega)
      refine pk_eq (p + 1) r (fun e2 => ?_) (fun e2 => ?_)
      · have hle : p ≤ 63 := by
          apply Classical.byContradiction
          intro z
          exact hmin2 l hl1 (by omega) (cy_ge hp.2.2.1 (by omega))
        have e3 : nI (p + 1) * 2 = nI (2 * (p + 1)) := by
          rw [show (2 : Int32) = nI 2 from rfl, pk_mul, Nat.mul_comm]
        refine nm_r e3 ?_
        unfold wX_circle_50
        refine xw_step w hnow (by omega) ht (nm_r (e' := nI 1) rfl ?_)
        rw [← seq_s, show p + r + 1 = (p + r) + 1 by omega]
        have := ih (p + r) 1 k (by omega) (by omega) (by omega) (by omega) (by omega) (fun s hs1 hs2 => by omega)
        rw [show p + r + 1 = 2 * (p + 1) by omega] at this
        rw [show p + r + 1 = 2 * (p + 1) by omega]
        exact this
      · unfold wX_circle_50
        refine xw_step w hnow (by omega) ht (nm_r (nI_1 r) ?_)
        rw [← seq_s, show p + r + 1 = p + (r + 1) by omega]
        exact ih p (r + 1) k (by omega) (by omega) (by omega) (by omega) (by omega) hmin2
theorem xw_circle (w : WF c) {now r : Nat} (hnow : now < 2 ^ cS c) (hr : r ≤ cN c) (ht : TBL c 99 false a_table r) {post : SX → Prop}
    (h : ∀ t l m, TBL c 99 false t (cN c) → PER (stp c now) (cfgOf c now) l → ENT (stp c now) (cfgOf c now) l m → post (nI (cN c), nI (cS c), nI (cR c), nI now, nI (cN c), f_levelsKnown, f_head, f_tail, f_met, f_comesKnown, nI m, nI l, xK c, xO c, xF c, xA c, xG c, xB c, t, a_saved, a_matters, a_cubes, a_levels, a_edgeFlow, a_netFlow, a_queue, a_before, a_edge, a_leads, a_comes, a_group, a_later, a_goes, a_shows)) : wpX_circle post (nI (cN c), nI (cS c), nI (cR c), nI now, nI r, f_levelsKnown, f_head, f_tail, f_met, f_comesKnown, f_entry, f_round, xK c, xO c, xF c, xA c, xG c, xB c, a_table, a_saved, a_matters, a_cubes, a_levels, a_edgeFlow, a_netFlow, a_queue, a_before, a_edge, a_leads, a_comes, a_group, a_later, a_goes, a_shows) := by
  have hS2 := gw_p2 (wf_S w)
  obtain ⟨l, hl⟩ := per_ex (f := stp c now) (x := cfgOf c now) (seq_64 w now)
  obtain ⟨m, hm⟩ := ent_ex hl
  dsimp only [wpX_circle]
  refine xw_learn w hr ht (fun t ht' => ?_)
  dsimp only
  refine xw_cfg w (by omega) (xw_step w hnow (by have := r64 w (cfg_lt (c := c) now); omega) ht' ⟨257, ?_⟩)
  exact xw_circle26 w hnow ht' hl hm (h t l m ht' hl hm) 255 0 1 _ (by omega) (by omega) (by omega) (by omega) (by omega) (fun s hs1 hs2 => by omega)
theorem xw_tick52 (w : WF c) {now k : Nat} (hk31 : k < 2147483648) (hnow : now < 2 ^ cS c) (ht : TBL c 99 false a_table (cN c)) {post : Int32 → SX → Prop} (h : post (nI (seq c now k)) (nI (cN c), nI (cS c), nI (cR c), nI (wth c now (seq c now k)), f_right, f_levelsKnown, f_head, f_tail, f_met, f_comesKnown, f_entry, f_round, xK c, xO c, xF c, xA c, xG c, xB c, a_table, a_saved, a_matters, a_cubes, a_levels, a_edgeFlow, a_netFlow, a_queue, a_before, a_edge, a_leads, a_comes, a_group, a_later, a_goes, a_shows)) :
    ∀ d i n, i + d = k → d < n → wX_tick_52 post (nI k) (nI (cN c)) (nI (cS c)) (nI (cR c)) (nI now) f_right f_levelsKnown f_head f_tail f_met f_comesKnown f_entry f_round (xK c) (xO c) (xF c) (xA c) (xG c) (xB c) a_table a_saved a_matters a_cubes a_levels a_edgeFlow a_netFlow a_queue a_before a_edge a_leads a_comes a_group a_later a_goes a_shows n (nI (seq c now i)) (nI i) := by
  intro d
  induction d with
  | zero =>
    intro i n hd hn
    obtain ⟨q, rfl⟩ : ∃ q, n = q + 1 := ⟨n - 1, by omega⟩
    have : i = k := by omega
    subst this
    have h1 := seq_64 w now i
    unfold wX_tick_52
    exact br_t (nI_le (Nat.le_refl _) (by omega)) (xw_with w hnow (by omega) h)
  | succ d ih =>
    intro i n hd hn
    obtain ⟨q, rfl⟩ : ∃ q, n = q + 1 := ⟨n - 1, by omega⟩
    have h1 := seq_64 w now i
    unfold wX_tick_52
    refine br_f (nI_ge (by omega) (by omega)) (xw_step w hnow (by omega) ht (nm_r (nI_1 i) ?_))
    rw [← seq_s]
    exact ih (i + 1) q (by omega) (by omega)
theorem xw_tick40 (w : WF c) {now k : Nat} (hk31 : k < 2147483648) (hnow : now < 2 ^ cS c) (ht : TBL c 99 false a_table (cN c)) {post : Int32 → SX → Prop} (h : post (nI (seq c now k)) (nI (cN c), nI (cS c), nI (cR c), nI (wth c now (seq c now k)), f_right, f_levelsKnown, f_head, f_tail, f_met, f_comesKnown, f_entry, f_round, xK c, xO c, xF c, xA c, xG c, xB c, a_table, a_saved, a_matters, a_cubes, a_levels, a_edgeFlow, a_netFlow, a_queue, a_before, a_edge, a_leads, a_comes, a_group, a_later, a_goes, a_shows)) :
    wX_tick_40 post (nI k) (nI (cN c)) (nI (cS c)) (nI (cR c)) (nI now) f_right f_levelsKnown f_head f_tail f_met f_comesKnown f_entry f_round (xK c) (xO c) (xF c) (xA c) (xG c) (xB c) a_table a_saved a_matters a_cubes a_levels a_edgeFlow a_netFlow a_queue a_before a_edge a_leads a_comes a_group a_later a_goes a_shows := by
  have hS2 := gw_p2 (wf_S w)
  unfold wX_tick_40
  exact xw_cfg w (by omega) ⟨k + 1, xw_tick52 w hk31 hnow ht h k 0 _ (by omega) (by omega)⟩
theorem xm_tick (w : WF c) {now : Nat} {u : SX} (hnow : now < 2 ^ cS c) (hX : XR c now u) {n : Nat} (hn : n < 2147483648) {post : Int32 → SX → Prop} (h : ∀ u', XR c (wth c now (seq c now n)) u' → post (nI (seq c now n)) u') : wpX_tick post u (nI n) := by
  refine xr_el (P := fun u => wpX_tick post u (nI n)) hX ?_
  intro r f_levelsKnown f_head f_tail f_met f_comesKnown f_entry f_round a_table a_saved a_matters a_cubes a_levels a_edgeFlow a_netFlow a_queue a_before a_edge a_leads a_comes a_group a_later a_goes a_shows hr ht hl hc
  dsimp only [wpX_tick]
  refine br_t (nI_pos' hn) (xw_learn w hr ht (fun t ht' => ?_))
  dsimp only
  refine pk_le n 130 (fun hle => ?_) (fun hgt => ?_)
  · exact xw_tick40 w hn hnow ht' (h _ (xr_in (Nat.le_refl _) ht' hl hc))
  · refine xw_circle w hnow (Nat.le_refl _) ht' (fun t2 l m ht2 hp he => ?_)
    dsimp only
    have hl1 := hp.1
    have hl2 := hp.2.1
    have hm := he.1
    refine ⟨nI_ne0 (by omega) (by omega), ?_⟩
    have hmod := Nat.mod_lt (n - m) (show 0 < l by omega)
    have e : nI m + (nI n - nI m - (nI n - nI m) / nI l * nI l) = nI (m + (n - m) % l) := by
      rw [pk_sub (by omega), pk_rem (by omega) (by omega) (by omega), nI_add]
    refine nm_r e ?_
    have e2 : seq c now (m + (n - m) % l) = seq c now n := ent_mod he (by omega)
    refine xw_tick40 w (by omega) hnow ht2 ?_
    rw [e2]
    exact h _ (xr_in (Nat.le_refl _) ht2 hl hc)
theorem xm_cycle (w : WF c) {now : Nat} {u : SX} (hnow : now < 2 ^ cS c) (hX : XR c now u) {b : Bool} {post : Int32 → SX → Prop} (h : ∀ u' l m, XR c now u' → PER (stp c now) (cfgOf c now) l → ENT (stp c now) (cfgOf c now) l m → post (nI (if b then l else m)) u') : wpX_cycle post u (nI b.toNat) := by
  refine xr_el (P := fun u => wpX_cycle post u (nI b.toNat)) hX ?_
  intro r f_levelsKnown f_head f_tail f_met f_comesKnown f_entry f_round a_table a_saved a_matters a_cubes a_levels a_edgeFlow a_netFlow a_queue a_before a_edge a_leads a_comes a_group a_later a_goes a_shows hr ht hl hc
  dsimp only [wpX_cycle]
  have hb := gw_bl b
  refine br_f (nI_pos (by omega)) (br_t (nI_le (b := 1) (by omega) (by omega)) (xw_circle w hnow hr ht (fun t2 l m ht2 hp he => ?_)))
  dsimp only
  cases b
  · exact br_t rfl (h _ l m (xr_in (Nat.le_refl _) ht2 hl hc) hp he)
  · exact br_f (by decide) (h _ l m (xr_in (Nat.le_refl _) ht2 hl hc) hp he)
end
end
section
/-! ===== Y: round, tick, cycle ===== -/
section
variable {c : CK} {a_first : Nat → Int32} {a_second : Nat → Int32} {a_third : Nat → Int32} {a_now : Nat → Int32} {a_at : Nat → Int32} {a_other : Nat → Int32} {a_source : Nat → Int32} {a_register : Nat → Int32} {a_level : Nat → Int32} {a_soon : Nat → Int32} {a_depend : Nat → Int32} {a_table : Nat → Int32} {a_marked : Nat → Int32} {a_after : Nat → Int32} {a_shows : Nat → Int32} {a_apart : Nat → Int32}
theorem yw_stepk (w : WF c) (hY : YS c a_first a_second a_third a_source a_register) {now k : Nat} (hn : YN c (wth c now (seq c now k)) a_now) {post : SY → Prop}
    (h : ∀ t o a, YN c (wth c now (seq c now (k + 1))) a → post (nI (cN c), nI (cS c), nI (cR c), xK c, a_first, a_second, a_third, xF c, a, t, o, a_source, a_register, a_level, a_soon, a_depend, a_table, a_marked, a_after, a_shows, a_apart)) : wpY_step post (nI (cN c), nI (cS c), nI (cR c), xK c, a_first, a_second, a_third, xF c, a_now, a_at, a_other, a_source, a_register, a_level, a_soon, a_depend, a_table, a_marked, a_after, a_shows, a_apart) := by
  refine yw_step w hY hn (fun t o a ha => h t o a ?_)
  rw [wth_wth w] at ha
  exact ha
theorem yw_cfgk (w : WF c) (hY : YS c a_first a_second a_third a_source a_register) {now k : Nat} (hn : YN c (wth c now (seq c now k)) a_now) {post : Int32 → Prop} (h : post (nI (seq c now k))) : wpY_configuration post (nI (cN c), nI (cS c), nI (cR c), xK c, a_first, a_second, a_third, xF c, a_now, a_at, a_other, a_source, a_register, a_level, a_soon, a_depend, a_table, a_marked, a_after, a_shows, a_apart) := by
  refine yw_cfg w hY hn ?_
  rw [cfg_wth w (seq_lt c now k)]
  exact h
theorem yw_resk (w : WF c) (hY : YS c a_first a_second a_third a_source a_register) {now q : Nat} (hn : YN c (wth c now q) a_now) {post : SY → Prop} {k : Nat}
    (h : ∀ a, YN c (wth c now (seq c now k)) a → post (nI (cN c), nI (cS c), nI (cR c), xK c, a_first, a_second, a_third, xF c, a, a_at, a_other, a_source, a_register, a_level, a_soon, a_depend, a_table, a_marked, a_after, a_shows, a_apart)) : wpY_restore post (nI (cN c), nI (cS c), nI (cR c), xK c, a_first, a_second, a_third, xF c, a_now, a_at, a_other, a_source, a_register, a_level, a_soon, a_depend, a_table, a_marked, a_after, a_shows, a_apart) (nI (seq c now k)) := by
  refine yw_restore w hY (by have := seq_64 w now k; omega) hn (fun a ha => h a ?_)
  rw [wth_wth w] at ha
  exact ha
theorem yn_0 (w : WF c) {now : Nat} (hnow : now < 2 ^ cS c) {a : Nat → Int32} : YN c (wth c now (seq c now 0)) a ↔ YN c now a := by
  show YN c (wth c now (cfgOf c now)) a ↔ _
  rw [wth_self w hnow]
theorem yw_round34 (w : WF c) (hY : YS c a_first a_second a_third a_source a_register) {now l : Nat} (hp : PER (stp c now) (cfgOf c now) l) {post : Int32 → SY → Prop}
    (h : ∀ a t o, YN c (wth c now (seq c now 0)) a → post (nI l) (nI (cN c), nI (cS c), nI (cR c), xK c, a_first, a_second, a_third, xF c, a, t, o, a_source, a_register, a_level, a_soon, a_depend, a_table, a_marked, a_after, a_shows, a_apart)) :
    ∀ d r n a t o, r + d = l → d < n → 1 ≤ r → YN c (wth c now (seq c now (64 + r))) a → wY_round_34 post (nI (seq c now 0)) (nI (seq c now 64)) n (nI r) (nI (cN c)) (nI (cS c)) (nI (cR c)) (xK c) a_first a_second a_third (xF c) a t o a_source a_register a_level a_soon a_depend a_table a_marked a_after a_shows a_apart := by
  have hl2 := hp.2.1
  intro d
  induction d with
  | zero =>
    intro r n a t o hr hn h1 ha
    obtain ⟨q, rfl⟩ : ∃ q, n = q + 1 := ⟨n - 1, by omega⟩
    have : r = l := by omega
    subst this
    unfold wY_round_34
    refine yw_cfgk w hY ha (br_t ?_ (yw_resk w hY ha (fun a' ha' => h a' t o ha')))
    exact congrArg nI hp.2.2.1.symm
  | succ d ih =>
    intro r n a t o hr hn h1 ha
    obtain ⟨q, rfl⟩ : ∃ q, n = q + 1 := ⟨n - 1, by omega⟩
    have s1 := seq_64 w now (64 + r)
    have s2 := seq_64 w now 64
    unfold wY_round_34
    refine yw_cfgk w hY ha (br_f ?_ (yw_stepk w hY ha (fun t' o' a' ha' => ?_)))
    · rw [nI_eq (by omega) (by omega)]
      exact fun e => hp.2.2.2 r h1 (by omega) e.symm
    · dsimp only
      exact nm_r (nI_1 r) (ih (r + 1) q a' t' o' (by omega) (by omega) (by omega) ha')
theorem yw_round7 (w : WF c) (hY : YS c a_first a_second a_third a_source a_register) {now l : Nat} (hp : PER (stp c now) (cfgOf c now) l) {post : Int32 → SY → Prop}
    (h : ∀ a t o, YN c (wth c now (seq c now 0)) a → post (nI l) (nI (cN c), nI (cS c), nI (cR c), xK c, a_first, a_second, a_third, xF c, a, t, o, a_source, a_register, a_level, a_soon, a_depend, a_table, a_marked, a_after, a_shows, a_apart)) :
    ∀ d k n a t o, k + d = 64 → d < n → YN c (wth c now (seq c now k)) a → wY_round_7 post (nI (seq c now 0)) n (nI k) (nI (cN c)) (nI (cS c)) (nI (cR c)) (xK c) a_first a_second a_third (xF c) a t o a_source a_register a_level a_soon a_depend a_table a_marked a_after a_shows a_apart := by
  intro d
  induction d with
  | zero =>
    intro k n a t o hk hn ha
    obtain ⟨q, rfl⟩ : ∃ q, n = q + 1 := ⟨n - 1, by omega⟩
    have : k = 64 := by omega
    subst this
    unfold wY_round_7
    refine br_t (nI_le (a := 64) (Nat.le_refl _) (by omega)) (yw_cfgk w hY ha (yw_stepk w hY ha (fun t' o' a' ha' => ?_)))
    dsimp only
    exact ⟨l + 1, yw_round34 w hY hp h (l - 1) 1 _ a' t' o' (by have := hp.1; omega) (by omega) (by omega) ha'⟩
  | succ d ih =>
    intro k n a t o hk hn ha
    obtain ⟨q, rfl⟩ : ∃ q, n = q + 1 := ⟨n - 1, by omega⟩
    unfold wY_round_7
    refine br_f (nI_ge (b := 64) (by omega) (by omega)) (yw_stepk w hY ha (fun t' o' a' ha' => ?_))
    dsimp only
    exact nm_r (nI_1 k) (ih (k + 1) q a' t' o' (by omega) (by omega) ha')
theorem yw_round (w : WF c) (hY : YS c a_first a_second a_third a_source a_register) {now l : Nat} (hp : PER (stp c now) (cfgOf c now) l) (hn : YN c (wth c now (seq c now 0)) a_now) {post : Int32 → SY → Prop}
    (h : ∀ a t o, YN c (wth c now (seq c now 0)) a → post (nI l) (nI (cN c), nI (cS c), nI (cR c), xK c, a_first, a_second, a_third, xF c, a, t, o, a_source, a_register, a_level, a_soon, a_depend, a_table, a_marked, a_after, a_shows, a_apart)) : wpY_round post (nI (cN c), nI (cS c), nI (cR c), xK c, a_first, a_second, a_third, xF c, a_now, a_at, a_other, a_source, a_register, a_level, a_soon, a_depend, a_table, a_marked, a_after, a_shows, a_apart) := by
  dsimp only [wpY_round]
  exact yw_cfgk w hY hn ⟨65, yw_round7 w hY hp h 64 0 _ a_now a_at a_other (by omega) (by omega) hn⟩
theorem yw_tick29 (w : WF c) (hY : YS c a_first a_second a_third a_source a_register) {now k : Nat} (hk31 : k < 2147483648) {post : Int32 → SY → Prop}
    (h : ∀ a t o, YN c (wth c now (seq c now k)) a → post (nI (seq c now k)) (nI (cN c), nI (cS c), nI (cR c), xK c, a_first, a_second, a_third, xF c, a, t, o, a_source, a_register, a_level, a_soon, a_depend, a_table, a_marked, a_after, a_shows, a_apart)) :
    ∀ d i n a t o, i + d = k → d < n → YN c (wth c now (seq c now i)) a → wY_tick_29 post (nI k) n (nI i) (nI (cN c)) (nI (cS c)) (nI (cR c)) (xK c) a_first a_second a_third (xF c) a t o a_source a_register a_level a_soon a_depend a_table a_marked a_after a_shows a_apart := by
  intro d
  induction d with
  | zero =>
    intro i n a t o hi hn ha
    obtain ⟨q, rfl⟩ : ∃ q, n = q + 1 := ⟨n - 1, by omega⟩
    have : i = k := by omega
    subst this
    unfold wY_tick_29
    exact br_t (nI_le (Nat.le_refl _) (by omega)) (yw_cfgk w hY ha (h a t o ha))
  | succ d ih =>
    intro i n a t o hi hn ha
    obtain ⟨q, rfl⟩ : ∃ q, n = q + 1 := ⟨n - 1, by omega⟩
    unfold wY_tick_29
    refine br_f (nI_ge (by omega) (by omega)) (yw_stepk w hY ha (fun t' o' a' ha' => ?_))
    dsimp only
    exact nm_r (nI_1 i) (ih (i + 1) q a' t' o' (by omega) (by omega) ha')
theorem ym_tick (w : WF c) {now : Nat} (hnow : now < 2 ^ cS c) {v : SY} (hv : YR c now v) {n : Nat} (hn : n < 2147483648) {post : Int32 → SY → Prop} (h : ∀ v', YR c (wth c now (seq c now n)) v' → post (nI (seq c now n)) v') : wpY_tick post v (nI n) := by
  refine yr_el (P := fun v => wpY_tick post v (nI n)) hv ?_
  intro a_first a_second a_third a_now a_at a_other a_source a_register a_level a_soon a_depend a_table a_marked a_after a_shows a_apart hY hN
  have hN := (yn_0 w hnow).mpr hN
  dsimp only [wpY_tick]
  refine br_t (nI_pos' hn) (pk_le n 64 (fun hle => ?_) (fun hgt => ?_))
  · exact ⟨n + 1, yw_tick29 w hY hn (fun a t o ha => h _ (yr_in hY ha)) n 0 _ a_now a_at a_other (by omega) (by omega) hN⟩
  · obtain ⟨l, hl⟩ := per_ex (f := stp c now) (x := cfgOf c now) (seq_64 w now)
    have hl1 := hl.1
    have hl2 := hl.2.1
    refine yw_round w hY hl hN (fun a t o ha => ?_)
    dsimp only
    refine ⟨nI_ne0 (by omega) (by omega), ?_⟩
    have hmod := Nat.mod_lt (n - 64) (show 0 < l by omega)
    have e : (64 : Int32) + (nI n - 64 - (nI n - 64) / nI l * nI l) = nI (64 + (n - 64) % l) := by
      have e1 : nI n - 64 = nI (n - 64) := pk_sub (show 64 ≤ n by omega)
      rw [e1, pk_rem (by omega) (by omega) (by omega), show (64 : Int32) = nI 64 from rfl, nI_add]
    refine nm_r e ⟨64 + (n - 64) % l + 1, ?_⟩
    have e2 : seq c now (64 + (n - 64) % l) = seq c now n := per_mod hl (by omega)
    refine yw_tick29 w hY (by omega) (fun a' t' o' ha' => ?_) _ 0 _ a t o (Nat.zero_add _) (by omega) ha
    rw [e2] at ha' ⊢
    exact h _ (yr_in hY ha')
section
variable {now l m : Nat} {post : Int32 → SY → Prop}
theorem yw_cycle73 (w : WF c) (hY : YS c a_first a_second a_third a_source a_register) {now l : Nat} (hl : l ≤ 64) {e : Nat} {post : Int32 → SY → Prop} {J34 : Int32 → Int32 → Int32 → Int32 → Int32 → (Nat → Int32) → (Nat → Int32) → (Nat → Int32) → (Nat → Int32) → (Nat → Int32) → (Nat → Int32) → (Nat → Int32) → (Nat → Int32) → (Nat → Int32) → (Nat → Int32) → (Nat → Int32) → (Nat → Int32) → (Nat → Int32) → (Nat → Int32) → (Nat → Int32) → (Nat → Int32) → (Nat → Int32) → (Nat → Int32) → Prop} {x3 : Int32}
    (h1 : seq c now e = seq c now (e + l) → ∀ a t o q, YN c (wth c now q) a → J34 (nI e) 0 (nI (cN c)) (nI (cS c)) (nI (cR c)) (xK c) a_first a_second a_third (xF c) a t o a_source a_register a_level a_soon a_depend a_table a_marked a_after a_shows a_apart)
    (h2 : seq c now e ≠ seq c now (e + l) → ∀ a t o q, YN c (wth c now q) a → J34 (nI (e + 1)) 1 (nI (cN c)) (nI (cS c)) (nI (cR c)) (xK c) a_first a_second a_third (xF c) a t o a_source a_register a_level a_soon a_depend a_table a_marked a_after a_shows a_apart) :
    ∀ d k n a t o, k + d = l → d < n → YN c (wth c now (seq c now (e + k))) a → wY_cycle_73 post J34 (nI l) x3 (nI e) (nI (seq c now e)) n (nI k) (nI (cN c)) (nI (cS c)) (nI (cR c)) (xK c) a_first a_second a_third (xF c) a t o a_source a_register a_level a_soon a_depend a_table a_marked a_after a_shows a_apart := by
  intro d
  induction d with
  | zero =>
    intro k n a t o hi hn ha
    obtain ⟨q, rfl⟩ : ∃ q, n = q + 1 := ⟨n - 1, by omega⟩
    have : k = l := by omega
    subst this
    have s1 := seq_64 w now (e + k)
    have s2 := seq_64 w now e
    unfold wY_cycle_73
    refine br_t (nI_le (Nat.le_refl _) (by omega)) (yw_cfgk w hY ha (pk_eq (seq c now (e + k)) (seq c now e) (fun z => ?_) (fun z => ?_)))
    · unfold wY_cycle_103
      exact br_t rfl (h1 z.symm a t o _ ha)
    · unfold wY_cycle_103
      exact br_f (by decide) (nm_r (nI_1 e) (h2 (fun y => z y.symm) a t o _ ha))
  | succ d ih =>
    intro k n a t o hi hn ha
    obtain ⟨q, rfl⟩ : ∃ q, n = q + 1 := ⟨n - 1, by omega⟩
    unfold wY_cycle_73
    refine br_f (nI_ge (by omega) (by omega)) (yw_stepk w hY ha (fun t' o' a' ha' => ?_))
    dsimp only
    exact nm_r (nI_1 k) (ih (k + 1) q a' t' o' (by omega) (by omega) ha')
theorem yw_cycle47 (w : WF c) (hY : YS c a_first a_second a_third a_source a_register) {now l : Nat} (hl : l ≤ 64) {e : Nat} (he : e ≤ 64) {post : Int32 → SY → Prop} {J34 : Int32 → Int32 → Int32 → Int32 → Int32 → (Nat → Int32) → (Nat → Int32) → (Nat → Int32) → (Nat → Int32) → (Nat → Int32) → (Nat → Int32) → (Nat → Int32) → (Nat → Int32) → (Nat → Int32) → (Nat → Int32) → (Nat → Int32) → (Nat → Int32) → (Nat → Int32) → (Nat → Int32) → (Nat → Int32) → (Nat → Int32) → (Nat → Int32) → (Nat → Int32) → Prop} {x3 : Int32}
    (h1 : seq c now e = seq c now (e + l) → ∀ a t o q, YN c (wth c now q) a → J34 (nI e) 0 (nI (cN c)) (nI (cS c)) (nI (cR c)) (xK c) a_first a_second a_third (xF c) a t o a_source a_register a_level a_soon a_depend a_table a_marked a_after a_shows a_apart)
    (h2 : seq c now e ≠ seq c now (e + l) → ∀ a t o q, YN c (wth c now q) a → J34 (nI (e + 1)) 1 (nI (cN c)) (nI (cS c)) (nI (cR c)) (xK c) a_first a_second a_third (xF c) a t o a_source a_register a_level a_soon a_depend a_table a_marked a_after a_shows a_apart) :
    ∀ d k n a t o, k + d = e → d < n → YN c (wth c now (seq c now k)) a → wY_cycle_47 post J34 (nI l) x3 (nI e) n (nI k) (nI (cN c)) (nI (cS c)) (nI (cR c)) (xK c) a_first a_second a_third (xF c) a t o a_source a_register a_level a_soon a_depend a_table a_marked a_after a_shows a_apart := by
  intro d
  induction d with
  | zero =>
    intro k n a t o hi hn ha
    obtain ⟨q, rfl⟩ : ∃ q, n = q + 1 := ⟨n - 1, by omega⟩
    have : k = e := by omega
    subst this
    unfold wY_cycle_47
    exact br_t (nI_le (Nat.le_refl _) (by omega)) (yw_cfgk w hY ha ⟨l + 1, yw_cycle73 w hY hl h1 h2 l 0 _ a t o (by omega) (by omega) ha⟩)
  | succ d ih =>
    intro k n a t o hi hn ha
    obtain ⟨q, rfl⟩ : ∃ q, n = q + 1 := ⟨n - 1, by omega⟩
    unfold wY_cycle_47
    refine br_f (nI_ge (by omega) (by omega)) (yw_stepk w hY ha (fun t' o' a' ha' => ?_))
    dsimp only
    exact nm_r (nI_1 k) (ih (k + 1) q a' t' o' (by omega) (by omega) ha')
theorem yw_cycle34 (w : WF c) (hY : YS c a_first a_second a_third a_source a_register) {now l m : Nat} (hl : l ≤ 64) (he : ENT (stp c now) (cfgOf c now) l m) {post : Int32 → SY → Prop}
    (h : ∀ a t o, YN c (wth c now (seq c now 0)) a → post (nI m) (nI (cN c), nI (cS c), nI (cR c), xK c, a_first, a_second, a_third, xF c, a, t, o, a_source, a_register, a_level, a_soon, a_depend, a_table, a_marked, a_after, a_shows, a_apart)) :
    ∀ d e n a t o q, e + d = m → d + 1 < n → YN c (wth c now q) a → wY_cycle_34 post (nI l) (nI (seq c now 0)) n (nI e) 1 (nI (cN c)) (nI (cS c)) (nI (cR c)) (xK c) a_first a_second a_third (xF c) a t o a_source a_register a_level a_soon a_depend a_table a_marked a_after a_shows a_apart := by
  have hm := he.1
  intro d
  induction d with
  | zero =>
    intro e n a t o q hi hn ha
    obtain ⟨k, rfl⟩ : ∃ k, n = k + 2 := ⟨n - 2, by omega⟩
    have : e = m := by omega
    subst this
    unfold wY_cycle_34
    refine br_f (by decide) (yw_resk w hY ha (fun a' ha' => ?_))
    dsimp only
    refine ⟨e + 1, yw_cycle47 w hY hl hm (fun _ a2 t2 o2 q2 ha2 => ?_) (fun z => absurd he.2.1 z) e 0 _ a' t o (by omega) (by omega) ha'⟩
    unfold wY_cycle_34
    exact br_t rfl (yw_resk w hY ha2 (fun a3 ha3 => h a3 t2 o2 ha3))
  | succ d ih =>
    intro e n a t o q hi hn ha
    obtain ⟨k, rfl⟩ : ∃ k, n = k + 1 := ⟨n - 1, by omega⟩
    unfold wY_cycle_34
    refine br_f (by decide) (yw_resk w hY ha (fun a' ha' => ?_))
    dsimp only
    exact ⟨e + 1, yw_cycle47 w hY hl (by omega) (fun z => absurd z (he.2.2 e (by omega))) (fun _ a2 t2 o2 q2 ha2 => ih (e + 1) k a2 t2 o2 q2 (by omega) (by omega) ha2) e 0 _ a' t o (by omega) (by omega) ha'⟩
end
theorem ym_cycle (w : WF c) {now : Nat} (hnow : now < 2 ^ cS c) {v : SY} (hv : YR c now v) {b : Bool} {post : Int32 → SY → Prop} (h : ∀ v' l m, YR c now v' → PER (stp c now) (cfgOf c now) l → ENT (stp c now) (cfgOf c now) l m → post (nI (if b then l else m)) v') : wpY_cycle post v (nI b.toNat) := by
  refine yr_el (P := fun v => wpY_cycle post v (nI b.toNat)) hv ?_
  intro a_first a_second a_third a_now a_at a_other a_source a_register a_level a_soon a_depend a_table a_marked a_after a_shows a_apart hY hN
  have hN := (yn_0 w hnow).mpr hN
  obtain ⟨l, hl⟩ := per_ex (f := stp c now) (x := cfgOf c now) (seq_64 w now)
  obtain ⟨m, hm⟩ := ent_ex hl
  have hb := gw_bl b
  dsimp only [wpY_cycle, wpY_in]
  refine br_f (nI_pos (by omega)) (br_f (nI_nlt (a := 1) (by omega) (by omega)) (br_f (by decide) ?_))
  refine yw_round w hY hl hN (fun a t o ha => ?_)
  dsimp only
  cases b
  · refine br_f (by decide) (yw_cfgk w hY ha ⟨m + 2, ?_⟩)
    exact yw_cycle34 w hY hl.2.1 hm (fun a2 t2 o2 ha2 => h _ l m (yr_in hY ((yn_0 w hnow).mp ha2)) hl hm) m 0 _ a t o _ (by omega) (by omega) ha
  · exact br_t rfl (h _ l m (yr_in hY ((yn_0 w hnow).mp ha)) hl hm)
end
end
section
/-! ===== what can come: the pure rows ===== -/
def NEW (c : CK) (t q : Nat) : Prop := rch c t q ∧ ∀ s, s < t → ¬ rch c s q
section
variable {c : CK}
theorem rch_lt (w : WF c) : ∀ t q, rch c t q → q < 64
  | 0, q, h => by
    have : q = 0 := h
    omega
  | t + 1, q, h => by
    obtain ⟨a, _, _, e⟩ := h
    rw [← e]
    exact r64 w (aft_lt a)
theorem new_pred {t q : Nat} (h : NEW c (t + 1) q) : ∃ a, a < 2 ^ cS c ∧ NEW c t (cfgOf c a) ∧ aft c a = q := by
  obtain ⟨⟨a, ha, h1, e⟩, h2⟩ := h
  refine ⟨a, ha, ⟨h1, fun s hs z => ?_⟩, e⟩
  exact h2 (s + 1) (by omega) ⟨a, ha, z, e⟩
theorem new_succ {t q a : Nat} (ha : a < 2 ^ cS c) (h1 : rch c t (cfgOf c a)) (e : aft c a = q) (h2 : ∀ s, s ≤ t → ¬ rch c s q) : NEW c (t + 1) q :=
  ⟨⟨a, ha, h1, e⟩, fun s hs => h2 s (by omega)⟩
theorem new_uni {s t q : Nat} (h1 : NEW c s q) (h2 : NEW c t q) : s = t := by
  rcases Nat.lt_trichotomy s t with e | e | e
  · exact absurd h1.1 (h2.2 s e)
  · exact e
  · exact absurd h2.1 (h1.2 t e)
theorem new_of {t q : Nat} (h : rch c t q) : ∃ s, s ≤ t ∧ NEW c s q := by
  obtain ⟨s, h1, h2⟩ := pk_least (fun s => rch c s q) ⟨t, h⟩
  refine ⟨s, ?_, h1, fun r hr z => h2 r hr z⟩
  apply Classical.byContradiction
  intro z
  exact h2 t (by omega) h
theorem new_down : ∀ d s q, NEW c (s + d) q → ∃ p, NEW c s p
  | 0, s, q, h => ⟨q, h⟩
  | d + 1, s, q, h => by
    obtain ⟨a, _, h1, _⟩ := new_pred (t := s + d) h
    exact new_down d s _ h1
theorem new_64 (w : WF c) {t q : Nat} (h : NEW c t q) : t < 64 := by
  apply Classical.byContradiction
  intro z
  have hs : ∀ s, s ≤ 64 → ∃ p, NEW c s p := fun s hs => new_down (t - s) s q (by rw [show s + (t - s) = t by omega]; exact h)
  obtain ⟨i, j, hij, hj, e⟩ := pg_hole 64 (fun s => if hh : s ≤ 64 then Classical.choose (hs s hh) else 0) (fun k hk => by
    show (if hh : k ≤ 64 then Classical.choose (hs k hh) else 0) < 64
    rw [dif_pos hk]
    exact rch_lt w k _ (Classical.choose_spec (hs k hk)).1)
  have e' : (if hh : i ≤ 64 then Classical.choose (hs i hh) else 0) = (if hh : j ≤ 64 then Classical.choose (hs j hh) else 0) := e
  rw [dif_pos (by omega), dif_pos hj] at e'
  have h1 := Classical.choose_spec (hs i (by omega))
  have h2 := Classical.choose_spec (hs j hj)
  rw [e'] at h1
  have := new_uni h1 h2
  omega
/-- nothing is new at t: nothing is new later -/
theorem nw_end {t : Nat} (h : ∀ q, ¬ NEW c t q) : ∀ s q, rch c s q → ∃ r, r < t ∧ rch c r q := by
  intro s
  induction s with
  | zero =>
    intro q hq
    obtain ⟨r, hr, hn⟩ := new_of hq
    by_cases e : t = r
    · subst e; exact absurd hn (h q)
    · have : r = 0 := by omega
      subst this
      exact ⟨0, by omega, hq⟩
  | succ s ih =>
    intro q hq
    obtain ⟨a, ha, h1, e⟩ := hq
    obtain ⟨r, hr, h2⟩ := ih _ h1
    have h3 : rch c (r + 1) q := ⟨a, ha, h2, e⟩
    obtain ⟨r', hr', hn⟩ := new_of h3
    by_cases e2 : t = r'
    · subst e2; exact absurd hn (h q)
    · exact ⟨r', by omega, hn.1⟩
/-- what is written down once all up to (not with) t is known -/
def CMT (c : CK) (t : Nat) (a : Nat → Int32) : Prop := ∀ q, q < 64 → (∃ s, s < t ∧ NEW c s q ∧ a q = nI s) ∨ ((∀ s, s < t → ¬ rch c s q) ∧ a q = -1)
theorem cmt_sn (w : WF c) {t : Nat} {a : Nat → Int32} (h : CMT c t a) (hn : ∀ q, ¬ NEW c t q) : ∀ q, q < 64 → SN c q (a q) := by
  intro q hq
  rcases h q hq with ⟨s, hs, h1, e⟩ | ⟨h1, e⟩
  · exact Or.inl ⟨s, new_64 w h1, h1.1, h1.2, e⟩
  · refine Or.inr ⟨fun s z => ?_, e⟩
    obtain ⟨r, hr, h2⟩ := nw_end hn s q z
    exact h1 r hr h2
theorem sn_uni {q : Nat} {x y : Int32} (h : SN c q x) (h' : SN c q y) : y = x := by
  rcases h with ⟨s, _, h1, h2, rfl⟩ | ⟨h1, rfl⟩ <;> rcases h' with ⟨t, _, k1, k2, rfl⟩ | ⟨k1, rfl⟩
  · rw [new_uni (c := c) (q := q) ⟨h1, h2⟩ ⟨k1, k2⟩]
  · exact absurd h1 (k1 s)
  · exact absurd k1 (h1 t)
  · rfl
theorem new_0 {q : Nat} : NEW c 0 q ↔ q = 0 := ⟨fun h => h.1, fun h => ⟨h, fun s hs => by omega⟩⟩
end
end
section
/-! ===== X: search, configurations, soonest, alarm ===== -/
section
variable {c : CK} {f_now : Int32} {f_right : Int32} {f_levelsKnown : Int32} {f_head : Int32} {f_tail : Int32} {f_met : Int64} {f_comesKnown : Int32} {f_entry : Int32} {f_round : Int32} {a_table : Nat → Int64} {a_saved : Nat → Int64} {a_matters : Nat → Int32} {a_cubes : Nat → Int64} {a_levels : Nat → Int32} {a_edgeFlow : Nat → Int32} {a_netFlow : Nat → Int32} {a_queue : Nat → Int32} {a_before : Nat → Int32} {a_edge : Nat → Int32} {a_leads : Nat → Int64} {a_comes : Nat → Int32} {a_group : Nat → Int32} {a_later : Nat → Int32} {a_goes : Nat → Int32} {a_shows : Nat → Int32}
section
variable {J94 : Int64 → Int64 → Int32 → (Nat → Int32) → (Nat → Int32) → (Nat → Int32) → (Nat → Int32) → (Nat → Int32) → (Nat → Int32) → (Nat → Int64) → (Nat → Int64) → (Nat → Int32) → (Nat → Int64) → (Nat → Int32) → (Nat → Int32) → (Nat → Int32) → (Nat → Int32) → (Nat → Int32) → (Nat → Int32) → (Nat → Int64) → (Nat → Int32) → (Nat → Int32) → (Nat → Int32) → (Nat → Int32) → (Nat → Int32) → Prop}
theorem xw_search103 {t : Nat} (ht : t < 64) {all F : Int64} {cm0 : Nat → Int32} {post : SX → Prop}
    (h : ∀ x6 cm, (∀ d, d < 64 → (lb x6 d = true ↔ ∃ q, q < 64 ∧ lb F q = true ∧ lb (a_leads q) d = true)) → (∀ q, q < 64 → cm q = if lb F q then nI t else cm0 q) → J94 (all ||| x6) (x6 &&& (all ^^^ (-1))) (nI (t + 1)) (xK c) (xO c) (xF c) (xA c) (xG c) (xB c) a_table a_saved a_matters a_cubes a_levels a_edgeFlow a_netFlow a_queue a_before a_edge a_leads cm a_group a_later a_goes a_shows) :
    ∀ m k n x3 x6 cm, k ≤ 64 → m + k = 64 → m < n → (∀ i, i < 64 → lb x3 i = (lb F i && decide (k ≤ i))) → (∀ d, d < 64 → (lb x6 d = true ↔ ∃ q, q < k ∧ lb F q = true ∧ lb (a_leads q) d = true)) → (∀ q, q < 64 → cm q = if (lb F q && decide (q < k)) then nI t else cm0 q) →
      wX_search_103 post J94 all (nI t) (nI (cN c)) (nI (cS c)) (nI (cR c)) f_now f_right f_levelsKnown f_head f_tail f_met f_comesKnown f_entry f_round n x3 x6 (xK c) (xO c) (xF c) (xA c) (xG c) (xB c) a_table a_saved a_matters a_cubes a_levels a_edgeFlow a_netFlow a_queue a_before a_edge a_leads cm a_group a_later a_goes a_shows := by
  intro m
  induction m using Nat.strongRecOn with
  | _ m ih =>
    intro k n x3 x6 cm hk hm hn h3 h6 hc
    obtain ⟨n, rfl⟩ : ∃ n', n = n' + 1 := ⟨n - 1, by omega⟩
    unfold wX_search_103
    refine br_c (fun e => ?_) (fun e => ?_)
    · have hno : ∀ q, q < 64 → lb F q = true → q < k := fun q hq hF => by
        apply Classical.byContradiction
        intro z
        have := h3 q hq
        rw [e, lb_0, hF, decide_eq_true (by omega)] at this
        exact absurd this (by decide)
      refine nm_e (nm_e (nm_r (nI_1 t) (h x6 cm (fun d hd => ?_) (fun q hq => ?_))))
      · rw [h6 d hd]
        constructor
        · rintro ⟨q, hq, h1, h2⟩
          exact ⟨q, by omega, h1, h2⟩
        · rintro ⟨q, hq, h1, h2⟩
          exact ⟨q, hno q hq h1, h1, h2⟩
      · rw [hc q hq]
        cases eF : lb F q
        · rfl
        · rw [decide_eq_true (hno q hq eF)]
          rfl
    · obtain ⟨b, ⟨hb, hb1⟩, hmin⟩ := pk_least (fun i => i < 64 ∧ lb x3 i = true) (lb_ne0.mp e)
      have hlow : ∀ i, i < b → lb x3 i = false := fun i hi => by
        have := hmin i hi
        cases e : lb x3 i
        · rfl
        · exact absurd ⟨by omega, e⟩ this
      have hFb := h3 b hb
      rw [hb1] at hFb
      have hFb2 : lb F b = true ∧ k ≤ b := by simpa using hFb.symm
      have hgap : ∀ q, k ≤ q → q < b → lb F q = false := fun q h1 h2 => by
        have := hlow q h2
        rw [h3 q (by omega), decide_eq_true h1, Bool.and_true] at this
        exact this
      refine xw_lowest hb hb1 hlow (nm_e ?_)
      rw [gw_cl (by omega), gw_nbyte2 (by omega)]
      refine ⟨vp_in_nI hb (by omega), nm_e ⟨vp_in_nI hb (by omega), nm_e ?_⟩⟩
      refine ih (63 - b) (by omega) (b + 1) n _ _ _ (by omega) (by omega) (by omega) (fun i hi => ?_) (fun d hd => ?_) (fun q hq => ?_)
      · rw [lb_clr hb hb1 hlow hi, h3 i hi]
        cases eF : lb F i
        · rfl
        · have : k ≤ i → b ≤ i := fun h1 => by
            apply Classical.byContradiction
            intro z
            rw [hgap i h1 (by omega)] at eF
            exact absurd eF (by decide)
          by_cases h1 : b + 1 ≤ i
          · have h2 : k ≤ i := by omega
            have h4 : ¬ i = b := by omega
            simp [h1, h2, h4]
          · by_cases h2 : k ≤ i
            · have h4 : i = b := by have := this h2; omega
              simp [h1, h4]
            · simp [h1, h2]
      · rw [lb_or, Bool.or_eq_true, h6 d hd]
        constructor
        · rintro (⟨q, hq, h1, h2⟩ | h1)
          · exact ⟨q, by omega, h1, h2⟩
          · exact ⟨b, by omega, hFb2.1, h1⟩
        · rintro ⟨q, hq, h1, h2⟩
          by_cases e1 : q = b
          · subst e1; exact Or.inr h2
          · refine Or.inl ⟨q, ?_, h1, h2⟩
            apply Classical.byContradiction
            intro z
            rw [hgap q (by omega) (by omega)] at h1
            exact absurd h1 (by decide)
      · rw [gw_u]
        by_cases e1 : q = b
        · rw [if_pos e1, e1, hFb2.1, decide_eq_true (by omega)]
          rfl
        · rw [if_neg e1, hc q hq]
          cases eF : lb F q
          · rfl
          · have : (decide (q < k)) = decide (q < b + 1) := by
              by_cases h1 : q < k
              · rw [decide_eq_true h1, decide_eq_true (by omega)]
              · rw [decide_eq_false h1]
                symm
                apply decide_eq_false
                intro z
                rw [hgap q (by omega) (by omega)] at eF
                exact absurd eF (by decide)
            rw [this]
end
theorem xw_search94 (w : WF c) (hl : ∀ q, q < 64 → ∀ d, d < 64 → (lb (a_leads q) d = true ↔ ∃ a, a < 2 ^ cS c ∧ cfgOf c a = q ∧ aft c a = d)) {post : SX → Prop}
    (h : ∀ cm, (∀ q, q < 64 → SN c q (cm q)) → post (nI (cN c), nI (cS c), nI (cR c), f_now, f_right, f_levelsKnown, f_head, f_tail, f_met, f_comesKnown, f_entry, f_round, xK c, xO c, xF c, xA c, xG c, xB c, a_table, a_saved, a_matters, a_cubes, a_levels, a_edgeFlow, a_netFlow, a_queue, a_before, a_edge, a_leads, cm, a_group, a_later, a_goes, a_shows)) :
    ∀ m t n all fresh cm, t + m = 64 → m < n → (∀ q, q < 64 → (lb fresh q = true ↔ NEW c t q)) → (∀ q, q < 64 → (lb all q = true ↔ ∃ s, s ≤ t ∧ rch c s q)) → CMT c t cm →
      wX_search_94 post (nI (cN c)) (nI (cS c)) (nI (cR c)) f_now f_right f_levelsKnown f_head f_tail f_met f_comesKnown f_entry f_round n all fresh (nI t) (xK c) (xO c) (xF c) (xA c) (xG c) (xB c) a_table a_saved a_matters a_cubes a_levels a_edgeFlow a_netFlow a_queue a_before a_edge a_leads cm a_group a_later a_goes a_shows := by
  intro m
  induction m with
  | zero =>
    intro t n all fresh cm hm hn h3 h1 hc
    obtain ⟨n, rfl⟩ : ∃ n', n = n' + 1 := ⟨n - 1, by omega⟩
    have hno : ∀ q, ¬ NEW c t q := fun q z => by have := new_64 w z; omega
    unfold wX_search_94
    refine br_t ?_ (h cm (cmt_sn w hc hno))
    rw [lb_eq0]
    intro i hi
    cases e : lb fresh i
    · rfl
    · exact absurd ((h3 i hi).mp e) (hno i)
  | succ m ih =>
    intro t n all fresh cm hm hn h3 h1 hc
    obtain ⟨n, rfl⟩ : ∃ n', n = n' + 1 := ⟨n - 1, by omega⟩
    unfold wX_search_94
    refine br_c (fun e => h cm (cmt_sn w hc (fun q z => ?_))) (fun e => ?_)
    · have := (h3 q (rch_lt w t q z.1)).mpr z
      rw [e, lb_0] at this
      exact absurd this (by decide)
    · refine ⟨65, xw_search103 (F := fresh) (cm0 := cm) (by omega) (fun x6 cm' hx6 hcm' => ?_) 64 0 _ fresh 0 cm (by omega) (by omega) (by omega) (fun i hi => ?_) (fun d hd => ?_) (fun q hq => ?_)⟩
      · have hsucc : ∀ d, d < 64 → (lb x6 d = true ↔ ∃ a, a < 2 ^ cS c ∧ NEW c t (cfgOf c a) ∧ aft c a = d) := fun d hd => by
          rw [hx6 d hd]
          constructor
          · rintro ⟨q, hq, k1, k2⟩
            obtain ⟨a, ha, rfl, e2⟩ := (hl q hq d hd).mp k2
            exact ⟨a, ha, (h3 _ hq).mp k1, e2⟩
          · rintro ⟨a, ha, k1, k2⟩
            have hq := rch_lt w t _ k1.1
            exact ⟨cfgOf c a, hq, (h3 _ hq).mpr k1, (hl _ hq d hd).mpr ⟨a, ha, rfl, k2⟩⟩
        refine ih (t + 1) n _ _ cm' (by omega) (by omega) (fun d hd => ?_) (fun d hd => ?_) (fun q hq => ?_)
        · rw [lb_and, lb_not _ hd, Bool.and_eq_true, hsucc d hd]
          constructor
          · rintro ⟨⟨a, ha, k1, k2⟩, k3⟩
            refine new_succ ha k1.1 k2 (fun s hs z => ?_)
            rw [(h1 d hd).mpr ⟨s, hs, z⟩] at k3
            exact absurd k3 (by decide)
          · intro k1
            refine ⟨new_pred k1, ?_⟩
            cases e2 : lb all d
            · rfl
            · obtain ⟨s, hs, z⟩ := (h1 d hd).mp e2
              exact absurd z (k1.2 s (by omega))
        · rw [lb_or, Bool.or_eq_true, h1 d hd, hsucc d hd]
          constructor
          · rintro (⟨s, hs, z⟩ | ⟨a, ha, k1, k2⟩)
            · exact ⟨s, by omega, z⟩
            · exact ⟨t + 1, Nat.le_refl _, a, ha, k1.1, k2⟩
          · rintro ⟨s, hs, z⟩
            by_cases e2 : ∃ s, s ≤ t ∧ rch c s d
            · exact Or.inl e2
            · have : s = t + 1 := by
                apply Classical.byContradiction
                intro y
                exact e2 ⟨s, by omega, z⟩
              subst this
              exact Or.inr (new_pred ⟨z, fun r hr y => e2 ⟨r, by omega, y⟩⟩)
        · rw [hcm' q hq]
          cases e2 : lb fresh q
          · rcases hc q hq with ⟨s, hs, k1, k2⟩ | ⟨k1, k2⟩
            · exact Or.inl ⟨s, by omega, k1, k2⟩
            · refine Or.inr ⟨fun s hs z => ?_, k2⟩
              by_cases e3 : s < t
              · exact k1 s e3 z
              · have : s = t := by omega
                subst this
                rw [(h3 q hq).mpr ⟨z, k1⟩] at e2
                exact absurd e2 (by decide)
          · exact Or.inl ⟨t, by omega, (h3 q hq).mp e2, rfl⟩
      · simp
      · rw [lb_0]
        constructor
        · intro z; exact absurd z (by decide)
        · rintro ⟨q, hq, _⟩; omega
      · simp
theorem xw_search47 (w : WF c) (ht : TBL c 99 false a_table (cN c)) {post : SX → Prop}
    (h : ∀ ld cm, (∀ q, q < 64 → SN c q (cm q)) → post (nI (cN c), nI (cS c), nI (cR c), f_now, f_right, f_levelsKnown, f_head, f_tail, f_met, f_comesKnown, f_entry, f_round, xK c, xO c, xF c, xA c, xG c, xB c, a_table, a_saved, a_matters, a_cubes, a_levels, a_edgeFlow, a_netFlow, a_queue, a_before, a_edge, ld, cm, a_group, a_later, a_goes, a_shows)) (hcm : ∀ q, q < 64 → a_comes q = -1) :
    ∀ d a n ld, a + d = 2 ^ cS c → d < n → (∀ q, q < 64 → ∀ d, d < 64 → (lb (ld q) d = true ↔ ∃ b, b < a ∧ cfgOf c b = q ∧ aft c b = d)) →
      wX_search_47 post (nI (cN c)) (nI (cS c)) (nI (cR c)) f_now f_right f_levelsKnown f_head f_tail f_met f_comesKnown f_entry f_round n (nI a) (xK c) (xO c) (xF c) (xA c) (xG c) (xB c) a_table a_saved a_matters a_cubes a_levels a_edgeFlow a_netFlow a_queue a_before a_edge ld a_comes a_group a_later a_goes a_shows := by
  have hS := wf_S w
  have hS2 := gw_p2 hS
  intro d
  induction d with
  | zero =>
    intro a n ld ha hn hl
    obtain ⟨n, rfl⟩ : ∃ n', n = n' + 1 := ⟨n - 1, by omega⟩
    have : a = 2 ^ cS c := by omega
    subst this
    unfold wX_search_47
    rw [gw_1shl (by omega)]
    refine br_t (nI_le (Nat.le_refl _) (by omega)) ⟨65, ?_⟩
    refine xw_search94 w hl (fun cm hcm' => h ld cm hcm') 64 0 _ 1 1 a_comes (by omega) (by omega) (fun q hq => ?_) (fun q hq => ?_) (fun q hq => ?_)
    · rw [lb_1, new_0, decide_eq_true_eq]
    · rw [lb_1, decide_eq_true_eq]
      constructor
      · intro e
        exact ⟨0, by omega, e⟩
      · rintro ⟨s, hs, z⟩
        have : s = 0 := by omega
        subst this
        exact z
    · exact Or.inr ⟨fun s hs => by omega, hcm q hq⟩
  | succ d ih =>
    intro a n ld ha hn hl
    obtain ⟨n, rfl⟩ : ∃ n', n = n' + 1 := ⟨n - 1, by omega⟩
    unfold wX_search_47
    rw [gw_1shl (by omega)]
    refine br_f (nI_ge (by omega) (by omega)) (xw_cfg w (by omega) (xw_aft w (by omega) ht ?_))
    have h1 := r64 w (cfg_lt (c := c) a)
    have h2 := r64 w (aft_lt (c := c) a)
    rw [gw_cl (by omega)]
    refine ⟨vp_in_nI h1 (by omega), vp_in_nI h1 (by omega), nm_e (nm_r (nI_1 a) ?_)⟩
    refine ih (a + 1) n _ (by omega) (by omega) (fun q hq e he => ?_)
    rw [gw_uL]
    by_cases e1 : q = cfgOf c a
    · subst e1
      rw [if_pos rfl, lb_or, Bool.or_eq_true, hl _ hq e he, lb_1shl h2 he, decide_eq_true_eq]
      constructor
      · rintro (⟨b, hb, k1, k2⟩ | k1)
        · exact ⟨b, by omega, k1, k2⟩
        · exact ⟨a, by omega, rfl, k1.symm⟩
      · rintro ⟨b, hb, k1, k2⟩
        by_cases e2 : b = a
        · subst e2; exact Or.inr k2.symm
        · exact Or.inl ⟨b, by omega, k1, k2⟩
    · rw [if_neg e1, hl q hq e he]
      constructor
      · rintro ⟨b, hb, k1, k2⟩
        exact ⟨b, by omega, k1, k2⟩
      · rintro ⟨b, hb, k1, k2⟩
        by_cases e2 : b = a
        · subst e2; exact absurd k1.symm e1
        · exact ⟨b, by omega, k1, k2⟩
theorem xw_search19 (w : WF c) (ht : TBL c 99 false a_table (cN c)) {post : SX → Prop}
    (h : ∀ ld cm, (∀ q, q < 64 → SN c q (cm q)) → post (nI (cN c), nI (cS c), nI (cR c), f_now, f_right, f_levelsKnown, f_head, f_tail, f_met, f_comesKnown, f_entry, f_round, xK c, xO c, xF c, xA c, xG c, xB c, a_table, a_saved, a_matters, a_cubes, a_levels, a_edgeFlow, a_netFlow, a_queue, a_before, a_edge, ld, cm, a_group, a_later, a_goes, a_shows)) :
    ∀ d k n ld cm, k + d = 64 → d < n → (∀ q, q < k → ld q = 0) → (∀ q, q < k → cm q = -1) → wX_search_19 post (nI (cN c)) (nI (cS c)) (nI (cR c)) f_now f_right f_levelsKnown f_head f_tail f_met f_comesKnown f_entry f_round n (nI k) (xK c) (xO c) (xF c) (xA c) (xG c) (xB c) a_table a_saved a_matters a_cubes a_levels a_edgeFlow a_netFlow a_queue a_before a_edge ld cm a_group a_later a_goes a_shows := by
  have hS2 := gw_p2 (wf_S w)
  intro d
  induction d with
  | zero =>
    intro k n ld cm hk hn hl hc
    obtain ⟨n, rfl⟩ : ∃ n', n = n' + 1 := ⟨n - 1, by omega⟩
    unfold wX_search_19
    refine br_t (nI_le (a := 64) (by omega) (by omega)) ⟨2 ^ cS c + 1, xw_search47 w ht (fun ld' cm' hcm' => h ld' cm' hcm') (fun q hq => hc q (by omega)) (2 ^ cS c) 0 _ ld (by omega) (by omega) (fun q hq e he => ?_)⟩
    rw [hl q (by omega), lb_0]
    constructor
    · intro z; exact absurd z (by decide)
    · rintro ⟨b, hb, _⟩; omega
  | succ d ih =>
    intro k n ld cm hk hn hl hc
    obtain ⟨n, rfl⟩ : ∃ n', n = n' + 1 := ⟨n - 1, by omega⟩
    unfold wX_search_19
    rw [gw_cl (by omega), gw_nbm]
    refine br_f (nI_ge (b := 64) (by omega) (by omega)) ⟨vp_in_nI (by omega) (by omega), nm_e ⟨vp_in_nI (by omega) (by omega), nm_e (nm_r (nI_1 k) ?_)⟩⟩
    refine ih (k + 1) n _ _ (by omega) (by omega) (fun q hq => ?_) (fun q hq => ?_)
    · rw [gw_uL]
      by_cases e : q = k
      · rw [if_pos e]
      · rw [if_neg e]; exact hl q (by omega)
    · rw [gw_u]
      by_cases e : q = k
      · rw [if_pos e]
      · rw [if_neg e]; exact hc q (by omega)
theorem xw_search (w : WF c) {r : Nat} (hr : r ≤ cN c) (ht : TBL c 99 false a_table r) (hc : CM c f_comesKnown a_comes) {post : SX → Prop}
    (h : ∀ r' t ld cm, r' ≤ cN c → TBL c 99 false t r' → (∀ q, q < 64 → SN c q (cm q)) → post (nI (cN c), nI (cS c), nI (cR c), f_now, nI r', f_levelsKnown, f_head, f_tail, f_met, 1, f_entry, f_round, xK c, xO c, xF c, xA c, xG c, xB c, t, a_saved, a_matters, a_cubes, a_levels, a_edgeFlow, a_netFlow, a_queue, a_before, a_edge, ld, cm, a_group, a_later, a_goes, a_shows)) : wpX_search post (nI (cN c), nI (cS c), nI (cR c), f_now, nI r, f_levelsKnown, f_head, f_tail, f_met, f_comesKnown, f_entry, f_round, xK c, xO c, xF c, xA c, xG c, xB c, a_table, a_saved, a_matters, a_cubes, a_levels, a_edgeFlow, a_netFlow, a_queue, a_before, a_edge, a_leads, a_comes, a_group, a_later, a_goes, a_shows) := by
  dsimp only [wpX_search]
  rcases hc with rfl | ⟨rfl, hc⟩
  · refine br_t rfl (xw_learn w hr ht (fun t ht' => ?_))
    dsimp only
    exact ⟨65, xw_search19 w ht' (fun ld cm hcm => h _ t ld cm (Nat.le_refl _) ht' hcm) 64 0 _ a_leads a_comes (by omega) (by omega) (fun q hq => by omega) (fun q hq => by omega)⟩
  · exact br_f (by decide) (h r a_table a_leads a_comes hr ht hc)
end
end
section
/-! ===== X: configurations, soonest, alarm ===== -/
def CFN (c : CK) (r : Int32) : Prop := ∃ cm : Nat → Int32, (∀ q, q < 64 → SN c q (cm q)) ∧ r = nI (cnt (fun q => !decide (cm q < 0)) 64)
theorem CFN_uni {c : CK} {r r' : Int32} (h : CFN c r) (h' : CFN c r') : r' = r := by
  obtain ⟨a, h1, rfl⟩ := h
  obtain ⟨b, h2, rfl⟩ := h'
  have e : cnt (fun q => !decide (b q < 0)) 64 = cnt (fun q => !decide (a q < 0)) 64 := cnt_congr (fun q hq => by rw [sn_uni (h1 q hq) (h2 q hq)])
  rw [e]
/-- the least number of ticks after which a net can be 1, among the first n assignments -/
def alm (c : CK) (j : Nat) (cm : Nat → Int32) : Nat → Int32
  | 0 => -1
  | a + 1 => if EV c a j = true ∧ ¬ cm (cfgOf c a) < 0 ∧ (alm c j cm a < 0 ∨ ¬ alm c j cm a ≤ cm (cfgOf c a)) then cm (cfgOf c a) else alm c j cm a
theorem alm_s (c : CK) (j : Nat) (cm : Nat → Int32) (a : Nat) : alm c j cm (a + 1) = if EV c a j = true ∧ ¬ cm (cfgOf c a) < 0 ∧ (alm c j cm a < 0 ∨ ¬ alm c j cm a ≤ cm (cfgOf c a)) then cm (cfgOf c a) else alm c j cm a := rfl
theorem alm_congr {c : CK} (w : WF c) {j : Nat} {a b : Nat → Int32} (h : ∀ q, q < 64 → a q = b q) : ∀ n, alm c j a n = alm c j b n
  | 0 => rfl
  | n + 1 => by rw [alm_s, alm_s, alm_congr w h n, h _ (r64 w (cfg_lt n))]
def ALA (c : CK) (j : Nat) (r : Int32) : Prop := ∃ cm : Nat → Int32, (∀ q, q < 64 → SN c q (cm q)) ∧ r = alm c j cm (2 ^ cS c)
theorem ALA_uni {c : CK} (w : WF c) {j : Nat} {r r' : Int32} (h : ALA c j r) (h' : ALA c j r') : r' = r := by
  obtain ⟨a, h1, rfl⟩ := h
  obtain ⟨b, h2, rfl⟩ := h'
  exact alm_congr w (fun q hq => sn_uni (h1 q hq) (h2 q hq)) _
section
variable {c : CK} {f_now : Int32} {f_right : Int32} {f_levelsKnown : Int32} {f_head : Int32} {f_tail : Int32} {f_met : Int64} {f_comesKnown : Int32} {f_entry : Int32} {f_round : Int32} {a_table : Nat → Int64} {a_saved : Nat → Int64} {a_matters : Nat → Int32} {a_cubes : Nat → Int64} {a_levels : Nat → Int32} {a_edgeFlow : Nat → Int32} {a_netFlow : Nat → Int32} {a_queue : Nat → Int32} {a_before : Nat → Int32} {a_edge : Nat → Int32} {a_leads : Nat → Int64} {a_comes : Nat → Int32} {a_group : Nat → Int32} {a_later : Nat → Int32} {a_goes : Nat → Int32} {a_shows : Nat → Int32}
theorem xm_configurations (w : WF c) {now : Nat} {u : SX} (hX : XR c now u) {post : Int32 → SX → Prop} (h : ∀ u' r, XR c now u' → CFN c r → post r u') : wpX_configurations post u := by
  refine xr_el (P := fun u => wpX_configurations post u) hX ?_
  intro r f_levelsKnown f_head f_tail f_met f_comesKnown f_entry f_round a_table a_saved a_matters a_cubes a_levels a_edgeFlow a_netFlow a_queue a_before a_edge a_leads a_comes a_group a_later a_goes a_shows hr ht hl hc
  dsimp only [wpX_configurations]
  refine xw_search w hr ht hc (fun r' t ld cm hr' ht' hcm => ?_)
  dsimp only
  have L : ∀ d k n, k + d = 64 → d < n → wX_configurations_8 post (nI (cN c)) (nI (cS c)) (nI (cR c)) (nI now) (nI r') f_levelsKnown f_head f_tail f_met 1 f_entry f_round (xK c) (xO c) (xF c) (xA c) (xG c) (xB c) t a_saved a_matters a_cubes a_levels a_edgeFlow a_netFlow a_queue a_before a_edge ld cm a_group a_later a_goes a_shows n (nI (cnt (fun q => !decide (cm q < 0)) k)) (nI k) := by
    intro d
    induction d with
    | zero =>
      intro k n hk hn
      obtain ⟨n, rfl⟩ : ∃ n', n = n' + 1 := ⟨n - 1, by omega⟩
      have : k = 64 := by omega
      subst this
      unfold wX_configurations_8
      exact br_t (nI_le (a := 64) (Nat.le_refl _) (by omega)) (h _ _ (xr_in hr' ht' hl (Or.inr ⟨rfl, hcm⟩)) ⟨cm, hcm, rfl⟩)
    | succ d ih =>
      intro k n hk hn
      obtain ⟨n, rfl⟩ : ∃ n', n = n' + 1 := ⟨n - 1, by omega⟩
      have hi := ih (k + 1) n (by omega) (by omega)
      rw [cnt_s] at hi
      unfold wX_configurations_8
      rw [gw_cl (by omega)]
      refine br_f (nI_ge (b := 64) (by omega) (by omega)) ⟨vp_in_nI (by omega) (by omega), br_c (fun e => nm_r (nI_1 k) ?_) (fun e => nm_r (nI_1 _) (nm_r (nI_1 k) ?_))⟩
      · rw [decide_eq_true e] at hi
        exact hi
      · rw [decide_eq_false e] at hi
        exact hi
  exact ⟨65, L 64 0 _ (by omega) (by omega)⟩
theorem xm_soonest (w : WF c) {now : Nat} {u : SX} (hX : XR c now u) {q : Nat} (hq : q < 64) {post : Int32 → SX → Prop} (h : ∀ u' r, XR c now u' → SN c q r → post r u') : wpX_soonest post u (nI q) := by
  refine xr_el (P := fun u => wpX_soonest post u (nI q)) hX ?_
  intro r f_levelsKnown f_head f_tail f_met f_comesKnown f_entry f_round a_table a_saved a_matters a_cubes a_levels a_edgeFlow a_netFlow a_queue a_before a_edge a_leads a_comes a_group a_later a_goes a_shows hr ht hl hc
  dsimp only [wpX_soonest]
  refine br_f (nI_pos (by omega)) (br_t (nI_le (b := 63) (by omega) (by omega)) (xw_search w hr ht hc (fun r' t ld cm hr' ht' hcm => ?_)))
  dsimp only
  rw [gw_cl (by omega)]
  exact ⟨vp_in_nI hq (by omega), h _ _ (xr_in hr' ht' hl (Or.inr ⟨rfl, hcm⟩)) (hcm q hq)⟩
theorem xm_alarm (w : WF c) {now : Nat} {u : SX} (hX : XR c now u) {j : Nat} (hj : j < cN c) {post : Int32 → SX → Prop} (h : ∀ u' r, XR c now u' → ALA c j r → post r u') : wpX_alarm post u (nI j) := by
  have hN := wf_N w
  have hS := wf_S w
  have hS2 := gw_p2 hS
  refine xr_el (P := fun u => wpX_alarm post u (nI j)) hX ?_
  intro r f_levelsKnown f_head f_tail f_met f_comesKnown f_entry f_round a_table a_saved a_matters a_cubes a_levels a_edgeFlow a_netFlow a_queue a_before a_edge a_leads a_comes a_group a_later a_goes a_shows hr ht hl hc
  dsimp only [wpX_alarm]
  refine xw_isNet_t w hj (br_f (by decide) (xw_search w hr ht hc (fun r' t ld cm hr' ht' hcm => ?_)))
  dsimp only
  refine xw_learn w hr' ht' (fun t2 ht2 => ?_)
  dsimp only
  have L : ∀ d a n, a + d = 2 ^ cS c → d < n → wX_alarm_22 post (nI j) (nI (cN c)) (nI (cS c)) (nI (cR c)) (nI now) (nI (cN c)) f_levelsKnown f_head f_tail f_met 1 f_entry f_round (xK c) (xO c) (xF c) (xA c) (xG c) (xB c) t2 a_saved a_matters a_cubes a_levels a_edgeFlow a_netFlow a_queue a_before a_edge ld cm a_group a_later a_goes a_shows n (alm c j cm a) (nI a) := by
    intro d
    induction d with
    | zero =>
      intro a n ha hn
      obtain ⟨n, rfl⟩ : ∃ n', n = n' + 1 := ⟨n - 1, by omega⟩
      have : a = 2 ^ cS c := by omega
      subst this
      unfold wX_alarm_22
      rw [gw_1shl (by omega)]
      exact br_t (nI_le (Nat.le_refl _) (by omega)) (h _ _ (xr_in (Nat.le_refl _) ht2 hl (Or.inr ⟨rfl, hcm⟩)) ⟨cm, hcm, rfl⟩)
    | succ d ih =>
      intro a n ha hn
      obtain ⟨n, rfl⟩ : ∃ n', n = n' + 1 := ⟨n - 1, by omega⟩
      have hi := ih (a + 1) n (by omega) (by omega)
      have h64 := r64 w (cfg_lt (c := c) a)
      unfold wX_alarm_22
      rw [gw_1shl (by omega)]
      refine br_f (nI_ge (by omega) (by omega)) (xw_bit w (f := 99) (o := false) hj (by omega) (by omega) ht2 (br_c (fun e => ?_) (fun e => ?_)))
      · rw [gw_bt] at e
        rw [alm_s, if_neg (fun z => by rw [show EV c a j = false from e] at z; exact absurd z.1 (by decide))] at hi
        exact nm_r (nI_1 a) hi
      · rw [gw_bt] at e
        have e : EV c a j = true := ts_nf e
        refine xw_cfg w (by omega) ?_
        rw [gw_cl (by omega)]
        refine ⟨vp_in_nI h64 (by omega), br_c (fun e2 => ?_) (fun e2 => br_c (fun e3 => ?_) (fun e3 => ⟨vp_in_nI h64 (by omega), br_c (fun e4 => ?_) (fun e4 => ?_)⟩))⟩
        · rw [alm_s, if_neg (fun z => z.2.1 e2)] at hi
          exact nm_r (nI_1 a) hi
        · rw [alm_s, if_pos ⟨e, e2, Or.inl e3⟩] at hi
          exact ⟨vp_in_nI h64 (by omega), nm_e (nm_r (nI_1 a) hi)⟩
        · rw [alm_s, if_neg (fun z => by rcases z.2.2 with y | y; exact e3 y; exact y e4)] at hi
          exact nm_r (nI_1 a) hi
        · rw [alm_s, if_pos ⟨e, e2, Or.inr e4⟩] at hi
          exact ⟨vp_in_nI h64 (by omega), nm_e (nm_r (nI_1 a) hi)⟩
  exact ⟨2 ^ cS c + 1, L (2 ^ cS c) 0 _ (by omega) (by omega)⟩
end
end
section
/-! ===== Y: spread, explore, configurations, soonest, alarm ===== -/
section
variable {c : CK} {a_first : Nat → Int32} {a_second : Nat → Int32} {a_third : Nat → Int32} {a_now : Nat → Int32} {a_at : Nat → Int32} {a_other : Nat → Int32} {a_source : Nat → Int32} {a_register : Nat → Int32} {a_level : Nat → Int32} {a_soon : Nat → Int32} {a_depend : Nat → Int32} {a_table : Nat → Int32} {a_marked : Nat → Int32} {a_after : Nat → Int32} {a_shows : Nat → Int32} {a_apart : Nat → Int32}
theorem yw_cfgOf (w : WF c) (hY : YS c a_first a_second a_third a_source a_register) {a : Nat} (ha : a < 2147483648) {post : Int32 → Prop} (h : post (nI (cfgOf c a))) : wpY_configurationOf post (nI (cN c), nI (cS c), nI (cR c), xK c, a_first, a_second, a_third, xF c, a_now, a_at, a_other, a_source, a_register, a_level, a_soon, a_depend, a_table, a_marked, a_after, a_shows, a_apart) (nI a) := by
  have hR := wf_R w
  have hS := wf_S w
  have hN := wf_N w
  have L : ∀ d s i n, s + d = cS c → d < n → i ≤ cR c → (∀ r, r < i → cB c r < s) → (∀ r, i ≤ r → r < cR c → s ≤ cB c r) → wY_configurationOf_7 post (nI a) (nI (cN c)) (nI (cS c)) (nI (cR c)) (xK c) a_first a_second a_third (xF c) a_now a_at a_other a_source a_register a_level a_soon a_depend a_table a_marked a_after a_shows a_apart n (nI (bld (fun r => a.testBit (cB c r)) i)) (nI i) (nI s) := by
    intro d
    induction d with
    | zero =>
      intro s i n hd hn hi h1 h2
      obtain ⟨n, rfl⟩ : ∃ n', n = n' + 1 := ⟨n - 1, by omega⟩
      have e : i = cR c := by
        apply Classical.byContradiction
        intro z
        have e1 := h2 i (Nat.le_refl _) (by omega)
        have e2 := wf_B w (show i < cR c by omega)
        omega
      subst e
      unfold wY_configurationOf_7
      exact br_t (nI_le (by omega) (by omega)) h
    | succ d ih =>
      intro s i n hd hn hi h1 h2
      obtain ⟨n, rfl⟩ : ∃ n', n = n' + 1 := ⟨n - 1, by omega⟩
      have hs : s < cS c := by omega
      have hA := wf_A w hs
      have a1 := hY.2.2.2.1 s hs
      have k2 := wf_AK w hs
      have h3 : ¬ cS c ≤ s := by omega
      by_cases hk : cK c (cA c s) = 1
      · obtain ⟨e1, e2⟩ := sr_1 w hs h1 h2 hk
        have hb : (nI a >>> (nI s &&& 31)) &&& 1 = nI (a.testBit (cB c i)).toNat := by rw [e2]; exact gw_bit (by omega) ha
        simp (disch := omega) only [gw_in, gw_cl, gw_Lle, gw_leL, gw_Llt, gw_ltL, gw_eqL, gw_Leq, gw_Lmul, gw_Ladd, gw_addL, nI_leI, nI_ltI, nI_eq, nI_add, nI_1, pk_mul, xK_ap, xO_ap, xF_ap, xA_ap, xG_ap, xB_ap, forall_eq, true_and, and_true, false_imp_iff, true_imp_iff, not_false_eq_true, not_true_eq_false, eq_self, Nat.reduceLT, Nat.reduceLeDiff, Nat.reduceEqDiff, gw_10, gw_01, wY_configurationOf_7, h3, a1, hk, hb]
        rw [bld_or (fun r => a.testBit (cB c r)) (by omega)]
        refine ih (s + 1) (i + 1) n (by omega) (by omega) e1 (fun r hr => ?_) (fun r hr1 hr2 => ?_)
        · by_cases q : r = i
          · subst q; omega
          · have := h1 r (by omega); omega
        · have := wf_Bm w (show i < r by omega) hr2
          omega
      · simp (disch := omega) only [gw_in, gw_cl, gw_Lle, gw_leL, gw_Llt, gw_ltL, gw_eqL, gw_Leq, gw_Lmul, gw_Ladd, gw_addL, nI_leI, nI_ltI, nI_eq, nI_add, nI_1, pk_mul, xK_ap, xO_ap, xF_ap, xA_ap, xG_ap, xB_ap, forall_eq, true_and, and_true, false_imp_iff, true_imp_iff, not_false_eq_true, not_true_eq_false, eq_self, Nat.reduceLT, Nat.reduceLeDiff, Nat.reduceEqDiff, gw_10, gw_01, wY_configurationOf_7, h3, a1, hk]
        exact ih (s + 1) i n (by omega) (by omega) hi (fun r hr => by have := h1 r hr; omega) (sr_2 w h2 hk)
  exact ⟨cS c + 1, L (cS c) 0 0 _ (by omega) (by omega) (by omega) (fun r hr => by omega) (fun r _ _ => by omega)⟩
def SHW (c : CK) (x1 : Int32) (sh : Nat → Bool) : Prop := (x1 = -1 ∧ ∀ a, sh a = false) ∨ (∃ net, net < cN c ∧ x1 = nI net ∧ ∀ a, sh a = EV c a net)
theorem yw_spread22 (w : WF c) (hY : YS c a_first a_second a_third a_source a_register) {x1 : Int32} {sh : Nat → Bool} (hx : SHW c x1 sh) {a : Nat} (ha : a < 2 ^ cS c) (hat : ∀ m, m < cN c → a_at m = nI (EV c a m).toNat) {post : SY → Prop}
    {J2 : Int32 → Int32 → Int32 → Int32 → (Nat → Int32) → (Nat → Int32) → (Nat → Int32) → (Nat → Int32) → (Nat → Int32) → (Nat → Int32) → (Nat → Int32) → (Nat → Int32) → (Nat → Int32) → (Nat → Int32) → (Nat → Int32) → (Nat → Int32) → (Nat → Int32) → (Nat → Int32) → (Nat → Int32) → (Nat → Int32) → (Nat → Int32) → (Nat → Int32) → Prop}
    (hJ : J2 (nI (a + 1)) (nI (cN c)) (nI (cS c)) (nI (cR c)) (xK c) a_first a_second a_third (xF c) a_now a_at a_other a_source a_register a_level a_soon a_depend a_table a_marked (upd a_after a (nI (aft c a))) (upd a_shows a (nI (sh a).toNat)) a_apart) :
    ∀ d i n, i + d = cR c → d < n → wY_spread_22 post J2 x1 (nI a) (nI (cN c)) (nI (cS c)) (nI (cR c)) (xK c) a_first a_second a_third (xF c) a_now a_at a_other a_source a_register a_level a_soon a_depend a_table a_marked a_after a_shows a_apart n (nI (bld (fun r => EV c a (cF c (cG c r))) i)) (nI i) := by
  have hR := wf_R w
  have hN := wf_N w
  have hS2 := gw_p2 (wf_S w)
  intro d
  induction d with
  | zero =>
    intro i n hi hn
    obtain ⟨n, rfl⟩ : ∃ n', n = n' + 1 := ⟨n - 1, by omega⟩
    have : i = cR c := by omega
    subst this
    unfold wY_spread_22
    rw [gw_cl (by omega), gw_bool0, gw_bool1]
    refine br_t (nI_le (Nat.le_refl _) (by omega)) ⟨vp_in_nI (by omega) (by omega), nm_e ?_⟩
    rcases hx with ⟨rfl, hx⟩ | ⟨net, hnet, rfl, hx⟩
    · rw [hx a] at hJ
      exact br_t gw_m1lt ⟨vp_in_nI (by omega) (by omega), nm_e (nm_r (nI_1 a) hJ)⟩
    · rw [hx a] at hJ
      rw [gw_cl (by omega), hat net hnet]
      refine br_f (nI_pos (by omega)) ⟨vp_in_nI (by omega) (by omega), br_c (fun e => ?_) (fun e => ?_)⟩
      · rw [gw_bt] at e
        rw [e] at hJ
        exact ⟨vp_in_nI (by omega) (by omega), nm_e (nm_r (nI_1 a) hJ)⟩
      · rw [gw_bt] at e
        rw [ts_nf e] at hJ
        exact ⟨vp_in_nI (by omega) (by omega), nm_e (nm_r (nI_1 a) hJ)⟩
  | succ d ih =>
    intro i n hi hn
    obtain ⟨n, rfl⟩ : ∃ n', n = n' + 1 := ⟨n - 1, by omega⟩
    have hi' : i < cR c := by omega
    have hG := wf_GN w hi'
    have hF := wf_GF w hi'
    have a1 := hY.2.2.2.2 i hi'
    have a2 := hat _ hF
    have h1 : ¬ cR c ≤ i := by omega
    have hi2 := ih (i + 1) n (by omega) (by omega)
    rw [← bld_or (fun r => EV c a (cF c (cG c r))) (by omega)] at hi2
    cases e : EV c a (cF c (cG c i))
    · rw [e] at a2 hi2
      have z : nI false.toNat = 0 := rfl
      rw [z] at a2 hi2
      simp (disch := omega) only [gw_in, gw_cl, gw_Lle, gw_leL, gw_Llt, gw_ltL, gw_eqL, gw_Leq, gw_Lmul, gw_Ladd, gw_addL, nI_leI, nI_ltI, nI_eq, nI_add, nI_1, pk_mul, xK_ap, xO_ap, xF_ap, xA_ap, xG_ap, xB_ap, forall_eq, true_and, and_true, false_imp_iff, true_imp_iff, not_false_eq_true, not_true_eq_false, eq_self, Nat.reduceLT, Nat.reduceLeDiff, Nat.reduceEqDiff, gw_10, gw_01, wY_spread_22, h1, a1, a2]
      exact hi2
    · rw [e] at a2 hi2
      have z : nI true.toNat = 1 := rfl
      rw [z] at a2 hi2
      simp (disch := omega) only [gw_in, gw_cl, gw_Lle, gw_leL, gw_Llt, gw_ltL, gw_eqL, gw_Leq, gw_Lmul, gw_Ladd, gw_addL, nI_leI, nI_ltI, nI_eq, nI_add, nI_1, pk_mul, xK_ap, xO_ap, xF_ap, xA_ap, xG_ap, xB_ap, forall_eq, true_and, and_true, false_imp_iff, true_imp_iff, not_false_eq_true, not_true_eq_false, eq_self, Nat.reduceLT, Nat.reduceLeDiff, Nat.reduceEqDiff, gw_10, gw_01, wY_spread_22, h1, a1, a2]
      exact hi2
theorem yw_spread (w : WF c) (hY : YS c a_first a_second a_third a_source a_register) {x1 : Int32} {sh : Nat → Bool} (hx : SHW c x1 sh) {post : SY → Prop}
    (h : ∀ t f s, (∀ a, a < 2 ^ cS c → f a = nI (aft c a)) → (∀ a, a < 2 ^ cS c → s a = nI (sh a).toNat) → post (nI (cN c), nI (cS c), nI (cR c), xK c, a_first, a_second, a_third, xF c, a_now, t, a_other, a_source, a_register, a_level, a_soon, a_depend, a_table, a_marked, f, s, a_apart)) : wpY_spread post (nI (cN c), nI (cS c), nI (cR c), xK c, a_first, a_second, a_third, xF c, a_now, a_at, a_other, a_source, a_register, a_level, a_soon, a_depend, a_table, a_marked, a_after, a_shows, a_apart) x1 := by
  have hS := wf_S w
  have hS2 := gw_p2 hS
  have L : ∀ d a n t f s, a + d = 2 ^ cS c → d < n → (∀ b, b < a → f b = nI (aft c b)) → (∀ b, b < a → s b = nI (sh b).toNat) → wY_spread_2 post x1 n (nI a) (nI (cN c)) (nI (cS c)) (nI (cR c)) (xK c) a_first a_second a_third (xF c) a_now t a_other a_source a_register a_level a_soon a_depend a_table a_marked f s a_apart := by
    intro d
    induction d with
    | zero =>
      intro a n t f s ha hn hf hs
      obtain ⟨n, rfl⟩ : ∃ n', n = n' + 1 := ⟨n - 1, by omega⟩
      unfold wY_spread_2
      rw [gw_1shl (by omega)]
      exact br_t (nI_le (by omega) (by omega)) (h t f s (fun b hb => hf b (by omega)) (fun b hb => hs b (by omega)))
    | succ d ih =>
      intro a n t f s ha hn hf hs
      obtain ⟨n, rfl⟩ : ∃ n', n = n' + 1 := ⟨n - 1, by omega⟩
      unfold wY_spread_2
      rw [gw_1shl (by omega)]
      refine br_f (nI_ge (by omega) (by omega)) (yw_assign w hY (by omega) (fun t' ht' => ?_))
      dsimp only
      refine ⟨cR c + 1, yw_spread22 w hY hx (by omega) ht' (ih (a + 1) n t' _ _ (by omega) (by omega) (fun b hb => ?_) (fun b hb => ?_)) (cR c) 0 _ (by omega) (by omega)⟩
      · by_cases e : b = a
        · rw [e, pk_us]
        · rw [pk_un e]; exact hf b (by omega)
      · by_cases e : b = a
        · rw [e, pk_us]
        · rw [pk_un e]; exact hs b (by omega)
  exact ⟨2 ^ cS c + 1, L (2 ^ cS c) 0 _ a_at a_after a_shows (by omega) (by omega) (fun b hb => by omega) (fun b hb => by omega)⟩
/-- in the pass for t, the assignments below a being done -/
def SOI (c : CK) (t a : Nat) (so : Nat → Int32) : Prop := ∀ q, q < 64 → (∃ s, s ≤ t ∧ NEW c s q ∧ so q = nI s) ∨ ((∀ s, s ≤ t → ¬ rch c s q) ∧ (((∃ b, b < a ∧ NEW c t (cfgOf c b) ∧ aft c b = q) ∧ so q = nI (t + 1)) ∨ ((¬ ∃ b, b < a ∧ NEW c t (cfgOf c b) ∧ aft c b = q) ∧ so q = -1)))
theorem soi_t {t a q : Nat} {so : Nat → Int32} (ht : t < 64) (h : SOI c t a so) (hq : q < 64) : so q = nI t ↔ NEW c t q := by
  rcases h q hq with ⟨s, hs, h1, e⟩ | ⟨h1, ⟨_, e⟩ | ⟨_, e⟩⟩
  · rw [e, nI_eq (by omega) (by omega)]
    constructor
    · intro z; subst z; exact h1
    · intro z; exact new_uni h1 z
  · rw [e, nI_eq (by omega) (by omega)]
    constructor
    · intro z; omega
    · intro z; exact absurd z.1 (h1 t (Nat.le_refl _))
  · rw [e]
    constructor
    · intro z; exact absurd z.symm (gw_m1 (by omega))
    · intro z; exact absurd z.1 (h1 t (Nat.le_refl _))
theorem soi_neg {t a q : Nat} {so : Nat → Int32} (ht : t < 64) (h : SOI c t a so) (hq : q < 64) : so q < 0 ↔ ((∀ s, s ≤ t → ¬ rch c s q) ∧ ¬ ∃ b, b < a ∧ NEW c t (cfgOf c b) ∧ aft c b = q) := by
  rcases h q hq with ⟨s, hs, h1, e⟩ | ⟨h1, ⟨h2, e⟩ | ⟨h2, e⟩⟩
  · rw [e]
    constructor
    · intro z; exact absurd z (nI_pos (by omega))
    · intro z; exact absurd h1.1 (z.1 s hs)
  · rw [e]
    constructor
    · intro z; exact absurd z (nI_pos (by omega))
    · intro z; exact absurd h2 z.2
  · rw [e]
    exact ⟨fun _ => ⟨h1, h2⟩, fun _ => gw_m1lt⟩
theorem soi_step {t a : Nat} {so so' : Nat → Int32} (h : SOI c t a so) (hA : ∀ q, q < 64 → NEW c t (cfgOf c a) ∧ q = aft c a ∧ so q < 0 → so' q = nI (t + 1)) (hB : ∀ q, q < 64 → ¬ (NEW c t (cfgOf c a) ∧ q = aft c a ∧ so q < 0) → so' q = so q) (ht : t < 64) : SOI c t (a + 1) so' := by
  intro q hq
  have en := soi_neg ht h hq
  rcases h q hq with ⟨s, hs, h1, e⟩ | ⟨h1, ⟨⟨b, hb, k1, k2⟩, e⟩ | ⟨h2, e⟩⟩
  · refine Or.inl ⟨s, hs, h1, ?_⟩
    rw [hB q hq, e]
    rintro ⟨_, _, z⟩
    rw [e] at z
    exact nI_pos (by omega) z
  · refine Or.inr ⟨h1, Or.inl ⟨⟨b, by omega, k1, k2⟩, ?_⟩⟩
    rw [hB q hq, e]
    rintro ⟨_, _, z⟩
    rw [e] at z
    exact nI_pos (by omega) z
  · have hneg : so q < 0 := en.mpr ⟨h1, h2⟩
    by_cases hc : NEW c t (cfgOf c a) ∧ q = aft c a
    · exact Or.inr ⟨h1, Or.inl ⟨⟨a, by omega, hc.1, hc.2.symm⟩, hA q hq ⟨hc.1, hc.2, hneg⟩⟩⟩
    · refine Or.inr ⟨h1, Or.inr ⟨?_, ?_⟩⟩
      · rintro ⟨b, hb, k1, k2⟩
        by_cases e2 : b = a
        · subst e2; exact hc ⟨k1, k2.symm⟩
        · exact h2 ⟨b, by omega, k1, k2⟩
      · rw [hB q hq (fun z => hc ⟨z.1, z.2.1⟩), e]
theorem yw_explore47 (w : WF c) (hY : YS c a_first a_second a_third a_source a_register) (hf : ∀ a, a < 2 ^ cS c → a_after a = nI (aft c a)) {t : Nat} (ht : t < 64) {post : SY → Prop}
    {J38 : Int32 → Int32 → (Nat → Int32) → (Nat → Int32) → (Nat → Int32) → (Nat → Int32) → (Nat → Int32) → (Nat → Int32) → (Nat → Int32) → (Nat → Int32) → (Nat → Int32) → (Nat → Int32) → (Nat → Int32) → (Nat → Int32) → (Nat → Int32) → (Nat → Int32) → (Nat → Int32) → (Nat → Int32) → (Nat → Int32) → (Nat → Int32) → Prop}
    (hJ : ∀ m so, SOI c t (2 ^ cS c) so → (m = true ↔ ∃ b, b < 2 ^ cS c ∧ NEW c t (cfgOf c b) ∧ ∀ s, s ≤ t → ¬ rch c s (aft c b)) → J38 (nI m.toNat) (nI (t + 1)) (xK c) a_first a_second a_third (xF c) a_now a_at a_other a_source a_register a_level so a_depend a_table a_marked a_after a_shows a_apart) :
    ∀ d a n m so, a + d = 2 ^ cS c → d < n → SOI c t a so → (m = true ↔ ∃ b, b < a ∧ NEW c t (cfgOf c b) ∧ ∀ s, s ≤ t → ¬ rch c s (aft c b)) → wY_explore_47 post J38 (nI t) (nI (cN c)) (nI (cS c)) (nI (cR c)) n (nI m.toNat) (nI a) (xK c) a_first a_second a_third (xF c) a_now a_at a_other a_source a_register a_level so a_depend a_table a_marked a_after a_shows a_apart := by
  have hS := wf_S w
  have hS2 := gw_p2 hS
  intro d
  induction d with
  | zero =>
    intro a n m so ha hn hso hm
    obtain ⟨n, rfl⟩ : ∃ n', n = n' + 1 := ⟨n - 1, by omega⟩
    have : a = 2 ^ cS c := by omega
    subst this
    unfold wY_explore_47
    rw [gw_1shl (by omega)]
    exact br_t (nI_le (Nat.le_refl _) (by omega)) (nm_r (nI_1 t) (hJ m so hso hm))
  | succ d ih =>
    intro a n m so ha hn hso hm
    obtain ⟨n, rfl⟩ : ∃ n', n = n' + 1 := ⟨n - 1, by omega⟩
    have hc64 := r64 w (cfg_lt (c := c) a)
    have ha64 := r64 w (aft_lt (c := c) a)
    have a2 := hf a (by omega)
    unfold wY_explore_47
    rw [gw_1shl (by omega)]
    refine br_f (nI_ge (by omega) (by omega)) (yw_cfgOf w hY (by omega) ?_)
    rw [gw_cl (show cfgOf c a < 2147483648 by omega), gw_cl (show a < 2147483648 by omega), a2, gw_cl (show aft c a < 2147483648 by omega)]
    refine ⟨vp_in_nI hc64 (by omega), br_c (fun e => ?_) (fun e => ?_)⟩
    · rw [soi_t ht hso hc64] at e
      refine ⟨vp_in_nI (by omega) (by omega), vp_in_nI ha64 (by omega), br_c (fun e2 => ?_) (fun e2 => ?_)⟩
      · refine ⟨vp_in_nI (by omega) (by omega), vp_in_nI ha64 (by omega), nm_e (nm_r (nI_1 a) ?_)⟩
        rw [nI_1]
        have h1 := (soi_neg ht hso ha64).mp e2
        refine ih (a + 1) n true _ (by omega) (by omega) (soi_step hso (fun q hq z => ?_) (fun q hq z => ?_) ht) ?_
        · rw [z.2.1, pk_us]
        · rw [pk_un (fun y => z ⟨e, y, by rw [y]; exact e2⟩)]
        · exact ⟨fun _ => ⟨a, by omega, e, h1.1⟩, fun _ => rfl⟩
      · refine nm_r (nI_1 a) (ih (a + 1) n m so (by omega) (by omega) (soi_step hso (fun q hq z => ?_) (fun q hq z => rfl) ht) ?_)
        · exact absurd (by rw [← z.2.1]; exact z.2.2) e2
        · rw [hm]
          constructor
          · rintro ⟨b, hb, k⟩
            exact ⟨b, by omega, k⟩
          · rintro ⟨b, hb, k1, k2⟩
            by_cases e3 : b = a
            · subst e3
              have h1 : ¬ ((∀ s, s ≤ t → ¬ rch c s (aft c b)) ∧ ¬ ∃ b', b' < b ∧ NEW c t (cfgOf c b') ∧ aft c b' = aft c b) := fun z => e2 ((soi_neg ht hso ha64).mpr z)
              have h2 : ∃ b', b' < b ∧ NEW c t (cfgOf c b') ∧ aft c b' = aft c b := by
                apply Classical.byContradiction
                intro z
                exact h1 ⟨k2, z⟩
              obtain ⟨b', hb', k3, k4⟩ := h2
              exact ⟨b', hb', k3, by rw [k4]; exact k2⟩
            · exact ⟨b, by omega, k1, k2⟩
    · rw [soi_t ht hso hc64] at e
      refine nm_r (nI_1 a) (ih (a + 1) n m so (by omega) (by omega) (soi_step hso (fun q hq z => absurd z.1 e) (fun q hq z => rfl) ht) ?_)
      · rw [hm]
        constructor
        · rintro ⟨b, hb, k⟩
          exact ⟨b, by omega, k⟩
        · rintro ⟨b, hb, k1, k2⟩
          by_cases e3 : b = a
          · subst e3; exact absurd k1 e
          · exact ⟨b, by omega, k1, k2⟩
theorem yw_explore38 (w : WF c) (hY : YS c a_first a_second a_third a_source a_register) (hf : ∀ a, a < 2 ^ cS c → a_after a = nI (aft c a)) {post : SY → Prop} (h : ∀ so, (∀ q, q < 64 → SN c q (so q)) → post (nI (cN c), nI (cS c), nI (cR c), xK c, a_first, a_second, a_third, xF c, a_now, a_at, a_other, a_source, a_register, a_level, so, a_depend, a_table, a_marked, a_after, a_shows, a_apart)) :
    ∀ d t n m so, t + d = 64 → d < n → CMT c (t + 1) so → (m = true → ∃ q, NEW c t q) → (m = false → ∀ q, ¬ NEW c t q) → wY_explore_38 post (nI (cN c)) (nI (cS c)) (nI (cR c)) n (nI m.toNat) (nI t) (xK c) a_first a_second a_third (xF c) a_now a_at a_other a_source a_register a_level so a_depend a_table a_marked a_after a_shows a_apart := by
  intro d
  induction d with
  | zero =>
    intro t n m so hd hn hso h1 h2
    obtain ⟨n, rfl⟩ : ∃ n', n = n' + 1 := ⟨n - 1, by omega⟩
    have hno : ∀ q, ¬ NEW c t q := fun q z => by have := new_64 w z; omega
    have hm : m = false := by
      cases e : m
      · rfl
      · obtain ⟨q, z⟩ := h1 e; exact absurd z (hno q)
    subst hm
    unfold wY_explore_38
    exact br_t rfl (h so (cmt_sn w hso (fun q z => by obtain ⟨a, _, z2, _⟩ := new_pred z; exact hno _ z2)))
  | succ d ih =>
    intro t n m so hd hn hso h1 h2
    obtain ⟨n, rfl⟩ : ∃ n', n = n' + 1 := ⟨n - 1, by omega⟩
    unfold wY_explore_38
    cases e : m
    · exact br_t rfl (h so (cmt_sn w hso (fun q z => by obtain ⟨a, _, z2, _⟩ := new_pred z; exact h2 e _ z2)))
    · refine br_f (by decide) ⟨2 ^ cS c + 1, ?_⟩
      refine yw_explore47 w hY hf (by omega) (fun m' so' hso' hm' => ?_) (2 ^ cS c) 0 _ false so (by omega) (by omega) (fun q hq => ?_) ⟨fun z => absurd z (by decide), fun ⟨b, hb, _⟩ => by omega⟩
      · refine ih (t + 1) n m' so' (by omega) (by omega) (fun q hq => ?_) (fun z => ?_) (fun z q y => ?_)
        · rcases hso' q hq with ⟨s, hs, k1, k2⟩ | ⟨k1, ⟨⟨b, hb, k2, k3⟩, k4⟩ | ⟨k2, k3⟩⟩
          · exact Or.inl ⟨s, by omega, k1, k2⟩
          · exact Or.inl ⟨t + 1, by omega, new_succ hb k2.1 k3 k1, k4⟩
          · refine Or.inr ⟨fun s hs z => ?_, k3⟩
            by_cases e2 : s ≤ t
            · exact k1 s e2 z
            · have : s = t + 1 := by omega
              subst this
              exact k2 (new_pred ⟨z, fun r hr => k1 r (by omega)⟩)
        · obtain ⟨b, hb, k1, k2⟩ := hm'.mp z
          exact ⟨aft c b, new_succ hb k1.1 rfl k2⟩
        · obtain ⟨b, hb, k1, k2⟩ := new_pred y
          rw [hm'.mpr ⟨b, hb, k1, fun s hs z => by rw [k2] at z; exact y.2 s (by omega) z⟩] at z
          exact absurd z (by decide)
      · rcases hso q hq with ⟨s, hs, k1, k2⟩ | ⟨k1, k2⟩
        · exact Or.inl ⟨s, by omega, k1, k2⟩
        · exact Or.inr ⟨fun s hs => k1 s (by omega), Or.inr ⟨fun ⟨b, hb, _⟩ => by omega, k2⟩⟩
theorem yw_explore (w : WF c) (hY : YS c a_first a_second a_third a_source a_register) {x1 : Int32} {sh : Nat → Bool} (hx : SHW c x1 sh) {post : SY → Prop}
    (h : ∀ t f s so, (∀ a, a < 2 ^ cS c → s a = nI (sh a).toNat) → (∀ q, q < 64 → SN c q (so q)) → post (nI (cN c), nI (cS c), nI (cR c), xK c, a_first, a_second, a_third, xF c, a_now, t, a_other, a_source, a_register, a_level, so, a_depend, a_table, a_marked, f, s, a_apart)) : wpY_explore post (nI (cN c), nI (cS c), nI (cR c), xK c, a_first, a_second, a_third, xF c, a_now, a_at, a_other, a_source, a_register, a_level, a_soon, a_depend, a_table, a_marked, a_after, a_shows, a_apart) x1 := by
  dsimp only [wpY_explore]
  refine yw_spread w hY hx (fun t f s hf hs => ?_)
  dsimp only
  have L : ∀ d k n so, k + d = 64 → d < n → (∀ q, q < k → so q = if q = 0 then 0 else -1) → wY_explore_7 post (nI (cN c)) (nI (cS c)) (nI (cR c)) n (nI k) (xK c) a_first a_second a_third (xF c) a_now t a_other a_source a_register a_level so a_depend a_table a_marked f s a_apart := by
    intro d
    induction d with
    | zero =>
      intro k n so hk hn hso
      obtain ⟨n, rfl⟩ : ∃ n', n = n' + 1 := ⟨n - 1, by omega⟩
      unfold wY_explore_7
      refine br_t (nI_le (a := 64) (by omega) (by omega)) ⟨65, yw_explore38 w hY hf (fun so' hso' => h t f s so' hs hso') 64 0 _ true so (by omega) (by omega) (fun q hq => ?_) (fun _ => ⟨0, new_0.mpr rfl⟩) (fun z => absurd z (by decide))⟩
      rw [hso q (by omega)]
      by_cases e : q = 0
      · rw [if_pos e]
        exact Or.inl ⟨0, by omega, new_0.mpr e, rfl⟩
      · rw [if_neg e]
        refine Or.inr ⟨fun r hr z => ?_, rfl⟩
        have : r = 0 := by omega
        subst this
        exact e z
    | succ d ih =>
      intro k n so hk hn hso
      obtain ⟨n, rfl⟩ : ∃ n', n = n' + 1 := ⟨n - 1, by omega⟩
      unfold wY_explore_7
      rw [gw_cl (by omega)]
      refine br_f (nI_ge (b := 64) (by omega) (by omega)) (pk_eq k 0 (fun e => ?_) (fun e => ?_))
      · refine ⟨vp_in_nI (by omega) (by omega), nm_e (nm_r (nI_1 k) (ih (k + 1) n _ (by omega) (by omega) (fun q hq => ?_)))⟩
        have : q = k := by omega
        rw [this, pk_us, if_pos e]
      · refine ⟨vp_in_nI (by omega) (by omega), nm_e (nm_r (nI_1 k) (ih (k + 1) n _ (by omega) (by omega) (fun q hq => ?_)))⟩
        by_cases e2 : q = k
        · rw [e2, pk_us, if_neg e]
        · rw [pk_un e2]; exact hso q (by omega)
  exact ⟨65, L 64 0 _ a_soon (by omega) (by omega) (fun q hq => by omega)⟩
theorem ym_configurations (w : WF c) {now : Nat} {v : SY} (hv : YR c now v) {post : Int32 → SY → Prop} (h : ∀ v' r, YR c now v' → CFN c r → post r v') : wpY_configurations post v := by
  refine yr_el (P := fun v => wpY_configurations post v) hv ?_
  intro a_first a_second a_third a_now a_at a_other a_source a_register a_level a_soon a_depend a_table a_marked a_after a_shows a_apart hY hN
  dsimp only [wpY_configurations]
  refine yw_explore w hY (sh := fun _ => false) (Or.inl ⟨rfl, fun _ => rfl⟩) (fun t f s cm hs hcm => ?_)
  dsimp only
  have L : ∀ d k n, k + d = 64 → d < n → wY_configurations_9 post (nI (cN c)) (nI (cS c)) (nI (cR c)) (xK c) a_first a_second a_third (xF c) a_now t a_other a_source a_register a_level cm a_depend a_table a_marked f s a_apart n (nI (cnt (fun q => !decide (cm q < 0)) k)) (nI k) := by
    intro d
    induction d with
    | zero =>
      intro k n hk hn
      obtain ⟨n, rfl⟩ : ∃ n', n = n' + 1 := ⟨n - 1, by omega⟩
      have : k = 64 := by omega
      subst this
      unfold wY_configurations_9
      exact br_t (nI_le (a := 64) (Nat.le_refl _) (by omega)) (h _ _ (yr_in hY hN) ⟨cm, hcm, rfl⟩)
    | succ d ih =>
      intro k n hk hn
      obtain ⟨n, rfl⟩ : ∃ n', n = n' + 1 := ⟨n - 1, by omega⟩
      have hi := ih (k + 1) n (by omega) (by omega)
      rw [cnt_s] at hi
      unfold wY_configurations_9
      rw [gw_cl (by omega)]
      refine br_f (nI_ge (b := 64) (by omega) (by omega)) ⟨vp_in_nI (by omega) (by omega), br_c (fun e => nm_r (nI_1 k) ?_) (fun e => nm_r (nI_1 _) (nm_r (nI_1 k) ?_))⟩
      · rw [decide_eq_true e] at hi
        exact hi
      · rw [decide_eq_false e] at hi
        exact hi
  exact ⟨65, L 64 0 _ (by omega) (by omega)⟩
theorem rch_R {t q : Nat} (h : rch c t q) : q < 2 ^ cR c := by
  cases t with
  | zero =>
    have : q = 0 := h
    rw [this]
    exact Nat.two_pow_pos _
  | succ t =>
    obtain ⟨a, _, _, e⟩ := h
    rw [← e]
    exact aft_lt a
theorem ym_soonest (w : WF c) {now : Nat} {v : SY} (hv : YR c now v) {q : Nat} (hq : q < 64) {post : Int32 → SY → Prop} (h : ∀ v' r, YR c now v' → SN c q r → post r v') : wpY_soonest post v (nI q) := by
  have hR := wf_R w
  have h6 : 2 ^ cR c ≤ 64 := Nat.pow_le_pow_right (n := 2) (j := 6) (by decide) hR
  have h0 := Nat.two_pow_pos (cR c)
  refine yr_el (P := fun v => wpY_soonest post v (nI q)) hv ?_
  intro a_first a_second a_third a_now a_at a_other a_source a_register a_level a_soon a_depend a_table a_marked a_after a_shows a_apart hY hN
  dsimp only [wpY_soonest, wpY_in]
  have e1 : nI (2 ^ cR c) - 1 = nI (2 ^ cR c - 1) := pk_sub h0
  rw [gw_1shl (by omega), e1]
  refine br_f (nI_pos (by omega)) (pk_lt (2 ^ cR c - 1) q (fun e => ?_) (fun e => ?_))
  · refine br_t rfl (h _ _ (yr_in hY hN) (Or.inr ⟨fun t z => ?_, rfl⟩))
    have := rch_R z
    omega
  · refine br_f (by decide) (yw_explore w hY (sh := fun _ => false) (Or.inl ⟨rfl, fun _ => rfl⟩) (fun t f s cm hs hcm => ?_))
    dsimp only
    rw [gw_cl (by omega)]
    exact ⟨vp_in_nI hq (by omega), h _ _ (yr_in hY hN) (hcm q hq)⟩
theorem ym_alarm (w : WF c) {now : Nat} {v : SY} (hv : YR c now v) {j : Nat} (hj : j < cN c) {post : Int32 → SY → Prop} (h : ∀ v' r, YR c now v' → ALA c j r → post r v') : wpY_alarm post v (nI j) := by
  have hN := wf_N w
  have hS := wf_S w
  have hS2 := gw_p2 hS
  refine yr_el (P := fun v => wpY_alarm post v (nI j)) hv ?_
  intro a_first a_second a_third a_now a_at a_other a_source a_register a_level a_soon a_depend a_table a_marked a_after a_shows a_apart hY hN
  dsimp only [wpY_alarm]
  refine yw_isNet_t w hj (br_f (by decide) (yw_explore w hY (sh := fun a => EV c a j) (Or.inr ⟨j, hj, rfl, fun _ => rfl⟩) (fun t f s cm hs hcm => ?_)))
  dsimp only
  have L : ∀ d a n, a + d = 2 ^ cS c → d < n → wY_alarm_19 post (nI (cN c)) (nI (cS c)) (nI (cR c)) (xK c) a_first a_second a_third (xF c) a_now t a_other a_source a_register a_level cm a_depend a_table a_marked f s a_apart n (alm c j cm a) (nI a) := by
    intro d
    induction d with
    | zero =>
      intro a n ha hn
      obtain ⟨n, rfl⟩ : ∃ n', n = n' + 1 := ⟨n - 1, by omega⟩
      have : a = 2 ^ cS c := by omega
      subst this
      unfold wY_alarm_19
      rw [gw_1shl (by omega)]
      exact br_t (nI_le (Nat.le_refl _) (by omega)) (h _ _ (yr_in hY hN) ⟨cm, hcm, rfl⟩)
    | succ d ih =>
      intro a n ha hn
      obtain ⟨n, rfl⟩ : ∃ n', n = n' + 1 := ⟨n - 1, by omega⟩
      have hi := ih (a + 1) n (by omega) (by omega)
      have h64 := r64 w (cfg_lt (c := c) a)
      unfold wY_alarm_19
      rw [gw_1shl (by omega)]
      refine br_f (nI_ge (by omega) (by omega)) (yw_cfgOf w hY (by omega) ?_)
      rw [gw_cl (show cfgOf c a < 2147483648 by omega), gw_cl (show a < 2147483648 by omega), hs a (by omega)]
      refine ⟨vp_in_nI h64 (by omega), nm_e ⟨vp_in_nI (by omega) (by omega), br_c (fun e => ?_) (fun e => br_c (fun e2 => ?_) (fun e2 => br_c (fun e3 => ?_) (fun e3 => br_c (fun e4 => ?_) (fun e4 => ?_))))⟩⟩
      · rw [gw_bt] at e
        rw [alm_s, if_neg (fun z => by rw [e] at z; exact absurd z.1 (by decide))] at hi
        exact nm_r (nI_1 a) hi
      · rw [alm_s, if_neg (fun z => z.2.1 e2)] at hi
        exact nm_r (nI_1 a) hi
      · rw [gw_bt] at e
        rw [alm_s, if_pos ⟨ts_nf e, e2, Or.inl e3⟩] at hi
        exact nm_r (nI_1 a) hi
      · rw [alm_s, if_neg (fun z => by rcases z.2.2 with y | y; exact e3 y; exact y e4)] at hi
        exact nm_r (nI_1 a) hi
      · rw [gw_bt] at e
        rw [alm_s, if_pos ⟨ts_nf e, e2, Or.inr e4⟩] at hi
        exact nm_r (nI_1 a) hi
  exact ⟨2 ^ cS c + 1, L (2 ^ cS c) 0 _ (by omega) (by omega)⟩
end
end
section
/-! ===== what can be told apart: the pure rows ===== -/
/-- a net shows the same in two configurations; not told apart in t looks -/
def OUT (c : CK) (j p q : Nat) : Prop := ∀ x, x < 2 ^ cS c → EV c (wth c x p) j = EV c (wth c x q) j
def EQX (c : CK) (j : Nat) : Nat → Nat → Nat → Prop
  | 0 => fun _ _ => True
  | t + 1 => fun p q => OUT c j p q ∧ ∀ x, x < 2 ^ cS c → EQX c j t (stp c x p) (stp c x q)
section
variable {c : CK} {j : Nat}
theorem eq_refl : ∀ t p, EQX c j t p p
  | 0, _ => trivial
  | t + 1, p => ⟨fun _ _ => rfl, fun x _ => eq_refl t _⟩
theorem eq_symm : ∀ t p q, EQX c j t p q → EQX c j t q p
  | 0, _, _, _ => trivial
  | t + 1, p, q, h => ⟨fun x hx => (h.1 x hx).symm, fun x hx => eq_symm t _ _ (h.2 x hx)⟩
theorem eq_trans : ∀ t p q r, EQX c j t p q → EQX c j t q r → EQX c j t p r
  | 0, _, _, _, _, _ => trivial
  | t + 1, p, q, r, h, k => ⟨fun x hx => (h.1 x hx).trans (k.1 x hx), fun x hx => eq_trans t _ _ _ (h.2 x hx) (k.2 x hx)⟩
theorem eq_mono : ∀ t p q, EQX c j (t + 1) p q → EQX c j t p q
  | 0, _, _, _ => trivial
  | t + 1, p, q, h => ⟨h.1, fun x hx => eq_mono t _ _ (h.2 x hx)⟩
theorem eq_le {s t p q : Nat} (hs : s ≤ t) (h : EQX c j t p q) : EQX c j s p q := by
  obtain ⟨d, rfl⟩ : ∃ d, t = s + d := ⟨t - s, by omega⟩
  clear hs
  induction d with
  | zero => exact h
  | succ d ih => exact ih (eq_mono _ _ _ h)
theorem eq_s {t p q : Nat} : EQX c j (t + 2) p q ↔ EQX c j (t + 1) p q ∧ ∀ x, x < 2 ^ cS c → EQX c j (t + 1) (stp c x p) (stp c x q) :=
  ⟨fun h => ⟨eq_mono _ _ _ h, h.2⟩, fun h => ⟨h.1.1, h.2⟩⟩
/-- nothing more is told apart -/
def STB (c : CK) (j t : Nat) : Prop := ∀ p q, p < 2 ^ cR c → q < 2 ^ cR c → EQX c j t p q → EQX c j (t + 1) p q
theorem stb_s {t : Nat} (h : STB c j t) : STB c j (t + 1) := fun p q _ _ e => ⟨e.1, fun x hx => h _ _ (aft_lt _) (aft_lt _) (e.2 x hx)⟩
theorem stb_all {t : Nat} (h : STB c j t) {p q : Nat} (hp : p < 2 ^ cR c) (hq : q < 2 ^ cR c) (e : EQX c j t p q) : ∀ s, EQX c j s p q := by
  have h1 : ∀ d, STB c j (t + d) ∧ EQX c j (t + d) p q := by
    intro d
    induction d with
    | zero => exact ⟨h, e⟩
    | succ d ih => exact ⟨stb_s ih.1, ih.1 p q hp hq ih.2⟩
  intro s
  by_cases hs : s ≤ t
  · exact eq_le hs e
  · have := (h1 (s - t)).2
    rw [show t + (s - t) = s by omega] at this
    exact this
/-- the least one that isn't told apart -/
def LSX (c : CK) (j t p g : Nat) : Prop := EQX c j t p g ∧ ∀ e, e < g → ¬ EQX c j t p e
theorem lsx_ex (t p : Nat) : ∃ g, LSX c j t p g := by
  obtain ⟨g, h1, h2⟩ := pk_least (fun g => EQX c j t p g) ⟨p, eq_refl t p⟩
  exact ⟨g, h1, h2⟩
theorem lsx_le {t p g : Nat} (h : LSX c j t p g) : g ≤ p := by
  apply Classical.byContradiction
  intro z
  exact h.2 p (by omega) (eq_refl t p)
theorem lsx_uni {t p g g' : Nat} (h : LSX c j t p g) (h' : LSX c j t p g') : g = g' := by
  rcases Nat.lt_trichotomy g g' with e | e | e
  · exact absurd h.1 (h'.2 g e)
  · exact e
  · exact absurd h'.1 (h.2 g' e)
theorem lsx_eq {t p q g g' : Nat} (h : LSX c j t p g) (h' : LSX c j t q g') : g = g' ↔ EQX c j t p q := by
  constructor
  · intro e
    subst e
    exact eq_trans t _ _ _ h.1 (eq_symm t _ _ h'.1)
  · intro e
    refine lsx_uni h ⟨eq_trans t _ _ _ e h'.1, fun d hd z => h'.2 d hd (eq_trans t _ _ _ (eq_symm t _ _ e) z)⟩
theorem lsx_mono {t p g g' : Nat} (h : LSX c j t p g) (h' : LSX c j (t + 1) p g') : g ≤ g' := by
  apply Classical.byContradiction
  intro z
  exact h.2 g' (by omega) (eq_mono _ _ _ h'.1)
end
def sumN (g : Nat → Nat) : Nat → Nat
  | 0 => 0
  | n + 1 => sumN g n + g n
theorem sumN_le {g h : Nat → Nat} : ∀ n, (∀ i, i < n → g i ≤ h i) → sumN g n ≤ sumN h n
  | 0, _ => Nat.le_refl _
  | n + 1, H => Nat.add_le_add (sumN_le n (fun i hi => H i (by omega))) (H n (by omega))
theorem sumN_lt {g h : Nat → Nat} : ∀ n, (∀ i, i < n → g i ≤ h i) → (∃ i, i < n ∧ g i < h i) → sumN g n < sumN h n
  | 0, _, ⟨i, hi, _⟩ => absurd hi (Nat.not_lt_zero _)
  | n + 1, H, ⟨i, hi, hlt⟩ => by
    show sumN g n + g n < sumN h n + h n
    by_cases e : i = n
    · subst e
      have := sumN_le i (fun k hk => H k (by omega))
      omega
    · have := sumN_lt n (fun k hk => H k (by omega)) ⟨i, by omega, hlt⟩
      have := H n (by omega)
      omega
theorem sumN_bd {g : Nat → Nat} {b : Nat} : ∀ n, (∀ i, i < n → g i ≤ b) → sumN g n ≤ n * b
  | 0, _ => Nat.zero_le _
  | n + 1, H => by
    show sumN g n + g n ≤ (n + 1) * b
    have := sumN_bd n (fun i hi => H i (by omega))
    have := H n (by omega)
    rw [Nat.succ_mul]
    omega
section
variable {c : CK} {j : Nat}
theorem stb_ex (w : WF c) : ∃ T, T ≤ 5000 ∧ STB c j T := by
  apply Classical.byContradiction
  intro hno
  have hno : ∀ T, T ≤ 5000 → ¬ STB c j T := fun T hT z => hno ⟨T, hT, z⟩
  let g : Nat → Nat → Nat := fun t p => Classical.choose (lsx_ex (c := c) (j := j) t p)
  have hg : ∀ t p, LSX c j t p (g t p) := fun t p => Classical.choose_spec (lsx_ex (c := c) (j := j) t p)
  have h64 : 2 ^ cR c ≤ 64 := Nat.pow_le_pow_right (n := 2) (j := 6) (by decide) (wf_R w)
  have hs : ∀ t, t ≤ 5001 → t ≤ sumN (g t) (2 ^ cR c) := by
    intro t
    induction t with
    | zero => intro _; exact Nat.zero_le _
    | succ t ih =>
      intro ht
      have h1 := ih (by omega)
      have h2 : sumN (g t) (2 ^ cR c) < sumN (g (t + 1)) (2 ^ cR c) := by
        refine sumN_lt _ (fun p _ => lsx_mono (hg t p) (hg (t + 1) p)) ?_
        apply Classical.byContradiction
        intro z
        apply hno t (by omega)
        intro p q hp hq e
        have e1 : ∀ p, p < 2 ^ cR c → g t p = g (t + 1) p := fun p hp => by
          have l := lsx_mono (hg t p) (hg (t + 1) p)
          apply Classical.byContradiction
          intro y
          exact z ⟨p, hp, by omega⟩
        rw [← lsx_eq (hg t p) (hg t q), e1 p hp, e1 q hq, lsx_eq (hg (t + 1) p) (hg (t + 1) q)] at e
        exact e
      omega
  have h1 := hs 5001 (Nat.le_refl _)
  have h2 := sumN_bd (g := g 5001) (b := 63) (2 ^ cR c) (fun i hi => Nat.le_trans (lsx_le (hg 5001 i)) (by omega))
  have h3 : 2 ^ cR c * 63 ≤ 64 * 63 := Nat.mul_le_mul_right _ h64
  omega
/-- the answers -/
def APT (c : CK) (j p q : Nat) (r : Int32) : Prop := (∃ t, t ≤ 5000 ∧ EQX c j t p q ∧ ¬ EQX c j (t + 1) p q ∧ r = nI t) ∨ ((∀ t, EQX c j t p q) ∧ r = -1)
theorem apt_uni {p q : Nat} {r r' : Int32} (h : APT c j p q r) (h' : APT c j p q r') : r' = r := by
  rcases h with ⟨s, _, h1, h2, rfl⟩ | ⟨h1, rfl⟩ <;> rcases h' with ⟨t, _, k1, k2, rfl⟩ | ⟨k1, rfl⟩
  · rcases Nat.lt_trichotomy s t with e | e | e
    · exact absurd (eq_le (show s + 1 ≤ t by omega) k1) h2
    · rw [e]
    · exact absurd (eq_le (show t + 1 ≤ s by omega) h1) k2
  · exact absurd (k1 _) h2
  · exact absurd (h1 _) k2
  · rfl
theorem apt_symm {p q : Nat} {r : Int32} (h : APT c j p q r) : APT c j q p r := by
  rcases h with ⟨t, ht, h1, h2, e⟩ | ⟨h1, e⟩
  · exact Or.inl ⟨t, ht, eq_symm _ _ _ h1, fun z => h2 (eq_symm _ _ _ z), e⟩
  · exact Or.inr ⟨fun t => eq_symm _ _ _ (h1 t), e⟩
def CLS (c : CK) (j : Nat) (r : Int32) : Prop := ∃ p : Nat → Bool, (∀ q, q < 2 ^ cR c → (p q = true ↔ ∀ d, d < q → ∃ t, ¬ EQX c j t q d)) ∧ r = nI (cnt p (2 ^ cR c))
theorem cls_uni {r r' : Int32} (h : CLS c j r) (h' : CLS c j r') : r' = r := by
  obtain ⟨p, h1, rfl⟩ := h
  obtain ⟨p', h2, rfl⟩ := h'
  have e : cnt p' (2 ^ cR c) = cnt p (2 ^ cR c) := cnt_congr (fun q hq => by
    have e1 := h1 q hq
    have e2 := h2 q hq
    cases a : p q <;> cases b : p' q
    · rfl
    · rw [e1.mpr (e2.mp b)] at a; exact absurd a (by decide)
    · rw [e2.mpr (e1.mp a)] at b; exact absurd b (by decide)
    · rfl)
  rw [e]
end
end
section
/-! ===== the number of the inputs' values ===== -/
def icn (c : CK) : Nat → Nat
  | 0 => 0
  | s + 1 => if cK c (cA c s) = 1 then icn c s else icn c s + 1
def inq (c : CK) (a : Nat) : Nat → Nat
  | 0 => 0
  | s + 1 => if cK c (cA c s) = 1 then inq c a s else inq c a s + (a.testBit s).toNat * 2 ^ icn c s
def inp (c : CK) (a : Nat) : Nat := inq c a (cS c)
def cW (c : CK) : Nat := icn c (cS c)
section
variable {c : CK}
theorem icn_1 {s : Nat} (h : cK c (cA c s) = 1) : icn c (s + 1) = icn c s := by
  show (if cK c (cA c s) = 1 then icn c s else icn c s + 1) = _
  rw [if_pos h]
theorem icn_0 {s : Nat} (h : ¬ cK c (cA c s) = 1) : icn c (s + 1) = icn c s + 1 := by
  show (if cK c (cA c s) = 1 then icn c s else icn c s + 1) = _
  rw [if_neg h]
theorem inq_1 {a s : Nat} (h : cK c (cA c s) = 1) : inq c a (s + 1) = inq c a s := by
  show (if cK c (cA c s) = 1 then inq c a s else inq c a s + (a.testBit s).toNat * 2 ^ icn c s) = _
  rw [if_pos h]
theorem inq_0 {a s : Nat} (h : ¬ cK c (cA c s) = 1) : inq c a (s + 1) = inq c a s + (a.testBit s).toNat * 2 ^ icn c s := by
  show (if cK c (cA c s) = 1 then inq c a s else inq c a s + (a.testBit s).toNat * 2 ^ icn c s) = _
  rw [if_neg h]
theorem icn_le : ∀ s, icn c s ≤ s
  | 0 => Nat.le_refl _
  | s + 1 => by
    have := icn_le s
    by_cases h : cK c (cA c s) = 1
    · rw [icn_1 h]; omega
    · rw [icn_0 h]; omega
theorem icn_mono {s : Nat} : ∀ d, icn c s ≤ icn c (s + d)
  | 0 => Nat.le_refl _
  | d + 1 => by
    have := icn_mono (s := s) d
    show _ ≤ icn c (s + d + 1)
    by_cases h : cK c (cA c (s + d)) = 1
    · rw [icn_1 h]; exact this
    · rw [icn_0 h]; omega
theorem icn_lt {u s : Nat} (h : u < s) (hk : ¬ cK c (cA c u) = 1) : icn c u < icn c s := by
  have := icn_mono (c := c) (s := u + 1) (s - (u + 1))
  rw [show u + 1 + (s - (u + 1)) = s by omega, icn_0 hk] at this
  omega
theorem inq_lt (a : Nat) : ∀ s, inq c a s < 2 ^ icn c s
  | 0 => Nat.one_pos
  | s + 1 => by
    have := inq_lt a s
    by_cases h : cK c (cA c s) = 1
    · rw [inq_1 h, icn_1 h]; exact this
    · rw [inq_0 h, icn_0 h, Nat.pow_succ]
      cases a.testBit s <;> simp <;> omega
theorem icn_onto : ∀ s n, n < icn c s → ∃ u, u < s ∧ ¬ cK c (cA c u) = 1 ∧ icn c u = n
  | 0, n, h => absurd h (Nat.not_lt_zero _)
  | s + 1, n, h => by
    by_cases hk : cK c (cA c s) = 1
    · rw [icn_1 hk] at h
      obtain ⟨u, h1, h2, h3⟩ := icn_onto s n h
      exact ⟨u, by omega, h2, h3⟩
    · rw [icn_0 hk] at h
      by_cases e : n = icn c s
      · exact ⟨s, by omega, hk, e.symm⟩
      · obtain ⟨u, h1, h2, h3⟩ := icn_onto s n (by omega)
        exact ⟨u, by omega, h2, h3⟩
theorem inq_tb {a u : Nat} (hu : ¬ cK c (cA c u) = 1) : ∀ s, u < s → (inq c a s).testBit (icn c u) = a.testBit u
  | 0, h => absurd h (Nat.not_lt_zero _)
  | s + 1, h => by
    by_cases hk : cK c (cA c s) = 1
    · rw [inq_1 hk]
      refine inq_tb hu s ?_
      by_cases e : u = s
      · subst e; exact absurd hk hu
      · omega
    · rw [inq_0 hk, Nat.add_comm, Nat.mul_comm, Nat.testBit_two_pow_mul_add _ (inq_lt a s)]
      by_cases e : u = s
      · subst e
        rw [if_neg (Nat.lt_irrefl _), Nat.sub_self, Nat.testBit_bool_toNat]
        simp
      · rw [if_pos (icn_lt (by omega) hu)]
        exact inq_tb hu s (by omega)
theorem icn_S (w : WF c) : cW c + cR c = cS c := by
  have L : ∀ s, s ≤ cS c → ∃ i, i ≤ cR c ∧ (∀ r, r < i → cB c r < s) ∧ (∀ r, i ≤ r → r < cR c → s ≤ cB c r) ∧ icn c s + i = s := by
    intro s
    induction s with
    | zero => intro _; exact ⟨0, Nat.zero_le _, fun r hr => absurd hr (Nat.not_lt_zero _), fun _ _ _ => Nat.zero_le _, rfl⟩
    | succ s ih =>
      intro hs
      obtain ⟨i, hi, h1, h2, h3⟩ := ih (by omega)
      by_cases hk : cK c (cA c s) = 1
      · obtain ⟨e1, e2⟩ := sr_1 w (by omega) h1 h2 hk
        refine ⟨i + 1, e1, fun r hr => ?_, fun r hr1 hr2 => ?_, by rw [icn_1 hk]; omega⟩
        · by_cases q : r = i
          · subst q; omega
          · have := h1 r (by omega); omega
        · have := wf_Bm w (show i < r by omega) hr2
          omega
      · exact ⟨i, hi, fun r hr => by have := h1 r hr; omega, sr_2 w h2 hk, by rw [icn_0 hk]; omega⟩
  obtain ⟨i, hi, h1, h2, h3⟩ := L (cS c) (Nat.le_refl _)
  have : i = cR c := by
    apply Classical.byContradiction
    intro z
    have e1 := h2 i (Nat.le_refl _) (by omega)
    have e2 := wf_B w (show i < cR c by omega)
    omega
  subst this
  exact h3
theorem in_noB (w : WF c) {s : Nat} (hk : ¬ cK c (cA c s) = 1) : ∀ r, r < cR c → s ≠ cB c r := by
  intro r hr e
  apply hk
  rw [e, ← wf_G w hr]
  exact wf_GK w hr
theorem inp_lt (a : Nat) : inp c a < 2 ^ cW c := inq_lt a _
theorem inp_congr {a b : Nat} (h : ∀ s, s < cS c → ¬ cK c (cA c s) = 1 → a.testBit s = b.testBit s) : inp c a = inp c b := by
  refine tb_ext (inp_lt a) (inp_lt b) (fun n hn => ?_)
  obtain ⟨u, h1, h2, h3⟩ := icn_onto (cS c) n hn
  unfold inp
  rw [← h3, inq_tb h2 _ h1, inq_tb h2 _ h1, h u h1 h2]
theorem inp_wth (w : WF c) (x q : Nat) : inp c (wth c x q) = inp c x :=
  inp_congr (fun s hs hk => by rw [wth_tb hs, wbt_no _ (in_noB w hk)])
theorem inp_inj (w : WF c) {a b : Nat} (ha : a < 2 ^ cS c) (hb : b < 2 ^ cS c) (h1 : cfgOf c a = cfgOf c b) (h2 : inp c a = inp c b) : a = b := by
  refine tb_ext ha hb (fun s hs => ?_)
  by_cases hk : cK c (cA c s) = 1
  · obtain ⟨r, hr, e⟩ := wf_Gx w (wf_A w hs) hk
    rw [wf_G w hr] at e
    have e := wf_Ai w (wf_B w hr) hs e
    have e1 : (cfgOf c a).testBit r = a.testBit s := by
      unfold cfgOf
      rw [bld_tb, decide_eq_true hr, Bool.true_and, e]
    have e2 : (cfgOf c b).testBit r = b.testBit s := by
      unfold cfgOf
      rw [bld_tb, decide_eq_true hr, Bool.true_and, e]
    rw [← e1, ← e2, h1]
  · have e1 := inq_tb (c := c) (a := a) hk _ hs
    have e2 := inq_tb (c := c) (a := b) hk _ hs
    unfold inp at h2
    rw [← e1, ← e2, h2]
theorem inp_sur {i : Nat} (hi : i < 2 ^ cW c) : ∃ x, x < 2 ^ cS c ∧ inp c x = i := by
  refine ⟨bld (fun s => i.testBit (icn c s)) (cS c), bld_lt _ _, tb_ext (inp_lt _) hi (fun n hn => ?_)⟩
  obtain ⟨u, h1, h2, h3⟩ := icn_onto (cS c) n hn
  unfold inp
  rw [← h3, inq_tb h2 _ h1, bld_tb, decide_eq_true h1, Bool.true_and]
/-- where an assignment is written down -/
def kx (c : CK) (q i : Nat) : Nat := q * 2 ^ cW c + i
theorem kx_lt (w : WF c) {q i : Nat} (hq : q < 2 ^ cR c) (hi : i < 2 ^ cW c) : kx c q i < 2 ^ cS c := by
  have e : 2 ^ cS c = 2 ^ cR c * 2 ^ cW c := by rw [← Nat.pow_add, Nat.add_comm, icn_S w]
  have h1 : (q + 1) * 2 ^ cW c ≤ 2 ^ cR c * 2 ^ cW c := Nat.mul_le_mul_right _ hq
  rw [Nat.succ_mul] at h1
  unfold kx
  omega
theorem kx_inj {q i q' i' : Nat} (hi : i < 2 ^ cW c) (hi' : i' < 2 ^ cW c) (h : kx c q i = kx c q' i') : q = q' ∧ i = i' := by
  unfold kx at h
  have p := Nat.two_pow_pos (cW c)
  generalize 2 ^ cW c = P at *
  have e1 : (q * P + i) / P = q := by rw [Nat.mul_comm, Nat.mul_add_div p, Nat.div_eq_of_lt hi, Nat.add_zero]
  have e2 : (q' * P + i') / P = q' := by rw [Nat.mul_comm, Nat.mul_add_div p, Nat.div_eq_of_lt hi', Nat.add_zero]
  have : q = q' := by rw [← e1, ← e2, h]
  subst this
  exact ⟨rfl, by omega⟩
end
theorem gw_orp {v n : Nat} (b : Bool) (hv : v < 2 ^ n) (hn : n < 31) : nI v ||| (nI b.toNat <<< (nI n &&& 31)) = nI (v + b.toNat * 2 ^ n) := by
  have h2 := gw_p2' (s := n) (by omega)
  have h3 : b.toNat * 2 ^ n ≤ 2 ^ n := by cases b <;> simp
  have e : v ||| b.toNat * 2 ^ n = v + b.toNat * 2 ^ n := by
    rw [Nat.or_comm, Nat.mul_comm, ← Nat.two_pow_add_eq_or_of_lt hv, Nat.add_comm]
  rw [gw_shl (by omega) (by omega), gw_or, e]
section
variable {c : CK} {f_now : Int32} {f_right : Int32} {f_levelsKnown : Int32} {f_head : Int32} {f_tail : Int32} {f_met : Int64} {f_comesKnown : Int32} {f_entry : Int32} {f_round : Int32} {a_table : Nat → Int64} {a_saved : Nat → Int64} {a_matters : Nat → Int32} {a_cubes : Nat → Int64} {a_levels : Nat → Int32} {a_edgeFlow : Nat → Int32} {a_netFlow : Nat → Int32} {a_queue : Nat → Int32} {a_before : Nat → Int32} {a_edge : Nat → Int32} {a_leads : Nat → Int64} {a_comes : Nat → Int32} {a_group : Nat → Int32} {a_later : Nat → Int32} {a_goes : Nat → Int32} {a_shows : Nat → Int32}
theorem xw_inputsOf (w : WF c) {a : Nat} (ha : a < 2147483648) {post : Int32 → Prop} (h : post (nI (inp c a))) : wpX_inputsOf post (nI (cN c), nI (cS c), nI (cR c), f_now, f_right, f_levelsKnown, f_head, f_tail, f_met, f_comesKnown, f_entry, f_round, xK c, xO c, xF c, xA c, xG c, xB c, a_table, a_saved, a_matters, a_cubes, a_levels, a_edgeFlow, a_netFlow, a_queue, a_before, a_edge, a_leads, a_comes, a_group, a_later, a_goes, a_shows) (nI a) := by
  have hS := wf_S w
  have hN := wf_N w
  have L : ∀ d s n, s + d = cS c → d < n → wX_inputsOf_7 post (nI a) (nI (cN c)) (nI (cS c)) (nI (cR c)) f_now f_right f_levelsKnown f_head f_tail f_met f_comesKnown f_entry f_round (xK c) (xO c) (xF c) (xA c) (xG c) (xB c) a_table a_saved a_matters a_cubes a_levels a_edgeFlow a_netFlow a_queue a_before a_edge a_leads a_comes a_group a_later a_goes a_shows n (nI (inq c a s)) (nI (icn c s)) (nI s) := by
    intro d
    induction d with
    | zero =>
      intro s n hs hn
      obtain ⟨n, rfl⟩ : ∃ n', n = n' + 1 := ⟨n - 1, by omega⟩
      have : s = cS c := by omega
      subst this
      unfold wX_inputsOf_7
      exact br_t (nI_le (Nat.le_refl _) (by omega)) h
    | succ d ih =>
      intro s n hs hn
      obtain ⟨n, rfl⟩ : ∃ n', n = n' + 1 := ⟨n - 1, by omega⟩
      have hs' : s < cS c := by omega
      have hA := wf_A w hs'
      have k2 := wf_AK w hs'
      have h1 : ¬ cS c ≤ s := by omega
      have hi := ih (s + 1) n (by omega) (by omega)
      have hl := icn_le (c := c) s
      by_cases hk : cK c (cA c s) = 1
      · have h0 : ¬ cK c (cA c s) = 0 := by omega
        rw [inq_1 hk, icn_1 hk] at hi
        simp (disch := omega) only [gw_in, gw_cl, gw_Lle, gw_leL, gw_Llt, gw_ltL, gw_eqL, gw_Leq, gw_Lmul, gw_Ladd, gw_addL, nI_leI, nI_ltI, nI_eq, nI_add, nI_1, pk_mul, xK_ap, xO_ap, xF_ap, xA_ap, xG_ap, xB_ap, forall_eq, true_and, and_true, false_imp_iff, true_imp_iff, not_false_eq_true, not_true_eq_false, eq_self, Nat.reduceLT, Nat.reduceLeDiff, Nat.reduceEqDiff, gw_10, gw_01, wX_inputsOf_7, h1, h0]
        exact hi
      · have h0 : cK c (cA c s) = 0 := by omega
        rw [inq_0 hk, icn_0 hk, ← gw_orp _ (inq_lt a s) (by omega)] at hi
        have hb : (nI a >>> (nI s &&& 31)) &&& 1 = nI (a.testBit s).toNat := gw_bit (by omega) ha
        simp (disch := omega) only [gw_in, gw_cl, gw_Lle, gw_leL, gw_Llt, gw_ltL, gw_eqL, gw_Leq, gw_Lmul, gw_Ladd, gw_addL, nI_leI, nI_ltI, nI_eq, nI_add, nI_1, pk_mul, xK_ap, xO_ap, xF_ap, xA_ap, xG_ap, xB_ap, forall_eq, true_and, and_true, false_imp_iff, true_imp_iff, not_false_eq_true, not_true_eq_false, eq_self, Nat.reduceLT, Nat.reduceLeDiff, Nat.reduceEqDiff, gw_10, gw_01, wX_inputsOf_7, h1, h0, hb]
        exact hi
  exact ⟨cS c + 1, L (cS c) 0 _ (by omega) (by omega)⟩
theorem xw_width (w : WF c) {post : Int32 → Prop} (h : post (nI (cW c))) : wpX_width post (nI (cN c), nI (cS c), nI (cR c), f_now, f_right, f_levelsKnown, f_head, f_tail, f_met, f_comesKnown, f_entry, f_round, xK c, xO c, xF c, xA c, xG c, xB c, a_table, a_saved, a_matters, a_cubes, a_levels, a_edgeFlow, a_netFlow, a_queue, a_before, a_edge, a_leads, a_comes, a_group, a_later, a_goes, a_shows) := by
  have e := icn_S w
  dsimp only [wpX_width]
  rw [pk_sub (by omega), show cS c - cR c = cW c by omega]
  exact h
end
end
section
/-! ===== X: look, divide, apart, classes ===== -/
/-- what is written down of the assignments below n -/
def GOE (c : CK) (j n : Nat) (goes shows : Nat → Int32) : Prop := ∀ a, a < n → goes (kx c (cfgOf c a) (inp c a)) = nI (aft c a) ∧ shows (kx c (cfgOf c a) (inp c a)) = nI (EV c a j).toNat
theorem goe_at {c : CK} (w : WF c) {j : Nat} {g s : Nat → Int32} (h : GOE c j (2 ^ cS c) g s) {x q : Nat} (hq : q < 2 ^ cR c) : g (kx c q (inp c x)) = nI (stp c x q) ∧ s (kx c q (inp c x)) = nI (EV c (wth c x q) j).toNat := by
  have := h (wth c x q) (wth_lt _ _)
  rw [cfg_wth w hq, inp_wth w] at this
  exact this
def GRP (c : CK) (j t n : Nat) (gr : Nat → Int32) : Prop := ∀ q, q < n → ∃ g, LSX c j t q g ∧ gr q = nI g
theorem grp_eq {c : CK} (w : WF c) {j t : Nat} {gr : Nat → Int32} (h : GRP c j t (2 ^ cR c) gr) {p q : Nat} (hp : p < 2 ^ cR c) (hq : q < 2 ^ cR c) : gr p = gr q ↔ EQX c j t p q := by
  obtain ⟨g, h1, e1⟩ := h p hp
  obtain ⟨g', h2, e2⟩ := h q hq
  have l1 := lsx_le h1
  have l2 := lsx_le h2
  have p1 := r64 w hp
  have p2 := r64 w hq
  rw [e1, e2, nI_eq (by omega) (by omega), lsx_eq h1 h2]
section
variable {c : CK} {f_now : Int32} {f_right : Int32} {f_levelsKnown : Int32} {f_head : Int32} {f_tail : Int32} {f_met : Int64} {f_comesKnown : Int32} {f_entry : Int32} {f_round : Int32} {a_table : Nat → Int64} {a_saved : Nat → Int64} {a_matters : Nat → Int32} {a_cubes : Nat → Int64} {a_levels : Nat → Int32} {a_edgeFlow : Nat → Int32} {a_netFlow : Nat → Int32} {a_queue : Nat → Int32} {a_before : Nat → Int32} {a_edge : Nat → Int32} {a_leads : Nat → Int64} {a_comes : Nat → Int32} {a_group : Nat → Int32} {a_later : Nat → Int32} {a_goes : Nat → Int32} {a_shows : Nat → Int32}
theorem xw_alike1 (w : WF c) {j : Nat} (hg : GOE c j (2 ^ cS c) a_goes a_shows) {p q : Nat} (hp : p < 2 ^ cR c) (hq : q < 2 ^ cR c) {post : Int32 → Prop} (h : ∀ r, BA (OUT c j p q) r → post r) : wpX_alike post (nI (cN c), nI (cS c), nI (cR c), f_now, f_right, f_levelsKnown, f_head, f_tail, f_met, f_comesKnown, f_entry, f_round, xK c, xO c, xF c, xA c, xG c, xB c, a_table, a_saved, a_matters, a_cubes, a_levels, a_edgeFlow, a_netFlow, a_queue, a_before, a_edge, a_leads, a_comes, a_group, a_later, a_goes, a_shows) (nI p) (nI q) 1 := by
  have hS := wf_S w
  have hS2 := gw_p2 hS
  have hW := icn_S w
  have hW2 := gw_p2 (show cW c ≤ 10 by omega)
  have p6 := r64 w hp
  have q6 := r64 w hq
  have L : ∀ d i n, i + d = 2 ^ cW c → d < n → (∀ k, k < i → a_shows (kx c p k) = a_shows (kx c q k)) → wX_alike_19 post 1 (nI (p * 2 ^ cW c)) (nI (q * 2 ^ cW c)) (nI (cN c)) (nI (cS c)) (nI (cR c)) f_now f_right f_levelsKnown f_head f_tail f_met f_comesKnown f_entry f_round (xK c) (xO c) (xF c) (xA c) (xG c) (xB c) a_table a_saved a_matters a_cubes a_levels a_edgeFlow a_netFlow a_queue a_before a_edge a_leads a_comes a_group a_later a_goes a_shows n (nI i) := by
    intro d
    induction d with
    | zero =>
      intro i n hi hn hall
      obtain ⟨n, rfl⟩ : ∃ n', n = n' + 1 := ⟨n - 1, by omega⟩
      unfold wX_alike_19
      refine xw_width w ?_
      rw [gw_1shl (by omega)]
      refine br_t (nI_le (by omega) (by omega)) (h _ (Or.inl ⟨rfl, fun x hx => ?_⟩))
      have e := hall (inp c x) (by have := inp_lt (c := c) x; omega)
      rw [(goe_at w hg hp).2, (goe_at w hg hq).2, gw_beq] at e
      exact e
    | succ d ih =>
      intro i n hi hn hall
      obtain ⟨n, rfl⟩ : ∃ n', n = n' + 1 := ⟨n - 1, by omega⟩
      have k1 := kx_lt w hp (show i < 2 ^ cW c by omega)
      have k2 := kx_lt w hq (show i < 2 ^ cW c by omega)
      unfold kx at k1 k2
      unfold wX_alike_19
      refine xw_width w ?_
      rw [gw_1shl (by omega), nI_add, nI_add, gw_cl (by omega), gw_cl (by omega)]
      refine br_f (nI_ge (by omega) (by omega)) (br_f (by decide) ⟨vp_in_nI (by omega) (by omega), vp_in_nI (by omega) (by omega), br_c (fun e => nm_r (nI_1 i) ?_) (fun e => ?_)⟩)
      · refine ih (i + 1) n (by omega) (by omega) (fun k hk => ?_)
        by_cases e2 : k = i
        · rw [e2]; exact e
        · exact hall k (by omega)
      · refine h _ (Or.inr ⟨rfl, fun z => e ?_⟩)
        obtain ⟨x, hx, e2⟩ := inp_sur (c := c) (i := i) (by omega)
        have e3 := z x hx
        have e4 := (goe_at w hg hp (x := x)).2
        have e5 := (goe_at w hg hq (x := x)).2
        rw [e2] at e4 e5
        rw [e3] at e4
        exact e4.trans e5.symm
  dsimp only [wpX_alike]
  have m1 := kx_lt w hp (Nat.two_pow_pos (cW c))
  have m2 := kx_lt w hq (Nat.two_pow_pos (cW c))
  unfold kx at m1 m2
  refine xw_width w (nm_r (gw_shl (by omega) (by omega)) (xw_width w (nm_r (gw_shl (by omega) (by omega)) ⟨2 ^ cW c + 1, L (2 ^ cW c) 0 _ (by omega) (by omega) (fun k hk => by omega)⟩)))
theorem xw_alike0 (w : WF c) {j t : Nat} (hg : GOE c j (2 ^ cS c) a_goes a_shows) (hgr : GRP c j t (2 ^ cR c) a_group) {p q : Nat} (hp : p < 2 ^ cR c) (hq : q < 2 ^ cR c) {post : Int32 → Prop} (h : ∀ r, BA (∀ x, x < 2 ^ cS c → EQX c j t (stp c x p) (stp c x q)) r → post r) : wpX_alike post (nI (cN c), nI (cS c), nI (cR c), f_now, f_right, f_levelsKnown, f_head, f_tail, f_met, f_comesKnown, f_entry, f_round, xK c, xO c, xF c, xA c, xG c, xB c, a_table, a_saved, a_matters, a_cubes, a_levels, a_edgeFlow, a_netFlow, a_queue, a_before, a_edge, a_leads, a_comes, a_group, a_later, a_goes, a_shows) (nI p) (nI q) 0 := by
  have hS := wf_S w
  have hS2 := gw_p2 hS
  have hW := icn_S w
  have hW2 := gw_p2 (show cW c ≤ 10 by omega)
  have p6 := r64 w hp
  have q6 := r64 w hq
  have L : ∀ d i n, i + d = 2 ^ cW c → d < n → (∀ x, x < 2 ^ cS c → inp c x < i → EQX c j t (stp c x p) (stp c x q)) → wX_alike_19 post 0 (nI (p * 2 ^ cW c)) (nI (q * 2 ^ cW c)) (nI (cN c)) (nI (cS c)) (nI (cR c)) f_now f_right f_levelsKnown f_head f_tail f_met f_comesKnown f_entry f_round (xK c) (xO c) (xF c) (xA c) (xG c) (xB c) a_table a_saved a_matters a_cubes a_levels a_edgeFlow a_netFlow a_queue a_before a_edge a_leads a_comes a_group a_later a_goes a_shows n (nI i) := by
    intro d
    induction d with
    | zero =>
      intro i n hi hn hall
      obtain ⟨n, rfl⟩ : ∃ n', n = n' + 1 := ⟨n - 1, by omega⟩
      unfold wX_alike_19
      refine xw_width w ?_
      rw [gw_1shl (by omega)]
      exact br_t (nI_le (by omega) (by omega)) (h _ (Or.inl ⟨rfl, fun x hx => hall x hx (by have := inp_lt (c := c) x; omega)⟩))
    | succ d ih =>
      intro i n hi hn hall
      obtain ⟨n, rfl⟩ : ∃ n', n = n' + 1 := ⟨n - 1, by omega⟩
      have k1 := kx_lt w hp (show i < 2 ^ cW c by omega)
      have k2 := kx_lt w hq (show i < 2 ^ cW c by omega)
      obtain ⟨x, hx, e2⟩ := inp_sur (c := c) (i := i) (by omega)
      have e4 := (goe_at w hg hp (x := x)).1
      have e5 := (goe_at w hg hq (x := x)).1
      rw [e2] at e4 e5
      unfold kx at k1 k2 e4 e5
      have s1 := r64 w (aft_lt (c := c) (wth c x p))
      have s2 := r64 w (aft_lt (c := c) (wth c x q))
      unfold wX_alike_19
      refine xw_width w ?_
      rw [gw_1shl (by omega), nI_add, nI_add, gw_cl (by omega), gw_cl (by omega), e4, e5, gw_cl (show stp c x p < 2147483648 by unfold stp; omega), gw_cl (show stp c x q < 2147483648 by unfold stp; omega)]
      refine br_f (nI_ge (by omega) (by omega)) (br_t rfl ⟨vp_in_nI (by omega) (by omega), vp_in_nI s1 (by omega), vp_in_nI (by omega) (by omega), vp_in_nI s2 (by omega), br_c (fun e => nm_r (nI_1 i) ?_) (fun e => ?_)⟩)
      · refine ih (i + 1) n (by omega) (by omega) (fun y hy hyi => ?_)
        by_cases e6 : inp c y = i
        · have f1 : stp c y p = stp c x p := by
            unfold stp
            rw [inp_inj w (wth_lt y p) (wth_lt x p) (by rw [cfg_wth w hp, cfg_wth w hp]) (by rw [inp_wth w, inp_wth w, e6, e2])]
          have f2 : stp c y q = stp c x q := by
            unfold stp
            rw [inp_inj w (wth_lt y q) (wth_lt x q) (by rw [cfg_wth w hq, cfg_wth w hq]) (by rw [inp_wth w, inp_wth w, e6, e2])]
          rw [f1, f2]
          exact (grp_eq w hgr (aft_lt _) (aft_lt _)).mp e
        · exact hall y hy (by omega)
      · exact h _ (Or.inr ⟨rfl, fun z => e ((grp_eq w hgr (aft_lt _) (aft_lt _)).mpr (z x hx))⟩)
  dsimp only [wpX_alike]
  have m1 := kx_lt w hp (Nat.two_pow_pos (cW c))
  have m2 := kx_lt w hq (Nat.two_pow_pos (cW c))
  unfold kx at m1 m2
  refine xw_width w (nm_r (gw_shl (by omega) (by omega)) (xw_width w (nm_r (gw_shl (by omega) (by omega)) ⟨2 ^ cW c + 1, L (2 ^ cW c) 0 _ (by omega) (by omega) (fun k hk => by omega)⟩)))
theorem eq_1 {j p q : Nat} : EQX c j 1 p q ↔ OUT c j p q := ⟨fun h => h.1, fun h => ⟨h, fun _ _ => trivial⟩⟩
theorem xw_look108 (w : WF c) {j : Nat} (hg : GOE c j (2 ^ cS c) a_goes a_shows) {k : Nat} (hk : k < 2 ^ cR c) {post : SX → Prop}
    {J96 : Int32 → (Nat → Int32) → (Nat → Int32) → (Nat → Int32) → (Nat → Int32) → (Nat → Int32) → (Nat → Int32) → (Nat → Int64) → (Nat → Int64) → (Nat → Int32) → (Nat → Int64) → (Nat → Int32) → (Nat → Int32) → (Nat → Int32) → (Nat → Int32) → (Nat → Int32) → (Nat → Int32) → (Nat → Int64) → (Nat → Int32) → (Nat → Int32) → (Nat → Int32) → (Nat → Int32) → (Nat → Int32) → Prop}
    (hJ : ∀ g, LSX c j 1 k g → J96 (nI (k + 1)) (xK c) (xO c) (xF c) (xA c) (xG c) (xB c) a_table a_saved a_matters a_cubes a_levels a_edgeFlow a_netFlow a_queue a_before a_edge a_leads a_comes (upd a_group k (nI g)) a_later a_goes a_shows) :
    ∀ d e n, e + d = k → d < n → (∀ f, f < e → ¬ EQX c j 1 k f) → wX_look_108 post J96 (nI k) (nI (cN c)) (nI (cS c)) (nI (cR c)) f_now f_right f_levelsKnown f_head f_tail f_met f_comesKnown f_entry f_round (xK c) (xO c) (xF c) (xA c) (xG c) (xB c) a_table a_saved a_matters a_cubes a_levels a_edgeFlow a_netFlow a_queue a_before a_edge a_leads a_comes a_group a_later a_goes a_shows n (nI e) := by
  have k6 := r64 w hk
  have wr : ∀ e, e ≤ k → EQX c j 1 k e → (∀ f, f < e → ¬ EQX c j 1 k f) → wX_look_129 post J96 (nI k) (nI e) (nI (cN c)) (nI (cS c)) (nI (cR c)) f_now f_right f_levelsKnown f_head f_tail f_met f_comesKnown f_entry f_round (xK c) (xO c) (xF c) (xA c) (xG c) (xB c) a_table a_saved a_matters a_cubes a_levels a_edgeFlow a_netFlow a_queue a_before a_edge a_leads a_comes a_group a_later a_goes a_shows := by
    intro e he h1 h2
    unfold wX_look_129
    rw [gw_cl (by omega), gw_nbyte2 (by omega)]
    exact ⟨vp_in_nI (by omega) (by omega), nm_e (nm_r (nI_1 k) (hJ e ⟨h1, h2⟩))⟩
  intro d
  induction d with
  | zero =>
    intro e n he hn h1
    obtain ⟨n, rfl⟩ : ∃ n', n = n' + 1 := ⟨n - 1, by omega⟩
    have : e = k := by omega
    subst this
    unfold wX_look_108
    exact br_t (nI_le (Nat.le_refl _) (by omega)) (wr e (Nat.le_refl _) (eq_refl _ _) h1)
  | succ d ih =>
    intro e n he hn h1
    obtain ⟨n, rfl⟩ : ∃ n', n = n' + 1 := ⟨n - 1, by omega⟩
    unfold wX_look_108
    refine br_f (nI_ge (by omega) (by omega)) (xw_alike1 w hg hk (show e < 2 ^ cR c by omega) (fun r hr => ?_))
    rcases hr with ⟨rfl, hr⟩ | ⟨rfl, hr⟩
    · exact br_f (by decide) (wr e (by omega) (eq_1.mpr hr) h1)
    · refine br_t rfl (nm_r (nI_1 e) (ih (e + 1) n (by omega) (by omega) (fun f hf => ?_)))
      by_cases q : f = e
      · subst q; exact fun z => hr (eq_1.mp z)
      · exact h1 f (by omega)
theorem xw_look96 (w : WF c) {j : Nat} (hg : GOE c j (2 ^ cS c) a_goes a_shows) {post : SX → Prop} (h : ∀ gr, GRP c j 1 (2 ^ cR c) gr → post (nI (cN c), nI (cS c), nI (cR c), f_now, f_right, f_levelsKnown, f_head, f_tail, f_met, f_comesKnown, f_entry, f_round, xK c, xO c, xF c, xA c, xG c, xB c, a_table, a_saved, a_matters, a_cubes, a_levels, a_edgeFlow, a_netFlow, a_queue, a_before, a_edge, a_leads, a_comes, gr, a_later, a_goes, a_shows)) :
    ∀ d k n gr, k + d = 2 ^ cR c → d < n → GRP c j 1 k gr → wX_look_96 post (nI (cN c)) (nI (cS c)) (nI (cR c)) f_now f_right f_levelsKnown f_head f_tail f_met f_comesKnown f_entry f_round n (nI k) (xK c) (xO c) (xF c) (xA c) (xG c) (xB c) a_table a_saved a_matters a_cubes a_levels a_edgeFlow a_netFlow a_queue a_before a_edge a_leads a_comes gr a_later a_goes a_shows := by
  have hR := wf_R w
  have hR2 := gw_p2 (show cR c ≤ 10 by omega)
  intro d
  induction d with
  | zero =>
    intro k n gr hk hn hgr
    obtain ⟨n, rfl⟩ : ∃ n', n = n' + 1 := ⟨n - 1, by omega⟩
    have : k = 2 ^ cR c := by omega
    subst this
    unfold wX_look_96
    rw [gw_1shl (by omega)]
    exact br_t (nI_le (Nat.le_refl _) (by omega)) (h gr hgr)
  | succ d ih =>
    intro k n gr hk hn hgr
    obtain ⟨n, rfl⟩ : ∃ n', n = n' + 1 := ⟨n - 1, by omega⟩
    unfold wX_look_96
    rw [gw_1shl (by omega)]
    refine br_f (nI_ge (by omega) (by omega)) ⟨k + 1, xw_look108 w hg (by omega) (fun g hgl => ih (k + 1) n _ (by omega) (by omega) (fun q hq => ?_)) k 0 _ (by omega) (by omega) (fun f hf => by omega)⟩
    by_cases e : q = k
    · subst e; exact ⟨g, hgl, pk_us⟩
    · obtain ⟨g', h1, h2⟩ := hgr q (by omega)
      exact ⟨g', h1, by rw [pk_un e]; exact h2⟩
theorem xw_look75 (w : WF c) {j : Nat} (hg : GOE c j (2 ^ cS c) a_goes a_shows) {post : SX → Prop} (h : ∀ gr, GRP c j 1 (2 ^ cR c) gr → post (nI (cN c), nI (cS c), nI (cR c), f_now, f_right, f_levelsKnown, f_head, f_tail, f_met, f_comesKnown, f_entry, f_round, xK c, xO c, xF c, xA c, xG c, xB c, a_table, a_saved, a_matters, a_cubes, a_levels, a_edgeFlow, a_netFlow, a_queue, a_before, a_edge, a_leads, a_comes, gr, a_later, a_goes, a_shows)) :
    ∀ d k n gr, k + d = 64 → d < n → wX_look_75 post (nI (cN c)) (nI (cS c)) (nI (cR c)) f_now f_right f_levelsKnown f_head f_tail f_met f_comesKnown f_entry f_round n (nI k) (xK c) (xO c) (xF c) (xA c) (xG c) (xB c) a_table a_saved a_matters a_cubes a_levels a_edgeFlow a_netFlow a_queue a_before a_edge a_leads a_comes gr a_later a_goes a_shows := by
  intro d
  induction d with
  | zero =>
    intro k n gr hk hn
    obtain ⟨n, rfl⟩ : ∃ n', n = n' + 1 := ⟨n - 1, by omega⟩
    unfold wX_look_75
    exact br_t (nI_le (a := 64) (by omega) (by omega)) ⟨2 ^ cR c + 1, xw_look96 w hg h (2 ^ cR c) 0 _ gr (by omega) (by omega) (fun q hq => by omega)⟩
  | succ d ih =>
    intro k n gr hk hn
    obtain ⟨n, rfl⟩ : ∃ n', n = n' + 1 := ⟨n - 1, by omega⟩
    unfold wX_look_75
    exact br_f (nI_ge (b := 64) (by omega) (by omega)) ⟨vp_in_nI (by omega) (by omega), nm_e (nm_r (nI_1 k) (ih (k + 1) n _ (by omega) (by omega)))⟩
theorem xw_look6 (w : WF c) {j : Nat} (hj : j < cN c) (ht : TBL c 99 false a_table (cN c)) {post : SX → Prop} (h : ∀ gr go sh, GOE c j (2 ^ cS c) go sh → GRP c j 1 (2 ^ cR c) gr → post (nI (cN c), nI (cS c), nI (cR c), f_now, f_right, f_levelsKnown, f_head, f_tail, f_met, f_comesKnown, f_entry, f_round, xK c, xO c, xF c, xA c, xG c, xB c, a_table, a_saved, a_matters, a_cubes, a_levels, a_edgeFlow, a_netFlow, a_queue, a_before, a_edge, a_leads, a_comes, gr, a_later, go, sh)) :
    ∀ d a n go sh, a + d = 2 ^ cS c → d < n → GOE c j a go sh → wX_look_6 post (nI j) (nI (cN c)) (nI (cS c)) (nI (cR c)) f_now f_right f_levelsKnown f_head f_tail f_met f_comesKnown f_entry f_round n (nI a) (xK c) (xO c) (xF c) (xA c) (xG c) (xB c) a_table a_saved a_matters a_cubes a_levels a_edgeFlow a_netFlow a_queue a_before a_edge a_leads a_comes a_group a_later go sh := by
  have hN := wf_N w
  have hS := wf_S w
  have hS2 := gw_p2 hS
  have hW := icn_S w
  intro d
  induction d with
  | zero =>
    intro a n go sh ha hn hg
    obtain ⟨n, rfl⟩ : ∃ n', n = n' + 1 := ⟨n - 1, by omega⟩
    have : a = 2 ^ cS c := by omega
    subst this
    unfold wX_look_6
    rw [gw_1shl (by omega)]
    exact br_t (nI_le (Nat.le_refl _) (by omega)) ⟨65, xw_look75 w hg (fun gr hgr => h gr go sh hg hgr) 64 0 _ a_group (by omega) (by omega)⟩
  | succ d ih =>
    intro a n go sh ha hn hg
    obtain ⟨n, rfl⟩ : ∃ n', n = n' + 1 := ⟨n - 1, by omega⟩
    have hc := cfg_lt (c := c) a
    have hi := inp_lt (c := c) a
    have hk := kx_lt w hc hi
    have ha6 := r64 w (aft_lt (c := c) a)
    have hb := gw_bl (EV c a j)
    have m1 := kx_lt w hc (Nat.two_pow_pos (cW c))
    unfold wX_look_6
    rw [gw_1shl (by omega)]
    refine br_f (nI_ge (by omega) (by omega)) (xw_cfg w (by omega) (xw_width w (xw_inputsOf w (by omega) (nm_r (e' := nI (kx c (cfgOf c a) (inp c a))) ?_ (xw_aft w (by omega) ht ?_)))))
    · unfold kx at m1 ⊢
      rw [gw_shl (by omega) (by omega), nI_add]
    · rw [gw_cl (by omega), gw_nbyte2 (by omega)]
      refine ⟨vp_in_nI (by omega) (by omega), nm_e (xw_bit w (f := 99) (o := false) hj (by omega) (by omega) ht ?_)⟩
      rw [gw_nbyte2 (show (EVF c 99 false a j).toNat < 128 by have := gw_bl (EVF c 99 false a j); omega)]
      refine ⟨vp_in_nI (by omega) (by omega), nm_e (nm_r (nI_1 a) (ih (a + 1) n _ _ (by omega) (by omega) (fun b hb => ?_)))⟩
      by_cases e : b = a
      · subst e
        exact ⟨pk_us, pk_us⟩
      · have hne : kx c (cfgOf c b) (inp c b) ≠ kx c (cfgOf c a) (inp c a) := fun z => by
          have := kx_inj (inp_lt b) (inp_lt a) z
          exact e (inp_inj w (by omega) (by omega) this.1 this.2)
        rw [pk_un hne, pk_un hne]
        exact hg b (by omega)
theorem xw_look (w : WF c) {j r : Nat} (hj : j < cN c) (hr : r ≤ cN c) (ht : TBL c 99 false a_table r) {post : SX → Prop} (h : ∀ t gr go sh, TBL c 99 false t (cN c) → GOE c j (2 ^ cS c) go sh → GRP c j 1 (2 ^ cR c) gr → post (nI (cN c), nI (cS c), nI (cR c), f_now, nI (cN c), f_levelsKnown, f_head, f_tail, f_met, f_comesKnown, f_entry, f_round, xK c, xO c, xF c, xA c, xG c, xB c, t, a_saved, a_matters, a_cubes, a_levels, a_edgeFlow, a_netFlow, a_queue, a_before, a_edge, a_leads, a_comes, gr, a_later, go, sh)) : wpX_look post (nI (cN c), nI (cS c), nI (cR c), f_now, nI r, f_levelsKnown, f_head, f_tail, f_met, f_comesKnown, f_entry, f_round, xK c, xO c, xF c, xA c, xG c, xB c, a_table, a_saved, a_matters, a_cubes, a_levels, a_edgeFlow, a_netFlow, a_queue, a_before, a_edge, a_leads, a_comes, a_group, a_later, a_goes, a_shows) (nI j) := by
  dsimp only [wpX_look]
  refine xw_learn w hr ht (fun t ht' => ?_)
  dsimp only
  exact ⟨2 ^ cS c + 1, xw_look6 w hj ht' (fun gr go sh hg hgr => h t gr go sh ht' hg hgr) (2 ^ cS c) 0 _ a_goes a_shows (by omega) (by omega) (fun b hb => by omega)⟩
/-- groups were divided -/
def CHG (c : CK) (j t n : Nat) : Prop := ∃ q g g', q < n ∧ LSX c j t q g ∧ LSX c j (t + 1) q g' ∧ g ≠ g'
theorem chg_stb {j t : Nat} : CHG c j t (2 ^ cR c) ↔ ¬ STB c j t := by
  constructor
  · rintro ⟨q, g, g', hq, h1, h2, hne⟩ hs
    have l := lsx_le h1
    have := hs q g hq (by omega) h1.1
    have m := lsx_mono h1 h2
    exact h2.2 g (by omega) this
  · intro hs
    apply Classical.byContradiction
    intro z
    apply hs
    intro p q hp hq e
    obtain ⟨g1, a1⟩ := lsx_ex (c := c) (j := j) t p
    obtain ⟨g2, a2⟩ := lsx_ex (c := c) (j := j) t q
    obtain ⟨g3, a3⟩ := lsx_ex (c := c) (j := j) (t + 1) p
    obtain ⟨g4, a4⟩ := lsx_ex (c := c) (j := j) (t + 1) q
    have e1 : g1 = g3 := by
      apply Classical.byContradiction
      intro y
      exact z ⟨p, g1, g3, hp, a1, a3, y⟩
    have e2 : g2 = g4 := by
      apply Classical.byContradiction
      intro y
      exact z ⟨q, g2, g4, hq, a2, a4, y⟩
    rw [← lsx_eq a1 a2, e1, e2, lsx_eq a3 a4] at e
    exact e
theorem xw_divide91 (w : WF c) {j t : Nat} (hl : GRP c j (t + 1) (2 ^ cR c) a_later) {m : Bool} {post : Int32 → SX → Prop} (h : ∀ gr, GRP c j (t + 1) (2 ^ cR c) gr → post (nI m.toNat) (nI (cN c), nI (cS c), nI (cR c), f_now, f_right, f_levelsKnown, f_head, f_tail, f_met, f_comesKnown, f_entry, f_round, xK c, xO c, xF c, xA c, xG c, xB c, a_table, a_saved, a_matters, a_cubes, a_levels, a_edgeFlow, a_netFlow, a_queue, a_before, a_edge, a_leads, a_comes, gr, a_later, a_goes, a_shows)) :
    ∀ d k n gr, k + d = 2 ^ cR c → d < n → GRP c j (t + 1) k gr → wX_divide_91 post (nI m.toNat) (nI (cN c)) (nI (cS c)) (nI (cR c)) f_now f_right f_levelsKnown f_head f_tail f_met f_comesKnown f_entry f_round n (nI k) (xK c) (xO c) (xF c) (xA c) (xG c) (xB c) a_table a_saved a_matters a_cubes a_levels a_edgeFlow a_netFlow a_queue a_before a_edge a_leads a_comes gr a_later a_goes a_shows := by
  have hR := wf_R w
  have hR2 := gw_p2 (show cR c ≤ 10 by omega)
  intro d
  induction d with
  | zero =>
    intro k n gr hk hn hgr
    obtain ⟨n, rfl⟩ : ∃ n', n = n' + 1 := ⟨n - 1, by omega⟩
    have : k = 2 ^ cR c := by omega
    subst this
    unfold wX_divide_91
    rw [gw_1shl (by omega)]
    exact br_t (nI_le (Nat.le_refl _) (by omega)) ⟨gw_nbool m, h gr hgr⟩
  | succ d ih =>
    intro k n gr hk hn hgr
    obtain ⟨n, rfl⟩ : ∃ n', n = n' + 1 := ⟨n - 1, by omega⟩
    have k6 := r64 w (show k < 2 ^ cR c by omega)
    obtain ⟨g, h1, h2⟩ := hl k (by omega)
    have l := lsx_le h1
    unfold wX_divide_91
    rw [gw_1shl (by omega), gw_cl (by omega), h2, gw_nbyte (by omega)]
    refine br_f (nI_ge (by omega) (by omega)) ⟨vp_in_nI (by omega) (by omega), vp_in_nI (by omega) (by omega), nm_e (nm_r (nI_1 k) (ih (k + 1) n _ (by omega) (by omega) (fun q hq => ?_)))⟩
    by_cases e : q = k
    · subst e; exact ⟨g, h1, pk_us⟩
    · obtain ⟨g', h3, h4⟩ := hgr q (by omega)
      exact ⟨g', h3, by rw [pk_un e]; exact h4⟩
theorem xw_divide21 (w : WF c) {j t : Nat} (hg : GOE c j (2 ^ cS c) a_goes a_shows) (hgr : GRP c j (t + 1) (2 ^ cR c) a_group) {k : Nat} (hk : k < 2 ^ cR c) {m : Bool} {post : Int32 → SX → Prop}
    {J4 : Int32 → Int32 → (Nat → Int32) → (Nat → Int32) → (Nat → Int32) → (Nat → Int32) → (Nat → Int32) → (Nat → Int32) → (Nat → Int64) → (Nat → Int64) → (Nat → Int32) → (Nat → Int64) → (Nat → Int32) → (Nat → Int32) → (Nat → Int32) → (Nat → Int32) → (Nat → Int32) → (Nat → Int32) → (Nat → Int64) → (Nat → Int32) → (Nat → Int32) → (Nat → Int32) → (Nat → Int32) → (Nat → Int32) → Prop}
    (hJ : ∀ g g' m', LSX c j (t + 1) k g → LSX c j (t + 2) k g' → (m' = true ↔ (m = true ∨ g ≠ g')) → J4 (nI m'.toNat) (nI (k + 1)) (xK c) (xO c) (xF c) (xA c) (xG c) (xB c) a_table a_saved a_matters a_cubes a_levels a_edgeFlow a_netFlow a_queue a_before a_edge a_leads a_comes a_group (upd a_later k (nI g')) a_goes a_shows) :
    ∀ d e n, e + d = k → d < n → (∀ f, f < e → ¬ EQX c j (t + 2) k f) → wX_divide_21 post J4 (nI m.toNat) (nI k) (nI (cN c)) (nI (cS c)) (nI (cR c)) f_now f_right f_levelsKnown f_head f_tail f_met f_comesKnown f_entry f_round (xK c) (xO c) (xF c) (xA c) (xG c) (xB c) a_table a_saved a_matters a_cubes a_levels a_edgeFlow a_netFlow a_queue a_before a_edge a_leads a_comes a_group a_later a_goes a_shows n (nI e) := by
  have k6 := r64 w hk
  obtain ⟨g, h1, h2⟩ := hgr k hk
  have l := lsx_le h1
  have wr : ∀ e, e ≤ k → EQX c j (t + 2) k e → (∀ f, f < e → ¬ EQX c j (t + 2) k f) → wX_divide_57 post J4 (nI m.toNat) (nI k) (nI e) (nI (cN c)) (nI (cS c)) (nI (cR c)) f_now f_right f_levelsKnown f_head f_tail f_met f_comesKnown f_entry f_round (xK c) (xO c) (xF c) (xA c) (xG c) (xB c) a_table a_saved a_matters a_cubes a_levels a_edgeFlow a_netFlow a_queue a_before a_edge a_leads a_comes a_group a_later a_goes a_shows := by
    intro e he h3 h4
    unfold wX_divide_57
    rw [gw_cl (by omega), gw_nbyte2 (by omega), h2]
    refine ⟨vp_in_nI (by omega) (by omega), nm_e ⟨vp_in_nI (by omega) (by omega), pk_eq e g (fun z => ?_) (fun z => ?_)⟩⟩
    · refine nm_r (e' := nI m.toNat) ?_ (nm_r (nI_1 k) (hJ g e m h1 ⟨h3, h4⟩ ?_))
      · cases m <;> rfl
      · constructor
        · intro y; exact Or.inl y
        · rintro (y | y)
          · exact y
          · exact absurd z.symm y
    · refine nm_r (e' := nI true.toNat) ?_ (nm_r (nI_1 k) (hJ g e true h1 ⟨h3, h4⟩ ?_))
      · cases m <;> rfl
      · exact ⟨fun _ => Or.inr (fun y => z y.symm), fun _ => rfl⟩
  intro d
  induction d with
  | zero =>
    intro e n he hn h3
    obtain ⟨n, rfl⟩ : ∃ n', n = n' + 1 := ⟨n - 1, by omega⟩
    have : e = k := by omega
    subst this
    unfold wX_divide_21
    exact br_t (nI_le (Nat.le_refl _) (by omega)) (wr e (Nat.le_refl _) (eq_refl _ _) h3)
  | succ d ih =>
    intro e n he hn h3
    obtain ⟨n, rfl⟩ : ∃ n', n = n' + 1 := ⟨n - 1, by omega⟩
    have he2 : e < 2 ^ cR c := by omega
    have nx : ¬ EQX c j (t + 2) k e → wX_divide_21 post J4 (nI m.toNat) (nI k) (nI (cN c)) (nI (cS c)) (nI (cR c)) f_now f_right f_levelsKnown f_head f_tail f_met f_comesKnown f_entry f_round (xK c) (xO c) (xF c) (xA c) (xG c) (xB c) a_table a_saved a_matters a_cubes a_levels a_edgeFlow a_netFlow a_queue a_before a_edge a_leads a_comes a_group a_later a_goes a_shows n (nI (e + 1)) := fun hne => by
      refine ih (e + 1) n (by omega) (by omega) (fun f hf => ?_)
      by_cases q : f = e
      · subst q; exact hne
      · exact h3 f (by omega)
    unfold wX_divide_21
    rw [gw_cl (by omega), gw_cl (by omega)]
    refine br_f (nI_ge (by omega) (by omega)) ⟨vp_in_nI (by omega) (by omega), vp_in_nI (by omega) (by omega), br_c (fun z => ?_) (fun z => ?_)⟩
    · rw [grp_eq w hgr he2 hk] at z
      refine xw_alike0 w hg hgr hk he2 (fun r hr => ?_)
      rcases hr with ⟨rfl, hr⟩ | ⟨rfl, hr⟩
      · exact br_f (by decide) (wr e (by omega) (eq_s.mpr ⟨eq_symm _ _ _ z, hr⟩) h3)
      · exact br_t rfl (nm_r (nI_1 e) (nx (fun y => hr (eq_s.mp y).2)))
    · rw [grp_eq w hgr he2 hk] at z
      exact nm_r (nI_1 e) (nx (fun y => z (eq_symm _ _ _ (eq_mono _ _ _ y))))
theorem xw_divide4 (w : WF c) {j t : Nat} (hg : GOE c j (2 ^ cS c) a_goes a_shows) (hgr : GRP c j (t + 1) (2 ^ cR c) a_group) {post : Int32 → SX → Prop} (h : ∀ m gr la, GRP c j (t + 2) (2 ^ cR c) gr → (m = true ↔ ¬ STB c j (t + 1)) → post (nI m.toNat) (nI (cN c), nI (cS c), nI (cR c), f_now, f_right, f_levelsKnown, f_head, f_tail, f_met, f_comesKnown, f_entry, f_round, xK c, xO c, xF c, xA c, xG c, xB c, a_table, a_saved, a_matters, a_cubes, a_levels, a_edgeFlow, a_netFlow, a_queue, a_before, a_edge, a_leads, a_comes, gr, la, a_goes, a_shows)) :
    ∀ d k n m la, k + d = 2 ^ cR c → d < n → GRP c j (t + 2) k la → (m = true ↔ CHG c j (t + 1) k) → wX_divide_4 post (nI (cN c)) (nI (cS c)) (nI (cR c)) f_now f_right f_levelsKnown f_head f_tail f_met f_comesKnown f_entry f_round n (nI m.toNat) (nI k) (xK c) (xO c) (xF c) (xA c) (xG c) (xB c) a_table a_saved a_matters a_cubes a_levels a_edgeFlow a_netFlow a_queue a_before a_edge a_leads a_comes a_group la a_goes a_shows := by
  have hR := wf_R w
  have hR2 := gw_p2 (show cR c ≤ 10 by omega)
  intro d
  induction d with
  | zero =>
    intro k n m la hk hn hla hm
    obtain ⟨n, rfl⟩ : ∃ n', n = n' + 1 := ⟨n - 1, by omega⟩
    have : k = 2 ^ cR c := by omega
    subst this
    unfold wX_divide_4
    rw [gw_1shl (by omega)]
    exact br_t (nI_le (Nat.le_refl _) (by omega)) ⟨2 ^ cR c + 1, xw_divide91 w hla (fun gr hgr' => h m gr la hgr' (hm.trans chg_stb)) (2 ^ cR c) 0 _ a_group (by omega) (by omega) (fun q hq => by omega)⟩
  | succ d ih =>
    intro k n m la hk hn hla hm
    obtain ⟨n, rfl⟩ : ∃ n', n = n' + 1 := ⟨n - 1, by omega⟩
    have hk2 : k < 2 ^ cR c := by omega
    have k6 := r64 w hk2
    obtain ⟨g, h1, h2⟩ := hgr k hk2
    have l := lsx_le h1
    unfold wX_divide_4
    rw [gw_1shl (by omega), gw_cl (by omega), h2]
    refine br_f (nI_ge (by omega) (by omega)) ⟨vp_in_nI (by omega) (by omega), nm_e ⟨k + 1, xw_divide21 w hg hgr hk2 (fun g1 g' m' k1 k2 hm' => ih (k + 1) n m' _ (by omega) (by omega) (fun q hq => ?_) ?_) (k - g) g _ (by omega) (by omega) (fun f hf z => h1.2 f hf (eq_mono _ _ _ z))⟩⟩
    · by_cases e : q = k
      · subst e; exact ⟨g', k2, pk_us⟩
      · obtain ⟨g3, h3, h4⟩ := hla q (by omega)
        exact ⟨g3, h3, by rw [pk_un e]; exact h4⟩
    · rw [hm', hm]
      constructor
      · rintro (⟨q, a, b, y1, y2, y3, y4⟩ | y)
        · exact ⟨q, a, b, by omega, y2, y3, y4⟩
        · exact ⟨k, g1, g', by omega, k1, k2, y⟩
      · rintro ⟨q, a, b, y1, y2, y3, y4⟩
        by_cases e : q = k
        · subst e
          refine Or.inr (fun y => y4 ?_)
          rw [lsx_uni y2 k1, lsx_uni y3 k2, y]
        · exact Or.inl ⟨q, a, b, by omega, y2, y3, y4⟩
theorem xw_divide (w : WF c) {j t : Nat} (hg : GOE c j (2 ^ cS c) a_goes a_shows) (hgr : GRP c j (t + 1) (2 ^ cR c) a_group) {post : Int32 → SX → Prop} (h : ∀ m gr la, GRP c j (t + 2) (2 ^ cR c) gr → (m = true ↔ ¬ STB c j (t + 1)) → post (nI m.toNat) (nI (cN c), nI (cS c), nI (cR c), f_now, f_right, f_levelsKnown, f_head, f_tail, f_met, f_comesKnown, f_entry, f_round, xK c, xO c, xF c, xA c, xG c, xB c, a_table, a_saved, a_matters, a_cubes, a_levels, a_edgeFlow, a_netFlow, a_queue, a_before, a_edge, a_leads, a_comes, gr, la, a_goes, a_shows)) : wpX_divide post (nI (cN c), nI (cS c), nI (cR c), f_now, f_right, f_levelsKnown, f_head, f_tail, f_met, f_comesKnown, f_entry, f_round, xK c, xO c, xF c, xA c, xG c, xB c, a_table, a_saved, a_matters, a_cubes, a_levels, a_edgeFlow, a_netFlow, a_queue, a_before, a_edge, a_leads, a_comes, a_group, a_later, a_goes, a_shows) := by
  dsimp only [wpX_divide]
  exact ⟨2 ^ cR c + 1, xw_divide4 w hg hgr h (2 ^ cR c) 0 _ false a_later (by omega) (by omega) (fun q hq => by omega) ⟨fun z => absurd z (by decide), fun ⟨q, _, _, hq, _⟩ => by omega⟩⟩
theorem stb_ge {j s t : Nat} (hs : STB c j s) (h : s ≤ t) : STB c j t := by
  obtain ⟨d, rfl⟩ : ∃ d, t = s + d := ⟨t - s, by omega⟩
  clear h
  induction d with
  | zero => exact hs
  | succ d ih => exact stb_s ih
theorem xw_apart49 (w : WF c) {j T p q : Nat} (hT : T ≤ 5000) (hst : STB c j T) (hg : GOE c j (2 ^ cS c) a_goes a_shows) (hp : p < 2 ^ cR c) (hq : q < 2 ^ cR c) {post : Int32 → SX → Prop} (h : ∀ r gr la, APT c j p q r → post r (nI (cN c), nI (cS c), nI (cR c), f_now, f_right, f_levelsKnown, f_head, f_tail, f_met, f_comesKnown, f_entry, f_round, xK c, xO c, xF c, xA c, xG c, xB c, a_table, a_saved, a_matters, a_cubes, a_levels, a_edgeFlow, a_netFlow, a_queue, a_before, a_edge, a_leads, a_comes, gr, la, a_goes, a_shows)) :
    ∀ d t n m gr la, t + d = T + 1 → d < n → GRP c j (t + 1) (2 ^ cR c) gr → EQX c j t p q → (m = true → t = 0 ∨ ¬ STB c j t) → (m = false → STB c j t) → wX_apart_49 post (nI p) (nI q) n (nI t) (nI m.toNat) (nI (cN c)) (nI (cS c)) (nI (cR c)) f_now f_right f_levelsKnown f_head f_tail f_met f_comesKnown f_entry f_round (xK c) (xO c) (xF c) (xA c) (xG c) (xB c) a_table a_saved a_matters a_cubes a_levels a_edgeFlow a_netFlow a_queue a_before a_edge a_leads a_comes gr la a_goes a_shows := by
  have p6 := r64 w hp
  have q6 := r64 w hq
  have fin : ∀ t (m : Bool) gr la, t ≤ 5001 → GRP c j (t + 1) (2 ^ cR c) gr → EQX c j t p q → (gr p = gr q → STB c j t) → wX_apart_81 post (nI p) (nI q) (nI t) (nI (cN c)) (nI (cS c)) (nI (cR c)) f_now f_right f_levelsKnown f_head f_tail f_met f_comesKnown f_entry f_round (xK c) (xO c) (xF c) (xA c) (xG c) (xB c) a_table a_saved a_matters a_cubes a_levels a_edgeFlow a_netFlow a_queue a_before a_edge a_leads a_comes gr la a_goes a_shows := by
    intro t m gr la ht hgr he hs
    unfold wX_apart_81
    rw [gw_cl (by omega), gw_cl (by omega)]
    refine ⟨vp_in_nI (by omega) (by omega), vp_in_nI (by omega) (by omega), br_c (fun z => h _ gr la (Or.inr ⟨stb_all (hs z) hp hq he, rfl⟩)) (fun z => ?_)⟩
    have hne : ¬ EQX c j (t + 1) p q := fun y => z ((grp_eq w hgr hp hq).mpr y)
    refine h _ gr la (Or.inl ⟨t, ?_, he, hne, rfl⟩)
    apply Classical.byContradiction
    intro y
    exact hne (stb_ge hst (show T ≤ t by omega) p q hp hq he)
  intro d
  induction d with
  | zero =>
    intro t n m gr la hd hn hgr he h1 h2
    obtain ⟨n, rfl⟩ : ∃ n', n = n' + 1 := ⟨n - 1, by omega⟩
    have hs : STB c j t := stb_ge hst (by omega)
    unfold wX_apart_49
    rw [gw_cl (by omega), gw_cl (by omega)]
    refine ⟨vp_in_nI (by omega) (by omega), vp_in_nI (by omega) (by omega), br_c (fun z => ?_) (fun z => fin t m gr la (by omega) hgr he (fun _ => hs))⟩
    cases e : m
    · exact br_t rfl (fin t m gr la (by omega) hgr he (fun _ => hs))
    · rcases h1 e with y | y
      · omega
      · exact absurd hs y
  | succ d ih =>
    intro t n m gr la hd hn hgr he h1 h2
    obtain ⟨n, rfl⟩ : ∃ n', n = n' + 1 := ⟨n - 1, by omega⟩
    unfold wX_apart_49
    rw [gw_cl (by omega), gw_cl (by omega)]
    refine ⟨vp_in_nI (by omega) (by omega), vp_in_nI (by omega) (by omega), br_c (fun z => ?_) (fun z => fin t m gr la (by omega) hgr he (fun y => absurd y z))⟩
    cases e : m
    · exact br_t rfl (fin t m gr la (by omega) hgr he (fun _ => h2 e))
    · refine br_f (by decide) (xw_divide w hg hgr (fun m' gr' la' hgr' hm' => ?_))
      dsimp only
      refine nm_r (nI_1 t) (ih (t + 1) n m' gr' la' (by omega) (by omega) hgr' ((grp_eq w hgr hp hq).mp z) (fun y => Or.inr (hm'.mp y)) (fun y => ?_))
      apply Classical.byContradiction
      intro y2
      rw [hm'.mpr y2] at y
      exact absurd y (by decide)
theorem xm_apart (w : WF c) {now : Nat} {u : SX} (hX : XR c now u) {j p q : Nat} (hj : j < cN c) (hp : p < 2 ^ cR c) (hq : q < 2 ^ cR c) {post : Int32 → SX → Prop} (h : ∀ u' r, XR c now u' → APT c j p q r → post r u') : wpX_apart post u (nI j) (nI p) (nI q) := by
  have hR := wf_R w
  have hR2 := gw_p2 (show cR c ≤ 10 by omega)
  have p6 := r64 w hp
  have q6 := r64 w hq
  obtain ⟨T, hT, hst⟩ := stb_ex (c := c) (j := j) w
  refine xr_el (P := fun u => wpX_apart post u (nI j) (nI p) (nI q)) hX ?_
  intro r f_levelsKnown f_head f_tail f_met f_comesKnown f_entry f_round a_table a_saved a_matters a_cubes a_levels a_edgeFlow a_netFlow a_queue a_before a_edge a_leads a_comes a_group a_later a_goes a_shows hr ht hl hc
  dsimp only [wpX_apart]
  rw [gw_1shl (by omega)]
  refine xw_isNet_t w hj (br_f (by decide) (br_f (nI_pos (by omega)) (br_f (nI_pos (by omega)) (br_f (nI_ge hp (by omega)) (br_t (nI_lt hq (by omega)) (xw_look w hj hr ht (fun t gr go sh ht' hg hgr => ?_)))))))
  dsimp only
  exact ⟨T + 2, xw_apart49 w hT hst hg hp hq (fun r gr' la' hr' => h _ r (xr_in (Nat.le_refl _) ht' hl hc) hr') (T + 1) 0 _ true gr a_later (by omega) (by omega) hgr trivial (fun _ => Or.inl rfl) (fun z => absurd z (by decide))⟩
theorem xw_classes34 (w : WF c) {j t : Nat} (hgr : GRP c j t (2 ^ cR c) a_group) {pb : Nat → Bool} (hpb : ∀ q, q < 2 ^ cR c → (pb q = true ↔ LSX c j t q q)) {post : Int32 → SX → Prop} (h : post (nI (cnt pb (2 ^ cR c))) (nI (cN c), nI (cS c), nI (cR c), f_now, f_right, f_levelsKnown, f_head, f_tail, f_met, f_comesKnown, f_entry, f_round, xK c, xO c, xF c, xA c, xG c, xB c, a_table, a_saved, a_matters, a_cubes, a_levels, a_edgeFlow, a_netFlow, a_queue, a_before, a_edge, a_leads, a_comes, a_group, a_later, a_goes, a_shows)) :
    ∀ d k n, k + d = 2 ^ cR c → d < n → wX_classes_34 post (nI (cN c)) (nI (cS c)) (nI (cR c)) f_now f_right f_levelsKnown f_head f_tail f_met f_comesKnown f_entry f_round (xK c) (xO c) (xF c) (xA c) (xG c) (xB c) a_table a_saved a_matters a_cubes a_levels a_edgeFlow a_netFlow a_queue a_before a_edge a_leads a_comes a_group a_later a_goes a_shows n (nI (cnt pb k)) (nI k) := by
  have hR := wf_R w
  have hR2 := gw_p2 (show cR c ≤ 10 by omega)
  intro d
  induction d with
  | zero =>
    intro k n hk hn
    obtain ⟨n, rfl⟩ : ∃ n', n = n' + 1 := ⟨n - 1, by omega⟩
    have : k = 2 ^ cR c := by omega
    subst this
    unfold wX_classes_34
    rw [gw_1shl (by omega)]
    exact br_t (nI_le (Nat.le_refl _) (by omega)) h
  | succ d ih =>
    intro k n hk hn
    obtain ⟨n, rfl⟩ : ∃ n', n = n' + 1 := ⟨n - 1, by omega⟩
    have hk2 : k < 2 ^ cR c := by omega
    have k6 := r64 w hk2
    obtain ⟨g, h1, h2⟩ := hgr k hk2
    have l := lsx_le h1
    have hi := ih (k + 1) n (by omega) (by omega)
    rw [cnt_s] at hi
    unfold wX_classes_34
    rw [gw_1shl (by omega), gw_cl (by omega), h2]
    refine br_f (nI_ge (by omega) (by omega)) ⟨vp_in_nI (by omega) (by omega), pk_eq g k (fun z => nm_r (nI_1 _) (nm_r (nI_1 k) ?_)) (fun z => nm_r (nI_1 k) ?_)⟩
    · rw [(hpb k hk2).mpr (by rw [z] at h1; exact h1)] at hi
      exact hi
    · have : pb k = false := by
        cases e : pb k
        · rfl
        · exact absurd (lsx_uni h1 ((hpb k hk2).mp e)) z
      rw [this] at hi
      exact hi
theorem xw_classes17 (w : WF c) {j T : Nat} (hst : STB c j T) (hg : GOE c j (2 ^ cS c) a_goes a_shows) {post : Int32 → SX → Prop} (h : ∀ r gr la, CLS c j r → post r (nI (cN c), nI (cS c), nI (cR c), f_now, f_right, f_levelsKnown, f_head, f_tail, f_met, f_comesKnown, f_entry, f_round, xK c, xO c, xF c, xA c, xG c, xB c, a_table, a_saved, a_matters, a_cubes, a_levels, a_edgeFlow, a_netFlow, a_queue, a_before, a_edge, a_leads, a_comes, gr, la, a_goes, a_shows)) :
    ∀ d t n m gr la, t + d = T + 1 → d < n → GRP c j (t + 1) (2 ^ cR c) gr → (m = true → t = 0 ∨ ¬ STB c j t) → (m = false → STB c j t) → wX_classes_17 post n (nI m.toNat) (nI (cN c)) (nI (cS c)) (nI (cR c)) f_now f_right f_levelsKnown f_head f_tail f_met f_comesKnown f_entry f_round (xK c) (xO c) (xF c) (xA c) (xG c) (xB c) a_table a_saved a_matters a_cubes a_levels a_edgeFlow a_netFlow a_queue a_before a_edge a_leads a_comes gr la a_goes a_shows := by
  have fin : ∀ t gr la, GRP c j (t + 1) (2 ^ cR c) gr → STB c j t → ∃ n34, wX_classes_34 post (nI (cN c)) (nI (cS c)) (nI (cR c)) f_now f_right f_levelsKnown f_head f_tail f_met f_comesKnown f_entry f_round (xK c) (xO c) (xF c) (xA c) (xG c) (xB c) a_table a_saved a_matters a_cubes a_levels a_edgeFlow a_netFlow a_queue a_before a_edge a_leads a_comes gr la a_goes a_shows n34 0 0 := by
    intro t gr la hgr hs
    have hsel : ∃ pb : Nat → Bool, ∀ q, (pb q = true ↔ LSX c j (t + 1) q q) := ⟨fun q => @decide (LSX c j (t + 1) q q) (Classical.propDecidable _), fun q => @decide_eq_true_iff _ (Classical.propDecidable _)⟩
    obtain ⟨pb, hpb⟩ := hsel
    refine ⟨2 ^ cR c + 1, xw_classes34 w hgr (fun q _ => hpb q) (h _ gr la ⟨pb, fun q hq => ?_, rfl⟩) (2 ^ cR c) 0 _ (by omega) (by omega)⟩
    rw [hpb q]
    constructor
    · intro y d hd
      exact ⟨t + 1, y.2 d hd⟩
    · intro y
      refine ⟨eq_refl _ _, fun e he z => ?_⟩
      obtain ⟨s, hs2⟩ := y e he
      exact hs2 (stb_all hs hq (by omega) (eq_mono _ _ _ z) s)
  intro d
  induction d with
  | zero =>
    intro t n m gr la hd hn hgr h1 h2
    obtain ⟨n, rfl⟩ : ∃ n', n = n' + 1 := ⟨n - 1, by omega⟩
    have hs : STB c j t := stb_ge hst (by omega)
    unfold wX_classes_17
    cases e : m
    · exact br_t rfl (fin t gr la hgr hs)
    · rcases h1 e with y | y
      · omega
      · exact absurd hs y
  | succ d ih =>
    intro t n m gr la hd hn hgr h1 h2
    obtain ⟨n, rfl⟩ : ∃ n', n = n' + 1 := ⟨n - 1, by omega⟩
    unfold wX_classes_17
    cases e : m
    · exact br_t rfl (fin t gr la hgr (h2 e))
    · refine br_f (by decide) (xw_divide w hg hgr (fun m' gr' la' hgr' hm' => ?_))
      dsimp only
      refine ih (t + 1) n m' gr' la' (by omega) (by omega) hgr' (fun y => Or.inr (hm'.mp y)) (fun y => ?_)
      apply Classical.byContradiction
      intro y2
      rw [hm'.mpr y2] at y
      exact absurd y (by decide)
theorem xm_classes (w : WF c) {now : Nat} {u : SX} (hX : XR c now u) {j : Nat} (hj : j < cN c) {post : Int32 → SX → Prop} (h : ∀ u' r, XR c now u' → CLS c j r → post r u') : wpX_classes post u (nI j) := by
  obtain ⟨T, hT, hst⟩ := stb_ex (c := c) (j := j) w
  refine xr_el (P := fun u => wpX_classes post u (nI j)) hX ?_
  intro r f_levelsKnown f_head f_tail f_met f_comesKnown f_entry f_round a_table a_saved a_matters a_cubes a_levels a_edgeFlow a_netFlow a_queue a_before a_edge a_leads a_comes a_group a_later a_goes a_shows hr ht hl hc
  dsimp only [wpX_classes]
  refine xw_isNet_t w hj (br_f (by decide) (xw_look w hj hr ht (fun t gr go sh ht' hg hgr => ?_)))
  dsimp only
  exact ⟨T + 2, xw_classes17 w hst hg (fun r gr' la' hr' => h _ r (xr_in (Nat.le_refl _) ht' hl hc) hr') (T + 1) 0 _ true gr a_later (by omega) (by omega) hgr (fun _ => Or.inl rfl) (fun z => absurd z (by decide))⟩
end
end
section
/-! ===== Y: compare, apart, classes ===== -/
/-- the inputs' bits -/
def imk (c : CK) : Nat := bld (fun s => decide (cK c (cA c s) = 0)) (cS c)
theorem tb_bm (b : Bool) (s u : Nat) : (b.toNat * 2 ^ s).testBit u = (decide (u = s) && b) := by
  rw [Nat.testBit_mul_two_pow, Nat.testBit_bool_toNat]
  by_cases e : u = s
  · subst e; simp
  · by_cases h : s ≤ u
    · have : ¬ u - s = 0 := by omega
      simp [e, this]
    · simp [e, h]
section
variable {c : CK}
theorem imk_lt : imk c < 2 ^ cS c := bld_lt _ _
theorem imk_tb {s : Nat} (hs : s < cS c) : (imk c).testBit s = decide (cK c (cA c s) = 0) := by
  unfold imk
  rw [bld_tb, decide_eq_true hs, Bool.true_and]
theorem imk_in (w : WF c) {s : Nat} (hs : s < cS c) : (imk c).testBit s = true ↔ ¬ cK c (cA c s) = 1 := by
  have := wf_AK w hs
  rw [imk_tb hs, decide_eq_true_eq]
  omega
theorem wth_imk (w : WF c) (x q : Nat) : wth c (x &&& imk c) q = wth c x q := by
  refine tb_ext (wth_lt _ _) (wth_lt _ _) (fun s hs => ?_)
  rw [wth_tb hs, wth_tb hs]
  rcases reg_or (c := c) (s := s) with ⟨r, hr, rfl⟩ | h
  · rw [wbt_B w _ (Nat.le_refl _) hr, wbt_B w _ (Nat.le_refl _) hr]
  · rw [wbt_no _ h, wbt_no _ h, Nat.testBit_and]
    have : (imk c).testBit s = true := (imk_in w hs).mpr (fun hk => by
      obtain ⟨r, hr, e⟩ := wf_Gx w (wf_A w hs) hk
      rw [wf_G w hr] at e
      exact h r hr (wf_Ai w (wf_B w hr) hs e).symm)
    rw [this, Bool.and_true]
/-- the next smaller subset -/
theorem sub_next {m b A : Nat} (hm : m &&& A = m) (hb : b &&& A = b) (h : m < b) : m ≤ (b - 1) &&& A := by
  have hb0 : b ≠ 0 := by omega
  obtain ⟨k, hk, hmin⟩ := pk_least (fun i => b.testBit i = true) (Nat.exists_testBit_of_ne_zero hb0)
  have hmin : ∀ i, i < k → b.testBit i = false := fun i hi => by
    cases e : b.testBit i
    · rfl
    · exact absurd e (hmin i hi)
  have e1 : b % 2 ^ k = 0 := by
    apply Nat.eq_of_testBit_eq
    intro j
    rw [Nat.testBit_mod_two_pow, Nat.zero_testBit]
    by_cases hj : j < k
    · rw [hmin j hj, Bool.and_false]
    · rw [decide_eq_false hj, Bool.false_and]
  have e2 : b / 2 ^ k % 2 = 1 := by
    rw [Nat.testBit_eq_decide_div_mod_eq] at hk
    simpa using hk
  have hp : 0 < 2 ^ k := Nat.two_pow_pos k
  have hp2 : 2 ^ (k + 1) = 2 ^ k + 2 ^ k := by rw [Nat.pow_succ]; omega
  have e3 : b = 2 ^ (k + 1) * (b / 2 ^ (k + 1)) + 2 ^ k := by
    have a1 := Nat.div_add_mod b (2 ^ (k + 1))
    have a2 : b % 2 ^ (k + 1) = 2 ^ k := by
      rw [Nat.mod_pow_succ, e1, e2, Nat.mul_one, Nat.zero_add]
    rw [a2] at a1
    exact a1.symm
  have e4 : (b - 1) / 2 ^ (k + 1) = b / 2 ^ (k + 1) := by
    have e5 : b - 1 = 2 ^ (k + 1) * (b / 2 ^ (k + 1)) + (2 ^ k - 1) := by omega
    generalize b / 2 ^ (k + 1) = H at *
    rw [e5, Nat.mul_add_div (by omega), Nat.div_eq_of_lt (by omega), Nat.add_zero]
  have e6 : (b - 1) % 2 ^ (k + 1) = 2 ^ k - 1 := by
    have e5 : b - 1 = 2 ^ (k + 1) * (b / 2 ^ (k + 1)) + (2 ^ k - 1) := by omega
    generalize b / 2 ^ (k + 1) = H at *
    rw [e5, Nat.mul_add_mod, Nat.mod_eq_of_lt (by omega)]
  have y1 : ((b - 1) &&& A) / 2 ^ (k + 1) = b / 2 ^ (k + 1) := by
    rw [Nat.and_div_two_pow, e4, ← Nat.and_div_two_pow, hb]
  have y2 : ((b - 1) &&& A) % 2 ^ (k + 1) = A % 2 ^ k := by
    rw [Nat.and_mod_two_pow, e6, Nat.and_comm, Nat.and_two_pow_sub_one_eq_mod, Nat.mod_mod_of_dvd _ (Nat.pow_dvd_pow 2 (Nat.le_succ k))]
  have y3 := Nat.div_add_mod ((b - 1) &&& A) (2 ^ (k + 1))
  rw [y1, y2] at y3
  have m1 := Nat.div_add_mod m (2 ^ (k + 1))
  have m2 := Nat.mod_lt m (show 0 < 2 ^ (k + 1) by omega)
  have m3 : m / 2 ^ (k + 1) ≤ b / 2 ^ (k + 1) := Nat.div_le_div_right (by omega)
  have m4 : m % 2 ^ k ≤ A % 2 ^ k := by
    rw [← hm, Nat.and_mod_two_pow]
    exact Nat.and_le_right
  rcases Nat.lt_or_ge (m / 2 ^ (k + 1)) (b / 2 ^ (k + 1)) with h1 | h1
  · have h2 : 2 ^ (k + 1) * (m / 2 ^ (k + 1) + 1) ≤ 2 ^ (k + 1) * (b / 2 ^ (k + 1)) := Nat.mul_le_mul_left _ h1
    rw [Nat.mul_add, Nat.mul_one] at h2
    omega
  · have h2 : m / 2 ^ (k + 1) = b / 2 ^ (k + 1) := by omega
    rw [h2] at m1
    have h3 : m % 2 ^ (k + 1) < 2 ^ k := by omega
    have h4 : m % 2 ^ (k + 1) = m % 2 ^ k := by
      have := Nat.mod_mod_of_dvd m (Nat.pow_dvd_pow 2 (Nat.le_succ k))
      rw [Nat.mod_eq_of_lt h3] at this
      exact this
    omega
end
end
section
/-! ===== Y: the walks of compare, apart, classes ===== -/
/-- two configurations are found to differ at inputs x, all that is less being known in ap -/
def HIT (c : CK) (j : Nat) (ap : Nat → Int32) (t a b x : Nat) : Prop :=
  (t = 0 ∧ EV c (wth c x a) j ≠ EV c (wth c x b) j) ∨ (t ≠ 0 ∧ stp c x a ≠ stp c x b ∧ ap (64 * max (stp c x a) (stp c x b) + min (stp c x a) (stp c x b)) = nI (t - 1))
section
variable {c : CK} {a_first : Nat → Int32} {a_second : Nat → Int32} {a_third : Nat → Int32} {a_now : Nat → Int32} {a_at : Nat → Int32} {a_other : Nat → Int32} {a_source : Nat → Int32} {a_register : Nat → Int32} {a_level : Nat → Int32} {a_soon : Nat → Int32} {a_depend : Nat → Int32} {a_table : Nat → Int32} {a_marked : Nat → Int32} {a_after : Nat → Int32} {a_shows : Nat → Int32} {a_apart : Nat → Int32}
theorem yw_inputs (w : WF c) (hY : YS c a_first a_second a_third a_source a_register) {post : Int32 → Prop} (h : post (nI (imk c))) : wpY_inputs post (nI (cN c), nI (cS c), nI (cR c), xK c, a_first, a_second, a_third, xF c, a_now, a_at, a_other, a_source, a_register, a_level, a_soon, a_depend, a_table, a_marked, a_after, a_shows, a_apart) := by
  have hS := wf_S w
  have hN := wf_N w
  have L : ∀ d s n, s + d = cS c → d < n → wY_inputs_4 post (nI (cN c)) (nI (cS c)) (nI (cR c)) (xK c) a_first a_second a_third (xF c) a_now a_at a_other a_source a_register a_level a_soon a_depend a_table a_marked a_after a_shows a_apart n (nI (bld (fun s => decide (cK c (cA c s) = 0)) s)) (nI s) := by
    intro d
    induction d with
    | zero =>
      intro s n hs hn
      obtain ⟨n, rfl⟩ : ∃ n', n = n' + 1 := ⟨n - 1, by omega⟩
      have : s = cS c := by omega
      subst this
      unfold wY_inputs_4
      exact br_t (nI_le (Nat.le_refl _) (by omega)) h
    | succ d ih =>
      intro s n hs hn
      obtain ⟨n, rfl⟩ : ∃ n', n = n' + 1 := ⟨n - 1, by omega⟩
      have hs' : s < cS c := by omega
      have hA := wf_A w hs'
      have k2 := wf_AK w hs'
      have a1 := hY.2.2.2.1 s hs'
      have h1 : ¬ cS c ≤ s := by omega
      have hi := ih (s + 1) n (by omega) (by omega)
      by_cases h0 : cK c (cA c s) = 0
      · rw [← bld_or _ (by omega), decide_eq_true h0] at hi
        have z : nI true.toNat = 1 := rfl
        rw [z] at hi
        simp (disch := omega) only [gw_in, gw_cl, gw_Lle, gw_leL, gw_Llt, gw_ltL, gw_eqL, gw_Leq, gw_Lmul, gw_Ladd, gw_addL, nI_leI, nI_ltI, nI_eq, nI_add, nI_1, pk_mul, xK_ap, xO_ap, xF_ap, xA_ap, xG_ap, xB_ap, forall_eq, true_and, and_true, false_imp_iff, true_imp_iff, not_false_eq_true, not_true_eq_false, eq_self, Nat.reduceLT, Nat.reduceLeDiff, Nat.reduceEqDiff, gw_10, gw_01, wY_inputs_4, h1, a1, h0]
        exact hi
      · rw [bld_s, decide_eq_false h0] at hi
        simp (disch := omega) only [gw_in, gw_cl, gw_Lle, gw_leL, gw_Llt, gw_ltL, gw_eqL, gw_Leq, gw_Lmul, gw_Ladd, gw_addL, nI_leI, nI_ltI, nI_eq, nI_add, nI_1, pk_mul, xK_ap, xO_ap, xF_ap, xA_ap, xG_ap, xB_ap, forall_eq, true_and, and_true, false_imp_iff, true_imp_iff, not_false_eq_true, not_true_eq_false, eq_self, Nat.reduceLT, Nat.reduceLeDiff, Nat.reduceEqDiff, gw_10, gw_01, wY_inputs_4, h1, a1, h0]
        have e : bld (fun s => decide (cK c (cA c s) = 0)) s + false.toNat * 2 ^ s = bld (fun s => decide (cK c (cA c s) = 0)) s := by
          show _ + 0 * 2 ^ s = _
          rw [Nat.zero_mul, Nat.add_zero]
        rw [e] at hi
        exact hi
  exact ⟨cS c + 1, L (cS c) 0 _ (by omega) (by omega)⟩
theorem yw_join (w : WF c) (hY : YS c a_first a_second a_third a_source a_register) {q b : Nat} (hq : q < 2147483648) (hb : b &&& imk c = b) {post : Int32 → Prop} (h : post (nI (wth c b q))) : wpY_join post (nI (cN c), nI (cS c), nI (cR c), xK c, a_first, a_second, a_third, xF c, a_now, a_at, a_other, a_source, a_register, a_level, a_soon, a_depend, a_table, a_marked, a_after, a_shows, a_apart) (nI q) (nI b) := by
  have hS := wf_S w
  have hS2 := gw_p2 hS
  have hN := wf_N w
  have hR := wf_R w
  have hblt : b < 2 ^ cS c := by
    rw [← hb]
    exact Nat.and_lt_two_pow _ imk_lt
  have L : ∀ d s i n, s + d = cS c → d < n → i ≤ cR c → (∀ r, r < i → cB c r < s) → (∀ r, i ≤ r → r < cR c → s ≤ cB c r) → wY_join_8 post (nI q) (nI (cN c)) (nI (cS c)) (nI (cR c)) (xK c) a_first a_second a_third (xF c) a_now a_at a_other a_source a_register a_level a_soon a_depend a_table a_marked a_after a_shows a_apart n (nI (bld (fun u => if u < s then wbt c b q (cR c) u else b.testBit u) (cS c))) (nI i) (nI s) := by
    intro d
    induction d with
    | zero =>
      intro s i n hs hn hi h1 h2
      obtain ⟨n, rfl⟩ : ∃ n', n = n' + 1 := ⟨n - 1, by omega⟩
      unfold wY_join_8
      have e : bld (fun u => if u < s then wbt c b q (cR c) u else b.testBit u) (cS c) = wth c b q := bld_congr (fun u hu => by
        show (if u < s then _ else _) = _
        rw [if_pos (by omega)])
      rw [e]
      exact br_t (nI_le (by omega) (by omega)) h
    | succ d ih =>
      intro s i n hs hn hi h1 h2
      obtain ⟨n, rfl⟩ : ∃ n', n = n' + 1 := ⟨n - 1, by omega⟩
      have hs' : s < cS c := by omega
      have hA := wf_A w hs'
      have k2 := wf_AK w hs'
      have a1 := hY.2.2.2.1 s hs'
      have h3 : ¬ cS c ≤ s := by omega
      by_cases hk : cK c (cA c s) = 1
      · obtain ⟨e1, e2⟩ := sr_1 w hs' h1 h2 hk
        have hbit : (nI q >>> (nI i &&& 31)) &&& 1 = nI (q.testBit i).toNat := gw_bit (by omega) hq
        have hb0 : b.testBit s = false := by
          cases e : b.testBit s
          · rfl
          · rw [← hb, Nat.testBit_and, imk_tb hs', decide_eq_false (by omega), Bool.and_false] at e
            exact absurd e (by decide)
        have b1 := bld_lt (fun u => if u < s then wbt c b q (cR c) u else b.testBit u) (cS c)
        have b3 : (q.testBit i).toNat * 2 ^ s ≤ 2 ^ s := by cases q.testBit i <;> simp
        have b4 := gw_p2 (show s ≤ 10 by omega)
        have e3 : nI (bld (fun u => if u < s then wbt c b q (cR c) u else b.testBit u) (cS c)) ||| nI (q.testBit i).toNat <<< (nI s &&& 31) = nI (bld (fun u => if u < s + 1 then wbt c b q (cR c) u else b.testBit u) (cS c)) := by
          rw [gw_shl (by omega) (by omega), gw_or]
          congr 1
          apply Nat.eq_of_testBit_eq
          intro u
          rw [Nat.testBit_or, bld_tb, bld_tb, tb_bm]
          by_cases hu : u < cS c
          · rw [decide_eq_true hu, Bool.true_and, Bool.true_and]
            by_cases e4 : u = s
            · subst e4
              rw [if_neg (Nat.lt_irrefl _), if_pos (by omega), hb0, ← e2, wbt_B w _ (Nat.le_refl _) e1]
              simp
            · rw [decide_eq_false e4, Bool.false_and, Bool.or_false]
              by_cases e5 : u < s
              · rw [if_pos e5, if_pos (by omega)]
              · rw [if_neg e5, if_neg (by omega)]
          · rw [decide_eq_false hu, Bool.false_and, Bool.false_and, decide_eq_false (by omega), Bool.false_and, Bool.false_or]
        have hi2 := ih (s + 1) (i + 1) n (by omega) (by omega) e1 (fun r hr => by
          by_cases y : r = i
          · subst y; omega
          · have := h1 r (by omega); omega) (fun r hr1 hr2 => by
          have := wf_Bm w (show i < r by omega) hr2
          omega)
        rw [← e3] at hi2
        simp (disch := omega) only [gw_in, gw_cl, gw_Lle, gw_leL, gw_Llt, gw_ltL, gw_eqL, gw_Leq, gw_Lmul, gw_Ladd, gw_addL, nI_leI, nI_ltI, nI_eq, nI_add, nI_1, pk_mul, xK_ap, xO_ap, xF_ap, xA_ap, xG_ap, xB_ap, forall_eq, true_and, and_true, false_imp_iff, true_imp_iff, not_false_eq_true, not_true_eq_false, eq_self, Nat.reduceLT, Nat.reduceLeDiff, Nat.reduceEqDiff, gw_10, gw_01, wY_join_8, h3, a1, hk, hbit]
        exact hi2
      · have hi2 := ih (s + 1) i n (by omega) (by omega) hi (fun r hr => by have := h1 r hr; omega) (sr_2 w h2 hk)
        have e3 : bld (fun u => if u < s + 1 then wbt c b q (cR c) u else b.testBit u) (cS c) = bld (fun u => if u < s then wbt c b q (cR c) u else b.testBit u) (cS c) := bld_congr (fun u hu => by
          show (if u < s + 1 then _ else _) = (if u < s then _ else _)
          by_cases e4 : u = s
          · subst e4
            rw [if_pos (by omega), if_neg (Nat.lt_irrefl _), wbt_no _ (in_noB w hk)]
          · by_cases e5 : u < s
            · rw [if_pos e5, if_pos (by omega)]
            · rw [if_neg e5, if_neg (by omega)])
        rw [e3] at hi2
        simp (disch := omega) only [gw_in, gw_cl, gw_Lle, gw_leL, gw_Llt, gw_ltL, gw_eqL, gw_Leq, gw_Lmul, gw_Ladd, gw_addL, nI_leI, nI_ltI, nI_eq, nI_add, nI_1, pk_mul, xK_ap, xO_ap, xF_ap, xA_ap, xG_ap, xB_ap, forall_eq, true_and, and_true, false_imp_iff, true_imp_iff, not_false_eq_true, not_true_eq_false, eq_self, Nat.reduceLT, Nat.reduceLeDiff, Nat.reduceEqDiff, gw_10, gw_01, wY_join_8, h3, a1, hk]
        exact hi2
  have e : bld (fun u => if u < 0 then wbt c b q (cR c) u else b.testBit u) (cS c) = b := by
    have : bld (fun u => if u < 0 then wbt c b q (cR c) u else b.testBit u) (cS c) = bld b.testBit (cS c) := bld_congr (fun u _ => by
      show (if u < 0 then _ else _) = _
      rw [if_neg (Nat.not_lt_zero _)])
    rw [this, bld_self hblt]
  have := L (cS c) 0 0 (cS c + 1) (by omega) (by omega) (by omega) (fun r hr => by omega) (fun r _ _ => by omega)
  rw [e] at this
  exact ⟨cS c + 1, this⟩
theorem hit_imk (w : WF c) {j t a b x : Nat} {ap : Nat → Int32} : HIT c j ap t a b (x &&& imk c) ↔ HIT c j ap t a b x := by
  unfold HIT stp
  rw [wth_imk w, wth_imk w]
theorem yw_differs (w : WF c) (hY : YS c a_first a_second a_third a_source a_register) {j t a b : Nat} (ht : t ≤ 5001) (ha : a < 2 ^ cR c) (hb : b < 2 ^ cR c) (hf : ∀ x, x < 2 ^ cS c → a_after x = nI (aft c x)) (hs : ∀ x, x < 2 ^ cS c → a_shows x = nI (EV c x j).toNat)
    {post : Int32 → Prop} (h : ∀ r, BA (∃ x, x < 2 ^ cS c ∧ HIT c j a_apart t a b x) r → post r) : wpY_differs post (nI (cN c), nI (cS c), nI (cR c), xK c, a_first, a_second, a_third, xF c, a_now, a_at, a_other, a_source, a_register, a_level, a_soon, a_depend, a_table, a_marked, a_after, a_shows, a_apart) (nI a) (nI b) (nI t) (nI (imk c)) := by
  have hS2 := gw_p2 (wf_S w)
  have himk := imk_lt (c := c)
  have a6 := r64 w ha
  have b6 := r64 w hb
  have L : ∀ m, ∀ n, m < n → m &&& imk c = m → (∀ y, y &&& imk c = y → m < y → ¬ HIT c j a_apart t a b y) → wY_differs_7 post (nI a) (nI b) (nI t) (nI (imk c)) (nI (cN c)) (nI (cS c)) (nI (cR c)) (xK c) a_first a_second a_third (xF c) a_now a_at a_other a_source a_register a_level a_soon a_depend a_table a_marked a_after a_shows a_apart (n + 1) (nI m) 0 := by
    intro m
    induction m using Nat.strongRecOn with
    | _ m ih =>
      intro n hn hm hall
      have hmlt : m < 2 ^ cS c := by
        rw [← hm]
        exact Nat.and_lt_two_pow _ himk
      have w1 := wth_lt (c := c) m a
      have w2 := wth_lt (c := c) m b
      have s1 := r64 w (aft_lt (c := c) (wth c m a))
      have s2 := r64 w (aft_lt (c := c) (wth c m b))
      have f1 := hf _ w1
      have f2 := hf _ w2
      -- when this one isn't a hit
      have go : ¬ HIT c j a_apart t a b m → wY_differs_154 post (wY_differs_7 post (nI a) (nI b) (nI t) (nI (imk c)) (nI (cN c)) (nI (cS c)) (nI (cR c)) (xK c) a_first a_second a_third (xF c) a_now a_at a_other a_source a_register a_level a_soon a_depend a_table a_marked a_after a_shows a_apart n) (nI a) (nI b) (nI t) (nI (imk c)) (nI m) (nI (cN c)) (nI (cS c)) (nI (cR c)) (xK c) a_first a_second a_third (xF c) a_now a_at a_other a_source a_register a_level a_soon a_depend a_table a_marked a_after a_shows a_apart := by
        intro hno
        have hall2 : ∀ y, y &&& imk c = y → m ≤ y → ¬ HIT c j a_apart t a b y := fun y hy hle => by
          by_cases e : y = m
          · subst e; exact hno
          · exact hall y hy (by omega)
        unfold wY_differs_154
        refine pk_eq m 0 (fun e => ?_) (fun e => ?_)
        · unfold wY_differs_164
          refine nm_e ?_
          obtain ⟨n, rfl⟩ : ∃ n', n = n' + 1 := ⟨n - 1, by omega⟩
          unfold wY_differs_7
          refine br_f (by decide) (h _ (Or.inr ⟨rfl, ?_⟩))
          rintro ⟨x, hx, hh⟩
          exact hall2 (x &&& imk c) (by rw [Nat.and_assoc, Nat.and_self]) (by omega) ((hit_imk w).mpr hh)
        · unfold wY_differs_164
          have e1 : nI m - 1 = nI (m - 1) := pk_sub (show 1 ≤ m by omega)
          rw [e1, nx_and]
          refine nm_e ?_
          have l1 : (m - 1) &&& imk c ≤ m - 1 := Nat.and_le_left
          obtain ⟨n, rfl⟩ : ∃ n', n = n' + 1 := ⟨n - 1, by omega⟩
          refine ih ((m - 1) &&& imk c) (by omega) n (by omega) (by rw [Nat.and_assoc, Nat.and_self]) (fun y hy hlt => ?_)
          refine hall2 y hy ?_
          apply Classical.byContradiction
          intro z
          have := sub_next hy hm (show y < m by omega)
          omega
      have yes : HIT c j a_apart t a b m → post 1 := fun hh => h _ (Or.inl ⟨rfl, m, hmlt, hh⟩)
      have d100 : ∀ x9 z0, x9 = max (stp c m a) (stp c m b) → z0 = min (stp c m a) (stp c m b) → wY_differs_100 post (wY_differs_7 post (nI a) (nI b) (nI t) (nI (imk c)) (nI (cN c)) (nI (cS c)) (nI (cR c)) (xK c) a_first a_second a_third (xF c) a_now a_at a_other a_source a_register a_level a_soon a_depend a_table a_marked a_after a_shows a_apart n) (nI a) (nI b) (nI t) (nI (imk c)) (nI m) (nI (wth c m a)) (nI (wth c m b)) (nI x9) (nI z0) (nI (cN c)) (nI (cS c)) (nI (cR c)) (xK c) a_first a_second a_third (xF c) a_now a_at a_other a_source a_register a_level a_soon a_depend a_table a_marked a_after a_shows a_apart := by
        intro x9 z0 e9 e0
        have q1 : stp c m a < 64 := s1
        have q2 : stp c m b < 64 := s2
        have q9 : x9 < 64 := by omega
        have q0 : z0 < 64 := by omega
        unfold wY_differs_100
        refine pk_eq t 0 (fun e => ?_) (fun e => ?_)
        · rw [gw_cl (by omega), gw_cl (by omega), hs _ w1, hs _ w2]
          refine ⟨vp_in_nI (by omega) (by omega), vp_in_nI (by omega) (by omega), br_c (fun y => go ?_) (fun y => yes ?_)⟩
          · rw [gw_beq] at y
            rintro (⟨_, z⟩ | ⟨z, _⟩)
            · exact z y
            · exact z e
          · rw [gw_beq] at y
            exact Or.inl ⟨e, y⟩
        · refine pk_eq x9 z0 (fun y => go ?_) (fun y => ?_)
          · rintro (⟨z, _⟩ | ⟨_, z, _⟩)
            · exact e z
            · omega
          · have e1 : nI t - 1 = nI (t - 1) := pk_sub (show 1 ≤ t by omega)
            rw [gw_Lmul, nI_add, gw_cl (by omega), e1]
            refine ⟨vp_in_nI (by omega) (by omega), br_c (fun z => yes ?_) (fun z => go ?_)⟩
            · refine Or.inr ⟨e, by omega, ?_⟩
              rw [← e9, ← e0]
              exact z
            · rintro (⟨y2, _⟩ | ⟨_, _, y2⟩)
              · exact e y2
              · rw [← e9, ← e0] at y2
                exact z y2
      have d64 : ∀ x9, x9 = max (stp c m a) (stp c m b) → wY_differs_64 post (wY_differs_7 post (nI a) (nI b) (nI t) (nI (imk c)) (nI (cN c)) (nI (cS c)) (nI (cR c)) (xK c) a_first a_second a_third (xF c) a_now a_at a_other a_source a_register a_level a_soon a_depend a_table a_marked a_after a_shows a_apart n) (nI a) (nI b) (nI t) (nI (imk c)) (nI m) (nI (wth c m a)) (nI (wth c m b)) (nI x9) (nI (cN c)) (nI (cS c)) (nI (cR c)) (xK c) a_first a_second a_third (xF c) a_now a_at a_other a_source a_register a_level a_soon a_depend a_table a_marked a_after a_shows a_apart := by
        intro x9 e9
        unfold wY_differs_64
        rw [gw_cl (by omega), gw_cl (by omega), f1, f2]
        refine ⟨vp_in_nI (by omega) (by omega), vp_in_nI (by omega) (by omega), pk_le (aft c (wth c m a)) (aft c (wth c m b)) (fun y => ⟨vp_in_nI (by omega) (by omega), d100 x9 _ e9 ?_⟩) (fun y => ⟨vp_in_nI (by omega) (by omega), d100 x9 _ e9 ?_⟩)⟩
        · unfold stp; omega
        · unfold stp; omega
      unfold wY_differs_7
      refine br_t rfl (yw_join w hY (by omega) hm (yw_join w hY (by omega) hm ?_))
      rw [gw_cl (by omega), gw_cl (by omega), f1, f2]
      refine ⟨vp_in_nI (by omega) (by omega), vp_in_nI (by omega) (by omega), pk_le (aft c (wth c m a)) (aft c (wth c m b)) (fun y => ⟨vp_in_nI (by omega) (by omega), d64 _ ?_⟩) (fun y => ⟨vp_in_nI (by omega) (by omega), d64 _ ?_⟩)⟩
      · unfold stp; omega
      · unfold stp; omega
  exact ⟨imk c + 2, L (imk c) (imk c + 1) (by omega) (Nat.and_self _) (fun y hy hlt => by
    have : y ≤ imk c := by rw [← hy]; exact Nat.and_le_right
    omega)⟩
end
end
section
/-! ===== Y: compare's passes, apart, classes ===== -/
/-- what is known of a pair before pass t -/
def PRE (c : CK) (j t a b : Nat) (v : Int32) : Prop := (∃ s, s < t ∧ EQX c j s a b ∧ ¬ EQX c j (s + 1) a b ∧ v = nI s) ∨ (EQX c j t a b ∧ v = -1)
/-- in pass t, the pairs ahead of (a0, b0) being done -/
def PAS (c : CK) (j t a0 b0 : Nat) (ap : Nat → Int32) : Prop := ∀ a b, a < 2 ^ cR c → b < a → (a < a0 ∨ (a = a0 ∧ b < b0) → PRE c j (t + 1) a b (ap (64 * a + b))) ∧ (¬ (a < a0 ∨ (a = a0 ∧ b < b0)) → PRE c j t a b (ap (64 * a + b)))
section
variable {c : CK} {j : Nat}
theorem pre_nn {t a b : Nat} {v : Int32} (ht : t ≤ 5001) (h : PRE c j t a b v) : 0 ≤ v ↔ ¬ EQX c j t a b := by
  rcases h with ⟨s, hs, h1, h2, rfl⟩ | ⟨h1, rfl⟩
  · exact ⟨fun _ z => h2 (eq_le (by omega) z), fun _ => nI_pos' (by omega)⟩
  · exact ⟨fun z => absurd z gw_m1le, fun z => absurd h1 z⟩
theorem pre_at {t s a b : Nat} {v : Int32} (ht : t ≤ 5002) (hs : s < t) (h : PRE c j t a b v) : v = nI s ↔ EQX c j s a b ∧ ¬ EQX c j (s + 1) a b := by
  rcases h with ⟨r, hr, h1, h2, rfl⟩ | ⟨h1, rfl⟩
  · rw [nI_eq (by omega) (by omega)]
    constructor
    · intro e; subst e; exact ⟨h1, h2⟩
    · rintro ⟨k1, k2⟩
      rcases Nat.lt_trichotomy r s with e | e | e
      · exact absurd (eq_le (show r + 1 ≤ s by omega) k1) h2
      · exact e
      · exact absurd (eq_le (show s + 1 ≤ r by omega) h1) k2
  · constructor
    · intro e; exact absurd e.symm (gw_m1 (by omega))
    · rintro ⟨_, k⟩; exact absurd (eq_le (by omega) h1) k
theorem pas_at {t a0 b0 s a b : Nat} {ap : Nat → Int32} (ht : t ≤ 5001) (hs : s < t) (h : PAS c j t a0 b0 ap) (ha : a < 2 ^ cR c) (hb : b < a) : ap (64 * a + b) = nI s ↔ EQX c j s a b ∧ ¬ EQX c j (s + 1) a b := by
  by_cases e : a < a0 ∨ (a = a0 ∧ b < b0)
  · exact pre_at (by omega) (by omega) ((h a b ha hb).1 e)
  · exact pre_at (by omega) hs ((h a b ha hb).2 e)
/-- a hit is a first difference one tick on -/
theorem hit_iff {t a0 b0 a b : Nat} {ap : Nat → Int32} (ht : t ≤ 5001) (h : PAS c j t a0 b0 ap) (he : EQX c j t a b) : (∃ x, x < 2 ^ cS c ∧ HIT c j ap t a b x) ↔ ¬ EQX c j (t + 1) a b := by
  constructor
  · rintro ⟨x, hx, ⟨e, k⟩ | ⟨e, k1, k2⟩⟩ z
    · exact k (z.1 x hx)
    · have l1 := aft_lt (c := c) (wth c x a)
      have l2 := aft_lt (c := c) (wth c x b)
      have zx := z.2 x hx
      rcases Nat.lt_or_ge (stp c x a) (stp c x b) with l | l
      · rw [Nat.max_eq_right (by omega), Nat.min_eq_left (by omega)] at k2
        have := (pas_at ht (show t - 1 < t by omega) h l2 l).mp k2
        rw [show t - 1 + 1 = t by omega] at this
        exact this.2 (eq_symm _ _ _ zx)
      · rw [Nat.max_eq_left (by omega), Nat.min_eq_right (by omega)] at k2
        have := (pas_at ht (show t - 1 < t by omega) h l1 (show stp c x b < stp c x a by omega)).mp k2
        rw [show t - 1 + 1 = t by omega] at this
        exact this.2 zx
  · intro z
    apply Classical.byContradiction
    intro hno
    apply z
    cases t with
    | zero =>
      refine ⟨fun x hx => ?_, fun _ _ => trivial⟩
      apply Classical.byContradiction
      intro y
      exact hno ⟨x, hx, Or.inl ⟨rfl, y⟩⟩
    | succ t =>
      refine ⟨he.1, fun x hx => ?_⟩
      apply Classical.byContradiction
      intro y
      have l1 := aft_lt (c := c) (wth c x a)
      have l2 := aft_lt (c := c) (wth c x b)
      have hx0 := he.2 x hx
      refine hno ⟨x, hx, Or.inr ⟨by omega, fun e => ?_, ?_⟩⟩
      · rw [e] at y; exact y (eq_refl _ _)
      · rw [Nat.add_sub_cancel]
        rcases Nat.lt_or_ge (stp c x a) (stp c x b) with l | l
        · rw [Nat.max_eq_right (by omega), Nat.min_eq_left (by omega)]
          exact (pas_at ht (by omega) h l2 l).mpr ⟨eq_symm _ _ _ hx0, fun q => y (eq_symm _ _ _ q)⟩
        · rw [Nat.max_eq_left (by omega), Nat.min_eq_right (by omega)]
          refine (pas_at ht (by omega) h l1 ?_).mpr ⟨hx0, y⟩
          rcases Nat.lt_or_ge (stp c x b) (stp c x a) with l3 | l3
          · exact l3
          · have : stp c x a = stp c x b := by omega
            rw [this] at y
            exact absurd (eq_refl _ _) y
/-- a pair that is told apart in pass t -/
def FND (c : CK) (j t a0 b0 : Nat) : Prop := ∃ a b, a < 2 ^ cR c ∧ b < a ∧ (a < a0 ∨ (a = a0 ∧ b < b0)) ∧ EQX c j t a b ∧ ¬ EQX c j (t + 1) a b
theorem fnd_stb {t : Nat} : FND c j t (2 ^ cR c) 0 ↔ ¬ STB c j t := by
  constructor
  · rintro ⟨a, b, ha, hb, _, h1, h2⟩ z
    exact h2 (z a b ha (by omega) h1)
  · intro z
    apply Classical.byContradiction
    intro y
    apply z
    intro p q hp hq e
    apply Classical.byContradiction
    intro k
    rcases Nat.lt_trichotomy p q with l | l | l
    · exact y ⟨q, p, hq, l, Or.inl hq, eq_symm _ _ _ e, fun k2 => k (eq_symm _ _ _ k2)⟩
    · subst l; exact k (eq_refl _ _)
    · exact y ⟨p, q, hp, l, Or.inl hp, e, k⟩
theorem pas_step {t a0 b0 : Nat} {ap ap' : Nat → Int32} (hb0 : b0 < a0) (h : PAS c j t a0 b0 ap) (h1 : ∀ a b, b < a → ¬ (a = a0 ∧ b = b0) → ap' (64 * a + b) = ap (64 * a + b)) (h2 : PRE c j (t + 1) a0 b0 (ap' (64 * a0 + b0))) : PAS c j t a0 (b0 + 1) ap' := by
  intro a b ha hb
  constructor
  · intro e
    by_cases e2 : a = a0 ∧ b = b0
    · rw [e2.1, e2.2]; exact h2
    · rw [h1 a b hb e2]
      exact (h a b ha hb).1 (by omega)
  · intro e
    have e2 : ¬ (a = a0 ∧ b = b0) := by omega
    rw [h1 a b hb e2]
    exact (h a b ha hb).2 (by omega)
theorem pas_row {t a0 : Nat} {ap : Nat → Int32} (h : PAS c j t a0 a0 ap) : PAS c j t (a0 + 1) 0 ap := by
  intro a b ha hb
  constructor
  · intro e; exact (h a b ha hb).1 (by omega)
  · intro e; exact (h a b ha hb).2 (by omega)
end
section
variable {c : CK} {a_first : Nat → Int32} {a_second : Nat → Int32} {a_third : Nat → Int32} {a_now : Nat → Int32} {a_at : Nat → Int32} {a_other : Nat → Int32} {a_source : Nat → Int32} {a_register : Nat → Int32} {a_level : Nat → Int32} {a_soon : Nat → Int32} {a_depend : Nat → Int32} {a_table : Nat → Int32} {a_marked : Nat → Int32} {a_after : Nat → Int32} {a_shows : Nat → Int32} {a_apart : Nat → Int32}
theorem yw_compare60 (w : WF c) (hY : YS c a_first a_second a_third a_source a_register) {j t : Nat} (ht : t ≤ 5001) (hf : ∀ x, x < 2 ^ cS c → a_after x = nI (aft c x)) (hs : ∀ x, x < 2 ^ cS c → a_shows x = nI (EV c x j).toNat) {a0 : Nat} (ha0 : a0 < 2 ^ cR c) {post : SY → Prop}
    {J37 J46 : Int32 → Int32 → (Nat → Int32) → (Nat → Int32) → (Nat → Int32) → (Nat → Int32) → (Nat → Int32) → (Nat → Int32) → (Nat → Int32) → (Nat → Int32) → (Nat → Int32) → (Nat → Int32) → (Nat → Int32) → (Nat → Int32) → (Nat → Int32) → (Nat → Int32) → (Nat → Int32) → (Nat → Int32) → (Nat → Int32) → (Nat → Int32) → Prop}
    (hJ : ∀ m ap, PAS c j t (a0 + 1) 0 ap → (m = true ↔ FND c j t (a0 + 1) 0) → J46 (nI m.toNat) (nI (a0 + 1)) (xK c) a_first a_second a_third (xF c) a_now a_at a_other a_source a_register a_level a_soon a_depend a_table a_marked a_after a_shows ap) :
    ∀ d b n m ap, b + d = a0 → d < n → PAS c j t a0 b ap → (m = true ↔ FND c j t a0 b) → wY_compare_60 post J37 J46 (nI (imk c)) (nI t) (nI a0) (nI (cN c)) (nI (cS c)) (nI (cR c)) n (nI m.toNat) (nI b) (xK c) a_first a_second a_third (xF c) a_now a_at a_other a_source a_register a_level a_soon a_depend a_table a_marked a_after a_shows ap := by
  have a6 := r64 w ha0
  intro d
  induction d with
  | zero =>
    intro b n m ap hd hn hp hm
    obtain ⟨n, rfl⟩ : ∃ n', n = n' + 1 := ⟨n - 1, by omega⟩
    have : b = a0 := by omega
    subst this
    unfold wY_compare_60
    refine br_t (nI_le (Nat.le_refl _) (by omega)) (nm_r (nI_1 b) (hJ m ap (pas_row hp) (hm.trans ?_)))
    constructor
    · rintro ⟨a, q, h1, h2, h3, h4⟩
      exact ⟨a, q, h1, h2, by omega, h4⟩
    · rintro ⟨a, q, h1, h2, h3, h4⟩
      exact ⟨a, q, h1, h2, by omega, h4⟩
  | succ d ih =>
    intro b n m ap hd hn hp hm
    obtain ⟨n, rfl⟩ : ∃ n', n = n' + 1 := ⟨n - 1, by omega⟩
    have hb : b < a0 := by omega
    have hpre := (hp a0 b ha0 hb).2 (by omega)
    unfold wY_compare_60
    rw [gw_Lmul, nI_add, gw_cl (by omega)]
    have keepF : EQX c j t a0 b → EQX c j (t + 1) a0 b → (m = true ↔ FND c j t a0 (b + 1)) := fun _ hk => by
      rw [hm]
      constructor
      · rintro ⟨a, q, h1, h2, h3, h4⟩
        exact ⟨a, q, h1, h2, by omega, h4⟩
      · rintro ⟨a, q, h1, h2, h3, h4, h5⟩
        refine ⟨a, q, h1, h2, ?_, h4, h5⟩
        apply Classical.byContradiction
        intro z
        have e1 : a = a0 := by omega
        have e2 : q = b := by omega
        subst e1 e2
        exact h5 hk
    refine br_f (nI_ge (by omega) (by omega)) ⟨vp_in_nI (by omega) (by omega), br_c (fun e => ?_) (fun e => ?_)⟩
    · have hne := (pre_nn ht hpre).mp e
      refine nm_r (nI_1 b) (ih (b + 1) n m ap (by omega) (by omega) (pas_step hb hp (fun _ _ _ _ => rfl) ?_) ?_)
      · rcases hpre with ⟨s, h1, h2⟩ | ⟨h1, _⟩
        · exact Or.inl ⟨s, by omega, h2⟩
        · exact absurd h1 hne
      · rw [hm]
        constructor
        · rintro ⟨a, q, h1, h2, h3, h4⟩
          exact ⟨a, q, h1, h2, by omega, h4⟩
        · rintro ⟨a, q, h1, h2, h3, h4, h5⟩
          refine ⟨a, q, h1, h2, ?_, h4, h5⟩
          apply Classical.byContradiction
          intro z
          have e1 : a = a0 := by omega
          have e2 : q = b := by omega
          subst e1 e2
          exact hne h4
    · have heq : EQX c j t a0 b := by
        apply Classical.byContradiction
        intro z
        exact e ((pre_nn ht hpre).mpr z)
      have hv : ap (64 * a0 + b) = -1 := by
        rcases hpre with ⟨s, h1, h2, h3, _⟩ | ⟨_, h1⟩
        · exact absurd (eq_le (by omega) heq) h3
        · exact h1
      refine yw_differs w hY ht ha0 (show b < 2 ^ cR c by omega) hf hs (fun r hr => ?_)
      rcases BA_iff hr (hit_iff ht hp heq) with ⟨rfl, hr2⟩ | ⟨rfl, hr2⟩
      · refine br_f (by decide) ⟨vp_in_nI (by omega) (by omega), nm_e (nm_r (nI_1 b) (ih (b + 1) n true _ (by omega) (by omega) (pas_step hb hp (fun a q hq hne => ?_) ?_) ?_))⟩
        · by_cases ea : a < 64 ∧ True
          · refine pk_un (fun z => hne ?_)
            omega
          · refine pk_un (fun z => hne ?_)
            omega
        · rw [pk_us]
          exact Or.inl ⟨t, by omega, heq, hr2, rfl⟩
        · exact ⟨fun _ => ⟨a0, b, ha0, hb, by omega, heq, hr2⟩, fun _ => rfl⟩
      · have hk : EQX c j (t + 1) a0 b := by
          apply Classical.byContradiction
          intro z
          exact hr2 z
        exact br_t rfl (nm_r (nI_1 b) (ih (b + 1) n m ap (by omega) (by omega) (pas_step hb hp (fun _ _ _ _ => rfl) (Or.inr ⟨hk, hv⟩)) (keepF heq hk)))
theorem yw_compare46 (w : WF c) (hY : YS c a_first a_second a_third a_source a_register) {j t : Nat} (ht : t ≤ 5001) (hf : ∀ x, x < 2 ^ cS c → a_after x = nI (aft c x)) (hs : ∀ x, x < 2 ^ cS c → a_shows x = nI (EV c x j).toNat) {post : SY → Prop}
    {J37 : Int32 → Int32 → (Nat → Int32) → (Nat → Int32) → (Nat → Int32) → (Nat → Int32) → (Nat → Int32) → (Nat → Int32) → (Nat → Int32) → (Nat → Int32) → (Nat → Int32) → (Nat → Int32) → (Nat → Int32) → (Nat → Int32) → (Nat → Int32) → (Nat → Int32) → (Nat → Int32) → (Nat → Int32) → (Nat → Int32) → (Nat → Int32) → Prop}
    (hJ : ∀ m ap, (∀ a b, a < 2 ^ cR c → b < a → PRE c j (t + 1) a b (ap (64 * a + b))) → (m = true ↔ ¬ STB c j t) → J37 (nI m.toNat) (nI (t + 1)) (xK c) a_first a_second a_third (xF c) a_now a_at a_other a_source a_register a_level a_soon a_depend a_table a_marked a_after a_shows ap) :
    ∀ d a n m ap, a + d = 2 ^ cR c → d < n → PAS c j t a 0 ap → (m = true ↔ FND c j t a 0) → wY_compare_46 post J37 (nI (imk c)) (nI t) (nI (cN c)) (nI (cS c)) (nI (cR c)) n (nI m.toNat) (nI a) (xK c) a_first a_second a_third (xF c) a_now a_at a_other a_source a_register a_level a_soon a_depend a_table a_marked a_after a_shows ap := by
  have hR := wf_R w
  have hR2 := gw_p2 (show cR c ≤ 10 by omega)
  intro d
  induction d with
  | zero =>
    intro a n m ap hd hn hp hm
    obtain ⟨n, rfl⟩ : ∃ n', n = n' + 1 := ⟨n - 1, by omega⟩
    have : a = 2 ^ cR c := by omega
    subst this
    unfold wY_compare_46
    rw [gw_1shl (by omega)]
    exact br_t (nI_le (Nat.le_refl _) (by omega)) (nm_r (nI_1 t) (hJ m ap (fun a b ha hb => (hp a b ha hb).1 (Or.inl ha)) (hm.trans fnd_stb)))
  | succ d ih =>
    intro a n m ap hd hn hp hm
    obtain ⟨n, rfl⟩ : ∃ n', n = n' + 1 := ⟨n - 1, by omega⟩
    unfold wY_compare_46
    rw [gw_1shl (by omega)]
    exact br_f (nI_ge (by omega) (by omega)) ⟨a + 1, yw_compare60 w hY ht hf hs (by omega) (fun m' ap' hp' hm' => ih (a + 1) n m' ap' (by omega) (by omega) hp' hm') a 0 _ m ap (by omega) (by omega) hp hm⟩
theorem yw_compare37 (w : WF c) (hY : YS c a_first a_second a_third a_source a_register) {j T : Nat} (hT : T ≤ 5000) (hst : STB c j T) (hf : ∀ x, x < 2 ^ cS c → a_after x = nI (aft c x)) (hs : ∀ x, x < 2 ^ cS c → a_shows x = nI (EV c x j).toNat) {post : SY → Prop}
    (h : ∀ ap, (∀ a b, a < 2 ^ cR c → b < a → APT c j a b (ap (64 * a + b))) → post (nI (cN c), nI (cS c), nI (cR c), xK c, a_first, a_second, a_third, xF c, a_now, a_at, a_other, a_source, a_register, a_level, a_soon, a_depend, a_table, a_marked, a_after, a_shows, ap)) :
    ∀ d t n m ap, t + d = T + 1 → d < n → (∀ a b, a < 2 ^ cR c → b < a → PRE c j t a b (ap (64 * a + b))) → (m = true → t = 0 ∨ ¬ STB c j (t - 1)) → (m = false → 1 ≤ t ∧ STB c j (t - 1)) → wY_compare_37 post (nI (imk c)) (nI (cN c)) (nI (cS c)) (nI (cR c)) n (nI m.toNat) (nI t) (xK c) a_first a_second a_third (xF c) a_now a_at a_other a_source a_register a_level a_soon a_depend a_table a_marked a_after a_shows ap := by
  have fin : ∀ t ap, 1 ≤ t → STB c j (t - 1) → (∀ a b, a < 2 ^ cR c → b < a → PRE c j t a b (ap (64 * a + b))) → post (nI (cN c), nI (cS c), nI (cR c), xK c, a_first, a_second, a_third, xF c, a_now, a_at, a_other, a_source, a_register, a_level, a_soon, a_depend, a_table, a_marked, a_after, a_shows, ap) := by
    intro t ap ht hs2 hp
    refine h ap (fun a b ha hb => ?_)
    rcases hp a b ha hb with ⟨s, h1, h2, h3, h4⟩ | ⟨h1, h2⟩
    · refine Or.inl ⟨s, ?_, h2, h3, h4⟩
      apply Classical.byContradiction
      intro z
      exact h3 (stb_ge hst (show T ≤ s by omega) a b ha (by omega) h2)
    · exact Or.inr ⟨stb_all hs2 ha (by omega) (eq_le (by omega) h1), h2⟩
  intro d
  induction d with
  | zero =>
    intro t n m ap hd hn hp h1 h2
    obtain ⟨n, rfl⟩ : ∃ n', n = n' + 1 := ⟨n - 1, by omega⟩
    have hs2 : STB c j (t - 1) := stb_ge hst (by omega)
    unfold wY_compare_37
    cases e : m
    · exact br_t rfl (fin t ap (by omega) hs2 hp)
    · rcases h1 e with y | y
      · omega
      · exact absurd hs2 y
  | succ d ih =>
    intro t n m ap hd hn hp h1 h2
    obtain ⟨n, rfl⟩ : ∃ n', n = n' + 1 := ⟨n - 1, by omega⟩
    unfold wY_compare_37
    cases e : m
    · exact br_t rfl (fin t ap (h2 e).1 (h2 e).2 hp)
    · refine br_f (by decide) ⟨2 ^ cR c + 1, yw_compare46 w hY (show t ≤ 5001 by omega) hf hs (fun m' ap' hp' hm' => ih (t + 1) n m' ap' (by omega) (by omega) hp' (fun y => Or.inr (hm'.mp y)) (fun y => ⟨by omega, ?_⟩)) (2 ^ cR c) 0 _ false ap (by omega) (by omega) (fun a b ha hb => ⟨fun z => by omega, fun _ => hp a b ha hb⟩) ⟨fun z => absurd z (by decide), fun ⟨a, b, _, _, z, _⟩ => by omega⟩⟩
      apply Classical.byContradiction
      intro y2
      rw [hm'.mpr y2] at y
      exact absurd y (by decide)
theorem yw_compare (w : WF c) (hY : YS c a_first a_second a_third a_source a_register) {j : Nat} (hj : j < cN c) {post : SY → Prop}
    (h : ∀ t f s ap, (∀ a b, a < 2 ^ cR c → b < a → APT c j a b (ap (64 * a + b))) → post (nI (cN c), nI (cS c), nI (cR c), xK c, a_first, a_second, a_third, xF c, a_now, t, a_other, a_source, a_register, a_level, a_soon, a_depend, a_table, a_marked, f, s, ap)) : wpY_compare post (nI (cN c), nI (cS c), nI (cR c), xK c, a_first, a_second, a_third, xF c, a_now, a_at, a_other, a_source, a_register, a_level, a_soon, a_depend, a_table, a_marked, a_after, a_shows, a_apart) (nI j) := by
  obtain ⟨T, hT, hst⟩ := stb_ex (c := c) (j := j) w
  dsimp only [wpY_compare]
  refine yw_spread w hY (sh := fun a => EV c a j) (Or.inr ⟨j, hj, rfl, fun _ => rfl⟩) (fun t f s hf hs => ?_)
  dsimp only
  have L : ∀ d k n ap, k + d = 4096 → d < n → (∀ i, i < k → ap i = -1) → wY_compare_7 post (nI (cN c)) (nI (cS c)) (nI (cR c)) n (nI k) (xK c) a_first a_second a_third (xF c) a_now t a_other a_source a_register a_level a_soon a_depend a_table a_marked f s ap := by
    intro d
    induction d with
    | zero =>
      intro k n ap hk hn hap
      obtain ⟨n, rfl⟩ : ∃ n', n = n' + 1 := ⟨n - 1, by omega⟩
      unfold wY_compare_7
      refine br_t (nI_le (a := 4096) (by omega) (by omega)) (yw_inputs w hY ⟨T + 2, yw_compare37 w hY hT hst hf hs (fun ap' hap' => h t f s ap' hap') (T + 1) 0 _ true ap (by omega) (by omega) (fun a b ha hb => Or.inr ⟨trivial, ?_⟩) (fun _ => Or.inl rfl) (fun z => absurd z (by decide))⟩)
      have a6 := r64 w ha
      exact hap _ (by omega)
    | succ d ih =>
      intro k n ap hk hn hap
      obtain ⟨n, rfl⟩ : ∃ n', n = n' + 1 := ⟨n - 1, by omega⟩
      unfold wY_compare_7
      rw [gw_cl (by omega)]
      refine br_f (nI_ge (b := 4096) (by omega) (by omega)) ⟨vp_in_nI (by omega) (by omega), nm_e (nm_r (nI_1 k) (ih (k + 1) n _ (by omega) (by omega) (fun i hi => ?_)))⟩
      by_cases e : i = k
      · rw [e, pk_us]
      · rw [pk_un e]; exact hap i (by omega)
  exact ⟨4097, L 4096 0 _ a_apart (by omega) (by omega) (fun i hi => by omega)⟩
theorem ym_apart (w : WF c) {now : Nat} {v : SY} (hv : YR c now v) {j p q : Nat} (hj : j < cN c) (hp : p < 2 ^ cR c) (hq : q < 2 ^ cR c) {post : Int32 → SY → Prop} (h : ∀ v' r, YR c now v' → APT c j p q r → post r v') : wpY_apart post v (nI j) (nI p) (nI q) := by
  have hR := wf_R w
  have hR2 := gw_p2 (show cR c ≤ 10 by omega)
  have p6 := r64 w hp
  have q6 := r64 w hq
  refine yr_el (P := fun v => wpY_apart post v (nI j) (nI p) (nI q)) hv ?_
  intro a_first a_second a_third a_now a_at a_other a_source a_register a_level a_soon a_depend a_table a_marked a_after a_shows a_apart hY hN
  dsimp only [wpY_apart, wpY_in]
  have e1 : nI (2 ^ cR c) - 1 = nI (2 ^ cR c - 1) := pk_sub (Nat.two_pow_pos _)
  rw [gw_1shl (by omega), e1]
  refine nm_e (yw_isNet_t w hj (br_f (by decide) ?_))
  refine br_f (nI_pos (by omega)) (br_f (nI_nlt (by omega) (by omega)) (br_f (by decide) ?_))
  refine br_f (nI_pos (by omega)) (br_f (nI_nlt (by omega) (by omega)) (br_f (by decide) ?_))
  refine pk_eq p q (fun e => ?_) (fun e => ?_)
  · subst e
    exact h _ _ (yr_in hY hN) (Or.inr ⟨fun t => eq_refl t p, rfl⟩)
  · refine yw_compare w hY hj (fun t f s ap hap => ?_)
    dsimp only
    refine pk_le p q (fun l => ?_) (fun l => ?_)
    · rw [gw_Lmul, nI_add, gw_cl (by omega)]
      exact ⟨vp_in_nI (by omega) (by omega), h _ _ (yr_in hY hN) (apt_symm (hap q p hq (by omega)))⟩
    · rw [gw_Lmul, nI_add, gw_cl (by omega)]
      exact ⟨vp_in_nI (by omega) (by omega), h _ _ (yr_in hY hN) (hap p q hp l)⟩
theorem apt_nn {j a b : Nat} {v : Int32} (h : APT c j a b v) : 0 ≤ v ↔ ∃ t, ¬ EQX c j t a b := by
  rcases h with ⟨t, ht, h1, h2, rfl⟩ | ⟨h1, rfl⟩
  · exact ⟨fun _ => ⟨_, h2⟩, fun _ => nI_pos' (by omega)⟩
  · exact ⟨fun z => absurd z gw_m1le, fun ⟨t, z⟩ => absurd (h1 t) z⟩
theorem yw_classes35 (w : WF c) {j k : Nat} (hk : k < 2 ^ cR c) (hap : ∀ a b, a < 2 ^ cR c → b < a → APT c j a b (a_apart (64 * a + b))) {x2 : Nat} {post : Int32 → SY → Prop} {J19 : Int32 → Int32 → Prop}
    (hJ : ∀ o : Bool, (o = true ↔ ∀ d, d < k → ∃ t, ¬ EQX c j t k d) → J19 (nI (x2 + o.toNat)) (nI (k + 1))) :
    ∀ d b n o, b + d = k → d < n → (o = true ↔ ∀ e, e < b → ∃ t, ¬ EQX c j t k e) → wY_classes_35 post J19 (nI x2) (nI k) (nI (cN c)) (nI (cS c)) (nI (cR c)) (xK c) a_first a_second a_third (xF c) a_now a_at a_other a_source a_register a_level a_soon a_depend a_table a_marked a_after a_shows a_apart n (nI o.toNat) (nI b) := by
  have k6 := r64 w hk
  intro d
  induction d with
  | zero =>
    intro b n o hd hn ho
    obtain ⟨n, rfl⟩ : ∃ n', n = n' + 1 := ⟨n - 1, by omega⟩
    have : b = k := by omega
    subst this
    have := hJ o ho
    unfold wY_classes_35
    refine br_t (nI_le (Nat.le_refl _) (by omega)) ?_
    cases e : o
    · rw [e] at this
      exact br_t rfl (nm_r (nI_1 b) this)
    · rw [e] at this
      exact br_f (by decide) (nm_r (nI_1 x2) (nm_r (nI_1 b) this))
  | succ d ih =>
    intro b n o hd hn ho
    obtain ⟨n, rfl⟩ : ∃ n', n = n' + 1 := ⟨n - 1, by omega⟩
    have ha := apt_nn (hap k b hk (by omega))
    unfold wY_classes_35
    rw [gw_Lmul, nI_add, gw_cl (by omega)]
    refine br_f (nI_ge (by omega) (by omega)) ⟨vp_in_nI (by omega) (by omega), br_c (fun e => nm_r (nI_1 b) ?_) (fun e => nm_r (nI_1 b) ?_)⟩
    · refine ih (b + 1) n o (by omega) (by omega) ?_
      rw [ho]
      constructor
      · intro z f hf
        by_cases e2 : f = b
        · subst e2; exact ha.mp e
        · exact z f (by omega)
      · intro z f hf
        exact z f (by omega)
    · refine ih (b + 1) n false (by omega) (by omega) ⟨fun z => absurd z (by decide), fun z => absurd (ha.mpr (z b (by omega))) e⟩
theorem ym_classes (w : WF c) {now : Nat} {v : SY} (hv : YR c now v) {j : Nat} (hj : j < cN c) {post : Int32 → SY → Prop} (h : ∀ v' r, YR c now v' → CLS c j r → post r v') : wpY_classes post v (nI j) := by
  have hR := wf_R w
  have hR2 := gw_p2 (show cR c ≤ 10 by omega)
  refine yr_el (P := fun v => wpY_classes post v (nI j)) hv ?_
  intro a_first a_second a_third a_now a_at a_other a_source a_register a_level a_soon a_depend a_table a_marked a_after a_shows a_apart hY hN
  dsimp only [wpY_classes]
  refine yw_isNet_t w hj (br_f (by decide) (yw_compare w hY hj (fun t f s ap hap => ?_)))
  dsimp only
  have L : ∀ d k n (pb : Nat → Bool), k + d = 2 ^ cR c → d < n → (∀ q, q < k → (pb q = true ↔ ∀ d, d < q → ∃ t, ¬ EQX c j t q d)) → wY_classes_19 post (nI (cN c)) (nI (cS c)) (nI (cR c)) (xK c) a_first a_second a_third (xF c) a_now t a_other a_source a_register a_level a_soon a_depend a_table a_marked f s ap n (nI (cnt pb k)) (nI k) := by
    intro d
    induction d with
    | zero =>
      intro k n pb hk hn hpb
      obtain ⟨n, rfl⟩ : ∃ n', n = n' + 1 := ⟨n - 1, by omega⟩
      have : k = 2 ^ cR c := by omega
      subst this
      unfold wY_classes_19
      rw [gw_1shl (by omega)]
      exact br_t (nI_le (Nat.le_refl _) (by omega)) (h _ _ (yr_in hY hN) ⟨pb, hpb, rfl⟩)
    | succ d ih =>
      intro k n pb hk hn hpb
      obtain ⟨n, rfl⟩ : ∃ n', n = n' + 1 := ⟨n - 1, by omega⟩
      unfold wY_classes_19
      rw [gw_1shl (by omega)]
      refine br_f (nI_ge (by omega) (by omega)) ⟨k + 1, yw_classes35 w (by omega) hap (fun o ho => ?_) k 0 _ true (by omega) (by omega) ⟨fun _ e he => by omega, fun _ => rfl⟩⟩
      have hi := ih (k + 1) n (fun q => if q = k then o else pb q) (by omega) (by omega) (fun q hq => ?_)
      · rw [cnt_s] at hi
        have e : cnt (fun q => if q = k then o else pb q) k = cnt pb k := cnt_congr (fun i hi => by
          show (if i = k then o else pb i) = _
          rw [if_neg (by omega)])
        rw [e, if_pos rfl] at hi
        exact hi
      · show ((if q = k then o else pb q) = true ↔ _)
        by_cases e : q = k
        · rw [if_pos e, e]; exact ho
        · rw [if_neg e]; exact hpb q (by omega)
  exact ⟨2 ^ cR c + 1, L (2 ^ cR c) 0 _ (fun _ => false) (by omega) (by omega) (fun q hq => by omega)⟩
end
end
section
/-! ===== cubes: the pure rows ===== -/
/-- a function is 1 in all of a cube: in free any value, elsewhere as in i -/
def HQ (tb : Nat → Bool) (m f i : Nat) : Prop := ∀ a, a < 2 ^ m → (∀ k, k < m → f.testBit k = false → a.testBit k = i.testBit k) → tb a = true
def PQ (tb : Nat → Bool) (m f i : Nat) : Prop := HQ tb m f i ∧ ∀ v, v < m → f.testBit v = false → ¬ HQ tb m (f ||| 2 ^ v) i
section
variable {tb : Nat → Bool} {m : Nat}
theorem hq_congr {f f' i i' : Nat} (hf : ∀ k, k < m → f.testBit k = f'.testBit k) (hi : ∀ k, k < m → f.testBit k = false → i.testBit k = i'.testBit k) : HQ tb m f i ↔ HQ tb m f' i' := by
  constructor
  · intro h a ha hk
    refine h a ha (fun k hkm hfk => ?_)
    rw [hk k hkm (by rw [← hf k hkm]; exact hfk), hi k hkm hfk]
  · intro h a ha hk
    refine h a ha (fun k hkm hfk => ?_)
    rw [← hf k hkm] at hfk
    rw [hk k hkm hfk, hi k hkm hfk]
theorem hq_or {f v : Nat} (k : Nat) : (f ||| 2 ^ v).testBit k = (f.testBit k || decide (v = k)) := by
  rw [Nat.testBit_or, Nat.testBit_two_pow]
theorem hq_x {i v : Nat} (k : Nat) : (i ^^^ 2 ^ v).testBit k = (i.testBit k ^^ decide (v = k)) := by
  rw [Nat.testBit_xor, Nat.testBit_two_pow]
theorem hq_split {f i v : Nat} (hv : v < m) (hf : f.testBit v = false) : HQ tb m (f ||| 2 ^ v) i ↔ HQ tb m f i ∧ HQ tb m f (i ^^^ 2 ^ v) := by
  constructor
  · intro h
    constructor
    · intro a ha hk
      refine h a ha (fun k hkm hfk => ?_)
      rw [hq_or, Bool.or_eq_false_iff] at hfk
      exact hk k hkm hfk.1
    · intro a ha hk
      refine h a ha (fun k hkm hfk => ?_)
      rw [hq_or, Bool.or_eq_false_iff] at hfk
      rw [hk k hkm hfk.1, hq_x, hfk.2, Bool.xor_false]
  · rintro ⟨h1, h2⟩ a ha hk
    by_cases e : a.testBit v = i.testBit v
    · refine h1 a ha (fun k hkm hfk => ?_)
      by_cases e2 : v = k
      · subst e2; exact e
      · exact hk k hkm (by rw [hq_or, hfk, decide_eq_false e2]; rfl)
    · refine h2 a ha (fun k hkm hfk => ?_)
      rw [hq_x]
      by_cases e2 : v = k
      · subst e2
        rw [decide_eq_true rfl]
        cases ea : a.testBit v <;> cases ei : i.testBit v <;> simp_all
      · rw [decide_eq_false e2, Bool.xor_false]
        exact hk k hkm (by rw [hq_or, hfk, decide_eq_false e2]; rfl)
theorem hq_0 {i : Nat} (hi : i < 2 ^ m) : HQ tb m 0 i ↔ tb i = true := by
  constructor
  · intro h; exact h i hi (fun _ _ _ => rfl)
  · intro h a ha hk
    have : a = i := tb_ext ha hi (fun k hkm => hk k hkm (Nat.zero_testBit _))
    rw [this]; exact h
end
theorem sumN_add (g : Nat → Nat) (a : Nat) : ∀ b, sumN g (a + b) = sumN g a + sumN (fun i => g (a + i)) b
  | 0 => rfl
  | b + 1 => by
    show sumN g (a + b) + g (a + b) = _
    rw [sumN_add g a b]
    show _ = sumN g a + (sumN (fun i => g (a + i)) b + g (a + b))
    omega
theorem sumN_2 (g h : Nat → Nat) : ∀ n, sumN (fun i => g i + h i) n = sumN g n + sumN h n
  | 0 => rfl
  | n + 1 => by
    show sumN (fun i => g i + h i) n + (g n + h n) = (sumN g n + g n) + (sumN h n + h n)
    rw [sumN_2 g h n]
    omega
theorem sumN_congr {g h : Nat → Nat} : ∀ n, (∀ i, i < n → g i = h i) → sumN g n = sumN h n
  | 0, _ => rfl
  | n + 1, H => by
    show sumN g n + g n = sumN h n + h n
    rw [sumN_congr n (fun i hi => H i (by omega)), H n (by omega)]
/-- digits to the base 3 -/
def dg (x k : Nat) : Nat := x / 3 ^ k % 3
def frd (m x : Nat) : Nat := bld (fun k => decide (dg x k = 2)) m
def vld (m x : Nat) : Nat := bld (fun k => decide (dg x k = 1)) m
theorem dg_lo {m d x k : Nat} (hk : k < m) : dg (d * 3 ^ m + x) k = dg x k := by
  unfold dg
  have e : d * 3 ^ m + x = x + 3 ^ k * (d * 3 ^ (m - k)) := by
    have : 3 ^ m = 3 ^ k * 3 ^ (m - k) := by rw [← Nat.pow_add]; congr 1; omega
    rw [this, Nat.add_comm, Nat.mul_left_comm]
  have p : 0 < 3 ^ k := Nat.pow_pos (by decide)
  have e2 : 3 ^ (m - k) = 3 * 3 ^ (m - k - 1) := by
    rw [← Nat.pow_succ']
    congr 1
    omega
  rw [e, Nat.add_mul_div_left _ _ p, e2, Nat.mul_left_comm, Nat.add_mul_mod_self_left]
theorem dg_hi {m d x : Nat} (hd : d < 3) (hx : x < 3 ^ m) : dg (d * 3 ^ m + x) m = d := by
  unfold dg
  have p : 0 < 3 ^ m := Nat.pow_pos (by decide)
  rw [Nat.mul_comm, Nat.mul_add_div p, Nat.div_eq_of_lt hx, Nat.add_zero, Nat.mod_eq_of_lt hd]
theorem frd_s {m d x : Nat} (hd : d < 3) (hx : x < 3 ^ m) : frd (m + 1) (d * 3 ^ m + x) = frd m x + (decide (d = 2)).toNat * 2 ^ m := by
  unfold frd
  rw [bld_s, dg_hi hd hx]
  congr 1
  exact bld_congr (fun k hk => by rw [dg_lo hk])
theorem vld_s {m d x : Nat} (hd : d < 3) (hx : x < 3 ^ m) : vld (m + 1) (d * 3 ^ m + x) = vld m x + (decide (d = 1)).toNat * 2 ^ m := by
  unfold vld
  rw [bld_s, dg_hi hd hx]
  congr 1
  exact bld_congr (fun k hk => by rw [dg_lo hk])
def djb (f i : Nat) : Bool := decide (f &&& i = 0)
theorem dj_lo {f i m : Nat} (hf : f < 2 ^ m) : djb f (2 ^ m + i) = djb f i := by
  have e : f &&& (2 ^ m + i) = f &&& i := by
    apply Nat.eq_of_testBit_eq
    intro k
    rw [Nat.testBit_and, Nat.testBit_and]
    by_cases hk : k < m
    · rw [Nat.testBit_two_pow_add_gt hk]
    · rw [tb_hi hf (by omega), Bool.false_and, Bool.false_and]
  unfold djb
  rw [e]
theorem dj_sw {f i : Nat} : djb f i = djb i f := by
  unfold djb
  rw [Nat.and_comm]
theorem dj_hh {f i m : Nat} (hf : f < 2 ^ m) (hi : i < 2 ^ m) : djb (2 ^ m + f) (2 ^ m + i) = false := by
  unfold djb
  apply decide_eq_false
  intro e
  have := congrArg (fun x => x.testBit m) e
  simp only [Nat.testBit_and, Nat.testBit_two_pow_add_eq, tb_hi hf (Nat.le_refl m), tb_hi hi (Nat.le_refl m), Nat.zero_testBit] at this
  exact absurd this (by decide)
/-- the cubes by their digits are the cubes by free sources and values -/
theorem tri_cnt : ∀ m (F : Nat → Nat → Bool), cnt (fun x => F (frd m x) (vld m x)) (3 ^ m) = sumN (fun f => cnt (fun i => djb f i && F f i) (2 ^ m)) (2 ^ m)
  | 0, F => by simp [cnt, sumN, djb, frd, vld, bld]
  | m + 1, F => by
    have e3 : 3 ^ (m + 1) = 3 ^ m + (3 ^ m + 3 ^ m) := by rw [Nat.pow_succ]; omega
    have e2 : 2 ^ (m + 1) = 2 ^ m + 2 ^ m := by rw [Nat.pow_succ]; omega
    have c0 : cnt (fun x => F (frd (m + 1) x) (vld (m + 1) x)) (3 ^ m) = cnt (fun x => F (frd m x) (vld m x)) (3 ^ m) := cnt_congr (fun x hx => by
      have a1 := frd_s (d := 0) (by decide) hx
      have a2 := vld_s (d := 0) (by decide) hx
      rw [Nat.zero_mul, Nat.zero_add] at a1 a2
      rw [a1, a2]
      simp)
    have c1 : cnt (fun x => F (frd (m + 1) (3 ^ m + x)) (vld (m + 1) (3 ^ m + x))) (3 ^ m) = cnt (fun x => F (frd m x) (2 ^ m + vld m x)) (3 ^ m) := cnt_congr (fun x hx => by
      have a1 := frd_s (d := 1) (by decide) hx
      have a2 := vld_s (d := 1) (by decide) hx
      rw [Nat.one_mul] at a1 a2
      rw [a1, a2]
      simp [Nat.add_comm])
    have c2 : cnt (fun x => F (frd (m + 1) (3 ^ m + (3 ^ m + x))) (vld (m + 1) (3 ^ m + (3 ^ m + x)))) (3 ^ m) = cnt (fun x => F (2 ^ m + frd m x) (vld m x)) (3 ^ m) := cnt_congr (fun x hx => by
      have a1 := frd_s (d := 2) (by decide) hx
      have a2 := vld_s (d := 2) (by decide) hx
      rw [show 2 * 3 ^ m + x = 3 ^ m + (3 ^ m + x) by omega] at a1 a2
      rw [a1, a2]
      simp [Nat.add_comm])
    rw [e3, cnt_add, cnt_add, c0, c1, c2, tri_cnt m F, tri_cnt m (fun f i => F f (2 ^ m + i)), tri_cnt m (fun f i => F (2 ^ m + f) i), e2, sumN_add]
    have s1 : sumN (fun f => cnt (fun i => djb f i && F f i) (2 ^ m + 2 ^ m)) (2 ^ m) = sumN (fun f => cnt (fun i => djb f i && F f i) (2 ^ m)) (2 ^ m) + sumN (fun f => cnt (fun i => djb f i && F f (2 ^ m + i)) (2 ^ m)) (2 ^ m) := by
      rw [← sumN_2]
      refine sumN_congr _ (fun f hf => ?_)
      rw [cnt_add]
      congr 1
      exact cnt_congr (fun i hi => by rw [dj_lo hf])
    have s2 : sumN (fun f => cnt (fun i => djb (2 ^ m + f) i && F (2 ^ m + f) i) (2 ^ m + 2 ^ m)) (2 ^ m) = sumN (fun f => cnt (fun i => djb f i && F (2 ^ m + f) i) (2 ^ m)) (2 ^ m) := by
      refine sumN_congr _ (fun f hf => ?_)
      rw [cnt_add]
      have z : cnt (fun i => djb (2 ^ m + f) (2 ^ m + i) && F (2 ^ m + f) (2 ^ m + i)) (2 ^ m) = 0 := cnt_0 (fun i hi => by rw [dj_hh hf hi, Bool.false_and])
      rw [z, Nat.add_zero]
      exact cnt_congr (fun i hi => by rw [dj_sw, dj_lo hi, dj_sw])
    rw [s1, s2]
    omega
/-- the sources that count, in order -/
def dpf (p : Nat → Bool) : Nat → Nat → Nat
  | 0 => fun _ => 0
  | s + 1 => fun k => if p s = true ∧ k = cnt p s then s else dpf p s k
theorem dpf_new {p : Nat → Bool} {s : Nat} (h : p s = true) : dpf p (s + 1) (cnt p s) = s := by
  show (if p s = true ∧ cnt p s = cnt p s then s else dpf p s (cnt p s)) = s
  rw [if_pos ⟨h, rfl⟩]
theorem dpf_old {p : Nat → Bool} {s k : Nat} (h : k < cnt p s) : dpf p (s + 1) k = dpf p s k := by
  show (if p s = true ∧ k = cnt p s then s else dpf p s k) = _
  rw [if_neg (by omega)]
theorem dpf_lt {p : Nat → Bool} : ∀ s k, k < cnt p s → dpf p s k < s
  | 0, k, h => absurd h (Nat.not_lt_zero _)
  | s + 1, k, h => by
    show (if p s = true ∧ k = cnt p s then s else dpf p s k) < s + 1
    by_cases e : p s = true ∧ k = cnt p s
    · rw [if_pos e]; omega
    · rw [if_neg e]
      rw [cnt_s] at h
      have : k < cnt p s := by
        cases ep : p s
        · rw [ep] at h; simpa using h
        · rw [ep] at h
          have h2 : k < cnt p s + 1 := h
          have : ¬ k = cnt p s := fun z => e ⟨ep, z⟩
          omega
      have := dpf_lt s k this
      omega
/-- the assignment of values of these sources -/
def spr (dep : Nat → Nat) (a : Nat) : Nat → Nat
  | 0 => 0
  | k + 1 => spr dep a k ||| (a.testBit k).toNat * 2 ^ dep k
theorem spr_lt {dep : Nat → Nat} {a n : Nat} : ∀ k, (∀ i, i < k → dep i < n) → spr dep a k < 2 ^ n
  | 0, _ => Nat.two_pow_pos _
  | k + 1, h => by
    refine Nat.or_lt_two_pow (spr_lt k (fun i hi => h i (by omega))) ?_
    have h2 : 2 ^ dep k < 2 ^ n := Nat.pow_lt_pow_right (by decide) (h k (by omega))
    cases a.testBit k
    · simp only [Bool.toNat_false, Nat.zero_mul]; exact Nat.two_pow_pos n
    · simp only [Bool.toNat_true, Nat.one_mul]; exact h2
/-- the table that the cubes are of -/
def ctb (c : CK) (j : Nat) (p : Nat → Bool) (a : Nat) : Bool := EV c (spr (dpf p (cS c)) a (cnt p (cS c))) j
/-- the answer -/
def PRM (c : CK) (j : Nat) (p : Nat → Bool) (r : Int32) : Prop := (6 < cnt p (cS c) ∧ r = -2) ∨ (cnt p (cS c) ≤ 6 ∧ ∃ F : Nat → Nat → Bool, (∀ f i, f < 2 ^ cnt p (cS c) → i < 2 ^ cnt p (cS c) → (F f i = true ↔ PQ (ctb c j p) (cnt p (cS c)) f i)) ∧ r = nI (cnt (fun x => F (frd (cnt p (cS c)) x) (vld (cnt p (cS c)) x)) (3 ^ cnt p (cS c))))
theorem frd_lt (m x : Nat) : frd m x < 2 ^ m := bld_lt _ _
theorem vld_lt (m x : Nat) : vld m x < 2 ^ m := bld_lt _ _
theorem prm_uni {c : CK} {j : Nat} {p : Nat → Bool} {r r' : Int32} (h : PRM c j p r) (h' : PRM c j p r') : r' = r := by
  rcases h with ⟨h1, rfl⟩ | ⟨h1, F, h2, rfl⟩ <;> rcases h' with ⟨k1, rfl⟩ | ⟨k1, F', k2, rfl⟩
  · rfl
  · omega
  · omega
  · generalize cnt p (cS c) = m at *
    have e : cnt (fun x => F' (frd m x) (vld m x)) (3 ^ m) = cnt (fun x => F (frd m x) (vld m x)) (3 ^ m) := cnt_congr (fun x hx => by
      have a := h2 _ _ (frd_lt m x) (vld_lt m x)
      have b := k2 _ _ (frd_lt m x) (vld_lt m x)
      cases ea : F (frd m x) (vld m x) <;> cases eb : F' (frd m x) (vld m x)
      · rfl
      · rw [a.mpr (b.mp eb)] at ea; exact absurd ea (by decide)
      · rw [b.mpr (a.mp ea)] at eb; exact absurd eb (by decide)
      · rfl)
    rw [e]
end
section
/-! ===== X: primes ===== -/
theorem nclr {n k : Nat} (h1 : n.testBit k = true) (h2 : ∀ i, i < k → n.testBit i = false) (i : Nat) : (n &&& (n - 1)).testBit i = (n.testBit i && !decide (i = k)) := by
  have e1 : n % 2 ^ k = 0 := by
    apply Nat.eq_of_testBit_eq
    intro j
    rw [Nat.testBit_mod_two_pow, Nat.zero_testBit]
    by_cases hj : j < k
    · rw [h2 j hj, Bool.and_false]
    · rw [decide_eq_false hj, Bool.false_and]
  have e2 : n / 2 ^ k % 2 = 1 := by
    rw [Nat.testBit_eq_decide_div_mod_eq] at h1
    simpa using h1
  have hp : 0 < 2 ^ k := Nat.two_pow_pos k
  have hp2 : 2 ^ (k + 1) = 2 ^ k + 2 ^ k := by rw [Nat.pow_succ]; omega
  have e3 : n = 2 ^ (k + 1) * (n / 2 ^ (k + 1)) + 2 ^ k := by
    have a1 := Nat.div_add_mod n (2 ^ (k + 1))
    have a2 : n % 2 ^ (k + 1) = 2 ^ k := by
      rw [Nat.mod_pow_succ, e1, e2, Nat.mul_one, Nat.zero_add]
    rw [a2] at a1
    exact a1.symm
  generalize n / 2 ^ (k + 1) = q at e3
  have e4 : n - 1 = 2 ^ (k + 1) * q + (2 ^ k - 1) := by omega
  rw [Nat.testBit_and, e4, e3, Nat.testBit_two_pow_mul_add _ (by omega), Nat.testBit_two_pow_mul_add _ (by omega)]
  by_cases h : i < k + 1
  · rw [if_pos h, if_pos h, Nat.testBit_two_pow, Nat.testBit_two_pow_sub_one]
    by_cases e : k = i
    · subst e; simp
    · simp [e]
  · rw [if_neg h, if_neg h]
    have : ¬ i = k := by omega
    simp [this]
theorem xo_f {i s : Nat} (h : i.testBit s = false) : i ^^^ 2 ^ s = i + 2 ^ s := by
  rw [← or_addt h]
  apply Nat.eq_of_testBit_eq
  intro k
  rw [hq_x, hq_or]
  by_cases e : s = k
  · subst e; rw [h, decide_eq_true rfl]; rfl
  · rw [decide_eq_false e, Bool.xor_false, Bool.or_false]
theorem xo_t {i s : Nat} (h : i.testBit s = true) : i ^^^ 2 ^ s = i - 2 ^ s ∧ 2 ^ s ≤ i ∧ (i - 2 ^ s).testBit s = false := by
  have hge := Nat.ge_two_pow_of_testBit h
  have h3 : (i - 2 ^ s).testBit s = false := by
    have := Nat.testBit_two_pow_add_eq (i - 2 ^ s) s
    rw [show 2 ^ s + (i - 2 ^ s) = i by omega, h] at this
    cases e : (i - 2 ^ s).testBit s
    · rfl
    · rw [e] at this; exact absurd this (by decide)
  refine ⟨?_, hge, h3⟩
  have h4 := or_addt h3
  rw [show i - 2 ^ s + 2 ^ s = i by omega] at h4
  apply Nat.eq_of_testBit_eq
  intro k
  rw [hq_x, ← h4]
  rw [show (i - 2 ^ s ||| 2 ^ s) - 2 ^ s = i - 2 ^ s by rw [h4], hq_or]
  by_cases e : s = k
  · subst e; rw [h3, decide_eq_true rfl]; rfl
  · rw [decide_eq_false e, Bool.xor_false, Bool.or_false]
section
variable {c : CK} {f_now : Int32} {f_right : Int32} {f_levelsKnown : Int32} {f_head : Int32} {f_tail : Int32} {f_met : Int64} {f_comesKnown : Int32} {f_entry : Int32} {f_round : Int32} {a_table : Nat → Int64} {a_saved : Nat → Int64} {a_matters : Nat → Int32} {a_cubes : Nat → Int64} {a_levels : Nat → Int32} {a_edgeFlow : Nat → Int32} {a_netFlow : Nat → Int32} {a_queue : Nat → Int32} {a_before : Nat → Int32} {a_edge : Nat → Int32} {a_leads : Nat → Int64} {a_comes : Nat → Int32} {a_group : Nat → Int32} {a_later : Nat → Int32} {a_goes : Nat → Int32} {a_shows : Nat → Int32}
theorem xw_exchanged {v : Int64} {s : Nat} (hs : s < 6) {post : Int64 → Prop} (h : ∀ z, (∀ i, i < 64 → lb z i = lb v (i ^^^ 2 ^ s)) → post z) : wpX_exchanged post v (nI s) := by
  have hp : 2 ^ s ≤ 2 ^ 5 := Nat.pow_le_pow_right (by decide) (by omega)
  unfold wpX_exchanged
  refine xw_pattern (v := 0) (by omega) (by omega) (fun r hr => h _ (fun i hi => ?_))
  rw [gw_1shl (by omega), lb_or, lb_ushr (by omega), lb_shl (by omega) _ hi, lb_and, lb_and]
  have h1 := Nat.testBit_two_pow_add_eq i s
  have hsub : i - 2 ^ s < 64 := Nat.lt_of_le_of_lt (Nat.sub_le _ _) hi
  cases e : i.testBit s
  · rw [e] at h1
    rw [xo_f e]
    have e6 : i + 2 ^ s < 64 := by
      rw [← or_addt e]
      exact or_lt (n := 6) hi hs
    rw [hr (2 ^ s + i) (by omega), Nat.mul_zero, Nat.zero_add, h1]
    have z : (decide (2 ^ s ≤ i) && (lb v (i - 2 ^ s) && lb (r ^^^ -1) (i - 2 ^ s))) = false := by
      by_cases hle : 2 ^ s ≤ i
      · have h2 := Nat.testBit_two_pow_add_eq (i - 2 ^ s) s
        rw [show 2 ^ s + (i - 2 ^ s) = i by omega, e] at h2
        have h3 : (i - 2 ^ s).testBit s = true := by
          cases y : (i - 2 ^ s).testBit s
          · rw [y] at h2; exact absurd h2 (by decide)
          · rfl
        rw [lb_not _ hsub, hr _ hsub, Nat.mul_zero, Nat.zero_add, h3]
        simp
      · rw [decide_eq_false hle, Bool.false_and]
    rw [z, Nat.add_comm i]
    simp
  · rw [e] at h1
    obtain ⟨h2, h3, h4⟩ := xo_t e
    rw [h2]
    have z : (lb v (2 ^ s + i) && lb r (2 ^ s + i)) = false := by
      by_cases hlt : 2 ^ s + i < 64
      · rw [hr _ hlt, Nat.mul_zero, Nat.zero_add, h1]
        simp
      · rw [lb_ge (by omega), Bool.false_and]
    rw [z, decide_eq_true h3, lb_not _ hsub, hr _ hsub, Nat.mul_zero, Nat.zero_add, h4]
    simp
/-- the cubes with sets below n are right -/
def CUB (tb : Nat → Bool) (m n : Nat) (cu : Nat → Int64) : Prop := ∀ f, f < n → ∀ i, i < 64 → (lb (cu f) i = true ↔ i < 2 ^ m ∧ HQ tb m f i)
end
section
variable {f_nets : Int32} {f_sources : Int32} {f_registers : Int32} {f_now : Int32} {f_right : Int32} {f_levelsKnown : Int32} {f_head : Int32} {f_tail : Int32} {f_met : Int64} {f_comesKnown : Int32} {f_entry : Int32} {f_round : Int32} {a_kinds : Nat → Int32} {a_operand : Nat → Int32} {a_nexts : Nat → Int32} {a_sourceAt : Nat → Int32} {a_registerAt : Nat → Int32} {a_registerSource : Nat → Int32} {a_table : Nat → Int64} {a_saved : Nat → Int64} {a_matters : Nat → Int32} {a_cubes : Nat → Int64} {a_levels : Nat → Int32} {a_edgeFlow : Nat → Int32} {a_netFlow : Nat → Int32} {a_queue : Nat → Int32} {a_before : Nat → Int32} {a_edge : Nat → Int32} {a_leads : Nat → Int64} {a_comes : Nat → Int32} {a_group : Nat → Int32} {a_later : Nat → Int32} {a_goes : Nat → Int32} {a_shows : Nat → Int32}
theorem xw_widn {tb : Nat → Bool} {m f : Nat} (hm : m ≤ 6) (hf : f < 2 ^ m) (h0 : 1 ≤ f) (hc : CUB tb m f a_cubes) {post : SX → Prop} (h : ∀ cu, CUB tb m (f + 1) cu → post (f_nets, f_sources, f_registers, f_now, f_right, f_levelsKnown, f_head, f_tail, f_met, f_comesKnown, f_entry, f_round, a_kinds, a_operand, a_nexts, a_sourceAt, a_registerAt, a_registerSource, a_table, a_saved, a_matters, cu, a_levels, a_edgeFlow, a_netFlow, a_queue, a_before, a_edge, a_leads, a_comes, a_group, a_later, a_goes, a_shows)) : wpX_widen post (f_nets, f_sources, f_registers, f_now, f_right, f_levelsKnown, f_head, f_tail, f_met, f_comesKnown, f_entry, f_round, a_kinds, a_operand, a_nexts, a_sourceAt, a_registerAt, a_registerSource, a_table, a_saved, a_matters, a_cubes, a_levels, a_edgeFlow, a_netFlow, a_queue, a_before, a_edge, a_leads, a_comes, a_group, a_later, a_goes, a_shows) (nI f) := by
  have hm64 : 2 ^ m ≤ 64 := Nat.pow_le_pow_right (n := 2) (j := 6) (by decide) hm
  obtain ⟨v, hv, hmin⟩ := pk_least (fun i => f.testBit i = true) (Nat.exists_testBit_of_ne_zero (by omega))
  have hmin : ∀ i, i < v → f.testBit i = false := fun i hi => by
    cases e : f.testBit i
    · rfl
    · exact absurd e (hmin i hi)
  have hvm : v < m := by
    apply Classical.byContradiction
    intro z
    rw [tb_hi hf (by omega)] at hv
    exact absurd hv (by decide)
  have hcl := nclr hv hmin
  have hle : f &&& (f - 1) ≤ f - 1 := Nat.and_le_right
  have e1 : nI f - 1 = nI (f - 1) := pk_sub h0
  have e2 : nI f &&& (nI f - 1) = nI (f &&& (f - 1)) := by rw [e1, nx_and]
  generalize f &&& (f - 1) = g at hcl hle e2
  have hgv : g.testBit v = false := by rw [hcl, decide_eq_true rfl]; simp
  have hgf : ∀ k, k < m → (g ||| 2 ^ v).testBit k = f.testBit k := fun k _ => by
    rw [hq_or, hcl]
    by_cases e : v = k
    · subst e; rw [hv, decide_eq_true rfl]; rfl
    · have e' : ¬ k = v := fun z => e z.symm
      rw [decide_eq_false e, decide_eq_false e']
      simp
  have L : ∀ d u n, u + d = v → d < n → wX_widen_2 post (nI f) f_nets f_sources f_registers f_now f_right f_levelsKnown f_head f_tail f_met f_comesKnown f_entry f_round a_kinds a_operand a_nexts a_sourceAt a_registerAt a_registerSource a_table a_saved a_matters a_cubes a_levels a_edgeFlow a_netFlow a_queue a_before a_edge a_leads a_comes a_group a_later a_goes a_shows n (nI u) := by
    intro d
    induction d with
    | zero =>
      intro u n hu hn
      obtain ⟨n, rfl⟩ : ∃ n', n = n' + 1 := ⟨n - 1, by omega⟩
      have : u = v := by omega
      subst this
      unfold wX_widen_2
      rw [gw_bit (by omega) (by omega), hv, e2, gw_cl (by omega), gw_cl (by omega)]
      refine br_f (by decide) ⟨vp_in_nI (by omega) (by omega), nm_e (xw_exchanged (by omega) (fun z hz => ⟨vp_in_nI (by omega) (by omega), nm_e (h _ (fun f2 hf2 i hi => ?_))⟩))⟩
      by_cases e : f2 = f
      · rw [e, gw_uL, if_pos rfl, lb_and, Bool.and_eq_true, hz i hi, hc g (by omega) i hi]
        have hx64 : i ^^^ 2 ^ u < 64 := Nat.xor_lt_two_pow (n := 6) hi (Nat.pow_lt_pow_right (by decide) (by omega))
        rw [hc g (by omega) _ hx64, ← hq_congr hgf (fun k _ _ => rfl), hq_split hvm hgv]
        constructor
        · rintro ⟨⟨a1, a2⟩, _, a3⟩
          exact ⟨a1, a2, a3⟩
        · rintro ⟨a1, a2, a3⟩
          exact ⟨⟨a1, a2⟩, Nat.xor_lt_two_pow a1 (Nat.pow_lt_pow_right (by decide) hvm), a3⟩
      · rw [gw_uL, if_neg e]
        exact hc f2 (by omega) i hi
    | succ d ih =>
      intro u n hu hn
      obtain ⟨n, rfl⟩ : ∃ n', n = n' + 1 := ⟨n - 1, by omega⟩
      unfold wX_widen_2
      rw [gw_bit (by omega) (by omega), hmin u (by omega)]
      exact br_t rfl (nm_r (nI_1 u) (ih (u + 1) n (by omega) (by omega)))
  exact ⟨v + 1, L v 0 _ (by omega) (by omega)⟩
theorem xw_great42 {tb : Nat → Bool} {m f : Nat} (hm : m ≤ 6) (hf : f < 2 ^ m) (hc : CUB tb m (2 ^ m) a_cubes) {F : Nat → Nat → Bool} (hF : ∀ f i, f < 2 ^ m → i < 2 ^ m → (F f i = true ↔ PQ tb m f i)) {x2 : Nat} {post : Int32 → SX → Prop} {J24 : Int32 → Int32 → Prop}
    (hJ : J24 (nI (x2 + cnt (fun i => djb f i && F f i) (2 ^ m))) (nI (f + 1))) :
    ∀ d v n own, v + d = m → d < n → (∀ i, i < 64 → (lb own i = true ↔ (i < 2 ^ m ∧ HQ tb m f i) ∧ ∀ u, u < v → (f.testBit u = true → i.testBit u = false) ∧ (f.testBit u = false → ¬ HQ tb m (f ||| 2 ^ u) i))) →
      wX_greatest_42 post J24 (nI m) (nI x2) (nI f) f_nets f_sources f_registers f_now f_right f_levelsKnown f_head f_tail f_met f_comesKnown f_entry f_round a_kinds a_operand a_nexts a_sourceAt a_registerAt a_registerSource a_table a_saved a_matters a_cubes a_levels a_edgeFlow a_netFlow a_queue a_before a_edge a_leads a_comes a_group a_later a_goes a_shows n own (nI v) := by
  have hm64 : 2 ^ m ≤ 64 := Nat.pow_le_pow_right (n := 2) (j := 6) (by decide) hm
  intro d
  induction d with
  | zero =>
    intro v n own hv hn ho
    obtain ⟨n, rfl⟩ : ∃ n', n = n' + 1 := ⟨n - 1, by omega⟩
    have : v = m := by omega
    subst this
    unfold wX_greatest_42
    refine br_t (nI_le (Nat.le_refl _) (by omega)) (xw_ones _ (nm_r (nI_add _ _) (nm_r (nI_1 f) ?_)))
    have e : cnt (lb own) 64 = cnt (fun i => djb f i && F f i) (2 ^ v) := by
      rw [cnt_ext hm64 (fun i hi1 hi2 => ?_)]
      · refine cnt_congr (fun i hi => ?_)
        have h1 := ho i (by omega)
        have h2 := hF f i hf hi
        have h3 : (djb f i = true ↔ ∀ u, u < v → f.testBit u = true → i.testBit u = false) := by
          unfold djb
          rw [decide_eq_true_eq]
          constructor
          · intro z u hu hfu
            have := congrArg (fun x => x.testBit u) z
            simp only [Nat.testBit_and, Nat.zero_testBit, hfu, Bool.true_and] at this
            exact this
          · intro z
            apply Nat.eq_of_testBit_eq
            intro u
            rw [Nat.testBit_and, Nat.zero_testBit]
            by_cases hu : u < v
            · cases hfu : f.testBit u
              · rfl
              · rw [z u hu hfu]; rfl
            · rw [tb_hi hf (by omega), Bool.false_and]
        have h4 : lb own i = true ↔ (djb f i && F f i) = true := by
          rw [h1, Bool.and_eq_true, h2, h3]
          unfold PQ
          constructor
          · rintro ⟨⟨_, a1⟩, a2⟩
            exact ⟨fun u hu => (a2 u hu).1, a1, fun u hu => (a2 u hu).2⟩
          · rintro ⟨a1, a2, a3⟩
            exact ⟨⟨hi, a2⟩, fun u hu => ⟨a1 u hu, a3 u hu⟩⟩
        cases ea : lb own i <;> cases eb : (djb f i && F f i)
        · rfl
        · rw [h4.mpr eb] at ea; exact absurd ea (by decide)
        · rw [h4.mp ea] at eb; exact absurd eb (by decide)
        · rfl
      · cases e : lb own i
        · rfl
        · have := ((ho i hi2).mp e).1.1
          omega
    rw [e]
    exact hJ
  | succ d ih =>
    intro v n own hv hn ho
    obtain ⟨n, rfl⟩ : ∃ n', n = n' + 1 := ⟨n - 1, by omega⟩
    have hvm : v < m := by omega
    unfold wX_greatest_42
    rw [gw_bit (by omega) (by omega), gw_1shl (by omega), gw_or]
    have hor := or_lt hf hvm
    rw [gw_cl (by omega)]
    refine br_f (nI_ge (by omega) (by omega)) (br_c (fun e => ?_) (fun e => ?_))
    · rw [gw_bt1] at e
      refine xw_pattern (v := 0) (by omega) (by omega) (fun r hr => nm_e (nm_r (nI_1 v) (ih (v + 1) n _ (by omega) (by omega) (fun i hi => ?_))))
      rw [lb_and, lb_not _ hi, hr i hi, Nat.mul_zero, Nat.zero_add, Bool.and_eq_true, ho i hi]
      constructor
      · rintro ⟨⟨a1, a2⟩, a3⟩
        refine ⟨a1, fun u hu => ?_⟩
        by_cases eu : u = v
        · subst eu
          refine ⟨fun _ => ?_, fun z => ?_⟩
          · cases ei : i.testBit u
            · rfl
            · rw [ei] at a3; exact absurd a3 (by decide)
          · rw [e] at z; exact absurd z (by decide)
        · exact a2 u (by omega)
      · rintro ⟨a1, a2⟩
        refine ⟨⟨a1, fun u hu => a2 u (by omega)⟩, ?_⟩
        rw [(a2 v (by omega)).1 e]
        rfl
    · rw [gw_bt1] at e
      have e := ts_nt e
      refine ⟨vp_in_nI (by omega) (by omega), nm_e (nm_r (nI_1 v) (ih (v + 1) n _ (by omega) (by omega) (fun i hi => ?_)))⟩
      have hcu := hc _ hor i hi
      rw [lb_and, lb_not _ hi, Bool.and_eq_true, ho i hi]
      constructor
      · rintro ⟨⟨a1, a2⟩, a3⟩
        refine ⟨a1, fun u hu => ?_⟩
        by_cases eu : u = v
        · subst eu
          refine ⟨fun z => ?_, fun _ z => ?_⟩
          · rw [e] at z; exact absurd z (by decide)
          · rw [hcu.mpr ⟨a1.1, z⟩] at a3; exact absurd a3 (by decide)
        · exact a2 u (by omega)
      · rintro ⟨a1, a2⟩
        refine ⟨⟨a1, fun u hu => a2 u (by omega)⟩, ?_⟩
        have := (a2 v (by omega)).2 e
        cases ec : lb (a_cubes (f ||| 2 ^ v)) i
        · rfl
        · exact absurd (hcu.mp ec).2 this
theorem xw_great24 {tb : Nat → Bool} {m : Nat} (hm : m ≤ 6) (hc : CUB tb m (2 ^ m) a_cubes) {F : Nat → Nat → Bool} (hF : ∀ f i, f < 2 ^ m → i < 2 ^ m → (F f i = true ↔ PQ tb m f i)) {post : Int32 → SX → Prop}
    (h : post (nI (sumN (fun f => cnt (fun i => djb f i && F f i) (2 ^ m)) (2 ^ m))) (f_nets, f_sources, f_registers, f_now, f_right, f_levelsKnown, f_head, f_tail, f_met, f_comesKnown, f_entry, f_round, a_kinds, a_operand, a_nexts, a_sourceAt, a_registerAt, a_registerSource, a_table, a_saved, a_matters, a_cubes, a_levels, a_edgeFlow, a_netFlow, a_queue, a_before, a_edge, a_leads, a_comes, a_group, a_later, a_goes, a_shows)) :
    ∀ d f n, f + d = 2 ^ m → d < n → wX_greatest_24 post (nI m) f_nets f_sources f_registers f_now f_right f_levelsKnown f_head f_tail f_met f_comesKnown f_entry f_round a_kinds a_operand a_nexts a_sourceAt a_registerAt a_registerSource a_table a_saved a_matters a_cubes a_levels a_edgeFlow a_netFlow a_queue a_before a_edge a_leads a_comes a_group a_later a_goes a_shows n (nI (sumN (fun f => cnt (fun i => djb f i && F f i) (2 ^ m)) f)) (nI f) := by
  have hm64 : 2 ^ m ≤ 64 := Nat.pow_le_pow_right (n := 2) (j := 6) (by decide) hm
  intro d
  induction d with
  | zero =>
    intro f n hf hn
    obtain ⟨n, rfl⟩ : ∃ n', n = n' + 1 := ⟨n - 1, by omega⟩
    have : f = 2 ^ m := by omega
    subst this
    unfold wX_greatest_24
    rw [gw_1shl (by omega)]
    exact br_t (nI_le (Nat.le_refl _) (by omega)) h
  | succ d ih =>
    intro f n hf hn
    obtain ⟨n, rfl⟩ : ∃ n', n = n' + 1 := ⟨n - 1, by omega⟩
    unfold wX_greatest_24
    rw [gw_1shl (by omega), gw_cl (by omega)]
    refine br_f (nI_ge (by omega) (by omega)) ⟨vp_in_nI (by omega) (by omega), nm_e ⟨m + 1, xw_great42 hm (by omega) hc hF (ih (f + 1) n (by omega) (by omega)) m 0 _ _ (by omega) (by omega) (fun i hi => ?_)⟩⟩
    rw [hc f (by omega) i hi]
    exact ⟨fun z => ⟨z, fun u hu => by omega⟩, fun z => z.1⟩
theorem xw_great4 {tb : Nat → Bool} {m : Nat} (hm : m ≤ 6) {F : Nat → Nat → Bool} (hF : ∀ f i, f < 2 ^ m → i < 2 ^ m → (F f i = true ↔ PQ tb m f i)) {post : Int32 → SX → Prop}
    (h : ∀ cu, post (nI (sumN (fun f => cnt (fun i => djb f i && F f i) (2 ^ m)) (2 ^ m))) (f_nets, f_sources, f_registers, f_now, f_right, f_levelsKnown, f_head, f_tail, f_met, f_comesKnown, f_entry, f_round, a_kinds, a_operand, a_nexts, a_sourceAt, a_registerAt, a_registerSource, a_table, a_saved, a_matters, cu, a_levels, a_edgeFlow, a_netFlow, a_queue, a_before, a_edge, a_leads, a_comes, a_group, a_later, a_goes, a_shows)) :
    ∀ d f n cu, f + d = 2 ^ m → d < n → 1 ≤ f → CUB tb m f cu → wX_greatest_4 post (nI m) 0 n (nI f) f_nets f_sources f_registers f_now f_right f_levelsKnown f_head f_tail f_met f_comesKnown f_entry f_round a_kinds a_operand a_nexts a_sourceAt a_registerAt a_registerSource a_table a_saved a_matters cu a_levels a_edgeFlow a_netFlow a_queue a_before a_edge a_leads a_comes a_group a_later a_goes a_shows := by
  have hm64 : 2 ^ m ≤ 64 := Nat.pow_le_pow_right (n := 2) (j := 6) (by decide) hm
  intro d
  induction d with
  | zero =>
    intro f n cu hf hn h1 hc
    obtain ⟨n, rfl⟩ : ∃ n', n = n' + 1 := ⟨n - 1, by omega⟩
    have : f = 2 ^ m := by omega
    subst this
    unfold wX_greatest_4
    rw [gw_1shl (by omega)]
    exact br_t (nI_le (Nat.le_refl _) (by omega)) ⟨2 ^ m + 1, xw_great24 hm hc hF (h cu) (2 ^ m) 0 _ (by omega) (by omega)⟩
  | succ d ih =>
    intro f n cu hf hn h1 hc
    obtain ⟨n, rfl⟩ : ∃ n', n = n' + 1 := ⟨n - 1, by omega⟩
    unfold wX_greatest_4
    rw [gw_1shl (by omega)]
    refine br_f (nI_ge (by omega) (by omega)) (xw_widn hm (by omega) h1 hc (fun cu' hc' => ?_))
    dsimp only
    exact nm_r (nI_1 f) (ih (f + 1) n cu' (by omega) (by omega) (by omega) hc')
theorem xw_greatest {tb : Nat → Bool} {m : Nat} (hm : m ≤ 6) {F : Nat → Nat → Bool} (hF : ∀ f i, f < 2 ^ m → i < 2 ^ m → (F f i = true ↔ PQ tb m f i)) (hc : CUB tb m 1 a_cubes) {post : Int32 → SX → Prop}
    (h : ∀ cu, post (nI (cnt (fun x => F (frd m x) (vld m x)) (3 ^ m))) (f_nets, f_sources, f_registers, f_now, f_right, f_levelsKnown, f_head, f_tail, f_met, f_comesKnown, f_entry, f_round, a_kinds, a_operand, a_nexts, a_sourceAt, a_registerAt, a_registerSource, a_table, a_saved, a_matters, cu, a_levels, a_edgeFlow, a_netFlow, a_queue, a_before, a_edge, a_leads, a_comes, a_group, a_later, a_goes, a_shows)) : wpX_greatest post (f_nets, f_sources, f_registers, f_now, f_right, f_levelsKnown, f_head, f_tail, f_met, f_comesKnown, f_entry, f_round, a_kinds, a_operand, a_nexts, a_sourceAt, a_registerAt, a_registerSource, a_table, a_saved, a_matters, a_cubes, a_levels, a_edgeFlow, a_netFlow, a_queue, a_before, a_edge, a_leads, a_comes, a_group, a_later, a_goes, a_shows) (nI m) := by
  rw [tri_cnt] at h
  have := Nat.two_pow_pos m
  dsimp only [wpX_greatest]
  exact ⟨2 ^ m + 1, xw_great4 hm hF h (2 ^ m - 1) 1 _ a_cubes (by omega) (by omega) (by omega) hc⟩
end
section
variable {c : CK} {f_now : Int32} {f_right : Int32} {f_levelsKnown : Int32} {f_head : Int32} {f_tail : Int32} {f_met : Int64} {f_comesKnown : Int32} {f_entry : Int32} {f_round : Int32} {a_table : Nat → Int64} {a_saved : Nat → Int64} {a_matters : Nat → Int32} {a_cubes : Nat → Int64} {a_levels : Nat → Int32} {a_edgeFlow : Nat → Int32} {a_netFlow : Nat → Int32} {a_queue : Nat → Int32} {a_before : Nat → Int32} {a_edge : Nat → Int32} {a_leads : Nat → Int64} {a_comes : Nat → Int32} {a_group : Nat → Int32} {a_later : Nat → Int32} {a_goes : Nat → Int32} {a_shows : Nat → Int32}
theorem xw_primes97 (w : WF c) {j m : Nat} (hj : j < cN c) (hm : m ≤ 6) {dep : Nat → Nat} (hd : ∀ k, k < m → dep k < cS c ∧ a_matters k = nI (dep k)) (ht : TBL c 99 false a_table (cN c)) {a : Nat} (ha : a < 2 ^ m) {post : Int32 → SX → Prop}
    {J84 : Int32 → (Nat → Int32) → (Nat → Int32) → (Nat → Int32) → (Nat → Int32) → (Nat → Int32) → (Nat → Int32) → (Nat → Int64) → (Nat → Int64) → (Nat → Int32) → (Nat → Int64) → (Nat → Int32) → (Nat → Int32) → (Nat → Int32) → (Nat → Int32) → (Nat → Int32) → (Nat → Int32) → (Nat → Int64) → (Nat → Int32) → (Nat → Int32) → (Nat → Int32) → (Nat → Int32) → (Nat → Int32) → Prop}
    (hJ : ∀ cu, (∀ i, i < 64 → lb (cu 0) i = (lb (a_cubes 0) i || (decide (i = a) && EV c (spr dep a m) j))) → J84 (nI (a + 1)) (xK c) (xO c) (xF c) (xA c) (xG c) (xB c) a_table a_saved a_matters cu a_levels a_edgeFlow a_netFlow a_queue a_before a_edge a_leads a_comes a_group a_later a_goes a_shows) :
    ∀ d k n, k + d = m → d < n → wX_primes_97 post J84 (nI j) (nI m) (nI a) (nI (cN c)) (nI (cS c)) (nI (cR c)) f_now f_right f_levelsKnown f_head f_tail f_met f_comesKnown f_entry f_round (xK c) (xO c) (xF c) (xA c) (xG c) (xB c) a_table a_saved a_matters a_cubes a_levels a_edgeFlow a_netFlow a_queue a_before a_edge a_leads a_comes a_group a_later a_goes a_shows n (nI (spr dep a k)) (nI k) := by
  have hN := wf_N w
  have hS := wf_S w
  have hm64 : 2 ^ m ≤ 64 := Nat.pow_le_pow_right (n := 2) (j := 6) (by decide) hm
  intro d
  induction d with
  | zero =>
    intro k n hk hn
    obtain ⟨n, rfl⟩ : ∃ n', n = n' + 1 := ⟨n - 1, by omega⟩
    have : k = m := by omega
    subst this
    unfold wX_primes_97
    refine br_t (nI_le (Nat.le_refl _) (by omega)) (xw_bit w (f := 99) (o := false) hj (by omega) (spr_lt k (fun i hi => (hd i hi).1)) ht (nm_e (nm_r (nI_1 a) (hJ _ (fun i hi => ?_)))))
    rw [gw_uL, if_pos rfl, lb_or, lb_shl (by omega) _ hi]
    congr 1
    by_cases e : i = a
    · subst e
      rw [decide_eq_true (Nat.le_refl _), Nat.sub_self, lb_i64 _ (by omega), decide_eq_true rfl, decide_eq_true rfl]
      simp [EV, EVF]
    · by_cases hle : a ≤ i
      · rw [lb_i64 _ (by omega), decide_eq_false (show ¬ i - a = 0 by omega), decide_eq_false e]
        simp
      · rw [decide_eq_false hle, decide_eq_false e]
        simp
  | succ d ih =>
    intro k n hk hn
    obtain ⟨n, rfl⟩ : ∃ n', n = n' + 1 := ⟨n - 1, by omega⟩
    have hk' := hd k (by omega)
    have hp := gw_p2 (show dep k ≤ 10 by omega)
    have hb : (a.testBit k).toNat * 2 ^ dep k ≤ 2 ^ dep k := by cases a.testBit k <;> simp
    unfold wX_primes_97
    rw [gw_bit (by omega) (by omega), gw_cl (by omega), hk'.2, gw_shl (by omega) (by omega), gw_or]
    exact br_f (nI_ge (by omega) (by omega)) ⟨vp_in_nI (by omega) (by omega), nm_e (nm_r (nI_1 k) (ih (k + 1) n (by omega) (by omega)))⟩
theorem xw_primes84 (w : WF c) {j m : Nat} (hj : j < cN c) (hm : m ≤ 6) {dep : Nat → Nat} (hd : ∀ k, k < m → dep k < cS c ∧ a_matters k = nI (dep k)) (ht : TBL c 99 false a_table (cN c)) {F : Nat → Nat → Bool} (hF : ∀ f i, f < 2 ^ m → i < 2 ^ m → (F f i = true ↔ PQ (fun a => EV c (spr dep a m) j) m f i)) {post : Int32 → SX → Prop}
    (h : ∀ cu, post (nI (cnt (fun x => F (frd m x) (vld m x)) (3 ^ m))) (nI (cN c), nI (cS c), nI (cR c), f_now, f_right, f_levelsKnown, f_head, f_tail, f_met, f_comesKnown, f_entry, f_round, xK c, xO c, xF c, xA c, xG c, xB c, a_table, a_saved, a_matters, cu, a_levels, a_edgeFlow, a_netFlow, a_queue, a_before, a_edge, a_leads, a_comes, a_group, a_later, a_goes, a_shows)) :
    ∀ d a n cu, a + d = 2 ^ m → d < n → (∀ i, i < 64 → lb (cu 0) i = (decide (i < a) && EV c (spr dep i m) j)) → wX_primes_84 post (nI j) (nI m) (nI (cN c)) (nI (cS c)) (nI (cR c)) f_now f_right f_levelsKnown f_head f_tail f_met f_comesKnown f_entry f_round n (nI a) (xK c) (xO c) (xF c) (xA c) (xG c) (xB c) a_table a_saved a_matters cu a_levels a_edgeFlow a_netFlow a_queue a_before a_edge a_leads a_comes a_group a_later a_goes a_shows := by
  have hm64 : 2 ^ m ≤ 64 := Nat.pow_le_pow_right (n := 2) (j := 6) (by decide) hm
  intro d
  induction d with
  | zero =>
    intro a n cu ha hn hc
    obtain ⟨n, rfl⟩ : ∃ n', n = n' + 1 := ⟨n - 1, by omega⟩
    have : a = 2 ^ m := by omega
    subst this
    unfold wX_primes_84
    rw [gw_1shl (by omega)]
    refine br_t (nI_le (Nat.le_refl _) (by omega)) (xw_greatest hm hF (fun f hf i hi => ?_) (fun cu' => h cu'))
    have : f = 0 := by omega
    subst this
    rw [hc i hi, Bool.and_eq_true, decide_eq_true_eq]
    constructor
    · rintro ⟨a1, a2⟩; exact ⟨a1, (hq_0 a1).mpr a2⟩
    · rintro ⟨a1, a2⟩; exact ⟨a1, (hq_0 a1).mp a2⟩
  | succ d ih =>
    intro a n cu ha hn hc
    obtain ⟨n, rfl⟩ : ∃ n', n = n' + 1 := ⟨n - 1, by omega⟩
    unfold wX_primes_84
    rw [gw_1shl (by omega)]
    refine br_f (nI_ge (by omega) (by omega)) ⟨m + 1, xw_primes97 w hj hm hd ht (by omega) (fun cu' hcu' => ih (a + 1) n cu' (by omega) (by omega) (fun i hi => ?_)) m 0 _ (by omega) (by omega)⟩
    rw [hcu' i hi, hc i hi]
    by_cases e : i = a
    · subst e
      simp
    · by_cases e2 : i < a
      · have e3 : i < a + 1 := by omega
        simp [e, e2, e3]
      · have e3 : ¬ i < a + 1 := by omega
        simp [e, e2, e3]
theorem xw_primes14 (w : WF c) {j : Nat} (hj : j < cN c) {p : Nat → Bool} (hp : ∀ s, p s = true ↔ DEP c j s) {post : Int32 → SX → Prop}
    (h : ∀ r0 t mt cu x, r0 ≤ cN c → TBL c 99 false t r0 → PRM c j p x → post x (nI (cN c), nI (cS c), nI (cR c), f_now, nI r0, f_levelsKnown, f_head, f_tail, f_met, f_comesKnown, f_entry, f_round, xK c, xO c, xF c, xA c, xG c, xB c, t, a_saved, mt, cu, a_levels, a_edgeFlow, a_netFlow, a_queue, a_before, a_edge, a_leads, a_comes, a_group, a_later, a_goes, a_shows)) :
    ∀ d s n r0 t mt, s + d = cS c → d < n → r0 ≤ cN c → TBL c 99 false t r0 → cnt p s ≤ 6 → (∀ k, k < cnt p s → mt k = nI (dpf p s k)) → wX_primes_14 post (nI j) n (nI (cnt p s)) (nI s) (nI (cN c)) (nI (cS c)) (nI (cR c)) f_now (nI r0) f_levelsKnown f_head f_tail f_met f_comesKnown f_entry f_round (xK c) (xO c) (xF c) (xA c) (xG c) (xB c) t a_saved mt a_cubes a_levels a_edgeFlow a_netFlow a_queue a_before a_edge a_leads a_comes a_group a_later a_goes a_shows := by
  have hS := wf_S w
  have hN := wf_N w
  intro d
  induction d with
  | zero =>
    intro s n r0 t mt hs hn hr ht h6 hmt
    obtain ⟨n, rfl⟩ : ∃ n', n = n' + 1 := ⟨n - 1, by omega⟩
    have : s = cS c := by omega
    subst this
    have hsel : ∃ F : Nat → Nat → Bool, ∀ f i, (F f i = true ↔ PQ (ctb c j p) (cnt p (cS c)) f i) := ⟨fun f i => @decide (PQ (ctb c j p) (cnt p (cS c)) f i) (Classical.propDecidable _), fun f i => @decide_eq_true_iff _ (Classical.propDecidable _)⟩
    obtain ⟨F, hF⟩ := hsel
    unfold wX_primes_14
    refine br_t (nI_le (Nat.le_refl _) (by omega)) (xw_learn w hr ht (fun t' ht' => ?_))
    dsimp only
    refine nm_e ⟨2 ^ cnt p (cS c) + 1, xw_primes84 w hj h6 (dep := dpf p (cS c)) (fun k hk => ⟨dpf_lt _ _ hk, hmt k hk⟩) ht' (fun f i _ _ => hF f i) (fun cu => h _ t' mt cu _ (Nat.le_refl _) ht' (Or.inr ⟨h6, F, fun f i _ _ => hF f i, rfl⟩)) (2 ^ cnt p (cS c)) 0 _ _ (by omega) (by omega) (fun i hi => ?_)⟩
    rw [gw_uL, if_pos rfl, lb_0]
    simp
  | succ d ih =>
    intro s n r0 t mt hs hn hr ht h6 hmt
    obtain ⟨n, rfl⟩ : ∃ n', n = n' + 1 := ⟨n - 1, by omega⟩
    have hs' : s < cS c := by omega
    unfold wX_primes_14
    rw [gw_cl (by omega), xA_ap]
    refine br_f (nI_ge (by omega) (by omega)) ⟨vp_in_nI (by omega) (by omega), xw_depends w hj hs' hr ht (fun t' x ht' hx => ?_)⟩
    dsimp only
    rcases hx with ⟨rfl, hx⟩ | ⟨rfl, hx⟩
    · have hps : p s = true := (hp s).mpr hx
      refine br_f (by decide) (pk_eq (cnt p s) 6 (fun e => ?_) (fun e => ?_))
      · refine h _ t' mt a_cubes _ (Nat.le_refl _) ht' (Or.inl ⟨?_, rfl⟩)
        have h1 : cnt p (s + 1) = 7 := by rw [cnt_s, hps, e]; rfl
        have h2 : cnt p (s + 1) ≤ cnt p (cS c) := by
          have := cnt_add p (s + 1) (cS c - (s + 1))
          rw [show s + 1 + (cS c - (s + 1)) = cS c by omega] at this
          omega
        omega
      · have h1 : cnt p (s + 1) = cnt p s + 1 := by rw [cnt_s, hps]; rfl
        unfold wX_primes_49
        rw [gw_cl (by omega), gw_nbyte2 (by omega)]
        refine br_f (by decide) (nm_r (nI_1 _) ⟨vp_in_nI (by omega) (by omega), nm_e (nm_r (nI_1 s) ?_)⟩)
        rw [← h1]
        refine ih (s + 1) n _ t' _ (by omega) (by omega) (Nat.le_refl _) ht' (by omega) (fun k hk => ?_)
        by_cases e2 : k = cnt p s
        · rw [e2, pk_us, dpf_new hps]
        · rw [pk_un e2, dpf_old (by omega)]
          exact hmt k (by omega)
    · have hps : p s = false := by
        cases e : p s
        · rfl
        · exact absurd ((hp s).mp e) hx
      have h1 : cnt p (s + 1) = cnt p s := by rw [cnt_s, hps]; rfl
      refine br_t rfl ?_
      unfold wX_primes_49
      refine br_t rfl (nm_r (nI_1 s) ?_)
      have hi := ih (s + 1) n _ t' mt (by omega) (by omega) (Nat.le_refl _) ht' (by omega) (fun k hk => by
        rw [dpf_old (by omega)]
        exact hmt k (by omega))
      rw [h1] at hi
      exact hi
theorem xm_primes (w : WF c) {now : Nat} {u : SX} (hX : XR c now u) {j : Nat} (hj : j < cN c) {p : Nat → Bool} (hp : ∀ s, p s = true ↔ DEP c j s) {post : Int32 → SX → Prop} (h : ∀ u' r, XR c now u' → PRM c j p r → post r u') : wpX_primes post u (nI j) := by
  refine xr_el (P := fun u => wpX_primes post u (nI j)) hX ?_
  intro r f_levelsKnown f_head f_tail f_met f_comesKnown f_entry f_round a_table a_saved a_matters a_cubes a_levels a_edgeFlow a_netFlow a_queue a_before a_edge a_leads a_comes a_group a_later a_goes a_shows hr ht hl hc
  dsimp only [wpX_primes]
  refine xw_isNet_t w hj (br_f (by decide) ⟨cS c + 1, ?_⟩)
  exact xw_primes14 w hj hp (fun r0 t mt cu x hr0 ht0 hx => h _ x (xr_in hr0 ht0 hl hc) hx) (cS c) 0 _ r a_table a_matters (by omega) (by omega) hr ht (by show 0 ≤ 6; omega) (fun k hk => absurd hk (Nat.not_lt_zero _))
end
end
section
/-! ===== Y: primes ===== -/
theorem gw_div3 {a : Nat} (h : a < 2147483648) : nI a / 3 = nI (a / 3) := pk_div (d := 3) h (by decide) (by decide)
theorem gw_rem3 {a : Nat} (h : a < 2147483648) : nI a - nI a / 3 * 3 = nI (a % 3) := pk_rem (d := 3) h (by decide) (by decide)
theorem p3_pos (k : Nat) : 0 < 3 ^ k := Nat.pow_pos (by decide)
theorem p3_le {m : Nat} (h : m ≤ 6) : 3 ^ m ≤ 729 := Nat.pow_le_pow_right (n := 3) (j := 6) (by decide) h
theorem dg_lt (x k : Nat) : dg x k < 3 := Nat.mod_lt _ (by decide)
theorem frd_tb {m x k : Nat} (h : k < m) : (frd m x).testBit k = decide (dg x k = 2) := by
  unfold frd
  rw [bld_tb, decide_eq_true h, Bool.true_and]
theorem vld_tb {m x k : Nat} (h : k < m) : (vld m x).testBit k = decide (dg x k = 1) := by
  unfold vld
  rw [bld_tb, decide_eq_true h, Bool.true_and]
theorem dg_in {m x a : Nat} : (∀ u, u < m → dg x u < 2 → dg x u = (a.testBit u).toNat) ↔ (∀ k, k < m → (frd m x).testBit k = false → a.testBit k = (vld m x).testBit k) := by
  constructor
  · intro h k hk hf
    rw [frd_tb hk] at hf
    have h1 := dg_lt x k
    have h2 : ¬ dg x k = 2 := of_decide_eq_false hf
    have h3 := h k hk (by omega)
    rw [vld_tb hk, h3]
    cases a.testBit k <;> rfl
  · intro h k hk hd
    have h1 := h k hk (by rw [frd_tb hk]; exact decide_eq_false (by omega))
    rw [vld_tb hk] at h1
    rw [h1]
    by_cases e : dg x k = 1
    · rw [decide_eq_true e, e]; rfl
    · rw [decide_eq_false e]
      show dg x k = 0
      omega
/-- one digit made any -/
theorem dg_up {x k : Nat} (hd : dg x k < 2) (u : Nat) : dg (x + (2 - dg x k) * 3 ^ k) u = if u = k then 2 else dg x u := by
  have p := p3_pos k
  have e1 : x = (3 * (x / 3 ^ k / 3) + dg x k) * 3 ^ k + x % 3 ^ k := by
    have a := Nat.div_add_mod x (3 ^ k)
    have b := Nat.div_add_mod (x / 3 ^ k) 3
    unfold dg
    rw [b, Nat.mul_comm]
    exact a.symm
  have hlo : x % 3 ^ k < 3 ^ k := Nat.mod_lt _ p
  generalize x / 3 ^ k / 3 = H at e1
  generalize x % 3 ^ k = lo at e1 hlo
  have e2 : x + (2 - dg x k) * 3 ^ k = (3 * H + 2) * 3 ^ k + lo := by
    generalize dg x k = d at *
    rw [e1]
    have : (3 * H + d) * 3 ^ k + (2 - d) * 3 ^ k = (3 * H + 2) * 3 ^ k := by
      rw [← Nat.add_mul]
      congr 1
      omega
    omega
  rw [e2]
  by_cases e : u = k
  · rw [if_pos e, e]
    unfold dg
    rw [Nat.mul_comm, Nat.mul_add_div p, Nat.div_eq_of_lt hlo, Nat.add_zero]
    omega
  · rw [if_neg e]
    by_cases hl : u < k
    · rw [dg_lo hl]
      conv => rhs; rw [e1]
      rw [dg_lo hl]
    · have hu : u = (k + 1) + (u - k - 1) := by omega
      have dv : ∀ d, d < 3 → ((3 * H + d) * 3 ^ k + lo) / 3 ^ u = H / 3 ^ (u - k - 1) := fun d hd => by
        rw [hu, Nat.pow_add, ← Nat.div_div_eq_div_mul, Nat.pow_succ, ← Nat.div_div_eq_div_mul, Nat.mul_comm (3 * H + d), Nat.mul_add_div p, Nat.div_eq_of_lt hlo, Nat.add_zero, show (3 * H + d) / 3 = H by omega]
        congr 2
        omega
      unfold dg
      rw [dv 2 (by decide)]
      conv => rhs; rw [e1]
      rw [dv _ (dg_lt x k)]
theorem dg_uplt {m x k : Nat} (hk : k < m) (hx : x < 3 ^ m) (hd : dg x k < 2) : x + (2 - dg x k) * 3 ^ k < 3 ^ m := by
  have p := p3_pos k
  have e0 : 3 ^ m = 3 ^ k * (3 * 3 ^ (m - k - 1)) := by
    rw [← Nat.pow_succ', ← Nat.pow_add]
    congr 1
    omega
  have a := Nat.div_add_mod x (3 ^ k)
  have b := Nat.div_add_mod (x / 3 ^ k) 3
  have hlo : x % 3 ^ k < 3 ^ k := Nat.mod_lt _ p
  have h1 : x / 3 ^ k < 3 * 3 ^ (m - k - 1) := by
    rw [Nat.div_lt_iff_lt_mul p, Nat.mul_comm, ← e0]
    exact hx
  have h2 : x / 3 ^ k + (2 - dg x k) + 1 ≤ 3 * 3 ^ (m - k - 1) := by
    unfold dg at *
    omega
  have h3 : 3 ^ k * (x / 3 ^ k + (2 - dg x k) + 1) ≤ 3 ^ k * (3 * 3 ^ (m - k - 1)) := Nat.mul_le_mul_left _ h2
  rw [← e0, Nat.mul_add, Nat.mul_add, Nat.mul_one] at h3
  rw [Nat.mul_comm (2 - dg x k)]
  omega
theorem hq_up {tb : Nat → Bool} {m x k : Nat} (hk : k < m) (hd : dg x k < 2) : HQ tb m (frd m (x + (2 - dg x k) * 3 ^ k)) (vld m (x + (2 - dg x k) * 3 ^ k)) ↔ HQ tb m (frd m x ||| 2 ^ k) (vld m x) := by
  refine hq_congr (fun u hu => ?_) (fun u hu hf => ?_)
  · rw [frd_tb hu, dg_up hd, hq_or, frd_tb hu]
    by_cases e : u = k
    · rw [if_pos e, e]; simp
    · have e' : ¬ k = u := fun z => e z.symm
      rw [if_neg e, decide_eq_false e', Bool.or_false]
  · rw [frd_tb hu, dg_up hd] at hf
    rw [vld_tb hu, vld_tb hu, dg_up hd]
    by_cases e : u = k
    · rw [if_pos e] at hf; exact absurd hf (by decide)
    · rw [if_neg e]
section
variable {c : CK} {a_first : Nat → Int32} {a_second : Nat → Int32} {a_third : Nat → Int32} {a_now : Nat → Int32} {a_at : Nat → Int32} {a_other : Nat → Int32} {a_source : Nat → Int32} {a_register : Nat → Int32} {a_level : Nat → Int32} {a_soon : Nat → Int32} {a_depend : Nat → Int32} {a_table : Nat → Int32} {a_marked : Nat → Int32} {a_after : Nat → Int32} {a_shows : Nat → Int32} {a_apart : Nat → Int32}
theorem yw_holds18 {m x a : Nat} (hm : m ≤ 6) (hx : x < 3 ^ m) (ha : a < 2 ^ m) {tb : Nat → Bool} (ht : a_table a = nI (tb a).toNat) {post : Int32 → Prop} {J2 : Int32 → Prop}
    (h1 : ¬ (∀ u, u < m → dg x u < 2 → dg x u = (a.testBit u).toNat) ∨ tb a = true → J2 (nI (a + 1))) (h2 : (∀ u, u < m → dg x u < 2 → dg x u = (a.testBit u).toNat) → tb a = false → post 0) :
    ∀ d k n o, k + d = m → d < n → (o = true ↔ ∀ u, u < k → dg x u < 2 → dg x u = (a.testBit u).toNat) → wY_holds_18 post J2 (nI x) (nI m) (nI a) (nI (cN c)) (nI (cS c)) (nI (cR c)) (xK c) a_first a_second a_third (xF c) a_now a_at a_other a_source a_register a_level a_soon a_depend a_table a_marked a_after a_shows a_apart n (nI o.toNat) (nI (x / 3 ^ k)) (nI k) := by
  have hm64 : 2 ^ m ≤ 64 := Nat.pow_le_pow_right (n := 2) (j := 6) (by decide) hm
  have h3 := p3_le hm
  intro d
  induction d with
  | zero =>
    intro k n o hk hn ho
    obtain ⟨n, rfl⟩ : ∃ n', n = n' + 1 := ⟨n - 1, by omega⟩
    have : k = m := by omega
    subst this
    unfold wY_holds_18
    rw [gw_cl (by omega), ht]
    refine br_t (nI_le (Nat.le_refl _) (by omega)) ?_
    cases e : o
    · refine br_t rfl (nm_r (nI_1 a) (h1 (Or.inl (fun z => ?_))))
      rw [ho.mpr z] at e
      exact absurd e (by decide)
    · refine br_f (by decide) ⟨vp_in_nI (by omega) (by omega), br_c (fun z => ?_) (fun z => ?_)⟩
      · rw [gw_bt] at z
        exact h2 (ho.mp e) z
      · rw [gw_bt] at z
        exact nm_r (nI_1 a) (h1 (Or.inr (ts_nf z)))
  | succ d ih =>
    intro k n o hk hn ho
    obtain ⟨n, rfl⟩ : ∃ n', n = n' + 1 := ⟨n - 1, by omega⟩
    have hdv : x / 3 ^ k ≤ x := Nat.div_le_self _ _
    have e3 : ¬ (3 : Int32) = 0 := by decide
    have en : x / 3 ^ k / 3 = x / 3 ^ (k + 1) := by rw [Nat.pow_succ, Nat.div_div_eq_div_mul]
    have hb := gw_bl (a.testBit k)
    have hd3 := dg_lt x k
    unfold wY_holds_18
    rw [gw_rem3 (by omega), gw_div3 (by omega), en, gw_bit (by omega) (by omega)]
    show _ ∧ (_ → _ ∧ ((2 ≤ nI (dg x k) → _) ∧ (_ → _ ∧ ((nI (dg x k) = _ → _) ∧ _))))
    refine br_f (nI_ge (by omega) (by omega)) ⟨e3, pk_le 2 (dg x k) (fun z => ⟨e3, nm_e (nm_r (nI_1 k) (ih (k + 1) n o (by omega) (by omega) ?_))⟩) (fun z => ⟨e3, pk_eq (dg x k) (a.testBit k).toNat (fun y => ⟨e3, nm_e (nm_r (nI_1 k) (ih (k + 1) n o (by omega) (by omega) ?_))⟩) (fun y => ⟨e3, nm_e (nm_r (nI_1 k) (ih (k + 1) n false (by omega) (by omega) ?_))⟩)⟩)⟩
    · rw [ho]
      constructor
      · intro q u hu hd
        by_cases eu : u = k
        · subst eu; omega
        · exact q u (by omega) hd
      · intro q u hu hd
        exact q u (by omega) hd
    · rw [ho]
      constructor
      · intro q u hu hd
        by_cases eu : u = k
        · subst eu; exact y
        · exact q u (by omega) hd
      · intro q u hu hd
        exact q u (by omega) hd
    · exact ⟨fun q => absurd q (by decide), fun q => absurd (q k (by omega) (by omega)) y⟩
theorem yw_holds {m x : Nat} (hm : m ≤ 6) (hx : x < 3 ^ m) {tb : Nat → Bool} (ht : ∀ a, a < 2 ^ m → a_table a = nI (tb a).toNat) {post : Int32 → Prop} (h : ∀ r, BA (HQ tb m (frd m x) (vld m x)) r → post r) : wpY_holds post (nI (cN c), nI (cS c), nI (cR c), xK c, a_first, a_second, a_third, xF c, a_now, a_at, a_other, a_source, a_register, a_level, a_soon, a_depend, a_table, a_marked, a_after, a_shows, a_apart) (nI x) (nI m) := by
  have hm64 : 2 ^ m ≤ 64 := Nat.pow_le_pow_right (n := 2) (j := 6) (by decide) hm
  have L : ∀ d a n, a + d = 2 ^ m → d < n → (∀ b, b < a → (∀ u, u < m → dg x u < 2 → dg x u = (b.testBit u).toNat) → tb b = true) → wY_holds_2 post (nI x) (nI m) (nI (cN c)) (nI (cS c)) (nI (cR c)) (xK c) a_first a_second a_third (xF c) a_now a_at a_other a_source a_register a_level a_soon a_depend a_table a_marked a_after a_shows a_apart n (nI a) := by
    intro d
    induction d with
    | zero =>
      intro a n ha hn hall
      obtain ⟨n, rfl⟩ : ∃ n', n = n' + 1 := ⟨n - 1, by omega⟩
      unfold wY_holds_2
      rw [gw_1shl (by omega)]
      exact br_t (nI_le (by omega) (by omega)) (h _ (Or.inl ⟨rfl, fun b hb hk => hall b (by omega) (dg_in.mpr hk)⟩))
    | succ d ih =>
      intro a n ha hn hall
      obtain ⟨n, rfl⟩ : ∃ n', n = n' + 1 := ⟨n - 1, by omega⟩
      unfold wY_holds_2
      rw [gw_1shl (by omega)]
      have e0 : x / 3 ^ 0 = x := by rw [Nat.pow_zero, Nat.div_one]
      have := yw_holds18 (c := c) (a_first := a_first) (a_second := a_second) (a_third := a_third) (a_now := a_now) (a_at := a_at) (a_other := a_other) (a_source := a_source) (a_register := a_register) (a_level := a_level) (a_soon := a_soon) (a_depend := a_depend) (a_marked := a_marked) (a_after := a_after) (a_shows := a_shows) (a_apart := a_apart) (post := post) (J2 := wY_holds_2 post (nI x) (nI m) (nI (cN c)) (nI (cS c)) (nI (cR c)) (xK c) a_first a_second a_third (xF c) a_now a_at a_other a_source a_register a_level a_soon a_depend a_table a_marked a_after a_shows a_apart n) hm hx (show a < 2 ^ m by omega) (ht a (by omega)) (fun z => ih (a + 1) n (by omega) (by omega) (fun b hb hk => by
        by_cases e : b = a
        · subst e
          rcases z with z | z
          · exact absurd hk z
          · exact z
        · exact hall b (by omega) hk)) (fun z1 z2 => h _ (Or.inr ⟨rfl, fun q => by
        have := q a (by omega) (dg_in.mp z1)
        rw [z2] at this
        exact absurd this (by decide)⟩)) m 0 (m + 1) true (by omega) (by omega) ⟨fun _ u hu => by omega, fun _ => rfl⟩
      rw [e0] at this
      exact br_f (nI_ge (by omega) (by omega)) ⟨m + 1, this⟩
  exact ⟨2 ^ m + 1, L (2 ^ m) 0 _ (by omega) (by omega) (fun b hb => by omega)⟩
theorem yw_primes178 {m x x4 : Nat} (hm : m ≤ 6) (hx : x < 3 ^ m) {tb : Nat → Bool} (ht : ∀ a, a < 2 ^ m → a_table a = nI (tb a).toNat) {x3 : Int32} {post : Int32 → SY → Prop} {J157 : Int32 → Int32 → Prop}
    (hJ : ∀ b : Bool, (b = true ↔ PQ tb m (frd m x) (vld m x)) → J157 (nI (x4 + b.toNat)) (nI (x + 1))) :
    ∀ d k n b, k + d = m → d < n → (b = true ↔ HQ tb m (frd m x) (vld m x) ∧ ∀ v, v < k → (frd m x).testBit v = false → ¬ HQ tb m (frd m x ||| 2 ^ v) (vld m x)) → wY_primes_178 post J157 (nI m) x3 (nI x4) (nI x) (nI (cN c)) (nI (cS c)) (nI (cR c)) (xK c) a_first a_second a_third (xF c) a_now a_at a_other a_source a_register a_level a_soon a_depend a_table a_marked a_after a_shows a_apart n (nI b.toNat) (nI (3 ^ k)) (nI k) := by
  have h3 := p3_le hm
  have fin : ∀ b : Bool, (b = true ↔ PQ tb m (frd m x) (vld m x)) → wY_primes_237 post J157 (nI m) x3 (nI x4) (nI x) (nI b.toNat) (nI (cN c)) (nI (cS c)) (nI (cR c)) (xK c) a_first a_second a_third (xF c) a_now a_at a_other a_source a_register a_level a_soon a_depend a_table a_marked a_after a_shows a_apart := fun b hb => by
    have := hJ b hb
    unfold wY_primes_237
    cases e : b
    · rw [e] at this
      exact br_t rfl (nm_r (nI_1 x) this)
    · rw [e] at this
      exact br_f (by decide) (nm_r (nI_1 x4) (nm_r (nI_1 x) this))
  intro d
  induction d with
  | zero =>
    intro k n b hk hn hb
    obtain ⟨n, rfl⟩ : ∃ n', n = n' + 1 := ⟨n - 1, by omega⟩
    have : k = m := by omega
    subst this
    unfold wY_primes_178
    exact br_t (nI_le (Nat.le_refl _) (by omega)) (fin b hb)
  | succ d ih =>
    intro k n b hk hn hb
    obtain ⟨n, rfl⟩ : ∃ n', n = n' + 1 := ⟨n - 1, by omega⟩
    have hkm : k < m := by omega
    have hk3 : 3 ^ k ≤ 729 := p3_le (by omega)
    have hp := p3_pos k
    have hd3 := dg_lt x k
    have e3 : ¬ (3 : Int32) = 0 := by decide
    have hdv : x / 3 ^ k ≤ x := Nat.div_le_self _ _
    have e7 : nI (3 ^ k) * 3 = nI (3 ^ (k + 1)) := by
      rw [show (3 : Int32) = nI 3 from rfl, pk_mul, Nat.pow_succ]
    have ed : nI x / nI (3 ^ k) = nI (x / 3 ^ k) := pk_div (by omega) hp (by omega)
    unfold wY_primes_178
    refine br_f (nI_ge (by omega) (by omega)) ?_
    cases e : b
    · refine br_t rfl (fin false ⟨fun z => absurd z (by decide), fun z => ?_⟩)
      rw [hb.mpr ⟨z.1, fun v hv => z.2 v (by omega)⟩] at e
      exact absurd e (by decide)
    · have hb' := hb.mp e
      rw [ed, gw_rem3 (by omega), e7]
      refine br_f (by decide) ⟨nI_ne0 hp (by omega), e3, nm_e ?_⟩
      show (2 ≤ nI (dg x k) → _) ∧ _
      refine pk_le 2 (dg x k) (fun z => nm_e (nm_r (nI_1 k) (ih (k + 1) n true (by omega) (by omega) ⟨fun _ => ⟨hb'.1, fun v hv hf => ?_⟩, fun _ => rfl⟩))) (fun z => ?_)
      · by_cases ev : v = k
        · subst ev
          rw [frd_tb hkm, decide_eq_true (by omega)] at hf
          exact absurd hf (by decide)
        · exact hb'.2 v (by omega) hf
      · have e2 : (2 : Int32) - nI (dg x k) = nI (2 - dg x k) := pk_sub (a := 2) (by omega)
        rw [show nI (x / 3 ^ k % 3) = nI (dg x k) from rfl, e2, pk_mul, nI_add]
        have hff : (frd m x).testBit k = false := by rw [frd_tb hkm]; exact decide_eq_false (by omega)
        refine yw_holds hm (dg_uplt hkm hx (by omega)) ht (fun r hr => ?_)
        rcases BA_iff hr (hq_up hkm (show dg x k < 2 by omega)) with ⟨rfl, hr2⟩ | ⟨rfl, hr2⟩
        · refine br_f (by decide) (nm_e (nm_r (nI_1 k) (ih (k + 1) n false (by omega) (by omega) ⟨fun z => absurd z (by decide), fun z => absurd hr2 (z.2 k (by omega) hff)⟩)))
        · refine br_t rfl (nm_e (nm_r (nI_1 k) (ih (k + 1) n true (by omega) (by omega) ⟨fun _ => ⟨hb'.1, fun v hv hf => ?_⟩, fun _ => rfl⟩)))
          by_cases ev : v = k
          · subst ev; exact hr2
          · exact hb'.2 v (by omega) hf
theorem yw_primes157 {m : Nat} (hm : m ≤ 6) {tb : Nat → Bool} (ht : ∀ a, a < 2 ^ m → a_table a = nI (tb a).toNat) {F : Nat → Nat → Bool} (hF : ∀ f i, f < 2 ^ m → i < 2 ^ m → (F f i = true ↔ PQ tb m f i)) {post : Int32 → SY → Prop}
    (h : post (nI (cnt (fun x => F (frd m x) (vld m x)) (3 ^ m))) (nI (cN c), nI (cS c), nI (cR c), xK c, a_first, a_second, a_third, xF c, a_now, a_at, a_other, a_source, a_register, a_level, a_soon, a_depend, a_table, a_marked, a_after, a_shows, a_apart)) :
    ∀ d x n, x + d = 3 ^ m → d < n → wY_primes_157 post (nI m) (nI (3 ^ m)) (nI (cN c)) (nI (cS c)) (nI (cR c)) (xK c) a_first a_second a_third (xF c) a_now a_at a_other a_source a_register a_level a_soon a_depend a_table a_marked a_after a_shows a_apart n (nI (cnt (fun x => F (frd m x) (vld m x)) x)) (nI x) := by
  have h3 := p3_le hm
  intro d
  induction d with
  | zero =>
    intro x n hx hn
    obtain ⟨n, rfl⟩ : ∃ n', n = n' + 1 := ⟨n - 1, by omega⟩
    have : x = 3 ^ m := by omega
    subst this
    unfold wY_primes_157
    exact br_t (nI_le (Nat.le_refl _) (by omega)) h
  | succ d ih =>
    intro x n hx hn
    obtain ⟨n, rfl⟩ : ∃ n', n = n' + 1 := ⟨n - 1, by omega⟩
    have hi := ih (x + 1) n (by omega) (by omega)
    rw [cnt_s] at hi
    unfold wY_primes_157
    refine br_f (nI_ge (by omega) (by omega)) (yw_holds hm (by omega) ht (fun r hr => ⟨m + 1, ?_⟩))
    have hJ : ∀ b : Bool, (b = true ↔ PQ tb m (frd m x) (vld m x)) → wY_primes_157 post (nI m) (nI (3 ^ m)) (nI (cN c)) (nI (cS c)) (nI (cR c)) (xK c) a_first a_second a_third (xF c) a_now a_at a_other a_source a_register a_level a_soon a_depend a_table a_marked a_after a_shows a_apart n (nI (cnt (fun x => F (frd m x) (vld m x)) x + b.toNat)) (nI (x + 1)) := fun b hb => by
      have : F (frd m x) (vld m x) = b := by
        have hf := hF _ _ (frd_lt m x) (vld_lt m x)
        cases ea : F (frd m x) (vld m x) <;> cases eb : b
        · rfl
        · rw [hf.mpr (hb.mp eb)] at ea; exact absurd ea (by decide)
        · rw [hb.mpr (hf.mp ea)] at eb; exact absurd eb (by decide)
        · rfl
      rw [this] at hi
      exact hi
    rcases hr with ⟨rfl, hr⟩ | ⟨rfl, hr⟩
    · exact yw_primes178 hm (by omega) ht hJ m 0 (m + 1) true (by omega) (by omega) ⟨fun _ => ⟨hr, fun v hv => by omega⟩, fun _ => rfl⟩
    · exact yw_primes178 hm (by omega) ht hJ m 0 (m + 1) false (by omega) (by omega) ⟨fun z => absurd z (by decide), fun z => absurd z.1 hr⟩
theorem yw_primes135 {m : Nat} (hm : m ≤ 6) {tb : Nat → Bool} (ht : ∀ a, a < 2 ^ m → a_table a = nI (tb a).toNat) {F : Nat → Nat → Bool} (hF : ∀ f i, f < 2 ^ m → i < 2 ^ m → (F f i = true ↔ PQ tb m f i)) {post : Int32 → SY → Prop}
    (h : post (nI (cnt (fun x => F (frd m x) (vld m x)) (3 ^ m))) (nI (cN c), nI (cS c), nI (cR c), xK c, a_first, a_second, a_third, xF c, a_now, a_at, a_other, a_source, a_register, a_level, a_soon, a_depend, a_table, a_marked, a_after, a_shows, a_apart)) :
    ∀ d k n, k + d = m → d < n → wY_primes_135 post (nI m) (nI (cN c)) (nI (cS c)) (nI (cR c)) (xK c) a_first a_second a_third (xF c) a_now a_at a_other a_source a_register a_level a_soon a_depend a_table a_marked a_after a_shows a_apart n (nI (3 ^ k)) (nI k) := by
  intro d
  induction d with
  | zero =>
    intro k n hk hn
    obtain ⟨n, rfl⟩ : ∃ n', n = n' + 1 := ⟨n - 1, by omega⟩
    have : k = m := by omega
    subst this
    unfold wY_primes_135
    exact br_t (nI_le (Nat.le_refl _) (by omega)) ⟨3 ^ k + 1, yw_primes157 hm ht hF h (3 ^ k) 0 _ (by omega) (by omega)⟩
  | succ d ih =>
    intro k n hk hn
    obtain ⟨n, rfl⟩ : ∃ n', n = n' + 1 := ⟨n - 1, by omega⟩
    have e7 : nI (3 ^ k) * 3 = nI (3 ^ (k + 1)) := by
      rw [show (3 : Int32) = nI 3 from rfl, pk_mul, Nat.pow_succ]
    unfold wY_primes_135
    exact br_f (nI_ge (by omega) (by omega)) (nm_r e7 (nm_r (nI_1 k) (ih (k + 1) n (by omega) (by omega))))
theorem yw_primes75 (w : WF c) (hY : YS c a_first a_second a_third a_source a_register) {j m : Nat} (hj : j < cN c) (hm : m ≤ 6) {dep : Nat → Nat} (hd : ∀ k, k < m → dep k < cS c ∧ a_depend k = nI (dep k)) {a : Nat} (ha : a < 2 ^ m) {post : Int32 → SY → Prop}
    {J62 : Int32 → Int32 → Int32 → Int32 → (Nat → Int32) → (Nat → Int32) → (Nat → Int32) → (Nat → Int32) → (Nat → Int32) → (Nat → Int32) → (Nat → Int32) → (Nat → Int32) → (Nat → Int32) → (Nat → Int32) → (Nat → Int32) → (Nat → Int32) → (Nat → Int32) → (Nat → Int32) → (Nat → Int32) → (Nat → Int32) → (Nat → Int32) → (Nat → Int32) → Prop}
    (hJ : ∀ t, J62 (nI (a + 1)) (nI (cN c)) (nI (cS c)) (nI (cR c)) (xK c) a_first a_second a_third (xF c) a_now t a_other a_source a_register a_level a_soon a_depend (upd a_table a (nI (EV c (spr dep a m) j).toNat)) a_marked a_after a_shows a_apart) :
    ∀ d k n, k + d = m → d < n → wY_primes_75 post J62 (nI j) (nI m) (nI a) (nI (cN c)) (nI (cS c)) (nI (cR c)) (xK c) a_first a_second a_third (xF c) a_now a_at a_other a_source a_register a_level a_soon a_depend a_table a_marked a_after a_shows a_apart n (nI (spr dep a k)) (nI k) := by
  have hN := wf_N w
  have hS := wf_S w
  have hS2 := gw_p2 hS
  have hm64 : 2 ^ m ≤ 64 := Nat.pow_le_pow_right (n := 2) (j := 6) (by decide) hm
  intro d
  induction d with
  | zero =>
    intro k n hk hn
    obtain ⟨n, rfl⟩ : ∃ n', n = n' + 1 := ⟨n - 1, by omega⟩
    have : k = m := by omega
    subst this
    have hs := spr_lt (a := a) (n := cS c) k (fun i hi => (hd i hi).1)
    unfold wY_primes_75
    refine br_t (nI_le (Nat.le_refl _) (by omega)) (yw_assign w hY (by omega) (fun t ht => ?_))
    dsimp only
    rw [gw_cl (by omega), gw_cl (by omega), ht j hj, gw_bool]
    exact ⟨vp_in_nI (by omega) (by omega), vp_in_nI (by omega) (by omega), nm_e (nm_r (nI_1 a) (hJ t))⟩
  | succ d ih =>
    intro k n hk hn
    obtain ⟨n, rfl⟩ : ∃ n', n = n' + 1 := ⟨n - 1, by omega⟩
    have hk' := hd k (by omega)
    have hp := gw_p2 (show dep k ≤ 10 by omega)
    have hb : (a.testBit k).toNat * 2 ^ dep k ≤ 2 ^ dep k := by cases a.testBit k <;> simp
    unfold wY_primes_75
    rw [gw_bit (by omega) (by omega), gw_cl (show k < 2147483648 by omega), hk'.2, gw_shl (by omega) (by omega), gw_or]
    exact br_f (nI_ge (by omega) (by omega)) ⟨vp_in_nI (by omega) (by omega), nm_e (nm_r (nI_1 k) (ih (k + 1) n (by omega) (by omega)))⟩
theorem yw_primes62 (w : WF c) (hY : YS c a_first a_second a_third a_source a_register) {j m : Nat} (hj : j < cN c) (hm : m ≤ 6) {dep : Nat → Nat} (hd : ∀ k, k < m → dep k < cS c ∧ a_depend k = nI (dep k)) {F : Nat → Nat → Bool} (hF : ∀ f i, f < 2 ^ m → i < 2 ^ m → (F f i = true ↔ PQ (fun a => EV c (spr dep a m) j) m f i)) {post : Int32 → SY → Prop}
    (h : ∀ t tb, post (nI (cnt (fun x => F (frd m x) (vld m x)) (3 ^ m))) (nI (cN c), nI (cS c), nI (cR c), xK c, a_first, a_second, a_third, xF c, a_now, t, a_other, a_source, a_register, a_level, a_soon, a_depend, tb, a_marked, a_after, a_shows, a_apart)) :
    ∀ d a n t tb, a + d = 2 ^ m → d < n → (∀ b, b < a → tb b = nI (EV c (spr dep b m) j).toNat) → wY_primes_62 post (nI j) (nI m) n (nI a) (nI (cN c)) (nI (cS c)) (nI (cR c)) (xK c) a_first a_second a_third (xF c) a_now t a_other a_source a_register a_level a_soon a_depend tb a_marked a_after a_shows a_apart := by
  have hm64 : 2 ^ m ≤ 64 := Nat.pow_le_pow_right (n := 2) (j := 6) (by decide) hm
  intro d
  induction d with
  | zero =>
    intro a n t tb ha hn hb
    obtain ⟨n, rfl⟩ : ∃ n', n = n' + 1 := ⟨n - 1, by omega⟩
    unfold wY_primes_62
    rw [gw_1shl (by omega)]
    exact br_t (nI_le (by omega) (by omega)) ⟨m + 1, yw_primes135 hm (tb := fun a => EV c (spr dep a m) j) (fun b hb' => hb b (by omega)) hF (h t tb) m 0 _ (by omega) (by omega)⟩
  | succ d ih =>
    intro a n t tb ha hn hb
    obtain ⟨n, rfl⟩ : ∃ n', n = n' + 1 := ⟨n - 1, by omega⟩
    unfold wY_primes_62
    rw [gw_1shl (by omega)]
    refine br_f (nI_ge (by omega) (by omega)) ⟨m + 1, yw_primes75 w hY hj hm hd (by omega) (fun t' => ih (a + 1) n t' _ (by omega) (by omega) (fun b hb' => ?_)) m 0 _ (by omega) (by omega)⟩
    by_cases e : b = a
    · rw [e, pk_us]
    · rw [pk_un e]; exact hb b (by omega)
theorem yw_primes14 (w : WF c) (hY : YS c a_first a_second a_third a_source a_register) {j : Nat} (hj : j < cN c) {p : Nat → Bool} (hp : ∀ s, p s = true ↔ DEP c j s) {post : Int32 → SY → Prop}
    (h : ∀ t dp tb x, PRM c j p x → post x (nI (cN c), nI (cS c), nI (cR c), xK c, a_first, a_second, a_third, xF c, a_now, t, a_other, a_source, a_register, a_level, a_soon, dp, tb, a_marked, a_after, a_shows, a_apart)) :
    ∀ d s n t dp, s + d = cS c → d < n → (∀ k, k < cnt p s → dp k = nI (dpf p s k)) → wY_primes_14 post (nI j) n (nI (cnt p s)) (nI s) (nI (cN c)) (nI (cS c)) (nI (cR c)) (xK c) a_first a_second a_third (xF c) a_now t a_other a_source a_register a_level a_soon dp a_table a_marked a_after a_shows a_apart := by
  have hS := wf_S w
  intro d
  induction d with
  | zero =>
    intro s n t dp hs hn hdp
    obtain ⟨n, rfl⟩ : ∃ n', n = n' + 1 := ⟨n - 1, by omega⟩
    have : s = cS c := by omega
    subst this
    have hle := cnt_le p (cS c)
    have hsel : ∃ F : Nat → Nat → Bool, ∀ f i, (F f i = true ↔ PQ (ctb c j p) (cnt p (cS c)) f i) := ⟨fun f i => @decide (PQ (ctb c j p) (cnt p (cS c)) f i) (Classical.propDecidable _), fun f i => @decide_eq_true_iff _ (Classical.propDecidable _)⟩
    obtain ⟨F, hF⟩ := hsel
    unfold wY_primes_14
    refine br_t (nI_le (Nat.le_refl _) (by omega)) (pk_le (cnt p (cS c)) 6 (fun h6 => ?_) (fun h6 => h t dp a_table _ (Or.inl ⟨h6, rfl⟩)))
    exact ⟨2 ^ cnt p (cS c) + 1, yw_primes62 w hY hj h6 (dep := dpf p (cS c)) (fun k hk => ⟨dpf_lt _ _ hk, hdp k hk⟩) (fun f i _ _ => hF f i) (fun t' tb' => h t' dp tb' _ (Or.inr ⟨h6, F, fun f i _ _ => hF f i, rfl⟩)) (2 ^ cnt p (cS c)) 0 _ t a_table (by omega) (by omega) (fun b hb => by omega)⟩
  | succ d ih =>
    intro s n t dp hs hn hdp
    obtain ⟨n, rfl⟩ : ∃ n', n = n' + 1 := ⟨n - 1, by omega⟩
    have hs' : s < cS c := by omega
    have hle := cnt_le p s
    unfold wY_primes_14
    refine br_f (nI_ge (by omega) (by omega)) (yw_leans w hY hj hs' (fun t' x hx => ?_))
    dsimp only
    rcases hx with ⟨rfl, hx⟩ | ⟨rfl, hx⟩
    · have hps : p s = true := (hp s).mpr hx
      have h1 : cnt p (s + 1) = cnt p s + 1 := by rw [cnt_s, hps]; rfl
      rw [gw_cl (by omega)]
      refine br_f (by decide) (nm_r (nI_1 _) ⟨vp_in_nI (by omega) (by omega), nm_e (nm_r (nI_1 s) ?_)⟩)
      rw [← h1]
      refine ih (s + 1) n t' _ (by omega) (by omega) (fun k hk => ?_)
      by_cases e2 : k = cnt p s
      · rw [e2, pk_us, dpf_new hps]
      · rw [pk_un e2, dpf_old (by omega)]
        exact hdp k (by omega)
    · have hps : p s = false := by
        cases e : p s
        · rfl
        · exact absurd ((hp s).mp e) hx
      have h1 : cnt p (s + 1) = cnt p s := by rw [cnt_s, hps]; rfl
      refine br_t rfl (nm_r (nI_1 s) ?_)
      have hi := ih (s + 1) n t' dp (by omega) (by omega) (fun k hk => by
        rw [dpf_old (by omega)]
        exact hdp k (by omega))
      rw [h1] at hi
      exact hi
theorem ym_primes (w : WF c) {now : Nat} {v : SY} (hv : YR c now v) {j : Nat} (hj : j < cN c) {p : Nat → Bool} (hp : ∀ s, p s = true ↔ DEP c j s) {post : Int32 → SY → Prop} (h : ∀ v' r, YR c now v' → PRM c j p r → post r v') : wpY_primes post v (nI j) := by
  refine yr_el (P := fun v => wpY_primes post v (nI j)) hv ?_
  intro a_first a_second a_third a_now a_at a_other a_source a_register a_level a_soon a_depend a_table a_marked a_after a_shows a_apart hY hN
  dsimp only [wpY_primes]
  refine yw_isNet_t w hj (br_f (by decide) ⟨cS c + 1, ?_⟩)
  exact yw_primes14 w hY hj hp (fun t dp tb x hx => h _ x (yr_in hY hN) hx) (cS c) 0 _ a_at a_depend (by omega) (by omega) (fun k hk => absurd hk (Nat.not_lt_zero _))
end
end
section
/-! ===== flows and cuts: the pure rows ===== -/
def sumZ (f : Nat → Int) : Nat → Int
  | 0 => 0
  | n + 1 => sumZ f n + f n
theorem sumZ_congr {f g : Nat → Int} : ∀ n, (∀ i, i < n → f i = g i) → sumZ f n = sumZ g n
  | 0, _ => rfl
  | n + 1, h => by
    show sumZ f n + f n = sumZ g n + g n
    rw [sumZ_congr n (fun i hi => h i (by omega)), h n (by omega)]
theorem sumZ_le {f g : Nat → Int} : ∀ n, (∀ i, i < n → f i ≤ g i) → sumZ f n ≤ sumZ g n
  | 0, _ => Int.le_refl _
  | n + 1, h => by
    show sumZ f n + f n ≤ sumZ g n + g n
    have := sumZ_le n (fun i hi => h i (by omega))
    have := h n (by omega)
    omega
theorem sumZ_0 {f : Nat → Int} : ∀ n, (∀ i, i < n → f i = 0) → sumZ f n = 0
  | 0, _ => rfl
  | n + 1, h => by
    show sumZ f n + f n = 0
    rw [sumZ_0 n (fun i hi => h i (by omega)), h n (by omega)]
    rfl
theorem sumZ_one {f g : Nat → Int} {k : Nat} : ∀ n, k < n → (∀ i, i ≠ k → f i = g i) → sumZ f n = sumZ g n + (f k - g k)
  | 0, hk, _ => absurd hk (Nat.not_lt_zero _)
  | n + 1, hk, h => by
    show sumZ f n + f n = sumZ g n + g n + (f k - g k)
    by_cases e : k = n
    · subst e
      rw [sumZ_congr k (fun i hi => h i (by omega))]
      omega
    · rw [sumZ_one n (by omega) h, h n (fun z => e z.symm)]
      omega
theorem sumZ_cnt (p : Nat → Bool) : ∀ n, sumZ (fun i => if p i then 1 else 0) n = (cnt p n : Int)
  | 0 => rfl
  | n + 1 => by
    show sumZ (fun i => if p i then 1 else 0) n + (if p n then 1 else 0) = ((cnt p n + (p n).toNat : Nat) : Int)
    rw [sumZ_cnt p n]
    cases p n <;> simp
/-- how many wires a net has -/
def wr (c : CK) (n : Nat) : Nat := if cK c n < 3 then 0 else if cK c n = 3 then 1 else if cK c n < 7 then 2 else 3
theorem wr_le (c : CK) (n : Nat) : wr c n ≤ 3 := by
  unfold wr
  split
  · omega
  · split
    · omega
    · split <;> omega
theorem wr_0 {c : CK} {n : Nat} : 0 < wr c n ↔ 3 ≤ cK c n := by
  unfold wr
  split
  · omega
  · split
    · omega
    · split <;> omega
theorem wr_1 {c : CK} {n : Nat} : 1 < wr c n ↔ 4 ≤ cK c n := by
  unfold wr
  split
  · omega
  · split
    · omega
    · split <;> omega
theorem wr_2 {c : CK} {n : Nat} : 2 < wr c n ↔ 7 ≤ cK c n := by
  unfold wr
  split
  · omega
  · split
    · omega
    · split <;> omega
/-- e is a wire of net m -/
def WIR (c : CK) (e m : Nat) : Prop := e / 3 = m ∧ e % 3 < wr c m
theorem wir_op {c : CK} (w : WF c) {e m : Nat} (hm : m < cN c) (h : WIR c e m) : cO c e < m := by
  obtain ⟨h1, h2⟩ := h
  have h3 : e % 3 < 3 := Nat.mod_lt _ (by decide)
  have h4 : e % 3 = 0 ∨ e % 3 = 1 ∨ e % 3 = 2 := by omega
  rcases h4 with h4 | h4 | h4
  · rw [h4, wr_0] at h2
    rw [show e = 3 * m by omega]
    exact wf_o1 w hm h2
  · rw [h4, wr_1] at h2
    rw [show e = 3 * m + 1 by omega]
    exact wf_o2 w hm h2
  · rw [h4, wr_2] at h2
    rw [show e = 3 * m + 2 by omega]
    exact wf_o3 w hm h2
theorem wir_M {c : CK} {M : Nat → Bool} {n : Nat} : ((3 ≤ cK c n → M (cO c (3 * n)) = true) ∧ (4 ≤ cK c n → M (cO c (3 * n + 1)) = true) ∧ (7 ≤ cK c n → M (cO c (3 * n + 2)) = true)) ↔ ∀ e, WIR c e n → M (cO c e) = true := by
  constructor
  · rintro ⟨a1, a2, a3⟩ e ⟨h1, h2⟩
    have h4 : e % 3 = 0 ∨ e % 3 = 1 ∨ e % 3 = 2 := by omega
    rcases h4 with h4 | h4 | h4
    · rw [h4, wr_0] at h2
      rw [show e = 3 * n by omega]
      exact a1 h2
    · rw [h4, wr_1] at h2
      rw [show e = 3 * n + 1 by omega]
      exact a2 h2
    · rw [h4, wr_2] at h2
      rw [show e = 3 * n + 2 by omega]
      exact a3 h2
  · intro h
    refine ⟨fun k => h _ ⟨by omega, ?_⟩, fun k => h _ ⟨by omega, ?_⟩, fun k => h _ ⟨by omega, ?_⟩⟩
    · rw [show 3 * n % 3 = 0 by omega]; exact wr_0.mpr k
    · rw [show (3 * n + 1) % 3 = 1 by omega]; exact wr_1.mpr k
    · rw [show (3 * n + 2) % 3 = 2 by omega]; exact wr_2.mpr k
theorem sep_iff {c : CK} {T : Nat} {C : Nat → Bool} : SEP c T C ↔ ∃ M : Nat → Bool, M T = true ∧ ∀ n, n ≤ T → M n = true → (n = T ∨ C n = false) → 2 ≤ cK c n ∧ ∀ e, WIR c e n → M (cO c e) = true := by
  unfold SEP
  constructor
  · rintro ⟨M, h1, h2⟩
    exact ⟨M, h1, fun n a b d => ⟨(h2 n a b d).1, wir_M.mp (h2 n a b d).2⟩⟩
  · rintro ⟨M, h1, h2⟩
    exact ⟨M, h1, fun n a b d => ⟨(h2 n a b d).1, wir_M.mpr (h2 n a b d).2⟩⟩
/-- fronts are 0 .. 31, backs 32 .. 63 -/
def PHI (c : CK) (nf ef : Nat → Nat) (π : Nat → Int) : Int := sumZ (fun n => (nf n : Int) * (π n - π (32 + n))) 32 + sumZ (fun e => (ef e : Int) * (π (32 + cO c e) - π (e / 3))) 96
def FLW (c : CK) (T : Nat) (may : Nat → Bool) (ch : Nat) (nf ef : Nat → Nat) : Prop :=
  (∀ π : Nat → Int, (∀ s, s < cS c → π (cA c s) = 1) → π T = 0 → PHI c nf ef π = (ch : Int)) ∧ (∀ n, n < 32 → may n = true → nf n ≤ 1) ∧ (∀ n, n < 32 → nf n ≤ ch) ∧ (∀ e, e < 96 → ef e ≤ ch) ∧ (∀ e, e < 96 → 0 < ef e → e / 3 ≤ T ∧ WIR c e (e / 3))
theorem flw_0 (c : CK) (T : Nat) (may : Nat → Bool) : FLW c T may 0 (fun _ => 0) (fun _ => 0) := by
  refine ⟨fun π _ _ => ?_, fun _ _ _ => Nat.zero_le _, fun _ _ => Nat.le_refl _, fun _ _ => Nat.le_refl _, fun e _ h => absurd h (Nat.lt_irrefl _)⟩
  unfold PHI
  rw [sumZ_0 32 (fun i _ => by simp), sumZ_0 96 (fun i _ => by simp)]
  rfl
section
variable {c : CK} {T : Nat} {may : Nat → Bool}
/-- a cut bounds every flow -/
theorem flw_cut (w : WF c) (hT : T < cN c) (hk : 3 ≤ cK c T) {ch : Nat} {nf ef : Nat → Nat} (hf : FLW c T may ch nf ef) {C : Nat → Bool} (hC : ∀ n, n < T → C n = true → may n = true) (hs : SEP c T C) : ch ≤ cnt C T := by
  have hN := wf_N w
  obtain ⟨M, hM1, hM2⟩ := sep_iff.mp hs
  let fr : Nat → Bool := fun v => decide (v = T) || (decide (v < T) && M v && !C v)
  let bk : Nat → Bool := fun n => decide (n = T) || (decide (n < T) && M n)
  let π : Nat → Int := fun v => if v < 32 then (if fr v then 0 else 1) else (if bk (v - 32) then 0 else 1)
  have πf : ∀ v, v < 32 → π v = if fr v then 0 else 1 := fun v hv => if_pos hv
  have πb : ∀ n, π (32 + n) = if bk n then 0 else 1 := fun n => by
    show (if 32 + n < 32 then _ else _) = _
    rw [if_neg (by omega), Nat.add_sub_cancel_left]
  have frE : ∀ v, fr v = (decide (v = T) || (decide (v < T) && M v && !C v)) := fun _ => rfl
  have bkE : ∀ v, bk v = (decide (v = T) || (decide (v < T) && M v)) := fun _ => rfl
  have hΦ := hf.1 π (fun s hs' => by
    have hA := wf_A w hs'
    have hAK := wf_AK w hs'
    rw [πf _ (by omega)]
    have : fr (cA c s) = false := by
      rw [frE, decide_eq_false (fun z => by rw [z] at hAK; omega), Bool.false_or]
      cases e1 : decide (cA c s < T)
      · rfl
      · cases e2 : M (cA c s)
        · rfl
        · cases e3 : C (cA c s)
          · have := (hM2 (cA c s) (by have := of_decide_eq_true e1; omega) e2 (Or.inr e3)).1
            omega
          · rfl
    rw [this]
    rfl) (by
    rw [πf _ (by omega)]
    have : fr T = true := by rw [frE, decide_eq_true rfl, Bool.true_or]
    rw [this]
    rfl)
  unfold PHI at hΦ
  have h1 : sumZ (fun n => (nf n : Int) * (π n - π (32 + n))) 32 ≤ sumZ (fun n => if (decide (n < T) && C n) then 1 else 0) 32 := by
    refine sumZ_le 32 (fun n hn => ?_)
    show (nf n : Int) * (π n - π (32 + n)) ≤ _
    rw [πf n hn, πb n, frE, bkE]
    by_cases e1 : n = T
    · rw [decide_eq_true e1, decide_eq_false (show ¬ n < T by omega)]
      simp
    · rw [decide_eq_false e1]
      by_cases e2 : n < T
      · rw [decide_eq_true e2]
        cases e3 : M n <;> cases e4 : C n
        · simp
        · simp
        · simp
        · have := hf.2.1 n hn (hC n e2 e4)
          simp
          omega
      · rw [decide_eq_false e2]
        simp
  have h2 : sumZ (fun e => (ef e : Int) * (π (32 + cO c e) - π (e / 3))) 96 ≤ sumZ (fun _ => 0) 96 := by
    refine sumZ_le 96 (fun e he => ?_)
    show (ef e : Int) * (π (32 + cO c e) - π (e / 3)) ≤ 0
    by_cases e0 : ef e = 0
    · rw [e0]; simp
    · obtain ⟨hm, hw⟩ := hf.2.2.2.2 e he (by omega)
      have hop := wir_op w (show e / 3 < cN c by omega) hw
      have hle : π (32 + cO c e) ≤ π (e / 3) := by
        rw [πb, πf _ (by omega)]
        cases ef1 : fr (e / 3)
        · cases bk (cO c e) <;> decide
        · have : bk (cO c e) = true := by
            have hMo : M (cO c e) = true := by
              rw [frE] at ef1
              by_cases z : e / 3 = T
              · exact (hM2 (e / 3) hm (by rw [z]; exact hM1) (Or.inl z)).2 e hw
              · rw [decide_eq_false z, Bool.false_or, Bool.and_eq_true, Bool.and_eq_true] at ef1
                refine (hM2 (e / 3) hm ef1.1.2 (Or.inr ?_)).2 e hw
                cases y : C (e / 3)
                · rfl
                · rw [y] at ef1; exact absurd ef1.2 (by decide)
            rw [bkE, hMo, decide_eq_true (show cO c e < T by omega)]
            simp
          rw [this]
          decide
      have h3 : (0 : Int) ≤ (ef e : Int) := Int.natCast_nonneg _
      have h4 : (ef e : Int) * (π (32 + cO c e) - π (e / 3)) ≤ (ef e : Int) * 0 := Int.mul_le_mul_of_nonneg_left (by omega) h3
      rw [Int.mul_zero] at h4
      exact h4
  rw [sumZ_0 96 (fun _ _ => rfl)] at h2
  rw [sumZ_cnt] at h1
  have h5 : cnt (fun n => decide (n < T) && C n) 32 = cnt C T := by
    rw [cnt_ext (show T ≤ 32 by omega) (fun i hi _ => by rw [decide_eq_false (by omega), Bool.false_and])]
    exact cnt_congr (fun i hi => by rw [decide_eq_true hi, Bool.true_and])
  rw [h5] at h1
  omega
/-- what a vertex that has been worked on has met -/
def CLO (c : CK) (T : Nat) (may : Nat → Bool) (nf ef : Nat → Nat) (met : Int64) (v : Nat) : Prop :=
  (v < 32 → ((nf v = 0 ∨ may v = false) → lb met (32 + v) = true) ∧ ∀ e, e < 96 → WIR c e v → 0 < ef e → lb met (32 + cO c e) = true)
  ∧ (∀ n, v = 32 + n → (0 < nf n → lb met n = true) ∧ ∀ m, n < m → m ≤ T → ∀ e, e < 96 → WIR c e m → cO c e = n → lb met m = true)
theorem clo_mono {nf ef : Nat → Nat} {met met' : Int64} {v : Nat} (h : CLO c T may nf ef met v) (hm : ∀ x, lb met x = true → lb met' x = true) : CLO c T may nf ef met' v :=
  ⟨fun hv => ⟨fun z => hm _ ((h.1 hv).1 z), fun e he hw hf => hm _ ((h.1 hv).2 e he hw hf)⟩, fun n hn => ⟨fun z => hm _ ((h.2 n hn).1 z), fun m h1 h2 e he hw ho => hm _ ((h.2 n hn).2 m h1 h2 e he hw ho)⟩⟩
/-- the cut at the end of a search that fails -/
theorem flw_met (w : WF c) (hT : T < cN c) (hk : 3 ≤ cK c T) {ch : Nat} {nf ef : Nat → Nat} (hf : FLW c T may ch nf ef) {met : Int64} (hcl : ∀ v, v < 64 → lb met v = true → CLO c T may nf ef met v) (hsrc : ∀ s, s < cS c → lb met (cA c s) = true) (hno : lb met T = false) :
    ∃ C : Nat → Bool, cnt C T ≤ ch ∧ (∀ n, n < T → C n = true → may n = true) ∧ SEP c T C := by
  have hN := wf_N w
  let C : Nat → Bool := fun n => lb met n && !lb met (32 + n)
  have CE : ∀ n, C n = (lb met n && !lb met (32 + n)) := fun _ => rfl
  let π : Nat → Int := fun v => if lb met v then 1 else 0
  have πE : ∀ v, π v = if lb met v then 1 else 0 := fun _ => rfl
  have hΦ := hf.1 π (fun s hs => by rw [πE, hsrc s hs]; rfl) (by rw [πE, hno]; rfl)
  unfold PHI at hΦ
  have hmay : ∀ n, n < 32 → C n = true → may n = true ∧ nf n = 1 := fun n hn hC => by
    rw [CE, Bool.and_eq_true] at hC
    have hc := ((hcl n (by omega) hC.1).1 hn).1
    have h1 : ¬ (nf n = 0 ∨ may n = false) := fun z => by
      rw [hc z] at hC
      exact absurd hC.2 (by decide)
    have h2 : may n = true := by
      cases e : may n
      · exact absurd (Or.inr e) h1
      · rfl
    have h3 := hf.2.1 n hn h2
    exact ⟨h2, by omega⟩
  have h1 : sumZ (fun n => (nf n : Int) * (π n - π (32 + n))) 32 = sumZ (fun n => if C n then 1 else 0) 32 := by
    refine sumZ_congr 32 (fun n hn => ?_)
    show (nf n : Int) * (π n - π (32 + n)) = if C n then 1 else 0
    cases e1 : lb met n <;> cases e2 : lb met (32 + n)
    · rw [πE, πE, e1, e2, CE, e1]; simp
    · have h2 := ((hcl (32 + n) (by omega) e2).2 n rfl).1
      have h3 : nf n = 0 := by
        apply Classical.byContradiction
        intro z
        rw [h2 (by omega)] at e1
        exact absurd e1 (by decide)
      rw [h3, CE, e1]; simp
    · have hC : C n = true := by rw [CE, e1, e2]; rfl
      rw [πE, πE, e1, e2, hC, (hmay n hn hC).2]; simp
    · rw [πE, πE, e1, e2, CE, e1, e2]; simp
  have h2 : sumZ (fun e => (ef e : Int) * (π (32 + cO c e) - π (e / 3))) 96 = 0 := by
    refine sumZ_0 96 (fun e he => ?_)
    show (ef e : Int) * (π (32 + cO c e) - π (e / 3)) = 0
    by_cases e0 : ef e = 0
    · rw [e0]; simp
    · obtain ⟨hm, hw⟩ := hf.2.2.2.2 e he (by omega)
      have hop := wir_op w (show e / 3 < cN c by omega) hw
      have e3 : lb met (32 + cO c e) = lb met (e / 3) := by
        cases e1 : lb met (e / 3)
        · cases e2 : lb met (32 + cO c e)
          · rfl
          · have := ((hcl (32 + cO c e) (by omega) e2).2 _ rfl).2 (e / 3) hop hm e he hw rfl
            rw [e1] at this
            exact absurd this (by decide)
        · exact ((hcl (e / 3) (by omega) e1).1 (by omega)).2 e he hw (by omega)
      rw [πE, πE, e3]; simp
  rw [h1, h2, sumZ_cnt] at hΦ
  refine ⟨C, ?_, fun n hn hC => (hmay n (by omega) hC).1, ?_⟩
  · have h3 := cnt_add C T (32 - T)
    rw [show T + (32 - T) = 32 by omega] at h3
    omega
  · refine sep_iff.mpr ⟨fun n => decide (n = T) || !lb met (32 + n), by simp, fun n hn hM hC => ?_⟩
    have hM : (decide (n = T) || !lb met (32 + n)) = true := hM
    have hM' : n = T ∨ lb met (32 + n) = false := by
      cases e : lb met (32 + n)
      · exact Or.inr rfl
      · rw [e] at hM
        left
        simpa using hM
    have hnm : lb met n = false := by
      by_cases e : n = T
      · rw [e]; exact hno
      · rcases hC with z | z
        · exact absurd z e
        · rcases hM' with y | y
          · exact absurd y e
          · rw [CE, y] at z
            cases e2 : lb met n
            · rfl
            · rw [e2] at z; exact absurd z (by decide)
    constructor
    · apply Classical.byContradiction
      intro z
      obtain ⟨s, hs, e⟩ := wf_Ax w (show n < cN c by omega) (by omega)
      rw [← e, hsrc s hs] at hnm
      exact absurd hnm (by decide)
    · intro e hw
      have hop := wir_op w (show n < cN c by omega) hw
      have he : e < 96 := by have := hw.1; omega
      show (decide (cO c e = T) || !lb met (32 + cO c e)) = true
      cases e1 : lb met (32 + cO c e)
      · simp
      · have := ((hcl (32 + cO c e) (by omega) e1).2 _ rfl).2 n hop hn e he hw rfl
        rw [hnm] at this
        exact absurd this (by decide)
end
end
section
/-! ===== X: one search for a chain ===== -/
/-- a step of a chain from u to v, by what is written down as its edge -/
def ARC (c : CK) (T : Nat) (may : Nat → Bool) (nf ef : Nat → Nat) (u v : Nat) (x : Int32) : Prop :=
  (u < 32 ∧ v = 32 + u ∧ x = -1 ∧ (nf u = 0 ∨ may u = false)) ∨ (v < 32 ∧ u = 32 + v ∧ x = -1 ∧ 0 < nf v)
  ∨ (∃ e, e < 96 ∧ x = nI e ∧ u < 32 ∧ WIR c e u ∧ v = 32 + cO c e ∧ 0 < ef e) ∨ (∃ e, e < 96 ∧ x = nI e ∧ v < 32 ∧ WIR c e v ∧ u = 32 + cO c e ∧ v ≤ T)
def TRE (c : CK) (T : Nat) (may : Nat → Bool) (nf ef : Nat → Nat) (met : Int64) (bf eg : Nat → Int32) (rk : Nat → Nat) (v : Nat) : Prop :=
  (∃ s, s < cS c ∧ v = cA c s ∧ bf v = -1) ∨ (∃ u, u < 64 ∧ bf v = nI u ∧ lb met u = true ∧ rk u < rk v ∧ ARC c T may nf ef u v (eg v))
def BCR (c : CK) (T : Nat) (may : Nat → Bool) (nf ef : Nat → Nat) (met : Int64) (bf eg qu : Nat → Int32) (tl : Nat) (rk : Nat → Nat) : Prop :=
  cnt (lb met) 64 = tl ∧ (∀ i, i < tl → ∃ v, v < 64 ∧ qu i = nI v ∧ lb met v = true ∧ rk v = i)
  ∧ (∀ v, v < 64 → lb met v = true → rk v < tl ∧ qu (rk v) = nI v ∧ TRE c T may nf ef met bf eg rk v ∧ v % 32 < cN c ∧ (v % 32 ≤ T ∨ cK c (v % 32) < 2))
def BCX (c : CK) (T : Nat) (may : Nat → Bool) (nf ef : Nat → Nat) (met : Int64) (bf eg qu : Nat → Int32) (tl : Nat) : Prop := ∃ rk, BCR c T may nf ef met bf eg qu tl rk
def EXT (met : Int64) (qu : Nat → Int32) (tl : Nat) (met' : Int64) (qu' : Nat → Int32) (tl' : Nat) : Prop := (∀ x, lb met x = true → lb met' x = true) ∧ tl ≤ tl' ∧ ∀ i, i < tl → qu' i = qu i
theorem ext_rf {met : Int64} {qu : Nat → Int32} {tl : Nat} : EXT met qu tl met qu tl := ⟨fun _ h => h, Nat.le_refl _, fun _ _ => rfl⟩
theorem ext_tr {met met' met'' : Int64} {qu qu' qu'' : Nat → Int32} {tl tl' tl'' : Nat} (h : EXT met qu tl met' qu' tl') (k : EXT met' qu' tl' met'' qu'' tl'') : EXT met qu tl met'' qu'' tl'' :=
  ⟨fun x z => k.1 x (h.1 x z), Nat.le_trans h.2.1 k.2.1, fun i hi => by
    have := h.2.1
    rw [k.2.2 i (by omega), h.2.2 i hi]⟩
theorem cnt_lt64 {p : Nat → Bool} {v n : Nat} (hv : v < n) (h : p v = false) : cnt p n < n := by
  induction n with
  | zero => omega
  | succ n ih =>
    rw [cnt_s]
    by_cases e : v = n
    · subst e
      rw [h]
      have := cnt_le p v
      show cnt p v + 0 < v + 1
      omega
    · have := ih (by omega)
      have := gw_bl (p n)
      omega
theorem cnt_set {p q : Nat → Bool} {v n : Nat} (hv : v < n) (h : p v = false) (hq : ∀ i, i < n → q i = (p i || decide (i = v))) : cnt q n = cnt p n + 1 := by
  induction n with
  | zero => omega
  | succ n ih =>
    rw [cnt_s, cnt_s, hq n (by omega)]
    by_cases e : v = n
    · subst e
      have : cnt q v = cnt p v := cnt_congr (fun i hi => by
        rw [hq i (by omega), decide_eq_false (by omega), Bool.or_false])
      rw [this, h, decide_eq_true rfl]
      rfl
    · rw [ih (by omega) (fun i hi => hq i (by omega)), decide_eq_false (fun z => e z.symm), Bool.or_false]
      omega
section
variable {c : CK} {T : Nat} {may : Nat → Bool} {nf ef : Nat → Nat} {f_now : Int32} {f_right : Int32} {f_levelsKnown : Int32} {f_head : Int32} {f_tail : Int32} {f_met : Int64} {f_comesKnown : Int32} {f_entry : Int32} {f_round : Int32} {a_table : Nat → Int64} {a_saved : Nat → Int64} {a_matters : Nat → Int32} {a_cubes : Nat → Int64} {a_levels : Nat → Int32} {a_edgeFlow : Nat → Int32} {a_netFlow : Nat → Int32} {a_queue : Nat → Int32} {a_before : Nat → Int32} {a_edge : Nat → Int32} {a_leads : Nat → Int64} {a_comes : Nat → Int32} {a_group : Nat → Int32} {a_later : Nat → Int32} {a_goes : Nat → Int32} {a_shows : Nat → Int32}
theorem nar_ok {x : Int32} (h : x = -1 ∨ ∃ n, n < 128 ∧ x = nI n) : vp_nar .byte x.toInt8.toInt32 = x := by
  rcases h with rfl | ⟨n, hn, rfl⟩
  · exact gw_nbm2
  · exact gw_nbyte2 hn
theorem xw_meet {tl v : Nat} {fr ov : Int32} (hb : BCX c T may nf ef f_met a_before a_edge a_queue tl) (hv : v < 64)
    (hc : (∃ s, s < cS c ∧ v = cA c s ∧ fr = -1 ∧ ov = -1) ∨ (∃ u, u < 64 ∧ fr = nI u ∧ lb f_met u = true ∧ ARC c T may nf ef u v ov)) (h6 : v % 32 < cN c ∧ (v % 32 ≤ T ∨ cK c (v % 32) < 2)) {post : SX → Prop}
    (h : ∀ met bf eg qu tl', BCX c T may nf ef met bf eg qu tl' → EXT f_met a_queue tl met qu tl' → lb met v = true → post (nI (cN c), nI (cS c), nI (cR c), f_now, f_right, f_levelsKnown, f_head, nI tl', met, f_comesKnown, f_entry, f_round, xK c, xO c, xF c, xA c, xG c, xB c, a_table, a_saved, a_matters, a_cubes, a_levels, a_edgeFlow, a_netFlow, qu, bf, eg, a_leads, a_comes, a_group, a_later, a_goes, a_shows)) :
    wpX_meet post (nI (cN c), nI (cS c), nI (cR c), f_now, f_right, f_levelsKnown, f_head, nI tl, f_met, f_comesKnown, f_entry, f_round, xK c, xO c, xF c, xA c, xG c, xB c, a_table, a_saved, a_matters, a_cubes, a_levels, a_edgeFlow, a_netFlow, a_queue, a_before, a_edge, a_leads, a_comes, a_group, a_later, a_goes, a_shows) (nI v) fr ov := by
  obtain ⟨rk, h1, h2, h3⟩ := hb
  have hfr : fr = -1 ∨ ∃ n, n < 128 ∧ fr = nI n := by
    rcases hc with ⟨_, _, _, e, _⟩ | ⟨u, hu, e, _⟩
    · exact Or.inl e
    · exact Or.inr ⟨u, by omega, e⟩
  have hov : ov = -1 ∨ ∃ n, n < 128 ∧ ov = nI n := by
    rcases hc with ⟨_, _, _, _, e⟩ | ⟨u, hu, e, _, ⟨_, _, e, _⟩ | ⟨_, _, e, _⟩ | ⟨e, he, e2, _⟩ | ⟨e, he, e2, _⟩⟩
    · exact Or.inl e
    · exact Or.inl e
    · exact Or.inl e
    · exact Or.inr ⟨e, by omega, e2⟩
    · exact Or.inr ⟨e, by omega, e2⟩
  dsimp only [wpX_meet]
  refine br_c (fun z => ?_) (fun z => ?_)
  · rw [lb_bit0 hv] at z
    have ht64 : tl < 64 := by rw [← h1]; exact cnt_lt64 hv z
    rw [nar_ok hfr, nar_ok hov, gw_cl (show v < 2147483648 by omega), gw_cl (show tl < 2147483648 by omega), gw_nbyte2 (show v < 128 by omega)]
    have mE : ∀ x, x < 64 → lb (f_met ||| ((1 : Int64) <<< ((nI v).toInt64 &&& 63))) x = (lb f_met x || decide (x = v)) := fun x hx => by
      rw [lb_or, lb_1shl hv hx]
    refine nm_e ⟨vp_in_nI hv (by omega), nm_e ⟨vp_in_nI hv (by omega), nm_e (nm_r (nI_1 tl) ⟨vp_in_nI ht64 (by omega), nm_e (h _ _ _ _ (tl + 1) ?_ ?_ ?_)⟩)⟩⟩
    · refine ⟨fun x => if x = v then tl else rk x, ?_, fun i hi => ?_, fun x hx hm => ?_⟩
      · rw [cnt_set (p := lb f_met) hv z mE, h1]
      · by_cases e : i = tl
        · refine ⟨v, hv, by rw [e, pk_us], by rw [mE v hv, decide_eq_true rfl, Bool.or_true], ?_⟩
          show (if v = v then tl else rk v) = i
          rw [if_pos rfl, e]
        · obtain ⟨x, hx, k1, k2, k3⟩ := h2 i (by omega)
          refine ⟨x, hx, by rw [pk_un e]; exact k1, by rw [mE x hx, k2, Bool.true_or], ?_⟩
          show (if x = v then tl else rk x) = i
          rw [if_neg (fun y => by rw [y, z] at k2; exact absurd k2 (by decide))]
          exact k3
      · show (if x = v then tl else rk x) < tl + 1 ∧ upd a_queue tl (nI v) (if x = v then tl else rk x) = nI x ∧ TRE c T may nf ef _ _ _ (fun x => if x = v then tl else rk x) x ∧ _
        by_cases e : x = v
        · subst e
          rw [if_pos rfl, pk_us]
          refine ⟨by omega, rfl, ?_, h6⟩
          rcases hc with ⟨s, hs, e1, e2, e3⟩ | ⟨u, hu, e1, e2, e3⟩
          · exact Or.inl ⟨s, hs, e1, by rw [pk_us]; exact e2⟩
          · have hne : u ≠ x := fun y => by rw [y, z] at e2; exact absurd e2 (by decide)
            refine Or.inr ⟨u, hu, by rw [pk_us]; exact e1, by rw [mE u hu, e2, Bool.true_or], ?_, by rw [pk_us]; exact e3⟩
            show (if u = x then tl else rk u) < (if x = x then tl else rk x)
            rw [if_neg hne, if_pos rfl]
            exact (h3 u hu e2).1
        · have hm' : lb f_met x = true := by
            rw [mE x hx, decide_eq_false e, Bool.or_false] at hm
            exact hm
          obtain ⟨k1, k2, k3, k4⟩ := h3 x hx hm'
          rw [if_neg e, pk_un (show rk x ≠ tl by omega)]
          refine ⟨by omega, k2, ?_, k4⟩
          rcases k3 with ⟨s, hs, e1, e2⟩ | ⟨u, hu, e1, e2, e3, e4⟩
          · exact Or.inl ⟨s, hs, e1, by rw [pk_un e]; exact e2⟩
          · have hne : u ≠ v := fun y => by rw [y, z] at e2; exact absurd e2 (by decide)
            refine Or.inr ⟨u, hu, by rw [pk_un e]; exact e1, by rw [mE u hu, e2, Bool.true_or], ?_, by rw [pk_un e]; exact e4⟩
            show (if u = v then tl else rk u) < (if x = v then tl else rk x)
            rw [if_neg hne, if_neg e]
            exact e3
    · refine ⟨fun x hx => ?_, by omega, fun i hi => pk_un (by omega)⟩
      rw [lb_or, hx, Bool.true_or]
    · rw [mE v hv, decide_eq_true rfl, Bool.or_true]
  · rw [lb_bit0 hv] at z
    exact h _ _ _ _ tl ⟨rk, h1, h2, h3⟩ ext_rf (ts_nf z)
theorem xw_wires (w : WF c) {n : Nat} (hn : n < 32) {post : Int32 → Prop} (h : post (nI (wr c n))) : wpX_wires post (nI (cN c), nI (cS c), nI (cR c), f_now, f_right, f_levelsKnown, f_head, f_tail, f_met, f_comesKnown, f_entry, f_round, xK c, xO c, xF c, xA c, xG c, xB c, a_table, a_saved, a_matters, a_cubes, a_levels, a_edgeFlow, a_netFlow, a_queue, a_before, a_edge, a_leads, a_comes, a_group, a_later, a_goes, a_shows) (nI n) := by
  have k7 := wf_K w n
  have h8 : cK c n = 0 ∨ cK c n = 1 ∨ cK c n = 2 ∨ cK c n = 3 ∨ cK c n = 4 ∨ cK c n = 5 ∨ cK c n = 6 ∨ cK c n = 7 := by omega
  unfold wr at h
  rcases h8 with e | e | e | e | e | e | e | e <;> rw [e] at h
  · simp (disch := omega) only [gw_in, gw_cl, gw_Lle, gw_leL, gw_Llt, gw_ltL, gw_eqL, gw_Leq, gw_Lmul, gw_Ladd, gw_addL, nI_leI, nI_ltI, nI_eq, nI_add, nI_1, pk_mul, xK_ap, xO_ap, xF_ap, xA_ap, xG_ap, xB_ap, forall_eq, true_and, and_true, false_imp_iff, true_imp_iff, not_false_eq_true, not_true_eq_false, eq_self, Nat.reduceLT, Nat.reduceLeDiff, Nat.reduceEqDiff, gw_10, gw_01, wpX_wires, wpX_arity, e]
    exact h
  · simp (disch := omega) only [gw_in, gw_cl, gw_Lle, gw_leL, gw_Llt, gw_ltL, gw_eqL, gw_Leq, gw_Lmul, gw_Ladd, gw_addL, nI_leI, nI_ltI, nI_eq, nI_add, nI_1, pk_mul, xK_ap, xO_ap, xF_ap, xA_ap, xG_ap, xB_ap, forall_eq, true_and, and_true, false_imp_iff, true_imp_iff, not_false_eq_true, not_true_eq_false, eq_self, Nat.reduceLT, Nat.reduceLeDiff, Nat.reduceEqDiff, gw_10, gw_01, wpX_wires, wpX_arity, e]
    exact h
  · simp (disch := omega) only [gw_in, gw_cl, gw_Lle, gw_leL, gw_Llt, gw_ltL, gw_eqL, gw_Leq, gw_Lmul, gw_Ladd, gw_addL, nI_leI, nI_ltI, nI_eq, nI_add, nI_1, pk_mul, xK_ap, xO_ap, xF_ap, xA_ap, xG_ap, xB_ap, forall_eq, true_and, and_true, false_imp_iff, true_imp_iff, not_false_eq_true, not_true_eq_false, eq_self, Nat.reduceLT, Nat.reduceLeDiff, Nat.reduceEqDiff, gw_10, gw_01, wpX_wires, wpX_arity, e]
    exact h
  · simp (disch := omega) only [gw_in, gw_cl, gw_Lle, gw_leL, gw_Llt, gw_ltL, gw_eqL, gw_Leq, gw_Lmul, gw_Ladd, gw_addL, nI_leI, nI_ltI, nI_eq, nI_add, nI_1, pk_mul, xK_ap, xO_ap, xF_ap, xA_ap, xG_ap, xB_ap, forall_eq, true_and, and_true, false_imp_iff, true_imp_iff, not_false_eq_true, not_true_eq_false, eq_self, Nat.reduceLT, Nat.reduceLeDiff, Nat.reduceEqDiff, gw_10, gw_01, wpX_wires, wpX_arity, e]
    exact h
  · simp (disch := omega) only [gw_in, gw_cl, gw_Lle, gw_leL, gw_Llt, gw_ltL, gw_eqL, gw_Leq, gw_Lmul, gw_Ladd, gw_addL, nI_leI, nI_ltI, nI_eq, nI_add, nI_1, pk_mul, xK_ap, xO_ap, xF_ap, xA_ap, xG_ap, xB_ap, forall_eq, true_and, and_true, false_imp_iff, true_imp_iff, not_false_eq_true, not_true_eq_false, eq_self, Nat.reduceLT, Nat.reduceLeDiff, Nat.reduceEqDiff, gw_10, gw_01, wpX_wires, wpX_arity, e]
    exact h
  · simp (disch := omega) only [gw_in, gw_cl, gw_Lle, gw_leL, gw_Llt, gw_ltL, gw_eqL, gw_Leq, gw_Lmul, gw_Ladd, gw_addL, nI_leI, nI_ltI, nI_eq, nI_add, nI_1, pk_mul, xK_ap, xO_ap, xF_ap, xA_ap, xG_ap, xB_ap, forall_eq, true_and, and_true, false_imp_iff, true_imp_iff, not_false_eq_true, not_true_eq_false, eq_self, Nat.reduceLT, Nat.reduceLeDiff, Nat.reduceEqDiff, gw_10, gw_01, wpX_wires, wpX_arity, e]
    exact h
  · simp (disch := omega) only [gw_in, gw_cl, gw_Lle, gw_leL, gw_Llt, gw_ltL, gw_eqL, gw_Leq, gw_Lmul, gw_Ladd, gw_addL, nI_leI, nI_ltI, nI_eq, nI_add, nI_1, pk_mul, xK_ap, xO_ap, xF_ap, xA_ap, xG_ap, xB_ap, forall_eq, true_and, and_true, false_imp_iff, true_imp_iff, not_false_eq_true, not_true_eq_false, eq_self, Nat.reduceLT, Nat.reduceLeDiff, Nat.reduceEqDiff, gw_10, gw_01, wpX_wires, wpX_arity, e]
    exact h
  · simp (disch := omega) only [gw_in, gw_cl, gw_Lle, gw_leL, gw_Llt, gw_ltL, gw_eqL, gw_Leq, gw_Lmul, gw_Ladd, gw_addL, nI_leI, nI_ltI, nI_eq, nI_add, nI_1, pk_mul, xK_ap, xO_ap, xF_ap, xA_ap, xG_ap, xB_ap, forall_eq, true_and, and_true, false_imp_iff, true_imp_iff, not_false_eq_true, not_true_eq_false, eq_self, Nat.reduceLT, Nat.reduceLeDiff, Nat.reduceEqDiff, gw_10, gw_01, wpX_wires, wpX_arity, e]
    exact h
/-- which nets may be cut, by the levels -/
def MAY (lv : Nat → Int32) (k : Nat) (l : Int32) (may : Nat → Bool) : Prop := ∀ n, n < 32 → (may n = true ↔ ¬ lv (32 * (k - 1) + n) < 0 ∧ ¬ l ≤ lv (32 * (k - 1) + n))
theorem xw_mayCut {k : Nat} {l : Int32} (hk1 : 1 ≤ k) (hk3 : k ≤ 3) (hmay : MAY a_levels k l may) {n : Nat} (hn : n < 32) {post : Int32 → Prop} (h : post (nI (may n).toNat)) : wpX_mayCut post (nI (cN c), nI (cS c), nI (cR c), f_now, f_right, f_levelsKnown, f_head, f_tail, f_met, f_comesKnown, f_entry, f_round, xK c, xO c, xF c, xA c, xG c, xB c, a_table, a_saved, a_matters, a_cubes, a_levels, a_edgeFlow, a_netFlow, a_queue, a_before, a_edge, a_leads, a_comes, a_group, a_later, a_goes, a_shows) (nI n) (nI k) l := by
  have e1 : nI k - 1 = nI (k - 1) := pk_sub hk1
  have hm := hmay n hn
  dsimp only [wpX_mayCut]
  rw [e1, gw_Lmul, nI_add, gw_cl (by omega)]
  refine ⟨vp_in_nI (by omega) (by omega), br_c (fun z => ?_) (fun z => ⟨vp_in_nI (by omega) (by omega), br_c (fun y => ?_) (fun y => ?_)⟩)⟩
  · have : may n = false := by
      cases e : may n
      · rfl
      · exact absurd z (hm.mp e).1
    rw [this] at h
    exact h
  · have : may n = false := by
      cases e : may n
      · rfl
      · exact absurd y (hm.mp e).2
    rw [this] at h
    exact h
  · rw [hm.mpr ⟨z, y⟩] at h
    exact h
theorem xw_front34 (w : WF c) (hT : T < cN c) {n : Nat} (hn : n < 32) (hnN : n < cN c) (hnT : n ≤ T ∨ cK c n < 2) (hef : ∀ e, e < 96 → a_edgeFlow e = nI (ef e) ∧ ef e ≤ 4) {post : SX → Prop} {met0 : Int64} {qu0 : Nat → Int32} {tl0 : Nat} (hm0 : lb met0 n = true)
    (h : ∀ met bf eg qu tl', BCX c T may nf ef met bf eg qu tl' → EXT met0 qu0 tl0 met qu tl' → (∀ e, e < 96 → WIR c e n → 0 < ef e → lb met (32 + cO c e) = true) → post (nI (cN c), nI (cS c), nI (cR c), f_now, f_right, f_levelsKnown, f_head, nI tl', met, f_comesKnown, f_entry, f_round, xK c, xO c, xF c, xA c, xG c, xB c, a_table, a_saved, a_matters, a_cubes, a_levels, a_edgeFlow, a_netFlow, qu, bf, eg, a_leads, a_comes, a_group, a_later, a_goes, a_shows)) :
    ∀ d e k met bf eg qu tl', e + d = 3 * n + wr c n → 3 * n ≤ e → d < k → BCX c T may nf ef met bf eg qu tl' → EXT met0 qu0 tl0 met qu tl' → (∀ e', e' < e → WIR c e' n → 0 < ef e' → lb met (32 + cO c e') = true) →
      wX_fromFront_34 post (nI n) k (nI e) (nI (cN c)) (nI (cS c)) (nI (cR c)) f_now f_right f_levelsKnown f_head (nI tl') met f_comesKnown f_entry f_round (xK c) (xO c) (xF c) (xA c) (xG c) (xB c) a_table a_saved a_matters a_cubes a_levels a_edgeFlow a_netFlow qu bf eg a_leads a_comes a_group a_later a_goes a_shows := by
  have hw3 := wr_le c n
  intro d
  induction d with
  | zero =>
    intro e k met bf eg qu tl' he h3 hk hb hx hall
    obtain ⟨k, rfl⟩ : ∃ k', k = k' + 1 := ⟨k - 1, by omega⟩
    unfold wX_fromFront_34
    refine xw_wires w hn ?_
    rw [gw_Lmul, nI_add]
    refine br_t (nI_le (by omega) (by omega)) (h met bf eg qu tl' hb hx (fun e' he' hw hf => ?_))
    refine hall e' ?_ hw hf
    obtain ⟨a1, a2⟩ := hw
    omega
  | succ d ih =>
    intro e k met bf eg qu tl' he h3 hk hb hx hall
    obtain ⟨k, rfl⟩ : ∃ k', k = k' + 1 := ⟨k - 1, by omega⟩
    have hwir : WIR c e n := ⟨by omega, by omega⟩
    have hop := wir_op w hnN hwir
    have he96 : e < 96 := by omega
    obtain ⟨f1, f2⟩ := hef e he96
    have hnT' : n ≤ T := by
      rcases hnT with z | z
      · exact z
      · have := wr_0 (c := c) (n := n)
        omega
    unfold wX_fromFront_34
    refine xw_wires w hn ?_
    rw [gw_Lmul, nI_add, gw_cl (show e < 2147483648 by omega), f1, xO_ap]
    refine br_f (nI_ge (by omega) (by omega)) ⟨vp_in_nI he96 (by omega), pk_le (ef e) 0 (fun z => nm_r (nI_1 e) (ih (e + 1) k met bf eg qu tl' (by omega) (by omega) (by omega) hb hx (fun e' he' hw hf => ?_))) (fun z => ⟨vp_in_nI he96 (by omega), ?_⟩)⟩
    · by_cases q : e' = e
      · subst q; omega
      · exact hall e' (by omega) hw hf
    · rw [gw_Ladd]
      have hmn : lb met n = true := hx.1 n hm0
      refine xw_meet (T := T) (may := may) (nf := nf) (ef := ef) hb (show 32 + cO c e < 64 by omega) (Or.inr ⟨n, by omega, rfl, hmn, Or.inr (Or.inr (Or.inl ⟨e, he96, rfl, hn, hwir, rfl, z⟩))⟩) ?_ (fun met2 bf2 eg2 qu2 tl2 hb2 hx2 hm2 => ?_)
      · rw [show (32 + cO c e) % 32 = cO c e by omega]
        exact ⟨by omega, Or.inl (by omega)⟩
      · dsimp only
        refine nm_r (nI_1 e) (ih (e + 1) k met2 bf2 eg2 qu2 tl2 (by omega) (by omega) (by omega) hb2 (ext_tr hx hx2) (fun e' he' hw hf => ?_))
        by_cases q : e' = e
        · subst q; exact hm2
        · exact hx2.1 _ (hall e' (by omega) hw hf)
theorem xw_fromFront (w : WF c) (hT : T < cN c) {k : Nat} {l : Int32} (hk1 : 1 ≤ k) (hk3 : k ≤ 3) (hmay : MAY a_levels k l may) {n tl : Nat} (hn : n < 32) (hnN : n < cN c) (hnT : n ≤ T ∨ cK c n < 2) (hm : lb f_met n = true)
    (hnf : ∀ n, n < 32 → a_netFlow n = nI (nf n) ∧ nf n ≤ 4) (hef : ∀ e, e < 96 → a_edgeFlow e = nI (ef e) ∧ ef e ≤ 4) (hb : BCX c T may nf ef f_met a_before a_edge a_queue tl) {post : SX → Prop}
    (h : ∀ met bf eg qu tl', BCX c T may nf ef met bf eg qu tl' → EXT f_met a_queue tl met qu tl' → CLO c T may nf ef met n → post (nI (cN c), nI (cS c), nI (cR c), f_now, f_right, f_levelsKnown, f_head, nI tl', met, f_comesKnown, f_entry, f_round, xK c, xO c, xF c, xA c, xG c, xB c, a_table, a_saved, a_matters, a_cubes, a_levels, a_edgeFlow, a_netFlow, qu, bf, eg, a_leads, a_comes, a_group, a_later, a_goes, a_shows)) :
    wpX_fromFront post (nI (cN c), nI (cS c), nI (cR c), f_now, f_right, f_levelsKnown, f_head, nI tl, f_met, f_comesKnown, f_entry, f_round, xK c, xO c, xF c, xA c, xG c, xB c, a_table, a_saved, a_matters, a_cubes, a_levels, a_edgeFlow, a_netFlow, a_queue, a_before, a_edge, a_leads, a_comes, a_group, a_later, a_goes, a_shows) (nI n) (nI k) l := by
  obtain ⟨f1, f2⟩ := hnf n hn
  have hw3 := wr_le c n
  have h19 : (nf n = 0 ∨ may n = false) → wX_fromFront_19 post (nI n) (nI (cN c)) (nI (cS c)) (nI (cR c)) f_now f_right f_levelsKnown f_head (nI tl) f_met f_comesKnown f_entry f_round (xK c) (xO c) (xF c) (xA c) (xG c) (xB c) a_table a_saved a_matters a_cubes a_levels a_edgeFlow a_netFlow a_queue a_before a_edge a_leads a_comes a_group a_later a_goes a_shows := by
    intro hz
    unfold wX_fromFront_19
    rw [gw_Ladd, gw_Lmul]
    refine xw_meet (T := T) (may := may) (nf := nf) (ef := ef) hb (show 32 + n < 64 by omega) (Or.inr ⟨n, by omega, rfl, hm, Or.inl ⟨hn, rfl, rfl, hz⟩⟩) ?_ (fun met2 bf2 eg2 qu2 tl2 hb2 hx2 hm2 => ?_)
    · rw [show (32 + n) % 32 = n by omega]
      exact ⟨hnN, hnT⟩
    · dsimp only
      refine nm_e ⟨wr c n + 1, xw_front34 w hT hn hnN hnT hef (met0 := met2) (hx2.1 n hm) (fun met3 bf3 eg3 qu3 tl3 hb3 hx3 hall => h met3 bf3 eg3 qu3 tl3 hb3 (ext_tr hx2 hx3) ⟨fun _ => ⟨fun _ => hx3.1 _ hm2, hall⟩, fun q hq => by omega⟩) (wr c n) (3 * n) _ met2 bf2 eg2 qu2 tl2 rfl (Nat.le_refl _) (by omega) hb2 ext_rf (fun e' he' hw => ?_)⟩
      have := hw.1
      omega
  dsimp only [wpX_fromFront]
  rw [gw_cl (by omega), f1]
  refine ⟨vp_in_nI hn (by omega), pk_eq (nf n) 0 (fun z => h19 (Or.inl z)) (fun z => ?_)⟩
  refine xw_mayCut hk1 hk3 hmay hn ?_
  cases em : may n
  · exact br_t rfl (h19 (Or.inr em))
  · rw [gw_Lmul]
    refine br_f (by decide) (nm_e ⟨wr c n + 1, xw_front34 w hT hn hnN hnT hef (met0 := f_met) hm (fun met3 bf3 eg3 qu3 tl3 hb3 hx3 hall => h met3 bf3 eg3 qu3 tl3 hb3 hx3 ⟨fun _ => ⟨fun y => ?_, hall⟩, fun q hq => by omega⟩) (wr c n) (3 * n) _ f_met a_before a_edge a_queue tl rfl (Nat.le_refl _) (by omega) hb ext_rf (fun e' he' hw => ?_)⟩)
    · rcases y with y | y
      · exact absurd y z
      · rw [em] at y; exact absurd y (by decide)
    · have := hw.1
      omega
end
end
section
/-! ===== X: the search's loop ===== -/
section
variable {c : CK} {T : Nat} {may : Nat → Bool} {nf ef : Nat → Nat} {f_now : Int32} {f_right : Int32} {f_levelsKnown : Int32} {f_head : Int32} {f_tail : Int32} {f_met : Int64} {f_comesKnown : Int32} {f_entry : Int32} {f_round : Int32} {a_table : Nat → Int64} {a_saved : Nat → Int64} {a_matters : Nat → Int32} {a_cubes : Nat → Int64} {a_levels : Nat → Int32} {a_edgeFlow : Nat → Int32} {a_netFlow : Nat → Int32} {a_queue : Nat → Int32} {a_before : Nat → Int32} {a_edge : Nat → Int32} {a_leads : Nat → Int64} {a_comes : Nat → Int32} {a_group : Nat → Int32} {a_later : Nat → Int32} {a_goes : Nat → Int32} {a_shows : Nat → Int32}
section
variable {J23 : Int32 → Int32 → Int32 → Int32 → Int32 → Int32 → Int32 → Int32 → Int32 → Int64 → Int32 → Int32 → Int32 → (Nat → Int32) → (Nat → Int32) → (Nat → Int32) → (Nat → Int32) → (Nat → Int32) → (Nat → Int32) → (Nat → Int64) → (Nat → Int64) → (Nat → Int32) → (Nat → Int64) → (Nat → Int32) → (Nat → Int32) → (Nat → Int32) → (Nat → Int32) → (Nat → Int32) → (Nat → Int32) → (Nat → Int64) → (Nat → Int32) → (Nat → Int32) → (Nat → Int32) → (Nat → Int32) → (Nat → Int32) → Prop}
theorem xw_back33 (w : WF c) (hT : T < cN c) {n m : Nat} (hn : n < 32) (hmT : m ≤ T) {post : SX → Prop} {met0 : Int64} {qu0 : Nat → Int32} {tl0 : Nat} (hm0 : lb met0 (32 + n) = true)
    (h : ∀ met bf eg qu tl', BCX c T may nf ef met bf eg qu tl' → EXT met0 qu0 tl0 met qu tl' → (∀ e, e < 96 → WIR c e m → cO c e = n → lb met m = true) → J23 (nI (m + 1)) (nI (cN c)) (nI (cS c)) (nI (cR c)) f_now f_right f_levelsKnown f_head (nI tl') met f_comesKnown f_entry f_round (xK c) (xO c) (xF c) (xA c) (xG c) (xB c) a_table a_saved a_matters a_cubes a_levels a_edgeFlow a_netFlow qu bf eg a_leads a_comes a_group a_later a_goes a_shows) :
    ∀ d e k met bf eg qu tl', e + d = 3 * m + wr c m → 3 * m ≤ e → d < k → BCX c T may nf ef met bf eg qu tl' → EXT met0 qu0 tl0 met qu tl' → (∀ e', e' < e → WIR c e' m → cO c e' = n → lb met m = true) →
      wX_fromBack_33 post J23 (nI n) (nI T) (nI m) k (nI e) (nI (cN c)) (nI (cS c)) (nI (cR c)) f_now f_right f_levelsKnown f_head (nI tl') met f_comesKnown f_entry f_round (xK c) (xO c) (xF c) (xA c) (xG c) (xB c) a_table a_saved a_matters a_cubes a_levels a_edgeFlow a_netFlow qu bf eg a_leads a_comes a_group a_later a_goes a_shows := by
  have hw3 := wr_le c m
  have hN := wf_N w
  intro d
  induction d with
  | zero =>
    intro e k met bf eg qu tl' he h3 hk hb hx hall
    obtain ⟨k, rfl⟩ : ∃ k', k = k' + 1 := ⟨k - 1, by omega⟩
    unfold wX_fromBack_33
    refine xw_wires w (by omega) ?_
    rw [gw_Lmul, nI_add]
    refine br_t (nI_le (by omega) (by omega)) (nm_r (nI_1 m) (h met bf eg qu tl' hb hx (fun e' he' hw hf => ?_)))
    refine hall e' ?_ hw hf
    obtain ⟨a1, a2⟩ := hw
    omega
  | succ d ih =>
    intro e k met bf eg qu tl' he h3 hk hb hx hall
    obtain ⟨k, rfl⟩ : ∃ k', k = k' + 1 := ⟨k - 1, by omega⟩
    have hwir : WIR c e m := ⟨by omega, by omega⟩
    have hop := wir_op w (show m < cN c by omega) hwir
    have he96 : e < 96 := by omega
    unfold wX_fromBack_33
    refine xw_wires w (by omega) ?_
    rw [gw_Lmul, nI_add, gw_cl (show e < 2147483648 by omega), xO_ap]
    refine br_f (nI_ge (by omega) (by omega)) ⟨vp_in_nI he96 (by omega), pk_eq (cO c e) n (fun z => ?_) (fun z => nm_r (nI_1 e) (ih (e + 1) k met bf eg qu tl' (by omega) (by omega) (by omega) hb hx (fun e' he' hw hf => ?_)))⟩
    · rw [gw_Ladd]
      refine xw_meet (T := T) (may := may) (nf := nf) (ef := ef) hb (show m < 64 by omega) (Or.inr ⟨32 + n, by omega, rfl, hx.1 _ hm0, Or.inr (Or.inr (Or.inr ⟨e, he96, rfl, by omega, hwir, by rw [z], hmT⟩))⟩) ?_ (fun met2 bf2 eg2 qu2 tl2 hb2 hx2 hm2 => ?_)
      · rw [show m % 32 = m by omega]
        exact ⟨by omega, Or.inl hmT⟩
      · dsimp only
        exact nm_r (nI_1 e) (ih (e + 1) k met2 bf2 eg2 qu2 tl2 (by omega) (by omega) (by omega) hb2 (ext_tr hx hx2) (fun e' he' hw hf => hm2))
    · by_cases q : e' = e
      · subst q; exact absurd hf z
      · exact hall e' (by omega) hw hf
end
theorem xw_back23 (w : WF c) (hT : T < cN c) {n : Nat} (hn : n < 32) {post : SX → Prop} {met0 : Int64} {qu0 : Nat → Int32} {tl0 : Nat} (hm0 : lb met0 (32 + n) = true)
    (h : ∀ met bf eg qu tl', BCX c T may nf ef met bf eg qu tl' → EXT met0 qu0 tl0 met qu tl' → (∀ m, n < m → m ≤ T → ∀ e, e < 96 → WIR c e m → cO c e = n → lb met m = true) → post (nI (cN c), nI (cS c), nI (cR c), f_now, f_right, f_levelsKnown, f_head, nI tl', met, f_comesKnown, f_entry, f_round, xK c, xO c, xF c, xA c, xG c, xB c, a_table, a_saved, a_matters, a_cubes, a_levels, a_edgeFlow, a_netFlow, qu, bf, eg, a_leads, a_comes, a_group, a_later, a_goes, a_shows)) :
    ∀ d m k met bf eg qu tl', T + 1 - m = d → m ≤ 32 → d < k → BCX c T may nf ef met bf eg qu tl' → EXT met0 qu0 tl0 met qu tl' → (∀ m', n < m' → m' < m → m' ≤ T → ∀ e, e < 96 → WIR c e m' → cO c e = n → lb met m' = true) →
      wX_fromBack_23 post (nI n) (nI T) k (nI m) (nI (cN c)) (nI (cS c)) (nI (cR c)) f_now f_right f_levelsKnown f_head (nI tl') met f_comesKnown f_entry f_round (xK c) (xO c) (xF c) (xA c) (xG c) (xB c) a_table a_saved a_matters a_cubes a_levels a_edgeFlow a_netFlow qu bf eg a_leads a_comes a_group a_later a_goes a_shows := by
  have hN := wf_N w
  intro d
  induction d with
  | zero =>
    intro m k met bf eg qu tl' hd h32 hk hb hx hall
    obtain ⟨k, rfl⟩ : ∃ k', k = k' + 1 := ⟨k - 1, by omega⟩
    unfold wX_fromBack_23
    exact br_t (nI_lt (by omega) (by omega)) (h met bf eg qu tl' hb hx (fun m' h1 h2 => hall m' h1 (by omega) h2))
  | succ d ih =>
    intro m k met bf eg qu tl' hd h32 hk hb hx hall
    obtain ⟨k, rfl⟩ : ∃ k', k = k' + 1 := ⟨k - 1, by omega⟩
    unfold wX_fromBack_23
    rw [gw_Lmul]
    refine br_f (nI_nlt (by omega) (by omega)) (nm_e ⟨wr c m + 1, xw_back33 w hT hn (by omega) (hx.1 _ hm0) (fun met2 bf2 eg2 qu2 tl2 hb2 hx2 hall2 => ih (m + 1) k met2 bf2 eg2 qu2 tl2 (by omega) (by omega) (by omega) hb2 (ext_tr hx hx2) (fun m' h1 h2 h3 e he hw ho => ?_)) (wr c m) (3 * m) _ met bf eg qu tl' rfl (Nat.le_refl _) (by omega) hb ext_rf (fun e' he' hw => ?_)⟩)
    · by_cases q : m' = m
      · subst q; exact hall2 e he hw ho
      · exact hx2.1 _ (hall m' h1 (by omega) h3 e he hw ho)
    · have := hw.1
      omega
theorem xw_fromBack (w : WF c) (hT : T < cN c) {n tl : Nat} (hn : n < 32) (hnN : n < cN c) (hnT : n ≤ T ∨ cK c n < 2) (hm : lb f_met (32 + n) = true)
    (hnf : ∀ n, n < 32 → a_netFlow n = nI (nf n) ∧ nf n ≤ 4) (hb : BCX c T may nf ef f_met a_before a_edge a_queue tl) {post : SX → Prop}
    (h : ∀ met bf eg qu tl', BCX c T may nf ef met bf eg qu tl' → EXT f_met a_queue tl met qu tl' → CLO c T may nf ef met (32 + n) → post (nI (cN c), nI (cS c), nI (cR c), f_now, f_right, f_levelsKnown, f_head, nI tl', met, f_comesKnown, f_entry, f_round, xK c, xO c, xF c, xA c, xG c, xB c, a_table, a_saved, a_matters, a_cubes, a_levels, a_edgeFlow, a_netFlow, qu, bf, eg, a_leads, a_comes, a_group, a_later, a_goes, a_shows)) :
    wpX_fromBack post (nI (cN c), nI (cS c), nI (cR c), f_now, f_right, f_levelsKnown, f_head, nI tl, f_met, f_comesKnown, f_entry, f_round, xK c, xO c, xF c, xA c, xG c, xB c, a_table, a_saved, a_matters, a_cubes, a_levels, a_edgeFlow, a_netFlow, a_queue, a_before, a_edge, a_leads, a_comes, a_group, a_later, a_goes, a_shows) (nI n) (nI T) := by
  have hN := wf_N w
  obtain ⟨f1, f2⟩ := hnf n hn
  dsimp only [wpX_fromBack]
  rw [gw_cl (by omega), f1]
  refine ⟨vp_in_nI hn (by omega), pk_le (nf n) 0 (fun z => ?_) (fun z => ?_)⟩
  · refine nm_r (nI_1 n) ⟨34, xw_back23 w hT hn (met0 := f_met) hm (fun met3 bf3 eg3 qu3 tl3 hb3 hx3 hall => h met3 bf3 eg3 qu3 tl3 hb3 hx3 ⟨fun y => by omega, fun q hq => ?_⟩) _ (n + 1) _ f_met a_before a_edge a_queue tl rfl (by omega) (by omega) hb ext_rf (fun m' h1 h2 => by omega)⟩
    have : q = n := by omega
    subst this
    exact ⟨fun y => by omega, hall⟩
  · rw [gw_Ladd]
    refine xw_meet (T := T) (may := may) (nf := nf) (ef := ef) hb (show n < 64 by omega) (Or.inr ⟨32 + n, by omega, rfl, hm, Or.inr (Or.inl ⟨hn, rfl, rfl, z⟩)⟩) ?_ (fun met2 bf2 eg2 qu2 tl2 hb2 hx2 hm2 => ?_)
    · rw [show n % 32 = n by omega]
      exact ⟨hnN, hnT⟩
    · dsimp only
      refine nm_r (nI_1 n) ⟨34, xw_back23 w hT hn (met0 := met2) (hx2.1 _ hm) (fun met3 bf3 eg3 qu3 tl3 hb3 hx3 hall => h met3 bf3 eg3 qu3 tl3 hb3 (ext_tr hx2 hx3) ⟨fun y => by omega, fun q hq => ?_⟩) _ (n + 1) _ met2 bf2 eg2 qu2 tl2 rfl (by omega) (by omega) hb2 ext_rf (fun m' h1 h2 => by omega)⟩
      have : q = n := by omega
      subst this
      exact ⟨fun _ => hx3.1 _ hm2, hall⟩
theorem xw_chain46 (w : WF c) (hT : T < cN c) {k : Nat} {l : Int32} (hk1 : 1 ≤ k) (hk3 : k ≤ 3) (hmay : MAY a_levels k l may)
    (hnf : ∀ n, n < 32 → a_netFlow n = nI (nf n) ∧ nf n ≤ 4) (hef : ∀ e, e < 96 → a_edgeFlow e = nI (ef e) ∧ ef e ≤ 4) {post : Int32 → SX → Prop}
    (h : ∀ hd met bf eg qu tl, BCX c T may nf ef met bf eg qu tl → (∀ s, s < cS c → lb met (cA c s) = true) → (lb met T = false → ∀ v, v < 64 → lb met v = true → CLO c T may nf ef met v) → wX_chain_119 post (nI T) (nI (cN c)) (nI (cS c)) (nI (cR c)) f_now f_right f_levelsKnown (nI hd) (nI tl) met f_comesKnown f_entry f_round (xK c) (xO c) (xF c) (xA c) (xG c) (xB c) a_table a_saved a_matters a_cubes a_levels a_edgeFlow a_netFlow qu bf eg a_leads a_comes a_group a_later a_goes a_shows) :
    ∀ d hd n met bf eg qu tl, hd + d = 64 → d < n → hd ≤ tl → BCX c T may nf ef met bf eg qu tl → (∀ s, s < cS c → lb met (cA c s) = true) → (∀ i, i < hd → ∀ v, v < 64 → qu i = nI v → CLO c T may nf ef met v) →
      wX_chain_46 post (nI T) (nI k) l n (nI (cN c)) (nI (cS c)) (nI (cR c)) f_now f_right f_levelsKnown (nI hd) (nI tl) met f_comesKnown f_entry f_round (xK c) (xO c) (xF c) (xA c) (xG c) (xB c) a_table a_saved a_matters a_cubes a_levels a_edgeFlow a_netFlow qu bf eg a_leads a_comes a_group a_later a_goes a_shows := by
  have hN := wf_N w
  have ex : ∀ hd met bf eg qu tl, tl ≤ hd → BCX c T may nf ef met bf eg qu tl → (∀ s, s < cS c → lb met (cA c s) = true) → (∀ i, i < hd → ∀ v, v < 64 → qu i = nI v → CLO c T may nf ef met v) → wX_chain_119 post (nI T) (nI (cN c)) (nI (cS c)) (nI (cR c)) f_now f_right f_levelsKnown (nI hd) (nI tl) met f_comesKnown f_entry f_round (xK c) (xO c) (xF c) (xA c) (xG c) (xB c) a_table a_saved a_matters a_cubes a_levels a_edgeFlow a_netFlow qu bf eg a_leads a_comes a_group a_later a_goes a_shows := by
    intro hd met bf eg qu tl hle hb hs hcl
    refine h hd met bf eg qu tl hb hs (fun _ v hv hm => ?_)
    obtain ⟨rk, h1, h2, h3⟩ := hb
    obtain ⟨k1, k2, _⟩ := h3 v hv hm
    exact hcl (rk v) (by omega) v hv k2
  intro d
  induction d with
  | zero =>
    intro hd n met bf eg qu tl hd64 hn hle hb hs hcl
    obtain ⟨n, rfl⟩ : ∃ n', n = n' + 1 := ⟨n - 1, by omega⟩
    have htl : tl ≤ 64 := by
      obtain ⟨rk, h1, _⟩ := hb
      rw [← h1]
      exact cnt_le _ _
    unfold wX_chain_46
    exact br_t (nI_le (by omega) (by omega)) (ex hd met bf eg qu tl (by omega) hb hs hcl)
  | succ d ih =>
    intro hd n met bf eg qu tl hd64 hn hle hb hs hcl
    obtain ⟨n, rfl⟩ : ∃ n', n = n' + 1 := ⟨n - 1, by omega⟩
    have htl : tl ≤ 64 := by
      obtain ⟨rk, h1, _⟩ := hb
      rw [← h1]
      exact cnt_le _ _
    unfold wX_chain_46
    refine pk_le tl hd (fun z => ex hd met bf eg qu tl z hb hs hcl) (fun z => br_c (fun y => ?_) (fun y => ?_))
    · have hb' := hb
      obtain ⟨rk, h1, h2, h3⟩ := hb'
      obtain ⟨v, hv, e1, e2, e3⟩ := h2 hd z
      obtain ⟨_, _, _, g1, g2⟩ := h3 v hv e2
      rw [gw_cl (by omega), e1]
      refine nm_r (nI_1 hd) ⟨vp_in_nI (by omega) (by omega), nm_e (pk_le 32 v (fun q => ?_) (fun q => ?_))⟩
      · obtain ⟨m, rfl⟩ : ∃ m, v = 32 + m := ⟨v - 32, by omega⟩
        rw [show (32 + m) % 32 = m by omega] at g1 g2
        have e4 : nI (32 + m) - 32 = nI m := by
          have : nI (32 + m) - 32 = nI (32 + m - 32) := pk_sub (b := 32) (by omega)
          rw [this, Nat.add_sub_cancel_left]
        rw [e4]
        refine xw_fromBack (T := T) (may := may) (nf := nf) (ef := ef) w hT (by omega) g1 g2 e2 hnf hb (fun met2 bf2 eg2 qu2 tl2 hb2 hx2 hcl2 => ?_)
        dsimp only
        refine ih (hd + 1) n met2 bf2 eg2 qu2 tl2 (by omega) (by omega) (by have := hx2.2.1; omega) hb2 (fun s hs' => hx2.1 _ (hs s hs')) (fun i hi x hx he => ?_)
        rw [hx2.2.2 i (by omega)] at he
        by_cases q2 : i = hd
        · subst q2
          rw [e1, nI_eq (by omega) (by omega)] at he
          rw [← he]
          exact hcl2
        · exact clo_mono (hcl i (by omega) x hx he) hx2.1
      · rw [show v % 32 = v by omega] at g1 g2
        refine xw_fromFront (T := T) (may := may) (nf := nf) (ef := ef) w hT hk1 hk3 hmay q g1 g2 e2 hnf hef hb (fun met2 bf2 eg2 qu2 tl2 hb2 hx2 hcl2 => ?_)
        dsimp only
        refine ih (hd + 1) n met2 bf2 eg2 qu2 tl2 (by omega) (by omega) (by have := hx2.2.1; omega) hb2 (fun s hs' => hx2.1 _ (hs s hs')) (fun i hi x hx he => ?_)
        rw [hx2.2.2 i (by omega)] at he
        by_cases q2 : i = hd
        · subst q2
          rw [e1, nI_eq (by omega) (by omega)] at he
          rw [← he]
          exact hcl2
        · exact clo_mono (hcl i (by omega) x hx he) hx2.1
    · rw [lb_bit0 (by omega)] at y
      exact h hd met bf eg qu tl hb hs (fun q => absurd q y)
theorem xw_chain18 (w : WF c) (hT : T < cN c) {k : Nat} {l : Int32} (hk1 : 1 ≤ k) (hk3 : k ≤ 3) (hmay : MAY a_levels k l may)
    (hnf : ∀ n, n < 32 → a_netFlow n = nI (nf n) ∧ nf n ≤ 4) (hef : ∀ e, e < 96 → a_edgeFlow e = nI (ef e) ∧ ef e ≤ 4) {post : Int32 → SX → Prop}
    (h : ∀ hd met bf eg qu tl, BCX c T may nf ef met bf eg qu tl → (∀ s, s < cS c → lb met (cA c s) = true) → (lb met T = false → ∀ v, v < 64 → lb met v = true → CLO c T may nf ef met v) → wX_chain_119 post (nI T) (nI (cN c)) (nI (cS c)) (nI (cR c)) f_now f_right f_levelsKnown (nI hd) (nI tl) met f_comesKnown f_entry f_round (xK c) (xO c) (xF c) (xA c) (xG c) (xB c) a_table a_saved a_matters a_cubes a_levels a_edgeFlow a_netFlow qu bf eg a_leads a_comes a_group a_later a_goes a_shows) :
    ∀ d s n met bf eg qu tl, s + d = cS c → d < n → BCX c T may nf ef met bf eg qu tl → (∀ s', s' < s → lb met (cA c s') = true) →
      wX_chain_18 post (nI T) (nI k) l n (nI s) (nI (cN c)) (nI (cS c)) (nI (cR c)) f_now f_right f_levelsKnown 0 (nI tl) met f_comesKnown f_entry f_round (xK c) (xO c) (xF c) (xA c) (xG c) (xB c) a_table a_saved a_matters a_cubes a_levels a_edgeFlow a_netFlow qu bf eg a_leads a_comes a_group a_later a_goes a_shows := by
  have hN := wf_N w
  have hS := wf_S w
  intro d
  induction d with
  | zero =>
    intro s n met bf eg qu tl hd hn hb hs
    obtain ⟨n, rfl⟩ : ∃ n', n = n' + 1 := ⟨n - 1, by omega⟩
    unfold wX_chain_18
    exact br_t (nI_le (by omega) (by omega)) ⟨65, xw_chain46 w hT hk1 hk3 hmay hnf hef h 64 0 _ met bf eg qu tl (by omega) (by omega) (by omega) hb (fun s' hs' => hs s' (by omega)) (fun i hi => by omega)⟩
  | succ d ih =>
    intro s n met bf eg qu tl hd hn hb hs
    obtain ⟨n, rfl⟩ : ∃ n', n = n' + 1 := ⟨n - 1, by omega⟩
    have hs' : s < cS c := by omega
    have hA := wf_A w hs'
    unfold wX_chain_18
    rw [gw_cl (by omega), xA_ap]
    refine br_f (nI_ge (by omega) (by omega)) ⟨vp_in_nI (by omega) (by omega), xw_meet (T := T) (may := may) (nf := nf) (ef := ef) hb (show cA c s < 64 by omega) (Or.inl ⟨s, hs', rfl, rfl, rfl⟩) ?_ (fun met2 bf2 eg2 qu2 tl2 hb2 hx2 hm2 => ?_)⟩
    · rw [show cA c s % 32 = cA c s by omega]
      exact ⟨hA, Or.inr (wf_AK w hs')⟩
    · dsimp only
      refine nm_r (nI_1 s) (ih (s + 1) n met2 bf2 eg2 qu2 tl2 (by omega) (by omega) hb2 (fun s2 hs2 => ?_))
      by_cases q : s2 = s
      · rw [q]; exact hm2
      · exact hx2.1 _ (hs s2 (by omega))
theorem bcx_0 {bf eg qu : Nat → Int32} : BCX c T may nf ef 0 bf eg qu 0 := by
  refine ⟨fun _ => 0, cnt_0 (fun i _ => lb_0 i), fun i hi => absurd hi (Nat.not_lt_zero _), fun v _ hm => ?_⟩
  rw [lb_0] at hm
  exact absurd hm (by decide)
end
end
section
/-! ===== X: the flow along a chain; narrow ===== -/
/-- while the chain is followed back to v: what has been changed -/
def PTH (c : CK) (T : Nat) (may : Nat → Bool) (nf0 ef0 : Nat → Nat) (met : Int64) (bf : Nat → Int32) (rk : Nat → Nat) (v : Nat) (nf ef : Nat → Nat) : Prop :=
  (∀ π : Nat → Int, PHI c nf ef π = PHI c nf0 ef0 π + π v - π T)
  ∧ (∀ n, n < 32 → nf n = nf0 n ∨ (nf n = nf0 n + 1 ∧ (nf0 n = 0 ∨ may n = false) ∧ lb met (32 + n) = true ∧ bf (32 + n) = nI n ∧ rk v < rk (32 + n)) ∨ (nf n + 1 = nf0 n ∧ lb met n = true ∧ bf n = nI (32 + n) ∧ rk v < rk n))
  ∧ (∀ e, e < 96 → ef e = ef0 e ∨ (ef e = ef0 e + 1 ∧ e / 3 ≤ T ∧ WIR c e (e / 3) ∧ lb met (e / 3) = true ∧ bf (e / 3) = nI (32 + cO c e) ∧ rk v < rk (e / 3)) ∨ (ef e + 1 = ef0 e ∧ lb met (32 + cO c e) = true ∧ bf (32 + cO c e) = nI (e / 3) ∧ rk v < rk (32 + cO c e)))
theorem phi_n {c : CK} {nf ef : Nat → Nat} {π : Nat → Int} {n x : Nat} (hn : n < 32) : PHI c (fun i => if i = n then x else nf i) ef π = PHI c nf ef π + ((x : Int) - nf n) * (π n - π (32 + n)) := by
  unfold PHI
  have h := sumZ_one (f := fun i => (((if i = n then x else nf i : Nat)) : Int) * (π i - π (32 + i))) (g := fun i => (nf i : Int) * (π i - π (32 + i))) (k := n) 32 hn (fun i hi => by
    show (((if i = n then x else nf i : Nat)) : Int) * _ = _
    rw [if_neg hi])
  rw [h]
  show _ + ((((if n = n then x else nf n : Nat)) : Int) * _ - _) + _ = _
  rw [if_pos rfl, Int.sub_mul]
  omega
theorem phi_e {c : CK} {nf ef : Nat → Nat} {π : Nat → Int} {e x : Nat} (he : e < 96) : PHI c nf (fun i => if i = e then x else ef i) π = PHI c nf ef π + ((x : Int) - ef e) * (π (32 + cO c e) - π (e / 3)) := by
  unfold PHI
  have h := sumZ_one (f := fun i => (((if i = e then x else ef i : Nat)) : Int) * (π (32 + cO c i) - π (i / 3))) (g := fun i => (ef i : Int) * (π (32 + cO c i) - π (i / 3))) (k := e) 96 he (fun i hi => by
    show (((if i = e then x else ef i : Nat)) : Int) * _ = _
    rw [if_neg hi])
  rw [h]
  show _ + (_ + ((((if e = e then x else ef e : Nat)) : Int) * _ - _)) = _
  rw [if_pos rfl, Int.sub_mul]
  omega
section
variable {c : CK} {T : Nat} {may : Nat → Bool} {nf0 ef0 : Nat → Nat} {f_now : Int32} {f_right : Int32} {f_levelsKnown : Int32} {f_head : Int32} {f_tail : Int32} {f_met : Int64} {f_comesKnown : Int32} {f_entry : Int32} {f_round : Int32} {a_table : Nat → Int64} {a_saved : Nat → Int64} {a_matters : Nat → Int32} {a_cubes : Nat → Int64} {a_levels : Nat → Int32} {a_edgeFlow : Nat → Int32} {a_netFlow : Nat → Int32} {a_queue : Nat → Int32} {a_before : Nat → Int32} {a_edge : Nat → Int32} {a_leads : Nat → Int64} {a_comes : Nat → Int32} {a_group : Nat → Int32} {a_later : Nat → Int32} {a_goes : Nat → Int32} {a_shows : Nat → Int32}
theorem bcr_lt {met : Int64} {bf eg qu : Nat → Int32} {tl : Nat} {rk : Nat → Nat} (hb : BCR c T may nf0 ef0 met bf eg qu tl rk) {x u : Nat} (hx : x < 64) (hu : u < 64) (hm : lb met x = true) (e : bf x = nI u) : rk u < rk x := by
  obtain ⟨_, _, h3⟩ := hb
  obtain ⟨_, _, h4, _⟩ := h3 x hx hm
  rcases h4 with ⟨s, _, _, k⟩ | ⟨u', hu', k1, _, k2, _⟩
  · rw [k] at e
    exact absurd e.symm (gw_m1 (by omega))
  · rw [k1, nI_eq (by omega) (by omega)] at e
    rw [← e]
    exact k2
theorem pth_n {met : Int64} {bf : Nat → Int32} {rk : Nat → Nat} {u v x : Nat} {nf ef : Nat → Nat} (hp : PTH c T may nf0 ef0 met bf rk v nf ef) (hr : rk u < rk v) {n : Nat} (hn : n < 32) (hπ : ∀ π : Nat → Int, ((x : Int) - nf n) * (π n - π (32 + n)) = π u - π v)
    (hx : x = nf0 n ∨ (x = nf0 n + 1 ∧ (nf0 n = 0 ∨ may n = false) ∧ lb met (32 + n) = true ∧ bf (32 + n) = nI n ∧ rk u < rk (32 + n)) ∨ (x + 1 = nf0 n ∧ lb met n = true ∧ bf n = nI (32 + n) ∧ rk u < rk n)) :
    PTH c T may nf0 ef0 met bf rk u (fun i => if i = n then x else nf i) ef := by
  obtain ⟨p1, p2, p3⟩ := hp
  refine ⟨fun π => ?_, fun i hi => ?_, fun e he => ?_⟩
  · rw [phi_n hn, p1 π, hπ π]
    omega
  · show (if i = n then x else nf i) = _ ∨ ((if i = n then x else nf i) = _ ∧ _) ∨ ((if i = n then x else nf i) + 1 = _ ∧ _)
    by_cases e : i = n
    · rw [if_pos e, e]; exact hx
    · rw [if_neg e]
      rcases p2 i hi with k | ⟨k1, k2, k3, k4, k5⟩ | ⟨k1, k2, k3, k4⟩
      · exact Or.inl k
      · exact Or.inr (Or.inl ⟨k1, k2, k3, k4, by omega⟩)
      · exact Or.inr (Or.inr ⟨k1, k2, k3, by omega⟩)
  · rcases p3 e he with k | ⟨k1, k2, k3, k4, k5, k6⟩ | ⟨k1, k2, k3, k4⟩
    · exact Or.inl k
    · exact Or.inr (Or.inl ⟨k1, k2, k3, k4, k5, by omega⟩)
    · exact Or.inr (Or.inr ⟨k1, k2, k3, by omega⟩)
theorem pth_e {met : Int64} {bf : Nat → Int32} {rk : Nat → Nat} {u v x : Nat} {nf ef : Nat → Nat} (hp : PTH c T may nf0 ef0 met bf rk v nf ef) (hr : rk u < rk v) {n : Nat} (hn : n < 96) (hπ : ∀ π : Nat → Int, ((x : Int) - ef n) * (π (32 + cO c n) - π (n / 3)) = π u - π v)
    (hx : x = ef0 n ∨ (x = ef0 n + 1 ∧ n / 3 ≤ T ∧ WIR c n (n / 3) ∧ lb met (n / 3) = true ∧ bf (n / 3) = nI (32 + cO c n) ∧ rk u < rk (n / 3)) ∨ (x + 1 = ef0 n ∧ lb met (32 + cO c n) = true ∧ bf (32 + cO c n) = nI (n / 3) ∧ rk u < rk (32 + cO c n))) :
    PTH c T may nf0 ef0 met bf rk u nf (fun i => if i = n then x else ef i) := by
  obtain ⟨p1, p2, p3⟩ := hp
  refine ⟨fun π => ?_, fun i hi => ?_, fun e he => ?_⟩
  · rw [phi_e hn, p1 π, hπ π]
    omega
  · rcases p2 i hi with k | ⟨k1, k2, k3, k4, k5⟩ | ⟨k1, k2, k3, k4⟩
    · exact Or.inl k
    · exact Or.inr (Or.inl ⟨k1, k2, k3, k4, by omega⟩)
    · exact Or.inr (Or.inr ⟨k1, k2, k3, by omega⟩)
  · show (if e = n then x else ef e) = _ ∨ ((if e = n then x else ef e) = _ ∧ _) ∨ ((if e = n then x else ef e) + 1 = _ ∧ _)
    by_cases e1 : e = n
    · rw [if_pos e1, e1]; exact hx
    · rw [if_neg e1]
      rcases p3 e he with k | ⟨k1, k2, k3, k4, k5, k6⟩ | ⟨k1, k2, k3, k4⟩
      · exact Or.inl k
      · exact Or.inr (Or.inl ⟨k1, k2, k3, k4, k5, by omega⟩)
      · exact Or.inr (Or.inr ⟨k1, k2, k3, by omega⟩)
theorem xw_chain137 (w : WF c) (hT : T < cN c) {ch tl : Nat} (hch : ch ≤ 3) (hf : FLW c T may ch nf0 ef0) {rk : Nat → Nat} (hb : BCR c T may nf0 ef0 f_met a_before a_edge a_queue tl rk) {post : Int32 → SX → Prop}
    (h : ∀ nf ef na ea, FLW c T may (ch + 1) nf ef → (∀ n, n < 32 → na n = nI (nf n)) → (∀ e, e < 96 → ea e = nI (ef e)) → post 1 (nI (cN c), nI (cS c), nI (cR c), f_now, f_right, f_levelsKnown, f_head, f_tail, f_met, f_comesKnown, f_entry, f_round, xK c, xO c, xF c, xA c, xG c, xB c, a_table, a_saved, a_matters, a_cubes, a_levels, ea, na, a_queue, a_before, a_edge, a_leads, a_comes, a_group, a_later, a_goes, a_shows)) :
    ∀ r v n nf ef na ea, rk v = r → v < 64 → lb f_met v = true → r < n → PTH c T may nf0 ef0 f_met a_before rk v nf ef → (∀ n, n < 32 → na n = nI (nf n)) → (∀ e, e < 96 → ea e = nI (ef e)) →
      wX_chain_137 post n (nI v) (nI (cN c)) (nI (cS c)) (nI (cR c)) f_now f_right f_levelsKnown f_head f_tail f_met f_comesKnown f_entry f_round (xK c) (xO c) (xF c) (xA c) (xG c) (xB c) a_table a_saved a_matters a_cubes a_levels ea na a_queue a_before a_edge a_leads a_comes a_group a_later a_goes a_shows := by
  have hN := wf_N w
  have hb' := hb
  obtain ⟨_, _, h3⟩ := hb'
  intro r
  induction r using Nat.strongRecOn with
  | _ r ih =>
    intro v n nf ef na ea hr hv hm hn hp hna hea
    obtain ⟨n, rfl⟩ : ∃ n', n = n' + 1 := ⟨n - 1, by omega⟩
    obtain ⟨_, _, ht, _⟩ := h3 v hv hm
    unfold wX_chain_137
    rw [gw_cl (by omega)]
    rcases ht with ⟨s, hs, e1, e2⟩ | ⟨u, hu, e1, e2, e3, e4⟩
    · rw [e2]
      refine ⟨vp_in_nI hv (by omega), br_t gw_m1lt (h nf ef na ea ?_ hna hea)⟩
      obtain ⟨p1, p2, p3⟩ := hp
      obtain ⟨q1, q2, q3, q4, q5⟩ := hf
      refine ⟨fun π h1 h2 => ?_, fun i hi hmay => ?_, fun i hi => ?_, fun i hi => ?_, fun i hi hpos => ?_⟩
      · rw [p1 π, q1 π h1 h2, e1, h1 s hs, h2]
        omega
      · rcases p2 i hi with k | ⟨k1, k2, _⟩ | ⟨k1, _⟩
        · rw [k]; exact q2 i hi hmay
        · rcases k2 with k2 | k2
          · omega
          · rw [hmay] at k2; exact absurd k2 (by decide)
        · have := q2 i hi hmay; omega
      · have := q3 i hi
        rcases p2 i hi with k | ⟨k1, _⟩ | ⟨k1, _⟩ <;> omega
      · have := q4 i hi
        rcases p3 i hi with k | ⟨k1, _⟩ | ⟨k1, _⟩ <;> omega
      · rcases p3 i hi with k | ⟨k1, k2, k3, _⟩ | ⟨k1, _⟩
        · exact q5 i hi (by omega)
        · exact ⟨k2, k3⟩
        · exact q5 i hi (by omega)
    · rw [e1]
      refine ⟨vp_in_nI hv (by omega), br_f (nI_pos (by omega)) ⟨vp_in_nI hv (by omega), ?_⟩⟩
      dsimp only [wpX_follow]
      rw [gw_cl (by omega)]
      refine ⟨vp_in_nI hv (by omega), nm_e ?_⟩
      rcases e4 with ⟨a1, a2, a3, a4⟩ | ⟨a1, a2, a3, a4⟩ | ⟨e, he, a1, a2, a3, a4, a5⟩ | ⟨e, he, a1, a2, a3, a4, a5⟩
      · -- through a net
        have hcur : nf u = nf0 u := by
          rcases hp.2.1 u a1 with k | ⟨_, _, _, _, k⟩ | ⟨_, k1, k2, _⟩
          · exact k
          · rw [← a2] at k; omega
          · have := bcr_lt hb (show u < 64 by omega) (show 32 + u < 64 by omega) k1 k2
            rw [← a2] at this
            omega
        have ei : nI v &&& 31 = nI u := by rw [a2, gw_and31 _ (by omega), show (32 + u) % 32 = u by omega]
        rw [a3, ei, gw_cl (by omega)]
        have eb : a_before v = nI u := e1
        have hq3 := hf.2.2.1 u a1
        refine br_f gw_m1le ⟨vp_in_nI a1 (by omega), br_f (nI_ge (b := 32) a1 (by omega)) ⟨vp_in_nI a1 (by omega), nm_e ⟨vp_in_nI hv (by omega), nm_r eb ?_⟩⟩⟩
        refine ih (rk u) (by omega) u n (fun i => if i = u then nf u + 1 else nf i) ef _ ea rfl hu e2 (by omega) (pth_n hp e3 a1 (fun π => ?_) (Or.inr (Or.inl ⟨by rw [hcur], a4, by rw [← a2]; exact hm, by rw [← a2]; exact e1, by rw [← a2]; exact e3⟩))) (fun i hi => ?_) hea
        · rw [← a2, show (((nf u + 1 : Nat)) : Int) - nf u = 1 by omega, Int.one_mul]
        · show upd na u (na u + 1) i = nI (if i = u then nf u + 1 else nf i)
          by_cases q : i = u
          · rw [if_pos q, q, pk_us, hna u a1, nI_1]
          · rw [if_neg q, pk_un q]; exact hna i hi
      · -- back through a net
        have hcur : nf v = nf0 v := by
          rcases hp.2.1 v a1 with k | ⟨_, _, k1, k2, _⟩ | ⟨_, _, _, k⟩
          · exact k
          · have := bcr_lt hb (show 32 + v < 64 by omega) hv k1 k2
            rw [← a2] at this
            omega
          · omega
        have ei : nI v &&& 31 = nI v := by rw [gw_and31 _ (by omega), show v % 32 = v by omega]
        rw [a3, ei, gw_cl (by omega)]
        have eb : a_before v = nI u := e1
        have hq3 := hf.2.2.1 v a1
        refine br_f gw_m1le ⟨vp_in_nI a1 (by omega), br_t (nI_le (a := 32) (by omega) (by omega)) ⟨vp_in_nI a1 (by omega), nm_e ⟨vp_in_nI hv (by omega), nm_r eb ?_⟩⟩⟩
        refine ih (rk u) (by omega) u n (fun i => if i = v then nf v - 1 else nf i) ef _ ea rfl hu e2 (by omega) (pth_n hp e3 a1 (fun π => ?_) (Or.inr (Or.inr ⟨by omega, hm, by rw [e1, a2], e3⟩))) (fun i hi => ?_) hea
        · rw [a2, show (((nf v - 1 : Nat)) : Int) - nf v = -1 by omega]
          omega
        · show upd na v (na v + (-1)) i = nI (if i = v then nf v - 1 else nf i)
          by_cases q : i = v
          · rw [if_pos q, q, pk_us, hna v a1, sb_m1 (by omega)]
          · rw [if_neg q, pk_un q]; exact hna i hi
      · -- back along a wire
        have hm3 : e / 3 = u := a3.1
        have hcur : ef e = ef0 e := by
          rcases hp.2.2 e he with k | ⟨_, _, _, k1, k2, _⟩ | ⟨_, _, _, k⟩
          · exact k
          · have := bcr_lt hb (show e / 3 < 64 by omega) (show 32 + cO c e < 64 by rw [← a4]; exact hv) k1 k2
            rw [← a4, hm3] at this
            omega
          · rw [← a4] at k; omega
        rw [a1, gw_cl (show e < 2147483648 by omega)]
        have eb : a_before v = nI u := e1
        have hq4 := hf.2.2.2.1 e he
        refine br_t (nI_pos' (by omega)) ⟨vp_in_nI he (by omega), br_f (nI_ge (b := 32) a2 (by omega)) ⟨vp_in_nI he (by omega), nm_e ⟨vp_in_nI hv (by omega), nm_r eb ?_⟩⟩⟩
        refine ih (rk u) (by omega) u n nf (fun i => if i = e then ef e - 1 else ef i) na _ rfl hu e2 (by omega) (pth_e hp e3 he (fun π => ?_) (Or.inr (Or.inr ⟨by omega, by rw [← a4]; exact hm, by rw [← a4, hm3]; exact e1, by rw [← a4]; exact e3⟩))) hna (fun i hi => ?_)
        · rw [a4, hm3, show (((ef e - 1 : Nat)) : Int) - ef e = -1 by omega]
          omega
        · show upd ea e (ea e + (-1)) i = nI (if i = e then ef e - 1 else ef i)
          by_cases q : i = e
          · rw [if_pos q, q, pk_us, hea e he, sb_m1 (by omega)]
          · rw [if_neg q, pk_un q]; exact hea i hi
      · -- along a wire
        have hm3 : e / 3 = v := a3.1
        have hcur : ef e = ef0 e := by
          rcases hp.2.2 e he with k | ⟨_, _, _, _, _, k⟩ | ⟨_, k1, k2, _⟩
          · exact k
          · rw [hm3] at k; omega
          · have := bcr_lt hb (show 32 + cO c e < 64 by rw [← a4]; exact hu) (show e / 3 < 64 by omega) k1 k2
            rw [← a4, hm3] at this
            omega
        rw [a1, gw_cl (show e < 2147483648 by omega)]
        have eb : a_before v = nI u := e1
        have hq4 := hf.2.2.2.1 e he
        refine br_t (nI_pos' (by omega)) ⟨vp_in_nI he (by omega), br_t (nI_le (a := 32) (by omega) (by omega)) ⟨vp_in_nI he (by omega), nm_e ⟨vp_in_nI hv (by omega), nm_r eb ?_⟩⟩⟩
        refine ih (rk u) (by omega) u n nf (fun i => if i = e then ef e + 1 else ef i) na _ rfl hu e2 (by omega) (pth_e hp e3 he (fun π => ?_) (Or.inr (Or.inl ⟨by rw [hcur], by rw [hm3]; exact a5, by rw [hm3]; exact a3, by rw [hm3]; exact hm, by rw [hm3, ← a4]; exact e1, by rw [hm3]; exact e3⟩))) hna (fun i hi => ?_)
        · rw [a4, hm3, show (((ef e + 1 : Nat)) : Int) - ef e = 1 by omega, Int.one_mul]
        · show upd ea e (ea e + 1) i = nI (if i = e then ef e + 1 else ef i)
          by_cases q : i = e
          · rw [if_pos q, q, pk_us, hea e he, nI_1]
          · rw [if_neg q, pk_un q]; exact hea i hi
/-- at most k nets that may be cut are between -/
def NCU (c : CK) (T k : Nat) (may : Nat → Bool) : Prop := ∃ C : Nat → Bool, cnt C T ≤ k ∧ (∀ n, n < T → C n = true → may n = true) ∧ SEP c T C
theorem xw_chain (w : WF c) (hT : T < cN c) (hkT : 3 ≤ cK c T) {k : Nat} {l : Int32} (hk1 : 1 ≤ k) (hk3 : k ≤ 3) (hmay : MAY a_levels k l may) {ch : Nat} (hch : ch ≤ 3) (hf : FLW c T may ch nf0 ef0)
    (hnf : ∀ n, n < 32 → a_netFlow n = nI (nf0 n)) (hef : ∀ e, e < 96 → a_edgeFlow e = nI (ef0 e)) {post : Int32 → SX → Prop}
    (h1 : ∀ hd tl met bf eg qu nf ef na ea, FLW c T may (ch + 1) nf ef → (∀ n, n < 32 → na n = nI (nf n)) → (∀ e, e < 96 → ea e = nI (ef e)) → post 1 (nI (cN c), nI (cS c), nI (cR c), f_now, f_right, f_levelsKnown, hd, tl, met, f_comesKnown, f_entry, f_round, xK c, xO c, xF c, xA c, xG c, xB c, a_table, a_saved, a_matters, a_cubes, a_levels, ea, na, qu, bf, eg, a_leads, a_comes, a_group, a_later, a_goes, a_shows))
    (h0 : ∀ hd tl met bf eg qu, NCU c T ch may → post 0 (nI (cN c), nI (cS c), nI (cR c), f_now, f_right, f_levelsKnown, hd, tl, met, f_comesKnown, f_entry, f_round, xK c, xO c, xF c, xA c, xG c, xB c, a_table, a_saved, a_matters, a_cubes, a_levels, a_edgeFlow, a_netFlow, qu, bf, eg, a_leads, a_comes, a_group, a_later, a_goes, a_shows)) : wpX_chain post (nI (cN c), nI (cS c), nI (cR c), f_now, f_right, f_levelsKnown, f_head, f_tail, f_met, f_comesKnown, f_entry, f_round, xK c, xO c, xF c, xA c, xG c, xB c, a_table, a_saved, a_matters, a_cubes, a_levels, a_edgeFlow, a_netFlow, a_queue, a_before, a_edge, a_leads, a_comes, a_group, a_later, a_goes, a_shows) (nI T) (nI k) l := by
  have hN := wf_N w
  dsimp only [wpX_chain]
  refine ⟨cS c + 1, xw_chain18 w hT hk1 hk3 hmay (nf := nf0) (ef := ef0) (fun n hn => ⟨hnf n hn, by have := hf.2.2.1 n hn; omega⟩) (fun e he => ⟨hef e he, by have := hf.2.2.2.1 e he; omega⟩) (fun hd met bf eg qu tl hb hs hcl => ?_) (cS c) 0 _ 0 a_before a_edge a_queue 0 (by omega) (by omega) bcx_0 (fun s hs => by omega)⟩
  unfold wX_chain_119
  refine br_c (fun z => ?_) (fun z => ?_)
  · rw [lb_bit0 (by omega)] at z
    exact h0 _ _ _ _ _ _ (flw_met w hT hkT hf (hcl z) hs z)
  · rw [lb_bit0 (by omega)] at z
    obtain ⟨rk, hb⟩ := hb
    have hr := (hb.2.2 T (by omega) (ts_nf z)).1
    have htl : tl ≤ 64 := by rw [← hb.1]; exact cnt_le _ _
    refine ⟨65, xw_chain137 w hT hch hf hb (fun nf ef na ea k1 k2 k3 => h1 _ _ _ _ _ _ nf ef na ea k1 k2 k3) (rk T) T _ nf0 ef0 a_netFlow a_edgeFlow rfl (by omega) (ts_nf z) (by omega) ⟨fun π => by omega, fun n _ => Or.inl rfl, fun e _ => Or.inl rfl⟩ hnf hef⟩
theorem xw_narrow51 (w : WF c) (hT : T < cN c) (hkT : 3 ≤ cK c T) {k : Nat} {l : Int32} (hk1 : 1 ≤ k) (hk3 : k ≤ 3) (hmay : MAY a_levels k l may) {post : Int32 → SX → Prop}
    (h : ∀ r hd tl met bf eg qu na ea, BA (NCU c T k may) r → post r (nI (cN c), nI (cS c), nI (cR c), f_now, f_right, f_levelsKnown, hd, tl, met, f_comesKnown, f_entry, f_round, xK c, xO c, xF c, xA c, xG c, xB c, a_table, a_saved, a_matters, a_cubes, a_levels, ea, na, qu, bf, eg, a_leads, a_comes, a_group, a_later, a_goes, a_shows)) :
    ∀ d ch n hd tl met bf eg qu na ea nf ef, ch + d = k + 1 → d < n → FLW c T may ch nf ef → (∀ n, n < 32 → na n = nI (nf n)) → (∀ e, e < 96 → ea e = nI (ef e)) →
      wX_narrow_51 post (nI T) (nI k) l n (nI ch) (nI (cN c)) (nI (cS c)) (nI (cR c)) f_now f_right f_levelsKnown hd tl met f_comesKnown f_entry f_round (xK c) (xO c) (xF c) (xA c) (xG c) (xB c) a_table a_saved a_matters a_cubes a_levels ea na qu bf eg a_leads a_comes a_group a_later a_goes a_shows := by
  intro d
  induction d with
  | zero =>
    intro ch n hd tl met bf eg qu na ea nf ef hd1 hn hf hna hea
    obtain ⟨n, rfl⟩ : ∃ n', n = n' + 1 := ⟨n - 1, by omega⟩
    unfold wX_narrow_51 wX_narrow_73
    refine br_t (nI_lt (by omega) (by omega)) (br_t (nI_lt (by omega) (by omega)) (h _ _ _ _ _ _ _ _ _ (Or.inr ⟨rfl, ?_⟩)))
    rintro ⟨C, c1, c2, c3⟩
    have := flw_cut w hT hkT hf c2 c3
    omega
  | succ d ih =>
    intro ch n hd tl met bf eg qu na ea nf ef hd1 hn hf hna hea
    obtain ⟨n, rfl⟩ : ∃ n', n = n' + 1 := ⟨n - 1, by omega⟩
    unfold wX_narrow_51
    refine br_f (nI_nlt (by omega) (by omega)) (xw_chain w hT hkT hk1 hk3 hmay (ch := ch) (by omega) hf hna hea (fun hd2 tl2 met2 bf2 eg2 qu2 nf2 ef2 na2 ea2 k1 k2 k3 => ?_) (fun hd2 tl2 met2 bf2 eg2 qu2 hc => ?_))
    · dsimp only
      exact br_f (by decide) (nm_r (nI_1 ch) (ih (ch + 1) n hd2 tl2 met2 bf2 eg2 qu2 na2 ea2 nf2 ef2 (by omega) (by omega) k1 k2 k3))
    · dsimp only
      unfold wX_narrow_73
      refine br_t rfl (br_f (nI_nlt (by omega) (by omega)) (h _ _ _ _ _ _ _ _ _ (Or.inl ⟨rfl, ?_⟩)))
      obtain ⟨C, c1, c2, c3⟩ := hc
      exact ⟨C, by omega, c2, c3⟩
theorem xw_narrow (w : WF c) (hT : T < cN c) (hkT : 3 ≤ cK c T) {k : Nat} {l : Int32} (hk1 : 1 ≤ k) (hk3 : k ≤ 3) (hmay : MAY a_levels k l may) {post : Int32 → SX → Prop}
    (h : ∀ r hd tl met bf eg qu na ea, BA (NCU c T k may) r → post r (nI (cN c), nI (cS c), nI (cR c), f_now, f_right, f_levelsKnown, hd, tl, met, f_comesKnown, f_entry, f_round, xK c, xO c, xF c, xA c, xG c, xB c, a_table, a_saved, a_matters, a_cubes, a_levels, ea, na, qu, bf, eg, a_leads, a_comes, a_group, a_later, a_goes, a_shows)) : wpX_narrow post (nI (cN c), nI (cS c), nI (cR c), f_now, f_right, f_levelsKnown, f_head, f_tail, f_met, f_comesKnown, f_entry, f_round, xK c, xO c, xF c, xA c, xG c, xB c, a_table, a_saved, a_matters, a_cubes, a_levels, a_edgeFlow, a_netFlow, a_queue, a_before, a_edge, a_leads, a_comes, a_group, a_later, a_goes, a_shows) (nI T) (nI k) l := by
  have L2 : ∀ d i n ea na, i + d = 32 → d < n → (∀ e, e < 96 → ea e = nI 0) → (∀ m, m < i → na m = nI 0) → wX_narrow_27 post (nI T) (nI k) l (nI (cN c)) (nI (cS c)) (nI (cR c)) f_now f_right f_levelsKnown f_head f_tail f_met f_comesKnown f_entry f_round n (nI i) (xK c) (xO c) (xF c) (xA c) (xG c) (xB c) a_table a_saved a_matters a_cubes a_levels ea na a_queue a_before a_edge a_leads a_comes a_group a_later a_goes a_shows := by
    intro d
    induction d with
    | zero =>
      intro i n ea na hi hn he hm
      obtain ⟨n, rfl⟩ : ∃ n', n = n' + 1 := ⟨n - 1, by omega⟩
      unfold wX_narrow_27
      exact br_t (nI_le (a := 32) (by omega) (by omega)) ⟨k + 2, xw_narrow51 w hT hkT hk1 hk3 hmay h (k + 1) 0 _ f_head f_tail f_met a_before a_edge a_queue na ea _ _ (by omega) (by omega) (flw_0 c T may) (fun m hm2 => hm m (by omega)) he⟩
    | succ d ih =>
      intro i n ea na hi hn he hm
      obtain ⟨n, rfl⟩ : ∃ n', n = n' + 1 := ⟨n - 1, by omega⟩
      unfold wX_narrow_27
      rw [gw_cl (by omega)]
      refine br_f (nI_ge (b := 32) (by omega) (by omega)) ⟨vp_in_nI (by omega) (by omega), nm_e (nm_r (nI_1 i) (ih (i + 1) n ea _ (by omega) (by omega) he (fun m hm2 => ?_)))⟩
      by_cases q : m = i
      · rw [q, pk_us]; rfl
      · rw [pk_un q]; exact hm m (by omega)
  have L1 : ∀ d i n ea, i + d = 96 → d < n → (∀ e, e < i → ea e = nI 0) → wX_narrow_3 post (nI T) (nI k) l (nI (cN c)) (nI (cS c)) (nI (cR c)) f_now f_right f_levelsKnown f_head f_tail f_met f_comesKnown f_entry f_round n (nI i) (xK c) (xO c) (xF c) (xA c) (xG c) (xB c) a_table a_saved a_matters a_cubes a_levels ea a_netFlow a_queue a_before a_edge a_leads a_comes a_group a_later a_goes a_shows := by
    intro d
    induction d with
    | zero =>
      intro i n ea hi hn he
      obtain ⟨n, rfl⟩ : ∃ n', n = n' + 1 := ⟨n - 1, by omega⟩
      unfold wX_narrow_3
      exact br_t (nI_le (a := 96) (by omega) (by omega)) ⟨33, L2 32 0 _ ea a_netFlow (by omega) (by omega) (fun e he2 => he e (by omega)) (fun m hm => by omega)⟩
    | succ d ih =>
      intro i n ea hi hn he
      obtain ⟨n, rfl⟩ : ∃ n', n = n' + 1 := ⟨n - 1, by omega⟩
      unfold wX_narrow_3
      rw [gw_cl (by omega)]
      refine br_f (nI_ge (b := 96) (by omega) (by omega)) ⟨vp_in_nI (by omega) (by omega), nm_e (nm_r (nI_1 i) (ih (i + 1) n _ (by omega) (by omega) (fun m hm2 => ?_)))⟩
      by_cases q : m = i
      · rw [q, pk_us]; rfl
      · rw [pk_un q]; exact he m (by omega)
  exact ⟨97, L1 96 0 _ a_edgeFlow (by omega) (by omega) (fun e he => by omega)⟩
end
end
section
/-! ===== X: measure, level ===== -/
theorem cut_congr {c : CK} {k T l : Nat} {L L' : Nat → Nat} (h : ∀ m, m < T → L m = L' m) : CUT c k L l T ↔ CUT c k L' l T := by
  constructor
  · rintro ⟨C, h1, h2, h3⟩
    exact ⟨C, h1, fun n hn hC => by rw [← h n hn]; exact h2 n hn hC, h3⟩
  · rintro ⟨C, h1, h2, h3⟩
    exact ⟨C, h1, fun n hn hC => by rw [h n hn]; exact h2 n hn hC, h3⟩
theorem lvs_congr {c : CK} {k m : Nat} {L L' : Nat → Nat} (h : ∀ n, n < m → L n = L' n) (hl : LVS c k L m) : LVS c k L' m := by
  intro n hn
  have e := h n hn
  have ec : ∀ l, CUT c k L l n ↔ CUT c k L' l n := fun l => cut_congr (fun i hi => h i (by omega))
  obtain ⟨h1, h2⟩ := hl n hn
  refine ⟨fun z => by rw [← e]; exact h1 z, fun z => ?_⟩
  rcases h2 z with ⟨a, b⟩ | ⟨a1, a2, a3, a4⟩
  · exact Or.inl ⟨by rw [← e]; exact a, fun l hl y => b l hl ((ec l).mpr y)⟩
  · refine Or.inr ⟨by rw [← e]; exact a1, by rw [← e]; exact a2, by rw [← e]; exact (ec _).mp a3, fun l l1 l2 y => a4 l l1 (by rw [e]; exact l2) ((ec l).mpr y)⟩
theorem lvs_uni {c : CK} {k m : Nat} (hm : m ≤ 32) {L L' : Nat → Nat} (h : LVS c k L m) (h' : LVS c k L' m) : ∀ n, n < m → L' n = L n := by
  intro n
  induction n using Nat.strongRecOn with
  | _ n ih =>
    intro hn
    have ec : ∀ l, CUT c k L l n ↔ CUT c k L' l n := fun l => cut_congr (fun i hi => (ih i hi (by omega)).symm)
    obtain ⟨h1, h2⟩ := h n hn
    obtain ⟨k1, k2⟩ := h' n hn
    by_cases hk : cK c n < 3
    · rw [h1 hk, k1 hk]
    · rcases h2 (by omega) with ⟨a, b⟩ | ⟨a1, a2, a3, a4⟩ <;> rcases k2 (by omega) with ⟨d, e⟩ | ⟨d1, d2, d3, d4⟩
      · rw [a, d]
      · exact absurd ((ec _).mpr d3) (b _ (by omega))
      · exact absurd ((ec _).mp a3) (e _ (by omega))
      · rcases Nat.lt_trichotomy (L n) (L' n) with q | q | q
        · exact absurd ((ec _).mp a3) (d4 _ a1 q)
        · exact q.symm
        · exact absurd ((ec _).mpr d3) (a4 _ d1 q)
def LVA (c : CK) (k n : Nat) (r : Int32) : Prop := ∃ L, LVS c k L (n + 1) ∧ r = lvI (L n)
theorem lva_uni {c : CK} (w : WF c) {k n : Nat} (hn : n < cN c) {r r' : Int32} (h : LVA c k n r) (h' : LVA c k n r') : r' = r := by
  have := wf_N w
  obtain ⟨L, h1, rfl⟩ := h
  obtain ⟨L', h2, rfl⟩ := h'
  rw [lvs_uni (by omega) h1 h2 n (by omega)]
theorem lvs_le {c : CK} {k m m' : Nat} {L : Nat → Nat} (h : LVS c k L m) (hm : m' ≤ m) : LVS c k L m' := fun n hn => h n (by omega)
/-- one net more -/
theorem lvs_s {c : CK} {k n : Nat} {L : Nat → Nat} (h : LVS c k L n) (x : Nat) (hx : (cK c n < 3 → x = 0) ∧ (3 ≤ cK c n → (x = 99 ∧ ∀ l, l < 99 → ¬ CUT c k L l n) ∨ (1 ≤ x ∧ x ≤ n ∧ CUT c k L x n ∧ ∀ l, 1 ≤ l → l < x → ¬ CUT c k L l n))) :
    LVS c k (fun i => if i = n then x else L i) (n + 1) := by
  have h1 : LVS c k (fun i => if i = n then x else L i) n := lvs_congr (fun i hi => by
    show L i = if i = n then x else L i
    rw [if_neg (by omega)]) h
  intro m hm
  by_cases e : m = n
  · subst e
    have ec : ∀ l, CUT c k (fun i => if i = m then x else L i) l m ↔ CUT c k L l m := fun l => cut_congr (fun i hi => by
      show (if i = m then x else L i) = L i
      rw [if_neg (by omega)])
    show (cK c m < 3 → (if m = m then x else L m) = 0) ∧ (3 ≤ cK c m → ((if m = m then x else L m) = 99 ∧ _) ∨ (1 ≤ (if m = m then x else L m) ∧ (if m = m then x else L m) ≤ m ∧ CUT c k _ (if m = m then x else L m) m ∧ ∀ l, 1 ≤ l → l < (if m = m then x else L m) → _))
    rw [if_pos rfl]
    refine ⟨hx.1, fun z => ?_⟩
    rcases hx.2 z with ⟨a, b⟩ | ⟨a1, a2, a3, a4⟩
    · exact Or.inl ⟨a, fun l hl y => b l hl ((ec l).mp y)⟩
    · exact Or.inr ⟨a1, a2, (ec _).mpr a3, fun l l1 l2 y => a4 l l1 l2 ((ec l).mp y)⟩
  · exact h1 m (by omega)
theorem lvI_neg {x : Nat} (hx : x ≤ 32 ∨ x = 99) {l : Nat} (hl : l ≤ 98) : (¬ lvI x < 0 ∧ ¬ nI l ≤ lvI x) ↔ x < l := by
  unfold lvI
  by_cases e : x = 99
  · rw [if_pos e]
    constructor
    · rintro ⟨z, _⟩; exact absurd gw_m1lt z
    · intro z; omega
  · rw [if_neg e]
    have hx2 : x ≤ 32 := by omega
    rw [nI_leI (by omega) (by omega)]
    constructor
    · rintro ⟨_, z⟩; omega
    · intro z; exact ⟨nI_pos (by omega), by omega⟩
section
variable {c : CK} {f_now : Int32} {f_right : Int32} {f_levelsKnown : Int32} {f_head : Int32} {f_tail : Int32} {f_met : Int64} {f_comesKnown : Int32} {f_entry : Int32} {f_round : Int32} {a_table : Nat → Int64} {a_saved : Nat → Int64} {a_matters : Nat → Int32} {a_cubes : Nat → Int64} {a_levels : Nat → Int32} {a_edgeFlow : Nat → Int32} {a_netFlow : Nat → Int32} {a_queue : Nat → Int32} {a_before : Nat → Int32} {a_edge : Nat → Int32} {a_leads : Nat → Int64} {a_comes : Nat → Int32} {a_group : Nat → Int32} {a_later : Nat → Int32} {a_goes : Nat → Int32} {a_shows : Nat → Int32}
theorem ncu_cut {k n l : Nat} {L : Nat → Nat} {may : Nat → Bool} (h : ∀ m, m < n → (may m = true ↔ L m < l)) : NCU c n k may ↔ CUT c k L l n := by
  constructor
  · rintro ⟨C, h1, h2, h3⟩
    exact ⟨C, h1, fun m hm hC => (h m hm).mp (h2 m hm hC), h3⟩
  · rintro ⟨C, h1, h2, h3⟩
    exact ⟨C, h1, fun m hm hC => (h m hm).mpr (h2 m hm hC), h3⟩
section
variable {J12 : Int32 → Int32 → Int32 → Int32 → Int32 → Int32 → Int32 → Int32 → Int32 → Int32 → Int64 → Int32 → Int32 → Int32 → (Nat → Int32) → (Nat → Int32) → (Nat → Int32) → (Nat → Int32) → (Nat → Int32) → (Nat → Int32) → (Nat → Int64) → (Nat → Int64) → (Nat → Int32) → (Nat → Int64) → (Nat → Int32) → (Nat → Int32) → (Nat → Int32) → (Nat → Int32) → (Nat → Int32) → (Nat → Int32) → (Nat → Int64) → (Nat → Int32) → (Nat → Int32) → (Nat → Int32) → (Nat → Int32) → (Nat → Int32) → Prop}
theorem xw_measure58 (w : WF c) {k n mx : Nat} (hk1 : 1 ≤ k) (hk3 : k ≤ 3) (hn : n < cN c) (hkn : 3 ≤ cK c n) (hmx : mx < n) {L : Nat → Nat} (hL : ∀ m, m < n → L m ≤ mx ∨ L m = 99) {lv : Nat → Int32} (hlv : ∀ m, m < n → lv (32 * (k - 1) + m) = lvI (L m)) {post : SX → Prop}
    (h1 : ∀ l hd tl met bf eg qu na ea, 1 ≤ l → l ≤ mx + 1 → CUT c k L l n → (∀ l', 1 ≤ l' → l' < l → ¬ CUT c k L l' n) → J12 (nI (if l ≤ mx then mx else l)) (nI (n + 1)) (nI (cN c)) (nI (cS c)) (nI (cR c)) f_now f_right f_levelsKnown hd tl met f_comesKnown f_entry f_round (xK c) (xO c) (xF c) (xA c) (xG c) (xB c) a_table a_saved a_matters a_cubes (upd lv (32 * (k - 1) + n) (nI l)) ea na qu bf eg a_leads a_comes a_group a_later a_goes a_shows)
    (h2 : ∀ hd tl met bf eg qu na ea, (∀ l, l < 99 → ¬ CUT c k L l n) → J12 (nI mx) (nI (n + 1)) (nI (cN c)) (nI (cS c)) (nI (cR c)) f_now f_right f_levelsKnown hd tl met f_comesKnown f_entry f_round (xK c) (xO c) (xF c) (xA c) (xG c) (xB c) a_table a_saved a_matters a_cubes lv ea na qu bf eg a_leads a_comes a_group a_later a_goes a_shows) :
    ∀ d l fu hd tl met bf eg qu na ea, l + d = mx + 2 → d < fu → 1 ≤ l → (∀ l', 1 ≤ l' → l' < l → ¬ CUT c k L l' n) →
      wX_measure_58 post J12 (nI k) (nI (32 * (k - 1))) (nI mx) (nI n) fu (nI l) (nI (cN c)) (nI (cS c)) (nI (cR c)) f_now f_right f_levelsKnown hd tl met f_comesKnown f_entry f_round (xK c) (xO c) (xF c) (xA c) (xG c) (xB c) a_table a_saved a_matters a_cubes lv ea na qu bf eg a_leads a_comes a_group a_later a_goes a_shows := by
  have hN := wf_N w
  intro d
  induction d with
  | zero =>
    intro l fu hd tl met bf eg qu na ea hl hf l1 hno
    obtain ⟨fu, rfl⟩ : ∃ k', fu = k' + 1 := ⟨fu - 1, by omega⟩
    unfold wX_measure_58 wX_measure_84
    rw [nI_1]
    refine br_t (nI_lt (by omega) (by omega)) (br_f (nI_ge (by omega) (by omega)) (nm_r (nI_1 n) (h2 _ _ _ _ _ _ _ _ (fun l' hl' hc => ?_))))
    obtain ⟨C, c1, c2, c3⟩ := hc
    refine hno (mx + 1) (by omega) (by omega) ⟨C, c1, fun m hm hC => ?_, c3⟩
    have := c2 m hm hC
    rcases hL m hm with z | z <;> omega
  | succ d ih =>
    intro l fu hd tl met bf eg qu na ea hl hf l1 hno
    obtain ⟨fu, rfl⟩ : ∃ k', fu = k' + 1 := ⟨fu - 1, by omega⟩
    unfold wX_measure_58
    rw [nI_1]
    refine br_f (nI_nlt (by omega) (by omega)) (xw_narrow (may := fun m => decide (¬ lv (32 * (k - 1) + m) < 0 ∧ ¬ nI l ≤ lv (32 * (k - 1) + m))) w hn hkn hk1 hk3 (fun m _ => decide_eq_true_iff) (fun r hd2 tl2 met2 bf2 eg2 qu2 na2 ea2 hr => ?_))
    dsimp only
    have hcut : NCU c n k (fun m => decide (¬ lv (32 * (k - 1) + m) < 0 ∧ ¬ nI l ≤ lv (32 * (k - 1) + m))) ↔ CUT c k L l n := ncu_cut (fun m hm => by
      show decide _ = true ↔ _
      rw [decide_eq_true_iff, hlv m hm]
      exact lvI_neg (by rcases hL m hm with z | z <;> omega) (by omega))
    rcases BA_iff hr hcut with ⟨rfl, hr2⟩ | ⟨rfl, hr2⟩
    · refine br_f (by decide) ?_
      unfold wX_measure_84
      rw [nI_1, nI_add, gw_cl (by omega), gw_nbyte2 (by omega)]
      have hj := h1 l hd2 tl2 met2 bf2 eg2 qu2 na2 ea2 l1 (by omega) hr2 hno
      refine br_t (nI_le (by omega) (by omega)) ⟨vp_in_nI (by omega) (by omega), nm_e (pk_le l mx (fun z => nm_r (nI_1 n) ?_) (fun z => nm_r (nI_1 n) ?_))⟩
      · rw [if_pos z] at hj
        exact hj
      · rw [if_neg (by omega)] at hj
        exact hj
    · refine br_t rfl (nm_r (nI_1 l) (ih (l + 1) fu hd2 tl2 met2 bf2 eg2 qu2 na2 ea2 (by omega) (by omega) (by omega) (fun l' a b => ?_)))
      by_cases q : l' = l
      · subst q; exact hr2
      · exact hno l' a (by omega)
end
theorem xw_measure12 (w : WF c) {k : Nat} (hk1 : 1 ≤ k) (hk3 : k ≤ 3) {lv0 : Nat → Int32} {post : SX → Prop}
    (h : ∀ lv hd tl met bf eg qu na ea, (∃ L, LVS c k L (cN c) ∧ ∀ m, m < cN c → lv (32 * (k - 1) + m) = lvI (L m)) → (∀ i, i < 32 * (k - 1) ∨ 32 * (k - 1) + 32 ≤ i → lv i = lv0 i) → post (nI (cN c), nI (cS c), nI (cR c), f_now, f_right, f_levelsKnown, hd, tl, met, f_comesKnown, f_entry, f_round, xK c, xO c, xF c, xA c, xG c, xB c, a_table, a_saved, a_matters, a_cubes, lv, ea, na, qu, bf, eg, a_leads, a_comes, a_group, a_later, a_goes, a_shows)) :
    ∀ d n fu mx L lv hd tl met bf eg qu na ea, n + d = cN c → d < fu → (mx = 0 ∨ mx < n) → LVS c k L n → (∀ m, m < n → L m ≤ mx ∨ L m = 99) → (∀ m, m < n → lv (32 * (k - 1) + m) = lvI (L m)) → (∀ i, i < 32 * (k - 1) ∨ 32 * (k - 1) + 32 ≤ i → lv i = lv0 i) →
      wX_measure_12 post (nI k) (nI (32 * (k - 1))) fu (nI mx) (nI n) (nI (cN c)) (nI (cS c)) (nI (cR c)) f_now f_right f_levelsKnown hd tl met f_comesKnown f_entry f_round (xK c) (xO c) (xF c) (xA c) (xG c) (xB c) a_table a_saved a_matters a_cubes lv ea na qu bf eg a_leads a_comes a_group a_later a_goes a_shows := by
  have hN := wf_N w
  intro d
  induction d with
  | zero =>
    intro n fu mx L lv hd tl met bf eg qu na ea hn hf hmx hL hLm hlv ho
    obtain ⟨fu, rfl⟩ : ∃ k', fu = k' + 1 := ⟨fu - 1, by omega⟩
    have : n = cN c := by omega
    subst this
    unfold wX_measure_12
    exact br_t (nI_le (Nat.le_refl _) (by omega)) (h lv _ _ _ _ _ _ _ _ ⟨L, hL, hlv⟩ ho)
  | succ d ih =>
    intro n fu mx L lv hd tl met bf eg qu na ea hn hf hmx hL hLm hlv ho
    obtain ⟨fu, rfl⟩ : ∃ k', fu = k' + 1 := ⟨fu - 1, by omega⟩
    have hn' : n < cN c := by omega
    have k7 := wf_K w n
    have lvu : ∀ (x : Nat) (lv' : Nat → Int32), (∀ i, i ≠ 32 * (k - 1) + n → lv' i = lv i) → lv' (32 * (k - 1) + n) = lvI x → (∀ m, m < n + 1 → lv' (32 * (k - 1) + m) = lvI (if m = n then x else L m)) ∧ (∀ i, i < 32 * (k - 1) ∨ 32 * (k - 1) + 32 ≤ i → lv' i = lv0 i) := fun x lv' h1 h2 => by
      refine ⟨fun m hm => ?_, fun i hi => ?_⟩
      · by_cases e : m = n
        · rw [if_pos e, e]; exact h2
        · rw [if_neg e, h1 _ (by omega)]; exact hlv m (by omega)
      · rw [h1 i (by omega)]; exact ho i hi
    unfold wX_measure_12
    rw [nI_add, gw_cl (by omega), gw_cl (by omega), xK_ap, gw_nb0, gw_nbm]
    refine br_f (nI_ge (by omega) (by omega)) ⟨vp_in_nI (by omega) (by omega), nm_e ⟨vp_in_nI (by omega) (by omega), pk_lt 2 (cK c n) (fun z => ⟨vp_in_nI (by omega) (by omega), nm_e ?_⟩) (fun z => nm_r (nI_1 n) ?_)⟩⟩
    · have hn1 := wf_o1 w hn' (by omega)
      have u2 : ∀ i, i ≠ 32 * (k - 1) + n → upd (upd lv (32 * (k - 1) + n) 0) (32 * (k - 1) + n) (-1) i = lv i := fun i hi => by rw [pk_un hi, pk_un hi]
      refine ⟨mx + 2, xw_measure58 w hk1 hk3 hn' (by omega) (by omega) (L := L) hLm (fun m hm => by rw [u2 _ (by omega)]; exact hlv m hm) (fun l hd2 tl2 met2 bf2 eg2 qu2 na2 ea2 l1 l2 hc hno => ?_) (fun hd2 tl2 met2 bf2 eg2 qu2 na2 ea2 hno => ?_) (mx + 1) 1 _ hd tl met bf eg qu na ea (by omega) (by omega) (by omega) (fun l' a b => by omega)⟩
      · have hl99 : lvI l = nI l := by unfold lvI; rw [if_neg (by omega)]
        obtain ⟨q1, q2⟩ := lvu l (upd (upd (upd lv (32 * (k - 1) + n) 0) (32 * (k - 1) + n) (-1)) (32 * (k - 1) + n) (nI l)) (fun i hi => by rw [pk_un hi, u2 i hi]) (by rw [pk_us, hl99])
        refine ih (n + 1) fu _ (fun i => if i = n then l else L i) _ hd2 tl2 met2 bf2 eg2 qu2 na2 ea2 (by omega) (by omega) ?_ (lvs_s hL l ⟨fun y => by omega, fun _ => Or.inr ⟨l1, by omega, hc, hno⟩⟩) (fun m hm => ?_) q1 q2
        · by_cases y : l ≤ mx
          · rw [if_pos y]; omega
          · rw [if_neg y]; omega
        · show (if m = n then l else L m) ≤ (if l ≤ mx then mx else l) ∨ (if m = n then l else L m) = 99
          by_cases e : m = n
          · rw [if_pos e]
            by_cases y : l ≤ mx
            · rw [if_pos y]; omega
            · rw [if_neg y]; omega
          · rw [if_neg e]
            have := hLm m (by omega)
            by_cases y : l ≤ mx
            · rw [if_pos y]; omega
            · rw [if_neg y]; omega
      · obtain ⟨q1, q2⟩ := lvu 99 _ u2 (by rw [pk_us]; rfl)
        refine ih (n + 1) fu mx (fun i => if i = n then 99 else L i) _ hd2 tl2 met2 bf2 eg2 qu2 na2 ea2 (by omega) (by omega) (by omega) (lvs_s hL 99 ⟨fun y => by omega, fun _ => Or.inl ⟨rfl, hno⟩⟩) (fun m hm => ?_) q1 q2
        show (if m = n then 99 else L m) ≤ mx ∨ (if m = n then 99 else L m) = 99
        by_cases e : m = n
        · rw [if_pos e]; exact Or.inr rfl
        · rw [if_neg e]; exact hLm m (by omega)
    · obtain ⟨q1, q2⟩ := lvu 0 (upd lv (32 * (k - 1) + n) 0) (fun i hi => pk_un hi) (by rw [pk_us]; rfl)
      refine ih (n + 1) fu mx (fun i => if i = n then 0 else L i) _ hd tl met bf eg qu na ea (by omega) (by omega) (by omega) (lvs_s hL 0 ⟨fun _ => rfl, fun y => by omega⟩) (fun m hm => ?_) q1 q2
      show (if m = n then 0 else L m) ≤ mx ∨ (if m = n then 0 else L m) = 99
      by_cases e : m = n
      · rw [if_pos e]; omega
      · rw [if_neg e]; exact hLm m (by omega)
theorem xw_measure (w : WF c) {k : Nat} (hk1 : 1 ≤ k) (hk3 : k ≤ 3) {post : SX → Prop}
    (h : ∀ lv hd tl met bf eg qu na ea, (∃ L, LVS c k L (cN c) ∧ ∀ m, m < cN c → lv (32 * (k - 1) + m) = lvI (L m)) → (∀ i, i < 32 * (k - 1) ∨ 32 * (k - 1) + 32 ≤ i → lv i = a_levels i) → post (nI (cN c), nI (cS c), nI (cR c), f_now, f_right, f_levelsKnown, hd, tl, met, f_comesKnown, f_entry, f_round, xK c, xO c, xF c, xA c, xG c, xB c, a_table, a_saved, a_matters, a_cubes, lv, ea, na, qu, bf, eg, a_leads, a_comes, a_group, a_later, a_goes, a_shows)) : wpX_measure post (nI (cN c), nI (cS c), nI (cR c), f_now, f_right, f_levelsKnown, f_head, f_tail, f_met, f_comesKnown, f_entry, f_round, xK c, xO c, xF c, xA c, xG c, xB c, a_table, a_saved, a_matters, a_cubes, a_levels, a_edgeFlow, a_netFlow, a_queue, a_before, a_edge, a_leads, a_comes, a_group, a_later, a_goes, a_shows) (nI k) := by
  have e1 : nI k - 1 = nI (k - 1) := pk_sub hk1
  dsimp only [wpX_measure]
  rw [e1, gw_Lmul]
  refine nm_e ⟨cN c + 1, xw_measure12 w hk1 hk3 h (cN c) 0 _ 0 (fun _ => 0) a_levels f_head f_tail f_met a_before a_edge a_queue a_netFlow a_edgeFlow (by omega) (by omega) (Or.inl rfl) (fun n hn => by omega) (fun n hn => by omega) (fun n hn => by omega) (fun i _ => rfl)⟩
theorem xm_level (w : WF c) {now : Nat} {u : SX} (hX : XR c now u) {n k : Nat} (hn : n < cN c) (hk1 : 1 ≤ k) (hk3 : k ≤ 3) {post : Int32 → SX → Prop} (h : ∀ u' r, XR c now u' → LVA c k n r → post r u') : wpX_level post u (nI n) (nI k) := by
  have hN := wf_N w
  refine xr_el (P := fun u => wpX_level post u (nI n) (nI k)) hX ?_
  intro r f_levelsKnown f_head f_tail f_met f_comesKnown f_entry f_round a_table a_saved a_matters a_cubes a_levels a_edgeFlow a_netFlow a_queue a_before a_edge a_leads a_comes a_group a_later a_goes a_shows hr ht hl hc
  obtain ⟨lk, hlk, rfl, hlv⟩ := hl
  have e1 : nI k - 1 = nI (k - 1) := pk_sub hk1
  have hk2 : 2 ^ k < 2 ^ 4 := Nat.pow_lt_pow_right (by decide) (by omega)
  have fin : ∀ lv hd tl met bf eg qu na ea, (∃ L, LVS c k L (cN c) ∧ ∀ m, m < cN c → lv (32 * (k - 1) + m) = lvI (L m)) → (∀ i, i < 32 * (k - 1) ∨ 32 * (k - 1) + 32 ≤ i → lv i = a_levels i) → wX_level_36 post (nI n) (nI k) (nI (cN c)) (nI (cS c)) (nI (cR c)) (nI now) (nI r) (nI lk) hd tl met f_comesKnown f_entry f_round (xK c) (xO c) (xF c) (xA c) (xG c) (xB c) a_table a_saved a_matters a_cubes lv ea na qu bf eg a_leads a_comes a_group a_later a_goes a_shows := by
    intro lv hd tl met bf eg qu na ea hL ho
    unfold wX_level_36
    rw [e1, gw_Lmul, nI_add, gw_cl (by omega), gw_1shl (by omega), gw_or]
    refine nm_e ⟨vp_in_nI (by omega) (by omega), ?_⟩
    obtain ⟨L, hL1, hL2⟩ := hL
    rw [hL2 n hn]
    refine h _ _ (xr_in hr ht ⟨lk ||| 2 ^ k, Nat.or_lt_two_pow (n := 4) hlk hk2, rfl, fun k' k1 k3 hb => ?_⟩ hc) ⟨L, lvs_le hL1 hn, rfl⟩
    by_cases e : k' = k
    · subst e; exact ⟨L, hL1, hL2⟩
    · rw [hq_or, decide_eq_false (fun z => e z.symm), Bool.or_false] at hb
      obtain ⟨L', a1, a2⟩ := hlv k' k1 k3 hb
      exact ⟨L', a1, fun m hm => by rw [ho _ (by omega)]; exact a2 m hm⟩
  dsimp only [wpX_level]
  refine xw_isNet_t w hn (br_f (by decide) (br_f (nI_nlt (b := 1) hk1 (by omega)) (br_t (nI_le (b := 3) hk3 (by omega)) ?_)))
  rw [gw_bit (by omega) (by omega)]
  refine br_c (fun z => ?_) (fun z => ?_)
  · refine xw_measure w hk1 hk3 (fun lv hd tl met bf eg qu na ea hL ho => ?_)
    dsimp only
    exact fin lv hd tl met bf eg qu na ea hL ho
  · rw [gw_bt] at z
    exact fin a_levels f_head f_tail f_met a_before a_edge a_queue a_netFlow a_edgeFlow (hlv k hk1 hk3 (ts_nf z)) (fun i _ => rfl)
end
end
section
/-! ===== Y: between ===== -/
/-- the members, by their numbers (-1: none) -/
def mem3 (x y z : Int32) : Nat → Bool := fun n => decide (nI n = x) || decide (nI n = y) || decide (nI n = z)
theorem mem3_f {x y z : Int32} {n : Nat} : mem3 x y z n = false ↔ ¬ nI n = x ∧ ¬ nI n = y ∧ ¬ nI n = z := by
  unfold mem3
  rw [Bool.or_eq_false_iff, Bool.or_eq_false_iff, decide_eq_false_iff_not, decide_eq_false_iff_not, decide_eq_false_iff_not]
  exact ⟨fun h => ⟨h.1.1, h.1.2, h.2⟩, fun h => ⟨⟨h.1, h.2.1⟩, h.2.2⟩⟩
/-- a count downwards -/
def pdn (i : Nat) : Int32 := if i = 0 then -1 else nI (i - 1)
theorem pdn_s (i : Nat) : pdn (i + 1) = nI i := by
  unfold pdn
  rw [if_neg (by omega), Nat.add_sub_cancel]
theorem pdn_m (n : Nat) : nI n + (-1) = pdn n := by
  cases n with
  | zero => decide
  | succ n => rw [pk_m1, pdn_s]
section
variable {c : CK} {T : Nat} {x2 x3 x4 : Int32} {a_first : Nat → Int32} {a_second : Nat → Int32} {a_third : Nat → Int32} {a_now : Nat → Int32} {a_at : Nat → Int32} {a_other : Nat → Int32} {a_source : Nat → Int32} {a_register : Nat → Int32} {a_level : Nat → Int32} {a_soon : Nat → Int32} {a_depend : Nat → Int32} {a_table : Nat → Int32} {a_marked : Nat → Int32} {a_after : Nat → Int32} {a_shows : Nat → Int32} {a_apart : Nat → Int32}
/-- the marks when the nets from i on have been worked on -/
def MKS (c : CK) (T : Nat) (C : Nat → Bool) (i : Nat) (mk : Nat → Bool) : Prop :=
  mk T = true ∧ (∀ m, i ≤ m → m ≤ T → mk m = true → (m = T ∨ C m = false) → 2 ≤ cK c m ∧ ∀ e, WIR c e m → mk (cO c e) = true)
  ∧ (∀ M : Nat → Bool, M T = true → (∀ n, n ≤ T → M n = true → (n = T ∨ C n = false) → 2 ≤ cK c n ∧ ∀ e, WIR c e n → M (cO c e) = true) → ∀ n, mk n = true → M n = true)
theorem yw_btw82 (w : WF c) (hY : YS c a_first a_second a_third a_source a_register) {n : Nat} (hn : n < cN c) (hk : 2 ≤ cK c n) {mk : Nat → Bool} {x1 : Int32} {post : Int32 → SY → Prop}
    {J39 : Int32 → (Nat → Int32) → (Nat → Int32) → (Nat → Int32) → (Nat → Int32) → (Nat → Int32) → (Nat → Int32) → (Nat → Int32) → (Nat → Int32) → (Nat → Int32) → (Nat → Int32) → (Nat → Int32) → (Nat → Int32) → (Nat → Int32) → (Nat → Int32) → (Nat → Int32) → (Nat → Int32) → (Nat → Int32) → (Nat → Int32) → Prop}
    (hm : ∀ i, i < cN c → a_marked i = nI (mk i).toNat)
    (hJ : ∀ (mk' : Nat → Bool) (ma : Nat → Int32), (∀ i, i < cN c → ma i = nI (mk' i).toNat) → (∀ i, mk i = true → mk' i = true) → (∀ e, WIR c e n → mk' (cO c e) = true) → (∀ i, mk' i = true → mk i = true ∨ ∃ e, WIR c e n ∧ i = cO c e) → J39 (pdn n) (xK c) a_first a_second a_third (xF c) a_now a_at a_other a_source a_register a_level a_soon a_depend a_table ma a_after a_shows a_apart) :
    wY_between_82 post J39 x1 x2 x3 x4 (nI n) (nI (cN c)) (nI (cS c)) (nI (cR c)) (xK c) a_first a_second a_third (xF c) a_now a_at a_other a_source a_register a_level a_soon a_depend a_table a_marked a_after a_shows a_apart := by
  have hN := wf_N w
  have k7 := wf_K w n
  have a1 := hY.1 n hn (by omega)
  have o1 := wf_O w (3 * n)
  have o2 := wf_O w (3 * n + 1)
  have o3 := wf_O w (3 * n + 2)
  have w0 : 3 ≤ cK c n → WIR c (3 * n) n := fun h => ⟨by omega, by rw [show 3 * n % 3 = 0 by omega]; exact wr_0.mpr h⟩
  have w1 : 4 ≤ cK c n → WIR c (3 * n + 1) n := fun h => ⟨by omega, by rw [show (3 * n + 1) % 3 = 1 by omega]; exact wr_1.mpr h⟩
  have w2 : 7 ≤ cK c n → WIR c (3 * n + 2) n := fun h => ⟨by omega, by rw [show (3 * n + 2) % 3 = 2 by omega]; exact wr_2.mpr h⟩
  have we : ∀ e, WIR c e n → (e = 3 * n ∧ 3 ≤ cK c n) ∨ (e = 3 * n + 1 ∧ 4 ≤ cK c n) ∨ (e = 3 * n + 2 ∧ 7 ≤ cK c n) := fun e he => by
    obtain ⟨h1, h2⟩ := he
    have h4 : e % 3 = 0 ∨ e % 3 = 1 ∨ e % 3 = 2 := by omega
    rcases h4 with h4 | h4 | h4
    · rw [h4, wr_0] at h2; exact Or.inl ⟨by omega, h2⟩
    · rw [h4, wr_1] at h2; exact Or.inr (Or.inl ⟨by omega, h2⟩)
    · rw [h4, wr_2] at h2; exact Or.inr (Or.inr ⟨by omega, h2⟩)
  have up : ∀ (f : Nat → Bool) (g : Nat → Int32) (o : Nat), (∀ i, i < cN c → g i = nI (f i).toNat) → ∀ i, i < cN c → upd g o 1 i = nI (if i = o then true else f i).toNat := fun f g o h i hi => by
    rw [gw_u]
    by_cases e : i = o
    · rw [if_pos e, if_pos e]; rfl
    · rw [if_neg e, if_neg e]; exact h i hi
  have h8 : cK c n = 2 ∨ cK c n = 3 ∨ (4 ≤ cK c n ∧ cK c n < 7) ∨ cK c n = 7 := by omega
  rcases h8 with e | e | e | e
  · simp (disch := omega) only [gw_in, gw_cl, gw_Lle, gw_leL, gw_Llt, gw_ltL, gw_eqL, gw_Leq, gw_Lmul, gw_Ladd, gw_addL, nI_leI, nI_ltI, nI_eq, nI_add, nI_1, pk_mul, xK_ap, xO_ap, xF_ap, xA_ap, xG_ap, xB_ap, forall_eq, true_and, and_true, false_imp_iff, true_imp_iff, not_false_eq_true, not_true_eq_false, eq_self, Nat.reduceLT, Nat.reduceLeDiff, Nat.reduceEqDiff, gw_10, gw_01, wY_between_82, wY_between_125, wY_between_144, wpY_operands, e, Int32.reduceLE]
    rw [pdn_m]
    exact hJ mk a_marked hm (fun _ h => h) (fun q hq => by rcases we q hq with ⟨_, z⟩ | ⟨_, z⟩ | ⟨_, z⟩ <;> omega) (fun i h => Or.inl h)
  · simp (disch := omega) only [gw_in, gw_cl, gw_Lle, gw_leL, gw_Llt, gw_ltL, gw_eqL, gw_Leq, gw_Lmul, gw_Ladd, gw_addL, nI_leI, nI_ltI, nI_eq, nI_add, nI_1, pk_mul, xK_ap, xO_ap, xF_ap, xA_ap, xG_ap, xB_ap, forall_eq, true_and, and_true, false_imp_iff, true_imp_iff, not_false_eq_true, not_true_eq_false, eq_self, Nat.reduceLT, Nat.reduceLeDiff, Nat.reduceEqDiff, gw_10, gw_01, wY_between_82, wY_between_125, wY_between_144, wpY_operands, Int32.reduceLE, e, a1, gw_bool1]
    rw [pdn_m]
    refine hJ (fun i => if i = cO c (3 * n) then true else mk i) _ (up mk a_marked _ hm) (fun i h => ?_) (fun q hq => ?_) (fun i h => ?_)
    · show (if i = cO c (3 * n) then true else mk i) = true
      by_cases y : i = cO c (3 * n)
      · rw [if_pos y]
      · rw [if_neg y]; exact h
    · show (if cO c q = cO c (3 * n) then true else mk (cO c q)) = true
      rcases we q hq with ⟨z, _⟩ | ⟨_, z⟩ | ⟨_, z⟩
      · rw [z, if_pos rfl]
      · omega
      · omega
    · have h : (if i = cO c (3 * n) then true else mk i) = true := h
      by_cases y : i = cO c (3 * n)
      · exact Or.inr ⟨_, w0 (by omega), y⟩
      · rw [if_neg y] at h; exact Or.inl h
  · have a2 := hY.2.1 n hn (by omega)
    have e3 : ¬ cK c n = 3 := by omega
    have e4 : ¬ cK c n = 7 := by omega
    have e5 : 3 ≤ cK c n := by omega
    simp (disch := omega) only [gw_in, gw_cl, gw_Lle, gw_leL, gw_Llt, gw_ltL, gw_eqL, gw_Leq, gw_Lmul, gw_Ladd, gw_addL, nI_leI, nI_ltI, nI_eq, nI_add, nI_1, pk_mul, xK_ap, xO_ap, xF_ap, xA_ap, xG_ap, xB_ap, forall_eq, true_and, and_true, false_imp_iff, true_imp_iff, not_false_eq_true, not_true_eq_false, eq_self, Nat.reduceLT, Nat.reduceLeDiff, Nat.reduceEqDiff, gw_10, gw_01, wY_between_82, wY_between_125, wY_between_144, wpY_operands, Int32.reduceLE, hk, e3, e4, e5, a1, a2, gw_bool1]
    rw [pdn_m]
    refine hJ (fun i => if i = cO c (3 * n + 1) then true else if i = cO c (3 * n) then true else mk i) _ (up (fun i => if i = cO c (3 * n) then true else mk i) _ _ (up mk a_marked _ hm)) (fun i h => ?_) (fun q hq => ?_) (fun i h => ?_)
    · show (if i = cO c (3 * n + 1) then true else if i = cO c (3 * n) then true else mk i) = true
      rw [h]
      split
      · rfl
      · split <;> rfl
    · show (if cO c q = cO c (3 * n + 1) then true else if cO c q = cO c (3 * n) then true else mk (cO c q)) = true
      rcases we q hq with ⟨z, _⟩ | ⟨z, _⟩ | ⟨_, z⟩
      · rw [z, if_pos (rfl : cO c (3 * n) = cO c (3 * n))]
        split <;> rfl
      · rw [z, if_pos rfl]
      · omega
    · have h : (if i = cO c (3 * n + 1) then true else if i = cO c (3 * n) then true else mk i) = true := h
      by_cases y : i = cO c (3 * n + 1)
      · exact Or.inr ⟨_, w1 (by omega), y⟩
      · rw [if_neg y] at h
        by_cases y2 : i = cO c (3 * n)
        · exact Or.inr ⟨_, w0 (by omega), y2⟩
        · rw [if_neg y2] at h; exact Or.inl h
  · have a2 := hY.2.1 n hn (by omega)
    have a3 := hY.2.2.1 n hn (by omega)
    simp (disch := omega) only [gw_in, gw_cl, gw_Lle, gw_leL, gw_Llt, gw_ltL, gw_eqL, gw_Leq, gw_Lmul, gw_Ladd, gw_addL, nI_leI, nI_ltI, nI_eq, nI_add, nI_1, pk_mul, xK_ap, xO_ap, xF_ap, xA_ap, xG_ap, xB_ap, forall_eq, true_and, and_true, false_imp_iff, true_imp_iff, not_false_eq_true, not_true_eq_false, eq_self, Nat.reduceLT, Nat.reduceLeDiff, Nat.reduceEqDiff, gw_10, gw_01, wY_between_82, wY_between_125, wY_between_144, wpY_operands, Int32.reduceLE, e, a1, a2, a3, gw_bool1]
    rw [pdn_m]
    refine hJ (fun i => if i = cO c (3 * n + 2) then true else if i = cO c (3 * n + 1) then true else if i = cO c (3 * n) then true else mk i) _ (up (fun i => if i = cO c (3 * n + 1) then true else if i = cO c (3 * n) then true else mk i) _ _ (up (fun i => if i = cO c (3 * n) then true else mk i) _ _ (up mk a_marked _ hm))) (fun i h => ?_) (fun q hq => ?_) (fun i h => ?_)
    · show (if i = cO c (3 * n + 2) then true else if i = cO c (3 * n + 1) then true else if i = cO c (3 * n) then true else mk i) = true
      rw [h]
      split
      · rfl
      · split
        · rfl
        · split <;> rfl
    · show (if cO c q = cO c (3 * n + 2) then true else if cO c q = cO c (3 * n + 1) then true else if cO c q = cO c (3 * n) then true else mk (cO c q)) = true
      rcases we q hq with ⟨z, _⟩ | ⟨z, _⟩ | ⟨z, _⟩
      · rw [z, if_pos (rfl : cO c (3 * n) = cO c (3 * n))]
        split
        · rfl
        · split <;> rfl
      · rw [z, if_pos (rfl : cO c (3 * n + 1) = cO c (3 * n + 1))]
        split <;> rfl
      · rw [z, if_pos rfl]
    · have h : (if i = cO c (3 * n + 2) then true else if i = cO c (3 * n + 1) then true else if i = cO c (3 * n) then true else mk i) = true := h
      by_cases y : i = cO c (3 * n + 2)
      · exact Or.inr ⟨_, w2 (by omega), y⟩
      · rw [if_neg y] at h
        by_cases y1 : i = cO c (3 * n + 1)
        · exact Or.inr ⟨_, w1 (by omega), y1⟩
        · rw [if_neg y1] at h
          by_cases y2 : i = cO c (3 * n)
          · exact Or.inr ⟨_, w0 (by omega), y2⟩
          · rw [if_neg y2] at h; exact Or.inl h
theorem yw_btw39 (w : WF c) (hY : YS c a_first a_second a_third a_source a_register) (hT : T < cN c) {post : Int32 → SY → Prop} (h : ∀ r ma, BA (SEP c T (mem3 x2 x3 x4)) r → post r (nI (cN c), nI (cS c), nI (cR c), xK c, a_first, a_second, a_third, xF c, a_now, a_at, a_other, a_source, a_register, a_level, a_soon, a_depend, a_table, ma, a_after, a_shows, a_apart)) :
    ∀ i fu mk ma, i < fu → i ≤ T + 1 → (∀ m, m < cN c → ma m = nI (mk m).toNat) → MKS c T (mem3 x2 x3 x4) i mk → wY_between_39 post (nI T) x2 x3 x4 (nI (cN c)) (nI (cS c)) (nI (cR c)) fu (pdn i) (xK c) a_first a_second a_third (xF c) a_now a_at a_other a_source a_register a_level a_soon a_depend a_table ma a_after a_shows a_apart := by
  have hN := wf_N w
  intro i
  induction i with
  | zero =>
    intro fu mk ma hf hi hm hk
    obtain ⟨fu, rfl⟩ : ∃ k', fu = k' + 1 := ⟨fu - 1, by omega⟩
    unfold wY_between_39
    refine br_t (show pdn 0 < 0 from gw_m1lt) (h _ ma (Or.inl ⟨rfl, sep_iff.mpr ⟨mk, hk.1, fun n hn => hk.2.1 n (Nat.zero_le _) hn⟩⟩))
  | succ n ih =>
    intro fu mk ma hf hi hm hk
    obtain ⟨fu, rfl⟩ : ∃ k', fu = k' + 1 := ⟨fu - 1, by omega⟩
    rw [pdn_s]
    have hn : n < cN c := by omega
    have skip : (¬ (mk n = true ∧ (n = T ∨ mem3 x2 x3 x4 n = false))) → wY_between_39 post (nI T) x2 x3 x4 (nI (cN c)) (nI (cS c)) (nI (cR c)) fu (pdn n) (xK c) a_first a_second a_third (xF c) a_now a_at a_other a_source a_register a_level a_soon a_depend a_table ma a_after a_shows a_apart := fun hno => by
      refine ih fu mk ma (by omega) (by omega) hm ⟨hk.1, fun m h1 h2 h3 h4 => ?_, hk.2.2⟩
      by_cases e : m = n
      · subst e; exact absurd ⟨h3, h4⟩ hno
      · exact hk.2.1 m (by omega) h2 h3 h4
    have work : mk n = true → (n = T ∨ mem3 x2 x3 x4 n = false) → wY_between_82 post (wY_between_39 post (nI T) x2 x3 x4 (nI (cN c)) (nI (cS c)) (nI (cR c)) fu) (nI T) x2 x3 x4 (nI n) (nI (cN c)) (nI (cS c)) (nI (cR c)) (xK c) a_first a_second a_third (xF c) a_now a_at a_other a_source a_register a_level a_soon a_depend a_table ma a_after a_shows a_apart := fun hmk hC => by
      by_cases hkk : 2 ≤ cK c n
      · refine yw_btw82 w hY hn hkk hm (fun mk' ma' b1 b2 b3 b4 => ih fu mk' ma' (by omega) (by omega) b1 ⟨b2 _ hk.1, fun m h1 h2 h3 h4 => ?_, fun M hM1 hM2 q hq => ?_⟩)
        · by_cases e : m = n
          · subst e; exact ⟨hkk, b3⟩
          · have h3' : mk m = true := by
              rcases b4 m h3 with z | ⟨e', he', z⟩
              · exact z
              · have := wir_op w hn he'
                omega
            obtain ⟨g1, g2⟩ := hk.2.1 m (by omega) h2 h3' h4
            exact ⟨g1, fun e' he' => b2 _ (g2 e' he')⟩
        · rcases b4 q hq with z | ⟨e', he', z⟩
          · exact hk.2.2 M hM1 hM2 q z
          · rw [z]
            exact (hM2 n (by omega) (hk.2.2 M hM1 hM2 n hmk) hC).2 e' he'
      · have k7 := wf_K w n
        simp (disch := omega) only [gw_in, gw_cl, gw_Lle, gw_leL, gw_Llt, gw_ltL, gw_eqL, gw_Leq, gw_Lmul, gw_Ladd, gw_addL, nI_leI, nI_ltI, nI_eq, nI_add, nI_1, pk_mul, xK_ap, xO_ap, xF_ap, xA_ap, xG_ap, xB_ap, forall_eq, true_and, and_true, false_imp_iff, true_imp_iff, not_false_eq_true, not_true_eq_false, eq_self, Nat.reduceLT, Nat.reduceLeDiff, Nat.reduceEqDiff, gw_10, gw_01, wY_between_82, hkk]
        refine h _ ma (Or.inr ⟨rfl, fun z => ?_⟩)
        obtain ⟨M, hM1, hM2⟩ := sep_iff.mp z
        exact hkk (hM2 n (by omega) (hk.2.2 M hM1 hM2 n hmk) hC).1
    unfold wY_between_39
    rw [gw_cl (by omega), hm n hn, pdn_m]
    refine br_f (nI_pos (by omega)) ⟨vp_in_nI (by omega) (by omega), br_c (fun z => ?_) (fun z => ?_)⟩
    · rw [gw_bt] at z
      exact nm_e (skip (fun y => by rw [z] at y; exact absurd y.1 (by decide)))
    · rw [gw_bt] at z
      have z := ts_nf z
      refine pk_eq n T (fun e => work z (Or.inl e)) (fun e => br_c (fun y => nm_e (skip ?_)) (fun y => br_c (fun y2 => nm_e (skip ?_)) (fun y2 => br_c (fun y3 => nm_e (skip ?_)) (fun y3 => work z (Or.inr (mem3_f.mpr ⟨y, y2, y3⟩))))))
      · rintro ⟨_, q | q⟩
        · exact e q
        · exact (mem3_f.mp q).1 y
      · rintro ⟨_, q | q⟩
        · exact e q
        · exact (mem3_f.mp q).2.1 y2
      · rintro ⟨_, q | q⟩
        · exact e q
        · exact (mem3_f.mp q).2.2 y3
theorem yw_between (w : WF c) (hY : YS c a_first a_second a_third a_source a_register) (hT : T < cN c) {post : Int32 → SY → Prop} (h : ∀ r ma, BA (SEP c T (mem3 x2 x3 x4)) r → post r (nI (cN c), nI (cS c), nI (cR c), xK c, a_first, a_second, a_third, xF c, a_now, a_at, a_other, a_source, a_register, a_level, a_soon, a_depend, a_table, ma, a_after, a_shows, a_apart)) : wpY_between post (nI (cN c), nI (cS c), nI (cR c), xK c, a_first, a_second, a_third, xF c, a_now, a_at, a_other, a_source, a_register, a_level, a_soon, a_depend, a_table, a_marked, a_after, a_shows, a_apart) (nI T) x2 x3 x4 := by
  have hN := wf_N w
  have L : ∀ d n fu ma, n + d = cN c → d < fu → (∀ m, m < n → ma m = nI (decide (m = T)).toNat) → wY_between_3 post (nI T) x2 x3 x4 (nI (cN c)) (nI (cS c)) (nI (cR c)) fu (nI n) (xK c) a_first a_second a_third (xF c) a_now a_at a_other a_source a_register a_level a_soon a_depend a_table ma a_after a_shows a_apart := by
    intro d
    induction d with
    | zero =>
      intro n fu ma hn hf hm
      obtain ⟨fu, rfl⟩ : ∃ k', fu = k' + 1 := ⟨fu - 1, by omega⟩
      unfold wY_between_3
      refine br_t (nI_le (by omega) (by omega)) ⟨T + 2, ?_⟩
      rw [← pdn_s]
      refine yw_btw39 w hY hT h (T + 1) _ (fun m => decide (m = T)) ma (by omega) (by omega) (fun m hm2 => hm m (by omega)) ⟨decide_eq_true rfl, fun m h1 h2 => by omega, fun M hM1 _ n hn => ?_⟩
      have : n = T := of_decide_eq_true hn
      rw [this]; exact hM1
    | succ d ih =>
      intro n fu ma hn hf hm
      obtain ⟨fu, rfl⟩ : ∃ k', fu = k' + 1 := ⟨fu - 1, by omega⟩
      unfold wY_between_3
      rw [gw_cl (by omega), gw_bool1, gw_bool0]
      refine br_f (nI_ge (by omega) (by omega)) (pk_eq n T (fun e => ⟨vp_in_nI (by omega) (by omega), nm_e (nm_r (nI_1 n) (ih (n + 1) fu _ (by omega) (by omega) (fun m hm2 => ?_)))⟩) (fun e => ⟨vp_in_nI (by omega) (by omega), nm_e (nm_r (nI_1 n) (ih (n + 1) fu _ (by omega) (by omega) (fun m hm2 => ?_)))⟩))
      · by_cases q : m = n
        · rw [q, pk_us, decide_eq_true e]; rfl
        · rw [pk_un q]; exact hm m (by omega)
      · by_cases q : m = n
        · rw [q, pk_us, decide_eq_false e]; rfl
        · rw [pk_un q]; exact hm m (by omega)
  exact ⟨cN c + 1, L (cN c) 0 _ a_marked (by omega) (by omega) (fun m hm => by omega)⟩
end
end
section
/-! ===== Y: least, level ===== -/
theorem sep_congr {c : CK} {T : Nat} {C C' : Nat → Bool} (h : ∀ n, n < T → C n = C' n) : SEP c T C ↔ SEP c T C' := by
  rw [sep_iff, sep_iff]
  constructor
  · rintro ⟨M, h1, h2⟩
    refine ⟨M, h1, fun n hn hM hC => h2 n hn hM ?_⟩
    by_cases e : n = T
    · exact Or.inl e
    · rcases hC with z | z
      · exact Or.inl z
      · exact Or.inr (by rw [h n (by omega)]; exact z)
  · rintro ⟨M, h1, h2⟩
    refine ⟨M, h1, fun n hn hM hC => h2 n hn hM ?_⟩
    by_cases e : n = T
    · exact Or.inl e
    · rcases hC with z | z
      · exact Or.inl z
      · exact Or.inr (by rw [← h n (by omega)]; exact z)
theorem cnt_top {C : Nat → Bool} : ∀ T m, cnt C T = m + 1 → ∃ a, a < T ∧ C a = true ∧ (∀ n, a < n → n < T → C n = false) ∧ cnt C a = m
  | 0, m, h => by
    have : (0 : Nat) = m + 1 := h
    omega
  | T + 1, m, h => by
    rw [cnt_s] at h
    cases e : C T
    · rw [e] at h
      obtain ⟨a, h1, h2, h3, h4⟩ := cnt_top T m h
      refine ⟨a, by omega, h2, fun n hn hT => ?_, h4⟩
      by_cases q : n = T
      · rw [q]; exact e
      · exact h3 n hn (by omega)
    · rw [e] at h
      exact ⟨T, by omega, e, fun n h1 h2 => by omega, by have h : cnt C T + 1 = m + 1 := h; omega⟩
theorem cnt_n0 {C : Nat → Bool} {T : Nat} (h : cnt C T = 0) : ∀ n, n < T → C n = false := by
  induction T with
  | zero => intro n hn; omega
  | succ T ih =>
    rw [cnt_s] at h
    intro n hn
    by_cases e : n = T
    · rw [e]
      cases q : C T
      · rfl
      · rw [q] at h
        have h : cnt C T + 1 = 0 := h
        omega
    · exact ih (by omega) n (by omega)
theorem cnt_one (a : Nat) : ∀ T, cnt (fun n => decide (n = a)) T ≤ 1 := by
  intro T
  rcases Nat.lt_or_ge a T with h | h
  · have := cnt_set (p := fun _ => false) (q := fun n => decide (n = a)) h rfl (fun i _ => by simp)
    rw [this, cnt_0 (fun _ _ => rfl)]
    exact Nat.le_refl _
  · rw [cnt_0 (fun i hi => decide_eq_false (by omega))]
    omega
theorem cnt_or (p q : Nat → Bool) : ∀ T, cnt (fun n => p n || q n) T ≤ cnt p T + cnt q T
  | 0 => Nat.le_refl _
  | T + 1 => by
    rw [cnt_s, cnt_s, cnt_s]
    have := cnt_or p q T
    cases p T <;> cases q T <;> simp <;> omega
def mx2 (a b : Nat) : Nat := if a ≤ b then b else a
section
variable {c : CK} {T k : Nat} {L : Nat → Nat}
theorem m3_1 {n a : Nat} (hn : n < 32) (ha : a < 32) : mem3 (nI a) (-1) (-1) n = decide (n = a) := by
  unfold mem3
  rw [decide_eq_false (gw_m1 (by omega)), Bool.or_false, Bool.or_false]
  by_cases e : n = a
  · rw [e, decide_eq_true rfl, decide_eq_true rfl]
  · rw [decide_eq_false e, decide_eq_false (fun z => e ((nI_eq (by omega) (by omega)).mp z))]
theorem m3_2 {n a b : Nat} (hn : n < 32) (ha : a < 32) (hb : b < 32) : mem3 (nI a) (nI b) (-1) n = (decide (n = a) || decide (n = b)) := by
  have h1 : ∀ x, x < 32 → decide (nI n = nI x) = decide (n = x) := fun x hx => by
    by_cases e : n = x
    · rw [e, decide_eq_true rfl, decide_eq_true rfl]
    · rw [decide_eq_false e, decide_eq_false (fun z => e ((nI_eq (by omega) (by omega)).mp z))]
  unfold mem3
  rw [decide_eq_false (gw_m1 (show n < 2147483648 by omega)), Bool.or_false, h1 a ha, h1 b hb]
theorem m3_3 {n a b d : Nat} (hn : n < 32) (ha : a < 32) (hb : b < 32) (hd : d < 32) : mem3 (nI a) (nI b) (nI d) n = (decide (n = a) || decide (n = b) || decide (n = d)) := by
  have h1 : ∀ x, x < 32 → decide (nI n = nI x) = decide (n = x) := fun x hx => by
    by_cases e : n = x
    · rw [e, decide_eq_true rfl, decide_eq_true rfl]
    · rw [decide_eq_false e, decide_eq_false (fun z => e ((nI_eq (by omega) (by omega)).mp z))]
  unfold mem3
  rw [h1 a ha, h1 b hb, h1 d hd]
theorem m3_0 {n : Nat} (hn : n < 32) : mem3 (-1) (-1) (-1) n = false := by
  unfold mem3
  rw [decide_eq_false (gw_m1 (by omega))]
  rfl
/-- what is known when a, b, d come next -/
def LS1 (c : CK) (T k : Nat) (L : Nat → Nat) (a bs : Nat) : Prop := ∀ a', a' < a → (SEP c T (mem3 (nI a') (-1) (-1)) → bs ≤ L a') ∧ (2 ≤ k → ∀ b, b < a' → (SEP c T (mem3 (nI a') (nI b) (-1)) → bs ≤ mx2 (L a') (L b)) ∧ (3 ≤ k → ∀ d, d < b → SEP c T (mem3 (nI a') (nI b) (nI d)) → bs ≤ mx2 (mx2 (L a') (L b)) (L d)))
def LS2 (c : CK) (T k : Nat) (L : Nat → Nat) (a b bs : Nat) : Prop := (SEP c T (mem3 (nI a) (-1) (-1)) → bs ≤ L a) ∧ (∀ b', b' < b → (SEP c T (mem3 (nI a) (nI b') (-1)) → bs ≤ mx2 (L a) (L b')) ∧ (3 ≤ k → ∀ d, d < b' → SEP c T (mem3 (nI a) (nI b') (nI d)) → bs ≤ mx2 (mx2 (L a) (L b')) (L d)))
def LS3 (c : CK) (T : Nat) (L : Nat → Nat) (a b d bs : Nat) : Prop := (SEP c T (mem3 (nI a) (nI b) (-1)) → bs ≤ mx2 (L a) (L b)) ∧ ∀ d', d' < d → SEP c T (mem3 (nI a) (nI b) (nI d')) → bs ≤ mx2 (mx2 (L a) (L b)) (L d')
/-- the best so far is one -/
def LSG (c : CK) (T k : Nat) (L : Nat → Nat) (bs : Nat) : Prop := bs = 99 ∨ (bs < 99 ∧ CUT c k L (bs + 1) T)
theorem mx2_l (a b : Nat) : a ≤ mx2 a b := by unfold mx2; split <;> omega
theorem mx2_r (a b : Nat) : b ≤ mx2 a b := by unfold mx2; split <;> omega
theorem mx2_lt {a b l : Nat} (h1 : a < l) (h2 : b < l) : mx2 a b < l := by unfold mx2; split <;> omega
theorem ls1_mono {a bs bs' : Nat} (h : LS1 c T k L a bs) (hb : bs' ≤ bs) : LS1 c T k L a bs' := fun a' ha' => ⟨fun z => Nat.le_trans hb ((h a' ha').1 z), fun hk b hb' => ⟨fun z => Nat.le_trans hb (((h a' ha').2 hk b hb').1 z), fun h3 d hd z => Nat.le_trans hb (((h a' ha').2 hk b hb').2 h3 d hd z)⟩⟩
theorem ls2_mono {a b bs bs' : Nat} (h : LS2 c T k L a b bs) (hb : bs' ≤ bs) : LS2 c T k L a b bs' := ⟨fun z => Nat.le_trans hb (h.1 z), fun b' hb' => ⟨fun z => Nat.le_trans hb ((h.2 b' hb').1 z), fun h3 d hd z => Nat.le_trans hb ((h.2 b' hb').2 h3 d hd z)⟩⟩
theorem ls3_mono {a b d bs bs' : Nat} (h : LS3 c T L a b d bs) (hb : bs' ≤ bs) : LS3 c T L a b d bs' := ⟨fun z => Nat.le_trans hb (h.1 z), fun d' hd' z => Nat.le_trans hb (h.2 d' hd' z)⟩
theorem ls1_s {a bs : Nat} (h : LS1 c T k L a bs) (h2 : (SEP c T (mem3 (nI a) (-1) (-1)) → bs ≤ L a) ∧ (2 ≤ k → ∀ b, b < a → (SEP c T (mem3 (nI a) (nI b) (-1)) → bs ≤ mx2 (L a) (L b)) ∧ (3 ≤ k → ∀ d, d < b → SEP c T (mem3 (nI a) (nI b) (nI d)) → bs ≤ mx2 (mx2 (L a) (L b)) (L d)))) : LS1 c T k L (a + 1) bs := by
  intro a' ha'
  by_cases e : a' = a
  · subst e; exact h2
  · exact h a' (by omega)
theorem ls2_s {a b bs : Nat} (h : LS2 c T k L a b bs) (h2 : (SEP c T (mem3 (nI a) (nI b) (-1)) → bs ≤ mx2 (L a) (L b)) ∧ (3 ≤ k → ∀ d, d < b → SEP c T (mem3 (nI a) (nI b) (nI d)) → bs ≤ mx2 (mx2 (L a) (L b)) (L d))) : LS2 c T k L a (b + 1) bs := by
  refine ⟨h.1, fun b' hb' => ?_⟩
  by_cases e : b' = b
  · subst e; exact h2
  · exact h.2 b' (by omega)
theorem ls3_s {a b d bs : Nat} (h : LS3 c T L a b d bs) (h2 : SEP c T (mem3 (nI a) (nI b) (nI d)) → bs ≤ mx2 (mx2 (L a) (L b)) (L d)) : LS3 c T L a b (d + 1) bs := by
  refine ⟨h.1, fun d' hd' => ?_⟩
  by_cases e : d' = d
  · subst e; exact h2
  · exact h.2 d' (by omega)
theorem lsg_1 (hT : T ≤ 32) (hk : 1 ≤ k) {a : Nat} (ha : a < T) (hl : L a < 99) (h : SEP c T (mem3 (nI a) (-1) (-1))) : LSG c T k L (L a) := by
  refine Or.inr ⟨hl, fun n => decide (n = a), Nat.le_trans (cnt_one a T) hk, fun n _ hn => ?_, (sep_congr (fun n hn => m3_1 (by omega) (by omega))).mp h⟩
  rw [of_decide_eq_true hn]
  omega
theorem lsg_2 (hT : T ≤ 32) (hk : 2 ≤ k) {a b : Nat} (ha : a < T) (hb : b < a) (hl : mx2 (L a) (L b) < 99) (h : SEP c T (mem3 (nI a) (nI b) (-1))) : LSG c T k L (mx2 (L a) (L b)) := by
  refine Or.inr ⟨hl, fun n => decide (n = a) || decide (n = b), ?_, fun n _ hn => ?_, (sep_congr (fun n hn => m3_2 (by omega) (by omega) (by omega))).mp h⟩
  · have h1 := cnt_or (fun n => decide (n = a)) (fun n => decide (n = b)) T
    have h2 := cnt_one a T
    have h3 := cnt_one b T
    omega
  · have hn : (decide (n = a) || decide (n = b)) = true := hn
    rw [Bool.or_eq_true] at hn
    have m1 := mx2_l (L a) (L b)
    have m2 := mx2_r (L a) (L b)
    rcases hn with z | z
    · rw [of_decide_eq_true z]; omega
    · rw [of_decide_eq_true z]; omega
theorem lsg_3 (hT : T ≤ 32) (hk : 3 ≤ k) {a b d : Nat} (ha : a < T) (hb : b < a) (hd : d < b) (hl : mx2 (mx2 (L a) (L b)) (L d) < 99) (h : SEP c T (mem3 (nI a) (nI b) (nI d))) : LSG c T k L (mx2 (mx2 (L a) (L b)) (L d)) := by
  refine Or.inr ⟨hl, fun n => decide (n = a) || decide (n = b) || decide (n = d), ?_, fun n _ hn => ?_, (sep_congr (fun n hn => m3_3 (by omega) (by omega) (by omega) (by omega))).mp h⟩
  · have h1 := cnt_or (fun n => decide (n = a) || decide (n = b)) (fun n => decide (n = d)) T
    have h1' := cnt_or (fun n => decide (n = a)) (fun n => decide (n = b)) T
    have h2 := cnt_one a T
    have h3 := cnt_one b T
    have h4 := cnt_one d T
    omega
  · have hn : (decide (n = a) || decide (n = b) || decide (n = d)) = true := hn
    rw [Bool.or_eq_true, Bool.or_eq_true] at hn
    have m1 := mx2_l (L a) (L b)
    have m2 := mx2_r (L a) (L b)
    have m3 := mx2_l (mx2 (L a) (L b)) (L d)
    have m4 := mx2_r (mx2 (L a) (L b)) (L d)
    rcases hn with (z | z) | z
    · rw [of_decide_eq_true z]; omega
    · rw [of_decide_eq_true z]; omega
    · rw [of_decide_eq_true z]; omega
/-- nothing better is left -/
theorem ls_no (hT : T ≤ 32) (hk : k ≤ 3) {bs : Nat} (h0 : ¬ SEP c T (mem3 (-1) (-1) (-1))) (h : LS1 c T k L T bs) : ∀ l, l ≤ bs → ¬ CUT c k L l T := by
  rintro l hl ⟨C, h1, h2, h3⟩
  have hc : cnt C T = 0 ∨ cnt C T = 1 ∨ cnt C T = 2 ∨ cnt C T = 3 := by omega
  rcases hc with hc | hc | hc | hc
  · exact h0 ((sep_congr (fun n hn => by rw [cnt_n0 hc n hn, m3_0 (by omega)])).mp h3)
  · obtain ⟨a, a1, a2, a3, a4⟩ := cnt_top T 0 hc
    have e0 := cnt_n0 a4
    have hs : SEP c T (mem3 (nI a) (-1) (-1)) := (sep_congr (fun n hn => by
      rw [m3_1 (by omega) (by omega)]
      by_cases e : n = a
      · rw [e, a2, decide_eq_true rfl]
      · rw [decide_eq_false e]
        rcases Nat.lt_or_ge n a with q | q
        · exact e0 n q
        · exact a3 n (by omega) hn)).mp h3
    have := (h a a1).1 hs
    have := h2 a a1 a2
    omega
  · obtain ⟨a, a1, a2, a3, a4⟩ := cnt_top T 1 hc
    obtain ⟨b, b1, b2, b3, b4⟩ := cnt_top a 0 a4
    have e0 := cnt_n0 b4
    have hs : SEP c T (mem3 (nI a) (nI b) (-1)) := (sep_congr (fun n hn => by
      rw [m3_2 (by omega) (by omega) (by omega)]
      by_cases e : n = a
      · rw [e, a2, decide_eq_true rfl]; rfl
      · rw [decide_eq_false e, Bool.false_or]
        by_cases e2 : n = b
        · rw [e2, b2, decide_eq_true rfl]
        · rw [decide_eq_false e2]
          rcases Nat.lt_or_ge n b with q | q
          · exact e0 n q
          · rcases Nat.lt_or_ge n a with q2 | q2
            · exact b3 n (by omega) q2
            · exact a3 n (by omega) hn)).mp h3
    have l1 := ((h a a1).2 (by omega) b b1).1 hs
    have l2 := mx2_lt (h2 a a1 a2) (h2 b (by omega) b2)
    omega
  · obtain ⟨a, a1, a2, a3, a4⟩ := cnt_top T 2 hc
    obtain ⟨b, b1, b2, b3, b4⟩ := cnt_top a 1 a4
    obtain ⟨d, d1, d2, d3, d4⟩ := cnt_top b 0 b4
    have e0 := cnt_n0 d4
    have hs : SEP c T (mem3 (nI a) (nI b) (nI d)) := (sep_congr (fun n hn => by
      rw [m3_3 (by omega) (by omega) (by omega) (by omega)]
      by_cases e : n = a
      · rw [e, a2, decide_eq_true rfl]; rfl
      · rw [decide_eq_false e, Bool.false_or]
        by_cases e2 : n = b
        · rw [e2, b2, decide_eq_true rfl]; rfl
        · rw [decide_eq_false e2, Bool.false_or]
          by_cases e3 : n = d
          · rw [e3, d2, decide_eq_true rfl]
          · rw [decide_eq_false e3]
            rcases Nat.lt_or_ge n d with q | q
            · exact e0 n q
            · rcases Nat.lt_or_ge n b with q2 | q2
              · exact d3 n (by omega) q2
              · rcases Nat.lt_or_ge n a with q3 | q3
                · exact b3 n (by omega) q3
                · exact a3 n (by omega) hn)).mp h3
    have l1 := ((h a a1).2 (by omega) b b1).2 (by omega) d d1 hs
    have l2 := mx2_lt (mx2_lt (h2 a a1 a2) (h2 b (by omega) b2)) (h2 d (by omega) d2)
    omega
end
end
section
/-! ===== Y: the walks of least and level ===== -/
section
variable {c : CK} {T k : Nat} {L : Nat → Nat} {a_first : Nat → Int32} {a_second : Nat → Int32} {a_third : Nat → Int32} {a_now : Nat → Int32} {a_at : Nat → Int32} {a_other : Nat → Int32} {a_source : Nat → Int32} {a_register : Nat → Int32} {a_level : Nat → Int32} {a_soon : Nat → Int32} {a_depend : Nat → Int32} {a_table : Nat → Int32} {a_marked : Nat → Int32} {a_after : Nat → Int32} {a_shows : Nat → Int32} {a_apart : Nat → Int32}
section
variable {J19 J62 J138 : Int32 → Int32 → Int32 → Int32 → Int32 → (Nat → Int32) → (Nat → Int32) → (Nat → Int32) → (Nat → Int32) → (Nat → Int32) → (Nat → Int32) → (Nat → Int32) → (Nat → Int32) → (Nat → Int32) → (Nat → Int32) → (Nat → Int32) → (Nat → Int32) → (Nat → Int32) → (Nat → Int32) → (Nat → Int32) → (Nat → Int32) → (Nat → Int32) → (Nat → Int32) → Prop}
theorem yw_least174 (w : WF c) (hY : YS c a_first a_second a_third a_source a_register) (hT : T < cN c) (hk3 : 3 ≤ k) {x2 : Int32} {a b d bs z : Nat} (ha : a < T) (hb : b < a) (hd : d < b) (hz : z = mx2 (mx2 (L a) (L b)) (L d)) (hbs : bs ≤ 99) (hz99 : z ≤ 99) {x6 : Int32} {post : Int32 → SY → Prop}
    (hg : LSG c T k L bs) (h1 : LS1 c T k L a bs) (h2 : LS2 c T k L a b bs) (h3 : LS3 c T L a b d bs)
    (hJ : ∀ bs' ma, bs' ≤ 99 → LSG c T k L bs' → LS1 c T k L a bs' → LS2 c T k L a b bs' → LS3 c T L a b (d + 1) bs' → J138 (nI bs') (nI (d + 1)) (nI (cN c)) (nI (cS c)) (nI (cR c)) (xK c) a_first a_second a_third (xF c) a_now a_at a_other a_source a_register a_level a_soon a_depend a_table ma a_after a_shows a_apart) :
    wY_least_174 post J19 J62 J138 (nI T) x2 (nI bs) (nI a) (nI b) x6 (nI d) (nI z) (nI (cN c)) (nI (cS c)) (nI (cR c)) (xK c) a_first a_second a_third (xF c) a_now a_at a_other a_source a_register a_level a_soon a_depend a_table a_marked a_after a_shows a_apart := by
  have hN := wf_N w
  unfold wY_least_174
  refine pk_le bs z (fun q => nm_r (nI_1 d) (hJ bs a_marked hbs hg h1 h2 (ls3_s h3 (fun _ => by omega)))) (fun q => ?_)
  refine yw_between w hY hT (fun r ma hr => ?_)
  dsimp only
  rcases hr with ⟨rfl, hr⟩ | ⟨rfl, hr⟩
  · refine br_f (by decide) (nm_r (nI_1 d) (hJ z ma hz99 ?_ (ls1_mono h1 (by omega)) (ls2_mono h2 (by omega)) (ls3_s (ls3_mono h3 (by omega)) (fun _ => by omega))))
    rw [hz]
    exact lsg_3 (by omega) hk3 ha hb hd (by omega) hr
  · exact br_t rfl (nm_r (nI_1 d) (hJ bs ma hbs hg h1 h2 (ls3_s h3 (fun y => absurd y hr))))
theorem yw_least138 (w : WF c) (hY : YS c a_first a_second a_third a_source a_register) (hT : T < cN c) (hk : k ≤ 3) {a b : Nat} (ha : a < T) (hb : b < a) (hL : ∀ n, n < T → a_level n = nI (L n) ∧ L n ≤ 99) {post : Int32 → SY → Prop}
    (hJ : ∀ bs ma, bs ≤ 99 → LSG c T k L bs → LS1 c T k L a bs → LS2 c T k L a (b + 1) bs → J62 (nI bs) (nI (b + 1)) (nI (cN c)) (nI (cS c)) (nI (cR c)) (xK c) a_first a_second a_third (xF c) a_now a_at a_other a_source a_register a_level a_soon a_depend a_table ma a_after a_shows a_apart) :
    ∀ m d fu bs ma, d + m = b → m < fu → bs ≤ 99 → LSG c T k L bs → LS1 c T k L a bs → LS2 c T k L a b bs → LS3 c T L a b d bs → wY_least_138 post J19 J62 (nI T) (nI k) (nI a) (nI b) (nI (mx2 (L a) (L b))) fu (nI bs) (nI d) (nI (cN c)) (nI (cS c)) (nI (cR c)) (xK c) a_first a_second a_third (xF c) a_now a_at a_other a_source a_register a_level a_soon a_depend a_table ma a_after a_shows a_apart := by
  have hN := wf_N w
  intro m
  induction m with
  | zero =>
    intro d fu bs ma hd hf hbs hg h1 h2 h3
    obtain ⟨fu, rfl⟩ : ∃ k', fu = k' + 1 := ⟨fu - 1, by omega⟩
    unfold wY_least_138
    refine br_t (nI_le (by omega) (by omega)) (nm_r (nI_1 b) (hJ bs ma hbs hg h1 (ls2_s h2 ⟨h3.1, fun _ d' hd' => h3.2 d' (by omega)⟩)))
  | succ m ih =>
    intro d fu bs ma hd hf hbs hg h1 h2 h3
    obtain ⟨fu, rfl⟩ : ∃ k', fu = k' + 1 := ⟨fu - 1, by omega⟩
    obtain ⟨l1, l2⟩ := hL d (by omega)
    have la := (hL a ha).2
    have lb' := (hL b (by omega)).2
    have m1 : mx2 (L a) (L b) ≤ 99 := by unfold mx2; split <;> omega
    unfold wY_least_138
    rw [gw_cl (by omega), l1]
    refine br_f (nI_ge (by omega) (by omega)) (pk_le k 2 (fun z => nm_r (nI_1 b) (hJ bs ma hbs hg h1 (ls2_s h2 ⟨h3.1, fun y => by omega⟩))) (fun z => ⟨vp_in_nI (by omega) (by omega), pk_le (mx2 (L a) (L b)) (L d) (fun y => ⟨vp_in_nI (by omega) (by omega), ?_⟩) (fun y => ?_)⟩))
    · have e : L d = mx2 (mx2 (L a) (L b)) (L d) := by
        show L d = if mx2 (L a) (L b) ≤ L d then L d else mx2 (L a) (L b)
        rw [if_pos y]
      exact yw_least174 w hY hT (by omega) ha hb (by omega) e hbs l2 hg h1 h2 h3 (fun bs' ma' q1 q2 q3 q4 q5 => ih (d + 1) fu bs' ma' (by omega) (by omega) q1 q2 q3 q4 q5)
    · have e : mx2 (L a) (L b) = mx2 (mx2 (L a) (L b)) (L d) := by
        show mx2 (L a) (L b) = if mx2 (L a) (L b) ≤ L d then L d else mx2 (L a) (L b)
        rw [if_neg (by omega)]
      exact yw_least174 w hY hT (by omega) ha hb (by omega) e hbs m1 hg h1 h2 h3 (fun bs' ma' q1 q2 q3 q4 q5 => ih (d + 1) fu bs' ma' (by omega) (by omega) q1 q2 q3 q4 q5)
theorem yw_least108 (w : WF c) (hY : YS c a_first a_second a_third a_source a_register) (hT : T < cN c) (hk : k ≤ 3) (hk2 : 2 ≤ k) {a b z bs : Nat} (ha : a < T) (hb : b < a) (hz : z = mx2 (L a) (L b)) (hz99 : z ≤ 99) (hbs : bs ≤ 99) (hL : ∀ n, n < T → a_level n = nI (L n) ∧ L n ≤ 99) {post : Int32 → SY → Prop}
    (hg : LSG c T k L bs) (h1 : LS1 c T k L a bs) (h2 : LS2 c T k L a b bs)
    (hJ : ∀ bs ma, bs ≤ 99 → LSG c T k L bs → LS1 c T k L a bs → LS2 c T k L a (b + 1) bs → J62 (nI bs) (nI (b + 1)) (nI (cN c)) (nI (cS c)) (nI (cR c)) (xK c) a_first a_second a_third (xF c) a_now a_at a_other a_source a_register a_level a_soon a_depend a_table ma a_after a_shows a_apart) :
    wY_least_108 post J19 J62 (nI T) (nI k) (nI bs) (nI a) (nI b) (nI z) (nI (cN c)) (nI (cS c)) (nI (cR c)) (xK c) a_first a_second a_third (xF c) a_now a_at a_other a_source a_register a_level a_soon a_depend a_table a_marked a_after a_shows a_apart := by
  have hN := wf_N w
  unfold wY_least_108
  refine pk_lt z bs (fun q => ?_) (fun q => nm_r (nI_1 b) (hJ bs a_marked hbs hg h1 (ls2_s h2 ⟨fun _ => by omega, fun _ d hd _ => Nat.le_trans (by omega) (mx2_l (mx2 (L a) (L b)) (L d))⟩)))
  refine yw_between w hY hT (fun r ma hr => ?_)
  dsimp only
  rcases hr with ⟨rfl, hr⟩ | ⟨rfl, hr⟩
  · have hg' : LSG c T k L z := by rw [hz]; exact lsg_2 (by omega) hk2 ha hb (by omega) hr
    have h3 : LS3 c T L a b 0 z := ⟨fun _ => by omega, fun d' hd' => by omega⟩
    have := yw_least138 (J19 := J19) (post := post) w hY hT hk ha hb hL hJ b 0 (b + 1) z ma (by omega) (by omega) hz99 hg' (ls1_mono h1 (by omega)) (ls2_mono h2 (by omega)) h3
    rw [← hz] at this
    exact br_f (by decide) ⟨b + 1, this⟩
  · have h3 : LS3 c T L a b 0 bs := ⟨fun y => absurd y hr, fun d' hd' => by omega⟩
    have := yw_least138 (J19 := J19) (post := post) w hY hT hk ha hb hL hJ b 0 (b + 1) bs ma (by omega) (by omega) hbs hg h1 h2 h3
    rw [← hz] at this
    exact br_t rfl ⟨b + 1, this⟩
theorem yw_least62 (w : WF c) (hY : YS c a_first a_second a_third a_source a_register) (hT : T < cN c) (hk : k ≤ 3) {a : Nat} (ha : a < T) (hL : ∀ n, n < T → a_level n = nI (L n) ∧ L n ≤ 99) {post : Int32 → SY → Prop}
    (hJ : ∀ bs ma, bs ≤ 99 → LSG c T k L bs → LS1 c T k L (a + 1) bs → J19 (nI bs) (nI (a + 1)) (nI (cN c)) (nI (cS c)) (nI (cR c)) (xK c) a_first a_second a_third (xF c) a_now a_at a_other a_source a_register a_level a_soon a_depend a_table ma a_after a_shows a_apart) :
    ∀ m b fu bs ma, b + m = a → m < fu → bs ≤ 99 → LSG c T k L bs → LS1 c T k L a bs → LS2 c T k L a b bs → wY_least_62 post J19 (nI T) (nI k) (nI a) fu (nI bs) (nI b) (nI (cN c)) (nI (cS c)) (nI (cR c)) (xK c) a_first a_second a_third (xF c) a_now a_at a_other a_source a_register a_level a_soon a_depend a_table ma a_after a_shows a_apart := by
  have hN := wf_N w
  intro m
  induction m with
  | zero =>
    intro b fu bs ma hb hf hbs hg h1 h2
    obtain ⟨fu, rfl⟩ : ∃ k', fu = k' + 1 := ⟨fu - 1, by omega⟩
    unfold wY_least_62
    exact br_t (nI_le (by omega) (by omega)) (nm_r (nI_1 a) (hJ bs ma hbs hg (ls1_s h1 ⟨h2.1, fun _ b' hb' => h2.2 b' (by omega)⟩)))
  | succ m ih =>
    intro b fu bs ma hb hf hbs hg h1 h2
    obtain ⟨fu, rfl⟩ : ∃ k', fu = k' + 1 := ⟨fu - 1, by omega⟩
    obtain ⟨l1, l2⟩ := hL a ha
    obtain ⟨l3, l4⟩ := hL b (by omega)
    unfold wY_least_62
    rw [gw_cl (by omega), gw_cl (by omega), l1, l3]
    refine br_f (nI_ge (by omega) (by omega)) (pk_le k 1 (fun z => nm_r (nI_1 a) (hJ bs ma hbs hg (ls1_s h1 ⟨h2.1, fun y => by omega⟩))) (fun z => ⟨vp_in_nI (by omega) (by omega), vp_in_nI (by omega) (by omega), pk_le (L a) (L b) (fun y => ⟨vp_in_nI (by omega) (by omega), ?_⟩) (fun y => ⟨vp_in_nI (by omega) (by omega), ?_⟩)⟩))
    · exact yw_least108 w hY hT hk (by omega) ha (by omega) (show L b = mx2 (L a) (L b) by unfold mx2; rw [if_pos y]) l4 hbs hL hg h1 h2 (fun bs' ma' q1 q2 q3 q4 => ih (b + 1) fu bs' ma' (by omega) (by omega) q1 q2 q3 q4)
    · exact yw_least108 w hY hT hk (by omega) ha (by omega) (show L a = mx2 (L a) (L b) by unfold mx2; rw [if_neg (by omega)]) l2 hbs hL hg h1 h2 (fun bs' ma' q1 q2 q3 q4 => ih (b + 1) fu bs' ma' (by omega) (by omega) q1 q2 q3 q4)
end
theorem yw_least19 (w : WF c) (hY : YS c a_first a_second a_third a_source a_register) (hT : T < cN c) (hk1 : 1 ≤ k) (hk : k ≤ 3) (hL : ∀ n, n < T → a_level n = nI (L n) ∧ L n ≤ 99) {post : Int32 → SY → Prop}
    (h : ∀ bs ma, bs ≤ 99 → LSG c T k L bs → LS1 c T k L T bs → post (nI bs) (nI (cN c), nI (cS c), nI (cR c), xK c, a_first, a_second, a_third, xF c, a_now, a_at, a_other, a_source, a_register, a_level, a_soon, a_depend, a_table, ma, a_after, a_shows, a_apart)) :
    ∀ m a fu bs ma, a + m = T → m < fu → bs ≤ 99 → LSG c T k L bs → LS1 c T k L a bs → wY_least_19 post (nI T) (nI k) fu (nI bs) (nI a) (nI (cN c)) (nI (cS c)) (nI (cR c)) (xK c) a_first a_second a_third (xF c) a_now a_at a_other a_source a_register a_level a_soon a_depend a_table ma a_after a_shows a_apart := by
  have hN := wf_N w
  intro m
  induction m with
  | zero =>
    intro a fu bs ma ha hf hbs hg h1
    obtain ⟨fu, rfl⟩ : ∃ k', fu = k' + 1 := ⟨fu - 1, by omega⟩
    have : a = T := by omega
    subst this
    unfold wY_least_19
    exact br_t (nI_le (Nat.le_refl _) (by omega)) (h bs ma hbs hg h1)
  | succ m ih =>
    intro a fu bs ma ha hf hbs hg h1
    obtain ⟨fu, rfl⟩ : ∃ k', fu = k' + 1 := ⟨fu - 1, by omega⟩
    have haT : a < T := by omega
    obtain ⟨l1, l2⟩ := hL a haT
    unfold wY_least_19
    rw [gw_cl (by omega), l1]
    refine br_f (nI_ge (by omega) (by omega)) ⟨vp_in_nI (by omega) (by omega), pk_lt (L a) bs (fun z => ?_) (fun z => nm_r (nI_1 a) (ih (a + 1) fu bs ma (by omega) (by omega) hbs hg (ls1_s h1 ⟨fun _ => z, fun _ b hb => ⟨fun _ => Nat.le_trans z (mx2_l _ _), fun _ d hd _ => Nat.le_trans z (Nat.le_trans (mx2_l _ _) (mx2_l _ _))⟩⟩)))⟩
    refine yw_between w hY hT (fun r ma2 hr => ?_)
    dsimp only
    rw [l1]
    rcases hr with ⟨rfl, hr⟩ | ⟨rfl, hr⟩
    · refine br_f (by decide) ⟨vp_in_nI (by omega) (by omega), nm_e ⟨a + 1, yw_least62 w hY hT hk haT hL (fun bs' ma' q1 q2 q3 => ih (a + 1) fu bs' ma' (by omega) (by omega) q1 q2 q3) a 0 _ (L a) ma2 (by omega) (by omega) l2 (lsg_1 (by omega) hk1 haT (by omega) hr) (ls1_mono h1 (by omega)) ⟨fun _ => Nat.le_refl _, fun b' hb' => by omega⟩⟩⟩
    · exact br_t rfl ⟨a + 1, yw_least62 w hY hT hk haT hL (fun bs' ma' q1 q2 q3 => ih (a + 1) fu bs' ma' (by omega) (by omega) q1 q2 q3) a 0 _ bs ma2 (by omega) (by omega) hbs hg h1 ⟨fun y => absurd y hr, fun b' hb' => by omega⟩⟩
theorem yw_least (w : WF c) (hY : YS c a_first a_second a_third a_source a_register) (hT : T < cN c) (hk1 : 1 ≤ k) (hk : k ≤ 3) (hL : ∀ n, n < T → a_level n = nI (L n) ∧ L n ≤ 99) {post : Int32 → SY → Prop}
    (h0 : ∀ ma, SEP c T (fun _ => false) → post (-1) (nI (cN c), nI (cS c), nI (cR c), xK c, a_first, a_second, a_third, xF c, a_now, a_at, a_other, a_source, a_register, a_level, a_soon, a_depend, a_table, ma, a_after, a_shows, a_apart))
    (h : ∀ bs ma, bs ≤ 99 → LSG c T k L bs → (∀ l, l ≤ bs → ¬ CUT c k L l T) → post (nI bs) (nI (cN c), nI (cS c), nI (cR c), xK c, a_first, a_second, a_third, xF c, a_now, a_at, a_other, a_source, a_register, a_level, a_soon, a_depend, a_table, ma, a_after, a_shows, a_apart)) : wpY_least post (nI (cN c), nI (cS c), nI (cR c), xK c, a_first, a_second, a_third, xF c, a_now, a_at, a_other, a_source, a_register, a_level, a_soon, a_depend, a_table, a_marked, a_after, a_shows, a_apart) (nI T) (nI k) := by
  have hN := wf_N w
  dsimp only [wpY_least]
  refine yw_between w hY hT (fun r ma hr => ?_)
  dsimp only
  rcases hr with ⟨rfl, hr⟩ | ⟨rfl, hr⟩
  · exact br_f (by decide) (h0 ma ((sep_congr (fun n hn => m3_0 (by omega))).mp hr))
  · refine br_t rfl ⟨T + 1, yw_least19 w hY hT hk1 hk hL (fun bs ma' q1 q2 q3 => h bs ma' q1 q2 (ls_no (by omega) hk hr q3)) T 0 _ 99 ma (by omega) (by omega) (by omega) (Or.inl rfl) (fun a' ha' => by omega)⟩
theorem yw_level21 (w : WF c) (hY : YS c a_first a_second a_third a_source a_register) {net : Nat} (hn : net < cN c) (hk1 : 1 ≤ k) (hk : k ≤ 3) {post : Int32 → SY → Prop} (h : ∀ r lv ma, LVA c k net r → post r (nI (cN c), nI (cS c), nI (cR c), xK c, a_first, a_second, a_third, xF c, a_now, a_at, a_other, a_source, a_register, lv, a_soon, a_depend, a_table, ma, a_after, a_shows, a_apart)) :
    ∀ d n fu L lv ma, n + d = net + 1 → d < fu → LVS c k L n → (∀ m, m < n → lv m = nI (L m) ∧ L m ≤ 99) → wY_level_21 post (nI net) (nI k) fu (nI n) (nI (cN c)) (nI (cS c)) (nI (cR c)) (xK c) a_first a_second a_third (xF c) a_now a_at a_other a_source a_register lv a_soon a_depend a_table ma a_after a_shows a_apart := by
  have hN := wf_N w
  intro d
  induction d with
  | zero =>
    intro n fu L lv ma hd hf hL hlv
    obtain ⟨fu, rfl⟩ : ∃ k', fu = k' + 1 := ⟨fu - 1, by omega⟩
    have : n = net + 1 := by omega
    subst this
    obtain ⟨l1, l2⟩ := hlv net (by omega)
    unfold wY_level_21
    rw [gw_cl (by omega), l1]
    refine br_t (nI_lt (by omega) (by omega)) ⟨vp_in_nI (by omega) (by omega), pk_eq (L net) 99 (fun z => h _ lv ma ⟨L, hL, ?_⟩) (fun z => ⟨vp_in_nI (by omega) (by omega), h _ lv ma ⟨L, hL, ?_⟩⟩)⟩
    · unfold lvI; rw [if_pos z]
    · unfold lvI; rw [if_neg z]
  | succ d ih =>
    intro n fu L lv ma hd hf hL hlv
    obtain ⟨fu, rfl⟩ : ∃ k', fu = k' + 1 := ⟨fu - 1, by omega⟩
    have hn' : n < cN c := by omega
    have k7 := wf_K w n
    have nx : ∀ x (y : Int32) ma', y = nI x → x ≤ 99 → ((cK c n < 3 → x = 0) ∧ (3 ≤ cK c n → (x = 99 ∧ ∀ l, l < 99 → ¬ CUT c k L l n) ∨ (1 ≤ x ∧ x ≤ n ∧ CUT c k L x n ∧ ∀ l, 1 ≤ l → l < x → ¬ CUT c k L l n))) → wY_level_21 post (nI net) (nI k) fu (nI (n + 1)) (nI (cN c)) (nI (cS c)) (nI (cR c)) (xK c) a_first a_second a_third (xF c) a_now a_at a_other a_source a_register (upd lv n y) a_soon a_depend a_table ma' a_after a_shows a_apart := fun x y ma' e hx hh => by
      refine ih (n + 1) fu (fun i => if i = n then x else L i) _ ma' (by omega) (by omega) (lvs_s hL x hh) (fun m hm => ?_)
      show upd lv n y m = nI (if m = n then x else L m) ∧ (if m = n then x else L m) ≤ 99
      by_cases q : m = n
      · rw [if_pos q, q, pk_us]; exact ⟨e, hx⟩
      · rw [if_neg q, pk_un q]; exact hlv m (by omega)
    unfold wY_level_21
    rw [gw_cl (show n < 2147483648 by omega), xK_ap]
    refine br_f (nI_nlt (by omega) (by omega)) ⟨vp_in_nI (by omega) (by omega), pk_le 3 (cK c n) (fun z => ?_) (fun z => ⟨vp_in_nI (by omega) (by omega), nm_e (nm_r (nI_1 n) (nx 0 _ ma rfl (by omega) ⟨fun _ => rfl, fun y => by omega⟩))⟩)⟩
    have hn1 := wf_o1 w hn' z
    refine yw_least w hY hn' hk1 hk hlv (fun ma2 hs => ?_) (fun bs ma2 hbs hg hno => ?_)
    · dsimp only
      refine br_f (by decide) (br_f gw_m1le ⟨vp_in_nI (by omega) (by omega), nm_e (nm_r (nI_1 n) (nx 1 _ ma2 rfl (by omega) ⟨fun y => by omega, fun _ => Or.inr ⟨by omega, by omega, ⟨fun _ => false, by rw [cnt_0 (fun _ _ => rfl)]; omega, fun m _ hm => absurd hm Bool.false_ne_true, hs⟩, fun l l1 l2 => by omega⟩⟩))⟩)
    · dsimp only
      refine pk_eq bs 99 (fun e => ⟨vp_in_nI (by omega) (by omega), nm_e (nm_r (nI_1 n) (nx 99 _ ma2 rfl (by omega) ⟨fun y => by omega, fun _ => Or.inl ⟨rfl, fun l hl => hno l (by omega)⟩⟩))⟩) (fun e => br_t (nI_pos' (by omega)) ⟨vp_in_nI (by omega) (by omega), nm_e (nm_r (nI_1 n) (nx (bs + 1) _ ma2 (nI_1 bs) (by omega) ⟨fun y => by omega, fun _ => Or.inr ?_⟩))⟩)
      rcases hg with q | ⟨q1, q2⟩
      · exact absurd q e
      · refine ⟨by omega, ?_, q2, fun l l1 l2 => hno l (by omega)⟩
        apply Classical.byContradiction
        intro y
        obtain ⟨C, c1, c2, c3⟩ := q2
        refine hno bs (Nat.le_refl _) ⟨C, c1, fun m hm hC => ?_, c3⟩
        have h3 := c2 m hm hC
        have h4 := hL m hm
        have h5 : L m ≤ m ∨ L m = 99 := by
          by_cases q : cK c m < 3
          · rw [h4.1 q]; omega
          · rcases h4.2 (by omega) with ⟨q, _⟩ | ⟨_, q, _⟩
            · exact Or.inr q
            · exact Or.inl q
        omega
theorem ym_level (w : WF c) {now : Nat} {v : SY} (hv : YR c now v) {n : Nat} (hn : n < cN c) (hk1 : 1 ≤ k) (hk : k ≤ 3) {post : Int32 → SY → Prop} (h : ∀ v' r, YR c now v' → LVA c k n r → post r v') : wpY_level post v (nI n) (nI k) := by
  refine yr_el (P := fun v => wpY_level post v (nI n) (nI k)) hv ?_
  intro a_first a_second a_third a_now a_at a_other a_source a_register a_level a_soon a_depend a_table a_marked a_after a_shows a_apart hY hN
  dsimp only [wpY_level, wpY_in]
  refine yw_isNet_t w hn (br_f (by decide) (br_f (nI_nlt (b := 1) hk1 (by omega)) (br_f (nI_nlt (a := 3) hk (by omega)) (br_f (by decide) ⟨n + 2, ?_⟩))))
  exact yw_level21 w hY hn hk1 hk (fun r lv ma hr => h _ r (yr_in hY hN) hr) (n + 1) 0 _ (fun _ => 0) a_level a_marked (by omega) (by omega) (fun m hm => by omega) (fun m hm => by omega)
end
end
section
/-! ===== what changing a circuit keeps; set, next ===== -/
theorem gv0_cc {c c' : CK} {sv g : Nat → Bool} {n : Nat} (hK : cK c' n = cK c n) (hO : ∀ i, i < 3 → cO c' (3 * n + i) = cO c (3 * n + i)) : gv0 c' sv g n = gv0 c sv g n := by
  unfold gv0
  rw [hK, show cO c' (3 * n) = cO c (3 * n) from hO 0 (by decide), hO 1 (by decide), hO 2 (by decide)]
/-- nets below k of two circuits that are alike there show the same -/
theorem ev_cc {c c' : CK} (w : WF c) (w' : WF c') {k : Nat} (hk : k ≤ cN c) (hk' : k ≤ cN c') (hK : ∀ n, n < k → cK c' n = cK c n) (hO : ∀ n, n < k → ∀ i, i < 3 → cO c' (3 * n + i) = cO c (3 * n + i)) {f : Nat} {o : Bool} {sv sv' : Nat → Bool} (hs : ∀ n, n < k → cK c n < 2 → sv' n = sv n) : ∀ n, n < k → ev c' f o sv' n = ev c f o sv n := by
  intro n
  induction n using Nat.strongRecOn with
  | _ n ih =>
    intro hn
    rw [ev_eq w (by omega), ev_eq w' (by omega)]
    unfold gv
    rw [gv0_cc (hK n hn) (hO n hn), gv0_congr w (show n < cN c by omega) (hs n hn) (fun m hm => ih m hm (by omega))]
theorem tbl_cc {c c' : CK} (w : WF c) (w' : WF c') {k : Nat} (hk : k ≤ cN c) (hk' : k ≤ cN c') (hK : ∀ n, n < k → cK c' n = cK c n) (hO : ∀ n, n < k → ∀ i, i < 3 → cO c' (3 * n + i) = cO c (3 * n + i)) (hS : cS c' = cS c) (hA : ∀ i, i < cS c → cA c' i = cA c i) {t : Nat → Int64} (ht : TBL c 99 false t k) : TBL c' 99 false t k := by
  have hL : cL c' = cL c := by unfold cL; rw [hS]
  intro n hn v hv b hb
  rw [hL] at hv
  rw [ht n hn v hv b hb, hS]
  have e : EVF c' 99 false (64 * v + b) n = EVF c 99 false (64 * v + b) n := by
    refine ev_cc w w' hk hk' hK hO (fun m hm hkm => ?_) n hn
    obtain ⟨i, hi, rfl⟩ := wf_Ax w (by omega) hkm
    rw [sa_A w hi, ← hA i hi, sa_A w' (by rw [hS]; exact hi)]
  rw [e]
theorem tbl_le {c : CK} {t : Nat → Int64} {k k' : Nat} (h : TBL c 99 false t k) (hk : k' ≤ k) : TBL c 99 false t k' := fun n hn => h n (by omega)
theorem lv_0 (c : CK) (a : Nat → Int32) : LV c 0 a := ⟨0, by decide, rfl, fun k _ _ hk => by rw [Nat.zero_testBit] at hk; exact absurd hk (by decide)⟩
theorem cm_0 (c : CK) (a : Nat → Int32) : CM c 0 a := Or.inl rfl
theorem sep_cc {c c' : CK} (hK : cK c' = cK c) (hO : cO c' = cO c) {T : Nat} {C : Nat → Bool} : SEP c' T C ↔ SEP c T C := by
  unfold SEP
  rw [hK, hO]
theorem lv_cc {c c' : CK} (hN : cN c' = cN c) (hK : cK c' = cK c) (hO : cO c' = cO c) {f : Int32} {a : Nat → Int32} (h : LV c f a) : LV c' f a := by
  obtain ⟨lk, h1, h2, h3⟩ := h
  refine ⟨lk, h1, h2, fun k k1 k3 hb => ?_⟩
  obtain ⟨L, l1, l2⟩ := h3 k k1 k3 hb
  refine ⟨L, ?_, by rw [hN]; exact l2⟩
  rw [hN]
  intro n hn
  have hc : ∀ l, CUT c' k L l n ↔ CUT c k L l n := fun l => by
    unfold CUT
    constructor
    · rintro ⟨C, a1, a2, a3⟩; exact ⟨C, a1, a2, (sep_cc hK hO).mp a3⟩
    · rintro ⟨C, a1, a2, a3⟩; exact ⟨C, a1, a2, (sep_cc hK hO).mpr a3⟩
  have := l1 n hn
  rw [hK]
  refine ⟨this.1, fun z => ?_⟩
  rcases this.2 z with ⟨a1, a2⟩ | ⟨a1, a2, a3, a4⟩
  · exact Or.inl ⟨a1, fun l hl y => a2 l hl ((hc l).mp y)⟩
  · exact Or.inr ⟨a1, a2, (hc _).mpr a3, fun l x y z => a4 l x y ((hc l).mp z)⟩
/-! set -/
def nset (c : CK) (now s : Nat) (o : Bool) : Nat := bld (fun i => if i = s then o else now.testBit i) (cS c)
theorem nset_x {c : CK} (w : WF c) {now s : Nat} (hn : now < 2 ^ cS c) (hs : s < cS c) : nI now &&& (((1 : Int32) <<< (nI s &&& 31)) ^^^ (-1)) = nI (nset c now s false) ∧ nI now ||| ((1 : Int32) <<< (nI s &&& 31)) = nI (nset c now s true) := by
  have hS := wf_S w
  have e1 : ∀ i, i < 32 → s ≤ i → bt (1 : Int32) (i - s) = decide (i = s) := fun i hi hle => by
    show bt (nI true.toNat) (i - s) = _
    rw [gw_bt32 _ _ (by omega), Nat.testBit_bool_toNat, Bool.and_true]
    by_cases e : i = s
    · rw [e, Nat.sub_self, decide_eq_true rfl, decide_eq_true rfl]
    · rw [decide_eq_false e, decide_eq_false (show ¬ i - s = 0 by omega)]
  have e2 : ∀ i, i < 32 → (decide (s ≤ i) && bt (1 : Int32) (i - s)) = decide (i = s) := fun i hi => by
    by_cases hle : s ≤ i
    · rw [decide_eq_true hle, Bool.true_and, e1 i hi hle]
    · rw [decide_eq_false hle, Bool.false_and, decide_eq_false (by omega)]
  have e3 : ∀ o i, (nset c now s o).testBit i = if i = s then o else now.testBit i := fun o i => by
    unfold nset
    rw [bld_tb]
    by_cases h : i < cS c
    · rw [decide_eq_true h, Bool.true_and]
    · rw [decide_eq_false h, Bool.false_and, if_neg (by omega), tb_hi hn (by omega)]
  constructor
  · apply b_ext
    intro i hi
    rw [b_and, b_xor, b_m1 i hi, b_shl s (by omega) _ hi, e2 i hi, gw_bt32 _ _ hi, gw_bt32 _ _ hi, e3]
    by_cases e : i = s
    · rw [if_pos e, decide_eq_true e]; simp
    · rw [if_neg e, decide_eq_false e]; simp
  · apply b_ext
    intro i hi
    rw [b_or, b_shl s (by omega) _ hi, e2 i hi, gw_bt32 _ _ hi, gw_bt32 _ _ hi, e3]
    by_cases e : i = s
    · rw [if_pos e, decide_eq_true e]; simp
    · rw [if_neg e, decide_eq_false e]; simp
section
variable {c : CK} {f_now : Int32} {f_right : Int32} {f_levelsKnown : Int32} {f_head : Int32} {f_tail : Int32} {f_met : Int64} {f_comesKnown : Int32} {f_entry : Int32} {f_round : Int32} {a_table : Nat → Int64} {a_saved : Nat → Int64} {a_matters : Nat → Int32} {a_cubes : Nat → Int64} {a_levels : Nat → Int32} {a_edgeFlow : Nat → Int32} {a_netFlow : Nat → Int32} {a_queue : Nat → Int32} {a_before : Nat → Int32} {a_edge : Nat → Int32} {a_leads : Nat → Int64} {a_comes : Nat → Int32} {a_group : Nat → Int32} {a_later : Nat → Int32} {a_goes : Nat → Int32} {a_shows : Nat → Int32}
theorem xm_set (w : WF c) {now : Nat} (hn : now < 2 ^ cS c) {u : SX} (hX : XR c now u) {s : Nat} (hs : s < cS c) {o : Bool} {post : Int32 → SX → Prop} (h : ∀ u', XR c (nset c now s o) u' → post 1 u') : wpX_set post u (nI (cA c s)) (nI o.toNat) := by
  have hS := wf_S w
  refine xr_el (P := fun u => wpX_set post u (nI (cA c s)) (nI o.toNat)) hX ?_
  intro r f_levelsKnown f_head f_tail f_met f_comesKnown f_entry f_round a_table a_saved a_matters a_cubes a_levels a_edgeFlow a_netFlow a_queue a_before a_edge a_leads a_comes a_group a_later a_goes a_shows hr ht hl hc
  dsimp only [wpX_set]
  refine xw_sourceOf w hs (br_t (nI_pos' (by omega)) ?_)
  cases o
  · exact br_t rfl (nm_r (nset_x w hn hs).1 (h _ (xr_in hr ht hl hc)))
  · exact br_f (by decide) (nm_r (nset_x w hn hs).2 (h _ (xr_in hr ht hl hc)))
theorem xm_set_no (w : WF c) {now : Nat} {u : SX} (hX : XR c now u) {p q : Int32} (hp : ∀ i, i < cS c → ¬ nI (cA c i) = p) {post : Int32 → SX → Prop} (h : post 0 u) : wpX_set post u p q := by
  revert h
  refine xr_el (P := fun u => post 0 u → wpX_set post u p q) hX ?_
  intro r f_levelsKnown f_head f_tail f_met f_comesKnown f_entry f_round a_table a_saved a_matters a_cubes a_levels a_edgeFlow a_netFlow a_queue a_before a_edge a_leads a_comes a_group a_later a_goes a_shows hr ht hl hc hu
  dsimp only [wpX_set]
  exact xw_sourceOf_no w hp (br_f gw_m1le hu)
end
section
variable {c : CK} {a_first : Nat → Int32} {a_second : Nat → Int32} {a_third : Nat → Int32} {a_now : Nat → Int32} {a_at : Nat → Int32} {a_other : Nat → Int32} {a_source : Nat → Int32} {a_register : Nat → Int32} {a_level : Nat → Int32} {a_soon : Nat → Int32} {a_depend : Nat → Int32} {a_table : Nat → Int32} {a_marked : Nat → Int32} {a_after : Nat → Int32} {a_shows : Nat → Int32} {a_apart : Nat → Int32}
theorem ym_set (w : WF c) {now : Nat} {v : SY} (hv : YR c now v) {s : Nat} (hs : s < cS c) {o : Bool} {post : Int32 → SY → Prop} (h : ∀ v', YR c (nset c now s o) v' → post 1 v') : wpY_set post v (nI (cA c s)) (nI o.toNat) := by
  have hN := wf_N w
  have hA := wf_A w hs
  refine yr_el (P := fun v => wpY_set post v (nI (cA c s)) (nI o.toNat)) hv ?_
  intro a_first a_second a_third a_now a_at a_other a_source a_register a_level a_soon a_depend a_table a_marked a_after a_shows a_apart hY hn
  dsimp only [wpY_set]
  refine yw_isSource_t w hA (wf_AK w hs) (br_f (by decide) ?_)
  rw [gw_cl (by omega), gw_bool]
  refine ⟨vp_in_nI (by omega) (by omega), nm_e (h _ (yr_in hY (fun i hi => ?_)))⟩
  have e3 : (nset c now s o).testBit i = if i = s then o else now.testBit i := by
    unfold nset
    rw [bld_tb, decide_eq_true hi, Bool.true_and]
  rw [e3]
  by_cases e : i = s
  · rw [if_pos e, e, pk_us]
  · rw [if_neg e, pk_un (fun z => e (wf_Ai w hi hs z))]
    exact hn i hi
theorem ym_set_no (w : WF c) {now : Nat} {v : SY} (hv : YR c now v) {p q : Int32} (hp : ∀ i, i < cS c → ¬ nI (cA c i) = p) {post : Int32 → SY → Prop} (h : post 0 v) : wpY_set post v p q := by
  have hN := wf_N w
  revert h
  refine yr_el (P := fun v => post 0 v → wpY_set post v p q) hv ?_
  intro a_first a_second a_third a_now a_at a_other a_source a_register a_level a_soon a_depend a_table a_marked a_after a_shows a_apart hY hn hu
  dsimp only [wpY_set]
  rcases pk_ix p (n := cN c) (by omega) with h1 | h1 | ⟨m, hm, rfl⟩
  · exact yw_isSource_f w (Or.inl h1) (br_t rfl hu)
  · exact yw_isSource_f w (Or.inr h1) (br_t rfl hu)
  · refine yw_isSource_g w hm ?_ (br_t rfl hu)
    apply Classical.byContradiction
    intro z
    obtain ⟨k, hk, e⟩ := wf_Ax w hm (by omega)
    exact hp k hk (by rw [e])
end
/-! next -/
def cnx (c : CK) (r n : Nat) : CK := (cN c, cS c, cR c, cK c, cO c, fun i => if i = r then n else cF c i, cA c, cG c, cB c)
theorem cnx_wf {c : CK} (w : WF c) {r n : Nat} (hn : n < cN c) : WF (cnx c r n) := by
  have hN := wf_N w
  refine ⟨w.1, w.2.1, w.2.2.1, w.2.2.2.1, w.2.2.2.2.1, fun m => ?_, w.2.2.2.2.2.2.1, w.2.2.2.2.2.2.2.1, w.2.2.2.2.2.2.2.2.1, w.2.2.2.2.2.2.2.2.2.1, w.2.2.2.2.2.2.2.2.2.2.1, w.2.2.2.2.2.2.2.2.2.2.2.1, fun i hi => ⟨wf_B w hi, wf_G w hi, wf_GK w hi, ?_⟩, w.2.2.2.2.2.2.2.2.2.2.2.2.2.1, w.2.2.2.2.2.2.2.2.2.2.2.2.2.2⟩
  · show (if m = r then n else cF c m) < 32
    by_cases e : m = r
    · rw [if_pos e]; omega
    · rw [if_neg e]; exact wf_F w m
  · show (if cG c i = r then n else cF c (cG c i)) < cN c
    by_cases e : cG c i = r
    · rw [if_pos e]; exact hn
    · rw [if_neg e]; exact wf_GF w hi
theorem cnx_F (c : CK) (r n : Nat) : upd (xF c) r (nI n) = xF (cnx c r n) := by
  funext i
  show (if i = r then nI n else xF c i) = nI (if i = r then n else cF c i)
  by_cases e : i = r
  · rw [if_pos e, if_pos e]
  · rw [if_neg e, if_neg e]; rfl
section
variable {c : CK} {f_now : Int32} {f_right : Int32} {f_levelsKnown : Int32} {f_head : Int32} {f_tail : Int32} {f_met : Int64} {f_comesKnown : Int32} {f_entry : Int32} {f_round : Int32} {a_table : Nat → Int64} {a_saved : Nat → Int64} {a_matters : Nat → Int32} {a_cubes : Nat → Int64} {a_levels : Nat → Int32} {a_edgeFlow : Nat → Int32} {a_netFlow : Nat → Int32} {a_queue : Nat → Int32} {a_before : Nat → Int32} {a_edge : Nat → Int32} {a_leads : Nat → Int64} {a_comes : Nat → Int32} {a_group : Nat → Int32} {a_later : Nat → Int32} {a_goes : Nat → Int32} {a_shows : Nat → Int32}
theorem xm_next (w : WF c) {now : Nat} {u : SX} (hX : XR c now u) {r n : Nat} (hr : r < cN c) (hn : n < cN c) (hk : cK c r = 1) {post : Int32 → SX → Prop} (h : ∀ u', XR (cnx c r n) now u' → post 1 u') : wpX_next post u (nI r) (nI n) := by
  have hN := wf_N w
  refine xr_el (P := fun u => wpX_next post u (nI r) (nI n)) hX ?_
  intro r0 f_levelsKnown f_head f_tail f_met f_comesKnown f_entry f_round a_table a_saved a_matters a_cubes a_levels a_edgeFlow a_netFlow a_queue a_before a_edge a_leads a_comes a_group a_later a_goes a_shows hr0 ht hl hc
  dsimp only [wpX_next]
  refine xw_isNet_t w hr (br_f (by decide) ?_)
  rw [gw_cl (by omega), xK_ap, hk, gw_nbyte2 (by omega), cnx_F]
  refine ⟨vp_in_nI (by omega) (by omega), br_t rfl (xw_isNet_t w hn (br_f (by decide) ⟨vp_in_nI (by omega) (by omega), nm_e (h _ ?_)⟩))⟩
  exact xr_in (c := cnx c r n) hr0 (tbl_cc w (cnx_wf w hn) hr0 hr0 (fun _ _ => rfl) (fun _ _ _ _ => rfl) rfl (fun _ _ => rfl) ht) (lv_cc (c := c) rfl rfl rfl hl) (cm_0 _ _)
theorem xm_next_no (w : WF c) {now : Nat} {u : SX} (hX : XR c now u) {p q : Int32} (hp : (p < 0 ∨ nI (cN c) ≤ p) ∨ (∃ r, r < cN c ∧ p = nI r ∧ (cK c r ≠ 1 ∨ (q < 0 ∨ nI (cN c) ≤ q)))) {post : Int32 → SX → Prop} (h : post 0 u) : wpX_next post u p q := by
  have hN := wf_N w
  revert h
  refine xr_el (P := fun u => post 0 u → wpX_next post u p q) hX ?_
  intro r0 f_levelsKnown f_head f_tail f_met f_comesKnown f_entry f_round a_table a_saved a_matters a_cubes a_levels a_edgeFlow a_netFlow a_queue a_before a_edge a_leads a_comes a_group a_later a_goes a_shows hr0 ht hl hc hu
  dsimp only [wpX_next]
  rcases hp with hp | ⟨r, hr, rfl, hq⟩
  · exact xw_isNet_f w hp (br_t rfl hu)
  · have k7 := wf_K w r
    refine xw_isNet_t w hr (br_f (by decide) ?_)
    rw [gw_cl (by omega), xK_ap]
    refine ⟨vp_in_nI (by omega) (by omega), pk_eq (cK c r) 1 (fun e => ?_) (fun e => hu)⟩
    rcases hq with hq | hq
    · exact absurd e hq
    · exact xw_isNet_f w hq (br_t rfl hu)
end
section
variable {c : CK} {a_first : Nat → Int32} {a_second : Nat → Int32} {a_third : Nat → Int32} {a_now : Nat → Int32} {a_at : Nat → Int32} {a_other : Nat → Int32} {a_source : Nat → Int32} {a_register : Nat → Int32} {a_level : Nat → Int32} {a_soon : Nat → Int32} {a_depend : Nat → Int32} {a_table : Nat → Int32} {a_marked : Nat → Int32} {a_after : Nat → Int32} {a_shows : Nat → Int32} {a_apart : Nat → Int32}
theorem ym_next (w : WF c) {now : Nat} {v : SY} (hv : YR c now v) {r n : Nat} (hr : r < cN c) (hn : n < cN c) (hk : cK c r = 1) {post : Int32 → SY → Prop} (h : ∀ v', YR (cnx c r n) now v' → post 1 v') : wpY_next post v (nI r) (nI n) := by
  have hN := wf_N w
  refine yr_el (P := fun v => wpY_next post v (nI r) (nI n)) hv ?_
  intro a_first a_second a_third a_now a_at a_other a_source a_register a_level a_soon a_depend a_table a_marked a_after a_shows a_apart hY hnow
  dsimp only [wpY_next]
  refine yw_isNet_t w hr (br_f (by decide) ?_)
  rw [gw_cl (by omega), xK_ap, hk, cnx_F]
  exact ⟨vp_in_nI (by omega) (by omega), br_t rfl (yw_isNet_t w hn (br_f (by decide) ⟨vp_in_nI (by omega) (by omega), nm_e (h _ (yr_in (c := cnx c r n) hY hnow))⟩))⟩
theorem ym_next_no (w : WF c) {now : Nat} {v : SY} (hv : YR c now v) {p q : Int32} (hp : (p < 0 ∨ nI (cN c) ≤ p) ∨ (∃ r, r < cN c ∧ p = nI r ∧ (cK c r ≠ 1 ∨ (q < 0 ∨ nI (cN c) ≤ q)))) {post : Int32 → SY → Prop} (h : post 0 v) : wpY_next post v p q := by
  have hN := wf_N w
  revert h
  refine yr_el (P := fun v => post 0 v → wpY_next post v p q) hv ?_
  intro a_first a_second a_third a_now a_at a_other a_source a_register a_level a_soon a_depend a_table a_marked a_after a_shows a_apart hY hnow hu
  dsimp only [wpY_next]
  rcases hp with hp | ⟨r, hr, rfl, hq⟩
  · exact yw_isNet_f w hp (br_t rfl hu)
  · have k7 := wf_K w r
    refine yw_isNet_t w hr (br_f (by decide) ?_)
    rw [gw_cl (by omega), xK_ap]
    refine ⟨vp_in_nI (by omega) (by omega), pk_eq (cK c r) 1 (fun e => ?_) (fun e => hu)⟩
    rcases hq with hq | hq
    · exact absurd e hq
    · exact yw_isNet_f w hq (br_t rfl hu)
end
end
section
/-! ===== operands that fit; put; change ===== -/
def INR (x : Int32) (n : Nat) : Prop := ∃ j, j < n ∧ x = nI j
def FIT (kd n : Nat) (x y z : Int32) : Prop := (kd = 2 → x = 0 ∨ x = 1) ∧ (3 ≤ kd → INR x n) ∧ (4 ≤ kd → INR y n) ∧ (7 ≤ kd → INR z n)
theorem inr_x {x : Int32} {n : Nat} (hn : n ≤ 32) {A B : Prop} (h1 : INR x n → A) (h0 : ¬ INR x n → B) : (x < 0 → B) ∧ (¬ x < 0 → (nI n ≤ x → B) ∧ (¬ nI n ≤ x → A)) := by
  rcases pk_ix x (n := n) (by omega) with h | h | ⟨j, hj, rfl⟩
  · refine br_t h (h0 ?_)
    rintro ⟨j, hj, rfl⟩
    exact nI_pos (by omega) h
  · have h2 : ¬ x < 0 := Int32.not_lt.mpr (Int32.le_trans (nI_pos' (by omega)) h)
    refine br_f h2 (br_t h (h0 ?_))
    rintro ⟨j, hj, rfl⟩
    exact nI_ge hj (by omega) h
  · exact br_f (nI_pos (by omega)) (br_f (nI_ge hj (by omega)) (h1 ⟨j, hj, rfl⟩))
theorem inr_y {x : Int32} {n : Nat} (hn : n ≤ 32) {A B : Prop} (h1 : INR x n → A) (h0 : ¬ INR x n → B) : (x < 0 → B) ∧ (¬ x < 0 → (x < nI n → A) ∧ (¬ x < nI n → B)) := by
  have h := inr_x hn h1 h0
  refine ⟨h.1, fun z => ⟨fun y => (h.2 z).2 (Int32.not_le.mpr y), fun y => (h.2 z).1 (Int32.not_lt.mp y)⟩⟩
theorem yw_inN {x : Int32} {n : Nat} (hn : n ≤ 32) {post : Int32 → Prop} (h1 : INR x n → post 1) (h0 : ¬ INR x n → post 0) : wpY_in post x 0 (nI n - 1) := by
  have h := inr_x hn h1 h0
  unfold wpY_in
  refine ⟨h.1, fun z => ?_⟩
  have e : nI n - 1 < x ↔ nI n ≤ x := by
    obtain ⟨j, hj, rfl⟩ := nI_of z
    rw [nI_leI (by omega) hj, Int32.lt_iff_toInt_lt, nI_toInt hj]
    by_cases e : n = 0
    · rw [e]
      have : (nI 0 - 1).toInt = -1 := by decide
      omega
    · have e1 : nI n - 1 = nI (n - 1) := pk_sub (show 1 ≤ n by omega)
      rw [e1, nI_toInt (by omega)]
      omega
  rw [e]
  exact h.2 z
theorem xw_fits {kd n : Nat} (hk : kd ≤ 7) (hn : n ≤ 32) {x y z : Int32} {post : Int32 → Prop} (h : ∀ r, BA (FIT kd n x y z) r → post r) : wpX_fits post (nI kd) (nI n) x y z := by
  have yes : FIT kd n x y z → post 1 := fun q => h _ (Or.inl ⟨rfl, q⟩)
  have no : ¬ FIT kd n x y z → post 0 := fun q => h _ (Or.inr ⟨rfl, q⟩)
  have h8 : kd = 0 ∨ kd = 1 ∨ kd = 2 ∨ kd = 3 ∨ kd = 4 ∨ kd = 5 ∨ kd = 6 ∨ kd = 7 := by omega
  unfold wpX_fits wpX_arity wX_fits_40 wX_fits_57
  have two : (x = 0 → post 1) → (x = 1 → post 1) → (¬ (x = 0 ∨ x = 1) → post 0) → ((x = 0 → post 1) ∧ (¬ x = 0 → (x = 1 → post 1) ∧ (¬ x = 1 → post 0))) := fun a b d => ⟨a, fun q => ⟨b, fun q2 => d (fun q3 => by rcases q3 with q3 | q3; exact q q3; exact q2 q3)⟩⟩
  have f2 : 4 ≤ kd → kd < 7 → (INR x n → INR y n → FIT kd n x y z) := fun a b p q => ⟨fun _ => by omega, fun _ => p, fun _ => q, fun _ => by omega⟩
  rcases h8 with rfl | rfl | rfl | rfl | rfl | rfl | rfl | rfl
  · exact br_f (by decide) (br_f (by decide) (br_t (by decide) (br_t (by decide) (br_t (by decide) (yes ⟨fun q => by omega, fun q => by omega, fun q => by omega, fun q => by omega⟩)))))
  · exact br_f (by decide) (br_f (by decide) (br_t (by decide) (br_t (by decide) (br_t (by decide) (yes ⟨fun q => by omega, fun q => by omega, fun q => by omega, fun q => by omega⟩)))))
  · refine br_t rfl (two (fun q => yes ⟨fun _ => Or.inl q, fun q => by omega, fun q => by omega, fun q => by omega⟩) (fun q => yes ⟨fun _ => Or.inr q, fun q => by omega, fun q => by omega, fun q => by omega⟩) (fun q => no (fun f => q (f.1 rfl))))
  · refine br_f (by decide) (br_t (by decide) (br_f (by decide) (br_f (by decide) (inr_x hn (fun q => br_t (by decide) (br_t (by decide) (yes ⟨fun _ => by omega, fun _ => q, fun _ => by omega, fun _ => by omega⟩))) (fun q => no (fun f => q (f.2.1 (by omega))))))))
  · refine br_f (by decide) (br_t (by decide) (br_t (by decide) (br_f (by decide) (br_f (by decide) (inr_x hn (fun q => br_f (by decide) (inr_y hn (fun q2 => br_t (by decide) (yes (f2 (by omega) (by omega) q q2))) (fun q2 => no (fun f => q2 (f.2.2.1 (by omega)))))) (fun q => no (fun f => q (f.2.1 (by omega)))))))))
  · refine br_f (by decide) (br_t (by decide) (br_t (by decide) (br_f (by decide) (br_f (by decide) (inr_x hn (fun q => br_f (by decide) (inr_y hn (fun q2 => br_t (by decide) (yes (f2 (by omega) (by omega) q q2))) (fun q2 => no (fun f => q2 (f.2.2.1 (by omega)))))) (fun q => no (fun f => q (f.2.1 (by omega)))))))))
  · refine br_f (by decide) (br_t (by decide) (br_t (by decide) (br_f (by decide) (br_f (by decide) (inr_x hn (fun q => br_f (by decide) (inr_y hn (fun q2 => br_t (by decide) (yes (f2 (by omega) (by omega) q q2))) (fun q2 => no (fun f => q2 (f.2.2.1 (by omega)))))) (fun q => no (fun f => q (f.2.1 (by omega)))))))))
  · refine br_f (by decide) (br_t (by decide) (br_t (by decide) (br_t (by decide) (br_f (by decide) (inr_x hn (fun q => br_f (by decide) (inr_y hn (fun q2 => br_f (by decide) (inr_x hn (fun q3 => yes ⟨fun _ => by omega, fun _ => q, fun _ => q2, fun _ => q3⟩) (fun q3 => no (fun f => q3 (f.2.2.2 (by omega)))))) (fun q2 => no (fun f => q2 (f.2.2.1 (by omega)))))) (fun q => no (fun f => q (f.2.1 (by omega)))))))))
theorem yw_fit {kd n : Nat} (hk : kd ≤ 7) (hn : n ≤ 32) {x y z : Int32} {post : Int32 → Prop} (h : ∀ r, BA (FIT kd n x y z) r → post r) : wpY_fit post (nI kd) x y z (nI n) := by
  have yes : FIT kd n x y z → post 1 := fun q => h _ (Or.inl ⟨rfl, q⟩)
  have no : ¬ FIT kd n x y z → post 0 := fun q => h _ (Or.inr ⟨rfl, q⟩)
  have h8 : kd = 0 ∨ kd = 1 ∨ kd = 2 ∨ kd = 3 ∨ (4 ≤ kd ∧ kd ≤ 6) ∨ kd = 7 := by omega
  unfold wpY_fit wpY_operands wY_fit_36 wY_fit_54
  rcases h8 with rfl | rfl | rfl | rfl | ⟨g1, g2⟩ | rfl
  · exact br_f (by decide) (br_f (by decide) (br_t (by decide) (br_t (by decide) (br_t (by decide) (yes ⟨fun q => by omega, fun q => by omega, fun q => by omega, fun q => by omega⟩)))))
  · exact br_f (by decide) (br_f (by decide) (br_t (by decide) (br_t (by decide) (br_t (by decide) (yes ⟨fun q => by omega, fun q => by omega, fun q => by omega, fun q => by omega⟩)))))
  · refine br_f (by decide) (br_t rfl ?_)
    refine yw_inN (n := 2) (by omega) (fun q => ⟨narrow_b1, yes ⟨fun _ => ?_, fun q => by omega, fun q => by omega, fun q => by omega⟩⟩) (fun q => ⟨narrow_b0, no (fun f => q ?_)⟩)
    · obtain ⟨j, hj, rfl⟩ := q
      have : j = 0 ∨ j = 1 := by omega
      rcases this with rfl | rfl
      · exact Or.inl rfl
      · exact Or.inr rfl
    · rcases f.1 rfl with e | e
      · exact ⟨0, by omega, e⟩
      · exact ⟨1, by omega, e⟩
  · refine br_t (by decide) (br_t rfl (br_f (by decide) (br_f (by decide) (yw_inN hn (fun q => br_f (by decide) (br_t (by decide) (br_t (by decide) (yes ⟨fun _ => by omega, fun _ => q, fun _ => by omega, fun _ => by omega⟩)))) (fun q => br_t rfl (no (fun f => q (f.2.1 (by omega)))))))))
  · have e2 : ¬ nI kd = 2 := fun q => by have := (nI_eq (a := kd) (b := 2) (by omega) (by omega)).mp q; omega
    have e3 : ¬ nI kd = 3 := fun q => by have := (nI_eq (a := kd) (b := 3) (by omega) (by omega)).mp q; omega
    have e7 : ¬ nI kd = 7 := fun q => by have := (nI_eq (a := kd) (b := 7) (by omega) (by omega)).mp q; omega
    refine br_t (nI_le (a := 3) (by omega) (by omega)) (br_f e3 (br_f e7 (br_f e2 (br_f (by decide) (yw_inN hn (fun q => br_f (by decide) (br_f (by decide) (yw_inN hn (fun q2 => br_f (by decide) (br_t (by decide) (yes ⟨fun _ => by omega, fun _ => q, fun _ => q2, fun _ => by omega⟩))) (fun q2 => br_t rfl (no (fun f => q2 (f.2.2.1 (by omega)))))))) (fun q => br_t rfl (no (fun f => q (f.2.1 (by omega))))))))))
  · refine br_t (by decide) (br_f (by decide) (br_t rfl (br_f (by decide) (br_f (by decide) (yw_inN hn (fun q => br_f (by decide) (br_f (by decide) (yw_inN hn (fun q2 => br_f (by decide) (br_f (by decide) (yw_inN hn (fun q3 => br_f (by decide) (yes ⟨fun _ => by omega, fun _ => q, fun _ => q2, fun _ => q3⟩)) (fun q3 => br_t rfl (no (fun f => q3 (f.2.2.2 (by omega)))))))) (fun q2 => br_t rfl (no (fun f => q2 (f.2.2.1 (by omega)))))))) (fun q => br_t rfl (no (fun f => q (f.2.1 (by omega))))))))))
/-- the operands that are written down -/
def OPS (kd : Nat) (x y z : Int32) (o1 o2 o3 : Nat) : Prop := (2 ≤ kd → x = nI o1) ∧ (kd < 2 → o1 = 0) ∧ (4 ≤ kd → y = nI o2) ∧ (kd < 4 → o2 = 0) ∧ (7 ≤ kd → z = nI o3) ∧ (kd < 7 → o3 = 0) ∧ o1 < 32 ∧ o2 < 32 ∧ o3 < 32
theorem fit_ops {kd n : Nat} (hn : n ≤ 32) {x y z : Int32} (h : FIT kd n x y z) : ∃ o1 o2 o3, OPS kd x y z o1 o2 o3 ∧ (3 ≤ kd → o1 < n) ∧ (4 ≤ kd → o2 < n) ∧ (7 ≤ kd → o3 < n) := by
  obtain ⟨h1, h2, h3, h4⟩ := h
  have e1 : ∃ o1, (2 ≤ kd → x = nI o1) ∧ (kd < 2 → o1 = 0) ∧ o1 < 32 ∧ (3 ≤ kd → o1 < n) := by
    by_cases a : kd < 2
    · exact ⟨0, fun q => by omega, fun _ => rfl, by omega, fun q => by omega⟩
    · by_cases b : kd = 2
      · rcases h1 b with e | e
        · exact ⟨0, fun _ => e, fun _ => rfl, by omega, fun q => by omega⟩
        · exact ⟨1, fun _ => e, fun q => by omega, by omega, fun q => by omega⟩
      · obtain ⟨j, hj, e⟩ := h2 (by omega)
        exact ⟨j, fun _ => e, fun q => by omega, by omega, fun _ => hj⟩
  have e2 : ∃ o2, (4 ≤ kd → y = nI o2) ∧ (kd < 4 → o2 = 0) ∧ o2 < 32 ∧ (4 ≤ kd → o2 < n) := by
    by_cases a : kd < 4
    · exact ⟨0, fun q => by omega, fun _ => rfl, by omega, fun q => by omega⟩
    · obtain ⟨j, hj, e⟩ := h3 (by omega)
      exact ⟨j, fun _ => e, fun q => by omega, by omega, fun _ => hj⟩
  have e3 : ∃ o3, (7 ≤ kd → z = nI o3) ∧ (kd < 7 → o3 = 0) ∧ o3 < 32 ∧ (7 ≤ kd → o3 < n) := by
    by_cases a : kd < 7
    · exact ⟨0, fun q => by omega, fun _ => rfl, by omega, fun q => by omega⟩
    · obtain ⟨j, hj, e⟩ := h4 (by omega)
      exact ⟨j, fun _ => e, fun q => by omega, by omega, fun _ => hj⟩
  obtain ⟨o1, a1, a2, a3, a4⟩ := e1
  obtain ⟨o2, b1, b2, b3, b4⟩ := e2
  obtain ⟨o3, d1, d2, d3, d4⟩ := e3
  exact ⟨o1, o2, o3, ⟨a1, a2, b1, b2, d1, d2, a3, b3, d3⟩, a4, b4, d4⟩
def uK (c : CK) (n kd : Nat) : Nat → Nat := fun i => if i = n then kd else cK c i
def uO (c : CK) (n o1 o2 o3 : Nat) : Nat → Nat := fun j => if j = 3 * n + 2 then o3 else if j = 3 * n + 1 then o2 else if j = 3 * n then o1 else cO c j
theorem uK_x (c : CK) (n kd : Nat) : upd (xK c) n (nI kd) = fun i => nI (uK c n kd i) := by
  funext i
  show (if i = n then nI kd else xK c i) = nI (if i = n then kd else cK c i)
  by_cases e : i = n
  · rw [if_pos e, if_pos e]
  · rw [if_neg e, if_neg e]; rfl
theorem uO_x (c : CK) (n o1 o2 o3 : Nat) : upd (upd (upd (xO c) (3 * n) (nI o1)) (3 * n + 1) (nI o2)) (3 * n + 2) (nI o3) = fun j => nI (uO c n o1 o2 o3 j) := by
  funext j
  show (if j = 3 * n + 2 then nI o3 else if j = 3 * n + 1 then nI o2 else if j = 3 * n then nI o1 else xO c j) = nI (if j = 3 * n + 2 then o3 else if j = 3 * n + 1 then o2 else if j = 3 * n then o1 else cO c j)
  by_cases e : j = 3 * n + 2
  · rw [if_pos e, if_pos e]
  · rw [if_neg e, if_neg e]
    by_cases e2 : j = 3 * n + 1
    · rw [if_pos e2, if_pos e2]
    · rw [if_neg e2, if_neg e2]
      by_cases e3 : j = 3 * n
      · rw [if_pos e3, if_pos e3]
      · rw [if_neg e3, if_neg e3]; rfl
theorem uO_lo {c : CK} {n o1 o2 o3 m i : Nat} (h : m ≠ n) (hi : i < 3) : uO c n o1 o2 o3 (3 * m + i) = cO c (3 * m + i) := by
  unfold uO
  rw [if_neg (by omega), if_neg (by omega), if_neg (by omega)]
theorem uO_1 {c : CK} {n o1 o2 o3 : Nat} : uO c n o1 o2 o3 (3 * n) = o1 := by
  unfold uO
  rw [if_neg (by omega), if_neg (by omega), if_pos rfl]
theorem uO_2 {c : CK} {n o1 o2 o3 : Nat} : uO c n o1 o2 o3 (3 * n + 1) = o2 := by
  unfold uO
  rw [if_neg (by omega), if_pos rfl]
theorem uO_3 {c : CK} {n o1 o2 o3 : Nat} : uO c n o1 o2 o3 (3 * n + 2) = o3 := by
  unfold uO
  rw [if_pos rfl]
theorem uO_32 {c : CK} (w : WF c) {n o1 o2 o3 : Nat} (h1 : o1 < 32) (h2 : o2 < 32) (h3 : o3 < 32) (j : Nat) : uO c n o1 o2 o3 j < 32 := by
  unfold uO
  split
  · exact h3
  · split
    · exact h2
    · split
      · exact h1
      · exact wf_O w j
section
variable {c : CK} {f_now : Int32} {f_right : Int32} {f_levelsKnown : Int32} {f_head : Int32} {f_tail : Int32} {f_met : Int64} {f_comesKnown : Int32} {f_entry : Int32} {f_round : Int32} {a_table : Nat → Int64} {a_saved : Nat → Int64} {a_matters : Nat → Int32} {a_cubes : Nat → Int64} {a_levels : Nat → Int32} {a_edgeFlow : Nat → Int32} {a_netFlow : Nat → Int32} {a_queue : Nat → Int32} {a_before : Nat → Int32} {a_edge : Nat → Int32} {a_leads : Nat → Int64} {a_comes : Nat → Int32} {a_group : Nat → Int32} {a_later : Nat → Int32} {a_goes : Nat → Int32} {a_shows : Nat → Int32} {fN : Int32}
theorem xw_put (w : WF c) {r n kd o1 o2 o3 : Nat} (hr : r ≤ 32) (hn : n < 32) (hk : kd ≤ 7) {x y z : Int32} (ho : OPS kd x y z o1 o2 o3) {post : SX → Prop}
    (h : post (fN, nI (cS c), nI (cR c), f_now, nI (if r ≤ n then r else n), 0, f_head, f_tail, f_met, 0, f_entry, f_round, fun i => nI (uK c n kd i), fun j => nI (uO c n o1 o2 o3 j), xF c, xA c, xG c, xB c, a_table, a_saved, a_matters, a_cubes, a_levels, a_edgeFlow, a_netFlow, a_queue, a_before, a_edge, a_leads, a_comes, a_group, a_later, a_goes, a_shows)) : wpX_put post (fN, nI (cS c), nI (cR c), f_now, nI r, f_levelsKnown, f_head, f_tail, f_met, f_comesKnown, f_entry, f_round, xK c, xO c, xF c, xA c, xG c, xB c, a_table, a_saved, a_matters, a_cubes, a_levels, a_edgeFlow, a_netFlow, a_queue, a_before, a_edge, a_leads, a_comes, a_group, a_later, a_goes, a_shows) (nI n) (nI kd) x y z := by
  obtain ⟨b1, b2, b3, b4, b5, b6, b7, b8, b9⟩ := ho
  have cf : ∀ ak ao, post (fN, nI (cS c), nI (cR c), f_now, nI (if r ≤ n then r else n), 0, f_head, f_tail, f_met, 0, f_entry, f_round, ak, ao, xF c, xA c, xG c, xB c, a_table, a_saved, a_matters, a_cubes, a_levels, a_edgeFlow, a_netFlow, a_queue, a_before, a_edge, a_leads, a_comes, a_group, a_later, a_goes, a_shows) → wpX_changedFrom post (fN, nI (cS c), nI (cR c), f_now, nI r, f_levelsKnown, f_head, f_tail, f_met, f_comesKnown, f_entry, f_round, ak, ao, xF c, xA c, xG c, xB c, a_table, a_saved, a_matters, a_cubes, a_levels, a_edgeFlow, a_netFlow, a_queue, a_before, a_edge, a_leads, a_comes, a_group, a_later, a_goes, a_shows) (nI n) := fun ak ao hp => by
    dsimp only [wpX_changedFrom]
    refine pk_le r n (fun q => ?_) (fun q => ?_)
    · rw [if_pos q] at hp; exact hp
    · rw [if_neg (by omega)] at hp; exact hp
  rw [← uK_x, ← uO_x] at h
  have ar : ∀ (P : Int32 → Prop), (kd < 2 → P 0) → (2 ≤ kd → kd < 4 → P 1) → (4 ≤ kd → kd < 7 → P 2) → (7 ≤ kd → P 3) → wpX_arity P (nI kd) := fun P p0 p1 p2 p3 => by
    unfold wpX_arity
    refine pk_le 2 kd (fun q => pk_le 4 kd (fun q2 => pk_le 7 kd (fun q3 => p3 q3) (fun q3 => p2 q2 q3)) (fun q2 => p1 q q2)) (fun q => p0 q)
  have n1 : ∀ o, o < 32 → vp_nar .byte (nI o).toInt8.toInt32 = nI o := fun o ho => gw_nbyte2 (by omega)
  have e3 : (3 : Int32) * nI n = nI (3 * n) := pk_mul 3 n
  have e31 : nI (3 * n) + 1 = nI (3 * n + 1) := nI_1 _
  have e32 : nI (3 * n) + 2 = nI (3 * n + 2) := nI_add _ 2
  have put3 : ∀ ak ao, post (fN, nI (cS c), nI (cR c), f_now, nI (if r ≤ n then r else n), 0, f_head, f_tail, f_met, 0, f_entry, f_round, ak, upd ao (3 * n + 2) (nI o3), xF c, xA c, xG c, xB c, a_table, a_saved, a_matters, a_cubes, a_levels, a_edgeFlow, a_netFlow, a_queue, a_before, a_edge, a_leads, a_comes, a_group, a_later, a_goes, a_shows) → wX_put_77 post (nI n) (nI o3) (nI (3 * n + 2)) fN (nI (cS c)) (nI (cR c)) f_now (nI r) f_levelsKnown f_head f_tail f_met f_comesKnown f_entry f_round ak ao (xF c) (xA c) (xG c) (xB c) a_table a_saved a_matters a_cubes a_levels a_edgeFlow a_netFlow a_queue a_before a_edge a_leads a_comes a_group a_later a_goes a_shows := fun ak ao hp => by
    unfold wX_put_77
    rw [gw_cl (by omega), n1 o3 b9]
    exact ⟨vp_in_nI (by omega) (by omega), nm_e (cf _ _ hp)⟩
  have put2 : ∀ ak ao (x6 : Int32), ((x6 ≤ 2 ∧ o3 = 0) ∨ (¬ x6 ≤ 2 ∧ z = nI o3)) → post (fN, nI (cS c), nI (cR c), f_now, nI (if r ≤ n then r else n), 0, f_head, f_tail, f_met, 0, f_entry, f_round, ak, upd (upd ao (3 * n + 1) (nI o2)) (3 * n + 2) (nI o3), xF c, xA c, xG c, xB c, a_table, a_saved, a_matters, a_cubes, a_levels, a_edgeFlow, a_netFlow, a_queue, a_before, a_edge, a_leads, a_comes, a_group, a_later, a_goes, a_shows) → wX_put_54 post (nI n) z x6 (nI o2) (nI (3 * n + 1)) fN (nI (cS c)) (nI (cR c)) f_now (nI r) f_levelsKnown f_head f_tail f_met f_comesKnown f_entry f_round ak ao (xF c) (xA c) (xG c) (xB c) a_table a_saved a_matters a_cubes a_levels a_edgeFlow a_netFlow a_queue a_before a_edge a_leads a_comes a_group a_later a_goes a_shows := fun ak ao x6 hx hp => by
    unfold wX_put_54
    rw [gw_cl (by omega), n1 o2 b8, e3, e32]
    refine ⟨vp_in_nI (by omega) (by omega), nm_e ?_⟩
    have := put3 ak _ hp
    rcases hx with ⟨q1, q2⟩ | ⟨q1, q2⟩
    · rw [q2] at this
      exact br_t q1 this
    · rw [← q2] at this
      exact br_f q1 this
  have put1 : ∀ ak ao (x6 : Int32), ((x6 ≤ 1 ∧ o2 = 0) ∨ (¬ x6 ≤ 1 ∧ y = nI o2)) → ((x6 ≤ 2 ∧ o3 = 0) ∨ (¬ x6 ≤ 2 ∧ z = nI o3)) → post (fN, nI (cS c), nI (cR c), f_now, nI (if r ≤ n then r else n), 0, f_head, f_tail, f_met, 0, f_entry, f_round, ak, upd (upd (upd ao (3 * n) (nI o1)) (3 * n + 1) (nI o2)) (3 * n + 2) (nI o3), xF c, xA c, xG c, xB c, a_table, a_saved, a_matters, a_cubes, a_levels, a_edgeFlow, a_netFlow, a_queue, a_before, a_edge, a_leads, a_comes, a_group, a_later, a_goes, a_shows) → wX_put_31 post (nI n) y z x6 (nI o1) (nI (3 * n)) fN (nI (cS c)) (nI (cR c)) f_now (nI r) f_levelsKnown f_head f_tail f_met f_comesKnown f_entry f_round ak ao (xF c) (xA c) (xG c) (xB c) a_table a_saved a_matters a_cubes a_levels a_edgeFlow a_netFlow a_queue a_before a_edge a_leads a_comes a_group a_later a_goes a_shows := fun ak ao x6 hx hx2 hp => by
    unfold wX_put_31
    rw [gw_cl (by omega), n1 o1 b7, e3, e31]
    refine ⟨vp_in_nI (by omega) (by omega), nm_e ?_⟩
    have := put2 ak _ x6 hx2 hp
    rcases hx with ⟨q1, q2⟩ | ⟨q1, q2⟩
    · rw [q2] at this
      exact br_t q1 this
    · rw [← q2] at this
      exact br_f q1 this
  dsimp only [wpX_put]
  rw [gw_cl (by omega), gw_nbyte2 (show kd < 128 by omega), e3]
  refine ar _ (fun q => ⟨vp_in_nI hn (by omega), nm_e ?_⟩) (fun q q2 => ⟨vp_in_nI hn (by omega), nm_e ?_⟩) (fun q q2 => ⟨vp_in_nI hn (by omega), nm_e ?_⟩) (fun q => ⟨vp_in_nI hn (by omega), nm_e ?_⟩)
  · have := put1 _ _ 0 (Or.inl ⟨by decide, b4 (by omega)⟩) (Or.inl ⟨by decide, b6 (by omega)⟩) h
    rw [b2 q] at this
    exact br_t (by decide) this
  · have := put1 _ _ 1 (Or.inl ⟨by decide, b4 (by omega)⟩) (Or.inl ⟨by decide, b6 (by omega)⟩) h
    rw [← b1 q] at this
    exact br_f (by decide) this
  · have := put1 _ _ 2 (Or.inr ⟨by decide, b3 (by omega)⟩) (Or.inl ⟨by decide, b6 (by omega)⟩) h
    rw [← b1 (by omega)] at this
    exact br_f (by decide) this
  · have := put1 _ _ 3 (Or.inr ⟨by decide, b3 (by omega)⟩) (Or.inr ⟨by decide, b5 (by omega)⟩) h
    rw [← b1 (by omega)] at this
    exact br_f (by decide) this
end
/-! change -/
def cch (c : CK) (n kd o1 o2 o3 : Nat) : CK := (cN c, cS c, cR c, uK c n kd, uO c n o1 o2 o3, cF c, cA c, cG c, cB c)
theorem cch_wf {c : CK} (w : WF c) {n kd o1 o2 o3 : Nat} (hn : n < cN c) (hkn : 2 ≤ cK c n) (hk2 : 2 ≤ kd) (hk : kd ≤ 7) (h1 : o1 < 32) (h2 : o2 < 32) (h3 : o3 < 32) (g1 : 3 ≤ kd → o1 < n) (g2 : 4 ≤ kd → o2 < n) (g3 : 7 ≤ kd → o3 < n) : WF (cch c n kd o1 o2 o3) := by
  have uk : ∀ m, m ≠ n → uK c n kd m = cK c m := fun m hm => if_neg hm
  have un : uK c n kd n = kd := if_pos rfl
  have u0 : ∀ m, m ≠ n → uO c n o1 o2 o3 (3 * m) = cO c (3 * m) := fun m hm => uO_lo (i := 0) hm (by omega)
  refine ⟨w.1, w.2.1, w.2.2.1, fun m => ?_, fun j => uO_32 w h1 h2 h3 j, w.2.2.2.2.2.1, fun m hm q => ?_, fun m hm q => ?_, fun m hm q => ?_, fun i hi => ⟨wf_A w hi, ?_⟩, w.2.2.2.2.2.2.2.2.2.2.1, fun m hm q => ?_, fun i hi => ⟨wf_B w hi, wf_G w hi, ?_, wf_GF w hi⟩, w.2.2.2.2.2.2.2.2.2.2.2.2.2.1, fun m hm q => ?_⟩
  · show uK c n kd m ≤ 7
    by_cases e : m = n
    · rw [e, un]; exact hk
    · rw [uk m e]; exact wf_K w m
  · have q : 3 ≤ uK c n kd m := q
    show uO c n o1 o2 o3 (3 * m) < m
    by_cases e : m = n
    · subst e; rw [un] at q; rw [uO_1]; exact g1 q
    · rw [uk m e] at q; rw [u0 m e]; exact wf_o1 w hm q
  · have q : 4 ≤ uK c n kd m := q
    show uO c n o1 o2 o3 (3 * m + 1) < m
    by_cases e : m = n
    · subst e; rw [un] at q; rw [uO_2]; exact g2 q
    · rw [uk m e] at q; rw [uO_lo e (by omega)]; exact wf_o2 w hm q
  · have q : 7 ≤ uK c n kd m := q
    show uO c n o1 o2 o3 (3 * m + 2) < m
    by_cases e : m = n
    · subst e; rw [un] at q; rw [uO_3]; exact g3 q
    · rw [uk m e] at q; rw [uO_lo e (by omega)]; exact wf_o3 w hm q
  · have := wf_AK w hi
    show uK c n kd (cA c i) < 2
    rw [uk _ (fun e => by rw [e] at this; omega)]
    exact this
  · have q : uK c n kd m < 2 := q
    by_cases e : m = n
    · subst e; rw [un] at q; omega
    · rw [uk m e] at q; exact wf_Ax w hm q
  · have := wf_GK w hi
    show uK c n kd (cG c i) = 1
    rw [uk _ (fun e => by rw [e] at this; omega)]
    exact this
  · have q : uK c n kd m = 1 := q
    by_cases e : m = n
    · subst e; rw [un] at q; omega
    · rw [uk m e] at q; exact wf_Gx w hm q
section
variable {c : CK} {f_now : Int32} {f_right : Int32} {f_levelsKnown : Int32} {f_head : Int32} {f_tail : Int32} {f_met : Int64} {f_comesKnown : Int32} {f_entry : Int32} {f_round : Int32} {a_table : Nat → Int64} {a_saved : Nat → Int64} {a_matters : Nat → Int32} {a_cubes : Nat → Int64} {a_levels : Nat → Int32} {a_edgeFlow : Nat → Int32} {a_netFlow : Nat → Int32} {a_queue : Nat → Int32} {a_before : Nat → Int32} {a_edge : Nat → Int32} {a_leads : Nat → Int64} {a_comes : Nat → Int32} {a_group : Nat → Int32} {a_later : Nat → Int32} {a_goes : Nat → Int32} {a_shows : Nat → Int32}
theorem xm_change (w : WF c) {now : Nat} {u : SX} (hX : XR c now u) {n kd : Nat} (hn : n < cN c) (hkn : 2 ≤ cK c n) (hk2 : 2 ≤ kd) (hk : kd ≤ 7) {x y z : Int32} (hf : FIT kd n x y z) {o1 o2 o3 : Nat} (ho : OPS kd x y z o1 o2 o3) (w' : WF (cch c n kd o1 o2 o3)) {post : Int32 → SX → Prop} (h : ∀ u', XR (cch c n kd o1 o2 o3) now u' → post 1 u') : wpX_change post u (nI n) (nI kd) x y z := by
  have hN := wf_N w
  have k7 := wf_K w n
  refine xr_el (P := fun u => wpX_change post u (nI n) (nI kd) x y z) hX ?_
  intro r f_levelsKnown f_head f_tail f_met f_comesKnown f_entry f_round a_table a_saved a_matters a_cubes a_levels a_edgeFlow a_netFlow a_queue a_before a_edge a_leads a_comes a_group a_later a_goes a_shows hr ht hl hc
  dsimp only [wpX_change]
  refine xw_isNet_t w hn (br_f (by decide) ?_)
  rw [gw_cl (by omega), xK_ap]
  refine ⟨vp_in_nI (by omega) (by omega), br_f (nI_nlt (b := 2) hkn (by omega)) (br_f (nI_nlt (b := 2) hk2 (by omega)) (br_f (nI_nlt (a := 7) hk (by omega)) (xw_fits hk (by omega) (fun q hq => ?_))))⟩
  rcases hq with ⟨rfl, hq⟩ | ⟨rfl, hq⟩
  · refine br_f (by decide) (xw_put w (by omega) (by omega) hk ho ?_)
    dsimp only
    have hle : (if r ≤ n then r else n) ≤ n := by split <;> omega
    have hle2 : (if r ≤ n then r else n) ≤ r := by split <;> omega
    refine h _ (xr_in (c := cch c n kd o1 o2 o3) (show _ ≤ cN c by omega) (tbl_cc w w' (by omega) (show _ ≤ cN c by omega) (fun m hm => if_neg (by omega)) (fun m hm i hi => uO_lo (by omega) hi) rfl (fun _ _ => rfl) (tbl_le ht hle2)) (lv_0 _ _) (cm_0 _ _))
  · exact absurd hf hq
/-- why a change is refused -/
def NOC (c : CK) (p q x y z : Int32) : Prop := (p < 0 ∨ nI (cN c) ≤ p) ∨ ∃ n, n < cN c ∧ p = nI n ∧ (cK c n < 2 ∨ (2 ≤ cK c n ∧ ((q < 0 ∨ nI 8 ≤ q) ∨ ∃ kd, kd ≤ 7 ∧ q = nI kd ∧ (kd < 2 ∨ (2 ≤ kd ∧ ¬ FIT kd n x y z)))))
theorem xm_change_no (w : WF c) {now : Nat} {u : SX} (hX : XR c now u) {p q x y z : Int32} (hno : NOC c p q x y z) {post : Int32 → SX → Prop} (h : post 0 u) : wpX_change post u p q x y z := by
  have hN := wf_N w
  revert h
  refine xr_el (P := fun u => post 0 u → wpX_change post u p q x y z) hX ?_
  intro r f_levelsKnown f_head f_tail f_met f_comesKnown f_entry f_round a_table a_saved a_matters a_cubes a_levels a_edgeFlow a_netFlow a_queue a_before a_edge a_leads a_comes a_group a_later a_goes a_shows hr ht hl hc hu
  dsimp only [wpX_change]
  rcases hno with hp | ⟨n, hn, rfl, hno⟩
  · exact xw_isNet_f w hp (br_t rfl hu)
  · have k7 := wf_K w n
    refine xw_isNet_t w hn (br_f (by decide) ?_)
    rw [gw_cl (by omega), xK_ap]
    refine ⟨vp_in_nI (by omega) (by omega), ?_⟩
    rcases hno with hk | ⟨hk, hno⟩
    · exact br_t (nI_lt (b := 2) hk (by omega)) hu
    · refine br_f (nI_nlt (b := 2) hk (by omega)) ?_
      rcases hno with (hq | hq) | ⟨kd, hk7, rfl, hno⟩
      · exact br_t (Int32.lt_of_lt_of_le hq (by decide)) hu
      · exact br_f (Int32.not_lt.mpr (Int32.le_trans (show (2 : Int32) ≤ nI 8 by decide) hq)) (br_t (Int32.lt_of_lt_of_le (show (7 : Int32) < nI 8 by decide) hq) hu)
      · rcases hno with hk2 | ⟨hk2, hf⟩
        · exact br_t (nI_lt (b := 2) hk2 (by omega)) hu
        · refine br_f (nI_nlt (b := 2) hk2 (by omega)) (br_f (nI_nlt (a := 7) hk7 (by omega)) (xw_fits hk7 (by omega) (fun s hs => ?_)))
          rcases hs with ⟨rfl, hs⟩ | ⟨rfl, hs⟩
          · exact absurd hs hf
          · exact br_t rfl hu
end
section
variable {c : CK} {a_first : Nat → Int32} {a_second : Nat → Int32} {a_third : Nat → Int32} {a_now : Nat → Int32} {a_at : Nat → Int32} {a_other : Nat → Int32} {a_source : Nat → Int32} {a_register : Nat → Int32} {a_level : Nat → Int32} {a_soon : Nat → Int32} {a_depend : Nat → Int32} {a_table : Nat → Int32} {a_marked : Nat → Int32} {a_after : Nat → Int32} {a_shows : Nat → Int32} {a_apart : Nat → Int32}
theorem ys_ch {a_first a_second a_third a_source a_register : Nat → Int32} (hY : YS c a_first a_second a_third a_source a_register) {n kd o1 o2 o3 : Nat} {x y z : Int32} (ho : OPS kd x y z o1 o2 o3) {c' : CK} (hN : ∀ m, m < cN c' → m < cN c ∨ m = n) (hK : cK c' = uK c n kd) (hO : cO c' = uO c n o1 o2 o3) (hs : ∀ i, i < cS c' → a_source i = nI (cA c' i)) (hr : ∀ i, i < cR c' → a_register i = nI (cG c' i)) : YS c' (upd a_first n x) (upd a_second n y) (upd a_third n z) a_source a_register := by
  obtain ⟨b1, b2, b3, b4, b5, b6, b7, b8, b9⟩ := ho
  have uk : ∀ m, m ≠ n → uK c n kd m = cK c m := fun m hm => if_neg hm
  have un : uK c n kd n = kd := if_pos rfl
  refine ⟨fun m hm q => ?_, fun m hm q => ?_, fun m hm q => ?_, hs, hr⟩
  · rw [hK] at q
    rw [hO]
    by_cases e : m = n
    · subst e; rw [un] at q; rw [pk_us, uO_1]; exact b1 q
    · rw [uk m e] at q
      rw [pk_un e, show uO c n o1 o2 o3 (3 * m) = cO c (3 * m) from uO_lo (i := 0) e (by omega)]
      exact hY.1 m (by have := hN m hm; omega) q
  · rw [hK] at q
    rw [hO]
    by_cases e : m = n
    · subst e; rw [un] at q; rw [pk_us, uO_2]; exact b3 q
    · rw [uk m e] at q
      rw [pk_un e, uO_lo e (by omega)]
      exact hY.2.1 m (by have := hN m hm; omega) q
  · rw [hK] at q
    rw [hO]
    by_cases e : m = n
    · subst e; rw [un] at q; rw [pk_us, uO_3]; exact b5 q
    · rw [uk m e] at q
      rw [pk_un e, uO_lo e (by omega)]
      exact hY.2.2.1 m (by have := hN m hm; omega) q
theorem ym_change (w : WF c) {now : Nat} {v : SY} (hv : YR c now v) {n kd : Nat} (hn : n < cN c) (hkn : 2 ≤ cK c n) (hk2 : 2 ≤ kd) (hk : kd ≤ 7) {x y z : Int32} (hf : FIT kd n x y z) {o1 o2 o3 : Nat} (ho : OPS kd x y z o1 o2 o3) {post : Int32 → SY → Prop} (h : ∀ v', YR (cch c n kd o1 o2 o3) now v' → post 1 v') : wpY_change post v (nI n) (nI kd) x y z := by
  have hN := wf_N w
  refine yr_el (P := fun v => wpY_change post v (nI n) (nI kd) x y z) hv ?_
  intro a_first a_second a_third a_now a_at a_other a_source a_register a_level a_soon a_depend a_table a_marked a_after a_shows a_apart hY hnow
  dsimp only [wpY_change]
  refine yw_isNet_t w hn (br_f (by decide) (yw_isSource_g w hn hkn (br_t rfl ?_)))
  unfold wpY_in
  refine br_f (nI_nlt (b := 2) hk2 (by omega)) (br_f (nI_nlt (a := 7) hk (by omega)) (br_f (by decide) (yw_fit hk (by omega) (fun q hq => ?_))))
  rcases hq with ⟨rfl, hq⟩ | ⟨rfl, hq⟩
  · refine br_f (by decide) ?_
    dsimp only [wpY_put]
    rw [gw_cl (by omega), uK_x]
    refine ⟨vp_in_nI (by omega) (by omega), nm_e ⟨vp_in_nI (by omega) (by omega), nm_e ⟨vp_in_nI (by omega) (by omega), nm_e ⟨vp_in_nI (by omega) (by omega), nm_e (h _ ?_)⟩⟩⟩⟩
    exact yr_in (c := cch c n kd o1 o2 o3) (ys_ch hY ho (fun m hm => Or.inl hm) rfl rfl hY.2.2.2.1 hY.2.2.2.2) hnow
  · exact absurd hf hq
theorem ym_change_no (w : WF c) {now : Nat} {v : SY} (hv : YR c now v) {p q x y z : Int32} (hno : NOC c p q x y z) {post : Int32 → SY → Prop} (h : post 0 v) : wpY_change post v p q x y z := by
  have hN := wf_N w
  revert h
  refine yr_el (P := fun v => post 0 v → wpY_change post v p q x y z) hv ?_
  intro a_first a_second a_third a_now a_at a_other a_source a_register a_level a_soon a_depend a_table a_marked a_after a_shows a_apart hY hnow hu
  dsimp only [wpY_change]
  rcases hno with hp | ⟨n, hn, rfl, hno⟩
  · exact yw_isNet_f w hp (br_t rfl hu)
  · have k7 := wf_K w n
    refine yw_isNet_t w hn (br_f (by decide) ?_)
    rcases hno with hk | ⟨hk, hno⟩
    · exact yw_isSource_t w hn hk (br_f (by decide) hu)
    · refine yw_isSource_g w hn hk (br_t rfl ?_)
      unfold wpY_in
      rcases hno with (hq | hq) | ⟨kd, hk7, rfl, hno⟩
      · exact br_t (Int32.lt_of_lt_of_le hq (by decide)) (br_t rfl hu)
      · exact br_f (Int32.not_lt.mpr (Int32.le_trans (show (2 : Int32) ≤ nI 8 by decide) hq)) (br_t (Int32.lt_of_lt_of_le (show (7 : Int32) < nI 8 by decide) hq) (br_t rfl hu))
      · rcases hno with hk2 | ⟨hk2, hf⟩
        · exact br_t (nI_lt (b := 2) hk2 (by omega)) (br_t rfl hu)
        · refine br_f (nI_nlt (b := 2) hk2 (by omega)) (br_f (nI_nlt (a := 7) hk7 (by omega)) (br_f (by decide) (yw_fit hk7 (by omega) (fun s hs => ?_))))
          rcases hs with ⟨rfl, hs⟩ | ⟨rfl, hs⟩
          · exact absurd hs hf
          · exact br_t rfl hu
end
end
section
/-! ===== Y: order; add ===== -/
section
variable {c : CK} {a_first : Nat → Int32} {a_second : Nat → Int32} {a_third : Nat → Int32} {a_now : Nat → Int32} {a_at : Nat → Int32} {a_other : Nat → Int32} {a_source : Nat → Int32} {a_register : Nat → Int32} {a_level : Nat → Int32} {a_soon : Nat → Int32} {a_depend : Nat → Int32} {a_table : Nat → Int32} {a_marked : Nat → Int32} {a_after : Nat → Int32} {a_shows : Nat → Int32} {a_apart : Nat → Int32}
theorem wf_Gm (w : WF c) {i j : Nat} (h : i < j) (hj : j < cR c) : cG c i < cG c j := by
  rw [wf_G w (by omega), wf_G w hj]
  exact wf_Am w (wf_Bm w h hj) (wf_B w hj)
theorem yw_order12 (w : WF c) {post : SY → Prop} (h : ∀ so re, (∀ i, i < cS c → so i = nI (cA c i)) → (∀ i, i < cR c → re i = nI (cG c i)) → post (nI (cN c), nI (cS c), nI (cR c), xK c, a_first, a_second, a_third, xF c, a_now, a_at, a_other, so, re, a_level, a_soon, a_depend, a_table, a_marked, a_after, a_shows, a_apart)) :
    ∀ d n fu s r so re, n + d = cN c → d < fu → s ≤ cS c → (∀ i, i < s → cA c i < n) → (∀ i, s ≤ i → i < cS c → n ≤ cA c i) → r ≤ cR c → (∀ i, i < r → cG c i < n) → (∀ i, r ≤ i → i < cR c → n ≤ cG c i) → (∀ i, i < s → so i = nI (cA c i)) → (∀ i, i < r → re i = nI (cG c i)) →
      wY_order_12 post (nI (cN c)) fu (nI n) (nI s) (nI r) (xK c) a_first a_second a_third (xF c) a_now a_at a_other so re a_level a_soon a_depend a_table a_marked a_after a_shows a_apart := by
  have hN := wf_N w
  have hS := wf_S w
  have hR := wf_R w
  intro d
  induction d with
  | zero =>
    intro n fu s r so re hn hf hs s1 s2 hr r1 r2 hso hre
    obtain ⟨fu, rfl⟩ : ∃ k', fu = k' + 1 := ⟨fu - 1, by omega⟩
    have e1 : s = cS c := by
      apply Classical.byContradiction
      intro z
      have a1 := s2 s (Nat.le_refl _) (by omega)
      have a2 := wf_A w (show s < cS c by omega)
      omega
    have e2 : r = cR c := by
      apply Classical.byContradiction
      intro z
      have a1 := r2 r (Nat.le_refl _) (by omega)
      have a2 := wf_GN w (show r < cR c by omega)
      omega
    subst e1 e2
    unfold wY_order_12
    exact br_t (nI_le (by omega) (by omega)) (h so re hso hre)
  | succ d ih =>
    intro n fu s r so re hn hf hs s1 s2 hr r1 r2 hso hre
    obtain ⟨fu, rfl⟩ : ∃ k', fu = k' + 1 := ⟨fu - 1, by omega⟩
    have hn' : n < cN c := by omega
    have k7 := wf_K w n
    have h47 : ∀ s' so', s' ≤ cS c → (∀ i, i < s' → cA c i < n + 1) → (∀ i, s' ≤ i → i < cS c → n + 1 ≤ cA c i) → (∀ i, i < s' → so' i = nI (cA c i)) → wY_order_47 post (wY_order_12 post (nI (cN c)) fu) (nI n) (nI (cN c)) (nI s') (nI r) (xK c) a_first a_second a_third (xF c) a_now a_at a_other so' re a_level a_soon a_depend a_table a_marked a_after a_shows a_apart := by
      intro s' so' b1 b2 b3 b4
      unfold wY_order_47
      rw [gw_cl (by omega), xK_ap]
      refine ⟨vp_in_nI (by omega) (by omega), pk_eq (cK c n) 1 (fun e => ?_) (fun e => nm_r (nI_1 n) (ih (n + 1) fu s' r so' re (by omega) (by omega) b1 b2 b3 hr (fun i hi => by have := r1 i hi; omega) (fun i hi1 hi2 => ?_) b4 hre))⟩
      · obtain ⟨i, hi, ei⟩ := wf_Gx w hn' e
        have hri : r ≤ i := by
          apply Classical.byContradiction
          intro z
          have := r1 i (by omega)
          omega
        have hr' : r < cR c := by omega
        have e2 : cG c r = n := by
          have a1 := r2 r (Nat.le_refl _) hr'
          rcases Nat.lt_or_ge r i with q | q
          · have := wf_Gm w q hi; omega
          · have : r = i := by omega
            rw [this]; exact ei
        rw [gw_cl (by omega)]
        refine nm_r (nI_1 r) ⟨vp_in_nI (by omega) (by omega), nm_e (nm_r (nI_1 n) (ih (n + 1) fu s' (r + 1) so' _ (by omega) (by omega) b1 b2 b3 (by omega) (fun q hq => ?_) (fun q hq1 hq2 => ?_) b4 (fun q hq => ?_)))⟩
        · by_cases z : q = r
          · rw [z, e2]; omega
          · have := r1 q (by omega); omega
        · have := wf_Gm w (show r < q by omega) hq2; omega
        · by_cases z : q = r
          · rw [z, pk_us, e2]
          · rw [pk_un z]; exact hre q (by omega)
      · have := r2 i hi1 hi2
        rcases Nat.lt_or_ge n (cG c i) with q | q
        · omega
        · have e3 : cG c i = n := by omega
          have := wf_GK w hi2
          rw [e3] at this
          exact absurd this e
    unfold wY_order_12
    rw [gw_cl (show n < 2147483648 by omega), xK_ap]
    refine br_f (nI_ge (by omega) (by omega)) ⟨vp_in_nI (by omega) (by omega), pk_le 2 (cK c n) (fun e => h47 s so hs (fun i hi => by have := s1 i hi; omega) (fun i hi1 hi2 => ?_) hso) (fun e => ?_)⟩
    · have := s2 i hi1 hi2
      rcases Nat.lt_or_ge n (cA c i) with q | q
      · omega
      · have e3 : cA c i = n := by omega
        have := wf_AK w hi2
        rw [e3] at this
        omega
    · obtain ⟨i, hi, ei⟩ := wf_Ax w hn' e
      have hsi : s ≤ i := by
        apply Classical.byContradiction
        intro z
        have := s1 i (by omega)
        omega
      have hs' : s < cS c := by omega
      have e2 : cA c s = n := by
        have a1 := s2 s (Nat.le_refl _) hs'
        rcases Nat.lt_or_ge s i with q | q
        · have := wf_Am w q hi; omega
        · have : s = i := by omega
          rw [this]; exact ei
      rw [gw_cl (by omega)]
      refine nm_r (nI_1 s) ⟨vp_in_nI (by omega) (by omega), nm_e (h47 (s + 1) _ (by omega) (fun q hq => ?_) (fun q hq1 hq2 => ?_) (fun q hq => ?_))⟩
      · by_cases z : q = s
        · rw [z, e2]; omega
        · have := s1 q (by omega); omega
      · have := wf_Am w (show s < q by omega) hq2; omega
      · by_cases z : q = s
        · rw [z, pk_us, e2]
        · rw [pk_un z]; exact hso q (by omega)
theorem yw_order (w : WF c) {fs fr : Int32} {post : SY → Prop} (h : ∀ so re, (∀ i, i < cS c → so i = nI (cA c i)) → (∀ i, i < cR c → re i = nI (cG c i)) → post (nI (cN c), nI (cS c), nI (cR c), xK c, a_first, a_second, a_third, xF c, a_now, a_at, a_other, so, re, a_level, a_soon, a_depend, a_table, a_marked, a_after, a_shows, a_apart)) : wpY_order post (nI (cN c), fs, fr, xK c, a_first, a_second, a_third, xF c, a_now, a_at, a_other, a_source, a_register, a_level, a_soon, a_depend, a_table, a_marked, a_after, a_shows, a_apart) := by
  dsimp only [wpY_order]
  exact ⟨cN c + 1, yw_order12 w h (cN c) 0 _ 0 0 a_source a_register (by omega) (by omega) (by omega) (fun i hi => by omega) (fun i _ _ => Nat.zero_le _) (by omega) (fun i hi => by omega) (fun i _ _ => Nat.zero_le _) (fun i hi => by omega) (fun i hi => by omega)⟩
end
/-- the circuit with a net more -/
def cad (c : CK) (S R kd o1 o2 o3 : Nat) (A G B : Nat → Nat) : CK := (cN c + 1, S, R, uK c (cN c) kd, uO c (cN c) o1 o2 o3, fun i => if i = cN c then cN c else cF c i, A, G, B)
def up1 (f : Nat → Nat) (k x : Nat) : Nat → Nat := fun i => if i = k then x else f i
theorem up1_x {f : Nat → Nat} {k x : Nat} : upd (fun i => nI (f i)) k (nI x) = fun i => nI (up1 f k x i) := by
  funext i
  show (if i = k then nI x else nI (f i)) = nI (if i = k then x else f i)
  by_cases e : i = k
  · rw [if_pos e, if_pos e]
  · rw [if_neg e, if_neg e]
theorem up1_s {f : Nat → Nat} {k x : Nat} : up1 f k x k = x := if_pos rfl
theorem up1_n {f : Nat → Nat} {k x i : Nat} (h : i ≠ k) : up1 f k x i = f i := if_neg h
def cadd (c : CK) (kd o1 o2 o3 : Nat) : CK :=
  if 2 ≤ kd then cad c (cS c) (cR c) kd o1 o2 o3 (cA c) (cG c) (cB c)
  else if kd = 1 then cad c (cS c + 1) (cR c + 1) kd o1 o2 o3 (up1 (cA c) (cS c) (cN c)) (up1 (cG c) (cR c) (cN c)) (up1 (cB c) (cR c) (cS c))
  else cad c (cS c + 1) (cR c) kd o1 o2 o3 (up1 (cA c) (cS c) (cN c)) (cG c) (cB c)
section
variable {c : CK} {kd o1 o2 o3 : Nat}
theorem cad_pre (w : WF c) (hN : cN c < 32) (hk : kd ≤ 7) (h1 : o1 < 32) (h2 : o2 < 32) (h3 : o3 < 32) (g1 : 3 ≤ kd → o1 < cN c) (g2 : 4 ≤ kd → o2 < cN c) (g3 : 7 ≤ kd → o3 < cN c) :
    (∀ n, uK c (cN c) kd n ≤ 7) ∧ (∀ j, uO c (cN c) o1 o2 o3 j < 32) ∧ (∀ n, (if n = cN c then cN c else cF c n) < 32)
    ∧ (∀ n, n < cN c + 1 → 3 ≤ uK c (cN c) kd n → uO c (cN c) o1 o2 o3 (3 * n) < n) ∧ (∀ n, n < cN c + 1 → 4 ≤ uK c (cN c) kd n → uO c (cN c) o1 o2 o3 (3 * n + 1) < n) ∧ (∀ n, n < cN c + 1 → 7 ≤ uK c (cN c) kd n → uO c (cN c) o1 o2 o3 (3 * n + 2) < n) := by
  have uk : ∀ m, m ≠ cN c → uK c (cN c) kd m = cK c m := fun m hm => if_neg hm
  have un : uK c (cN c) kd (cN c) = kd := if_pos rfl
  refine ⟨fun m => ?_, fun j => uO_32 w h1 h2 h3 j, fun m => ?_, fun m hm q => ?_, fun m hm q => ?_, fun m hm q => ?_⟩
  · by_cases e : m = cN c
    · rw [e, un]; exact hk
    · rw [uk m e]; exact wf_K w m
  · by_cases e : m = cN c
    · rw [if_pos e]; exact hN
    · rw [if_neg e]; exact wf_F w m
  · by_cases e : m = cN c
    · subst e; rw [un] at q; rw [uO_1]; exact g1 q
    · rw [uk m e] at q
      rw [show uO c (cN c) o1 o2 o3 (3 * m) = cO c (3 * m) from uO_lo (i := 0) e (by omega)]
      exact wf_o1 w (by omega) q
  · by_cases e : m = cN c
    · subst e; rw [un] at q; rw [uO_2]; exact g2 q
    · rw [uk m e] at q; rw [uO_lo e (by omega)]; exact wf_o2 w (by omega) q
  · by_cases e : m = cN c
    · subst e; rw [un] at q; rw [uO_3]; exact g3 q
    · rw [uk m e] at q; rw [uO_lo e (by omega)]; exact wf_o3 w (by omega) q
theorem cadd_wf (w : WF c) (hN : cN c < 32) (hk : kd ≤ 7) (h1 : o1 < 32) (h2 : o2 < 32) (h3 : o3 < 32) (g1 : 3 ≤ kd → o1 < cN c) (g2 : 4 ≤ kd → o2 < cN c) (g3 : 7 ≤ kd → o3 < cN c) (hS : kd < 2 → cS c < 10) (hR : kd = 1 → cR c < 6) : WF (cadd c kd o1 o2 o3) := by
  obtain ⟨p1, p2, p3, p4, p5, p6⟩ := cad_pre w hN hk h1 h2 h3 g1 g2 g3
  have uk : ∀ m, m ≠ cN c → uK c (cN c) kd m = cK c m := fun m hm => if_neg hm
  have un : uK c (cN c) kd (cN c) = kd := if_pos rfl
  have s10 := wf_S w
  have r6 := wf_R w
  have uf : ∀ m, m ≠ cN c → (if m = cN c then cN c else cF c m) = cF c m := fun m hm => if_neg hm
  have aN : ∀ i, i < cS c → cA c i ≠ cN c := fun i hi e => by have := wf_A w hi; omega
  have gN : ∀ i, i < cR c → cG c i ≠ cN c := fun i hi e => by have := wf_GN w hi; omega
  unfold cadd
  by_cases hk2 : 2 ≤ kd
  · rw [if_pos hk2]
    refine ⟨by show cN c + 1 ≤ 32; omega, s10, r6, p1, p2, p3, p4, p5, p6, fun i hi => ⟨?_, ?_⟩, fun i j hij hj => wf_Am w hij hj, fun n hn q => ?_, fun i hi => ⟨wf_B w hi, wf_G w hi, ?_, ?_⟩, fun i j hij hj => wf_Bm w hij hj, fun n hn q => ?_⟩
    · show cA c i < cN c + 1
      have := wf_A w hi; omega
    · show uK c (cN c) kd (cA c i) < 2
      rw [uk _ (aN i hi)]; exact wf_AK w hi
    · have q : uK c (cN c) kd n < 2 := q
      have hn : n < cN c + 1 := hn
      by_cases e : n = cN c
      · subst e; rw [un] at q; omega
      · rw [uk n e] at q; exact wf_Ax w (by omega) q
    · show uK c (cN c) kd (cG c i) = 1
      rw [uk _ (gN i hi)]; exact wf_GK w hi
    · show (if cG c i = cN c then cN c else cF c (cG c i)) < cN c + 1
      rw [uf _ (gN i hi)]
      have := wf_GF w hi; omega
    · have q : uK c (cN c) kd n = 1 := q
      have hn : n < cN c + 1 := hn
      by_cases e : n = cN c
      · subst e; rw [un] at q; omega
      · rw [uk n e] at q; exact wf_Gx w (by omega) q
  · rw [if_neg hk2]
    have hS10 := hS (by omega)
    have upA : ∀ i, i < cS c → up1 (cA c) (cS c) (cN c) i = cA c i := fun i hi => up1_n (by omega)
    have upAs : up1 (cA c) (cS c) (cN c) (cS c) = cN c := up1_s
    have A1 : ∀ i, i < cS c + 1 → up1 (cA c) (cS c) (cN c) i < cN c + 1 ∧ uK c (cN c) kd (up1 (cA c) (cS c) (cN c) i) < 2 := fun i hi => by
      by_cases e : i = cS c
      · rw [e, upAs, un]; omega
      · rw [upA i (by omega), uk _ (aN i (by omega))]
        have := wf_A w (show i < cS c by omega)
        have := wf_AK w (show i < cS c by omega)
        omega
    have A2 : ∀ i j, i < j → j < cS c + 1 → up1 (cA c) (cS c) (cN c) i < up1 (cA c) (cS c) (cN c) j := fun i j hij hj => by
      rw [upA i (by omega)]
      by_cases e : j = cS c
      · rw [e, upAs]; exact wf_A w (by omega)
      · rw [upA j (by omega)]; exact wf_Am w hij (by omega)
    have A3 : ∀ n, n < cN c + 1 → uK c (cN c) kd n < 2 → ∃ i, i < cS c + 1 ∧ up1 (cA c) (cS c) (cN c) i = n := fun n hn q => by
      by_cases e : n = cN c
      · exact ⟨cS c, by omega, by rw [upAs, e]⟩
      · rw [uk n e] at q
        obtain ⟨i, hi, ei⟩ := wf_Ax w (by omega) q
        exact ⟨i, by omega, by rw [upA i hi]; exact ei⟩
    by_cases hk1 : kd = 1
    · rw [if_pos hk1]
      have hR6 := hR hk1
      have upG : ∀ i, i < cR c → up1 (cG c) (cR c) (cN c) i = cG c i := fun i hi => up1_n (by omega)
      have upGs : up1 (cG c) (cR c) (cN c) (cR c) = cN c := up1_s
      have upB : ∀ i, i < cR c → up1 (cB c) (cR c) (cS c) i = cB c i := fun i hi => up1_n (by omega)
      have upBs : up1 (cB c) (cR c) (cS c) (cR c) = cS c := up1_s
      refine ⟨by show cN c + 1 ≤ 32; omega, by show cS c + 1 ≤ 10; omega, by show cR c + 1 ≤ 6; omega, p1, p2, p3, p4, p5, p6, A1, A2, A3, fun i hi => ?_, fun i j hij hj => ?_, fun n hn q => ?_⟩
      · have hi : i < cR c + 1 := hi
        show up1 (cB c) (cR c) (cS c) i < cS c + 1 ∧ up1 (cG c) (cR c) (cN c) i = up1 (cA c) (cS c) (cN c) (up1 (cB c) (cR c) (cS c) i) ∧ uK c (cN c) kd (up1 (cG c) (cR c) (cN c) i) = 1 ∧ (if up1 (cG c) (cR c) (cN c) i = cN c then cN c else cF c (up1 (cG c) (cR c) (cN c) i)) < cN c + 1
        by_cases e : i = cR c
        · rw [e, upBs, upGs, upAs, un, if_pos rfl]
          exact ⟨by omega, rfl, hk1, by omega⟩
        · have hi' : i < cR c := by omega
          have b1 := wf_B w hi'
          rw [upB i hi', upG i hi', upA _ b1, uk _ (gN i hi'), uf _ (gN i hi')]
          exact ⟨by omega, wf_G w hi', wf_GK w hi', by have := wf_GF w hi'; omega⟩
      · have hj : j < cR c + 1 := hj
        show up1 (cB c) (cR c) (cS c) i < up1 (cB c) (cR c) (cS c) j
        rw [upB i (by omega)]
        by_cases e : j = cR c
        · rw [e, upBs]; exact wf_B w (by omega)
        · rw [upB j (by omega)]; exact wf_Bm w hij (by omega)
      · have q : uK c (cN c) kd n = 1 := q
        have hn : n < cN c + 1 := hn
        show ∃ i, i < cR c + 1 ∧ up1 (cG c) (cR c) (cN c) i = n
        by_cases e : n = cN c
        · exact ⟨cR c, by omega, by rw [upGs, e]⟩
        · rw [uk n e] at q
          obtain ⟨i, hi, ei⟩ := wf_Gx w (by omega) q
          exact ⟨i, by omega, by rw [upG i hi]; exact ei⟩
    · rw [if_neg hk1]
      refine ⟨by show cN c + 1 ≤ 32; omega, by show cS c + 1 ≤ 10; omega, r6, p1, p2, p3, p4, p5, p6, A1, A2, A3, fun i hi => ?_, fun i j hij hj => wf_Bm w hij hj, fun n hn q => ?_⟩
      · have hi : i < cR c := hi
        show cB c i < cS c + 1 ∧ cG c i = up1 (cA c) (cS c) (cN c) (cB c i) ∧ uK c (cN c) kd (cG c i) = 1 ∧ (if cG c i = cN c then cN c else cF c (cG c i)) < cN c + 1
        have b1 := wf_B w hi
        rw [upA _ b1, uk _ (gN i hi), uf _ (gN i hi)]
        exact ⟨by omega, wf_G w hi, wf_GK w hi, by have := wf_GF w hi; omega⟩
      · have q : uK c (cN c) kd n = 1 := q
        have hn : n < cN c + 1 := hn
        by_cases e : n = cN c
        · subst e; rw [un] at q; exact absurd q hk1
        · rw [uk n e] at q; exact wf_Gx w (by omega) q
theorem cadd_N : cN (cadd c kd o1 o2 o3) = cN c + 1 := by
  unfold cadd
  split
  · rfl
  · split <;> rfl
theorem cadd_K : cK (cadd c kd o1 o2 o3) = uK c (cN c) kd := by
  unfold cadd
  split
  · rfl
  · split <;> rfl
theorem cadd_O : cO (cadd c kd o1 o2 o3) = uO c (cN c) o1 o2 o3 := by
  unfold cadd
  split
  · rfl
  · split <;> rfl
theorem cadd_F : cF (cadd c kd o1 o2 o3) = fun i => if i = cN c then cN c else cF c i := by
  unfold cadd
  split
  · rfl
  · split <;> rfl
theorem cadd_S : cS (cadd c kd o1 o2 o3) = if 2 ≤ kd then cS c else cS c + 1 := by
  unfold cadd
  split
  · rfl
  · split <;> rfl
theorem cadd_A {i : Nat} (hi : i < cS c) : cA (cadd c kd o1 o2 o3) i = cA c i := by
  unfold cadd
  split
  · rfl
  · split
    · exact up1_n (show i ≠ cS c by omega)
    · exact up1_n (show i ≠ cS c by omega)
theorem cadd_As (h : kd < 2) : cA (cadd c kd o1 o2 o3) (cS c) = cN c := by
  unfold cadd
  rw [if_neg (by omega)]
  split
  · exact up1_s
  · exact up1_s
end
end
section
/-! ===== add: the walks ===== -/
theorem xF_up (c : CK) (k x : Nat) : upd (xF c) k (nI x) = fun i => nI (up1 (cF c) k x i) := up1_x
theorem xA_up (c : CK) (k x : Nat) : upd (xA c) k (nI x) = fun i => nI (up1 (cA c) k x i) := up1_x
theorem xG_up (c : CK) (k x : Nat) : upd (xG c) k (nI x) = fun i => nI (up1 (cG c) k x i) := up1_x
theorem xB_up (c : CK) (k x : Nat) : upd (xB c) k (nI x) = fun i => nI (up1 (cB c) k x i) := up1_x
theorem ys_ch3 {c : CK} {a_first a_second a_third a_source a_register so re : Nat → Int32} (hY : YS c a_first a_second a_third a_source a_register) {n kd o1 o2 o3 : Nat} {x y z : Int32} (ho : OPS kd x y z o1 o2 o3) {c' : CK} (hN : ∀ m, m < cN c' → m < cN c ∨ m = n) (hK : cK c' = uK c n kd) (hO : cO c' = uO c n o1 o2 o3) (hs : ∀ i, i < cS c' → so i = nI (cA c' i)) (hr : ∀ i, i < cR c' → re i = nI (cG c' i)) : YS c' (upd a_first n x) (upd a_second n y) (upd a_third n z) so re := by
  obtain ⟨b1, b2, b3, b4, b5, b6, b7, b8, b9⟩ := ho
  have uk : ∀ m, m ≠ n → uK c n kd m = cK c m := fun m hm => if_neg hm
  have un : uK c n kd n = kd := if_pos rfl
  refine ⟨fun m hm q => ?_, fun m hm q => ?_, fun m hm q => ?_, hs, hr⟩
  · rw [hK] at q
    rw [hO]
    by_cases e : m = n
    · subst e; rw [un] at q; rw [pk_us, uO_1]; exact b1 q
    · rw [uk m e] at q
      rw [pk_un e, show uO c n o1 o2 o3 (3 * m) = cO c (3 * m) from uO_lo (i := 0) e (by omega)]
      exact hY.1 m (by have := hN m hm; omega) q
  · rw [hK] at q
    rw [hO]
    by_cases e : m = n
    · subst e; rw [un] at q; rw [pk_us, uO_2]; exact b3 q
    · rw [uk m e] at q
      rw [pk_un e, uO_lo e (by omega)]
      exact hY.2.1 m (by have := hN m hm; omega) q
  · rw [hK] at q
    rw [hO]
    by_cases e : m = n
    · subst e; rw [un] at q; rw [pk_us, uO_3]; exact b5 q
    · rw [uk m e] at q
      rw [pk_un e, uO_lo e (by omega)]
      exact hY.2.2.1 m (by have := hN m hm; omega) q
section
variable {c : CK} {f_now : Int32} {f_right : Int32} {f_levelsKnown : Int32} {f_head : Int32} {f_tail : Int32} {f_met : Int64} {f_comesKnown : Int32} {f_entry : Int32} {f_round : Int32} {a_table : Nat → Int64} {a_saved : Nat → Int64} {a_matters : Nat → Int32} {a_cubes : Nat → Int64} {a_levels : Nat → Int32} {a_edgeFlow : Nat → Int32} {a_netFlow : Nat → Int32} {a_queue : Nat → Int32} {a_before : Nat → Int32} {a_edge : Nat → Int32} {a_leads : Nat → Int64} {a_comes : Nat → Int32} {a_group : Nat → Int32} {a_later : Nat → Int32} {a_goes : Nat → Int32} {a_shows : Nat → Int32}
theorem xm_add (w : WF c) {now : Nat} {u : SX} (hX : XR c now u) {kd : Nat} (hk : kd ≤ 7) {x y z : Int32} (hf : FIT kd (cN c) x y z) {o1 o2 o3 : Nat} (ho : OPS kd x y z o1 o2 o3) (hN : cN c < 32) (hS : kd < 2 → cS c < 10) (hR : kd = 1 → cR c < 6) (w' : WF (cadd c kd o1 o2 o3)) {post : Int32 → SX → Prop} (h : ∀ u', XR (cadd c kd o1 o2 o3) now u' → post (nI (cN c)) u') : wpX_add post u (nI kd) x y z := by
  have s10 := wf_S w
  have r6 := wf_R w
  refine xr_el (P := fun u => wpX_add post u (nI kd) x y z) hX ?_
  intro r f_levelsKnown f_head f_tail f_met f_comesKnown f_entry f_round a_table a_saved a_matters a_cubes a_levels a_edgeFlow a_netFlow a_queue a_before a_edge a_leads a_comes a_group a_later a_goes a_shows hr ht hl hc
  have nN : ¬ nI (cN c) = 32 := fun e => by have := (nI_eq (a := cN c) (b := 32) (by omega) (by omega)).mp e; omega
  have rmin : (if r ≤ cN c then r else cN c) = r := if_pos hr
  have h67 : wX_add_67 post (nI kd) x y z (nI (cN c)) (nI (cS c)) (nI (cR c)) (nI now) (nI r) f_levelsKnown f_head f_tail f_met f_comesKnown f_entry f_round (xK c) (xO c) (xF c) (xA c) (xG c) (xB c) a_table a_saved a_matters a_cubes a_levels a_edgeFlow a_netFlow a_queue a_before a_edge a_leads a_comes a_group a_later a_goes a_shows := by
    unfold wX_add_67
    refine nm_r (nI_1 _) (xw_put w (by omega) hN hk ho ?_)
    dsimp only
    rw [gw_cl (by omega), gw_nbyte2 (by omega), xF_up, rmin]
    refine ⟨vp_in_nI hN (by omega), nm_e ?_⟩
    have src : ∀ (rg : Int32) (rA rB : Nat → Int32), (∀ fr, (∃ r', r' = 0 ∧ fr = nI r') → post (nI (cN c)) (nI (cN c + 1), nI (cS c + 1), rg, nI now, fr, 0, f_head, f_tail, f_met, 0, f_entry, f_round, fun i => nI (uK c (cN c) kd i), fun j => nI (uO c (cN c) o1 o2 o3 j), fun i => nI (up1 (cF c) (cN c) (cN c) i), fun i => nI (up1 (cA c) (cS c) (cN c) i), rA, rB, a_table, a_saved, a_matters, a_cubes, a_levels, a_edgeFlow, a_netFlow, a_queue, a_before, a_edge, a_leads, a_comes, a_group, a_later, a_goes, a_shows)) → kd < 2 →
        wX_add_147 post (nI (cN c)) (nI (cN c + 1)) (nI (cS c)) rg (nI now) (nI r) 0 f_head f_tail f_met 0 f_entry f_round (fun i => nI (uK c (cN c) kd i)) (fun j => nI (uO c (cN c) o1 o2 o3 j)) (fun i => nI (up1 (cF c) (cN c) (cN c) i)) (xA c) rA rB a_table a_saved a_matters a_cubes a_levels a_edgeFlow a_netFlow a_queue a_before a_edge a_leads a_comes a_group a_later a_goes a_shows := by
      intro rg rA rB hp hk2
      have := hS hk2
      unfold wX_add_147
      rw [gw_cl (by omega), gw_nbyte2 (by omega), xA_up]
      refine nm_r (nI_1 _) ⟨vp_in_nI (by omega) (by omega), nm_e ?_⟩
      dsimp only [wpX_changedFrom]
      refine pk_le r 0 (fun q => hp _ ⟨r, by omega, rfl⟩) (fun q => hp _ ⟨0, rfl, rfl⟩)
    refine pk_lt kd 2 (fun q => ?_) (fun q => ?_)
    · have h10 := hS q
      refine pk_eq kd 1 (fun e => ?_) (fun e => ?_)
      · have h6 := hR e
        have ec : cadd c kd o1 o2 o3 = cad c (cS c + 1) (cR c + 1) kd o1 o2 o3 (up1 (cA c) (cS c) (cN c)) (up1 (cG c) (cR c) (cN c)) (up1 (cB c) (cR c) (cS c)) := by
          unfold cadd
          rw [if_neg (by omega), if_pos e]
        rw [gw_cl (by omega), xG_up, gw_nbyte2 (show cS c < 128 by omega), xB_up]
        refine ⟨vp_in_nI h6 (by omega), nm_e (nm_r (nI_1 _) ⟨vp_in_nI h6 (by omega), nm_e (src _ _ _ (fun fr hfr => ?_) q)⟩)⟩
        obtain ⟨r', hr', rfl⟩ := hfr
        subst hr'
        rw [ec] at h
        exact h _ (xr_in (c := cad c (cS c + 1) (cR c + 1) kd o1 o2 o3 (up1 (cA c) (cS c) (cN c)) (up1 (cG c) (cR c) (cN c)) (up1 (cB c) (cR c) (cS c))) (Nat.zero_le _) (fun n hn => absurd hn (Nat.not_lt_zero _)) (lv_0 _ _) (cm_0 _ _))
      · have ec : cadd c kd o1 o2 o3 = cad c (cS c + 1) (cR c) kd o1 o2 o3 (up1 (cA c) (cS c) (cN c)) (cG c) (cB c) := by
          unfold cadd
          rw [if_neg (by omega), if_neg e]
        refine src _ _ _ (fun fr hfr => ?_) q
        obtain ⟨r', hr', rfl⟩ := hfr
        subst hr'
        rw [ec] at h
        exact h _ (xr_in (c := cad c (cS c + 1) (cR c) kd o1 o2 o3 (up1 (cA c) (cS c) (cN c)) (cG c) (cB c)) (Nat.zero_le _) (fun n hn => absurd hn (Nat.not_lt_zero _)) (lv_0 _ _) (cm_0 _ _))
    · have ec : cadd c kd o1 o2 o3 = cad c (cS c) (cR c) kd o1 o2 o3 (cA c) (cG c) (cB c) := by
        unfold cadd
        rw [if_pos q]
      rw [ec] at h w'
      refine h _ (xr_in (c := cad c (cS c) (cR c) kd o1 o2 o3 (cA c) (cG c) (cB c)) (show r ≤ cN c + 1 by omega) (tbl_cc w w' hr (show r ≤ cN c + 1 by omega) (fun m hm => if_neg (by omega)) (fun m hm i hi => uO_lo (by omega) hi) rfl (fun _ _ => rfl) ht) (lv_0 _ _) (cm_0 _ _))
  have h50 : wX_add_50 post (nI kd) x y z (nI (cN c)) (nI (cS c)) (nI (cR c)) (nI now) (nI r) f_levelsKnown f_head f_tail f_met f_comesKnown f_entry f_round (xK c) (xO c) (xF c) (xA c) (xG c) (xB c) a_table a_saved a_matters a_cubes a_levels a_edgeFlow a_netFlow a_queue a_before a_edge a_leads a_comes a_group a_later a_goes a_shows := by
    unfold wX_add_50
    refine pk_eq kd 1 (fun e => br_f (fun q => ?_) h67) (fun e => h67)
    have := (nI_eq (a := cR c) (b := 6) (by omega) (by omega)).mp q
    have := hR e
    omega
  dsimp only [wpX_add]
  refine br_f (nI_pos (by omega)) (br_f (nI_nlt (a := 7) hk (by omega)) (xw_fits hk (by omega) (fun s hs => ?_)))
  rcases hs with ⟨rfl, hs⟩ | ⟨rfl, hs⟩
  · refine br_f (by decide) (br_f nN (pk_le 2 kd (fun q => h50) (fun q => br_f (fun e => ?_) h50)))
    have := (nI_eq (a := cS c) (b := 10) (by omega) (by omega)).mp e
    have := hS q
    omega
  · exact absurd hf hs
/-- why a net isn't added -/
def NOA (c : CK) (q x y z : Int32) : Prop := (q < 0 ∨ nI 8 ≤ q) ∨ ∃ kd, kd ≤ 7 ∧ q = nI kd ∧ ¬ FIT kd (cN c) x y z
theorem xm_add_no (w : WF c) {now : Nat} {u : SX} (hX : XR c now u) {q x y z : Int32} (hno : NOA c q x y z) {post : Int32 → SX → Prop} (h : post (-1) u) : wpX_add post u q x y z := by
  have hN := wf_N w
  revert h
  refine xr_el (P := fun u => post (-1) u → wpX_add post u q x y z) hX ?_
  intro r f_levelsKnown f_head f_tail f_met f_comesKnown f_entry f_round a_table a_saved a_matters a_cubes a_levels a_edgeFlow a_netFlow a_queue a_before a_edge a_leads a_comes a_group a_later a_goes a_shows hr ht hl hc hu
  dsimp only [wpX_add]
  rcases hno with (hq | hq) | ⟨kd, hk, rfl, hf⟩
  · exact br_t hq hu
  · exact br_f (Int32.not_lt.mpr (Int32.le_trans (show (0 : Int32) ≤ nI 8 by decide) hq)) (br_t (Int32.lt_of_lt_of_le (show (7 : Int32) < nI 8 by decide) hq) hu)
  · refine br_f (nI_pos (by omega)) (br_f (nI_nlt (a := 7) hk (by omega)) (xw_fits hk (by omega) (fun s hs => ?_)))
    rcases hs with ⟨rfl, hs⟩ | ⟨rfl, hs⟩
    · exact absurd hs hf
    · exact br_t rfl hu
theorem xm_add_full (w : WF c) {now : Nat} {u : SX} (hX : XR c now u) {kd : Nat} (hk : kd ≤ 7) {x y z : Int32} (hf : FIT kd (cN c) x y z) (hfull : cN c = 32 ∨ (kd < 2 ∧ cS c = 10) ∨ (kd = 1 ∧ cR c = 6)) {post : Int32 → SX → Prop} (h : post (-2) u) : wpX_add post u (nI kd) x y z := by
  have hN := wf_N w
  have s10 := wf_S w
  have r6 := wf_R w
  revert h
  refine xr_el (P := fun u => post (-2) u → wpX_add post u (nI kd) x y z) hX ?_
  intro r f_levelsKnown f_head f_tail f_met f_comesKnown f_entry f_round a_table a_saved a_matters a_cubes a_levels a_edgeFlow a_netFlow a_queue a_before a_edge a_leads a_comes a_group a_later a_goes a_shows hr ht hl hc hu
  dsimp only [wpX_add]
  refine br_f (nI_pos (by omega)) (br_f (nI_nlt (a := 7) hk (by omega)) (xw_fits hk (by omega) (fun s hs => ?_)))
  rcases hs with ⟨rfl, hs⟩ | ⟨rfl, hs⟩
  · refine br_f (by decide) (pk_eq (cN c) 32 (fun _ => hu) (fun q1 => pk_le 2 kd (fun q2 => ?_) (fun q2 => pk_eq (cS c) 10 (fun _ => hu) (fun q3 => ?_))))
    · omega
    · unfold wX_add_50
      exact pk_eq kd 1 (fun q4 => pk_eq (cR c) 6 (fun _ => hu) (fun q5 => by omega)) (fun q4 => by omega)
  · exact absurd hf hs
end
section
variable {c : CK} {a_first : Nat → Int32} {a_second : Nat → Int32} {a_third : Nat → Int32} {a_now : Nat → Int32} {a_at : Nat → Int32} {a_other : Nat → Int32} {a_source : Nat → Int32} {a_register : Nat → Int32} {a_level : Nat → Int32} {a_soon : Nat → Int32} {a_depend : Nat → Int32} {a_table : Nat → Int32} {a_marked : Nat → Int32} {a_after : Nat → Int32} {a_shows : Nat → Int32} {a_apart : Nat → Int32}
theorem ym_add (w : WF c) {now : Nat} (hnow : now < 2 ^ cS c) {v : SY} (hv : YR c now v) {kd : Nat} (hk : kd ≤ 7) {x y z : Int32} (hf : FIT kd (cN c) x y z) {o1 o2 o3 : Nat} (ho : OPS kd x y z o1 o2 o3) (hN : cN c < 32) (hS : kd < 2 → cS c < 10) (hR : kd = 1 → cR c < 6) (w' : WF (cadd c kd o1 o2 o3)) {post : Int32 → SY → Prop} (h : ∀ v', YR (cadd c kd o1 o2 o3) now v' → post (nI (cN c)) v') : wpY_add post v (nI kd) x y z := by
  have s10 := wf_S w
  have r6 := wf_R w
  refine yr_el (P := fun v => wpY_add post v (nI kd) x y z) hv ?_
  intro a_first a_second a_third a_now a_at a_other a_source a_register a_level a_soon a_depend a_table a_marked a_after a_shows a_apart hY hn
  have nN : ¬ nI (cN c) = 32 := fun e => by have := (nI_eq (a := cN c) (b := 32) (by omega) (by omega)).mp e; omega
  have h67 : wY_add_67 post (nI kd) x y z (nI (cN c)) (nI (cS c)) (nI (cR c)) (xK c) a_first a_second a_third (xF c) a_now a_at a_other a_source a_register a_level a_soon a_depend a_table a_marked a_after a_shows a_apart := by
    unfold wY_add_67
    dsimp only [wpY_put]
    rw [gw_cl (by omega), uK_x, gw_bool0, xF_up]
    refine ⟨vp_in_nI hN (by omega), nm_e ⟨vp_in_nI hN (by omega), nm_e ⟨vp_in_nI hN (by omega), nm_e ⟨vp_in_nI hN (by omega), nm_e ⟨vp_in_nI hN (by omega), nm_e ⟨vp_in_nI hN (by omega), nm_e (nm_r (nI_1 _) ?_)⟩⟩⟩⟩⟩⟩
    have eK : (fun i => nI (uK c (cN c) kd i)) = xK (cadd c kd o1 o2 o3) := by
      funext i
      show _ = nI (cK (cadd c kd o1 o2 o3) i)
      rw [cadd_K]
    have eF : (fun i => nI (up1 (cF c) (cN c) (cN c) i)) = xF (cadd c kd o1 o2 o3) := by
      funext i
      show _ = nI (cF (cadd c kd o1 o2 o3) i)
      rw [cadd_F]
      rfl
    rw [eK, eF, show nI (cN c + 1) = nI (cN (cadd c kd o1 o2 o3)) by rw [cadd_N]]
    refine yw_order w' (fun so re hso hre => ?_)
    dsimp only
    have eN : nI (cN (cadd c kd o1 o2 o3)) - 1 = nI (cN c) := by
      rw [cadd_N]
      exact nI_pred _
    rw [eN]
    refine h _ (yr_in (ys_ch3 hY ho (fun m hm => by rw [cadd_N] at hm; omega) cadd_K cadd_O hso hre) (fun i hi => ?_))
    rw [cadd_S] at hi
    by_cases e : i < cS c
    · rw [cadd_A e, pk_un (show cA c i ≠ cN c from fun z => by have := wf_A w e; omega)]
      exact hn i e
    · have hk2 : kd < 2 := by
        apply Classical.byContradiction
        intro q
        rw [if_pos (by omega)] at hi
        omega
      rw [if_neg (by omega)] at hi
      have ei : i = cS c := by omega
      rw [ei, cadd_As hk2, pk_us, tb_hi hnow (Nat.le_refl _)]
      rfl
  have h50 : wY_add_50 post (nI kd) x y z (nI (cN c)) (nI (cS c)) (nI (cR c)) (xK c) a_first a_second a_third (xF c) a_now a_at a_other a_source a_register a_level a_soon a_depend a_table a_marked a_after a_shows a_apart := by
    unfold wY_add_50
    refine pk_eq kd 1 (fun e => br_f (fun q => ?_) h67) (fun e => h67)
    have := (nI_eq (a := cR c) (b := 6) (by omega) (by omega)).mp q
    have := hR e
    omega
  dsimp only [wpY_add]
  unfold wpY_in
  refine br_f (nI_pos (by omega)) (br_f (nI_nlt (a := 7) hk (by omega)) (br_f (by decide) (yw_fit hk (by omega) (fun s hs => ?_))))
  rcases hs with ⟨rfl, hs⟩ | ⟨rfl, hs⟩
  · refine br_f (by decide) (br_f nN (pk_le 2 kd (fun q => h50) (fun q => br_f (fun e => ?_) h50)))
    have := (nI_eq (a := cS c) (b := 10) (by omega) (by omega)).mp e
    have := hS q
    omega
  · exact absurd hf hs
theorem ym_add_no (w : WF c) {now : Nat} {v : SY} (hv : YR c now v) {q x y z : Int32} (hno : NOA c q x y z) {post : Int32 → SY → Prop} (h : post (-1) v) : wpY_add post v q x y z := by
  have hN := wf_N w
  revert h
  refine yr_el (P := fun v => post (-1) v → wpY_add post v q x y z) hv ?_
  intro a_first a_second a_third a_now a_at a_other a_source a_register a_level a_soon a_depend a_table a_marked a_after a_shows a_apart hY hn hu
  dsimp only [wpY_add]
  unfold wpY_in
  rcases hno with (hq | hq) | ⟨kd, hk, rfl, hf⟩
  · exact br_t hq (br_t rfl hu)
  · exact br_f (Int32.not_lt.mpr (Int32.le_trans (show (0 : Int32) ≤ nI 8 by decide) hq)) (br_t (Int32.lt_of_lt_of_le (show (7 : Int32) < nI 8 by decide) hq) (br_t rfl hu))
  · refine br_f (nI_pos (by omega)) (br_f (nI_nlt (a := 7) hk (by omega)) (br_f (by decide) (yw_fit hk (by omega) (fun s hs => ?_))))
    rcases hs with ⟨rfl, hs⟩ | ⟨rfl, hs⟩
    · exact absurd hs hf
    · exact br_t rfl hu
theorem ym_add_full (w : WF c) {now : Nat} {v : SY} (hv : YR c now v) {kd : Nat} (hk : kd ≤ 7) {x y z : Int32} (hf : FIT kd (cN c) x y z) (hfull : cN c = 32 ∨ (kd < 2 ∧ cS c = 10) ∨ (kd = 1 ∧ cR c = 6)) {post : Int32 → SY → Prop} (h : post (-2) v) : wpY_add post v (nI kd) x y z := by
  have hN := wf_N w
  have s10 := wf_S w
  have r6 := wf_R w
  revert h
  refine yr_el (P := fun v => post (-2) v → wpY_add post v (nI kd) x y z) hv ?_
  intro a_first a_second a_third a_now a_at a_other a_source a_register a_level a_soon a_depend a_table a_marked a_after a_shows a_apart hY hn hu
  dsimp only [wpY_add]
  unfold wpY_in
  refine br_f (nI_pos (by omega)) (br_f (nI_nlt (a := 7) hk (by omega)) (br_f (by decide) (yw_fit hk (by omega) (fun s hs => ?_))))
  rcases hs with ⟨rfl, hs⟩ | ⟨rfl, hs⟩
  · refine br_f (by decide) (pk_eq (cN c) 32 (fun _ => hu) (fun q1 => pk_le 2 kd (fun q2 => ?_) (fun q2 => pk_eq (cS c) 10 (fun _ => hu) (fun q3 => ?_))))
    · omega
    · unfold wY_add_50
      exact pk_eq kd 1 (fun q4 => pk_eq (cR c) 6 (fun _ => hu) (fun q5 => by omega)) (fun q4 => by omega)
  · exact absurd hf hs
end
end
section
/-! ===== drop ===== -/
def cdp (c : CK) (S R : Nat) : CK := (cN c - 1, S, R, cK c, cO c, cF c, cA c, cG c, cB c)
def dS (c : CK) : Nat := if 2 ≤ cK c (cN c - 1) then cS c else cS c - 1
def dR (c : CK) : Nat := if cK c (cN c - 1) = 1 then cR c - 1 else cR c
/-- a register elsewhere takes the last net's value -/
def BLK (c : CK) : Prop := ∃ r, r < cR c ∧ cG c r ≠ cN c - 1 ∧ cF c (cG c r) = cN c - 1
section
variable {c : CK}
theorem dp_src (w : WF c) (hN : 1 ≤ cN c) (hk : cK c (cN c - 1) < 2) : 1 ≤ cS c ∧ cA c (cS c - 1) = cN c - 1 := by
  obtain ⟨i, hi, e⟩ := wf_Ax w (show cN c - 1 < cN c by omega) hk
  have h1 := wf_A w (show cS c - 1 < cS c by omega)
  refine ⟨by omega, ?_⟩
  rcases Nat.lt_or_ge i (cS c - 1) with q | q
  · have := wf_Am w q (by omega); omega
  · have : i = cS c - 1 := by omega
    rw [← this]; exact e
theorem dp_reg (w : WF c) (hN : 1 ≤ cN c) (hk : cK c (cN c - 1) = 1) : 1 ≤ cR c ∧ cG c (cR c - 1) = cN c - 1 ∧ cB c (cR c - 1) = cS c - 1 := by
  obtain ⟨i, hi, e⟩ := wf_Gx w (show cN c - 1 < cN c by omega) hk
  have h1 := wf_GN w (show cR c - 1 < cR c by omega)
  have e2 : cG c (cR c - 1) = cN c - 1 := by
    rcases Nat.lt_or_ge i (cR c - 1) with q | q
    · have := wf_Gm w q (by omega); omega
    · have : i = cR c - 1 := by omega
      rw [← this]; exact e
  obtain ⟨s1, s2⟩ := dp_src w hN (by omega)
  refine ⟨by omega, e2, ?_⟩
  rw [wf_G w (by omega)] at e2
  exact wf_Ai w (wf_B w (by omega)) (by omega) (by rw [e2, s2])
theorem cdp_wf (w : WF c) (hN : 1 ≤ cN c) (hb : ¬ BLK c) : WF (cdp c (dS c) (dR c)) := by
  have n32 := wf_N w
  have s10 := wf_S w
  have r6 := wf_R w
  have k7 := wf_K w (cN c - 1)
  have dSle : dS c ≤ cS c := by unfold dS; split <;> omega
  have dRle : dR c ≤ cR c := by unfold dR; split <;> omega
  have Alt : ∀ i, i < dS c → cA c i < cN c - 1 := fun i hi => by
    by_cases hk : 2 ≤ cK c (cN c - 1)
    · have h1 := wf_A w (show i < cS c by omega)
      have h2 := wf_AK w (show i < cS c by omega)
      rcases Nat.lt_or_ge (cA c i) (cN c - 1) with q | q
      · exact q
      · have : cA c i = cN c - 1 := by omega
        rw [this] at h2; omega
    · obtain ⟨a1, a2⟩ := dp_src w hN (by omega)
      have : dS c = cS c - 1 := by unfold dS; rw [if_neg hk]
      have := wf_Am w (show i < cS c - 1 by omega) (by omega)
      omega
  have Glt : ∀ i, i < dR c → cG c i < cN c - 1 := fun i hi => by
    by_cases hk : cK c (cN c - 1) = 1
    · obtain ⟨a1, a2, _⟩ := dp_reg w hN hk
      have : dR c = cR c - 1 := by unfold dR; rw [if_pos hk]
      have := wf_Gm w (show i < cR c - 1 by omega) (by omega)
      omega
    · have h1 := wf_GN w (show i < cR c by omega)
      have h2 := wf_GK w (show i < cR c by omega)
      rcases Nat.lt_or_ge (cG c i) (cN c - 1) with q | q
      · exact q
      · have : cG c i = cN c - 1 := by omega
        rw [this] at h2; exact absurd h2 hk
  have Blt : ∀ i, i < dR c → cB c i < dS c := fun i hi => by
    have g1 := Glt i hi
    have b1 := wf_B w (show i < cR c by omega)
    by_cases hk : 2 ≤ cK c (cN c - 1)
    · have : dS c = cS c := by unfold dS; rw [if_pos hk]
      omega
    · obtain ⟨a1, a2⟩ := dp_src w hN (by omega)
      have : dS c = cS c - 1 := by unfold dS; rw [if_neg hk]
      rcases Nat.lt_or_ge (cB c i) (cS c - 1) with q | q
      · omega
      · have e : cB c i = cS c - 1 := by omega
        rw [wf_G w (by omega), e, a2] at g1
        omega
  refine ⟨by show cN c - 1 ≤ 32; omega, by show dS c ≤ 10; omega, by show dR c ≤ 6; omega, w.2.2.2.1, w.2.2.2.2.1, w.2.2.2.2.2.1, fun n hn q => wf_o1 w (show n < cN c by have hn : n < cN c - 1 := hn; omega) q, fun n hn q => wf_o2 w (show n < cN c by have hn : n < cN c - 1 := hn; omega) q, fun n hn q => wf_o3 w (show n < cN c by have hn : n < cN c - 1 := hn; omega) q, fun i hi => ⟨Alt i hi, wf_AK w (show i < cS c by have hi : i < dS c := hi; omega)⟩, fun i j hij hj => wf_Am w hij (show j < cS c by have hj : j < dS c := hj; omega), fun n hn q => ?_, fun i hi => ?_, fun i j hij hj => wf_Bm w hij (show j < cR c by have hj : j < dR c := hj; omega), fun n hn q => ?_⟩
  · have hn : n < cN c - 1 := hn
    obtain ⟨i, hi, e⟩ := wf_Ax w (show n < cN c by omega) q
    refine ⟨i, ?_, e⟩
    show i < dS c
    by_cases hk : 2 ≤ cK c (cN c - 1)
    · unfold dS; rw [if_pos hk]; exact hi
    · obtain ⟨a1, a2⟩ := dp_src w hN (by omega)
      unfold dS; rw [if_neg hk]
      have : i ≠ cS c - 1 := fun z => by rw [z, a2] at e; omega
      omega
  · have hi : i < dR c := hi
    have hi' : i < cR c := by omega
    refine ⟨Blt i hi, wf_G w hi', wf_GK w hi', ?_⟩
    show cF c (cG c i) < cN c - 1
    have h1 := wf_GF w hi'
    have h2 := Glt i hi
    rcases Nat.lt_or_ge (cF c (cG c i)) (cN c - 1) with q | q
    · exact q
    · exact absurd ⟨i, hi', by omega, by omega⟩ hb
  · have hn : n < cN c - 1 := hn
    obtain ⟨i, hi, e⟩ := wf_Gx w (show n < cN c by omega) q
    refine ⟨i, ?_, e⟩
    show i < dR c
    by_cases hk : cK c (cN c - 1) = 1
    · obtain ⟨a1, a2, _⟩ := dp_reg w hN hk
      unfold dR; rw [if_pos hk]
      have : i ≠ cR c - 1 := fun z => by rw [z, a2] at e; omega
      omega
    · unfold dR; rw [if_neg hk]; exact hi
end
section
variable {c : CK} {f_now : Int32} {f_right : Int32} {f_levelsKnown : Int32} {f_head : Int32} {f_tail : Int32} {f_met : Int64} {f_comesKnown : Int32} {f_entry : Int32} {f_round : Int32} {a_table : Nat → Int64} {a_saved : Nat → Int64} {a_matters : Nat → Int32} {a_cubes : Nat → Int64} {a_levels : Nat → Int32} {a_edgeFlow : Nat → Int32} {a_netFlow : Nat → Int32} {a_queue : Nat → Int32} {a_before : Nat → Int32} {a_edge : Nat → Int32} {a_leads : Nat → Int64} {a_comes : Nat → Int32} {a_group : Nat → Int32} {a_later : Nat → Int32} {a_goes : Nat → Int32} {a_shows : Nat → Int32}
theorem xw_drop15 (w : WF c) (hN : 1 ≤ cN c) {now r : Nat} (hnow : now < 2 ^ cS c) (hr : r ≤ cN c) (ht : TBL c 99 false a_table r) {post : Int32 → SX → Prop}
    (h0 : BLK c → post (-1) (nI (cN c), nI (cS c), nI (cR c), nI now, nI r, f_levelsKnown, f_head, f_tail, f_met, f_comesKnown, f_entry, f_round, xK c, xO c, xF c, xA c, xG c, xB c, a_table, a_saved, a_matters, a_cubes, a_levels, a_edgeFlow, a_netFlow, a_queue, a_before, a_edge, a_leads, a_comes, a_group, a_later, a_goes, a_shows)) (h1 : ¬ BLK c → ∀ u, XR (cdp c (dS c) (dR c)) (now % 2 ^ dS c) u → post (nI (cN c - 1)) u) :
    ∀ d i fu, i + d = cR c → d < fu → (∀ q, q < i → ¬ (cG c q ≠ cN c - 1 ∧ cF c (cG c q) = cN c - 1)) → wX_drop_15 post (nI (cN c - 1)) (nI (cN c)) (nI (cS c)) (nI (cR c)) (nI now) (nI r) f_levelsKnown f_head f_tail f_met f_comesKnown f_entry f_round (xK c) (xO c) (xF c) (xA c) (xG c) (xB c) a_table a_saved a_matters a_cubes a_levels a_edgeFlow a_netFlow a_queue a_before a_edge a_leads a_comes a_group a_later a_goes a_shows fu (nI i) := by
  have n32 := wf_N w
  have s10 := wf_S w
  have r6 := wf_R w
  have k7 := wf_K w (cN c - 1)
  have eN : nI (cN c) - 1 = nI (cN c - 1) := pk_sub hN
  have fin : ¬ BLK c → ((2 ≤ cK c (cN c - 1) → wX_drop_82 post (nI (cN c - 1)) (nI (cN c - 1)) (nI (cN c - 1)) (nI (cS c)) (nI (cR c)) (nI now) (nI r) f_levelsKnown f_head f_tail f_met f_comesKnown f_entry f_round (xK c) (xO c) (xF c) (xA c) (xG c) (xB c) a_table a_saved a_matters a_cubes a_levels a_edgeFlow a_netFlow a_queue a_before a_edge a_leads a_comes a_group a_later a_goes a_shows) ∧ (cK c (cN c - 1) < 2 → wX_drop_82 post (nI (cN c - 1)) 0 (nI (cN c - 1)) (nI (cS c)) (nI (cR c)) (nI now) (nI r) f_levelsKnown f_head f_tail f_met f_comesKnown f_entry f_round (xK c) (xO c) (xF c) (xA c) (xG c) (xB c) a_table a_saved a_matters a_cubes a_levels a_edgeFlow a_netFlow a_queue a_before a_edge a_leads a_comes a_group a_later a_goes a_shows)) := fun hb => by
    have h1 := h1 hb
    have w' := cdp_wf w hN hb
    constructor
    · intro hk
      have eS : dS c = cS c := by unfold dS; rw [if_pos hk]
      have eR : dR c = cR c := by unfold dR; rw [if_neg (by omega)]
      rw [eS, eR, Nat.mod_eq_of_lt hnow] at h1
      rw [eS, eR] at w'
      have f122 : ∀ r', r' ≤ cN c - 1 → TBL c 99 false a_table r' → wX_drop_122 post (nI (cN c - 1)) (nI (cN c - 1)) (nI (cS c)) (nI (cR c)) (nI now) (nI r') 0 f_head f_tail f_met 0 f_entry f_round (xK c) (xO c) (xF c) (xA c) (xG c) (xB c) a_table a_saved a_matters a_cubes a_levels a_edgeFlow a_netFlow a_queue a_before a_edge a_leads a_comes a_group a_later a_goes a_shows := fun r' hr' ht' => by
        unfold wX_drop_122
        rw [gw_cl (by omega), xK_ap]
        refine ⟨vp_in_nI (by omega) (by omega), pk_eq (cK c (cN c - 1)) 1 (fun q => by omega) (fun q => h1 _ (xr_in (c := cdp c (cS c) (cR c)) hr' (tbl_cc w w' (by omega) hr' (fun _ _ => rfl) (fun _ _ _ _ => rfl) rfl (fun _ _ => rfl) ht') (lv_0 _ _) (cm_0 _ _)))⟩
      unfold wX_drop_82
      dsimp only [wpX_changedFrom]
      rw [gw_cl (by omega), xK_ap]
      refine pk_le r (cN c - 1) (fun q => ⟨vp_in_nI (by omega) (by omega), br_t (nI_le (a := 2) hk (by omega)) (f122 r q ht)⟩) (fun q => ⟨vp_in_nI (by omega) (by omega), br_t (nI_le (a := 2) hk (by omega)) (f122 (cN c - 1) (Nat.le_refl _) (tbl_le ht (by omega)))⟩)
    · intro hk
      obtain ⟨a1, a2⟩ := dp_src w hN hk
      have eS : dS c = cS c - 1 := by unfold dS; rw [if_neg (by omega)]
      have s2 := gw_p2 (show cS c - 1 ≤ 10 by omega)
      have s3 := Nat.two_pow_pos (cS c - 1)
      have s4 := gw_p2 s10
      have eM : nI now &&& ((1 : Int32) <<< (nI (cS c - 1) &&& 31) - 1) = nI (now % 2 ^ (cS c - 1)) := by
        have e1 : nI (2 ^ (cS c - 1)) - 1 = nI (2 ^ (cS c - 1) - 1) := pk_sub s3
        rw [gw_1shl (by omega), e1, nx_and, Nat.and_two_pow_sub_one_eq_mod]
      have eSn : nI (cS c) - 1 = nI (cS c - 1) := pk_sub a1
      rw [eS] at h1
      have f122 : ∀ fr, fr = nI 0 → wX_drop_122 post (nI (cN c - 1)) (nI (cN c - 1)) (nI (cS c - 1)) (nI (cR c)) (nI (now % 2 ^ (cS c - 1))) fr 0 f_head f_tail f_met 0 f_entry f_round (xK c) (xO c) (xF c) (xA c) (xG c) (xB c) a_table a_saved a_matters a_cubes a_levels a_edgeFlow a_netFlow a_queue a_before a_edge a_leads a_comes a_group a_later a_goes a_shows := fun fr hfr => by
        subst hfr
        unfold wX_drop_122
        rw [gw_cl (by omega), xK_ap]
        refine ⟨vp_in_nI (by omega) (by omega), pk_eq (cK c (cN c - 1)) 1 (fun q => ?_) (fun q => ?_)⟩
        · obtain ⟨b1, _, _⟩ := dp_reg w hN q
          have eR : dR c = cR c - 1 := by unfold dR; rw [if_pos q]
          have eRn : nI (cR c) - 1 = nI (cR c - 1) := pk_sub b1
          rw [eR] at h1
          exact nm_r eRn (h1 _ (xr_in (c := cdp c (cS c - 1) (cR c - 1)) (Nat.zero_le _) (fun n hn => absurd hn (Nat.not_lt_zero _)) (lv_0 _ _) (cm_0 _ _)))
        · have eR : dR c = cR c := by unfold dR; rw [if_neg q]
          rw [eR] at h1
          exact h1 _ (xr_in (c := cdp c (cS c - 1) (cR c)) (Nat.zero_le _) (fun n hn => absurd hn (Nat.not_lt_zero _)) (lv_0 _ _) (cm_0 _ _))
      unfold wX_drop_82
      dsimp only [wpX_changedFrom]
      rw [gw_cl (by omega), xK_ap]
      refine pk_le r 0 (fun q => ⟨vp_in_nI (by omega) (by omega), br_f (nI_ge (b := 2) hk (by omega)) (nm_r eSn (nm_r eM (f122 _ ?_)))⟩) (fun q => ⟨vp_in_nI (by omega) (by omega), br_f (nI_ge (b := 2) hk (by omega)) (nm_r eSn (nm_r eM (f122 _ rfl)))⟩)
      rw [show r = 0 by omega]
  intro d
  induction d with
  | zero =>
    intro i fu hi hf hall
    obtain ⟨fu, rfl⟩ : ∃ k', fu = k' + 1 := ⟨fu - 1, by omega⟩
    have hb : ¬ BLK c := fun ⟨q, q1, q2, q3⟩ => hall q (by omega) ⟨q2, q3⟩
    unfold wX_drop_15
    rw [gw_cl (show cN c - 1 < 2147483648 by omega), xK_ap]
    exact br_t (nI_le (by omega) (by omega)) (nm_r eN ⟨vp_in_nI (by omega) (by omega), pk_le 2 (cK c (cN c - 1)) (fun q => (fin hb).1 q) (fun q => (fin hb).2 q)⟩)
  | succ d ih =>
    intro i fu hi hf hall
    obtain ⟨fu, rfl⟩ : ∃ k', fu = k' + 1 := ⟨fu - 1, by omega⟩
    have hi' : i < cR c := by omega
    have g1 := wf_GN w hi'
    have f1 := wf_GF w hi'
    have nx : ¬ (cG c i ≠ cN c - 1 ∧ cF c (cG c i) = cN c - 1) → wX_drop_15 post (nI (cN c - 1)) (nI (cN c)) (nI (cS c)) (nI (cR c)) (nI now) (nI r) f_levelsKnown f_head f_tail f_met f_comesKnown f_entry f_round (xK c) (xO c) (xF c) (xA c) (xG c) (xB c) a_table a_saved a_matters a_cubes a_levels a_edgeFlow a_netFlow a_queue a_before a_edge a_leads a_comes a_group a_later a_goes a_shows fu (nI (i + 1)) := fun hq => by
      refine ih (i + 1) fu (by omega) (by omega) (fun q hq2 => ?_)
      by_cases e : q = i
      · rw [e]; exact hq
      · exact hall q (by omega)
    unfold wX_drop_15
    rw [gw_cl (show i < 2147483648 by omega), xG_ap, gw_cl (show cG c i < 2147483648 by omega), xF_ap]
    refine br_f (nI_ge (by omega) (by omega)) ⟨vp_in_nI (by omega) (by omega), pk_eq (cG c i) (cN c - 1) (fun q => nm_r (nI_1 i) (nx (fun z => z.1 q))) (fun q => ⟨vp_in_nI (by omega) (by omega), vp_in_nI (by omega) (by omega), pk_eq (cF c (cG c i)) (cN c - 1) (fun q2 => h0 ⟨i, hi', q, q2⟩) (fun q2 => nm_r (nI_1 i) (nx (fun z => q2 z.2)))⟩)⟩
theorem xm_drop (w : WF c) (hN : 1 ≤ cN c) {now : Nat} (hnow : now < 2 ^ cS c) {u : SX} (hX : XR c now u) {post : Int32 → SX → Prop}
    (h0 : BLK c → ∀ u, XR c now u → post (-1) u) (h1 : ¬ BLK c → ∀ u, XR (cdp c (dS c) (dR c)) (now % 2 ^ dS c) u → post (nI (cN c - 1)) u) : wpX_drop post u := by
  have n32 := wf_N w
  have eN : nI (cN c) - 1 = nI (cN c - 1) := pk_sub hN
  refine xr_el (P := fun u => wpX_drop post u) hX ?_
  intro r f_levelsKnown f_head f_tail f_met f_comesKnown f_entry f_round a_table a_saved a_matters a_cubes a_levels a_edgeFlow a_netFlow a_queue a_before a_edge a_leads a_comes a_group a_later a_goes a_shows hr ht hl hc
  dsimp only [wpX_drop]
  refine nm_r eN (br_t (nI_pos' (by omega)) ⟨cR c + 1, xw_drop15 w hN hnow hr ht (fun hb => h0 hb _ (xr_in hr ht hl hc)) h1 (cR c) 0 _ (by omega) (by omega) (fun q hq => by omega)⟩)
theorem xm_drop_0 (w : WF c) (hN : cN c = 0) {now : Nat} {u : SX} (hX : XR c now u) {post : Int32 → SX → Prop} (h : post (-1) u) : wpX_drop post u := by
  revert h
  refine xr_el (P := fun u => post (-1) u → wpX_drop post u) hX ?_
  intro r f_levelsKnown f_head f_tail f_met f_comesKnown f_entry f_round a_table a_saved a_matters a_cubes a_levels a_edgeFlow a_netFlow a_queue a_before a_edge a_leads a_comes a_group a_later a_goes a_shows hr ht hl hc hu
  dsimp only [wpX_drop]
  rw [hN] at hu ⊢
  exact nm_r (e' := -1) (by decide) (br_f gw_m1le hu)
end
section
variable {c : CK} {a_first : Nat → Int32} {a_second : Nat → Int32} {a_third : Nat → Int32} {a_now : Nat → Int32} {a_at : Nat → Int32} {a_other : Nat → Int32} {a_source : Nat → Int32} {a_register : Nat → Int32} {a_level : Nat → Int32} {a_soon : Nat → Int32} {a_depend : Nat → Int32} {a_table : Nat → Int32} {a_marked : Nat → Int32} {a_after : Nat → Int32} {a_shows : Nat → Int32} {a_apart : Nat → Int32}
theorem ys_dp {a_first a_second a_third a_source a_register so re : Nat → Int32} (hY : YS c a_first a_second a_third a_source a_register) {S R : Nat} (hs : ∀ i, i < S → so i = nI (cA c i)) (hr : ∀ i, i < R → re i = nI (cG c i)) : YS (cdp c S R) a_first a_second a_third so re :=
  ⟨fun n hn q => hY.1 n (show n < cN c by have hn : n < cN c - 1 := hn; omega) q, fun n hn q => hY.2.1 n (show n < cN c by have hn : n < cN c - 1 := hn; omega) q, fun n hn q => hY.2.2.1 n (show n < cN c by have hn : n < cN c - 1 := hn; omega) q, hs, hr⟩
theorem ym_drop (w : WF c) (hN : 1 ≤ cN c) {now : Nat} (hnow : now < 2 ^ cS c) {v : SY} (hv : YR c now v) {post : Int32 → SY → Prop}
    (h0 : BLK c → ∀ v, YR c now v → post (-1) v) (h1 : ¬ BLK c → ∀ v, YR (cdp c (dS c) (dR c)) (now % 2 ^ dS c) v → post (nI (cN c - 1)) v) : wpY_drop post v := by
  have n32 := wf_N w
  have eN : nI (cN c) - 1 = nI (cN c - 1) := pk_sub hN
  have dSle : dS c ≤ cS c := by unfold dS; split <;> omega
  refine yr_el (P := fun v => wpY_drop post v) hv ?_
  intro a_first a_second a_third a_now a_at a_other a_source a_register a_level a_soon a_depend a_table a_marked a_after a_shows a_apart hY hn
  have blk : BLK c ↔ ∃ m, m < cN c - 1 ∧ cK c m = 1 ∧ cF c m = cN c - 1 := by
    constructor
    · rintro ⟨r, hr, h2, h3⟩
      have := wf_GN w hr
      exact ⟨cG c r, by omega, wf_GK w hr, h3⟩
    · rintro ⟨m, hm, h2, h3⟩
      obtain ⟨r, hr, e⟩ := wf_Gx w (show m < cN c by omega) h2
      exact ⟨r, hr, by omega, by rw [e]; exact h3⟩
  dsimp only [wpY_drop]
  refine br_f (nI_ne0 (by omega) (by omega)) ⟨cN c + 1, ?_⟩
  have L : ∀ d m fu, m + d = cN c - 1 → d < fu → (∀ q, q < m → ¬ (cK c q = 1 ∧ cF c q = cN c - 1)) → wY_drop_11 post (nI (cN c)) (nI (cS c)) (nI (cR c)) (xK c) a_first a_second a_third (xF c) a_now a_at a_other a_source a_register a_level a_soon a_depend a_table a_marked a_after a_shows a_apart fu (nI m) := by
    intro d
    induction d with
    | zero =>
      intro m fu hm hf hall
      obtain ⟨fu, rfl⟩ : ∃ k', fu = k' + 1 := ⟨fu - 1, by omega⟩
      have hb : ¬ BLK c := fun z => by
        obtain ⟨q, q1, q2, q3⟩ := blk.mp z
        exact hall q (by omega) ⟨q2, q3⟩
      have w' := cdp_wf w hN hb
      unfold wY_drop_11
      rw [eN]
      refine br_t (nI_le (by omega) (by omega)) (nm_e ?_)
      refine yw_order (c := cdp c (dS c) (dR c)) w' (fun so re hso hre => ?_)
      dsimp only
      refine h1 hb _ (yr_in (c := cdp c (dS c) (dR c)) (ys_dp hY hso hre) (fun i hi => ?_))
      have hi : i < dS c := hi
      show a_now (cA c i) = _
      rw [hn i (by omega), Nat.testBit_mod_two_pow, decide_eq_true hi, Bool.true_and]
    | succ d ih =>
      intro m fu hm hf hall
      obtain ⟨fu, rfl⟩ : ∃ k', fu = k' + 1 := ⟨fu - 1, by omega⟩
      have k7 := wf_K w m
      have f32 := wf_F w m
      have nx : ¬ (cK c m = 1 ∧ cF c m = cN c - 1) → wY_drop_11 post (nI (cN c)) (nI (cS c)) (nI (cR c)) (xK c) a_first a_second a_third (xF c) a_now a_at a_other a_source a_register a_level a_soon a_depend a_table a_marked a_after a_shows a_apart fu (nI (m + 1)) := fun hq => by
        refine ih (m + 1) fu (by omega) (by omega) (fun q hq2 => ?_)
        by_cases e : q = m
        · rw [e]; exact hq
        · exact hall q (by omega)
      unfold wY_drop_11
      rw [eN, gw_cl (by omega), xK_ap, xF_ap]
      refine br_f (nI_ge (by omega) (by omega)) ⟨vp_in_nI (by omega) (by omega), pk_eq (cK c m) 1 (fun q => ⟨vp_in_nI (by omega) (by omega), pk_eq (cF c m) (cN c - 1) (fun q2 => h0 (blk.mpr ⟨m, by omega, q, q2⟩) _ (yr_in hY hn)) (fun q2 => nm_r (nI_1 m) (nx (fun z => q2 z.2)))⟩) (fun q => nm_r (nI_1 m) (nx (fun z => q z.1)))⟩
  exact L (cN c - 1) 0 _ (by omega) (by omega) (fun q hq => by omega)
theorem ym_drop_0 (w : WF c) (hN : cN c = 0) {now : Nat} {v : SY} (hv : YR c now v) {post : Int32 → SY → Prop} (h : post (-1) v) : wpY_drop post v := by
  revert h
  refine yr_el (P := fun v => post (-1) v → wpY_drop post v) hv ?_
  intro a_first a_second a_third a_now a_at a_other a_source a_register a_level a_soon a_depend a_table a_marked a_after a_shows a_apart hY hn hu
  dsimp only [wpY_drop]
  rw [hN] at hu ⊢
  exact br_t rfl hu
end
end
section
/-! ===== refusals (printed by gen_refuse.py) ===== -/
theorem xn_value {c : CK} (w : WF c) {now : Nat} {u : SX} (hu : XR c now u) {p : Int32} (hp : p < 0 ∨ nI (cN c) ≤ p) {post : Int32 → SX → Prop} (h : post (-1) u) : wpX_value post u p  := by
  revert h
  refine xr_el (P := fun u => post (-1) u → wpX_value post u p ) hu ?_
  intro r f_levelsKnown f_head f_tail f_met f_comesKnown f_entry f_round a_table a_saved a_matters a_cubes a_levels a_edgeFlow a_netFlow a_queue a_before a_edge a_leads a_comes a_group a_later a_goes a_shows hr ht hl hc hu
  dsimp only [wpX_value]
  exact xw_isNet_f w hp (br_t rfl hu)
theorem xn_count {c : CK} (w : WF c) {now : Nat} {u : SX} (hu : XR c now u) {p : Int32} (hp : p < 0 ∨ nI (cN c) ≤ p) {post : Int32 → SX → Prop} (h : post (-1) u) : wpX_count post u p  := by
  revert h
  refine xr_el (P := fun u => post (-1) u → wpX_count post u p ) hu ?_
  intro r f_levelsKnown f_head f_tail f_met f_comesKnown f_entry f_round a_table a_saved a_matters a_cubes a_levels a_edgeFlow a_netFlow a_queue a_before a_edge a_leads a_comes a_group a_later a_goes a_shows hr ht hl hc hu
  dsimp only [wpX_count]
  exact xw_isNet_f w hp (br_t rfl hu)
theorem xn_witness {c : CK} (w : WF c) {now : Nat} {u : SX} (hu : XR c now u) {p q : Int32} (hp : p < 0 ∨ nI (cN c) ≤ p) {post : Int32 → SX → Prop} (h : post (-1) u) : wpX_witness post u p q := by
  revert h
  refine xr_el (P := fun u => post (-1) u → wpX_witness post u p q) hu ?_
  intro r f_levelsKnown f_head f_tail f_met f_comesKnown f_entry f_round a_table a_saved a_matters a_cubes a_levels a_edgeFlow a_netFlow a_queue a_before a_edge a_leads a_comes a_group a_later a_goes a_shows hr ht hl hc hu
  dsimp only [wpX_witness]
  exact xw_isNet_f w hp (br_t rfl hu)
theorem xn_primes {c : CK} (w : WF c) {now : Nat} {u : SX} (hu : XR c now u) {p : Int32} (hp : p < 0 ∨ nI (cN c) ≤ p) {post : Int32 → SX → Prop} (h : post (-1) u) : wpX_primes post u p  := by
  revert h
  refine xr_el (P := fun u => post (-1) u → wpX_primes post u p ) hu ?_
  intro r f_levelsKnown f_head f_tail f_met f_comesKnown f_entry f_round a_table a_saved a_matters a_cubes a_levels a_edgeFlow a_netFlow a_queue a_before a_edge a_leads a_comes a_group a_later a_goes a_shows hr ht hl hc hu
  dsimp only [wpX_primes]
  exact xw_isNet_f w hp (br_t rfl hu)
theorem xn_level {c : CK} (w : WF c) {now : Nat} {u : SX} (hu : XR c now u) {p q : Int32} (hp : p < 0 ∨ nI (cN c) ≤ p) {post : Int32 → SX → Prop} (h : post (-1) u) : wpX_level post u p q := by
  revert h
  refine xr_el (P := fun u => post (-1) u → wpX_level post u p q) hu ?_
  intro r f_levelsKnown f_head f_tail f_met f_comesKnown f_entry f_round a_table a_saved a_matters a_cubes a_levels a_edgeFlow a_netFlow a_queue a_before a_edge a_leads a_comes a_group a_later a_goes a_shows hr ht hl hc hu
  dsimp only [wpX_level]
  exact xw_isNet_f w hp (br_t rfl hu)
theorem xn_alarm {c : CK} (w : WF c) {now : Nat} {u : SX} (hu : XR c now u) {p : Int32} (hp : p < 0 ∨ nI (cN c) ≤ p) {post : Int32 → SX → Prop} (h : post (-1) u) : wpX_alarm post u p  := by
  revert h
  refine xr_el (P := fun u => post (-1) u → wpX_alarm post u p ) hu ?_
  intro r f_levelsKnown f_head f_tail f_met f_comesKnown f_entry f_round a_table a_saved a_matters a_cubes a_levels a_edgeFlow a_netFlow a_queue a_before a_edge a_leads a_comes a_group a_later a_goes a_shows hr ht hl hc hu
  dsimp only [wpX_alarm]
  exact xw_isNet_f w hp (br_t rfl hu)
theorem xn_apart {c : CK} (w : WF c) {now : Nat} {u : SX} (hu : XR c now u) {p q s : Int32} (hp : p < 0 ∨ nI (cN c) ≤ p) {post : Int32 → SX → Prop} (h : post (-1) u) : wpX_apart post u p q s := by
  revert h
  refine xr_el (P := fun u => post (-1) u → wpX_apart post u p q s) hu ?_
  intro r f_levelsKnown f_head f_tail f_met f_comesKnown f_entry f_round a_table a_saved a_matters a_cubes a_levels a_edgeFlow a_netFlow a_queue a_before a_edge a_leads a_comes a_group a_later a_goes a_shows hr ht hl hc hu
  dsimp only [wpX_apart]
  exact xw_isNet_f w hp (br_t rfl hu)
theorem xn_classes {c : CK} (w : WF c) {now : Nat} {u : SX} (hu : XR c now u) {p : Int32} (hp : p < 0 ∨ nI (cN c) ≤ p) {post : Int32 → SX → Prop} (h : post (-1) u) : wpX_classes post u p  := by
  revert h
  refine xr_el (P := fun u => post (-1) u → wpX_classes post u p ) hu ?_
  intro r f_levelsKnown f_head f_tail f_met f_comesKnown f_entry f_round a_table a_saved a_matters a_cubes a_levels a_edgeFlow a_netFlow a_queue a_before a_edge a_leads a_comes a_group a_later a_goes a_shows hr ht hl hc hu
  dsimp only [wpX_classes]
  exact xw_isNet_f w hp (br_t rfl hu)
theorem xn_same {c : CK} (w : WF c) {now : Nat} {u : SX} (hu : XR c now u) {p q : Int32} (hp : p < 0 ∨ nI (cN c) ≤ p) {post : Int32 → SX → Prop} (h : post (0) u) : wpX_same post u p q := by
  revert h
  refine xr_el (P := fun u => post (0) u → wpX_same post u p q) hu ?_
  intro r f_levelsKnown f_head f_tail f_met f_comesKnown f_entry f_round a_table a_saved a_matters a_cubes a_levels a_edgeFlow a_netFlow a_queue a_before a_edge a_leads a_comes a_group a_later a_goes a_shows hr ht hl hc hu
  dsimp only [wpX_same]
  exact xw_isNet_f w hp (br_t rfl hu)
theorem xn_tests {c : CK} (w : WF c) {now : Nat} {u : SX} (hu : XR c now u) {p q s : Int32} (hp : p < 0 ∨ nI (cN c) ≤ p) {post : Int32 → SX → Prop} (h : post (-1) u) : wpX_tests post u p q s := by
  revert h
  refine xr_el (P := fun u => post (-1) u → wpX_tests post u p q s) hu ?_
  intro r f_levelsKnown f_head f_tail f_met f_comesKnown f_entry f_round a_table a_saved a_matters a_cubes a_levels a_edgeFlow a_netFlow a_queue a_before a_edge a_leads a_comes a_group a_later a_goes a_shows hr ht hl hc hu
  dsimp only [wpX_tests]
  exact xw_isNet_f w hp (br_t rfl hu)
theorem xn2_same {c : CK} (w : WF c) {now : Nat} {u : SX} (hu : XR c now u) {j : Nat} (hj : j < cN c) {p : Int32} (hp : p < 0 ∨ nI (cN c) ≤ p) {post : Int32 → SX → Prop} (h : post (0) u) : wpX_same post u (nI j) p := by
  revert h
  refine xr_el (P := fun u => post (0) u → wpX_same post u (nI j) p) hu ?_
  intro r f_levelsKnown f_head f_tail f_met f_comesKnown f_entry f_round a_table a_saved a_matters a_cubes a_levels a_edgeFlow a_netFlow a_queue a_before a_edge a_leads a_comes a_group a_later a_goes a_shows hr ht hl hc hu
  dsimp only [wpX_same]
  exact xw_isNet_t w hj (br_f (by decide) (xw_isNet_f w hp (br_t rfl hu)))
theorem xn2_tests {c : CK} (w : WF c) {now : Nat} {u : SX} (hu : XR c now u) {j : Nat} (hj : j < cN c) {p s : Int32} (hp : p < 0 ∨ nI (cN c) ≤ p) {post : Int32 → SX → Prop} (h : post (-1) u) : wpX_tests post u (nI j) s p := by
  revert h
  refine xr_el (P := fun u => post (-1) u → wpX_tests post u (nI j) s p) hu ?_
  intro r f_levelsKnown f_head f_tail f_met f_comesKnown f_entry f_round a_table a_saved a_matters a_cubes a_levels a_edgeFlow a_netFlow a_queue a_before a_edge a_leads a_comes a_group a_later a_goes a_shows hr ht hl hc hu
  dsimp only [wpX_tests]
  exact xw_isNet_t w hj (br_f (by decide) (xw_isNet_f w hp (br_t rfl hu)))
theorem yn_value {c : CK} (w : WF c) {now : Nat} {u : SY} (hu : YR c now u) {p : Int32} (hp : p < 0 ∨ nI (cN c) ≤ p) {post : Int32 → SY → Prop} (h : post (-1) u) : wpY_value post u p  := by
  revert h
  refine yr_el (P := fun u => post (-1) u → wpY_value post u p ) hu ?_
  intro a_first a_second a_third a_now a_at a_other a_source a_register a_level a_soon a_depend a_table a_marked a_after a_shows a_apart hY hN hu
  dsimp only [wpY_value]
  exact yw_isNet_f w hp (br_t rfl hu)
theorem yn_count {c : CK} (w : WF c) {now : Nat} {u : SY} (hu : YR c now u) {p : Int32} (hp : p < 0 ∨ nI (cN c) ≤ p) {post : Int32 → SY → Prop} (h : post (-1) u) : wpY_count post u p  := by
  revert h
  refine yr_el (P := fun u => post (-1) u → wpY_count post u p ) hu ?_
  intro a_first a_second a_third a_now a_at a_other a_source a_register a_level a_soon a_depend a_table a_marked a_after a_shows a_apart hY hN hu
  dsimp only [wpY_count]
  exact yw_isNet_f w hp (br_t rfl hu)
theorem yn_witness {c : CK} (w : WF c) {now : Nat} {u : SY} (hu : YR c now u) {p q : Int32} (hp : p < 0 ∨ nI (cN c) ≤ p) {post : Int32 → SY → Prop} (h : post (-1) u) : wpY_witness post u p q := by
  revert h
  refine yr_el (P := fun u => post (-1) u → wpY_witness post u p q) hu ?_
  intro a_first a_second a_third a_now a_at a_other a_source a_register a_level a_soon a_depend a_table a_marked a_after a_shows a_apart hY hN hu
  dsimp only [wpY_witness]
  exact yw_isNet_f w hp (br_t rfl hu)
theorem yn_primes {c : CK} (w : WF c) {now : Nat} {u : SY} (hu : YR c now u) {p : Int32} (hp : p < 0 ∨ nI (cN c) ≤ p) {post : Int32 → SY → Prop} (h : post (-1) u) : wpY_primes post u p  := by
  revert h
  refine yr_el (P := fun u => post (-1) u → wpY_primes post u p ) hu ?_
  intro a_first a_second a_third a_now a_at a_other a_source a_register a_level a_soon a_depend a_table a_marked a_after a_shows a_apart hY hN hu
  dsimp only [wpY_primes]
  exact yw_isNet_f w hp (br_t rfl hu)
theorem yn_level {c : CK} (w : WF c) {now : Nat} {u : SY} (hu : YR c now u) {p q : Int32} (hp : p < 0 ∨ nI (cN c) ≤ p) {post : Int32 → SY → Prop} (h : post (-1) u) : wpY_level post u p q := by
  revert h
  refine yr_el (P := fun u => post (-1) u → wpY_level post u p q) hu ?_
  intro a_first a_second a_third a_now a_at a_other a_source a_register a_level a_soon a_depend a_table a_marked a_after a_shows a_apart hY hN hu
  dsimp only [wpY_level]
  exact yw_isNet_f w hp (br_t rfl hu)
theorem yn_alarm {c : CK} (w : WF c) {now : Nat} {u : SY} (hu : YR c now u) {p : Int32} (hp : p < 0 ∨ nI (cN c) ≤ p) {post : Int32 → SY → Prop} (h : post (-1) u) : wpY_alarm post u p  := by
  revert h
  refine yr_el (P := fun u => post (-1) u → wpY_alarm post u p ) hu ?_
  intro a_first a_second a_third a_now a_at a_other a_source a_register a_level a_soon a_depend a_table a_marked a_after a_shows a_apart hY hN hu
  dsimp only [wpY_alarm]
  exact yw_isNet_f w hp (br_t rfl hu)
theorem yn_apart {c : CK} (w : WF c) {now : Nat} {u : SY} (hu : YR c now u) {p q s : Int32} (hp : p < 0 ∨ nI (cN c) ≤ p) {post : Int32 → SY → Prop} (h : post (-1) u) : wpY_apart post u p q s := by
  revert h
  refine yr_el (P := fun u => post (-1) u → wpY_apart post u p q s) hu ?_
  intro a_first a_second a_third a_now a_at a_other a_source a_register a_level a_soon a_depend a_table a_marked a_after a_shows a_apart hY hN hu
  dsimp only [wpY_apart]
  exact nm_e (yw_isNet_f w hp (br_t rfl hu))
theorem yn_classes {c : CK} (w : WF c) {now : Nat} {u : SY} (hu : YR c now u) {p : Int32} (hp : p < 0 ∨ nI (cN c) ≤ p) {post : Int32 → SY → Prop} (h : post (-1) u) : wpY_classes post u p  := by
  revert h
  refine yr_el (P := fun u => post (-1) u → wpY_classes post u p ) hu ?_
  intro a_first a_second a_third a_now a_at a_other a_source a_register a_level a_soon a_depend a_table a_marked a_after a_shows a_apart hY hN hu
  dsimp only [wpY_classes]
  exact yw_isNet_f w hp (br_t rfl hu)
theorem yn_same {c : CK} (w : WF c) {now : Nat} {u : SY} (hu : YR c now u) {p q : Int32} (hp : p < 0 ∨ nI (cN c) ≤ p) {post : Int32 → SY → Prop} (h : post (0) u) : wpY_same post u p q := by
  revert h
  refine yr_el (P := fun u => post (0) u → wpY_same post u p q) hu ?_
  intro a_first a_second a_third a_now a_at a_other a_source a_register a_level a_soon a_depend a_table a_marked a_after a_shows a_apart hY hN hu
  dsimp only [wpY_same]
  exact yw_isNet_f w hp (br_t rfl hu)
theorem yn_tests {c : CK} (w : WF c) {now : Nat} {u : SY} (hu : YR c now u) {p q s : Int32} (hp : p < 0 ∨ nI (cN c) ≤ p) {post : Int32 → SY → Prop} (h : post (-1) u) : wpY_tests post u p q s := by
  revert h
  refine yr_el (P := fun u => post (-1) u → wpY_tests post u p q s) hu ?_
  intro a_first a_second a_third a_now a_at a_other a_source a_register a_level a_soon a_depend a_table a_marked a_after a_shows a_apart hY hN hu
  dsimp only [wpY_tests]
  exact yw_isNet_f w hp (br_t rfl hu)
theorem yn2_same {c : CK} (w : WF c) {now : Nat} {u : SY} (hu : YR c now u) {j : Nat} (hj : j < cN c) {p : Int32} (hp : p < 0 ∨ nI (cN c) ≤ p) {post : Int32 → SY → Prop} (h : post (0) u) : wpY_same post u (nI j) p := by
  revert h
  refine yr_el (P := fun u => post (0) u → wpY_same post u (nI j) p) hu ?_
  intro a_first a_second a_third a_now a_at a_other a_source a_register a_level a_soon a_depend a_table a_marked a_after a_shows a_apart hY hN hu
  dsimp only [wpY_same]
  exact yw_isNet_t w hj (br_f (by decide) (yw_isNet_f w hp (br_t rfl hu)))
theorem yn2_tests {c : CK} (w : WF c) {now : Nat} {u : SY} (hu : YR c now u) {j : Nat} (hj : j < cN c) {p s : Int32} (hp : p < 0 ∨ nI (cN c) ≤ p) {post : Int32 → SY → Prop} (h : post (-1) u) : wpY_tests post u (nI j) s p := by
  revert h
  refine yr_el (P := fun u => post (-1) u → wpY_tests post u (nI j) s p) hu ?_
  intro a_first a_second a_third a_now a_at a_other a_source a_register a_level a_soon a_depend a_table a_marked a_after a_shows a_apart hY hN hu
  dsimp only [wpY_tests]
  exact yw_isNet_t w hj (br_f (by decide) (yw_isNet_f w hp (br_t rfl hu)))
theorem xo_soonest_neg {c : CK} (w : WF c) {now : Nat} {u : SX} (hX : XR c now u) {p : Int32} (hp : p < 0) {post : Int32 → SX → Prop} (h : post (-1) u) : wpX_soonest post u p := by
  obtain ⟨f_nets, f_sources, f_registers, f_now, f_right, f_levelsKnown, f_head, f_tail, f_met, f_comesKnown, f_entry, f_round, a_kinds, a_operand, a_nexts, a_sourceAt, a_registerAt, a_registerSource, a_table, a_saved, a_matters, a_cubes, a_levels, a_edgeFlow, a_netFlow, a_queue, a_before, a_edge, a_leads, a_comes, a_group, a_later, a_goes, a_shows⟩ := u
  exact br_t hp h
theorem xo_soonest_big {c : CK} (w : WF c) {now : Nat} {u : SX} (hX : XR c now u) {p : Int32} (hp : nI 64 ≤ p) {post : Int32 → SX → Prop} (h : post (-1) u) : wpX_soonest post u p := by
  obtain ⟨f_nets, f_sources, f_registers, f_now, f_right, f_levelsKnown, f_head, f_tail, f_met, f_comesKnown, f_entry, f_round, a_kinds, a_operand, a_nexts, a_sourceAt, a_registerAt, a_registerSource, a_table, a_saved, a_matters, a_cubes, a_levels, a_edgeFlow, a_netFlow, a_queue, a_before, a_edge, a_leads, a_comes, a_group, a_later, a_goes, a_shows⟩ := u
  have h0 : ¬ p < 0 := Int32.not_lt.mpr (Int32.le_trans (nI_pos' (by omega)) hp)
  have h1 : ¬ p ≤ 63 := Int32.not_le.mpr (Int32.lt_of_lt_of_le (show (63 : Int32) < nI 64 by decide) hp)
  exact br_f h0 (br_f h1 h)
theorem yo_soonest_out {c : CK} (w : WF c) {now : Nat} {v : SY} (hY : YR c now v) {p : Int32} (hp : p < 0 ∨ nI 64 ≤ p) {post : Int32 → SY → Prop} (h : post (-1) v) : wpY_soonest post v p := by
  have hR := wf_R w
  have h6 : 2 ^ cR c ≤ 64 := Nat.pow_le_pow_right (n := 2) (j := 6) (by decide) hR
  have h0 := Nat.two_pow_pos (cR c)
  revert h
  refine yr_el (P := fun v => post (-1) v → wpY_soonest post v p) hY ?_
  intro a_first a_second a_third a_now a_at a_other a_source a_register a_level a_soon a_depend a_table a_marked a_after a_shows a_apart hY hN hu
  dsimp only [wpY_soonest, wpY_in]
  have e1 : nI (2 ^ cR c) - 1 = nI (2 ^ cR c - 1) := pk_sub h0
  rw [gw_1shl (by omega), e1]
  rcases hp with hp | hp
  · exact br_t hp (br_t rfl hu)
  · refine br_f (Int32.not_lt.mpr (Int32.le_trans (nI_pos' (by omega)) hp)) (br_t ?_ (br_t rfl hu))
    exact Int32.lt_of_lt_of_le (nI_lt (by omega) (by omega)) hp
theorem xo_apart {c : CK} (w : WF c) {now : Nat} {u : SX} (hX : XR c now u) {j : Nat} (hj : j < cN c) {p q : Int32} (hpq : (p < 0 ∨ nI (2 ^ cR c) ≤ p) ∨ (q < 0 ∨ nI (2 ^ cR c) ≤ q)) {post : Int32 → SX → Prop} (h : post (-1) u) : wpX_apart post u (nI j) p q := by
  have hR := wf_R w
  revert h
  refine xr_el (P := fun u => post (-1) u → wpX_apart post u (nI j) p q) hX ?_
  intro r f_levelsKnown f_head f_tail f_met f_comesKnown f_entry f_round a_table a_saved a_matters a_cubes a_levels a_edgeFlow a_netFlow a_queue a_before a_edge a_leads a_comes a_group a_later a_goes a_shows hr ht hl hc hu
  dsimp only [wpX_apart]
  rw [gw_1shl (by omega)]
  refine xw_isNet_t w hj (br_f (by decide) ?_)
  refine br_c (fun _ => hu) (fun a1 => br_c (fun _ => hu) (fun a2 => br_c (fun _ => hu) (fun a3 => br_f (fun a4 => ?_) hu)))
  rcases hpq with (z | z) | (z | z)
  · exact a1 z
  · exact a3 z
  · exact a2 z
  · exact Int32.not_lt.mpr z a4
theorem yo_apart {c : CK} (w : WF c) {now : Nat} {v : SY} (hY : YR c now v) {j : Nat} (hj : j < cN c) {p q : Int32} (hpq : (p < 0 ∨ nI (2 ^ cR c) ≤ p) ∨ (q < 0 ∨ nI (2 ^ cR c) ≤ q)) {post : Int32 → SY → Prop} (h : post (-1) v) : wpY_apart post v (nI j) p q := by
  have hR := wf_R w
  have hR2 := gw_p2 (show cR c ≤ 10 by omega)
  have h0 := Nat.two_pow_pos (cR c)
  revert h
  refine yr_el (P := fun v => post (-1) v → wpY_apart post v (nI j) p q) hY ?_
  intro a_first a_second a_third a_now a_at a_other a_source a_register a_level a_soon a_depend a_table a_marked a_after a_shows a_apart hY hN hu
  have e1 : nI (2 ^ cR c) - 1 = nI (2 ^ cR c - 1) := pk_sub h0
  have lt : ∀ x, nI (2 ^ cR c) ≤ x → nI (2 ^ cR c - 1) < x := fun x hx => Int32.lt_of_lt_of_le (nI_lt (by omega) (by omega)) hx
  dsimp only [wpY_apart, wpY_in]
  rw [gw_1shl (by omega), e1]
  refine nm_e (yw_isNet_t w hj (br_f (by decide) ?_))
  refine br_c (fun _ => br_t rfl hu) (fun a1 => br_c (fun _ => br_t rfl hu) (fun a2 => br_f (by decide) (br_c (fun _ => br_t rfl hu) (fun a3 => br_c (fun _ => br_t rfl hu) (fun a4 => ?_)))))
  exfalso
  rcases hpq with (z | z) | (z | z)
  · exact a1 z
  · exact a2 (lt p z)
  · exact a3 z
  · exact a4 (lt q z)
theorem xo_level {c : CK} (w : WF c) {now : Nat} {u : SX} (hX : XR c now u) {j : Nat} (hj : j < cN c) {p : Int32} (hp : p < 1 ∨ 3 < p) {post : Int32 → SX → Prop} (h : post (-1) u) : wpX_level post u (nI j) p := by
  revert h
  refine xr_el (P := fun u => post (-1) u → wpX_level post u (nI j) p) hX ?_
  intro r f_levelsKnown f_head f_tail f_met f_comesKnown f_entry f_round a_table a_saved a_matters a_cubes a_levels a_edgeFlow a_netFlow a_queue a_before a_edge a_leads a_comes a_group a_later a_goes a_shows hr ht hl hc hu
  dsimp only [wpX_level]
  refine xw_isNet_t w hj (br_f (by decide) (br_c (fun _ => hu) (fun a1 => br_f (fun a2 => ?_) hu)))
  rcases hp with z | z
  · exact a1 z
  · exact Int32.not_le.mpr z a2
theorem yo_level {c : CK} (w : WF c) {now : Nat} {v : SY} (hY : YR c now v) {j : Nat} (hj : j < cN c) {p : Int32} (hp : p < 1 ∨ 3 < p) {post : Int32 → SY → Prop} (h : post (-1) v) : wpY_level post v (nI j) p := by
  revert h
  refine yr_el (P := fun v => post (-1) v → wpY_level post v (nI j) p) hY ?_
  intro a_first a_second a_third a_now a_at a_other a_source a_register a_level a_soon a_depend a_table a_marked a_after a_shows a_apart hY hN hu
  dsimp only [wpY_level, wpY_in]
  refine yw_isNet_t w hj (br_f (by decide) (br_c (fun _ => br_t rfl hu) (fun a1 => br_c (fun _ => br_t rfl hu) (fun a2 => ?_))))
  exfalso
  rcases hp with z | z
  · exact a1 z
  · exact a2 z
end
section
/-! ===== the owed rows ===== -/
theorem i_vc0 : wpX_init (fun u => wpY_init (fun v => i_Rel 0 u v)) := by
  refine ⟨(0, 0, 0, fun _ => 0, fun _ => 0, fun _ => 0, fun _ => 0, fun _ => 0, fun _ => 0), 0, ?_, Nat.one_pos, ⟨rfl, rfl, rfl, rfl, rfl, rfl, rfl, rfl, rfl, rfl, ⟨0, Nat.le_refl _, rfl, fun n hn => absurd hn (Nat.not_lt_zero _)⟩, ⟨0, by decide, rfl, fun k _ _ hk => ?_⟩, Or.inl rfl⟩, ⟨rfl, rfl, rfl, rfl, rfl, ?_, fun i hi => absurd hi (Nat.not_lt_zero _)⟩⟩
  · exact ⟨Nat.zero_le _, Nat.zero_le _, Nat.zero_le _, fun _ => Nat.zero_le _, fun _ => (by decide : 0 < 32), fun _ => (by decide : 0 < 32), fun n hn => absurd hn (Nat.not_lt_zero _), fun n hn => absurd hn (Nat.not_lt_zero _), fun n hn => absurd hn (Nat.not_lt_zero _), fun n hn => absurd hn (Nat.not_lt_zero _), fun i j _ hj => absurd hj (Nat.not_lt_zero _), fun n hn => absurd hn (Nat.not_lt_zero _), fun n hn => absurd hn (Nat.not_lt_zero _), fun i j _ hj => absurd hj (Nat.not_lt_zero _), fun n hn => absurd hn (Nat.not_lt_zero _)⟩
  · rw [Nat.zero_testBit] at hk
    exact absurd hk (by decide)
  · exact ⟨fun n hn => absurd hn (Nat.not_lt_zero _), fun n hn => absurd hn (Nat.not_lt_zero _), fun n hn => absurd hn (Nat.not_lt_zero _), fun n hn => absurd hn (Nat.not_lt_zero _), fun n hn => absurd hn (Nat.not_lt_zero _)⟩
theorem i_vc_add {k : Nat} {u : SX} {v : SY} (I : i_Rel k u v) (hk : k + 6 ≤ 3072) (v1 : Int32) (v2 : Int32) (v3 : Int32) (v4 : Int32) : wpX_add (fun r u' => wpY_add (fun r' v' => r' = r ∧ i_Rel (k + 6) u' v') v v1 v2 v3 v4) u v1 v2 v3 v4 := by
  obtain ⟨c, now, w, hn, hX, hY⟩ := I
  have hN := wf_N w
  have out : NOA c v1 v2 v3 v4 → wpX_add (fun r u' => wpY_add (fun r' v' => r' = r ∧ i_Rel (k + 6) u' v') v v1 v2 v3 v4) u v1 v2 v3 v4 := fun h => xm_add_no w hX h (ym_add_no w hY h ⟨rfl, ir_in w hn hX hY⟩)
  rcases pk_ix v1 (n := 8) (by omega) with h | h | ⟨kd, hkd, e1⟩
  · exact out (Or.inl (Or.inl h))
  · exact out (Or.inl (Or.inr h))
  · by_cases hf : FIT kd (cN c) v2 v3 v4
    · subst e1
      have s10 := wf_S w
      have r6 := wf_R w
      by_cases hfull : cN c = 32 ∨ (kd < 2 ∧ cS c = 10) ∨ (kd = 1 ∧ cR c = 6)
      · exact xm_add_full w hX (by omega) hf hfull (ym_add_full w hY (by omega) hf hfull ⟨rfl, ir_in w hn hX hY⟩)
      · obtain ⟨o1, o2, o3, ho, g1, g2, g3⟩ := fit_ops (by omega) hf
        have w' : WF (cadd c kd o1 o2 o3) := cadd_wf w (by omega) (by omega) ho.2.2.2.2.2.2.1 ho.2.2.2.2.2.2.2.1 ho.2.2.2.2.2.2.2.2 g1 g2 g3 (by omega) (by omega)
        have hn' : now < 2 ^ cS (cadd c kd o1 o2 o3) := by
          refine Nat.lt_of_lt_of_le hn (Nat.pow_le_pow_right (by decide) ?_)
          rw [cadd_S]
          split <;> omega
        exact xm_add w hX (by omega) hf ho (by omega) (by omega) (by omega) w' (fun u' hX' => ym_add w hn hY (by omega) hf ho (by omega) (by omega) (by omega) w' (fun v' hY' => ⟨rfl, ir_in w' hn' hX' hY'⟩))
    · exact out (Or.inr ⟨kd, by omega, e1, hf⟩)
theorem i_vc_change {k : Nat} {u : SX} {v : SY} (I : i_Rel k u v) (hk : k + 6 ≤ 3072) (v1 : Int32) (v2 : Int32) (v3 : Int32) (v4 : Int32) (v5 : Int32) : wpX_change (fun r u' => wpY_change (fun r' v' => r' = r ∧ i_Rel (k + 6) u' v') v v1 v2 v3 v4 v5) u v1 v2 v3 v4 v5 := by
  obtain ⟨c, now, w, hn, hX, hY⟩ := I
  have hN := wf_N w
  have out : NOC c v1 v2 v3 v4 v5 → wpX_change (fun r u' => wpY_change (fun r' v' => r' = r ∧ i_Rel (k + 6) u' v') v v1 v2 v3 v4 v5) u v1 v2 v3 v4 v5 := fun h => xm_change_no w hX h (ym_change_no w hY h ⟨rfl, ir_in w hn hX hY⟩)
  rcases pk_ix v1 (n := cN c) (by omega) with h | h | ⟨n, hnn, e1⟩
  · exact out (Or.inl (Or.inl h))
  · exact out (Or.inl (Or.inr h))
  · by_cases hk : cK c n < 2
    · exact out (Or.inr ⟨n, hnn, e1, Or.inl hk⟩)
    · rcases pk_ix v2 (n := 8) (by omega) with h | h | ⟨kd, hkd, e2⟩
      · exact out (Or.inr ⟨n, hnn, e1, Or.inr ⟨by omega, Or.inl (Or.inl h)⟩⟩)
      · exact out (Or.inr ⟨n, hnn, e1, Or.inr ⟨by omega, Or.inl (Or.inr h)⟩⟩)
      · by_cases hk2 : kd < 2
        · exact out (Or.inr ⟨n, hnn, e1, Or.inr ⟨by omega, Or.inr ⟨kd, by omega, e2, Or.inl hk2⟩⟩⟩)
        · by_cases hf : FIT kd n v3 v4 v5
          · subst e1 e2
            obtain ⟨o1, o2, o3, ho, g1, g2, g3⟩ := fit_ops (by omega) hf
            have w' : WF (cch c n kd o1 o2 o3) := cch_wf w hnn (by omega) (by omega) (by omega) ho.2.2.2.2.2.2.1 ho.2.2.2.2.2.2.2.1 ho.2.2.2.2.2.2.2.2 g1 g2 g3
            exact xm_change w hX hnn (by omega) (by omega) (by omega) hf ho w' (fun u' hX' => ym_change w hY hnn (by omega) (by omega) (by omega) hf ho (fun v' hY' => ⟨rfl, ir_in w' hn hX' hY'⟩))
          · exact out (Or.inr ⟨n, hnn, e1, Or.inr ⟨by omega, Or.inr ⟨kd, by omega, e2, Or.inr ⟨by omega, hf⟩⟩⟩⟩)
theorem i_vc_next {k : Nat} {u : SX} {v : SY} (I : i_Rel k u v) (hk : k + 6 ≤ 3072) (v1 : Int32) (v2 : Int32) : wpX_next (fun r u' => wpY_next (fun r' v' => r' = r ∧ i_Rel (k + 6) u' v') v v1 v2) u v1 v2 := by
  obtain ⟨c, now, w, hn, hX, hY⟩ := I
  have hN := wf_N w
  have out : ((v1 < 0 ∨ nI (cN c) ≤ v1) ∨ (∃ r, r < cN c ∧ v1 = nI r ∧ (cK c r ≠ 1 ∨ (v2 < 0 ∨ nI (cN c) ≤ v2)))) → wpX_next (fun r u' => wpY_next (fun r' v' => r' = r ∧ i_Rel (k + 6) u' v') v v1 v2) u v1 v2 := fun h => xm_next_no w hX h (ym_next_no w hY h ⟨rfl, ir_in w hn hX hY⟩)
  rcases pk_ix v1 (n := cN c) (by omega) with h | h | ⟨r, hr, e1⟩
  · exact out (Or.inl (Or.inl h))
  · exact out (Or.inl (Or.inr h))
  · by_cases hk : cK c r = 1
    · rcases pk_ix v2 (n := cN c) (by omega) with h | h | ⟨m, hm, rfl⟩
      · exact out (Or.inr ⟨r, hr, e1, Or.inr (Or.inl h)⟩)
      · exact out (Or.inr ⟨r, hr, e1, Or.inr (Or.inr h)⟩)
      · subst e1
        exact xm_next w hX hr hm hk (fun u' hX' => ym_next w hY hr hm hk (fun v' hY' => ⟨rfl, ir_in (cnx_wf w hm) hn hX' hY'⟩))
    · exact out (Or.inr ⟨r, hr, e1, Or.inl hk⟩)
theorem i_vc_drop {k : Nat} {u : SX} {v : SY} (I : i_Rel k u v) (hk : k + 6 ≤ 3072) : wpX_drop (fun r u' => wpY_drop (fun r' v' => r' = r ∧ i_Rel (k + 6) u' v') v) u := by
  obtain ⟨c, now, w, hn, hX, hY⟩ := I
  have hN := wf_N w
  by_cases h0 : cN c = 0
  · exact xm_drop_0 w h0 hX (ym_drop_0 w h0 hY ⟨rfl, ir_in w hn hX hY⟩)
  · refine xm_drop w (by omega) hn hX (fun hb u' hX' => ym_drop w (by omega) hn hY (fun _ v' hY' => ⟨rfl, ir_in w hn hX' hY'⟩) (fun z => absurd hb z)) (fun hb u' hX' => ym_drop w (by omega) hn hY (fun z => absurd z hb) (fun _ v' hY' => ⟨rfl, ir_in (cdp_wf w (by omega) hb) (Nat.mod_lt _ (Nat.two_pow_pos _)) hX' hY'⟩))
theorem i_vc_set {k : Nat} {u : SX} {v : SY} (I : i_Rel k u v) (hk : k + 6 ≤ 3072) (v1 : Int32) (v2 : Int32) : wpX_set (fun r u' => wpY_set (fun r' v' => r' = r ∧ i_Rel (k + 6) u' v') v v1 (lw_bz v2)) u v1 (lw_bz v2) := by
  obtain ⟨c, now, w, hn, hX, hY⟩ := I
  have hN := wf_N w
  obtain ⟨o, ho⟩ : ∃ o : Bool, lw_bz v2 = nI o.toNat := by
    rcases lw_bz_01 v2 with e | e
    · exact ⟨false, e⟩
    · exact ⟨true, e⟩
  rw [ho]
  by_cases hs : ∃ s, s < cS c ∧ nI (cA c s) = v1
  · obtain ⟨s, hs, rfl⟩ := hs
    exact xm_set w hn hX hs (fun u' hX' => ym_set w hY hs (fun v' hY' => ⟨rfl, ir_in w (bld_lt _ _) hX' hY'⟩))
  · have hs' : ∀ i, i < cS c → ¬ nI (cA c i) = v1 := fun i hi e => hs ⟨i, hi, e⟩
    exact xm_set_no w hX hs' (ym_set_no w hY hs' ⟨rfl, ir_in w hn hX hY⟩)
theorem i_vc_value {k : Nat} {u : SX} {v : SY} (I : i_Rel k u v) (hk : k + 6 ≤ 3072) (v1 : Int32) : wpX_value (fun r u' => wpY_value (fun r' v' => r' = r ∧ i_Rel (k + 6) u' v') v v1) u v1 := by
  obtain ⟨c, now, w, hn, hX, hY⟩ := I
  have hN := wf_N w
  rcases pk_ix v1 (n := cN c) (by omega) with h | h | ⟨j, hj, rfl⟩
  · exact xn_value w hX (Or.inl h) (yn_value w hY (Or.inl h) ⟨rfl, ir_in w hn hX hY⟩)
  · exact xn_value w hX (Or.inr h) (yn_value w hY (Or.inr h) ⟨rfl, ir_in w hn hX hY⟩)
  · exact xm_value w hn hX hj (fun u' hX' => ym_value w hY hj (fun v' hY' => ⟨rfl, ir_in w hn hX' hY'⟩))
theorem i_vc_count {k : Nat} {u : SX} {v : SY} (I : i_Rel k u v) (hk : k + 6 ≤ 3072) (v1 : Int32) : wpX_count (fun r u' => wpY_count (fun r' v' => r' = r ∧ i_Rel (k + 6) u' v') v v1) u v1 := by
  obtain ⟨c, now, w, hn, hX, hY⟩ := I
  have hN := wf_N w
  rcases pk_ix v1 (n := cN c) (by omega) with h | h | ⟨j, hj, rfl⟩
  · exact xn_count w hX (Or.inl h) (yn_count w hY (Or.inl h) ⟨rfl, ir_in w hn hX hY⟩)
  · exact xn_count w hX (Or.inr h) (yn_count w hY (Or.inr h) ⟨rfl, ir_in w hn hX hY⟩)
  · exact xm_count w hX hj (fun u' hX' => ym_count w hY hj (fun v' hY' => ⟨rfl, ir_in w hn hX' hY'⟩))
theorem i_vc_witness {k : Nat} {u : SX} {v : SY} (I : i_Rel k u v) (hk : k + 6 ≤ 3072) (v1 : Int32) (v2 : Int32) : wpX_witness (fun r u' => wpY_witness (fun r' v' => r' = r ∧ i_Rel (k + 6) u' v') v v1 v2) u v1 v2 := by
  obtain ⟨c, now, w, hn, hX, hY⟩ := I
  have hN := wf_N w
  rcases pk_ix v1 (n := cN c) (by omega) with h | h | ⟨j, hj, rfl⟩
  · exact xn_witness w hX (Or.inl h) (yn_witness w hY (Or.inl h) ⟨rfl, ir_in w hn hX hY⟩)
  · exact xn_witness w hX (Or.inr h) (yn_witness w hY (Or.inr h) ⟨rfl, ir_in w hn hX hY⟩)
  · have hS2 := gw_p2 (wf_S w)
    rcases pk_ix v2 (n := 2 ^ cS c) (by omega) with h | h | ⟨lo, hlo, rfl⟩
    · exact xm_witness w hX hj (lo := 0) (Or.inl ⟨h, rfl⟩) (Nat.two_pow_pos _) (fun u' r hX' hr => ym_witness w hY hj (lo := 0) (Or.inl ⟨h, rfl⟩) (Nat.two_pow_pos _) (fun v' r' hY' hr' => ⟨WT_uni hr hr', ir_in w hn hX' hY'⟩))
    · exact xm_witness_no w hX hj h (fun u' hX' => ym_witness_no w hY hj h (fun v' hY' => ⟨rfl, ir_in w hn hX' hY'⟩))
    · exact xm_witness w hX hj (Or.inr rfl) hlo (fun u' r hX' hr => ym_witness w hY hj (Or.inr rfl) hlo (fun v' r' hY' hr' => ⟨WT_uni hr hr', ir_in w hn hX' hY'⟩))
theorem i_vc_same {k : Nat} {u : SX} {v : SY} (I : i_Rel k u v) (hk : k + 6 ≤ 3072) (v1 : Int32) (v2 : Int32) : wpX_same (fun r u' => wpY_same (fun r' v' => r' = r ∧ i_Rel (k + 6) u' v') v v1 v2) u v1 v2 := by
  obtain ⟨c, now, w, hn, hX, hY⟩ := I
  have hN := wf_N w
  rcases pk_ix v1 (n := cN c) (by omega) with h | h | ⟨j, hj, rfl⟩
  · exact xn_same w hX (Or.inl h) (yn_same w hY (Or.inl h) ⟨rfl, ir_in w hn hX hY⟩)
  · exact xn_same w hX (Or.inr h) (yn_same w hY (Or.inr h) ⟨rfl, ir_in w hn hX hY⟩)
  · rcases pk_ix v2 (n := cN c) (by omega) with h | h | ⟨i, hi, rfl⟩
    · exact xn2_same w hX hj (Or.inl h) (yn2_same w hY hj (Or.inl h) ⟨rfl, ir_in w hn hX hY⟩)
    · exact xn2_same w hX hj (Or.inr h) (yn2_same w hY hj (Or.inr h) ⟨rfl, ir_in w hn hX hY⟩)
    · exact xm_same w hX hj hi (fun u' r hX' hr => ym_same w hY hj hi (fun v' r' hY' hr' => ⟨BA_uni hr hr', ir_in w hn hX' hY'⟩))
theorem i_vc_depends {k : Nat} {u : SX} {v : SY} (I : i_Rel k u v) (hk : k + 6 ≤ 3072) (v1 : Int32) (v2 : Int32) : wpX_depends (fun r u' => wpY_depends (fun r' v' => r' = r ∧ i_Rel (k + 6) u' v') v v1 v2) u v1 v2 := by
  obtain ⟨c, now, w, hn, hX, hY⟩ := I
  have hN := wf_N w
  by_cases hs : ∃ s, s < cS c ∧ nI (cA c s) = v2
  · obtain ⟨s, hs, rfl⟩ := hs
    rcases pk_ix v1 (n := cN c) (by omega) with h | h | ⟨j, hj, rfl⟩
    · exact xm_depends_no w hX (Or.inl (Or.inl h)) (ym_depends_no w hY (Or.inl (Or.inl h)) ⟨rfl, ir_in w hn hX hY⟩)
    · exact xm_depends_no w hX (Or.inl (Or.inr h)) (ym_depends_no w hY (Or.inl (Or.inr h)) ⟨rfl, ir_in w hn hX hY⟩)
    · exact xm_depends w hX hj hs (fun u' r hX' hr => ym_depends w hY hj hs (fun v' r' hY' hr' => ⟨BA_uni hr hr', ir_in w hn hX' hY'⟩))
  · have hs' : ∀ i, i < cS c → ¬ nI (cA c i) = v2 := fun i hi e => hs ⟨i, hi, e⟩
    exact xm_depends_no w hX (Or.inr hs') (ym_depends_no w hY (Or.inr hs') ⟨rfl, ir_in w hn hX hY⟩)
theorem i_vc_tests {k : Nat} {u : SX} {v : SY} (I : i_Rel k u v) (hk : k + 6 ≤ 3072) (v1 : Int32) (v2 : Int32) (v3 : Int32) : wpX_tests (fun r u' => wpY_tests (fun r' v' => r' = r ∧ i_Rel (k + 6) u' v') v v1 (lw_bz v2) v3) u v1 (lw_bz v2) v3 := by
  obtain ⟨c, now, w, hn, hX, hY⟩ := I
  have hN := wf_N w
  rcases pk_ix v1 (n := cN c) (by omega) with h | h | ⟨j, hj, rfl⟩
  · exact xn_tests w hX (Or.inl h) (yn_tests w hY (Or.inl h) ⟨rfl, ir_in w hn hX hY⟩)
  · exact xn_tests w hX (Or.inr h) (yn_tests w hY (Or.inr h) ⟨rfl, ir_in w hn hX hY⟩)
  · rcases pk_ix v3 (n := cN c) (by omega) with h | h | ⟨i, hi, rfl⟩
    · exact xn2_tests w hX hj (Or.inl h) (yn2_tests w hY hj (Or.inl h) ⟨rfl, ir_in w hn hX hY⟩)
    · exact xn2_tests w hX hj (Or.inr h) (yn2_tests w hY hj (Or.inr h) ⟨rfl, ir_in w hn hX hY⟩)
    · obtain ⟨o, ho⟩ : ∃ o : Bool, lw_bz v2 = nI o.toNat := by
        rcases lw_bz_01 v2 with e | e
        · exact ⟨false, e⟩
        · exact ⟨true, e⟩
      rw [ho]
      exact xm_tests w hX hj hi (fun u' hX' => ym_tests w hY hj hi (fun v' hY' => ⟨rfl, ir_in w hn hX' hY'⟩))
theorem i_vc_primes {k : Nat} {u : SX} {v : SY} (I : i_Rel k u v) (hk : k + 6 ≤ 3072) (v1 : Int32) : wpX_primes (fun r u' => wpY_primes (fun r' v' => r' = r ∧ i_Rel (k + 6) u' v') v v1) u v1 := by
  obtain ⟨c, now, w, hn, hX, hY⟩ := I
  have hN := wf_N w
  rcases pk_ix v1 (n := cN c) (by omega) with h | h | ⟨j, hj, rfl⟩
  · exact xn_primes w hX (Or.inl h) (yn_primes w hY (Or.inl h) ⟨rfl, ir_in w hn hX hY⟩)
  · exact xn_primes w hX (Or.inr h) (yn_primes w hY (Or.inr h) ⟨rfl, ir_in w hn hX hY⟩)
  · have hsel : ∃ p : Nat → Bool, ∀ s, (p s = true ↔ DEP c j s) := ⟨fun s => @decide (DEP c j s) (Classical.propDecidable _), fun s => @decide_eq_true_iff _ (Classical.propDecidable _)⟩
    obtain ⟨p, hp⟩ := hsel
    exact xm_primes w hX hj hp (fun u' r hX' hr => ym_primes w hY hj hp (fun v' r' hY' hr' => ⟨prm_uni hr hr', ir_in w hn hX' hY'⟩))
theorem i_vc_level {k : Nat} {u : SX} {v : SY} (I : i_Rel k u v) (hk : k + 6 ≤ 3072) (v1 : Int32) (v2 : Int32) : wpX_level (fun r u' => wpY_level (fun r' v' => r' = r ∧ i_Rel (k + 6) u' v') v v1 v2) u v1 v2 := by
  obtain ⟨c, now, w, hn, hX, hY⟩ := I
  have hN := wf_N w
  rcases pk_ix v1 (n := cN c) (by omega) with h | h | ⟨j, hj, rfl⟩
  · exact xn_level w hX (Or.inl h) (yn_level w hY (Or.inl h) ⟨rfl, ir_in w hn hX hY⟩)
  · exact xn_level w hX (Or.inr h) (yn_level w hY (Or.inr h) ⟨rfl, ir_in w hn hX hY⟩)
  · have out : v2 < 1 ∨ 3 < v2 → wpX_level (fun r u' => wpY_level (fun r' v' => r' = r ∧ i_Rel (k + 6) u' v') v (nI j) v2) u (nI j) v2 := fun h => xo_level w hX hj h (yo_level w hY hj h ⟨rfl, ir_in w hn hX hY⟩)
    rcases pk_ix v2 (n := 4) (by omega) with h | h | ⟨q, hq, rfl⟩
    · exact out (Or.inl (Int32.lt_of_lt_of_le h (by decide)))
    · exact out (Or.inr (Int32.lt_of_lt_of_le (show (3 : Int32) < nI 4 by decide) h))
    · by_cases h1 : q = 0
      · exact out (Or.inl (by rw [h1]; decide))
      · exact xm_level w hX hj (show 1 ≤ q by omega) (by omega) (fun u' r hX' hr => ym_level w hY hj (by omega) (by omega) (fun v' r' hY' hr' => ⟨lva_uni w hj hr hr', ir_in w hn hX' hY'⟩))
theorem i_vc_tick {k : Nat} {u : SX} {v : SY} (I : i_Rel k u v) (hk : k + 6 ≤ 3072) (v1 : Int32) : wpX_tick (fun r u' => wpY_tick (fun r' v' => r' = r ∧ i_Rel (k + 6) u' v') v v1) u v1 := by
  obtain ⟨c, now, w, hn, hX, hY⟩ := I
  have hN := wf_N w
  by_cases h0 : v1 < 0
  · obtain ⟨f_nets, f_sources, f_registers, f_now, f_right, f_levelsKnown, f_head, f_tail, f_met, f_comesKnown, f_entry, f_round, a_kinds, a_operand, a_nexts, a_sourceAt, a_registerAt, a_registerSource, a_table, a_saved, a_matters, a_cubes, a_levels, a_edgeFlow, a_netFlow, a_queue, a_before, a_edge, a_leads, a_comes, a_group, a_later, a_goes, a_shows⟩ := u
    obtain ⟨f_nets, f_sources, f_registers, a_kind, a_first, a_second, a_third, a_follows, a_now, a_at, a_other, a_source, a_register, a_level, a_soon, a_depend, a_table, a_marked, a_after, a_shows, a_apart⟩ := v
    exact br_f (Int32.not_le.mpr h0) (br_f (Int32.not_le.mpr h0) ⟨rfl, ir_in w hn hX hY⟩)
  · obtain ⟨n, hn31, rfl⟩ := nI_of h0
    exact xm_tick w hn hX hn31 (fun u' hX' => ym_tick w hn hY hn31 (fun v' hY' => ⟨rfl, ir_in w (wth_lt _ _) hX' hY'⟩))
theorem i_vc_cycle {k : Nat} {u : SX} {v : SY} (I : i_Rel k u v) (hk : k + 6 ≤ 3072) (v1 : Int32) : wpX_cycle (fun r u' => wpY_cycle (fun r' v' => r' = r ∧ i_Rel (k + 6) u' v') v v1) u v1 := by
  obtain ⟨c, now, w, hn, hX, hY⟩ := I
  have hN := wf_N w
  by_cases hb : ∃ b : Bool, v1 = nI b.toNat
  · obtain ⟨b, rfl⟩ := hb
    exact xm_cycle w hn hX (fun u' l m hX' hl hm => ym_cycle w hn hY (fun v' l' m' hY' hl' hm' => ⟨by rw [per_uni hl hl'] at hm' ⊢; rw [ent_uni hm hm'], ir_in w hn hX' hY'⟩))
  · obtain ⟨f_nets, f_sources, f_registers, f_now, f_right, f_levelsKnown, f_head, f_tail, f_met, f_comesKnown, f_entry, f_round, a_kinds, a_operand, a_nexts, a_sourceAt, a_registerAt, a_registerSource, a_table, a_saved, a_matters, a_cubes, a_levels, a_edgeFlow, a_netFlow, a_queue, a_before, a_edge, a_leads, a_comes, a_group, a_later, a_goes, a_shows⟩ := u
    obtain ⟨f_nets, f_sources, f_registers, a_kind, a_first, a_second, a_third, a_follows, a_now, a_at, a_other, a_source, a_register, a_level, a_soon, a_depend, a_table, a_marked, a_after, a_shows, a_apart⟩ := v
    have hbad : v1 < 0 ∨ nI 2 ≤ v1 := by
      rcases pk_ix v1 (n := 2) (by omega) with h | h | ⟨j, hj, rfl⟩
      · exact Or.inl h
      · exact Or.inr h
      · exfalso
        have : j = 0 ∨ j = 1 := by omega
        rcases this with rfl | rfl
        · exact hb ⟨false, rfl⟩
        · exact hb ⟨true, rfl⟩
    have e2 : ∀ x : Int32, nI 2 ≤ x → ¬ x ≤ 1 ∧ (1 : Int32) < x := fun x hx => by
      have : (1 : Int32) < nI 2 := by decide
      have h2 := Int32.lt_of_lt_of_le this hx
      exact ⟨Int32.not_le.mpr h2, h2⟩
    rcases hbad with h | h
    · exact br_t h (br_t h (br_t rfl ⟨rfl, ir_in w hn hX hY⟩))
    · have h3 : ¬ v1 < 0 := Int32.not_lt.mpr (Int32.le_trans (nI_pos' (by omega)) h)
      exact br_f h3 (br_f (e2 v1 h).1 (br_f h3 (br_t (e2 v1 h).2 (br_t rfl ⟨rfl, ir_in w hn hX hY⟩))))
theorem i_vc_configurations {k : Nat} {u : SX} {v : SY} (I : i_Rel k u v) (hk : k + 6 ≤ 3072) : wpX_configurations (fun r u' => wpY_configurations (fun r' v' => r' = r ∧ i_Rel (k + 6) u' v') v) u := by
  obtain ⟨c, now, w, hn, hX, hY⟩ := I
  have hN := wf_N w
  exact xm_configurations w hX (fun u' r hX' hr => ym_configurations w hY (fun v' r' hY' hr' => ⟨CFN_uni hr hr', ir_in w hn hX' hY'⟩))
theorem i_vc_soonest {k : Nat} {u : SX} {v : SY} (I : i_Rel k u v) (hk : k + 6 ≤ 3072) (v1 : Int32) : wpX_soonest (fun r u' => wpY_soonest (fun r' v' => r' = r ∧ i_Rel (k + 6) u' v') v v1) u v1 := by
  obtain ⟨c, now, w, hn, hX, hY⟩ := I
  have hN := wf_N w
  rcases pk_ix v1 (n := 64) (by omega) with h | h | ⟨q, hq, rfl⟩
  · exact xo_soonest_neg w hX h (yo_soonest_out w hY (Or.inl h) ⟨rfl, ir_in w hn hX hY⟩)
  · exact xo_soonest_big w hX h (yo_soonest_out w hY (Or.inr h) ⟨rfl, ir_in w hn hX hY⟩)
  · exact xm_soonest w hX hq (fun u' r hX' hr => ym_soonest w hY hq (fun v' r' hY' hr' => ⟨sn_uni hr hr', ir_in w hn hX' hY'⟩))
theorem i_vc_alarm {k : Nat} {u : SX} {v : SY} (I : i_Rel k u v) (hk : k + 6 ≤ 3072) (v1 : Int32) : wpX_alarm (fun r u' => wpY_alarm (fun r' v' => r' = r ∧ i_Rel (k + 6) u' v') v v1) u v1 := by
  obtain ⟨c, now, w, hn, hX, hY⟩ := I
  have hN := wf_N w
  rcases pk_ix v1 (n := cN c) (by omega) with h | h | ⟨j, hj, rfl⟩
  · exact xn_alarm w hX (Or.inl h) (yn_alarm w hY (Or.inl h) ⟨rfl, ir_in w hn hX hY⟩)
  · exact xn_alarm w hX (Or.inr h) (yn_alarm w hY (Or.inr h) ⟨rfl, ir_in w hn hX hY⟩)
  · exact xm_alarm w hX hj (fun u' r hX' hr => ym_alarm w hY hj (fun v' r' hY' hr' => ⟨ALA_uni w hr hr', ir_in w hn hX' hY'⟩))
theorem i_vc_apart {k : Nat} {u : SX} {v : SY} (I : i_Rel k u v) (hk : k + 6 ≤ 3072) (v1 : Int32) (v2 : Int32) (v3 : Int32) : wpX_apart (fun r u' => wpY_apart (fun r' v' => r' = r ∧ i_Rel (k + 6) u' v') v v1 v2 v3) u v1 v2 v3 := by
  obtain ⟨c, now, w, hn, hX, hY⟩ := I
  have hN := wf_N w
  rcases pk_ix v1 (n := cN c) (by omega) with h | h | ⟨j, hj, rfl⟩
  · exact xn_apart w hX (Or.inl h) (yn_apart w hY (Or.inl h) ⟨rfl, ir_in w hn hX hY⟩)
  · exact xn_apart w hX (Or.inr h) (yn_apart w hY (Or.inr h) ⟨rfl, ir_in w hn hX hY⟩)
  · have hR2 := gw_p2 (show cR c ≤ 10 by have := wf_R w; omega)
    rcases pk_ix v2 (n := 2 ^ cR c) (by omega) with h | h | ⟨p, hp, rfl⟩
    · exact xo_apart w hX hj (Or.inl (Or.inl h)) (yo_apart w hY hj (Or.inl (Or.inl h)) ⟨rfl, ir_in w hn hX hY⟩)
    · exact xo_apart w hX hj (Or.inl (Or.inr h)) (yo_apart w hY hj (Or.inl (Or.inr h)) ⟨rfl, ir_in w hn hX hY⟩)
    · rcases pk_ix v3 (n := 2 ^ cR c) (by omega) with h | h | ⟨q, hq, rfl⟩
      · exact xo_apart w hX hj (Or.inr (Or.inl h)) (yo_apart w hY hj (Or.inr (Or.inl h)) ⟨rfl, ir_in w hn hX hY⟩)
      · exact xo_apart w hX hj (Or.inr (Or.inr h)) (yo_apart w hY hj (Or.inr (Or.inr h)) ⟨rfl, ir_in w hn hX hY⟩)
      · exact xm_apart w hX hj hp hq (fun u' r hX' hr => ym_apart w hY hj hp hq (fun v' r' hY' hr' => ⟨apt_uni hr hr', ir_in w hn hX' hY'⟩))
theorem i_vc_classes {k : Nat} {u : SX} {v : SY} (I : i_Rel k u v) (hk : k + 6 ≤ 3072) (v1 : Int32) : wpX_classes (fun r u' => wpY_classes (fun r' v' => r' = r ∧ i_Rel (k + 6) u' v') v v1) u v1 := by
  obtain ⟨c, now, w, hn, hX, hY⟩ := I
  have hN := wf_N w
  rcases pk_ix v1 (n := cN c) (by omega) with h | h | ⟨j, hj, rfl⟩
  · exact xn_classes w hX (Or.inl h) (yn_classes w hY (Or.inl h) ⟨rfl, ir_in w hn hX hY⟩)
  · exact xn_classes w hX (Or.inr h) (yn_classes w hY (Or.inr h) ⟨rfl, ir_in w hn hX hY⟩)
  · exact xm_classes w hX hj (fun u' r hX' hr => ym_classes w hY hj (fun v' r' hY' hr' => ⟨cls_uni hr hr', ir_in w hn hX' hY'⟩))
end
