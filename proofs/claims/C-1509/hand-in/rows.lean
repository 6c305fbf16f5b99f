section
/-! pure rows to paste: stores, nI and lN arithmetic, masks, shifts, narrowing, branches by naturals (pk_le, pk_lt, pk_eq), loops (lp1 .. lp16: the measure of the state; rp1 ..: recursion), negatives. Take what you need -/
theorem pk_us {f : Nat → Int32} {k : Nat} {x : Int32} : upd f k x k = x := if_pos rfl
theorem pk_un {f : Nat → Int32} {k j : Nat} {x : Int32} (h : j ≠ k) : upd f k x j = f j := if_neg h
theorem pk_uLs {f : Nat → Int64} {k : Nat} {x : Int64} : vp_updL f k x k = x := if_pos rfl
theorem pk_uLn {f : Nat → Int64} {k j : Nat} {x : Int64} (h : j ≠ k) : vp_updL f k x j = f j := if_neg h
theorem pk_sub {a b : Nat} (h : b ≤ a) : nI a - nI b = nI (a - b) := by
  obtain ⟨c, rfl⟩ : ∃ c, a = c + b := ⟨a - b, by omega⟩
  rw [← nI_add, Int32.add_sub_cancel, Nat.add_sub_cancel]
theorem pk_m1 (n : Nat) : nI (n + 1) + (-1) = nI n := by
  rw [← nI_1, Int32.add_assoc, show (1 : Int32) + (-1) = 0 from rfl, Int32.add_zero]
theorem pk_mul (a b : Nat) : nI a * nI b = nI (a * b) := (Int32.ofNat_mul a b).symm
theorem pk_div {a d : Nat} (ha : a < 2 ^ 31) (h0 : 0 < d) (hd : d < 2 ^ 31) : nI a / nI d = nI (a / d) := by
  apply Int32.toInt_inj.mp
  rw [lg_idiv_nonneg (by rw [nI_toInt ha]; omega) (by rw [nI_toInt hd]; omega), nI_toInt ha, nI_toInt hd, nI_toInt (Nat.lt_of_le_of_lt (Nat.div_le_self a d) ha)]
  first | rfl | exact (Int.natCast_ediv _ _).symm
theorem pk_rem {a d : Nat} (ha : a < 2 ^ 31) (h0 : 0 < d) (hd : d < 2 ^ 31) : nI a - nI a / nI d * nI d = nI (a % d) := by
  rw [pk_div ha h0 hd, pk_mul, pk_sub (Nat.div_mul_le_self a d)]
  exact congrArg nI (by have := Nat.div_add_mod' a d; omega)
theorem pk_sub_toInt {a b : Nat} (ha : a < 2 ^ 30) (hb : b < 2 ^ 30) : (nI a - nI b).toInt = (a : Int) - b := by
  rw [Int32.toInt_sub, nI_toInt (by omega), nI_toInt (by omega)]
  exact Int.bmod_eq_of_le (by omega) (by omega)
theorem pk_sneg {a b : Nat} (hb : b < 2 ^ 30) (h : a < b) : nI a - nI b < 0 := by
  rw [Int32.lt_iff_toInt_lt, pk_sub_toInt (by omega) hb, show (0 : Int32).toInt = 0 from by decide]
  omega
theorem pk_ix (x : Int32) {n : Nat} (hn : n < 2 ^ 31) : x < 0 ∨ nI n ≤ x ∨ ∃ j : Nat, j < n ∧ x = nI j := by
  by_cases h : x < 0
  · exact Or.inl h
  · obtain ⟨j, hj, rfl⟩ := nI_of h
    by_cases h2 : j < n
    · exact Or.inr (Or.inr ⟨j, h2, rfl⟩)
    · exact Or.inr (Or.inl (nI_le (by omega) hj))
theorem pk_le {x y : Int32} {A B : Prop} (a b : Nat) (f : a ≤ b → A) (g : b < a → B) (hx : x = nI a := by rfl) (hy : y = nI b := by rfl) (ha : a < 2 ^ 31 := by omega) (hb : b < 2 ^ 31 := by omega) : (x ≤ y → A) ∧ (¬ x ≤ y → B) := by
  subst hx hy
  rw [nI_leI ha hb]
  exact ⟨f, fun z => g (by omega)⟩
theorem pk_lt {x y : Int32} {A B : Prop} (a b : Nat) (f : a < b → A) (g : b ≤ a → B) (hx : x = nI a := by rfl) (hy : y = nI b := by rfl) (ha : a < 2 ^ 31 := by omega) (hb : b < 2 ^ 31 := by omega) : (x < y → A) ∧ (¬ x < y → B) := by
  subst hx hy
  rw [nI_ltI ha hb]
  exact ⟨f, fun z => g (by omega)⟩
theorem pk_eq {x y : Int32} {A B : Prop} (a b : Nat) (f : a = b → A) (g : a ≠ b → B) (hx : x = nI a := by rfl) (hy : y = nI b := by rfl) (ha : a < 2 ^ 31 := by omega) (hb : b < 2 ^ 31 := by omega) : (x = y → A) ∧ (¬ x = y → B) := by
  subst hx hy
  rw [nI_eq ha hb]
  exact ⟨f, g⟩
theorem pk_in {x : Int32} (n N : Nat) (h : n < N) (hx : x = nI n := by rfl) (hN : N < 2 ^ 31 := by omega) : vp_in x N := by
  subst hx
  exact vp_in_nI h hN
theorem pk_cl {x : Int32} (n : Nat) (hx : x = nI n := by rfl) (h : n < 2 ^ 31 := by omega) : x.toNatClampNeg = n := by
  subst hx
  exact nI_clamp h
theorem pk_tn {n : Nat} (h : n < 2 ^ 32) : (nI n).toBitVec.toNat = n := Nat.mod_eq_of_lt h
theorem pk_and (x : Int32) {m : Int32} (k : Nat) (hm : m.toBitVec.toNat = 2 ^ k - 1) : x &&& m = nI (x.toBitVec.toNat % 2 ^ k) := by
  apply Int32.toBitVec_inj.mp
  apply BitVec.eq_of_toNat_eq
  rw [Int32.toBitVec_and, BitVec.toNat_and, hm, Nat.and_two_pow_sub_one_eq_mod]
  show _ = (BitVec.ofNat 32 _).toNat
  rw [BitVec.toNat_ofNat]
  exact (Nat.mod_eq_of_lt (Nat.lt_of_le_of_lt (Nat.mod_le _ _) x.toBitVec.isLt)).symm
theorem pk_andN {n : Nat} (h : n < 2 ^ 32) {m : Int32} (k : Nat) (hm : m.toBitVec.toNat = 2 ^ k - 1) : nI n &&& m = nI (n % 2 ^ k) := by
  rw [pk_and _ k hm, pk_tn h]
theorem pk_andE (x : Int32) {m : Int32} (k : Nat) (hm : m.toBitVec.toNat = 2 ^ k - 1) : ∃ j : Nat, j < 2 ^ k ∧ x &&& m = nI j := ⟨_, Nat.mod_lt _ (Nat.two_pow_pos k), pk_and x k hm⟩
theorem pk_andIn (x : Int32) {m : Int32} (k : Nat) (hm : m.toBitVec.toNat = 2 ^ k - 1) (hk : k ≤ 30) : vp_in (x &&& m) (2 ^ k) := by
  obtain ⟨j, hj, e⟩ := pk_andE x k hm
  rw [e]
  exact vp_in_nI hj (Nat.lt_of_le_of_lt (Nat.pow_le_pow_right (by decide) hk) (by decide))
theorem pk_shl (a s : Int32) (k : Nat) (hs : (s.toBitVec.smod 32).toNat = k) : (a <<< s).toBitVec.toNat = a.toBitVec.toNat * 2 ^ k % 2 ^ 32 := by
  show (a.toBitVec <<< (s.toBitVec.smod 32).toNat).toNat = _
  rw [hs, BitVec.toNat_shiftLeft, Nat.shiftLeft_eq]
theorem pk_shlN {n : Nat} (s : Int32) (k : Nat) (hs : (s.toBitVec.smod 32).toNat = k) (h : n * 2 ^ k < 2 ^ 32) : nI n <<< s = nI (n * 2 ^ k) := by
  apply Int32.toBitVec_inj.mp
  apply BitVec.eq_of_toNat_eq
  have hn : n < 2 ^ 32 := Nat.lt_of_le_of_lt (Nat.le_mul_of_pos_right n (Nat.two_pow_pos k)) h
  rw [pk_shl _ _ k hs, pk_tn hn, pk_tn h, Nat.mod_eq_of_lt h]
theorem pk_shr (a s : Int32) (k : Nat) (hs : (s.toBitVec.smod 32).toNat = k) : (a >>> s).toInt = a.toInt >>> k := by
  show (a.toBitVec.sshiftRight (s.toBitVec.smod 32).toNat).toInt = _
  rw [hs, BitVec.toInt_sshiftRight]
  rfl
theorem pk_shrN {n : Nat} (h : n < 2 ^ 31) (s : Int32) (k : Nat) (hs : (s.toBitVec.smod 32).toNat = k) : nI n >>> s = nI (n / 2 ^ k) := by
  apply Int32.toInt_inj.mp
  have h2 : n / 2 ^ k ≤ n := Nat.div_le_self _ _
  rw [pk_shr _ _ k hs, nI_toInt h, nI_toInt (by omega), Int.shiftRight_eq_div_pow]
  rfl
theorem pk_ushr (x s : Int32) (k : Nat) (hs : ((s.toUInt32 &&& Int32.toUInt32 31).toBitVec % 32).toNat = k) : (x.toUInt32 >>> (s.toUInt32 &&& Int32.toUInt32 31)).toInt32.toBitVec.toNat = x.toBitVec.toNat / 2 ^ k := by
  have e : (x.toUInt32 >>> (s.toUInt32 &&& Int32.toUInt32 31)).toInt32.toBitVec = x.toBitVec >>> k := by
    rw [← hs]
    exact UInt32.toBitVec_shiftRight _ _
  rw [e, BitVec.toNat_ushiftRight, Nat.shiftRight_eq_div_pow]
theorem pk_ushrN {n : Nat} (hn : n < 2 ^ 32) (s : Int32) (k : Nat) (hs : ((s.toUInt32 &&& Int32.toUInt32 31).toBitVec % 32).toNat = k) : ((nI n).toUInt32 >>> (s.toUInt32 &&& Int32.toUInt32 31)).toInt32 = nI (n / 2 ^ k) := by
  apply Int32.toBitVec_inj.mp
  apply BitVec.eq_of_toNat_eq
  rw [pk_ushr _ s k hs, pk_tn hn, pk_tn (Nat.lt_of_le_of_lt (Nat.div_le_self _ _) hn)]
theorem pk_nb (z : Int32) : narrow .byte (.int z.toInt8.toInt32) = .int z.toInt8.toInt32 := congrArg Value.int (by simp)
theorem pk_ns (z : Int32) : narrow .short (.int z.toInt16.toInt32) = .int z.toInt16.toInt32 := congrArg Value.int (by simp)
theorem pk_fb (r : Int32) : fits .byte (.int r.toInt8.toInt32) = true := by
  have ⟨a, b⟩ := lg_i2b_range r
  have h1 : (-128 : Int32).toInt = -128 := by decide
  have h2 : (127 : Int32).toInt = 127 := by decide
  simp only [fits, Bool.and_eq_true, decide_eq_true_eq, Int32.le_iff_toInt_le, h1, h2]
  omega
theorem pk_fs (r : Int32) : fits .short (.int r.toInt16.toInt32) = true := by
  have ⟨a, b⟩ := lg_i2s_range r
  have h1 : (-32768 : Int32).toInt = -32768 := by decide
  have h2 : (32767 : Int32).toInt = 32767 := by decide
  simp only [fits, Bool.and_eq_true, decide_eq_true_eq, Int32.le_iff_toInt_le, h1, h2]
  omega
theorem pk_charN {q : Nat} (hq : q < 65536) : narrow .char (.int (nI q)) = .int (nI q) ∧ fits .char (.int (nI q)) = true := by
  constructor
  · have e : (nI q).toUInt32.toUInt16.toUInt32.toInt32 = nI q := by
      apply Int32.toBitVec_inj.mp
      apply BitVec.eq_of_toNat_eq
      show (nI q).toUInt32.toUInt16.toUInt32.toNat = q % 2 ^ 32
      rw [UInt16.toNat_toUInt32, UInt32.toNat_toUInt16, show (nI q).toUInt32.toNat = q % 2 ^ 32 from rfl]
      omega
    exact congrArg Value.int e
  · have a : (0 : Int32) ≤ nI q := nI_pos' (by omega)
    have b : nI q ≤ 65535 := nI_le (b := 65535) (by omega) (by decide)
    show (decide ((0 : Int32) ≤ nI q) && decide (nI q ≤ 65535)) = true
    rw [decide_eq_true a, decide_eq_true b]
    rfl
theorem pk_char (x : Int32) : (x.toUInt32 % 65536).toInt32 = nI (x.toBitVec.toNat % 65536) := by
  apply Int32.toBitVec_inj.mp
  apply BitVec.eq_of_toNat_eq
  rw [pk_tn (by omega)]
  show (x.toUInt32 % 65536).toNat = _
  rw [UInt32.toNat_mod]
  rfl
theorem pk_nc (x : Int32) : narrow .char (.int (x.toUInt32 % 65536).toInt32) = .int (x.toUInt32 % 65536).toInt32 := by
  rw [pk_char]
  exact (pk_charN (Nat.mod_lt _ (by decide))).1
theorem pk_fc (x : Int32) : fits .char (.int (x.toUInt32 % 65536).toInt32) = true := by
  rw [pk_char]
  exact (pk_charN (Nat.mod_lt _ (by decide))).2
theorem pk_vb (z : Int32) : vp_nar .byte z.toInt8.toInt32 = z.toInt8.toInt32 := by rw [vp_nar_byte]; simp
theorem pk_vs (z : Int32) : vp_nar .short z.toInt16.toInt32 = z.toInt16.toInt32 := by rw [vp_nar_short]; simp
theorem pk_vc (z : Int32) : vp_nar .char (z.toUInt32 % 65536).toInt32 = (z.toUInt32 % 65536).toInt32 := Value.int.inj (pk_nc z)
theorem pk_lT {n : Nat} (h : n < 2 ^ 63) : (lN n).toInt = (n : Int) := lg_ofNat_toInt h
theorem pk_lLT {a b : Nat} (ha : a < 2 ^ 63) (hb : b < 2 ^ 63) : lN a < lN b ↔ a < b := by
  rw [Int64.lt_iff_toInt_lt, pk_lT ha, pk_lT hb]; omega
theorem pk_lLE {a b : Nat} (ha : a < 2 ^ 63) (hb : b < 2 ^ 63) : lN a ≤ lN b ↔ a ≤ b := by
  rw [Int64.le_iff_toInt_le, pk_lT ha, pk_lT hb]; omega
theorem pk_lEQ {a b : Nat} (ha : a < 2 ^ 63) (hb : b < 2 ^ 63) : lN a = lN b ↔ a = b := by
  rw [← Int64.toInt_inj, pk_lT ha, pk_lT hb]; omega
theorem pk_lOf {x : Int64} (h : ¬ x < 0) : ∃ k : Nat, k < 2 ^ 63 ∧ x = lN k := by
  rw [Int64.lt_iff_toInt_lt] at h
  have h0 : (0 : Int64).toInt = 0 := by decide
  have hx := Int64.toInt_lt x
  refine ⟨x.toInt.toNat, by omega, Int64.toInt_inj.mp ?_⟩
  rw [pk_lT (by omega)]
  omega
theorem pk_lDiv {a b : Nat} (ha : a < 2 ^ 63) (h0 : 0 < b) (hb : b < 2 ^ 63) : lN a / lN b = lN (a / b) := by
  apply Int64.toInt_inj.mp
  rw [lg_ldiv_nonneg (by rw [pk_lT ha]; omega) (by rw [pk_lT hb]; omega), pk_lT ha, pk_lT hb, pk_lT (Nat.lt_of_le_of_lt (Nat.div_le_self a b) ha)]
  rfl
theorem pk_lRem {a b : Nat} (ha : a < 2 ^ 63) (h0 : 0 < b) (hb : b < 2 ^ 63) : lN a - lN a / lN b * lN b = lN (a % b) := by
  rw [pk_lDiv ha h0 hb, lN_mul, lN_sub (Nat.div_mul_le_self a b)]
  exact congrArg lN (by have := Nat.div_add_mod' a b; omega)
theorem pk_loop {σ : Type} (W : Nat → Nat → σ → Prop) (I : Nat → σ → Prop) (e i0 : Nat) (s : σ) (hi : i0 ≤ e) (h0 : I i0 s) (hx : ∀ n s, I e s → W (n + 1) e s)
    (hs : ∀ n i s, i < e → I i s → (∀ s', I (i + 1) s' → W n (i + 1) s') → W (n + 1) i s) : ∃ n, W n i0 s :=
  ⟨e + 1, loop_i W I e hx hs (e + 1) i0 s hi (by omega) h0⟩
theorem pk_loopD {σ : Type} (W : Nat → Nat → σ → Prop) (I : Nat → σ → Prop) (hx : ∀ n s, I 0 s → W (n + 1) 0 s)
    (hs : ∀ n i s, I (i + 1) s → (∀ s', I i s' → W n i s') → W (n + 1) (i + 1) s) : ∀ (e : Nat) (s : σ), I e s → W (e + 1) e s := by
  intro e
  induction e with
  | zero => exact fun s h => hx 0 s h
  | succ e ih => exact fun s h => hs (e + 1) e s h (fun s' h' => ih s' h')
theorem lp1 {A1 : Type} (W : Nat → A1 → Prop) (I : A1 → Prop) (μ : A1 → Nat) (hs : ∀ (n : Nat) (a1 : A1), I a1 → (∀ (b1 : A1), I b1 → μ b1 < μ a1 → W n b1) → W (n + 1) a1) (a1 : A1) (h : I a1) : ∃ n, W n a1 :=
  loop_m (σ := A1) (fun n s => W n s) (fun s => I s) (fun s => μ s) (fun n s hI hk => hs n s hI (fun b1 h9 hm => hk b1 h9 hm)) a1 h
theorem lp2 {A1 A2 : Type} (W : Nat → A1 → A2 → Prop) (I : A1 → A2 → Prop) (μ : A1 → A2 → Nat) (hs : ∀ (n : Nat) (a1 : A1) (a2 : A2), I a1 a2 → (∀ (b1 : A1) (b2 : A2), I b1 b2 → μ b1 b2 < μ a1 a2 → W n b1 b2) → W (n + 1) a1 a2) (a1 : A1) (a2 : A2) (h : I a1 a2) : ∃ n, W n a1 a2 :=
  loop_m (σ := A1 × A2) (fun n s => W n s.1 s.2) (fun s => I s.1 s.2) (fun s => μ s.1 s.2) (fun n s hI hk => hs n s.1 s.2 hI (fun b1 b2 h9 hm => hk (b1, b2) h9 hm)) (a1, a2) h
theorem lp3 {A1 A2 A3 : Type} (W : Nat → A1 → A2 → A3 → Prop) (I : A1 → A2 → A3 → Prop) (μ : A1 → A2 → A3 → Nat) (hs : ∀ (n : Nat) (a1 : A1) (a2 : A2) (a3 : A3), I a1 a2 a3 → (∀ (b1 : A1) (b2 : A2) (b3 : A3), I b1 b2 b3 → μ b1 b2 b3 < μ a1 a2 a3 → W n b1 b2 b3) → W (n + 1) a1 a2 a3) (a1 : A1) (a2 : A2) (a3 : A3) (h : I a1 a2 a3) : ∃ n, W n a1 a2 a3 :=
  loop_m (σ := A1 × A2 × A3) (fun n s => W n s.1 s.2.1 s.2.2) (fun s => I s.1 s.2.1 s.2.2) (fun s => μ s.1 s.2.1 s.2.2) (fun n s hI hk => hs n s.1 s.2.1 s.2.2 hI (fun b1 b2 b3 h9 hm => hk (b1, b2, b3) h9 hm)) (a1, a2, a3) h
theorem lp4 {A1 A2 A3 A4 : Type} (W : Nat → A1 → A2 → A3 → A4 → Prop) (I : A1 → A2 → A3 → A4 → Prop) (μ : A1 → A2 → A3 → A4 → Nat) (hs : ∀ (n : Nat) (a1 : A1) (a2 : A2) (a3 : A3) (a4 : A4), I a1 a2 a3 a4 → (∀ (b1 : A1) (b2 : A2) (b3 : A3) (b4 : A4), I b1 b2 b3 b4 → μ b1 b2 b3 b4 < μ a1 a2 a3 a4 → W n b1 b2 b3 b4) → W (n + 1) a1 a2 a3 a4) (a1 : A1) (a2 : A2) (a3 : A3) (a4 : A4) (h : I a1 a2 a3 a4) : ∃ n, W n a1 a2 a3 a4 :=
  loop_m (σ := A1 × A2 × A3 × A4) (fun n s => W n s.1 s.2.1 s.2.2.1 s.2.2.2) (fun s => I s.1 s.2.1 s.2.2.1 s.2.2.2) (fun s => μ s.1 s.2.1 s.2.2.1 s.2.2.2) (fun n s hI hk => hs n s.1 s.2.1 s.2.2.1 s.2.2.2 hI (fun b1 b2 b3 b4 h9 hm => hk (b1, b2, b3, b4) h9 hm)) (a1, a2, a3, a4) h
theorem lp5 {A1 A2 A3 A4 A5 : Type} (W : Nat → A1 → A2 → A3 → A4 → A5 → Prop) (I : A1 → A2 → A3 → A4 → A5 → Prop) (μ : A1 → A2 → A3 → A4 → A5 → Nat) (hs : ∀ (n : Nat) (a1 : A1) (a2 : A2) (a3 : A3) (a4 : A4) (a5 : A5), I a1 a2 a3 a4 a5 → (∀ (b1 : A1) (b2 : A2) (b3 : A3) (b4 : A4) (b5 : A5), I b1 b2 b3 b4 b5 → μ b1 b2 b3 b4 b5 < μ a1 a2 a3 a4 a5 → W n b1 b2 b3 b4 b5) → W (n + 1) a1 a2 a3 a4 a5) (a1 : A1) (a2 : A2) (a3 : A3) (a4 : A4) (a5 : A5) (h : I a1 a2 a3 a4 a5) : ∃ n, W n a1 a2 a3 a4 a5 :=
  loop_m (σ := A1 × A2 × A3 × A4 × A5) (fun n s => W n s.1 s.2.1 s.2.2.1 s.2.2.2.1 s.2.2.2.2) (fun s => I s.1 s.2.1 s.2.2.1 s.2.2.2.1 s.2.2.2.2) (fun s => μ s.1 s.2.1 s.2.2.1 s.2.2.2.1 s.2.2.2.2) (fun n s hI hk => hs n s.1 s.2.1 s.2.2.1 s.2.2.2.1 s.2.2.2.2 hI (fun b1 b2 b3 b4 b5 h9 hm => hk (b1, b2, b3, b4, b5) h9 hm)) (a1, a2, a3, a4, a5) h
theorem lp6 {A1 A2 A3 A4 A5 A6 : Type} (W : Nat → A1 → A2 → A3 → A4 → A5 → A6 → Prop) (I : A1 → A2 → A3 → A4 → A5 → A6 → Prop) (μ : A1 → A2 → A3 → A4 → A5 → A6 → Nat) (hs : ∀ (n : Nat) (a1 : A1) (a2 : A2) (a3 : A3) (a4 : A4) (a5 : A5) (a6 : A6), I a1 a2 a3 a4 a5 a6 → (∀ (b1 : A1) (b2 : A2) (b3 : A3) (b4 : A4) (b5 : A5) (b6 : A6), I b1 b2 b3 b4 b5 b6 → μ b1 b2 b3 b4 b5 b6 < μ a1 a2 a3 a4 a5 a6 → W n b1 b2 b3 b4 b5 b6) → W (n + 1) a1 a2 a3 a4 a5 a6) (a1 : A1) (a2 : A2) (a3 : A3) (a4 : A4) (a5 : A5) (a6 : A6) (h : I a1 a2 a3 a4 a5 a6) : ∃ n, W n a1 a2 a3 a4 a5 a6 :=
  loop_m (σ := A1 × A2 × A3 × A4 × A5 × A6) (fun n s => W n s.1 s.2.1 s.2.2.1 s.2.2.2.1 s.2.2.2.2.1 s.2.2.2.2.2) (fun s => I s.1 s.2.1 s.2.2.1 s.2.2.2.1 s.2.2.2.2.1 s.2.2.2.2.2) (fun s => μ s.1 s.2.1 s.2.2.1 s.2.2.2.1 s.2.2.2.2.1 s.2.2.2.2.2) (fun n s hI hk => hs n s.1 s.2.1 s.2.2.1 s.2.2.2.1 s.2.2.2.2.1 s.2.2.2.2.2 hI (fun b1 b2 b3 b4 b5 b6 h9 hm => hk (b1, b2, b3, b4, b5, b6) h9 hm)) (a1, a2, a3, a4, a5, a6) h
theorem lp7 {A1 A2 A3 A4 A5 A6 A7 : Type} (W : Nat → A1 → A2 → A3 → A4 → A5 → A6 → A7 → Prop) (I : A1 → A2 → A3 → A4 → A5 → A6 → A7 → Prop) (μ : A1 → A2 → A3 → A4 → A5 → A6 → A7 → Nat) (hs : ∀ (n : Nat) (a1 : A1) (a2 : A2) (a3 : A3) (a4 : A4) (a5 : A5) (a6 : A6) (a7 : A7), I a1 a2 a3 a4 a5 a6 a7 → (∀ (b1 : A1) (b2 : A2) (b3 : A3) (b4 : A4) (b5 : A5) (b6 : A6) (b7 : A7), I b1 b2 b3 b4 b5 b6 b7 → μ b1 b2 b3 b4 b5 b6 b7 < μ a1 a2 a3 a4 a5 a6 a7 → W n b1 b2 b3 b4 b5 b6 b7) → W (n + 1) a1 a2 a3 a4 a5 a6 a7) (a1 : A1) (a2 : A2) (a3 : A3) (a4 : A4) (a5 : A5) (a6 : A6) (a7 : A7) (h : I a1 a2 a3 a4 a5 a6 a7) : ∃ n, W n a1 a2 a3 a4 a5 a6 a7 :=
  loop_m (σ := A1 × A2 × A3 × A4 × A5 × A6 × A7) (fun n s => W n s.1 s.2.1 s.2.2.1 s.2.2.2.1 s.2.2.2.2.1 s.2.2.2.2.2.1 s.2.2.2.2.2.2) (fun s => I s.1 s.2.1 s.2.2.1 s.2.2.2.1 s.2.2.2.2.1 s.2.2.2.2.2.1 s.2.2.2.2.2.2) (fun s => μ s.1 s.2.1 s.2.2.1 s.2.2.2.1 s.2.2.2.2.1 s.2.2.2.2.2.1 s.2.2.2.2.2.2) (fun n s hI hk => hs n s.1 s.2.1 s.2.2.1 s.2.2.2.1 s.2.2.2.2.1 s.2.2.2.2.2.1 s.2.2.2.2.2.2 hI (fun b1 b2 b3 b4 b5 b6 b7 h9 hm => hk (b1, b2, b3, b4, b5, b6, b7) h9 hm)) (a1, a2, a3, a4, a5, a6, a7) h
theorem lp8 {A1 A2 A3 A4 A5 A6 A7 A8 : Type} (W : Nat → A1 → A2 → A3 → A4 → A5 → A6 → A7 → A8 → Prop) (I : A1 → A2 → A3 → A4 → A5 → A6 → A7 → A8 → Prop) (μ : A1 → A2 → A3 → A4 → A5 → A6 → A7 → A8 → Nat) (hs : ∀ (n : Nat) (a1 : A1) (a2 : A2) (a3 : A3) (a4 : A4) (a5 : A5) (a6 : A6) (a7 : A7) (a8 : A8), I a1 a2 a3 a4 a5 a6 a7 a8 → (∀ (b1 : A1) (b2 : A2) (b3 : A3) (b4 : A4) (b5 : A5) (b6 : A6) (b7 : A7) (b8 : A8), I b1 b2 b3 b4 b5 b6 b7 b8 → μ b1 b2 b3 b4 b5 b6 b7 b8 < μ a1 a2 a3 a4 a5 a6 a7 a8 → W n b1 b2 b3 b4 b5 b6 b7 b8) → W (n + 1) a1 a2 a3 a4 a5 a6 a7 a8) (a1 : A1) (a2 : A2) (a3 : A3) (a4 : A4) (a5 : A5) (a6 : A6) (a7 : A7) (a8 : A8) (h : I a1 a2 a3 a4 a5 a6 a7 a8) : ∃ n, W n a1 a2 a3 a4 a5 a6 a7 a8 :=
  loop_m (σ := A1 × A2 × A3 × A4 × A5 × A6 × A7 × A8) (fun n s => W n s.1 s.2.1 s.2.2.1 s.2.2.2.1 s.2.2.2.2.1 s.2.2.2.2.2.1 s.2.2.2.2.2.2.1 s.2.2.2.2.2.2.2) (fun s => I s.1 s.2.1 s.2.2.1 s.2.2.2.1 s.2.2.2.2.1 s.2.2.2.2.2.1 s.2.2.2.2.2.2.1 s.2.2.2.2.2.2.2) (fun s => μ s.1 s.2.1 s.2.2.1 s.2.2.2.1 s.2.2.2.2.1 s.2.2.2.2.2.1 s.2.2.2.2.2.2.1 s.2.2.2.2.2.2.2) (fun n s hI hk => hs n s.1 s.2.1 s.2.2.1 s.2.2.2.1 s.2.2.2.2.1 s.2.2.2.2.2.1 s.2.2.2.2.2.2.1 s.2.2.2.2.2.2.2 hI (fun b1 b2 b3 b4 b5 b6 b7 b8 h9 hm => hk (b1, b2, b3, b4, b5, b6, b7, b8) h9 hm)) (a1, a2, a3, a4, a5, a6, a7, a8) h
theorem lp9 {A1 A2 A3 A4 A5 A6 A7 A8 A9 : Type} (W : Nat → A1 → A2 → A3 → A4 → A5 → A6 → A7 → A8 → A9 → Prop) (I : A1 → A2 → A3 → A4 → A5 → A6 → A7 → A8 → A9 → Prop) (μ : A1 → A2 → A3 → A4 → A5 → A6 → A7 → A8 → A9 → Nat) (hs : ∀ (n : Nat) (a1 : A1) (a2 : A2) (a3 : A3) (a4 : A4) (a5 : A5) (a6 : A6) (a7 : A7) (a8 : A8) (a9 : A9), I a1 a2 a3 a4 a5 a6 a7 a8 a9 → (∀ (b1 : A1) (b2 : A2) (b3 : A3) (b4 : A4) (b5 : A5) (b6 : A6) (b7 : A7) (b8 : A8) (b9 : A9), I b1 b2 b3 b4 b5 b6 b7 b8 b9 → μ b1 b2 b3 b4 b5 b6 b7 b8 b9 < μ a1 a2 a3 a4 a5 a6 a7 a8 a9 → W n b1 b2 b3 b4 b5 b6 b7 b8 b9) → W (n + 1) a1 a2 a3 a4 a5 a6 a7 a8 a9) (a1 : A1) (a2 : A2) (a3 : A3) (a4 : A4) (a5 : A5) (a6 : A6) (a7 : A7) (a8 : A8) (a9 : A9) (h : I a1 a2 a3 a4 a5 a6 a7 a8 a9) : ∃ n, W n a1 a2 a3 a4 a5 a6 a7 a8 a9 :=
  loop_m (σ := A1 × A2 × A3 × A4 × A5 × A6 × A7 × A8 × A9) (fun n s => W n s.1 s.2.1 s.2.2.1 s.2.2.2.1 s.2.2.2.2.1 s.2.2.2.2.2.1 s.2.2.2.2.2.2.1 s.2.2.2.2.2.2.2.1 s.2.2.2.2.2.2.2.2) (fun s => I s.1 s.2.1 s.2.2.1 s.2.2.2.1 s.2.2.2.2.1 s.2.2.2.2.2.1 s.2.2.2.2.2.2.1 s.2.2.2.2.2.2.2.1 s.2.2.2.2.2.2.2.2) (fun s => μ s.1 s.2.1 s.2.2.1 s.2.2.2.1 s.2.2.2.2.1 s.2.2.2.2.2.1 s.2.2.2.2.2.2.1 s.2.2.2.2.2.2.2.1 s.2.2.2.2.2.2.2.2) (fun n s hI hk => hs n s.1 s.2.1 s.2.2.1 s.2.2.2.1 s.2.2.2.2.1 s.2.2.2.2.2.1 s.2.2.2.2.2.2.1 s.2.2.2.2.2.2.2.1 s.2.2.2.2.2.2.2.2 hI (fun b1 b2 b3 b4 b5 b6 b7 b8 b9 h9 hm => hk (b1, b2, b3, b4, b5, b6, b7, b8, b9) h9 hm)) (a1, a2, a3, a4, a5, a6, a7, a8, a9) h
theorem lp10 {A1 A2 A3 A4 A5 A6 A7 A8 A9 A10 : Type} (W : Nat → A1 → A2 → A3 → A4 → A5 → A6 → A7 → A8 → A9 → A10 → Prop) (I : A1 → A2 → A3 → A4 → A5 → A6 → A7 → A8 → A9 → A10 → Prop) (μ : A1 → A2 → A3 → A4 → A5 → A6 → A7 → A8 → A9 → A10 → Nat) (hs : ∀ (n : Nat) (a1 : A1) (a2 : A2) (a3 : A3) (a4 : A4) (a5 : A5) (a6 : A6) (a7 : A7) (a8 : A8) (a9 : A9) (a10 : A10), I a1 a2 a3 a4 a5 a6 a7 a8 a9 a10 → (∀ (b1 : A1) (b2 : A2) (b3 : A3) (b4 : A4) (b5 : A5) (b6 : A6) (b7 : A7) (b8 : A8) (b9 : A9) (b10 : A10), I b1 b2 b3 b4 b5 b6 b7 b8 b9 b10 → μ b1 b2 b3 b4 b5 b6 b7 b8 b9 b10 < μ a1 a2 a3 a4 a5 a6 a7 a8 a9 a10 → W n b1 b2 b3 b4 b5 b6 b7 b8 b9 b10) → W (n + 1) a1 a2 a3 a4 a5 a6 a7 a8 a9 a10) (a1 : A1) (a2 : A2) (a3 : A3) (a4 : A4) (a5 : A5) (a6 : A6) (a7 : A7) (a8 : A8) (a9 : A9) (a10 : A10) (h : I a1 a2 a3 a4 a5 a6 a7 a8 a9 a10) : ∃ n, W n a1 a2 a3 a4 a5 a6 a7 a8 a9 a10 :=
  loop_m (σ := A1 × A2 × A3 × A4 × A5 × A6 × A7 × A8 × A9 × A10) (fun n s => W n s.1 s.2.1 s.2.2.1 s.2.2.2.1 s.2.2.2.2.1 s.2.2.2.2.2.1 s.2.2.2.2.2.2.1 s.2.2.2.2.2.2.2.1 s.2.2.2.2.2.2.2.2.1 s.2.2.2.2.2.2.2.2.2) (fun s => I s.1 s.2.1 s.2.2.1 s.2.2.2.1 s.2.2.2.2.1 s.2.2.2.2.2.1 s.2.2.2.2.2.2.1 s.2.2.2.2.2.2.2.1 s.2.2.2.2.2.2.2.2.1 s.2.2.2.2.2.2.2.2.2) (fun s => μ s.1 s.2.1 s.2.2.1 s.2.2.2.1 s.2.2.2.2.1 s.2.2.2.2.2.1 s.2.2.2.2.2.2.1 s.2.2.2.2.2.2.2.1 s.2.2.2.2.2.2.2.2.1 s.2.2.2.2.2.2.2.2.2) (fun n s hI hk => hs n s.1 s.2.1 s.2.2.1 s.2.2.2.1 s.2.2.2.2.1 s.2.2.2.2.2.1 s.2.2.2.2.2.2.1 s.2.2.2.2.2.2.2.1 s.2.2.2.2.2.2.2.2.1 s.2.2.2.2.2.2.2.2.2 hI (fun b1 b2 b3 b4 b5 b6 b7 b8 b9 b10 h9 hm => hk (b1, b2, b3, b4, b5, b6, b7, b8, b9, b10) h9 hm)) (a1, a2, a3, a4, a5, a6, a7, a8, a9, a10) h
theorem lp11 {A1 A2 A3 A4 A5 A6 A7 A8 A9 A10 A11 : Type} (W : Nat → A1 → A2 → A3 → A4 → A5 → A6 → A7 → A8 → A9 → A10 → A11 → Prop) (I : A1 → A2 → A3 → A4 → A5 → A6 → A7 → A8 → A9 → A10 → A11 → Prop) (μ : A1 → A2 → A3 → A4 → A5 → A6 → A7 → A8 → A9 → A10 → A11 → Nat) (hs : ∀ (n : Nat) (a1 : A1) (a2 : A2) (a3 : A3) (a4 : A4) (a5 : A5) (a6 : A6) (a7 : A7) (a8 : A8) (a9 : A9) (a10 : A10) (a11 : A11), I a1 a2 a3 a4 a5 a6 a7 a8 a9 a10 a11 → (∀ (b1 : A1) (b2 : A2) (b3 : A3) (b4 : A4) (b5 : A5) (b6 : A6) (b7 : A7) (b8 : A8) (b9 : A9) (b10 : A10) (b11 : A11), I b1 b2 b3 b4 b5 b6 b7 b8 b9 b10 b11 → μ b1 b2 b3 b4 b5 b6 b7 b8 b9 b10 b11 < μ a1 a2 a3 a4 a5 a6 a7 a8 a9 a10 a11 → W n b1 b2 b3 b4 b5 b6 b7 b8 b9 b10 b11) → W (n + 1) a1 a2 a3 a4 a5 a6 a7 a8 a9 a10 a11) (a1 : A1) (a2 : A2) (a3 : A3) (a4 : A4) (a5 : A5) (a6 : A6) (a7 : A7) (a8 : A8) (a9 : A9) (a10 : A10) (a11 : A11) (h : I a1 a2 a3 a4 a5 a6 a7 a8 a9 a10 a11) : ∃ n, W n a1 a2 a3 a4 a5 a6 a7 a8 a9 a10 a11 :=
  loop_m (σ := A1 × A2 × A3 × A4 × A5 × A6 × A7 × A8 × A9 × A10 × A11) (fun n s => W n s.1 s.2.1 s.2.2.1 s.2.2.2.1 s.2.2.2.2.1 s.2.2.2.2.2.1 s.2.2.2.2.2.2.1 s.2.2.2.2.2.2.2.1 s.2.2.2.2.2.2.2.2.1 s.2.2.2.2.2.2.2.2.2.1 s.2.2.2.2.2.2.2.2.2.2) (fun s => I s.1 s.2.1 s.2.2.1 s.2.2.2.1 s.2.2.2.2.1 s.2.2.2.2.2.1 s.2.2.2.2.2.2.1 s.2.2.2.2.2.2.2.1 s.2.2.2.2.2.2.2.2.1 s.2.2.2.2.2.2.2.2.2.1 s.2.2.2.2.2.2.2.2.2.2) (fun s => μ s.1 s.2.1 s.2.2.1 s.2.2.2.1 s.2.2.2.2.1 s.2.2.2.2.2.1 s.2.2.2.2.2.2.1 s.2.2.2.2.2.2.2.1 s.2.2.2.2.2.2.2.2.1 s.2.2.2.2.2.2.2.2.2.1 s.2.2.2.2.2.2.2.2.2.2) (fun n s hI hk => hs n s.1 s.2.1 s.2.2.1 s.2.2.2.1 s.2.2.2.2.1 s.2.2.2.2.2.1 s.2.2.2.2.2.2.1 s.2.2.2.2.2.2.2.1 s.2.2.2.2.2.2.2.2.1 s.2.2.2.2.2.2.2.2.2.1 s.2.2.2.2.2.2.2.2.2.2 hI (fun b1 b2 b3 b4 b5 b6 b7 b8 b9 b10 b11 h9 hm => hk (b1, b2, b3, b4, b5, b6, b7, b8, b9, b10, b11) h9 hm)) (a1, a2, a3, a4, a5, a6, a7, a8, a9, a10, a11) h
theorem lp12 {A1 A2 A3 A4 A5 A6 A7 A8 A9 A10 A11 A12 : Type} (W : Nat → A1 → A2 → A3 → A4 → A5 → A6 → A7 → A8 → A9 → A10 → A11 → A12 → Prop) (I : A1 → A2 → A3 → A4 → A5 → A6 → A7 → A8 → A9 → A10 → A11 → A12 → Prop) (μ : A1 → A2 → A3 → A4 → A5 → A6 → A7 → A8 → A9 → A10 → A11 → A12 → Nat) (hs : ∀ (n : Nat) (a1 : A1) (a2 : A2) (a3 : A3) (a4 : A4) (a5 : A5) (a6 : A6) (a7 : A7) (a8 : A8) (a9 : A9) (a10 : A10) (a11 : A11) (a12 : A12), I a1 a2 a3 a4 a5 a6 a7 a8 a9 a10 a11 a12 → (∀ (b1 : A1) (b2 : A2) (b3 : A3) (b4 : A4) (b5 : A5) (b6 : A6) (b7 : A7) (b8 : A8) (b9 : A9) (b10 : A10) (b11 : A11) (b12 : A12), I b1 b2 b3 b4 b5 b6 b7 b8 b9 b10 b11 b12 → μ b1 b2 b3 b4 b5 b6 b7 b8 b9 b10 b11 b12 < μ a1 a2 a3 a4 a5 a6 a7 a8 a9 a10 a11 a12 → W n b1 b2 b3 b4 b5 b6 b7 b8 b9 b10 b11 b12) → W (n + 1) a1 a2 a3 a4 a5 a6 a7 a8 a9 a10 a11 a12) (a1 : A1) (a2 : A2) (a3 : A3) (a4 : A4) (a5 : A5) (a6 : A6) (a7 : A7) (a8 : A8) (a9 : A9) (a10 : A10) (a11 : A11) (a12 : A12) (h : I a1 a2 a3 a4 a5 a6 a7 a8 a9 a10 a11 a12) : ∃ n, W n a1 a2 a3 a4 a5 a6 a7 a8 a9 a10 a11 a12 :=
  loop_m (σ := A1 × A2 × A3 × A4 × A5 × A6 × A7 × A8 × A9 × A10 × A11 × A12) (fun n s => W n s.1 s.2.1 s.2.2.1 s.2.2.2.1 s.2.2.2.2.1 s.2.2.2.2.2.1 s.2.2.2.2.2.2.1 s.2.2.2.2.2.2.2.1 s.2.2.2.2.2.2.2.2.1 s.2.2.2.2.2.2.2.2.2.1 s.2.2.2.2.2.2.2.2.2.2.1 s.2.2.2.2.2.2.2.2.2.2.2) (fun s => I s.1 s.2.1 s.2.2.1 s.2.2.2.1 s.2.2.2.2.1 s.2.2.2.2.2.1 s.2.2.2.2.2.2.1 s.2.2.2.2.2.2.2.1 s.2.2.2.2.2.2.2.2.1 s.2.2.2.2.2.2.2.2.2.1 s.2.2.2.2.2.2.2.2.2.2.1 s.2.2.2.2.2.2.2.2.2.2.2) (fun s => μ s.1 s.2.1 s.2.2.1 s.2.2.2.1 s.2.2.2.2.1 s.2.2.2.2.2.1 s.2.2.2.2.2.2.1 s.2.2.2.2.2.2.2.1 s.2.2.2.2.2.2.2.2.1 s.2.2.2.2.2.2.2.2.2.1 s.2.2.2.2.2.2.2.2.2.2.1 s.2.2.2.2.2.2.2.2.2.2.2) (fun n s hI hk => hs n s.1 s.2.1 s.2.2.1 s.2.2.2.1 s.2.2.2.2.1 s.2.2.2.2.2.1 s.2.2.2.2.2.2.1 s.2.2.2.2.2.2.2.1 s.2.2.2.2.2.2.2.2.1 s.2.2.2.2.2.2.2.2.2.1 s.2.2.2.2.2.2.2.2.2.2.1 s.2.2.2.2.2.2.2.2.2.2.2 hI (fun b1 b2 b3 b4 b5 b6 b7 b8 b9 b10 b11 b12 h9 hm => hk (b1, b2, b3, b4, b5, b6, b7, b8, b9, b10, b11, b12) h9 hm)) (a1, a2, a3, a4, a5, a6, a7, a8, a9, a10, a11, a12) h
theorem lp13 {A1 A2 A3 A4 A5 A6 A7 A8 A9 A10 A11 A12 A13 : Type} (W : Nat → A1 → A2 → A3 → A4 → A5 → A6 → A7 → A8 → A9 → A10 → A11 → A12 → A13 → Prop) (I : A1 → A2 → A3 → A4 → A5 → A6 → A7 → A8 → A9 → A10 → A11 → A12 → A13 → Prop) (μ : A1 → A2 → A3 → A4 → A5 → A6 → A7 → A8 → A9 → A10 → A11 → A12 → A13 → Nat) (hs : ∀ (n : Nat) (a1 : A1) (a2 : A2) (a3 : A3) (a4 : A4) (a5 : A5) (a6 : A6) (a7 : A7) (a8 : A8) (a9 : A9) (a10 : A10) (a11 : A11) (a12 : A12) (a13 : A13), I a1 a2 a3 a4 a5 a6 a7 a8 a9 a10 a11 a12 a13 → (∀ (b1 : A1) (b2 : A2) (b3 : A3) (b4 : A4) (b5 : A5) (b6 : A6) (b7 : A7) (b8 : A8) (b9 : A9) (b10 : A10) (b11 : A11) (b12 : A12) (b13 : A13), I b1 b2 b3 b4 b5 b6 b7 b8 b9 b10 b11 b12 b13 → μ b1 b2 b3 b4 b5 b6 b7 b8 b9 b10 b11 b12 b13 < μ a1 a2 a3 a4 a5 a6 a7 a8 a9 a10 a11 a12 a13 → W n b1 b2 b3 b4 b5 b6 b7 b8 b9 b10 b11 b12 b13) → W (n + 1) a1 a2 a3 a4 a5 a6 a7 a8 a9 a10 a11 a12 a13) (a1 : A1) (a2 : A2) (a3 : A3) (a4 : A4) (a5 : A5) (a6 : A6) (a7 : A7) (a8 : A8) (a9 : A9) (a10 : A10) (a11 : A11) (a12 : A12) (a13 : A13) (h : I a1 a2 a3 a4 a5 a6 a7 a8 a9 a10 a11 a12 a13) : ∃ n, W n a1 a2 a3 a4 a5 a6 a7 a8 a9 a10 a11 a12 a13 :=
  loop_m (σ := A1 × A2 × A3 × A4 × A5 × A6 × A7 × A8 × A9 × A10 × A11 × A12 × A13) (fun n s => W n s.1 s.2.1 s.2.2.1 s.2.2.2.1 s.2.2.2.2.1 s.2.2.2.2.2.1 s.2.2.2.2.2.2.1 s.2.2.2.2.2.2.2.1 s.2.2.2.2.2.2.2.2.1 s.2.2.2.2.2.2.2.2.2.1 s.2.2.2.2.2.2.2.2.2.2.1 s.2.2.2.2.2.2.2.2.2.2.2.1 s.2.2.2.2.2.2.2.2.2.2.2.2) (fun s => I s.1 s.2.1 s.2.2.1 s.2.2.2.1 s.2.2.2.2.1 s.2.2.2.2.2.1 s.2.2.2.2.2.2.1 s.2.2.2.2.2.2.2.1 s.2.2.2.2.2.2.2.2.1 s.2.2.2.2.2.2.2.2.2.1 s.2.2.2.2.2.2.2.2.2.2.1 s.2.2.2.2.2.2.2.2.2.2.2.1 s.2.2.2.2.2.2.2.2.2.2.2.2) (fun s => μ s.1 s.2.1 s.2.2.1 s.2.2.2.1 s.2.2.2.2.1 s.2.2.2.2.2.1 s.2.2.2.2.2.2.1 s.2.2.2.2.2.2.2.1 s.2.2.2.2.2.2.2.2.1 s.2.2.2.2.2.2.2.2.2.1 s.2.2.2.2.2.2.2.2.2.2.1 s.2.2.2.2.2.2.2.2.2.2.2.1 s.2.2.2.2.2.2.2.2.2.2.2.2) (fun n s hI hk => hs n s.1 s.2.1 s.2.2.1 s.2.2.2.1 s.2.2.2.2.1 s.2.2.2.2.2.1 s.2.2.2.2.2.2.1 s.2.2.2.2.2.2.2.1 s.2.2.2.2.2.2.2.2.1 s.2.2.2.2.2.2.2.2.2.1 s.2.2.2.2.2.2.2.2.2.2.1 s.2.2.2.2.2.2.2.2.2.2.2.1 s.2.2.2.2.2.2.2.2.2.2.2.2 hI (fun b1 b2 b3 b4 b5 b6 b7 b8 b9 b10 b11 b12 b13 h9 hm => hk (b1, b2, b3, b4, b5, b6, b7, b8, b9, b10, b11, b12, b13) h9 hm)) (a1, a2, a3, a4, a5, a6, a7, a8, a9, a10, a11, a12, a13) h
theorem lp14 {A1 A2 A3 A4 A5 A6 A7 A8 A9 A10 A11 A12 A13 A14 : Type} (W : Nat → A1 → A2 → A3 → A4 → A5 → A6 → A7 → A8 → A9 → A10 → A11 → A12 → A13 → A14 → Prop) (I : A1 → A2 → A3 → A4 → A5 → A6 → A7 → A8 → A9 → A10 → A11 → A12 → A13 → A14 → Prop) (μ : A1 → A2 → A3 → A4 → A5 → A6 → A7 → A8 → A9 → A10 → A11 → A12 → A13 → A14 → Nat) (hs : ∀ (n : Nat) (a1 : A1) (a2 : A2) (a3 : A3) (a4 : A4) (a5 : A5) (a6 : A6) (a7 : A7) (a8 : A8) (a9 : A9) (a10 : A10) (a11 : A11) (a12 : A12) (a13 : A13) (a14 : A14), I a1 a2 a3 a4 a5 a6 a7 a8 a9 a10 a11 a12 a13 a14 → (∀ (b1 : A1) (b2 : A2) (b3 : A3) (b4 : A4) (b5 : A5) (b6 : A6) (b7 : A7) (b8 : A8) (b9 : A9) (b10 : A10) (b11 : A11) (b12 : A12) (b13 : A13) (b14 : A14), I b1 b2 b3 b4 b5 b6 b7 b8 b9 b10 b11 b12 b13 b14 → μ b1 b2 b3 b4 b5 b6 b7 b8 b9 b10 b11 b12 b13 b14 < μ a1 a2 a3 a4 a5 a6 a7 a8 a9 a10 a11 a12 a13 a14 → W n b1 b2 b3 b4 b5 b6 b7 b8 b9 b10 b11 b12 b13 b14) → W (n + 1) a1 a2 a3 a4 a5 a6 a7 a8 a9 a10 a11 a12 a13 a14) (a1 : A1) (a2 : A2) (a3 : A3) (a4 : A4) (a5 : A5) (a6 : A6) (a7 : A7) (a8 : A8) (a9 : A9) (a10 : A10) (a11 : A11) (a12 : A12) (a13 : A13) (a14 : A14) (h : I a1 a2 a3 a4 a5 a6 a7 a8 a9 a10 a11 a12 a13 a14) : ∃ n, W n a1 a2 a3 a4 a5 a6 a7 a8 a9 a10 a11 a12 a13 a14 :=
  loop_m (σ := A1 × A2 × A3 × A4 × A5 × A6 × A7 × A8 × A9 × A10 × A11 × A12 × A13 × A14) (fun n s => W n s.1 s.2.1 s.2.2.1 s.2.2.2.1 s.2.2.2.2.1 s.2.2.2.2.2.1 s.2.2.2.2.2.2.1 s.2.2.2.2.2.2.2.1 s.2.2.2.2.2.2.2.2.1 s.2.2.2.2.2.2.2.2.2.1 s.2.2.2.2.2.2.2.2.2.2.1 s.2.2.2.2.2.2.2.2.2.2.2.1 s.2.2.2.2.2.2.2.2.2.2.2.2.1 s.2.2.2.2.2.2.2.2.2.2.2.2.2) (fun s => I s.1 s.2.1 s.2.2.1 s.2.2.2.1 s.2.2.2.2.1 s.2.2.2.2.2.1 s.2.2.2.2.2.2.1 s.2.2.2.2.2.2.2.1 s.2.2.2.2.2.2.2.2.1 s.2.2.2.2.2.2.2.2.2.1 s.2.2.2.2.2.2.2.2.2.2.1 s.2.2.2.2.2.2.2.2.2.2.2.1 s.2.2.2.2.2.2.2.2.2.2.2.2.1 s.2.2.2.2.2.2.2.2.2.2.2.2.2) (fun s => μ s.1 s.2.1 s.2.2.1 s.2.2.2.1 s.2.2.2.2.1 s.2.2.2.2.2.1 s.2.2.2.2.2.2.1 s.2.2.2.2.2.2.2.1 s.2.2.2.2.2.2.2.2.1 s.2.2.2.2.2.2.2.2.2.1 s.2.2.2.2.2.2.2.2.2.2.1 s.2.2.2.2.2.2.2.2.2.2.2.1 s.2.2.2.2.2.2.2.2.2.2.2.2.1 s.2.2.2.2.2.2.2.2.2.2.2.2.2) (fun n s hI hk => hs n s.1 s.2.1 s.2.2.1 s.2.2.2.1 s.2.2.2.2.1 s.2.2.2.2.2.1 s.2.2.2.2.2.2.1 s.2.2.2.2.2.2.2.1 s.2.2.2.2.2.2.2.2.1 s.2.2.2.2.2.2.2.2.2.1 s.2.2.2.2.2.2.2.2.2.2.1 s.2.2.2.2.2.2.2.2.2.2.2.1 s.2.2.2.2.2.2.2.2.2.2.2.2.1 s.2.2.2.2.2.2.2.2.2.2.2.2.2 hI (fun b1 b2 b3 b4 b5 b6 b7 b8 b9 b10 b11 b12 b13 b14 h9 hm => hk (b1, b2, b3, b4, b5, b6, b7, b8, b9, b10, b11, b12, b13, b14) h9 hm)) (a1, a2, a3, a4, a5, a6, a7, a8, a9, a10, a11, a12, a13, a14) h
theorem lp15 {A1 A2 A3 A4 A5 A6 A7 A8 A9 A10 A11 A12 A13 A14 A15 : Type} (W : Nat → A1 → A2 → A3 → A4 → A5 → A6 → A7 → A8 → A9 → A10 → A11 → A12 → A13 → A14 → A15 → Prop) (I : A1 → A2 → A3 → A4 → A5 → A6 → A7 → A8 → A9 → A10 → A11 → A12 → A13 → A14 → A15 → Prop) (μ : A1 → A2 → A3 → A4 → A5 → A6 → A7 → A8 → A9 → A10 → A11 → A12 → A13 → A14 → A15 → Nat) (hs : ∀ (n : Nat) (a1 : A1) (a2 : A2) (a3 : A3) (a4 : A4) (a5 : A5) (a6 : A6) (a7 : A7) (a8 : A8) (a9 : A9) (a10 : A10) (a11 : A11) (a12 : A12) (a13 : A13) (a14 : A14) (a15 : A15), I a1 a2 a3 a4 a5 a6 a7 a8 a9 a10 a11 a12 a13 a14 a15 → (∀ (b1 : A1) (b2 : A2) (b3 : A3) (b4 : A4) (b5 : A5) (b6 : A6) (b7 : A7) (b8 : A8) (b9 : A9) (b10 : A10) (b11 : A11) (b12 : A12) (b13 : A13) (b14 : A14) (b15 : A15), I b1 b2 b3 b4 b5 b6 b7 b8 b9 b10 b11 b12 b13 b14 b15 → μ b1 b2 b3 b4 b5 b6 b7 b8 b9 b10 b11 b12 b13 b14 b15 < μ a1 a2 a3 a4 a5 a6 a7 a8 a9 a10 a11 a12 a13 a14 a15 → W n b1 b2 b3 b4 b5 b6 b7 b8 b9 b10 b11 b12 b13 b14 b15) → W (n + 1) a1 a2 a3 a4 a5 a6 a7 a8 a9 a10 a11 a12 a13 a14 a15) (a1 : A1) (a2 : A2) (a3 : A3) (a4 : A4) (a5 : A5) (a6 : A6) (a7 : A7) (a8 : A8) (a9 : A9) (a10 : A10) (a11 : A11) (a12 : A12) (a13 : A13) (a14 : A14) (a15 : A15) (h : I a1 a2 a3 a4 a5 a6 a7 a8 a9 a10 a11 a12 a13 a14 a15) : ∃ n, W n a1 a2 a3 a4 a5 a6 a7 a8 a9 a10 a11 a12 a13 a14 a15 :=
  loop_m (σ := A1 × A2 × A3 × A4 × A5 × A6 × A7 × A8 × A9 × A10 × A11 × A12 × A13 × A14 × A15) (fun n s => W n s.1 s.2.1 s.2.2.1 s.2.2.2.1 s.2.2.2.2.1 s.2.2.2.2.2.1 s.2.2.2.2.2.2.1 s.2.2.2.2.2.2.2.1 s.2.2.2.2.2.2.2.2.1 s.2.2.2.2.2.2.2.2.2.1 s.2.2.2.2.2.2.2.2.2.2.1 s.2.2.2.2.2.2.2.2.2.2.2.1 s.2.2.2.2.2.2.2.2.2.2.2.2.1 s.2.2.2.2.2.2.2.2.2.2.2.2.2.1 s.2.2.2.2.2.2.2.2.2.2.2.2.2.2) (fun s => I s.1 s.2.1 s.2.2.1 s.2.2.2.1 s.2.2.2.2.1 s.2.2.2.2.2.1 s.2.2.2.2.2.2.1 s.2.2.2.2.2.2.2.1 s.2.2.2.2.2.2.2.2.1 s.2.2.2.2.2.2.2.2.2.1 s.2.2.2.2.2.2.2.2.2.2.1 s.2.2.2.2.2.2.2.2.2.2.2.1 s.2.2.2.2.2.2.2.2.2.2.2.2.1 s.2.2.2.2.2.2.2.2.2.2.2.2.2.1 s.2.2.2.2.2.2.2.2.2.2.2.2.2.2) (fun s => μ s.1 s.2.1 s.2.2.1 s.2.2.2.1 s.2.2.2.2.1 s.2.2.2.2.2.1 s.2.2.2.2.2.2.1 s.2.2.2.2.2.2.2.1 s.2.2.2.2.2.2.2.2.1 s.2.2.2.2.2.2.2.2.2.1 s.2.2.2.2.2.2.2.2.2.2.1 s.2.2.2.2.2.2.2.2.2.2.2.1 s.2.2.2.2.2.2.2.2.2.2.2.2.1 s.2.2.2.2.2.2.2.2.2.2.2.2.2.1 s.2.2.2.2.2.2.2.2.2.2.2.2.2.2) (fun n s hI hk => hs n s.1 s.2.1 s.2.2.1 s.2.2.2.1 s.2.2.2.2.1 s.2.2.2.2.2.1 s.2.2.2.2.2.2.1 s.2.2.2.2.2.2.2.1 s.2.2.2.2.2.2.2.2.1 s.2.2.2.2.2.2.2.2.2.1 s.2.2.2.2.2.2.2.2.2.2.1 s.2.2.2.2.2.2.2.2.2.2.2.1 s.2.2.2.2.2.2.2.2.2.2.2.2.1 s.2.2.2.2.2.2.2.2.2.2.2.2.2.1 s.2.2.2.2.2.2.2.2.2.2.2.2.2.2 hI (fun b1 b2 b3 b4 b5 b6 b7 b8 b9 b10 b11 b12 b13 b14 b15 h9 hm => hk (b1, b2, b3, b4, b5, b6, b7, b8, b9, b10, b11, b12, b13, b14, b15) h9 hm)) (a1, a2, a3, a4, a5, a6, a7, a8, a9, a10, a11, a12, a13, a14, a15) h
theorem lp16 {A1 A2 A3 A4 A5 A6 A7 A8 A9 A10 A11 A12 A13 A14 A15 A16 : Type} (W : Nat → A1 → A2 → A3 → A4 → A5 → A6 → A7 → A8 → A9 → A10 → A11 → A12 → A13 → A14 → A15 → A16 → Prop) (I : A1 → A2 → A3 → A4 → A5 → A6 → A7 → A8 → A9 → A10 → A11 → A12 → A13 → A14 → A15 → A16 → Prop) (μ : A1 → A2 → A3 → A4 → A5 → A6 → A7 → A8 → A9 → A10 → A11 → A12 → A13 → A14 → A15 → A16 → Nat) (hs : ∀ (n : Nat) (a1 : A1) (a2 : A2) (a3 : A3) (a4 : A4) (a5 : A5) (a6 : A6) (a7 : A7) (a8 : A8) (a9 : A9) (a10 : A10) (a11 : A11) (a12 : A12) (a13 : A13) (a14 : A14) (a15 : A15) (a16 : A16), I a1 a2 a3 a4 a5 a6 a7 a8 a9 a10 a11 a12 a13 a14 a15 a16 → (∀ (b1 : A1) (b2 : A2) (b3 : A3) (b4 : A4) (b5 : A5) (b6 : A6) (b7 : A7) (b8 : A8) (b9 : A9) (b10 : A10) (b11 : A11) (b12 : A12) (b13 : A13) (b14 : A14) (b15 : A15) (b16 : A16), I b1 b2 b3 b4 b5 b6 b7 b8 b9 b10 b11 b12 b13 b14 b15 b16 → μ b1 b2 b3 b4 b5 b6 b7 b8 b9 b10 b11 b12 b13 b14 b15 b16 < μ a1 a2 a3 a4 a5 a6 a7 a8 a9 a10 a11 a12 a13 a14 a15 a16 → W n b1 b2 b3 b4 b5 b6 b7 b8 b9 b10 b11 b12 b13 b14 b15 b16) → W (n + 1) a1 a2 a3 a4 a5 a6 a7 a8 a9 a10 a11 a12 a13 a14 a15 a16) (a1 : A1) (a2 : A2) (a3 : A3) (a4 : A4) (a5 : A5) (a6 : A6) (a7 : A7) (a8 : A8) (a9 : A9) (a10 : A10) (a11 : A11) (a12 : A12) (a13 : A13) (a14 : A14) (a15 : A15) (a16 : A16) (h : I a1 a2 a3 a4 a5 a6 a7 a8 a9 a10 a11 a12 a13 a14 a15 a16) : ∃ n, W n a1 a2 a3 a4 a5 a6 a7 a8 a9 a10 a11 a12 a13 a14 a15 a16 :=
  loop_m (σ := A1 × A2 × A3 × A4 × A5 × A6 × A7 × A8 × A9 × A10 × A11 × A12 × A13 × A14 × A15 × A16) (fun n s => W n s.1 s.2.1 s.2.2.1 s.2.2.2.1 s.2.2.2.2.1 s.2.2.2.2.2.1 s.2.2.2.2.2.2.1 s.2.2.2.2.2.2.2.1 s.2.2.2.2.2.2.2.2.1 s.2.2.2.2.2.2.2.2.2.1 s.2.2.2.2.2.2.2.2.2.2.1 s.2.2.2.2.2.2.2.2.2.2.2.1 s.2.2.2.2.2.2.2.2.2.2.2.2.1 s.2.2.2.2.2.2.2.2.2.2.2.2.2.1 s.2.2.2.2.2.2.2.2.2.2.2.2.2.2.1 s.2.2.2.2.2.2.2.2.2.2.2.2.2.2.2) (fun s => I s.1 s.2.1 s.2.2.1 s.2.2.2.1 s.2.2.2.2.1 s.2.2.2.2.2.1 s.2.2.2.2.2.2.1 s.2.2.2.2.2.2.2.1 s.2.2.2.2.2.2.2.2.1 s.2.2.2.2.2.2.2.2.2.1 s.2.2.2.2.2.2.2.2.2.2.1 s.2.2.2.2.2.2.2.2.2.2.2.1 s.2.2.2.2.2.2.2.2.2.2.2.2.1 s.2.2.2.2.2.2.2.2.2.2.2.2.2.1 s.2.2.2.2.2.2.2.2.2.2.2.2.2.2.1 s.2.2.2.2.2.2.2.2.2.2.2.2.2.2.2) (fun s => μ s.1 s.2.1 s.2.2.1 s.2.2.2.1 s.2.2.2.2.1 s.2.2.2.2.2.1 s.2.2.2.2.2.2.1 s.2.2.2.2.2.2.2.1 s.2.2.2.2.2.2.2.2.1 s.2.2.2.2.2.2.2.2.2.1 s.2.2.2.2.2.2.2.2.2.2.1 s.2.2.2.2.2.2.2.2.2.2.2.1 s.2.2.2.2.2.2.2.2.2.2.2.2.1 s.2.2.2.2.2.2.2.2.2.2.2.2.2.1 s.2.2.2.2.2.2.2.2.2.2.2.2.2.2.1 s.2.2.2.2.2.2.2.2.2.2.2.2.2.2.2) (fun n s hI hk => hs n s.1 s.2.1 s.2.2.1 s.2.2.2.1 s.2.2.2.2.1 s.2.2.2.2.2.1 s.2.2.2.2.2.2.1 s.2.2.2.2.2.2.2.1 s.2.2.2.2.2.2.2.2.1 s.2.2.2.2.2.2.2.2.2.1 s.2.2.2.2.2.2.2.2.2.2.1 s.2.2.2.2.2.2.2.2.2.2.2.1 s.2.2.2.2.2.2.2.2.2.2.2.2.1 s.2.2.2.2.2.2.2.2.2.2.2.2.2.1 s.2.2.2.2.2.2.2.2.2.2.2.2.2.2.1 s.2.2.2.2.2.2.2.2.2.2.2.2.2.2.2 hI (fun b1 b2 b3 b4 b5 b6 b7 b8 b9 b10 b11 b12 b13 b14 b15 b16 h9 hm => hk (b1, b2, b3, b4, b5, b6, b7, b8, b9, b10, b11, b12, b13, b14, b15, b16) h9 hm)) (a1, a2, a3, a4, a5, a6, a7, a8, a9, a10, a11, a12, a13, a14, a15, a16) h
theorem pk_least (P : Nat → Prop) (h : ∃ k, P k) : ∃ k, P k ∧ ∀ j, j < k → ¬ P j := by
  obtain ⟨k, hk⟩ := h
  induction k using Nat.strongRecOn with
  | ind k ih =>
    by_cases e : ∃ j, j < k ∧ P j
    · obtain ⟨j, hj, pj⟩ := e
      exact ih j hj pj
    · exact ⟨k, hk, fun j hj pj => e ⟨j, hj, pj⟩⟩
theorem rp1 {ρ A1 : Type} (W : Nat → (ρ → Prop) → A1 → Prop) (ok : A1 → Prop) (μ : A1 → Nat) (val : A1 → ρ)
    (hs : ∀ (d : Nat) (post : ρ → Prop) (a1 : A1), ok a1 → post (val a1) → (∀ (post' : ρ → Prop) (b1 : A1), ok b1 → μ b1 < μ a1 → post' (val b1) → W d post' b1) → W (d + 1) post a1) :
    ∀ (d : Nat) (post : ρ → Prop) (a1 : A1), ok a1 → μ a1 < d → post (val a1) → W d post a1 := by
  intro d
  induction d with
  | zero => intro post a1 _ h; omega
  | succ d ih =>
    intro post a1 ho hm hp
    exact hs d post a1 ho hp (fun post' b1 ho' hm' hp' => ih post' b1 ho' (by omega) hp')
theorem rp2 {ρ A1 A2 : Type} (W : Nat → (ρ → Prop) → A1 → A2 → Prop) (ok : A1 → A2 → Prop) (μ : A1 → A2 → Nat) (val : A1 → A2 → ρ)
    (hs : ∀ (d : Nat) (post : ρ → Prop) (a1 : A1) (a2 : A2), ok a1 a2 → post (val a1 a2) → (∀ (post' : ρ → Prop) (b1 : A1) (b2 : A2), ok b1 b2 → μ b1 b2 < μ a1 a2 → post' (val b1 b2) → W d post' b1 b2) → W (d + 1) post a1 a2) :
    ∀ (d : Nat) (post : ρ → Prop) (a1 : A1) (a2 : A2), ok a1 a2 → μ a1 a2 < d → post (val a1 a2) → W d post a1 a2 := by
  intro d
  induction d with
  | zero => intro post a1 a2 _ h; omega
  | succ d ih =>
    intro post a1 a2 ho hm hp
    exact hs d post a1 a2 ho hp (fun post' b1 b2 ho' hm' hp' => ih post' b1 b2 ho' (by omega) hp')
theorem rp3 {ρ A1 A2 A3 : Type} (W : Nat → (ρ → Prop) → A1 → A2 → A3 → Prop) (ok : A1 → A2 → A3 → Prop) (μ : A1 → A2 → A3 → Nat) (val : A1 → A2 → A3 → ρ)
    (hs : ∀ (d : Nat) (post : ρ → Prop) (a1 : A1) (a2 : A2) (a3 : A3), ok a1 a2 a3 → post (val a1 a2 a3) → (∀ (post' : ρ → Prop) (b1 : A1) (b2 : A2) (b3 : A3), ok b1 b2 b3 → μ b1 b2 b3 < μ a1 a2 a3 → post' (val b1 b2 b3) → W d post' b1 b2 b3) → W (d + 1) post a1 a2 a3) :
    ∀ (d : Nat) (post : ρ → Prop) (a1 : A1) (a2 : A2) (a3 : A3), ok a1 a2 a3 → μ a1 a2 a3 < d → post (val a1 a2 a3) → W d post a1 a2 a3 := by
  intro d
  induction d with
  | zero => intro post a1 a2 a3 _ h; omega
  | succ d ih =>
    intro post a1 a2 a3 ho hm hp
    exact hs d post a1 a2 a3 ho hp (fun post' b1 b2 b3 ho' hm' hp' => ih post' b1 b2 b3 ho' (by omega) hp')
theorem rp4 {ρ A1 A2 A3 A4 : Type} (W : Nat → (ρ → Prop) → A1 → A2 → A3 → A4 → Prop) (ok : A1 → A2 → A3 → A4 → Prop) (μ : A1 → A2 → A3 → A4 → Nat) (val : A1 → A2 → A3 → A4 → ρ)
    (hs : ∀ (d : Nat) (post : ρ → Prop) (a1 : A1) (a2 : A2) (a3 : A3) (a4 : A4), ok a1 a2 a3 a4 → post (val a1 a2 a3 a4) → (∀ (post' : ρ → Prop) (b1 : A1) (b2 : A2) (b3 : A3) (b4 : A4), ok b1 b2 b3 b4 → μ b1 b2 b3 b4 < μ a1 a2 a3 a4 → post' (val b1 b2 b3 b4) → W d post' b1 b2 b3 b4) → W (d + 1) post a1 a2 a3 a4) :
    ∀ (d : Nat) (post : ρ → Prop) (a1 : A1) (a2 : A2) (a3 : A3) (a4 : A4), ok a1 a2 a3 a4 → μ a1 a2 a3 a4 < d → post (val a1 a2 a3 a4) → W d post a1 a2 a3 a4 := by
  intro d
  induction d with
  | zero => intro post a1 a2 a3 a4 _ h; omega
  | succ d ih =>
    intro post a1 a2 a3 a4 ho hm hp
    exact hs d post a1 a2 a3 a4 ho hp (fun post' b1 b2 b3 b4 ho' hm' hp' => ih post' b1 b2 b3 b4 ho' (by omega) hp')
theorem rp5 {ρ A1 A2 A3 A4 A5 : Type} (W : Nat → (ρ → Prop) → A1 → A2 → A3 → A4 → A5 → Prop) (ok : A1 → A2 → A3 → A4 → A5 → Prop) (μ : A1 → A2 → A3 → A4 → A5 → Nat) (val : A1 → A2 → A3 → A4 → A5 → ρ)
    (hs : ∀ (d : Nat) (post : ρ → Prop) (a1 : A1) (a2 : A2) (a3 : A3) (a4 : A4) (a5 : A5), ok a1 a2 a3 a4 a5 → post (val a1 a2 a3 a4 a5) → (∀ (post' : ρ → Prop) (b1 : A1) (b2 : A2) (b3 : A3) (b4 : A4) (b5 : A5), ok b1 b2 b3 b4 b5 → μ b1 b2 b3 b4 b5 < μ a1 a2 a3 a4 a5 → post' (val b1 b2 b3 b4 b5) → W d post' b1 b2 b3 b4 b5) → W (d + 1) post a1 a2 a3 a4 a5) :
    ∀ (d : Nat) (post : ρ → Prop) (a1 : A1) (a2 : A2) (a3 : A3) (a4 : A4) (a5 : A5), ok a1 a2 a3 a4 a5 → μ a1 a2 a3 a4 a5 < d → post (val a1 a2 a3 a4 a5) → W d post a1 a2 a3 a4 a5 := by
  intro d
  induction d with
  | zero => intro post a1 a2 a3 a4 a5 _ h; omega
  | succ d ih =>
    intro post a1 a2 a3 a4 a5 ho hm hp
    exact hs d post a1 a2 a3 a4 a5 ho hp (fun post' b1 b2 b3 b4 b5 ho' hm' hp' => ih post' b1 b2 b3 b4 b5 ho' (by omega) hp')
theorem rp6 {ρ A1 A2 A3 A4 A5 A6 : Type} (W : Nat → (ρ → Prop) → A1 → A2 → A3 → A4 → A5 → A6 → Prop) (ok : A1 → A2 → A3 → A4 → A5 → A6 → Prop) (μ : A1 → A2 → A3 → A4 → A5 → A6 → Nat) (val : A1 → A2 → A3 → A4 → A5 → A6 → ρ)
    (hs : ∀ (d : Nat) (post : ρ → Prop) (a1 : A1) (a2 : A2) (a3 : A3) (a4 : A4) (a5 : A5) (a6 : A6), ok a1 a2 a3 a4 a5 a6 → post (val a1 a2 a3 a4 a5 a6) → (∀ (post' : ρ → Prop) (b1 : A1) (b2 : A2) (b3 : A3) (b4 : A4) (b5 : A5) (b6 : A6), ok b1 b2 b3 b4 b5 b6 → μ b1 b2 b3 b4 b5 b6 < μ a1 a2 a3 a4 a5 a6 → post' (val b1 b2 b3 b4 b5 b6) → W d post' b1 b2 b3 b4 b5 b6) → W (d + 1) post a1 a2 a3 a4 a5 a6) :
    ∀ (d : Nat) (post : ρ → Prop) (a1 : A1) (a2 : A2) (a3 : A3) (a4 : A4) (a5 : A5) (a6 : A6), ok a1 a2 a3 a4 a5 a6 → μ a1 a2 a3 a4 a5 a6 < d → post (val a1 a2 a3 a4 a5 a6) → W d post a1 a2 a3 a4 a5 a6 := by
  intro d
  induction d with
  | zero => intro post a1 a2 a3 a4 a5 a6 _ h; omega
  | succ d ih =>
    intro post a1 a2 a3 a4 a5 a6 ho hm hp
    exact hs d post a1 a2 a3 a4 a5 a6 ho hp (fun post' b1 b2 b3 b4 b5 b6 ho' hm' hp' => ih post' b1 b2 b3 b4 b5 b6 ho' (by omega) hp')
theorem rec_p {σ ρ : Type} (W : Nat → (ρ → Prop) → σ → Prop) (ok : σ → Prop) (μ : σ → Nat) (val : σ → ρ)
    (hs : ∀ d s post, ok s → post (val s) → (∀ s' post', ok s' → μ s' < μ s → post' (val s') → W d post' s') → W (d + 1) post s) :
    ∀ d s post, ok s → μ s < d → post (val s) → W d post s := by
  intro d
  induction d with
  | zero => intro s post _ h; omega
  | succ d ih =>
    intro s post ho hm hp
    exact hs d s post ho hp (fun s' post' ho' hm' hp' => ih s' post' ho' (by omega) hp')
theorem rec_q {σ ρ : Type} (W : Nat → (ρ → Prop) → σ → Prop) (ok : σ → Prop) (μ : σ → Nat) (Q : σ → ρ → Prop)
    (hs : ∀ d s post, ok s → (∀ r, Q s r → post r) → (∀ s' post', ok s' → μ s' < μ s → (∀ r, Q s' r → post' r) → W d post' s') → W (d + 1) post s) :
    ∀ d s post, ok s → μ s < d → (∀ r, Q s r → post r) → W d post s := by
  intro d
  induction d with
  | zero => intro s post _ h; omega
  | succ d ih =>
    intro s post ho hm hp
    exact hs d s post ho hp (fun s' post' ho' hm' hp' => ih s' post' ho' (by omega) hp')
def bx_sum (f : Nat → Int32) : Nat → Int32
  | 0 => 0
  | n + 1 => bx_sum f n + f n
theorem ek_u {A : Prop} {B : Nat → Prop} {k N : Nat} (hk : k < N) (h : B k) : (some k = none → A) ∧ (∀ y : Nat, some k = some y → (y < N ∧ B y)) :=
  ⟨fun z => absurd z (Option.some_ne_none k), fun _ e => (by cases e; exact ⟨hk, h⟩)⟩
theorem ek_nu {A : Prop} {B : Nat → Prop} (h : A) : ((none : Option Nat) = none → A) ∧ (∀ y : Nat, (none : Option Nat) = some y → B y) :=
  ⟨fun _ => h, fun _ e => (by cases e)⟩
theorem ek_if {c d A B : Prop} (e : c ↔ d) (f : d → A) (g : ¬ d → B) : (c → A) ∧ (¬ c → B) :=
  ⟨fun z => f (e.mp z), fun z => g (fun y => z (e.mpr y))⟩
theorem ek_v {α : Sort _} {P : α → Prop} {a b : α} (e : a = b) (h : P b) : P a := e ▸ h
theorem co_some {x : Option Nat} {A : Prop} {B : Nat → Prop} (i : Nat) (h : B i) (hx : x = some i := by rfl) : (x = none → A) ∧ (∀ y : Nat, x = some y → B y) := by
  subst hx
  exact ⟨fun e => (nomatch e), fun y e => Option.some.inj e ▸ h⟩
theorem co_none {x : Option Nat} {A : Prop} {B : Nat → Prop} (h : A) (hx : x = none := by rfl) : (x = none → A) ∧ (∀ y : Nat, x = some y → B y) := by
  subst hx
  exact ⟨fun _ => h, fun y e => (nomatch e)⟩
theorem co_any {x : Option Nat} {A : Prop} {B : Nat → Prop} (hn : x = none → A) (hs : ∀ i : Nat, x = some i → B i) : (x = none → A) ∧ (∀ y : Nat, x = some y → B y) := ⟨hn, hs⟩
theorem co_2 {P : Nat → Prop} (h0 : P 0) (h1 : P 1) {i : Nat} (hi : i < 2) : P i :=
  match i, hi with
  | 0, _ => h0
  | 1, _ => h1
theorem co_3 {P : Nat → Prop} (h0 : P 0) (h1 : P 1) (h2 : P 2) {i : Nat} (hi : i < 3) : P i :=
  match i, hi with
  | 0, _ => h0
  | 1, _ => h1
  | 2, _ => h2
theorem co_4 {P : Nat → Prop} (h0 : P 0) (h1 : P 1) (h2 : P 2) (h3 : P 3) {i : Nat} (hi : i < 4) : P i :=
  match i, hi with
  | 0, _ => h0
  | 1, _ => h1
  | 2, _ => h2
  | 3, _ => h3
theorem co_dec {N : Nat} {P : Nat → Prop} [DecidablePred P] (h : (List.range N).all (fun i => decide (P i)) = true) {i : Nat} (hi : i < N) : P i := by
  have := List.all_eq_true.mp h i (List.mem_range.mpr hi)
  exact of_decide_eq_true this
theorem co_tab {α : Type} {l : List α} {d : α} {P : α → Prop} (h : ∀ a, a ∈ l → P a) {i : Nat} (hi : i < l.length) : P (l.getD i d) := by
  rw [List.getD_eq_getElem?_getD, List.getElem?_eq_getElem hi]
  exact h _ (List.getElem_mem hi)
theorem pk_mu {x : Int32} {L : Nat} (h0 : ¬ x < 0) (h : ¬ nI L ≤ x) (hL : L < 2 ^ 31) : ∃ j : Nat, j < L ∧ x = nI j ∧ x + 1 = nI (j + 1) ∧ x.toNatClampNeg = j ∧ L - (x + 1).toNatClampNeg < L - x.toNatClampNeg := by
  obtain ⟨j, hj, rfl⟩ := nI_of h0
  have hl : j < L := Nat.not_le.mp fun q => h (nI_le q hj)
  refine ⟨j, hl, rfl, nI_1 j, nI_clamp hj, ?_⟩
  rw [nI_1, nI_clamp (by omega), nI_clamp hj]
  omega
theorem op_s {α : Type} {r : Option α} {A : Prop} {B : α → Prop} {y : α} (h : r = some y) (b : B y) : (r = none → A) ∧ ∀ z, r = some z → B z :=
  ⟨fun e => (by rw [h] at e; cases e), fun z e => (by rw [h] at e; cases e; exact b)⟩
def l_holds {α : Type} (a : Nat → Option Nat) (LP : List Nat) (p : Nat → α) (c : Nat) (b : Nat → α) : Prop :=
  ∀ j, j < c → ∃ y, a j = some y ∧ y ∈ LP ∧ p y = b j
theorem l_holds_0 {α : Type} {a : Nat → Option Nat} {LP : List Nat} {p b : Nat → α} : l_holds a LP p 0 b := fun j h => absurd h (Nat.not_lt_zero j)
theorem l_in_new (LP : List Nat) (q : Nat) : q ∈ LP ++ [q] := List.mem_append.mpr (Or.inr (List.mem_singleton.mpr rfl))
def l_sum (b : Nat → Int32) : Nat → Int32
  | 0 => 0
  | k + 1 => l_sum b k + b k
theorem sb_shr0 (x : Int32) : x >>> ((0 : Int32) &&& 31) = x := by
  rw [show ((0 : Int32) &&& 31) = 0 by decide]
  simp
theorem sb_shl0 (x : Int32) : x <<< ((0 : Int32) &&& 31) = x := by
  rw [show ((0 : Int32) &&& 31) = 0 by decide]
  simp
theorem sb_cl0 : (0 : Int32).toNatClampNeg = 0 := by decide
theorem sb_m1 {p : Nat} (h : 0 < p) : nI p + (-1) = nI (p - 1) := by
  obtain ⟨q, rfl⟩ : ∃ q, p = q + 1 := ⟨p - 1, by omega⟩
  exact pk_m1 q
def sb_b (c : Nat) : Int32 := (nI c).toInt8.toInt32
theorem sb_byte : ∀ c, c < 256 → sb_b c &&& 255 = nI c ∧ ((nI c).toUInt32 % 65536).toInt32 = nI c ∧ nI c ≤ 255 := by decide +kernel
def sb_Fit (a : Nat → Int32) : Prop := ∀ j, fits .byte (.int (a j)) = true
def sb_Lat (t : Nat → Nat) (n : Nat) (a : Nat → Int32) : Prop := ∀ j, j < n → t j < 256 ∧ a j = sb_b (t j)
theorem sb_fitB (c : Nat) : fits .byte (.int (sb_b c)) = true := pk_fb _
theorem sb_fit0 : sb_Fit (fun _ => 0) := fun _ => by
  show fits .byte (.int 0) = true
  decide
theorem sb_fitU {a : Nat → Int32} {k : Nat} {x : Int32} (h : sb_Fit a) (hx : fits .byte (.int x) = true) : sb_Fit (upd a k x) := by
  intro j
  by_cases e : j = k
  · subst e
    rw [pk_us]
    exact hx
  · rw [pk_un e]
    exact h j
def sb_cat (t : Nat → Nat) (n : Nat) (s : Nat → Nat) : Nat → Nat := fun j => if j < n then t j else s (j - n)
theorem sb_cat_lo {t s : Nat → Nat} {n j : Nat} (h : j < n) : sb_cat t n s j = t j := if_pos h
theorem sb_cat_hi {t s : Nat → Nat} {n j : Nat} : sb_cat t n s (n + j) = s j := by
  show (if n + j < n then t (n + j) else s (n + j - n)) = s j
  rw [if_neg (by omega), Nat.add_sub_cancel_left]
theorem sb_latPut {t s : Nat → Nat} {n w : Nat} {a a' : Nat → Int32} (h : sb_Lat t n a) (hk : ∀ j, j < n → a' j = a j) (hs : ∀ i, i < w → s i < 256 ∧ a' (n + i) = sb_b (s i)) : sb_Lat (sb_cat t n s) (n + w) a' := by
  intro j hj
  by_cases e : j < n
  · rw [sb_cat_lo e, hk j e]
    exact h j e
  · obtain ⟨i, rfl⟩ : ∃ i, j = n + i := ⟨j - n, by omega⟩
    rw [sb_cat_hi]
    exact hs i (by omega)
theorem sb_latKeep {t : Nat → Nat} {n : Nat} {a a' : Nat → Int32} (h : sb_Lat t n a) (hk : ∀ j, j < n → a' j = a j) : sb_Lat t n a' := fun j hj => by
  rw [hk j hj]
  exact h j hj
def sb_cap (q m : Nat) : Nat := if q ≤ m then m else if 2 * m + 2 < q then q else 2 * m + 2
def sb_Room (q m mc ms : Nat) : Prop := q ≤ m ∨ (1 ≤ mc ∧ sb_cap q m ≤ ms ∧ sb_cap q m ≤ 65536)
theorem sb_cap_ge (q m : Nat) : q ≤ sb_cap q m := by
  unfold sb_cap
  split
  · omega
  · split <;> omega
theorem sb_cap_gem (q m : Nat) : m ≤ sb_cap q m := by
  unfold sb_cap
  split
  · omega
  · split <;> omega
theorem sb_cap_le {q m mc ms : Nat} (hm : m ≤ 65536) (hr : sb_Room q m mc ms) : sb_cap q m ≤ 65536 := by
  rcases hr with h | h
  · rw [sb_cap, if_pos h]
    exact hm
  · exact h.2.2
theorem sb_at {P : Int32 → Prop} {x y : Int32} (e : x = y) (h : P y) : P x := e ▸ h
def sb_dg (w : Nat) : Nat := if w < 10 then 1 else if w < 100 then 2 else if w < 1000 then 3 else if w < 10000 then 4 else if w < 100000 then 5 else if w < 1000000 then 6 else if w < 10000000 then 7 else if w < 100000000 then 8 else if w < 1000000000 then 9 else 10
def sb_dec (v : Nat) : Nat → Nat := fun i => 48 + v / 10 ^ (sb_dg v - 1 - i) % 10
theorem sb_dg_in (w : Nat) : 1 ≤ sb_dg w ∧ sb_dg w ≤ 10 := by
  unfold sb_dg
  constructor <;> (repeat' split) <;> omega
theorem sb_dg100 {w : Nat} (h : 100 ≤ w) (hw : w < 2 ^ 31) : sb_dg w = sb_dg (w / 100) + 2 := by
  rw [sb_dg, sb_dg, if_neg (show ¬ w < 10 by omega), if_neg (show ¬ w < 100 by omega)]
  by_cases h3 : w < 1000
  · rw [if_pos h3, if_pos (show w / 100 < 10 by omega)]
  rw [if_neg h3, if_neg (show ¬ w / 100 < 10 by omega)]
  by_cases h4 : w < 10000
  · rw [if_pos h4, if_pos (show w / 100 < 100 by omega)]
  rw [if_neg h4, if_neg (show ¬ w / 100 < 100 by omega)]
  by_cases h5 : w < 100000
  · rw [if_pos h5, if_pos (show w / 100 < 1000 by omega)]
  rw [if_neg h5, if_neg (show ¬ w / 100 < 1000 by omega)]
  by_cases h6 : w < 1000000
  · rw [if_pos h6, if_pos (show w / 100 < 10000 by omega)]
  rw [if_neg h6, if_neg (show ¬ w / 100 < 10000 by omega)]
  by_cases h7 : w < 10000000
  · rw [if_pos h7, if_pos (show w / 100 < 100000 by omega)]
  rw [if_neg h7, if_neg (show ¬ w / 100 < 100000 by omega)]
  by_cases h8 : w < 100000000
  · rw [if_pos h8, if_pos (show w / 100 < 1000000 by omega)]
  rw [if_neg h8, if_neg (show ¬ w / 100 < 1000000 by omega)]
  by_cases h9 : w < 1000000000
  · rw [if_pos h9, if_pos (show w / 100 < 10000000 by omega)]
  rw [if_neg h9, if_neg (show ¬ w / 100 < 10000000 by omega)]
  rw [if_pos (show w / 100 < 100000000 by omega)]
theorem sb_negT {w : Nat} (h : w < 2 ^ 31) : (-nI w).toInt = -(w : Int) := by
  rw [Int32.toInt_neg, nI_toInt h]
  exact Int.bmod_eq_of_le (by omega) (by omega)
theorem sb_nle {a b : Nat} (ha : a < 2 ^ 31) (hb : b < 2 ^ 31) : -nI a ≤ -nI b ↔ b ≤ a := by
  rw [Int32.le_iff_toInt_le, sb_negT ha, sb_negT hb]
  omega
theorem sb_nlt {a b : Nat} (ha : a < 2 ^ 31) (hb : b < 2 ^ 31) : -nI a < -nI b ↔ b < a := by
  rw [Int32.lt_iff_toInt_lt, sb_negT ha, sb_negT hb]
  omega
theorem sb_cmp {A B : Prop} {x : Int32} (v c : Nat) (f : c ≤ v → A) (g : v < c → B) (hv : v < 2 ^ 31) (hx : x = -nI c := by rfl) (hc : c < 2 ^ 31 := by omega) : (-nI v ≤ x → A) ∧ (¬ -nI v ≤ x → B) := by
  subst hx
  rw [sb_nle hv hc]
  exact ⟨f, fun z => g (by omega)⟩
theorem sb_ndiv {w : Nat} (hw : w < 2 ^ 31) : (-nI w) / 100 = -nI (w / 100) := by
  apply Int32.toInt_inj.mp
  have h100 : (100 : Int32).toInt = 100 := by decide
  rw [Int32.toInt_div, sb_negT hw, h100, sb_negT (by omega), Int.neg_tdiv, Int.tdiv_eq_ediv_of_nonneg (by omega), Int.bmod_eq_of_le (by omega) (by omega)]
  omega
theorem sb_nrem {w : Nat} (hw : w < 2 ^ 31) : (-nI (w / 100)) * 100 - (-nI w) = nI (w % 100) := by
  have h := pk_rem (a := w) (d := 100) hw (by decide) (by decide)
  rw [pk_div hw (by decide) (by decide)] at h
  rw [← h]
  show (-nI (w / 100)) * nI 100 - (-nI w) = nI w - nI (w / 100) * nI 100
  rw [Int32.neg_mul, Int32.sub_neg, Int32.add_comm, ← Int32.sub_eq_add_neg]
end
section
/-! ===== pure definitions: tokens, code, evaluator ===== -/
/-- number of catches of a TRY with word v -/
def ot_nc (v : Int32) : Nat := if v = 1 ∨ v = 5 then 1 else if v = 2 ∨ v = 6 then 2 else 0
/-- whether a TRY with word v has a finally part -/
def ot_cl (v : Int32) : Bool := decide (v = 4 ∨ v = 5 ∨ v = 6)
/-- how many parts a token has -/
def ot_np (k : Nat) (v : Int32) : Nat :=
  match k with
  | 2 | 3 | 4 | 5 | 6 | 13 | 14 => 2
  | 7 | 8 | 10 | 11 | 16 | 18 | 21 => 1
  | 12 => 3
  | 17 => 1 + ot_nc v + (if ot_cl v = true then 1 else 0)
  | _ => 0
/-- what a token is: 0 an expression, 1 a statement, 2 a catch -/
def ot_so (k : Nat) : Nat := if k < 10 then 0 else if k = 18 then 2 else 1
/-- what part o of a token must be -/
def ot_wa (k : Nat) (v : Int32) (o : Nat) : Nat :=
  match k with
  | 17 => if 0 < o ∧ o ≤ ot_nc v then 2 else 1
  | 18 | 14 => 1
  | 12 | 13 => if 0 < o then 1 else 0
  | _ => 0
/-- the words that token accepts -/
def ot_ok (k : Nat) (v : Int32) : Prop :=
  k < 22 ∧ k ≠ 9 ∧ ((k = 1 ∨ k = 10) → ∃ n : Nat, n < 6 ∧ v = nI n) ∧
  ((k = 8 ∨ k = 13 ∨ k = 16 ∨ k = 19 ∨ k = 20) → ∃ n : Nat, n < 4 ∧ v = nI n) ∧
  (k = 17 → v = 1 ∨ v = 2 ∨ v = 4 ∨ v = 5 ∨ v = 6) ∧
  (k = 18 → ∃ n : Nat, n < 48 ∧ n % 8 < 5 ∧ v = nI n)

abbrev oc_I : Type := Int32 × Int32 × Int32 × Nat
abbrev oc_P : Type := List (Nat × Nat)
/-- frames: token, part; start, end, word, finally part's place -/
abbrev oc_X : Type := List ((Nat × Nat) × Nat × Nat × Nat × Nat)

def oc_sm (f : Nat → Nat) : Nat → Nat
  | 0 => 0
  | n + 1 => oc_sm f n + f n
def oc_cc {α : Type} (g : Nat → List α) : Nat → List α
  | 0 => []
  | n + 1 => oc_cc g n ++ g n
def oc_gl (v : Int32) : Nat := if ot_cl v = true then 2 else 1

def oc_lbg (k : Nat) : Nat := match k with | 13 => 1 | 18 => 1 | _ => 0
def oc_lbt (k : Nat) (v : Int32) (n : Nat) : Nat :=
  match k with
  | 12 => if n = 1 ∨ n = 2 then 1 else 0
  | 13 => if n = 1 then 1 else 0
  | 17 => if n ≤ ot_nc v then oc_gl v else if n = 1 + ot_nc v then oc_gl v + (if ot_nc v = 0 then 0 else 1) + (if ot_cl v = true then 4 else 0) else 0
  | _ => 0
def oc_lfi (k : Nat) (v : Int32) (cr : Nat) (cj : Option Nat) : Nat :=
  match k with
  | 12 => 0 | 14 => 0 | 15 => 0 | 18 => 0 | 13 => 1
  | 17 => if ot_cl v = true then 1 else 0
  | 19 | 20 => match cj with | none => 0 | some c => 2 * c + 1
  | 21 => if cr = 0 then 1 else 2 * cr + 3
  | _ => 1

section
variable (K : Nat → Nat) (V : Nat → Int32) (C : Nat → Nat → Nat)
/-- at (t, o): a TRY whose finally part is still to come -/
def oc_cln (t o : Nat) : Bool := decide (K t = 17 ∧ ot_cl (V t) = true ∧ o ≤ ot_nc (V t))
/-- at (t, o): the WHILE with this label, in its body -/
def oc_tgt (l : Int32) (t o : Nat) : Bool := decide (K t = 13 ∧ V t = l ∧ o = 1)
def oc_cr : oc_P → Nat
  | [] => 0
  | (t, o) :: p => (if oc_cln K V t o = true then 1 else 0) + oc_cr p
def oc_cj (l : Int32) : oc_P → Option Nat
  | [] => none
  | (t, o) :: p => if oc_tgt K V l t o = true then some 0 else (oc_cj l p).map (fun c => c + (if oc_cln K V t o = true then 1 else 0))
/-- length of the code of a token -/
def oc_ln : Nat → Nat → oc_P → Nat
  | 0, _, _ => 0
  | m + 1, i, p => oc_lbg (K i) + oc_sm (fun o => oc_ln m (C i o) ((i, o) :: p) + oc_lbt (K i) (V i) (o + 1)) (ot_np (K i) (V i)) + oc_lfi (K i) (V i) (oc_cr K V p) (oc_cj K V (V i) p)
/-- where part o of a token begins, from its own beginning -/
def oc_ca (m i : Nat) (p : oc_P) (o : Nat) : Nat := oc_lbg (K i) + oc_sm (fun o => oc_ln K V C m (C i o) ((i, o) :: p) + oc_lbt (K i) (V i) (o + 1)) o
/-- words of a token -/
def oc_wn : Nat → Nat → oc_P → Nat
  | 0, _, _ => 0
  | m + 1, i, p => (if K i = 17 ∧ ot_cl (V i) = true then 3 else 0) + oc_sm (fun o => oc_wn m (C i o) ((i, o) :: p)) (ot_np (K i) (V i)) + (if K i = 21 ∧ oc_cr K V p ≠ 0 then 1 else 0)
def oc_wa (m i : Nat) (p : oc_P) (o : Nat) : Nat := (if K i = 17 ∧ ot_cl (V i) = true then 3 else 0) + oc_sm (fun o => oc_wn K V C m (C i o) ((i, o) :: p)) o
def oc_own (k : Nat) (v : Int32) (n s b q : Nat) : List (Nat × Nat × Nat) :=
  if k = 17 ∧ n = 1 + ot_nc v then (if ot_nc v = 0 then [] else [(s, b, b + oc_gl v)]) ++ (if ot_cl v = true then [(s, q - 4, q - 4)] else []) else []
/-- what is caught where: from, to, handler -/
def oc_en : Nat → Nat → Nat → oc_P → List (Nat × Nat × Nat)
  | 0, _, _, _ => []
  | m + 1, i, a, p => oc_cc (fun o => oc_en m (C i o) (a + oc_ca K V C m i p o) ((i, o) :: p) ++ oc_own (K i) (V i) (o + 1) a (a + oc_ln K V C m (C i 0) ((i, 0) :: p)) (a + oc_ca K V C m i p (1 + ot_nc (V i)))) (ot_np (K i) (V i))
/-- from a place on: through the finally parts to the WHILE with a label, to its end (j = 1) or its beginning -/
def oc_jp (l : Int32) (j : Nat) : Nat → oc_X → List oc_I
  | _, [] => []
  | pc, ((t, o), s, e, w, q) :: r =>
    if oc_tgt K V l t o = true then (if j = 1 then [(22, nI e, 0, 3 * t + 1)] else [(22, nI s, 0, 0)])
    else if oc_cln K V t o = true then (24, nI (pc + 2), nI w, 0) :: (22, nI q, 0, 3 * t + 2) :: oc_jp l j (pc + 2) r
    else oc_jp l j pc r
/-- from a place on: through all finally parts, then out with the word own -/
def oc_rt (own : Nat) : Nat → oc_X → List oc_I
  | _, [] => [(1, nI own, 0, 0), (21, 0, 0, 0)]
  | pc, ((t, o), _, _, w, q) :: r =>
    if oc_cln K V t o = true then (24, nI (pc + 2), nI w, 0) :: (22, nI q, 0, 3 * t + 2) :: oc_rt own (pc + 2) r
    else oc_rt own pc r
def oc_bg (i nx : Nat) : List oc_I := match K i with | 13 => [(23, 0, 0, 0)] | 18 => [(18, nI nx, V i, 3 * i + 3)] | _ => []
def oc_lv (i : Nat) (e q w : Nat) : List oc_I := if ot_cl (V i) = true then [(24, nI e, nI w, 3 * i + 1), (22, nI q, 0, 3 * i + 2)] else [(22, nI e, 0, 3 * i + 1)]
def oc_bt (i n e q w a2 : Nat) : List oc_I :=
  match K i with
  | 12 => if n = 1 then [(12, nI a2, 0, 3 * i + 3)] else if n = 2 then [(22, nI e, 0, 3 * i + 1)] else []
  | 13 => if n = 1 then [(12, nI e, 0, 3 * i + 3)] else []
  | 17 => if n ≤ ot_nc (V i) then oc_lv V i e q w else if n = 1 + ot_nc (V i) then oc_lv V i e q w ++ ((if ot_nc (V i) = 0 then [] else [(27, -1, 0, 0)]) ++ (if ot_cl (V i) = true then [(26, nI (w + 1), 0, 0), (24, nI (q - 1), nI w, 0), (22, nI q, 0, 3 * i + 2), (27, nI (w + 1), 0, 0)] else [])) else []
  | _ => []
def oc_fi (i a h w wl : Nat) (cx : oc_X) : List oc_I :=
  match K i with
  | 12 => [] | 14 => [] | 15 => [] | 18 => []
  | 13 => [(22, nI a, 0, 0)]
  | 17 => if ot_cl (V i) = true then [(25, 0, nI w, 0)] else []
  | 19 => if oc_cj K V (V i) (cx.map Prod.fst) = none then [] else oc_jp K V (V i) 1 h cx
  | 20 => if oc_cj K V (V i) (cx.map Prod.fst) = none then [] else oc_jp K V (V i) 2 h cx
  | 21 => if oc_cr K V (cx.map Prod.fst) = 0 then [(21, 0, 0, 0)] else (10, nI wl, 0, 0) :: oc_rt K V wl (h + 1) cx
  | 0 => [(0, V i, 0, 0)] | 1 => [(1, V i, 0, 0)] | 8 => [(8, V i, 0, 0)] | 10 => [(10, V i, 0, 0)] | 16 => [(16, V i, 0, 0)]
  | k => [(nI k, 0, 0, 0)]
def oc_gx : oc_X → Nat
  | [] => 0
  | ((t, _), _) :: _ => oc_gl (V t)
/-- the frame of part o -/
def oc_fr (m i a w : Nat) (cx : oc_X) (o : Nat) : (Nat × Nat) × Nat × Nat × Nat × Nat :=
  ((i, o), a, a + oc_ln K V C (m + 1) i (cx.map Prod.fst), w, a + oc_ca K V C m i (cx.map Prod.fst) (1 + ot_nc (V i)))
/-- the code of a token -/
def oc_cod : Nat → Nat → Nat → Nat → oc_X → List oc_I
  | 0, _, _, _, _ => []
  | m + 1, i, a, w, cx =>
    oc_bg K V i (a + oc_ln K V C (m + 1) i (cx.map Prod.fst) + oc_gx V cx) ++
    (oc_cc (fun o => oc_cod m (C i o) (a + oc_ca K V C m i (cx.map Prod.fst) o) (w + oc_wa K V C m i (cx.map Prod.fst) o) (oc_fr K V C m i a w cx o :: cx) ++
      oc_bt K V i (o + 1) (a + oc_ln K V C (m + 1) i (cx.map Prod.fst)) (a + oc_ca K V C m i (cx.map Prod.fst) (1 + ot_nc (V i))) w (a + oc_ca K V C m i (cx.map Prod.fst) 2)) (ot_np (K i) (V i)) ++
    oc_fi K V i a (a + oc_ca K V C m i (cx.map Prod.fst) (ot_np (K i) (V i))) w (w + oc_wa K V C m i (cx.map Prod.fst) (ot_np (K i) (V i))) cx)
end

def oc_At (F : Nat → oc_I) : Nat → List oc_I → Prop
  | _, [] => True
  | a, x :: r => F a = x ∧ oc_At F (a + 1) r
/-- the first entry that covers a place -/
def oc_fd (l : List (Nat × Nat × Nat)) (p : Nat) : Option Nat :=
  match l with
  | [] => none
  | e :: r => if e.1 ≤ p ∧ p < e.2.1 then some e.2.2 else oc_fd r p

/-! the evaluator -/
abbrev oe_C : Type := (Nat → Int32) × Nat × Nat × (Nat → Int32)
abbrev oe_O : Type := Nat × Int32 × Int32
abbrev oe_R : Type := Option (oe_O × oe_C)
/-- goes on if it ended normally -/
def oe_N (r : oe_R) (g : Int32 → oe_C → oe_R) : oe_R :=
  match r with
  | none => none
  | some (o, c) => if o.1 = 0 then g o.2.1 c else some (o, c)
def oe_B (r : oe_R) (g : oe_O → oe_C → oe_R) : oe_R :=
  match r with
  | none => none
  | some (o, c) => g o c
def oe_rk (k : Nat) (x y : Int32) : Int32 :=
  match k with
  | 2 => x + y | 3 => x - y | 4 => x * y | 5 => x / y | _ => if y ≤ x then 0 else 1
section
variable (K : Nat → Nat → Nat) (V : Nat → Nat → Int32) (C : Nat → Nat → Nat → Nat) (L : Nat → Nat) (E : Nat → Nat → Nat → oe_C → oe_R)
def oe_cal (f d : Nat) (x : Int32) (c : oe_C) : oe_R :=
  if L f = 0 then some ((4, 1, nI f), c)
  else if c.2.1 = 300 then some ((5, 0, 0), c)
  else if d = 12 then some ((4, 2, nI f), (c.1, c.2.1 + 1, c.2.2))
  else oe_B (E f (d + 1) 0 ((fun v => if v = 0 then x else 0), c.2.1 + 1, c.2.2)) (fun o c2 => some ((if o.1 = 4 ∨ o.1 = 5 then o else (0, (if o.1 = 3 then o.2.1 else 0), 0)), (c.1, c2.2)))
def oe_whl (f d i : Nat) (c : oe_C) : oe_R :=
  if c.2.1 = 300 then some ((5, 0, 0), c)
  else oe_N (E f d (C f i 0) (c.1, c.2.1 + 1, c.2.2)) (fun x c1 =>
    if x = 0 then some ((0, 0, 0), c1)
    else oe_B (E f d (C f i 1) c1) (fun o c2 =>
      if o.1 = 0 ∨ (o.1 = 2 ∧ o.2.1 = V f i) then E f d i c2
      else if o.1 = 1 ∧ o.2.1 = V f i then some ((0, 0, 0), c2)
      else some (o, c2)))
/-- whether the catch t is for the kind k -/
def oe_for (f t : Nat) (k : Int32) : Bool := decide ((V f t &&& 7) = 4 ∨ (V f t &&& 7) = k)
/-- catch t is taken, with worth w -/
def oe_cat (f d t : Nat) (w : Int32) (c : oe_C) : oe_R :=
  E f d t (upd c.1 (V f t >>> ((3 : Int32) &&& 31)).toNatClampNeg w, c.2)
/-- the body and the catches -/
def oe_prt (f d i : Nat) (c : oe_C) : oe_R :=
  oe_B (E f d (C f i 0) c) (fun o c1 =>
    if o.1 = 4 then
      (if 1 ≤ ot_nc (V f i) ∧ oe_for V f (C f i 1) o.2.1 = true then oe_cat V E f d (C f i 1) o.2.2 c1
       else if 2 ≤ ot_nc (V f i) ∧ oe_for V f (C f i 2) o.2.1 = true then oe_cat V E f d (C f i 2) o.2.2 c1
       else some (o, c1))
    else some (o, c1))
def oe_fin (f d i : Nat) (o : oe_O) (c : oe_C) : oe_R :=
  if o.1 = 5 ∨ ot_cl (V f i) = false then some (o, c)
  else oe_B (E f d (C f i (1 + ot_nc (V f i))) c) (fun o3 c3 => if o3.1 = 0 then some (o, c3) else some (o3, c3))
def oe_bd (f d i : Nat) (c : oe_C) : oe_R :=
  match K f i with
  | 0 => some ((0, V f i, 0), c)
  | 1 => some ((0, c.1 (V f i).toNatClampNeg, 0), c)
  | 7 => oe_N (E f d (C f i 0) c) (fun x c1 => some ((0, (if x = 0 then 1 else 0), 0), c1))
  | 8 => oe_N (E f d (C f i 0) c) (fun x c1 => oe_cal L E (V f i).toNatClampNeg d x c1)
  | 10 => oe_N (E f d (C f i 0) c) (fun x c1 => some ((0, 0, 0), (upd c1.1 (V f i).toNatClampNeg x, c1.2)))
  | 11 => oe_N (E f d (C f i 0) c) (fun x c1 => if c1.2.2.1 < 100000 then some ((0, 0, 0), (c1.1, c1.2.1, c1.2.2.1 + 1, (if c1.2.2.1 < 40 then upd c1.2.2.2 c1.2.2.1 x else c1.2.2.2))) else none)
  | 12 => oe_N (E f d (C f i 0) c) (fun x c1 => if x = 0 then E f d (C f i 2) c1 else E f d (C f i 1) c1)
  | 13 => oe_whl V C E f d i c
  | 14 => oe_N (E f d (C f i 0) c) (fun _ c1 => E f d (C f i 1) c1)
  | 15 => some ((0, 0, 0), c)
  | 16 => oe_N (E f d (C f i 0) c) (fun x c1 => some ((4, V f i, x), c1))
  | 17 => oe_B (oe_prt V C E f d i c) (fun o c1 => oe_fin V C E f d i o c1)
  | 18 => E f d (C f i 0) c
  | 19 => some ((1, V f i, 0), c)
  | 20 => some ((2, V f i, 0), c)
  | 21 => oe_N (E f d (C f i 0) c) (fun x c1 => some ((3, x, 0), c1))
  | _ => oe_N (E f d (C f i 0) c) (fun x c1 => oe_N (E f d (C f i 1) c1) (fun y c2 => if K f i = 5 ∧ y = 0 then some ((4, 0, x), c2) else some ((0, oe_rk (K f i) x y, 0), c2)))
end
section
variable (K : Nat → Nat → Nat) (V : Nat → Nat → Int32) (C : Nat → Nat → Nat → Nat) (L : Nat → Nat)
def oe_ev : Nat → Nat → Nat → Nat → oe_C → oe_R
  | 0, _, _, _, _ => none
  | n + 1, f, d, i, c => oe_bd K V C L (fun f d i c => oe_ev n f d i c) f d i c
end
end
section
/-! ===== accessors; X's machine over lists of frames ===== -/
def oa_tokens (z : SX) : Int32 := z.1
def oa_place (z : SX) : Int32 := z.2.1
def oa_here (z : SX) : Int32 := z.2.2.1
def oa_words (z : SX) : Int32 := z.2.2.2.1
def oa_depth (z : SX) : Int32 := z.2.2.2.2.1
def oa_working (z : SX) : Int32 := z.2.2.2.2.2.1
def oa_top (z : SX) : Int32 := z.2.2.2.2.2.2.1
def oa_steps (z : SX) : Int32 := z.2.2.2.2.2.2.2.1
def oa_says (z : SX) : Int32 := z.2.2.2.2.2.2.2.2.1
def oa_kind (z : SX) : Int32 := z.2.2.2.2.2.2.2.2.2.1
def oa_value (z : SX) : Int32 := z.2.2.2.2.2.2.2.2.2.2.1
def oa_over (z : SX) : Int32 := z.2.2.2.2.2.2.2.2.2.2.2.1
def oa_given (z : SX) : Int32 := z.2.2.2.2.2.2.2.2.2.2.2.2.1
def oa_thrown (z : SX) : Int32 := z.2.2.2.2.2.2.2.2.2.2.2.2.2.1
def oa_tok (z : SX) : Nat → Int32 := z.2.2.2.2.2.2.2.2.2.2.2.2.2.2.1
def oa_need (z : SX) : Nat → Int32 := z.2.2.2.2.2.2.2.2.2.2.2.2.2.2.2.1
def oa_num (z : SX) : Nat → Int32 := z.2.2.2.2.2.2.2.2.2.2.2.2.2.2.2.2.1
def oa_op (z : SX) : Nat → Int32 := z.2.2.2.2.2.2.2.2.2.2.2.2.2.2.2.2.2.1
def oa_x (z : SX) : Nat → Int32 := z.2.2.2.2.2.2.2.2.2.2.2.2.2.2.2.2.2.2.1
def oa_y (z : SX) : Nat → Int32 := z.2.2.2.2.2.2.2.2.2.2.2.2.2.2.2.2.2.2.2.1
def oa_from (z : SX) : Nat → Int32 := z.2.2.2.2.2.2.2.2.2.2.2.2.2.2.2.2.2.2.2.2.1
def oa_to (z : SX) : Nat → Int32 := z.2.2.2.2.2.2.2.2.2.2.2.2.2.2.2.2.2.2.2.2.2.1
def oa_handler (z : SX) : Nat → Int32 := z.2.2.2.2.2.2.2.2.2.2.2.2.2.2.2.2.2.2.2.2.2.2.1
def oa_caught (z : SX) : Nat → Int32 := z.2.2.2.2.2.2.2.2.2.2.2.2.2.2.2.2.2.2.2.2.2.2.2.1
def oa_there (z : SX) : Nat → Int32 := z.2.2.2.2.2.2.2.2.2.2.2.2.2.2.2.2.2.2.2.2.2.2.2.2.1
def oa_open (z : SX) : Nat → Int32 := z.2.2.2.2.2.2.2.2.2.2.2.2.2.2.2.2.2.2.2.2.2.2.2.2.2.1
def oa_done (z : SX) : Nat → Int32 := z.2.2.2.2.2.2.2.2.2.2.2.2.2.2.2.2.2.2.2.2.2.2.2.2.2.2.1
def oa_word (z : SX) : Nat → Int32 := z.2.2.2.2.2.2.2.2.2.2.2.2.2.2.2.2.2.2.2.2.2.2.2.2.2.2.2.1
def oa_start (z : SX) : Nat → Int32 := z.2.2.2.2.2.2.2.2.2.2.2.2.2.2.2.2.2.2.2.2.2.2.2.2.2.2.2.2.1
def oa_ends (z : SX) : Nat → Int32 := z.2.2.2.2.2.2.2.2.2.2.2.2.2.2.2.2.2.2.2.2.2.2.2.2.2.2.2.2.2.1
def oa_last (z : SX) : Nat → Int32 := z.2.2.2.2.2.2.2.2.2.2.2.2.2.2.2.2.2.2.2.2.2.2.2.2.2.2.2.2.2.2.1
def oa_hand (z : SX) : Nat → Int32 := z.2.2.2.2.2.2.2.2.2.2.2.2.2.2.2.2.2.2.2.2.2.2.2.2.2.2.2.2.2.2.2.1
def oa_bodyEnd (z : SX) : Nat → Int32 := z.2.2.2.2.2.2.2.2.2.2.2.2.2.2.2.2.2.2.2.2.2.2.2.2.2.2.2.2.2.2.2.2.1
def oa_local (z : SX) : Nat → Int32 := z.2.2.2.2.2.2.2.2.2.2.2.2.2.2.2.2.2.2.2.2.2.2.2.2.2.2.2.2.2.2.2.2.2.1
def oa_stack (z : SX) : Nat → Int32 := z.2.2.2.2.2.2.2.2.2.2.2.2.2.2.2.2.2.2.2.2.2.2.2.2.2.2.2.2.2.2.2.2.2.2.1
def oa_back (z : SX) : Nat → Int32 := z.2.2.2.2.2.2.2.2.2.2.2.2.2.2.2.2.2.2.2.2.2.2.2.2.2.2.2.2.2.2.2.2.2.2.2.1
def oa_floor (z : SX) : Nat → Int32 := z.2.2.2.2.2.2.2.2.2.2.2.2.2.2.2.2.2.2.2.2.2.2.2.2.2.2.2.2.2.2.2.2.2.2.2.2.1
def oa_running (z : SX) : Nat → Int32 := z.2.2.2.2.2.2.2.2.2.2.2.2.2.2.2.2.2.2.2.2.2.2.2.2.2.2.2.2.2.2.2.2.2.2.2.2.2.1
def oa_output (z : SX) : Nat → Int32 := z.2.2.2.2.2.2.2.2.2.2.2.2.2.2.2.2.2.2.2.2.2.2.2.2.2.2.2.2.2.2.2.2.2.2.2.2.2.2
def ob_place (z : SY) : Int32 := z.1
def ob_top (z : SY) : Int32 := z.2.1
def ob_held (z : SY) : Int32 := z.2.2.1
def ob_depth (z : SY) : Int32 := z.2.2.2.1
def ob_ended (z : SY) : Int32 := z.2.2.2.2.1
def ob_endTarget (z : SY) : Int32 := z.2.2.2.2.2.1
def ob_endKind (z : SY) : Int32 := z.2.2.2.2.2.2.1
def ob_endWorth (z : SY) : Int32 := z.2.2.2.2.2.2.2.1
def ob_steps (z : SY) : Int32 := z.2.2.2.2.2.2.2.2.1
def ob_says (z : SY) : Int32 := z.2.2.2.2.2.2.2.2.2.1
def ob_result (z : SY) : Int32 := z.2.2.2.2.2.2.2.2.2.2.1
def ob_thrown (z : SY) : Int32 := z.2.2.2.2.2.2.2.2.2.2.2.1
def ob_over (z : SY) : Int32 := z.2.2.2.2.2.2.2.2.2.2.2.2.1
def ob_kind (z : SY) : Nat → Int32 := z.2.2.2.2.2.2.2.2.2.2.2.2.2.1
def ob_up (z : SY) : Nat → Int32 := z.2.2.2.2.2.2.2.2.2.2.2.2.2.2.1
def ob_length (z : SY) : Nat → Int32 := z.2.2.2.2.2.2.2.2.2.2.2.2.2.2.2.1
def ob_value (z : SY) : Nat → Int32 := z.2.2.2.2.2.2.2.2.2.2.2.2.2.2.2.2.1
def ob_below (z : SY) : Nat → Int32 := z.2.2.2.2.2.2.2.2.2.2.2.2.2.2.2.2.2.1
def ob_open (z : SY) : Nat → Int32 := z.2.2.2.2.2.2.2.2.2.2.2.2.2.2.2.2.2.2.1
def ob_token (z : SY) : Nat → Int32 := z.2.2.2.2.2.2.2.2.2.2.2.2.2.2.2.2.2.2.2.1
def ob_height (z : SY) : Nat → Int32 := z.2.2.2.2.2.2.2.2.2.2.2.2.2.2.2.2.2.2.2.2.1
def ob_target (z : SY) : Nat → Int32 := z.2.2.2.2.2.2.2.2.2.2.2.2.2.2.2.2.2.2.2.2.2.1
def ob_phase (z : SY) : Nat → Int32 := z.2.2.2.2.2.2.2.2.2.2.2.2.2.2.2.2.2.2.2.2.2.2.1
def ob_how (z : SY) : Nat → Int32 := z.2.2.2.2.2.2.2.2.2.2.2.2.2.2.2.2.2.2.2.2.2.2.2.1
def ob_kinds (z : SY) : Nat → Int32 := z.2.2.2.2.2.2.2.2.2.2.2.2.2.2.2.2.2.2.2.2.2.2.2.2.1
def ob_worth (z : SY) : Nat → Int32 := z.2.2.2.2.2.2.2.2.2.2.2.2.2.2.2.2.2.2.2.2.2.2.2.2.2.1
def ob_values (z : SY) : Nat → Int32 := z.2.2.2.2.2.2.2.2.2.2.2.2.2.2.2.2.2.2.2.2.2.2.2.2.2.2.1
def ob_variables (z : SY) : Nat → Int32 := z.2.2.2.2.2.2.2.2.2.2.2.2.2.2.2.2.2.2.2.2.2.2.2.2.2.2.2.1
def ob_begun (z : SY) : Nat → Int32 := z.2.2.2.2.2.2.2.2.2.2.2.2.2.2.2.2.2.2.2.2.2.2.2.2.2.2.2.2.1
def ob_output (z : SY) : Nat → Int32 := z.2.2.2.2.2.2.2.2.2.2.2.2.2.2.2.2.2.2.2.2.2.2.2.2.2.2.2.2.2

abbrev ox_F : Type := Nat × Int32 × (Nat → Int32) × List Int32
def ox_tot : List ox_F → Nat
  | [] => 0
  | fr :: cs => ox_tot cs + fr.2.2.2.length
def ox_rS (sk : Nat → Int32) (t : Nat) : List Int32 → Prop
  | [] => True
  | v :: os => sk (t + os.length) = v ∧ ox_rS sk t os
def ox_rX (lo sk bk fl rn : Nat → Int32) : List ox_F → Prop
  | [] => True
  | fr :: cs => rn cs.length = nI fr.1 ∧ bk cs.length = fr.2.1 ∧ fl cs.length = nI (ox_tot cs) ∧ (∀ w, w < 80 → lo (80 * cs.length + w) = fr.2.2.1 w) ∧ ox_rS sk (ox_tot cs) fr.2.2.2 ∧ ox_rX lo sk bk fl rn cs
def ox_A (post : Int32 → SX → Prop) (z : SX) (pc : Nat) (fr : List ox_F) (st sy : Nat) (kd vl : Int32) (ou : Nat → Int32) : Prop :=
  ∀ lo sk bk fl rn : Nat → Int32, ox_rX lo sk bk fl rn fr → ∃ n, wX_run_53 post n (nI pc) (oa_tokens z) (oa_place z) (oa_here z) (oa_words z) (oa_depth z) (nI fr.length) (nI (ox_tot fr)) (nI st) (nI sy) kd vl 0 0 (-1) (oa_tok z) (oa_need z) (oa_num z) (oa_op z) (oa_x z) (oa_y z) (oa_from z) (oa_to z) (oa_handler z) (oa_caught z) (oa_there z) (oa_open z) (oa_done z) (oa_word z) (oa_start z) (oa_ends z) (oa_last z) (oa_hand z) (oa_bodyEnd z) lo sk bk fl rn ou
def ox_P (post : Int32 → SX → Prop) (n : Nat) (r : Int32) (z : SX) : Prop := wX_run_53 post n r (oa_tokens z) (oa_place z) (oa_here z) (oa_words z) (oa_depth z) (oa_working z) (oa_top z) (oa_steps z) (oa_says z) (oa_kind z) (oa_value z) (oa_over z) (oa_given z) (oa_thrown z) (oa_tok z) (oa_need z) (oa_num z) (oa_op z) (oa_x z) (oa_y z) (oa_from z) (oa_to z) (oa_handler z) (oa_caught z) (oa_there z) (oa_open z) (oa_done z) (oa_word z) (oa_start z) (oa_ends z) (oa_last z) (oa_hand z) (oa_bodyEnd z) (oa_local z) (oa_stack z) (oa_back z) (oa_floor z) (oa_running z) (oa_output z)
def ox_Z (post : Int32 → SX → Prop) (z : SX) (k v pc : Int32) (fr : List ox_F) (st sy : Nat) (ou : Nat → Int32) : Prop :=
  ∀ (tp : Int32) (lo sk bk fl rn : Nat → Int32), ox_rX lo sk bk fl rn fr → ∃ n m, wX_raise_13 (ox_P post n) k v (oa_tokens z) (oa_place z) (oa_here z) (oa_words z) (oa_depth z) tp (nI st) (nI sy) k v 0 0 (-1) (oa_tok z) (oa_need z) (oa_num z) (oa_op z) (oa_x z) (oa_y z) (oa_from z) (oa_to z) (oa_handler z) (oa_caught z) (oa_there z) (oa_open z) (oa_done z) (oa_word z) (oa_start z) (oa_ends z) (oa_last z) (oa_hand z) (oa_bodyEnd z) lo sk bk fl rn ou m pc (nI fr.length)
def ox_V (post : Int32 → SX → Prop) (z : SX) (st sy : Nat) (ou : Nat → Int32) : Prop :=
  ∀ (wk tp kd vl : Int32) (lo sk bk fl rn : Nat → Int32), post 4 ((oa_tokens z), (oa_place z), (oa_here z), (oa_words z), (oa_depth z), wk, tp, (nI st), (nI sy), kd, vl, 1, 0, (-1), (oa_tok z), (oa_need z), (oa_num z), (oa_op z), (oa_x z), (oa_y z), (oa_from z), (oa_to z), (oa_handler z), (oa_caught z), (oa_there z), (oa_open z), (oa_done z), (oa_word z), (oa_start z), (oa_ends z), (oa_last z), (oa_hand z), (oa_bodyEnd z), lo, sk, bk, fl, rn, ou)

theorem ox_rS_up {sk : Nat → Int32} {t k : Nat} {v : Int32} : ∀ {os : List Int32}, ox_rS sk t os → t + os.length ≤ k → ox_rS (upd sk k v) t os
  | [], _, _ => trivial
  | _ :: os, h, hk => ⟨by rw [pk_un (by simp at hk; omega)]; exact h.1, ox_rS_up h.2 (by simp at hk; omega)⟩
theorem ox_rX_sk {lo sk bk fl rn : Nat → Int32} {k : Nat} {v : Int32} : ∀ {fr : List ox_F}, ox_rX lo sk bk fl rn fr → ox_tot fr ≤ k → ox_rX lo (upd sk k v) bk fl rn fr
  | [], _, _ => trivial
  | fr :: cs, h, hk => by
    obtain ⟨h1, h2, h3, h4, h5, h6⟩ := h
    simp only [ox_tot] at hk
    exact ⟨h1, h2, h3, h4, ox_rS_up h5 (by omega), ox_rX_sk h6 (by omega)⟩
theorem ox_rX_lo {lo sk bk fl rn : Nat → Int32} {k : Nat} {v : Int32} : ∀ {fr : List ox_F}, ox_rX lo sk bk fl rn fr → 80 * fr.length ≤ k → ox_rX (upd lo k v) sk bk fl rn fr
  | [], _, _ => trivial
  | fr :: cs, h, hk => by
    obtain ⟨h1, h2, h3, h4, h5, h6⟩ := h
    simp only [List.length_cons] at hk
    refine ⟨h1, h2, h3, fun w hw => ?_, h5, ox_rX_lo h6 (by omega)⟩
    rw [pk_un (by omega)]; exact h4 w hw

section
variable {post : Int32 → SX → Prop} {z : SX} {pc f : Nat} {b : Int32} {lw : Nat → Int32} {os : List Int32} {cs : List ox_F} {st sy : Nat} {kd vl : Int32} {ou : Nat → Int32}
theorem ox_num (hop : oa_op z pc = 0) (hpc : pc < 2600) (hd : cs.length < 12) (ht : ox_tot cs + os.length < 520)
    (K : ox_A post z (pc + 1) ((f, b, lw, oa_x z pc :: os) :: cs) st sy kd vl ou) : ox_A post z pc ((f, b, lw, os) :: cs) st sy kd vl ou := by
  intro lo sk bk fl rn R
  have ht2 : (ox_tot ((f, b, lw, os) :: cs)) < 520 := ht
  have R' : ox_rX lo (upd sk (ox_tot ((f, b, lw, os) :: cs)) (oa_x z pc)) bk fl rn ((f, b, lw, oa_x z pc :: os) :: cs) := by
    obtain ⟨h1, h2, h3, h4, h5, h6⟩ := ox_rX_sk (v := oa_x z pc) R (Nat.le_refl _)
    exact ⟨h1, h2, h3, h4, ⟨pk_us, h5⟩, h6⟩
  obtain ⟨n, hn⟩ := K _ _ _ _ _ R'
  have e1 : nI ((f, b, lw, os) :: cs).length - 1 = nI cs.length := nI_pred _
  refine ⟨n + 1, br_f (nI_pos (by omega)) (br_t rfl ⟨vp_in_nI hpc (by omega), nm_r (e' := 0) (by rw [nI_clamp (by omega)]; exact hop) ⟨vp_in_nI hpc (by omega), nm_r (e' := oa_x z pc) (by rw [nI_clamp (by omega)]) (nm_e ⟨by rw [e1]; exact vp_in_nI hd (by omega), nm_e ?_⟩)⟩⟩)⟩
  refine br_f (by decide) (br_f (by decide) (br_t rfl ?_))
  refine nm_r (nI_1 _) ⟨vp_in_nI ht2 (by omega), nm_r (e' := upd sk (ox_tot ((f, b, lw, os) :: cs)) (oa_x z pc)) (by rw [nI_clamp (by omega)]) ?_⟩
  rw [nI_1]
  exact hn
end
end
section
/-! ===== X's machine: a rule an instruction ===== -/
def ox_D (post : Int32 → SX → Prop) (z : SX) (v : Int32) (st sy : Nat) (ou : Nat → Int32) : Prop :=
  ∀ (wk tp kd vl : Int32) (lo sk bk fl rn : Nat → Int32), post 0 ((oa_tokens z), (oa_place z), (oa_here z), (oa_words z), (oa_depth z), wk, tp, (nI st), (nI sy), kd, vl, 0, v, (-1), (oa_tok z), (oa_need z), (oa_num z), (oa_op z), (oa_x z), (oa_y z), (oa_from z), (oa_to z), (oa_handler z), (oa_caught z), (oa_there z), (oa_open z), (oa_done z), (oa_word z), (oa_start z), (oa_ends z), (oa_last z), (oa_hand z), (oa_bodyEnd z), lo, sk, bk, fl, rn, ou)
def ox_T (post : Int32 → SX → Prop) (z : SX) (k v : Int32) (st sy : Nat) (ou : Nat → Int32) : Prop :=
  ∀ (wk tp kd vl : Int32) (lo sk bk fl rn : Nat → Int32), post 3 ((oa_tokens z), (oa_place z), (oa_here z), (oa_words z), (oa_depth z), wk, tp, (nI st), (nI sy), kd, vl, 0, v, k, (oa_tok z), (oa_need z), (oa_num z), (oa_op z), (oa_x z), (oa_y z), (oa_from z), (oa_to z), (oa_handler z), (oa_caught z), (oa_there z), (oa_open z), (oa_done z), (oa_word z), (oa_start z), (oa_ends z), (oa_last z), (oa_hand z), (oa_bodyEnd z), lo, sk, bk, fl, rn, ou)
section
variable {post : Int32 → SX → Prop} {z : SX} {pc f : Nat} {b : Int32} {lw : Nat → Int32} {os : List Int32} {cs : List ox_F} {st sy : Nat} {kd vl : Int32} {ou : Nat → Int32}
theorem ox_e1 {fr : ox_F} : nI (fr :: cs).length - 1 = nI cs.length := nI_pred _
theorem ox_e2 {v : Int32} : nI (ox_tot ((f, b, lw, v :: os) :: cs)) - 1 = nI (ox_tot ((f, b, lw, os) :: cs)) := nI_pred _
theorem ox_push {lo sk bk fl rn : Nat → Int32} {v : Int32} (R : ox_rX lo sk bk fl rn ((f, b, lw, os) :: cs)) :
    ox_rX lo (upd sk (ox_tot ((f, b, lw, os) :: cs)) v) bk fl rn ((f, b, lw, v :: os) :: cs) := by
  obtain ⟨h1, h2, h3, h4, h5, h6⟩ := ox_rX_sk (v := v) R (Nat.le_refl _)
  exact ⟨h1, h2, h3, h4, ⟨pk_us, h5⟩, h6⟩
theorem ox_pop {lo sk bk fl rn : Nat → Int32} {v : Int32} (R : ox_rX lo sk bk fl rn ((f, b, lw, v :: os) :: cs)) :
    sk (ox_tot ((f, b, lw, os) :: cs)) = v ∧ ox_rX lo sk bk fl rn ((f, b, lw, os) :: cs) := by
  obtain ⟨h1, h2, h3, h4, h5, h6⟩ := R
  exact ⟨h5.1, h1, h2, h3, h4, h5.2, h6⟩
theorem ox_lup {lo sk bk fl rn : Nat → Int32} {v : Int32} {w : Nat} (R : ox_rX lo sk bk fl rn ((f, b, lw, os) :: cs)) :
    ox_rX (upd lo (80 * cs.length + w) v) sk bk fl rn ((f, b, upd lw w v, os) :: cs) := by
  obtain ⟨h1, h2, h3, h4, h5, h6⟩ := R
  refine ⟨h1, h2, h3, fun u hu => ?_, h5, ox_rX_lo h6 (by omega)⟩
  by_cases e : u = w
  · subst e; rw [pk_us]; exact pk_us.symm
  · rw [pk_un (by omega), h4 u hu]; exact (pk_un e).symm
theorem ox_var {w : Nat} (hop : oa_op z pc = 1) (hx : oa_x z pc = nI w) (hw : w < 80) (hpc : pc < 2600) (hd : cs.length < 12) (ht : ox_tot cs + os.length < 520)
    (K : ox_A post z (pc + 1) ((f, b, lw, lw w :: os) :: cs) st sy kd vl ou) : ox_A post z pc ((f, b, lw, os) :: cs) st sy kd vl ou := by
  intro lo sk bk fl rn R
  have ht2 : (ox_tot ((f, b, lw, os) :: cs)) < 520 := ht
  obtain ⟨n, hn⟩ := K _ _ _ _ _ (ox_push (v := lw w) R)
  have e1 : nI ((f, b, lw, os) :: cs).length - 1 = nI cs.length := nI_pred _
  have ea : nI (80 * cs.length) + nI w = nI (80 * cs.length + w) := nI_add _ _
  refine ⟨n + 1, br_f (nI_pos (by omega)) (br_t rfl ⟨vp_in_nI hpc (by omega), nm_r (e' := 1) (by rw [nI_clamp (by omega)]; exact hop) ⟨vp_in_nI hpc (by omega), nm_r (e' := nI w) ((congrArg (oa_x z) (nI_clamp (by omega))).trans hx) (nm_r (e' := nI (80 * cs.length)) (by rw [e1]; exact pk_mul 80 _) ⟨by rw [e1]; exact vp_in_nI hd (by omega), nm_r (e' := nI (520 * f)) (by rw [e1, nI_clamp (by omega), R.1]; exact pk_mul 520 _) ?_⟩)⟩⟩)⟩
  iterate 3 refine br_f (by decide) ?_
  refine br_t rfl ?_
  refine nm_r (nI_1 _) ⟨by rw [ea]; exact vp_in_nI (by omega) (by omega), vp_in_nI ht2 (by omega), nm_r (e' := upd sk (ox_tot ((f, b, lw, os) :: cs)) (lw w)) (by rw [nI_clamp (by omega), ea, nI_clamp (by omega), R.2.2.2.1 w hw]) ?_⟩
  rw [nI_1]
  exact hn
theorem ox_set {w : Nat} {v : Int32} (hop : oa_op z pc = 10) (hx : oa_x z pc = nI w) (hw : w < 80) (hpc : pc < 2600) (hd : cs.length < 12) (ht : ox_tot cs + os.length < 520)
    (K : ox_A post z (pc + 1) ((f, b, upd lw w v, os) :: cs) st sy kd vl ou) : ox_A post z pc ((f, b, lw, v :: os) :: cs) st sy kd vl ou := by
  intro lo sk bk fl rn R
  have ht2 : (ox_tot ((f, b, lw, os) :: cs)) < 520 := ht
  obtain ⟨hv, R2⟩ := ox_pop R
  obtain ⟨n, hn⟩ := K _ _ _ _ _ (ox_lup (v := v) (w := w) R2)
  have e1 : nI ((f, b, lw, v :: os) :: cs).length - 1 = nI cs.length := nI_pred _
  have ea : nI (80 * cs.length) + nI w = nI (80 * cs.length + w) := nI_add _ _
  refine ⟨n + 1, br_f (nI_pos (by omega)) (br_t rfl ⟨vp_in_nI hpc (by omega), nm_r (e' := 10) (by rw [nI_clamp (by omega)]; exact hop) ⟨vp_in_nI hpc (by omega), nm_r (e' := nI w) ((congrArg (oa_x z) (nI_clamp (by omega))).trans hx) (nm_r (e' := nI (80 * cs.length)) (by rw [e1]; exact pk_mul 80 _) ⟨by rw [e1]; exact vp_in_nI hd (by omega), nm_r (e' := nI (520 * f)) (by rw [e1, nI_clamp (by omega), R.1]; exact pk_mul 520 _) ?_⟩)⟩⟩)⟩
  iterate 12 refine br_f (by decide) ?_
  refine br_t rfl ?_
  refine nm_r ox_e2 ⟨by rw [ox_e2]; exact vp_in_nI ht2 (by omega), by rw [ea]; exact vp_in_nI (by omega) (by omega), nm_r (e' := upd lo (80 * cs.length + w) v) (by rw [ox_e2, nI_clamp (by omega), ea, nI_clamp (by omega), hv]) ?_⟩
  rw [nI_1]
  exact hn
theorem ox_say {v : Int32} (hop : oa_op z pc = 11) (hpc : pc < 2600) (hd : cs.length < 12) (ht : ox_tot cs + os.length < 520) (hs : sy < 1000000)
    (K : ox_A post z (pc + 1) ((f, b, lw, os) :: cs) st (sy + 1) kd vl (if sy < 40 then upd ou sy v else ou)) : ox_A post z pc ((f, b, lw, v :: os) :: cs) st sy kd vl ou := by
  intro lo sk bk fl rn R
  have ht2 : (ox_tot ((f, b, lw, os) :: cs)) < 520 := ht
  obtain ⟨hv, R2⟩ := ox_pop R
  obtain ⟨n, hn⟩ := K _ _ _ _ _ R2
  have e1 : nI ((f, b, lw, v :: os) :: cs).length - 1 = nI cs.length := nI_pred _
  have hx : oa_x z pc = oa_x z pc := rfl
  refine ⟨n + 1, br_f (nI_pos (by omega)) (br_t rfl ⟨vp_in_nI hpc (by omega), nm_r (e' := 11) (by rw [nI_clamp (by omega)]; exact hop) ⟨vp_in_nI hpc (by omega), nm_r (e' := oa_x z pc) ((congrArg (oa_x z) (nI_clamp (by omega))).trans hx) (nm_r (e' := nI (80 * cs.length)) (by rw [e1]; exact pk_mul 80 _) ⟨by rw [e1]; exact vp_in_nI hd (by omega), nm_r (e' := nI (520 * f)) (by rw [e1, nI_clamp (by omega), R.1]; exact pk_mul 520 _) ?_⟩)⟩⟩)⟩
  iterate 13 refine br_f (by decide) ?_
  refine br_t rfl ?_
  refine nm_r ox_e2 (pk_le 40 sy (fun h => ?_) (fun h => ?_))
  · rw [if_neg (by omega)] at hn
    show ∀ x, _ → _
    refine nm_r (nI_1 _) ?_
    rw [nI_1]
    exact hn
  · rw [if_pos (by omega)] at hn
    refine ⟨vp_in_nI ht2 (by omega), vp_in_nI h (by omega), nm_r (e' := upd ou sy v) (by rw [nI_clamp (by omega), nI_clamp (by omega), hv]) ?_⟩
    show ∀ x, _ → _
    refine nm_r (nI_1 _) ?_
    rw [nI_1]
    exact hn
theorem ox_if {a : Nat} {v : Int32} (hop : oa_op z pc = 12) (hx : oa_x z pc = nI a) (hpc : pc < 2600) (hd : cs.length < 12) (ht : ox_tot cs + os.length < 520)
    (K : ox_A post z (if v = 0 then 520 * f + a else pc + 1) ((f, b, lw, os) :: cs) st sy kd vl ou) : ox_A post z pc ((f, b, lw, v :: os) :: cs) st sy kd vl ou := by
  intro lo sk bk fl rn R
  have ht2 : (ox_tot ((f, b, lw, os) :: cs)) < 520 := ht
  obtain ⟨hv, R2⟩ := ox_pop R
  obtain ⟨n, hn⟩ := K _ _ _ _ _ R2
  have e1 : nI ((f, b, lw, v :: os) :: cs).length - 1 = nI cs.length := nI_pred _
  have hv2 : sk (nI (ox_tot ((f, b, lw, v :: os) :: cs)) - 1).toNatClampNeg = v := by rw [ox_e2, nI_clamp (by omega)]; exact hv
  refine ⟨n + 1, br_f (nI_pos (by omega)) (br_t rfl ⟨vp_in_nI hpc (by omega), nm_r (e' := 12) (by rw [nI_clamp (by omega)]; exact hop) ⟨vp_in_nI hpc (by omega), nm_r (e' := nI a) ((congrArg (oa_x z) (nI_clamp (by omega))).trans hx) (nm_r (e' := nI (80 * cs.length)) (by rw [e1]; exact pk_mul 80 _) ⟨by rw [e1]; exact vp_in_nI hd (by omega), nm_r (e' := nI (520 * f)) (by rw [e1, nI_clamp (by omega), R.1]; exact pk_mul 520 _) ?_⟩)⟩⟩)⟩
  iterate 14 refine br_f (by decide) ?_
  refine br_t rfl ?_
  refine nm_r ox_e2 ⟨by rw [ox_e2]; exact vp_in_nI ht2 (by omega), ?_⟩
  by_cases h : v = 0
  · rw [if_pos h] at hn
    refine br_t (hv2.trans h) ?_
    rw [nI_add]
    exact hn
  · rw [if_neg h] at hn
    refine br_f (fun e => h (hv2.symm.trans e)) ?_
    rw [nI_1]
    exact hn
theorem ox_goes {a : Nat} (hop : oa_op z pc = 22) (hx : oa_x z pc = nI a) (hpc : pc < 2600) (hd : cs.length < 12)
    (K : ox_A post z (520 * f + a) ((f, b, lw, os) :: cs) st sy kd vl ou) : ox_A post z pc ((f, b, lw, os) :: cs) st sy kd vl ou := by
  intro lo sk bk fl rn R
  obtain ⟨n, hn⟩ := K _ _ _ _ _ R
  have e1 : nI ((f, b, lw, os) :: cs).length - 1 = nI cs.length := nI_pred _
  refine ⟨n + 1, br_f (nI_pos (by omega)) (br_t rfl ⟨vp_in_nI hpc (by omega), nm_r (e' := 22) (by rw [nI_clamp (by omega)]; exact hop) ⟨vp_in_nI hpc (by omega), nm_r (e' := nI a) ((congrArg (oa_x z) (nI_clamp (by omega))).trans hx) (nm_r (e' := nI (80 * cs.length)) (by rw [e1]; exact pk_mul 80 _) ⟨by rw [e1]; exact vp_in_nI hd (by omega), nm_r (e' := nI (520 * f)) (by rw [e1, nI_clamp (by omega), R.1]; exact pk_mul 520 _) ?_⟩)⟩⟩)⟩
  iterate 24 refine br_f (by decide) ?_
  refine br_t rfl ?_
  rw [nI_add]
  exact hn
theorem ox_count (hop : oa_op z pc = 23) (hpc : pc < 2600) (hd : cs.length < 12) (hs : st ≤ 300)
    (K0 : st = 300 → ox_V post z st sy ou)
    (K : st ≠ 300 → ox_A post z (pc + 1) ((f, b, lw, os) :: cs) (st + 1) sy kd vl ou) : ox_A post z pc ((f, b, lw, os) :: cs) st sy kd vl ou := by
  intro lo sk bk fl rn R
  have e1 : nI ((f, b, lw, os) :: cs).length - 1 = nI cs.length := nI_pred _
  have hx : oa_x z pc = oa_x z pc := rfl
  by_cases h : st = 300
  · have n : Nat := 0
    refine ⟨1 + 1, ?_⟩
    have G : ∀ n, n = 1 → wX_run_53 post (n + 1) (nI pc) (oa_tokens z) (oa_place z) (oa_here z) (oa_words z) (oa_depth z) (nI ((f, b, lw, os) :: cs).length) (nI (ox_tot ((f, b, lw, os) :: cs))) (nI st) (nI sy) kd vl 0 0 (-1) (oa_tok z) (oa_need z) (oa_num z) (oa_op z) (oa_x z) (oa_y z) (oa_from z) (oa_to z) (oa_handler z) (oa_caught z) (oa_there z) (oa_open z) (oa_done z) (oa_word z) (oa_start z) (oa_ends z) (oa_last z) (oa_hand z) (oa_bodyEnd z) lo sk bk fl rn ou := by
      intro n en
      suffices H : ∃ m, m = n + 1 ∧ wX_run_53 post m (nI pc) (oa_tokens z) (oa_place z) (oa_here z) (oa_words z) (oa_depth z) (nI ((f, b, lw, os) :: cs).length) (nI (ox_tot ((f, b, lw, os) :: cs))) (nI st) (nI sy) kd vl 0 0 (-1) (oa_tok z) (oa_need z) (oa_num z) (oa_op z) (oa_x z) (oa_y z) (oa_from z) (oa_to z) (oa_handler z) (oa_caught z) (oa_there z) (oa_open z) (oa_done z) (oa_word z) (oa_start z) (oa_ends z) (oa_last z) (oa_hand z) (oa_bodyEnd z) lo sk bk fl rn ou by
        obtain ⟨m, hm, H⟩ := H; rw [← hm]; exact H
      refine ⟨n + 1, rfl, br_f (nI_pos (by omega)) (br_t rfl ⟨vp_in_nI hpc (by omega), nm_r (e' := 23) (by rw [nI_clamp (by omega)]; exact hop) ⟨vp_in_nI hpc (by omega), nm_e (nm_e ⟨by rw [e1]; exact vp_in_nI hd (by omega), nm_e ?_⟩)⟩⟩)⟩
      iterate 25 refine br_f (by decide) ?_
      refine br_t rfl (br_t (by rw [h]; rfl) ?_)
      refine ⟨rfl, rfl, br_f (by decide) ?_⟩
      rw [en, nI_1]
      exact br_f (nI_pos (by omega)) (br_f (by decide) (br_f (by decide) (K0 h _ _ _ _ _ _ _ _ _)))
    exact G 1 rfl
  · obtain ⟨n, hn⟩ := K h _ _ _ _ _ R
    refine ⟨n + 1, br_f (nI_pos (by omega)) (br_t rfl ⟨vp_in_nI hpc (by omega), nm_r (e' := 23) (by rw [nI_clamp (by omega)]; exact hop) ⟨vp_in_nI hpc (by omega), nm_r (e' := oa_x z pc) ((congrArg (oa_x z) (nI_clamp (by omega))).trans hx) (nm_r (e' := nI (80 * cs.length)) (by rw [e1]; exact pk_mul 80 _) ⟨by rw [e1]; exact vp_in_nI hd (by omega), nm_r (e' := nI (520 * f)) (by rw [e1, nI_clamp (by omega), R.1]; exact pk_mul 520 _) ?_⟩)⟩⟩)⟩
    iterate 25 refine br_f (by decide) ?_
    refine br_t rfl (br_f (fun e => h ((nI_eq (by omega) (by omega)).mp e)) ?_)
    refine ⟨rfl, rfl, br_t rfl ?_⟩
    refine nm_r (nI_1 _) ?_
    rw [nI_1]
    exact hn
theorem ox_not {v : Int32} (hop : oa_op z pc = 7) (hpc : pc < 2600) (hd : cs.length < 12) (ht : ox_tot cs + os.length < 520)
    (K : ox_A post z (pc + 1) ((f, b, lw, (if v = 0 then 1 else 0) :: os) :: cs) st sy kd vl ou) : ox_A post z pc ((f, b, lw, v :: os) :: cs) st sy kd vl ou := by
  intro lo sk bk fl rn R
  have ht2 : (ox_tot ((f, b, lw, os) :: cs)) < 520 := ht
  obtain ⟨hv, R2⟩ := ox_pop R
  obtain ⟨n, hn⟩ := K _ _ _ _ _ (ox_push (v := if v = 0 then 1 else 0) R2)
  have e1 : nI ((f, b, lw, v :: os) :: cs).length - 1 = nI cs.length := nI_pred _
  have hv2 : sk (nI (ox_tot ((f, b, lw, v :: os) :: cs)) - 1).toNatClampNeg = v := by rw [ox_e2, nI_clamp (by omega)]; exact hv
  have hx : oa_x z pc = oa_x z pc := rfl
  refine ⟨n + 1, br_f (nI_pos (by omega)) (br_t rfl ⟨vp_in_nI hpc (by omega), nm_r (e' := 7) (by rw [nI_clamp (by omega)]; exact hop) ⟨vp_in_nI hpc (by omega), nm_r (e' := oa_x z pc) ((congrArg (oa_x z) (nI_clamp (by omega))).trans hx) (nm_r (e' := nI (80 * cs.length)) (by rw [e1]; exact pk_mul 80 _) ⟨by rw [e1]; exact vp_in_nI hd (by omega), nm_r (e' := nI (520 * f)) (by rw [e1, nI_clamp (by omega), R.1]; exact pk_mul 520 _) ?_⟩)⟩⟩)⟩
  iterate 9 refine br_f (by decide) ?_
  refine br_t rfl ⟨by rw [ox_e2]; exact vp_in_nI ht2 (by omega), ?_⟩
  by_cases h : v = 0
  · rw [if_pos h] at hn
    refine br_t (hv2.trans h) ⟨by rw [ox_e2]; exact vp_in_nI ht2 (by omega), nm_r (e' := upd sk (ox_tot ((f, b, lw, os) :: cs)) 1) (by rw [ox_e2, nI_clamp (by omega)]) ?_⟩
    rw [nI_1]
    exact hn
  · rw [if_neg h] at hn
    refine br_f (fun e => h (hv2.symm.trans e)) ⟨by rw [ox_e2]; exact vp_in_nI ht2 (by omega), nm_r (e' := upd sk (ox_tot ((f, b, lw, os) :: cs)) 0) (by rw [ox_e2, nI_clamp (by omega)]) ?_⟩
    rw [nI_1]
    exact hn
end
end
section
/-! ===== X's machine: the further instructions ===== -/
section
variable {post : Int32 → SX → Prop} {z : SX} {pc f : Nat} {b : Int32} {lw : Nat → Int32} {os : List Int32} {cs : List ox_F} {st sy : Nat} {kd vl : Int32} {ou : Nat → Int32}
theorem ox_catch_no {a : Nat} (hop : oa_op z pc = 18) (hx : oa_x z pc = nI a) (h4 : ¬ 4 ≤ (oa_y z pc &&& 7)) (hk : ¬ (oa_y z pc &&& 7) = kd) (hpc : pc < 2600) (hd : cs.length < 12)
    (K : ox_A post z (520 * f + a) ((f, b, lw, os) :: cs) st sy kd vl ou) : ox_A post z pc ((f, b, lw, os) :: cs) st sy kd vl ou := by
  intro lo sk bk fl rn R
  obtain ⟨n, hn⟩ := K _ _ _ _ _ R
  have e1 : nI ((f, b, lw, os) :: cs).length - 1 = nI cs.length := nI_pred _
  refine ⟨n + 1, br_f (nI_pos (by omega)) (br_t rfl ⟨vp_in_nI hpc (by omega), nm_r (e' := 18) (by rw [nI_clamp (by omega)]; exact hop) ⟨vp_in_nI hpc (by omega), nm_r (e' := nI a) ((congrArg (oa_x z) (nI_clamp (by omega))).trans hx) (nm_r (e' := nI (80 * cs.length)) (by rw [e1]; exact pk_mul 80 _) ⟨by rw [e1]; exact vp_in_nI hd (by omega), nm_r (e' := nI (520 * f)) (by rw [e1, nI_clamp (by omega), R.1]; exact pk_mul 520 _) ?_⟩)⟩⟩)⟩
  iterate 20 refine br_f (by decide) ?_
  refine br_t rfl ?_
  refine br_t rfl ⟨vp_in_nI hpc (by omega), nm_r (e' := oa_y z pc) (congrArg (oa_y z) (nI_clamp (by omega))) (br_f h4 (br_f hk ?_))⟩
  rw [nI_add]
  exact hn
theorem ox_catch_yes {w : Nat} (hop : oa_op z pc = 18) (h4 : 4 ≤ (oa_y z pc &&& 7) ∨ (oa_y z pc &&& 7) = kd) (hw : w < 80) (hy : oa_y z pc >>> ((3 : Int32) &&& 31) = nI w) (hpc : pc < 2600) (hd : cs.length < 12)
    (K : ox_A post z (pc + 1) ((f, b, upd lw w vl, os) :: cs) st sy kd vl ou) : ox_A post z pc ((f, b, lw, os) :: cs) st sy kd vl ou := by
  intro lo sk bk fl rn R
  obtain ⟨n, hn⟩ := K _ _ _ _ _ (ox_lup (v := vl) (w := w) R)
  have e1 : nI ((f, b, lw, os) :: cs).length - 1 = nI cs.length := nI_pred _
  have hx : oa_x z pc = oa_x z pc := rfl
  have ea : nI (80 * cs.length) + (oa_y z pc >>> ((3 : Int32) &&& 31)) = nI (80 * cs.length + w) := by rw [hy]; exact nI_add _ _
  refine ⟨n + 1, br_f (nI_pos (by omega)) (br_t rfl ⟨vp_in_nI hpc (by omega), nm_r (e' := 18) (by rw [nI_clamp (by omega)]; exact hop) ⟨vp_in_nI hpc (by omega), nm_r (e' := oa_x z pc) ((congrArg (oa_x z) (nI_clamp (by omega))).trans hx) (nm_r (e' := nI (80 * cs.length)) (by rw [e1]; exact pk_mul 80 _) ⟨by rw [e1]; exact vp_in_nI hd (by omega), nm_r (e' := nI (520 * f)) (by rw [e1, nI_clamp (by omega), R.1]; exact pk_mul 520 _) ?_⟩)⟩⟩)⟩
  iterate 20 refine br_f (by decide) ?_
  refine br_t rfl ?_
  refine br_t rfl ⟨vp_in_nI hpc (by omega), nm_r (e' := oa_y z pc) (congrArg (oa_y z) (nI_clamp (by omega))) ?_⟩
  have G : wX_rest_40 (ox_P post n) (nI pc) (nI (80 * cs.length)) (oa_y z pc) (oa_tokens z) (oa_place z) (oa_here z) (oa_words z) (oa_depth z) (nI ((f, b, lw, os) :: cs).length) (nI (ox_tot ((f, b, lw, os) :: cs))) (nI st) (nI sy) kd vl 0 0 (-1) (oa_tok z) (oa_need z) (oa_num z) (oa_op z) (oa_x z) (oa_y z) (oa_from z) (oa_to z) (oa_handler z) (oa_caught z) (oa_there z) (oa_open z) (oa_done z) (oa_word z) (oa_start z) (oa_ends z) (oa_last z) (oa_hand z) (oa_bodyEnd z) lo sk bk fl rn ou := by
    refine And.intro (by rw [ea]; exact vp_in_nI (by omega) (by omega)) (nm_r (e' := upd lo (80 * cs.length + w) vl) (by rw [ea, nI_clamp (by omega)]) ?_)
    rw [nI_1]
    exact hn
  by_cases h : 4 ≤ (oa_y z pc &&& 7)
  · exact br_t h G
  · exact br_f h (br_t (h4.resolve_left h) G)
theorem ox_next {w : Nat} {a : Int32} (hop : oa_op z pc = 24) (hx : oa_x z pc = a) (hy : oa_y z pc = nI w) (hw : w < 80) (hpc : pc < 2600) (hd : cs.length < 12)
    (K : ox_A post z (pc + 1) ((f, b, upd lw w a, os) :: cs) st sy kd vl ou) : ox_A post z pc ((f, b, lw, os) :: cs) st sy kd vl ou := by
  intro lo sk bk fl rn R
  obtain ⟨n, hn⟩ := K _ _ _ _ _ (ox_lup (v := a) (w := w) R)
  have e1 : nI ((f, b, lw, os) :: cs).length - 1 = nI cs.length := nI_pred _
  have ea : nI (80 * cs.length) + oa_y z (nI pc).toNatClampNeg = nI (80 * cs.length + w) := by rw [nI_clamp (by omega), hy]; exact nI_add _ _
  refine ⟨n + 1, br_f (nI_pos (by omega)) (br_t rfl ⟨vp_in_nI hpc (by omega), nm_r (e' := 24) (by rw [nI_clamp (by omega)]; exact hop) ⟨vp_in_nI hpc (by omega), nm_r (e' := a) ((congrArg (oa_x z) (nI_clamp (by omega))).trans hx) (nm_r (e' := nI (80 * cs.length)) (by rw [e1]; exact pk_mul 80 _) ⟨by rw [e1]; exact vp_in_nI hd (by omega), nm_r (e' := nI (520 * f)) (by rw [e1, nI_clamp (by omega), R.1]; exact pk_mul 520 _) ?_⟩)⟩⟩)⟩
  refine br_f (by decide) (br_t (by decide) ?_)
  refine br_f (by decide) (br_t rfl ⟨vp_in_nI hpc (by omega), by rw [ea]; exact vp_in_nI (by omega) (by omega), nm_r (e' := upd lo (80 * cs.length + w) a) (by rw [ea, nI_clamp (by omega)]) ?_⟩)
  rw [nI_1]
  exact hn
theorem ox_on {w t : Nat} (hop : oa_op z pc = 25) (hy : oa_y z pc = nI w) (hw : w < 80) (ht : lw w = nI t) (hpc : pc < 2600) (hd : cs.length < 12)
    (K : ox_A post z (520 * f + t) ((f, b, lw, os) :: cs) st sy kd vl ou) : ox_A post z pc ((f, b, lw, os) :: cs) st sy kd vl ou := by
  intro lo sk bk fl rn R
  obtain ⟨n, hn⟩ := K _ _ _ _ _ R
  have e1 : nI ((f, b, lw, os) :: cs).length - 1 = nI cs.length := nI_pred _
  have hx : oa_x z pc = oa_x z pc := rfl
  have ea : nI (80 * cs.length) + oa_y z (nI pc).toNatClampNeg = nI (80 * cs.length + w) := by rw [nI_clamp (by omega), hy]; exact nI_add _ _
  have el : lo (nI (80 * cs.length) + oa_y z (nI pc).toNatClampNeg).toNatClampNeg = nI t := by rw [ea, nI_clamp (by omega), R.2.2.2.1 w hw]; exact ht
  refine ⟨n + 1, br_f (nI_pos (by omega)) (br_t rfl ⟨vp_in_nI hpc (by omega), nm_r (e' := 25) (by rw [nI_clamp (by omega)]; exact hop) ⟨vp_in_nI hpc (by omega), nm_r (e' := oa_x z pc) ((congrArg (oa_x z) (nI_clamp (by omega))).trans hx) (nm_r (e' := nI (80 * cs.length)) (by rw [e1]; exact pk_mul 80 _) ⟨by rw [e1]; exact vp_in_nI hd (by omega), nm_r (e' := nI (520 * f)) (by rw [e1, nI_clamp (by omega), R.1]; exact pk_mul 520 _) ?_⟩)⟩⟩)⟩
  refine br_f (by decide) (br_t (by decide) ?_)
  refine br_f (by decide) (br_f (by decide) (br_t rfl ⟨vp_in_nI hpc (by omega), by rw [ea]; exact vp_in_nI (by omega) (by omega), ?_⟩))
  rw [el, nI_add]
  exact hn
theorem ox_keep {w : Nat} (hop : oa_op z pc = 26) (hx : oa_x z pc = nI w) (hw : w + 1 < 80) (hpc : pc < 2600) (hd : cs.length < 12)
    (K : ox_A post z (pc + 1) ((f, b, upd (upd lw w kd) (w + 1) vl, os) :: cs) st sy kd vl ou) : ox_A post z pc ((f, b, lw, os) :: cs) st sy kd vl ou := by
  intro lo sk bk fl rn R
  obtain ⟨n, hn⟩ := K _ _ _ _ _ (ox_lup (v := vl) (w := w + 1) (ox_lup (v := kd) (w := w) R))
  have e1 : nI ((f, b, lw, os) :: cs).length - 1 = nI cs.length := nI_pred _
  have ea : nI (80 * cs.length) + nI w = nI (80 * cs.length + w) := nI_add _ _
  have eb : nI (80 * cs.length + w) + 1 = nI (80 * cs.length + (w + 1)) := nI_1 _
  refine ⟨n + 1, br_f (nI_pos (by omega)) (br_t rfl ⟨vp_in_nI hpc (by omega), nm_r (e' := 26) (by rw [nI_clamp (by omega)]; exact hop) ⟨vp_in_nI hpc (by omega), nm_r (e' := nI w) ((congrArg (oa_x z) (nI_clamp (by omega))).trans hx) (nm_r (e' := nI (80 * cs.length)) (by rw [e1]; exact pk_mul 80 _) ⟨by rw [e1]; exact vp_in_nI hd (by omega), nm_r (e' := nI (520 * f)) (by rw [e1, nI_clamp (by omega), R.1]; exact pk_mul 520 _) ?_⟩)⟩⟩)⟩
  refine br_f (by decide) (br_t (by decide) ?_)
  refine br_f (by decide) (br_f (by decide) (br_f (by decide) (br_t rfl ⟨by rw [ea]; exact vp_in_nI (by omega) (by omega), nm_r (e' := upd lo (80 * cs.length + w) kd) (by rw [ea, nI_clamp (by omega)]) ⟨by rw [ea, eb]; exact vp_in_nI (by omega) (by omega), nm_r (e' := upd (upd lo (80 * cs.length + w) kd) (80 * cs.length + (w + 1)) vl) (by rw [ea, eb, nI_clamp (by omega)]) ?_⟩⟩)))
  rw [nI_1]
  exact hn
theorem ox_throw {v k : Int32} (hop : oa_op z pc = 16) (hx : oa_x z pc = k) (hpc : pc < 2600) (hd : cs.length < 12) (ht : ox_tot cs + os.length < 520)
    (K : ox_Z post z k v (nI pc) ((f, b, lw, os) :: cs) st sy ou) : ox_A post z pc ((f, b, lw, v :: os) :: cs) st sy kd vl ou := by
  intro lo sk bk fl rn R
  have ht2 : (ox_tot ((f, b, lw, os) :: cs)) < 520 := ht
  obtain ⟨hv, R2⟩ := ox_pop R
  obtain ⟨n, m, hn⟩ := K (nI (ox_tot ((f, b, lw, os) :: cs))) _ _ _ _ _ R2
  have e1 : nI ((f, b, lw, v :: os) :: cs).length - 1 = nI cs.length := nI_pred _
  refine ⟨n + 1, br_f (nI_pos (by omega)) (br_t rfl ⟨vp_in_nI hpc (by omega), nm_r (e' := 16) (by rw [nI_clamp (by omega)]; exact hop) ⟨vp_in_nI hpc (by omega), nm_r (e' := k) ((congrArg (oa_x z) (nI_clamp (by omega))).trans hx) (nm_r (e' := nI (80 * cs.length)) (by rw [e1]; exact pk_mul 80 _) ⟨by rw [e1]; exact vp_in_nI hd (by omega), nm_r (e' := nI (520 * f)) (by rw [e1, nI_clamp (by omega), R.1]; exact pk_mul 520 _) ?_⟩)⟩⟩)⟩
  iterate 18 refine br_f (by decide) ?_
  refine br_t rfl ?_
  refine nm_r ox_e2 ⟨vp_in_nI ht2 (by omega), ?_⟩
  rw [nI_clamp (by omega), hv]
  exact ⟨m, hn⟩
theorem ox_again0 (hop : oa_op z pc = 27) (hx : oa_x z pc = -1) (hpc : pc < 2600) (hd : cs.length < 12)
    (K : ox_Z post z kd vl (nI pc) ((f, b, lw, os) :: cs) st sy ou) : ox_A post z pc ((f, b, lw, os) :: cs) st sy kd vl ou := by
  intro lo sk bk fl rn R
  obtain ⟨n, m, hn⟩ := K (nI (ox_tot ((f, b, lw, os) :: cs))) _ _ _ _ _ R
  have e1 : nI ((f, b, lw, os) :: cs).length - 1 = nI cs.length := nI_pred _
  refine ⟨n + 1, br_f (nI_pos (by omega)) (br_t rfl ⟨vp_in_nI hpc (by omega), nm_r (e' := 27) (by rw [nI_clamp (by omega)]; exact hop) ⟨vp_in_nI hpc (by omega), nm_r (e' := -1) ((congrArg (oa_x z) (nI_clamp (by omega))).trans hx) (nm_r (e' := nI (80 * cs.length)) (by rw [e1]; exact pk_mul 80 _) ⟨by rw [e1]; exact vp_in_nI hd (by omega), nm_r (e' := nI (520 * f)) (by rw [e1, nI_clamp (by omega), R.1]; exact pk_mul 520 _) ?_⟩)⟩⟩)⟩
  refine br_f (by decide) (br_t (by decide) ?_)
  refine br_f (by decide) (br_f (by decide) (br_f (by decide) (br_f (by decide) (br_t rfl (br_f (by decide) ⟨m, hn⟩)))))
theorem ox_again {w : Nat} (hop : oa_op z pc = 27) (hx : oa_x z pc = nI w) (hw : w + 1 < 80) (hpc : pc < 2600) (hd : cs.length < 12)
    (K : ox_Z post z (lw w) (lw (w + 1)) (nI pc) ((f, b, lw, os) :: cs) st sy ou) : ox_A post z pc ((f, b, lw, os) :: cs) st sy kd vl ou := by
  intro lo sk bk fl rn R
  obtain ⟨n, m, hn⟩ := K (nI (ox_tot ((f, b, lw, os) :: cs))) _ _ _ _ _ R
  have e1 : nI ((f, b, lw, os) :: cs).length - 1 = nI cs.length := nI_pred _
  have ea : nI (80 * cs.length) + nI w = nI (80 * cs.length + w) := nI_add _ _
  have eb : nI (80 * cs.length + w) + 1 = nI (80 * cs.length + (w + 1)) := nI_1 _
  refine ⟨n + 1, br_f (nI_pos (by omega)) (br_t rfl ⟨vp_in_nI hpc (by omega), nm_r (e' := 27) (by rw [nI_clamp (by omega)]; exact hop) ⟨vp_in_nI hpc (by omega), nm_r (e' := nI w) ((congrArg (oa_x z) (nI_clamp (by omega))).trans hx) (nm_r (e' := nI (80 * cs.length)) (by rw [e1]; exact pk_mul 80 _) ⟨by rw [e1]; exact vp_in_nI hd (by omega), nm_r (e' := nI (520 * f)) (by rw [e1, nI_clamp (by omega), R.1]; exact pk_mul 520 _) ?_⟩)⟩⟩)⟩
  refine br_f (by decide) (br_t (by decide) ?_)
  refine br_f (by decide) (br_f (by decide) (br_f (by decide) (br_f (by decide) (br_t rfl (br_t (nI_pos' (by omega)) ⟨by rw [ea]; exact vp_in_nI (by omega) (by omega), by rw [ea, eb]; exact vp_in_nI (by omega) (by omega), ?_⟩)))))
  rw [ea, eb, nI_clamp (by omega), nI_clamp (by omega), R.2.2.2.1 w (by omega), R.2.2.2.1 (w + 1) hw]
  exact ⟨m, hn⟩
theorem ox_dm (x : Int32) : -x = x / (-1) := by
  apply Int32.toInt_inj.mp
  have h : (-1 : Int32).toInt = -1 := by decide
  rw [Int32.toInt_neg, Int32.toInt_div, h, Int.tdiv_neg, Int.tdiv_one]
theorem ox_bin {x y : Int32} {k : Nat} (hk : k = 2 ∨ k = 3 ∨ k = 4 ∨ k = 5 ∨ k = 6) (hop : oa_op z pc = nI k) (hpc : pc < 2600) (hd : cs.length < 12) (ht : ox_tot cs + os.length + 1 < 520)
    (K0 : k = 5 → y = 0 → ox_Z post z 0 x (nI pc) ((f, b, lw, x :: os) :: cs) st sy ou)
    (K : ¬ (k = 5 ∧ y = 0) → ox_A post z (pc + 1) ((f, b, lw, oe_rk k x y :: os) :: cs) st sy kd vl ou) : ox_A post z pc ((f, b, lw, y :: x :: os) :: cs) st sy kd vl ou := by
  intro lo sk bk fl rn R
  have ht2 : (ox_tot ((f, b, lw, os) :: cs)) + 1 < 520 := by simp only [ox_tot]; omega
  have ht3 : (ox_tot ((f, b, lw, x :: os) :: cs)) = (ox_tot ((f, b, lw, os) :: cs)) + 1 := rfl
  obtain ⟨hv, R2⟩ := ox_pop R
  obtain ⟨hv2, R3⟩ := ox_pop R2
  have e1 : nI ((f, b, lw, y :: x :: os) :: cs).length - 1 = nI cs.length := nI_pred _
  have hx : oa_x z pc = oa_x z pc := rfl
  have PRE : ∀ n, (k = 5 → y = 0 → ∃ m, wX_raise_13 (ox_P post n) 0 x (oa_tokens z) (oa_place z) (oa_here z) (oa_words z) (oa_depth z) (nI (ox_tot ((f, b, lw, x :: os) :: cs))) (nI st) (nI sy) 0 x 0 0 (-1) (oa_tok z) (oa_need z) (oa_num z) (oa_op z) (oa_x z) (oa_y z) (oa_from z) (oa_to z) (oa_handler z) (oa_caught z) (oa_there z) (oa_open z) (oa_done z) (oa_word z) (oa_start z) (oa_ends z) (oa_last z) (oa_hand z) (oa_bodyEnd z) lo sk bk fl rn ou m (nI pc) (nI ((f, b, lw, x :: os) :: cs).length)) →
      (¬ (k = 5 ∧ y = 0) → wX_rest_249 (ox_P post n) (nI pc) (nI k) x y (oa_tokens z) (oa_place z) (oa_here z) (oa_words z) (oa_depth z) (nI ((f, b, lw, os) :: cs).length) (nI (ox_tot ((f, b, lw, x :: os) :: cs))) (nI st) (nI sy) kd vl 0 0 (-1) (oa_tok z) (oa_need z) (oa_num z) (oa_op z) (oa_x z) (oa_y z) (oa_from z) (oa_to z) (oa_handler z) (oa_caught z) (oa_there z) (oa_open z) (oa_done z) (oa_word z) (oa_start z) (oa_ends z) (oa_last z) (oa_hand z) (oa_bodyEnd z) lo sk bk fl rn ou) →
      ∃ n, wX_run_53 post n (nI pc) (oa_tokens z) (oa_place z) (oa_here z) (oa_words z) (oa_depth z) (nI ((f, b, lw, y :: x :: os) :: cs).length) (nI (ox_tot ((f, b, lw, y :: x :: os) :: cs))) (nI st) (nI sy) kd vl 0 0 (-1) (oa_tok z) (oa_need z) (oa_num z) (oa_op z) (oa_x z) (oa_y z) (oa_from z) (oa_to z) (oa_handler z) (oa_caught z) (oa_there z) (oa_open z) (oa_done z) (oa_word z) (oa_start z) (oa_ends z) (oa_last z) (oa_hand z) (oa_bodyEnd z) lo sk bk fl rn ou := by
    intro n H0 H
    refine ⟨n + 1, br_f (nI_pos (by omega)) (br_t rfl ⟨vp_in_nI hpc (by omega), nm_r (e' := nI k) (by rw [nI_clamp (by omega)]; exact hop) ⟨vp_in_nI hpc (by omega), nm_r (e' := oa_x z pc) ((congrArg (oa_x z) (nI_clamp (by omega))).trans hx) (nm_r (e' := nI (80 * cs.length)) (by rw [e1]; exact pk_mul 80 _) ⟨by rw [e1]; exact vp_in_nI hd (by omega), nm_r (e' := nI (520 * f)) (by rw [e1, nI_clamp (by omega), R.1]; exact pk_mul 520 _) ?_⟩)⟩⟩)⟩
    have ea : nI (ox_tot ((f, b, lw, x :: os) :: cs)) - 1 = nI (ox_tot ((f, b, lw, os) :: cs)) := nI_pred _
    have T : ∀ k, k = 2 ∨ k = 3 ∨ k = 4 ∨ k = 5 ∨ k = 6 → ¬ nI k = 18 ∧ ¬ nI k = 24 ∧ ¬ nI k = 25 ∧ ¬ nI k = 26 ∧ ¬ nI k = 27 := by
      intro k hk; rcases hk with h | h | h | h | h <;> subst h <;> decide
    obtain ⟨t1, t2, t3, t4, t5⟩ := T k hk
    have G : wX_step_444 (ox_P post n) (nI pc) (nI k) (oa_x z pc) (nI (80 * cs.length)) (nI (520 * f)) (oa_tokens z) (oa_place z) (oa_here z) (oa_words z) (oa_depth z) (nI ((f, b, lw, y :: x :: os) :: cs).length) (nI (ox_tot ((f, b, lw, y :: x :: os) :: cs))) (nI st) (nI sy) kd vl 0 0 (-1) (oa_tok z) (oa_need z) (oa_num z) (oa_op z) (oa_x z) (oa_y z) (oa_from z) (oa_to z) (oa_handler z) (oa_caught z) (oa_there z) (oa_open z) (oa_done z) (oa_word z) (oa_start z) (oa_ends z) (oa_last z) (oa_hand z) (oa_bodyEnd z) lo sk bk fl rn ou := by
      refine br_f t1 (br_f t2 (br_f t3 (br_f t4 (br_f t5 (nm_r (e' := nI (ox_tot ((f, b, lw, x :: os) :: cs))) ox_e2 ?_)))))
      refine ⟨by rw [ea]; exact vp_in_nI (by omega) (by omega), nm_r (e' := x) (by rw [ea, nI_clamp (by omega)]; exact hv2) ⟨vp_in_nI (by omega) (by omega), nm_r (e' := y) (by rw [nI_clamp (by omega)]; exact hv) ?_⟩⟩
      by_cases h5 : k = 5
      · refine br_t (by rw [h5]; rfl) ?_
        by_cases hy : y = 0
        · exact br_t hy (H0 h5 hy)
        · exact br_f hy (H (fun e => hy e.2))
      · refine br_f (fun e => h5 ((nI_eq (b := 5) (by omega) (by omega)).mp e)) (H (fun e => h5 e.1))
    rcases hk with h | h | h | h | h <;> subst h
    · iterate 4 refine br_f (by decide) ?_
      exact br_t rfl G
    · iterate 5 refine br_f (by decide) ?_
      exact br_t rfl G
    · iterate 6 refine br_f (by decide) ?_
      exact br_t rfl G
    · iterate 7 refine br_f (by decide) ?_
      exact br_t rfl G
    · iterate 8 refine br_f (by decide) ?_
      exact br_t rfl G
  by_cases h0 : k = 5 ∧ y = 0
  · obtain ⟨n, m, hn⟩ := K0 h0.1 h0.2 (nI (ox_tot ((f, b, lw, x :: os) :: cs))) _ _ _ _ _ R2
    exact PRE n (fun _ _ => ⟨m, hn⟩) (fun h => absurd h0 h)
  · obtain ⟨n, hn⟩ := K h0 _ _ _ _ _ (ox_push (v := oe_rk k x y) R3)
    refine PRE n (fun h1 h2 => absurd ⟨h1, h2⟩ h0) (fun _ => ?_)
    have ea : nI (ox_tot ((f, b, lw, x :: os) :: cs)) - 1 = nI (ox_tot ((f, b, lw, os) :: cs)) := nI_pred _
    have i1 : vp_in (nI (ox_tot ((f, b, lw, x :: os) :: cs)) - 1) 520 := by rw [ea]; exact vp_in_nI (by omega) (by omega)
    have e5 : ∀ v, upd sk (nI (ox_tot ((f, b, lw, x :: os) :: cs)) - 1).toNatClampNeg v = upd sk (ox_tot ((f, b, lw, os) :: cs)) v := fun v => by rw [ea, nI_clamp (by omega)]
    have FIN : ∀ v, v = oe_rk k x y → ox_P post n (nI pc + 1) ((oa_tokens z), (oa_place z), (oa_here z), (oa_words z), (oa_depth z), (nI ((f, b, lw, os) :: cs).length), (nI (ox_tot ((f, b, lw, x :: os) :: cs))), (nI st), (nI sy), kd, vl, 0, 0, (-1), (oa_tok z), (oa_need z), (oa_num z), (oa_op z), (oa_x z), (oa_y z), (oa_from z), (oa_to z), (oa_handler z), (oa_caught z), (oa_there z), (oa_open z), (oa_done z), (oa_word z), (oa_start z), (oa_ends z), (oa_last z), (oa_hand z), (oa_bodyEnd z), lo, (upd sk (nI (ox_tot ((f, b, lw, x :: os) :: cs)) - 1).toNatClampNeg v), bk, fl, rn, ou) := by
      intro v ev; rw [e5, ev, nI_1]; exact hn
    rcases hk with h | h | h | h | h <;> subst h
    · exact br_t rfl ⟨i1, nm_e (FIN _ rfl)⟩
    · exact br_f (by decide) (br_t rfl ⟨i1, nm_e (FIN _ rfl)⟩)
    · exact br_f (by decide) (br_f (by decide) (br_t rfl ⟨i1, nm_e (FIN _ rfl)⟩))
    · refine br_f (by decide) (br_f (by decide) (br_f (by decide) (br_f (by decide) ?_)))
      have hy : ¬ y = 0 := fun e => h0 ⟨rfl, e⟩
      by_cases h1 : y = -1
      · refine br_t h1 ⟨i1, nm_e (FIN _ ?_)⟩
        rw [h1]
        show -x = x / (-1)
        exact ox_dm x
      · exact br_f h1 ⟨hy, i1, nm_e (FIN _ rfl)⟩
    · refine br_f (by decide) (br_f (by decide) (br_f (by decide) (br_t rfl ?_)))
      by_cases h1 : y ≤ x
      · exact br_t h1 ⟨i1, nm_e (FIN _ (if_pos h1).symm)⟩
      · exact br_f h1 ⟨i1, nm_e (FIN _ (if_neg h1).symm)⟩
end
end
section
/-! ===== X's machine: calls, returns, exceptions ===== -/
/-- the table of what function f catches -/
def ox_TB (z : SX) (f : Nat) (en : List (Nat × Nat × Nat)) : Prop :=
  f < 4 ∧ oa_caught z f = nI en.length ∧ en.length ≤ 30 ∧ ∀ k e, en[k]? = some e → oa_from z (30 * f + k) = nI e.1 ∧ oa_to z (30 * f + k) = nI e.2.1 ∧ oa_handler z (30 * f + k) = nI e.2.2 ∧ e.1 < 1000 ∧ e.2.1 < 1000
section
variable {post : Int32 → SX → Prop} {z : SX} {pc f : Nat} {b : Int32} {lw : Nat → Int32} {os : List Int32} {cs : List ox_F} {st sy : Nat} {kd vl : Int32} {ou : Nat → Int32}
theorem ox_Z0 {k v pc : Int32} (hk : ¬ k < 0) (K : ox_T post z k v st sy ou) : ox_Z post z k v pc [] st sy ou := by
  intro tp lo sk bk fl rn _
  refine ⟨1, 1, br_t (by decide) ?_⟩
  exact br_t (by decide) (br_t rfl (br_f hk (K _ _ _ _ _ _ _ _ _)))
/-- what the search asks of the answer at place e of the table -/
theorem ox_look {P : Int32 → SX → Prop} {J : Int32 → Int32 → Prop} {k v : Int32} {en : List (Nat × Nat × Nat)} {p : Nat} {tp : Int32} {lo sk bk fl rn : Nat → Int32} (T : ox_TB z f en) (hp : p < 1000) (hd : cs.length < 12)
    (R : ox_rX lo sk bk fl rn ((f, b, lw, os) :: cs))
    (K1 : ∀ h, oc_fd en p = some h → P (nI (520 * f + h)) ((oa_tokens z), (oa_place z), (oa_here z), (oa_words z), (oa_depth z), (nI ((f, b, lw, os) :: cs).length), (nI (ox_tot cs)), (nI st), (nI sy), k, v, 0, 0, (-1), (oa_tok z), (oa_need z), (oa_num z), (oa_op z), (oa_x z), (oa_y z), (oa_from z), (oa_to z), (oa_handler z), (oa_caught z), (oa_there z), (oa_open z), (oa_done z), (oa_word z), (oa_start z), (oa_ends z), (oa_last z), (oa_hand z), (oa_bodyEnd z), lo, sk, bk, fl, rn, ou))
    (K2 : oc_fd en p = none → J (b - 1) (nI cs.length)) :
    ∀ (r : List (Nat × Nat × Nat)) (j : Nat), j + r.length = en.length → (∀ i, r[i]? = en[j + i]?) → oc_fd r p = oc_fd en p → wX_raise_51 P J k v (nI f) (nI p) (oa_tokens z) (oa_place z) (oa_here z) (oa_words z) (oa_depth z) (nI ((f, b, lw, os) :: cs).length) tp (nI st) (nI sy) k v 0 0 (-1) (oa_tok z) (oa_need z) (oa_num z) (oa_op z) (oa_x z) (oa_y z) (oa_from z) (oa_to z) (oa_handler z) (oa_caught z) (oa_there z) (oa_open z) (oa_done z) (oa_word z) (oa_start z) (oa_ends z) (oa_last z) (oa_hand z) (oa_bodyEnd z) lo sk bk fl rn ou (r.length + 1) (nI (30 * f + j)) := by
  obtain ⟨hf, hc, hl, H⟩ := T
  have e1 : nI ((f, b, lw, os) :: cs).length - 1 = nI cs.length := nI_pred _
  have eb : (30 : Int32) * nI f + oa_caught z (nI f).toNatClampNeg = nI (30 * f + en.length) := by
    rw [nI_clamp (by omega), hc]
    have : (30 : Int32) * nI f = nI (30 * f) := pk_mul 30 f
    rw [this, nI_add]
  intro r
  induction r with
  | nil =>
    intro j hj _ hr
    refine And.intro (vp_in_nI (by omega) (by omega)) ?_
    rw [eb]
    refine br_t (nI_le (by simp at hj; omega) (by omega)) (nm_r e1 ⟨vp_in_nI hd (by omega), nm_r (e' := b - 1) (by rw [nI_clamp (by omega), R.2.1]) (K2 hr.symm)⟩)
  | cons e r ih =>
    intro j hj hi hr
    have h0 := hi 0
    simp only [List.getElem?_cons_zero, Nat.add_zero] at h0
    obtain ⟨g1, g2, g3, g4, g5⟩ := H j e h0.symm
    have hj2 : j + (r.length + 1) = en.length := hj
    have nxt : ∀ x, x = nI (30 * f + j) + 1 → wX_raise_51 P J k v (nI f) (nI p) (oa_tokens z) (oa_place z) (oa_here z) (oa_words z) (oa_depth z) (nI ((f, b, lw, os) :: cs).length) tp (nI st) (nI sy) k v 0 0 (-1) (oa_tok z) (oa_need z) (oa_num z) (oa_op z) (oa_x z) (oa_y z) (oa_from z) (oa_to z) (oa_handler z) (oa_caught z) (oa_there z) (oa_open z) (oa_done z) (oa_word z) (oa_start z) (oa_ends z) (oa_last z) (oa_hand z) (oa_bodyEnd z) lo sk bk fl rn ou (r.length + 1) x ∨ (e.1 ≤ p ∧ p < e.2.1) := by
      intro x ex
      by_cases c : e.1 ≤ p ∧ p < e.2.1
      · exact Or.inr c
      · left
        rw [ex, nI_1]
        refine ih (j + 1) (by omega) (fun i => ?_) ?_
        · have := hi (i + 1)
          rw [List.getElem?_cons_succ] at this
          rw [this]; congr 1; omega
        · rw [← hr]; simp only [oc_fd, if_neg c]
    refine And.intro (vp_in_nI (by omega) (by omega)) ?_
    rw [eb]
    refine br_f (nI_ge (by omega) (by omega)) ⟨vp_in_nI (by omega) (by omega), ?_⟩
    have c1 : (nI (30 * f + j)).toNatClampNeg = 30 * f + j := nI_clamp (by omega)
    rw [c1, g1, g2, g3]
    by_cases h1 : p < e.1
    · exact br_t (nI_lt h1 (by omega)) (fun x ex => (nxt x ex).resolve_right (by omega))
    · refine br_f (nI_nlt (by omega) (by omega)) ⟨vp_in_nI (by omega) (by omega), ?_⟩
      by_cases h2 : p < e.2.1
      · refine br_t (nI_lt h2 (by omega)) ⟨by rw [e1]; exact vp_in_nI hd (by omega), nm_r (e' := nI (ox_tot cs)) (by rw [e1, nI_clamp (by omega), R.2.2.1]) ⟨vp_in_nI (by omega) (by omega), ?_⟩⟩
        have e5 : (520 : Int32) * nI f + nI e.2.2 = nI (520 * f + e.2.2) := by
          have : (520 : Int32) * nI f = nI (520 * f) := pk_mul 520 f
          rw [this, nI_add]
        rw [e5]
        refine K1 _ ?_
        rw [← hr]; simp only [oc_fd]; rw [if_pos ⟨by omega, h2⟩]
      · exact br_f (nI_nlt (by omega) (by omega)) (fun x ex => (nxt x ex).resolve_right (by omega))
theorem ox_raise {k v : Int32} {en : List (Nat × Nat × Nat)} {p : Nat} (T : ox_TB z f en) (hp : p < 520) (hd : cs.length < 12)
    (K1 : ∀ h, oc_fd en p = some h → ox_A post z (520 * f + h) ((f, b, lw, []) :: cs) st sy k v ou)
    (K2 : oc_fd en p = none → ox_Z post z k v (b - 1) cs st sy ou) :
    ox_Z post z k v (nI (520 * f + p)) ((f, b, lw, os) :: cs) st sy ou := by
  intro tp lo sk bk fl rn R
  have e1 : nI ((f, b, lw, os) :: cs).length - 1 = nI cs.length := nI_pred _
  have hf := T.1
  have PRE : ∀ n m, (∀ h, oc_fd en p = some h → ox_P post n (nI (520 * f + h)) ((oa_tokens z), (oa_place z), (oa_here z), (oa_words z), (oa_depth z), (nI ((f, b, lw, os) :: cs).length), (nI (ox_tot cs)), (nI st), (nI sy), k, v, 0, 0, (-1), (oa_tok z), (oa_need z), (oa_num z), (oa_op z), (oa_x z), (oa_y z), (oa_from z), (oa_to z), (oa_handler z), (oa_caught z), (oa_there z), (oa_open z), (oa_done z), (oa_word z), (oa_start z), (oa_ends z), (oa_last z), (oa_hand z), (oa_bodyEnd z), lo, sk, bk, fl, rn, ou)) →
      (oc_fd en p = none → wX_raise_13 (ox_P post n) k v (oa_tokens z) (oa_place z) (oa_here z) (oa_words z) (oa_depth z) tp (nI st) (nI sy) k v 0 0 (-1) (oa_tok z) (oa_need z) (oa_num z) (oa_op z) (oa_x z) (oa_y z) (oa_from z) (oa_to z) (oa_handler z) (oa_caught z) (oa_there z) (oa_open z) (oa_done z) (oa_word z) (oa_start z) (oa_ends z) (oa_last z) (oa_hand z) (oa_bodyEnd z) lo sk bk fl rn ou m (b - 1) (nI cs.length)) →
      wX_raise_13 (ox_P post n) k v (oa_tokens z) (oa_place z) (oa_here z) (oa_words z) (oa_depth z) tp (nI st) (nI sy) k v 0 0 (-1) (oa_tok z) (oa_need z) (oa_num z) (oa_op z) (oa_x z) (oa_y z) (oa_from z) (oa_to z) (oa_handler z) (oa_caught z) (oa_there z) (oa_open z) (oa_done z) (oa_word z) (oa_start z) (oa_ends z) (oa_last z) (oa_hand z) (oa_bodyEnd z) lo sk bk fl rn ou (m + 1) (nI (520 * f + p)) (nI ((f, b, lw, os) :: cs).length) := by
    intro n m H1 H2
    refine br_f (nI_nle (by simp) (by simp; omega)) ⟨by rw [e1]; exact vp_in_nI hd (by omega), nm_r (e' := nI f) (by rw [e1, nI_clamp (by omega)]; exact R.1) (nm_r (e' := nI p) ?_ (nm_r (e' := nI (30 * f + 0)) (pk_mul 30 f) ⟨en.length + 1, ?_⟩))⟩
    · have : (520 : Int32) * nI f = nI (520 * f) := pk_mul 520 f
      rw [this, pk_sub (by omega)]; congr 1; omega
    · exact ox_look T (by omega) hd R H1 H2 en 0 (by omega) (fun i => by rw [Nat.zero_add]) rfl
  cases hfd : oc_fd en p with
  | some h =>
    obtain ⟨n, hn⟩ := K1 h hfd lo sk bk fl rn ⟨R.1, R.2.1, R.2.2.1, R.2.2.2.1, trivial, R.2.2.2.2.2⟩
    refine ⟨n, 0 + 1, PRE n 0 (fun h' e => ?_) (fun e => ?_)⟩
    · rw [hfd] at e; cases e; exact hn
    · rw [hfd] at e; cases e
  | none =>
    obtain ⟨n, m, hn⟩ := K2 hfd tp lo sk bk fl rn R.2.2.2.2.2
    refine ⟨n, m + 1, PRE n m (fun h' e => ?_) (fun _ => hn)⟩
    rw [hfd] at e; cases e
theorem ox_ret0 {v : Int32} (hop : oa_op z pc = 21) (hpc : pc < 2600) (ht : os.length < 520)
    (K : ox_D post z v st sy ou) : ox_A post z pc ((f, b, lw, v :: os) :: []) st sy kd vl ou := by
  intro lo sk bk fl rn R
  have hd : ([] : List ox_F).length < 12 := by decide
  have ht2 : (ox_tot ((f, b, lw, os) :: [])) < 520 := by simp only [ox_tot]; omega
  obtain ⟨hv, R2⟩ := ox_pop R
  have e1 : nI ((f, b, lw, v :: os) :: []).length - 1 = nI ([] : List ox_F).length := nI_pred _
  have hx : oa_x z pc = oa_x z pc := rfl
  have PRE : ∀ n, ox_P post n (-1) ((oa_tokens z), (oa_place z), (oa_here z), (oa_words z), (oa_depth z), (nI 0), (fl 0), (nI st), (nI sy), kd, vl, 0, v, (-1), (oa_tok z), (oa_need z), (oa_num z), (oa_op z), (oa_x z), (oa_y z), (oa_from z), (oa_to z), (oa_handler z), (oa_caught z), (oa_there z), (oa_open z), (oa_done z), (oa_word z), (oa_start z), (oa_ends z), (oa_last z), (oa_hand z), (oa_bodyEnd z), lo, sk, bk, fl, rn, ou) → ∃ n, wX_run_53 post n (nI pc) (oa_tokens z) (oa_place z) (oa_here z) (oa_words z) (oa_depth z) (nI ((f, b, lw, v :: os) :: []).length) (nI (ox_tot ((f, b, lw, v :: os) :: []))) (nI st) (nI sy) kd vl 0 0 (-1) (oa_tok z) (oa_need z) (oa_num z) (oa_op z) (oa_x z) (oa_y z) (oa_from z) (oa_to z) (oa_handler z) (oa_caught z) (oa_there z) (oa_open z) (oa_done z) (oa_word z) (oa_start z) (oa_ends z) (oa_last z) (oa_hand z) (oa_bodyEnd z) lo sk bk fl rn ou := by
    intro n H
    refine ⟨n + 1, br_f (nI_pos (by omega)) (br_t rfl ⟨vp_in_nI hpc (by omega), nm_r (e' := 21) (by rw [nI_clamp (by omega)]; exact hop) ⟨vp_in_nI hpc (by omega), nm_e (nm_e ⟨by rw [e1]; exact vp_in_nI hd (by omega), nm_e ?_⟩)⟩⟩)⟩
    iterate 23 refine br_f (by decide) ?_
    refine br_t rfl ?_
    refine nm_r ox_e2 ⟨by rw [ox_e2]; exact vp_in_nI ht2 (by omega), nm_r (e' := v) (by rw [ox_e2, nI_clamp (by omega)]; exact hv) (nm_r (e' := nI 0) e1 ⟨vp_in_nI (by omega) (by omega), nm_r (e' := fl 0) rfl (br_t rfl H)⟩)⟩
  exact PRE 1 (br_t (by decide) (br_t rfl (br_t (show (-1 : Int32) < 0 by decide) (K _ _ _ _ _ _ _ _ _))))
theorem ox_ret {v : Int32} {r f' : Nat} {b' : Int32} {lw' : Nat → Int32} {os' : List Int32} (hop : oa_op z pc = 21) (hpc : pc < 2600) (hb : b = nI r) (hd : cs.length + 1 < 12) (ht : ox_tot cs + os'.length + os.length < 520)
    (K : ox_A post z r ((f', b', lw', v :: os') :: cs) st sy kd vl ou) : ox_A post z pc ((f, b, lw, v :: os) :: (f', b', lw', os') :: cs) st sy kd vl ou := by
  intro lo sk bk fl rn R
  have ht2 : (ox_tot ((f, b, lw, os) :: (f', b', lw', os') :: cs)) < 520 := by simp only [ox_tot]; omega
  have ht3 : (ox_tot ((f', b', lw', os') :: cs)) < 520 := by simp only [ox_tot]; omega
  obtain ⟨hv, R2⟩ := ox_pop R
  obtain ⟨n, hn⟩ := K _ _ _ _ _ (ox_push (v := v) R.2.2.2.2.2)
  have e1 : nI ((f, b, lw, v :: os) :: (f', b', lw', os') :: cs).length - 1 = nI ((f', b', lw', os') :: cs).length := nI_pred _
  have hd2 : ((f', b', lw', os') :: cs).length < 12 := hd
  refine ⟨n + 1, br_f (nI_pos (by omega)) (br_t rfl ⟨vp_in_nI hpc (by omega), nm_r (e' := 21) (by rw [nI_clamp (by omega)]; exact hop) ⟨vp_in_nI hpc (by omega), nm_e (nm_e ⟨by rw [e1]; exact vp_in_nI hd2 (by omega), nm_e ?_⟩)⟩⟩)⟩
  iterate 23 refine br_f (by decide) ?_
  refine br_t rfl ?_
  refine nm_r ox_e2 ⟨by rw [ox_e2]; exact vp_in_nI ht2 (by omega), nm_r (e' := v) (by rw [ox_e2, nI_clamp (by omega)]; exact hv) (nm_r (e' := nI ((f', b', lw', os') :: cs).length) e1 ⟨vp_in_nI hd2 (by omega), nm_r (e' := nI (ox_tot ((f', b', lw', os') :: cs))) (by rw [nI_clamp (by omega)]; exact R.2.2.1) (br_f (nI_ne0 (by simp) (by omega)) (nm_r (nI_1 _) ⟨vp_in_nI ht3 (by omega), nm_r (e' := upd sk (ox_tot ((f', b', lw', os') :: cs)) v) (by rw [nI_clamp (by omega)]) ⟨vp_in_nI hd2 (by omega), ?_⟩⟩))⟩)⟩
  rw [nI_clamp (by omega), R.2.1, hb]
  exact hn
end
end
section
/-! ===== X's machine: a function begins ===== -/
theorem ok_shI {x : Int32} (h1 : -32768 ≤ x.toInt) (h2 : x.toInt < 32768) : vp_nar .short x.toInt16.toInt32 = x := by rw [pk_vs, lg_i2s_small h1 h2]
theorem ok_sh {n : Nat} (h : n < 32768) : vp_nar .short (nI n).toInt16.toInt32 = nI n := by
  have := nI_toInt (n := n) (by omega)
  exact ok_shI (by omega) (by omega)
theorem ok_byI {x : Int32} (h1 : -128 ≤ x.toInt) (h2 : x.toInt < 128) : vp_nar .byte x.toInt8.toInt32 = x := by rw [pk_vb, lg_i2b_small h1 h2]
theorem ok_by {n : Nat} (h : n < 128) : vp_nar .byte (nI n).toInt8.toInt32 = nI n := by
  have := nI_toInt (n := n) (by omega)
  exact ok_byI (by omega) (by omega)
theorem ok_sh' {n : Nat} (h : n < 32768) : vp_nar .short (nI n) = nI n := by
  have := nI_toInt (n := n) (by omega)
  rw [vp_nar_short, lg_i2s_small (by omega) (by omega)]
theorem ok_by' {n : Nat} (h : n < 128) : vp_nar .byte (nI n) = nI n := by
  have := nI_toInt (n := n) (by omega)
  rw [vp_nar_byte, lg_i2b_small (by omega) (by omega)]
theorem ox_rS_cg {sk sk' : Nat → Int32} {t : Nat} : ∀ {os : List Int32}, ox_rS sk t os → (∀ u, u < t + os.length → sk' u = sk u) → ox_rS sk' t os
  | [], _, _ => trivial
  | _ :: os, h, hk => ⟨by rw [hk _ (by simp)]; exact h.1, ox_rS_cg h.2 (fun u hu => hk u (by simp; omega))⟩
theorem ox_rX_cg {lo sk bk fl rn lo' sk' bk' fl' rn' : Nat → Int32} : ∀ {fr : List ox_F}, ox_rX lo sk bk fl rn fr → (∀ j, j < fr.length → bk' j = bk j ∧ fl' j = fl j ∧ rn' j = rn j) → (∀ u, u < 80 * fr.length → lo' u = lo u) → (∀ u, u < ox_tot fr → sk' u = sk u) → ox_rX lo' sk' bk' fl' rn' fr
  | [], _, _, _, _ => trivial
  | fr :: cs, h, h1, h2, h3 => by
    obtain ⟨g1, g2, g3, g4, g5, g6⟩ := h
    simp only [List.length_cons] at h1 h2
    simp only [ox_tot] at h3
    obtain ⟨j1, j2, j3⟩ := h1 cs.length (by omega)
    refine ⟨j3.trans g1, j1.trans g2, j2.trans g3, fun w hw => ?_, ox_rS_cg g5 h3, ox_rX_cg g6 (fun j hj => h1 j (by omega)) (fun u hu => h2 u (by omega)) (fun u hu => h3 u (by omega))⟩
    rw [h2 _ (by omega)]; exact g4 w hw
section
variable {P : Int32 → SX → Prop} {z : SX} {g tp : Nat} {v b : Int32} {fr : List ox_F} {st sy : Nat} {kd vl : Int32} {lo sk bk fl rn ou : Nat → Int32}
theorem ox_e77 (hg : g < 4) (hd : fr.length < 12) (ht : tp < 1000) (hb1 : -32768 ≤ b.toInt) (hb2 : b.toInt < 32768)
    (H : P (nI (520 * g)) ((oa_tokens z), (oa_place z), (oa_here z), (oa_words z), (oa_depth z), (nI (fr.length + 1)), (nI tp), (nI st), (nI sy), kd, vl, 0, 0, (-1), (oa_tok z), (oa_need z), (oa_num z), (oa_op z), (oa_x z), (oa_y z), (oa_from z), (oa_to z), (oa_handler z), (oa_caught z), (oa_there z), (oa_open z), (oa_done z), (oa_word z), (oa_start z), (oa_ends z), (oa_last z), (oa_hand z), (oa_bodyEnd z), (upd (upd (upd (upd (upd (upd lo (80 * fr.length + 0) v) (80 * fr.length + 1) 0) (80 * fr.length + 2) 0) (80 * fr.length + 3) 0) (80 * fr.length + 4) 0) (80 * fr.length + 5) 0), sk, (upd bk fr.length b), (upd fl fr.length (nI tp)), (upd rn fr.length (nI g)), ou)) :
    wX_enter_77 P (nI g) v b (nI (80 * fr.length)) (oa_tokens z) (oa_place z) (oa_here z) (oa_words z) (oa_depth z) (nI fr.length) (nI tp) (nI st) (nI sy) kd vl 0 0 (-1) 7 0 (oa_tok z) (oa_need z) (oa_num z) (oa_op z) (oa_x z) (oa_y z) (oa_from z) (oa_to z) (oa_handler z) (oa_caught z) (oa_there z) (oa_open z) (oa_done z) (oa_word z) (oa_start z) (oa_ends z) (oa_last z) (oa_hand z) (oa_bodyEnd z) lo sk bk fl rn ou := by
  have ea : ∀ j, nI (80 * fr.length) + nI j = nI (80 * fr.length + j) := fun j => nI_add _ _
  have c : ∀ j, j < 6 → (nI (80 * fr.length) + nI j).toNatClampNeg = 80 * fr.length + j := fun j hj => by rw [ea, nI_clamp (by omega)]
  have i : ∀ j, j < 6 → vp_in (nI (80 * fr.length) + nI j) 960 := fun j hj => by rw [ea]; exact vp_in_nI (by omega) (by omega)
  refine br_f (by decide) (br_t rfl ⟨i 0 (by decide), nm_r (e' := (upd lo (80 * fr.length + 0) v)) (congrArg (fun k => upd lo k v) (c 0 (by decide))) (nm_r (e' := nI 1) rfl ?_)⟩)
  refine br_f (by decide) (br_f (by decide) ⟨i 1 (by decide), nm_r (e' := (upd (upd lo (80 * fr.length + 0) v) (80 * fr.length + 1) 0)) (congrArg (fun k => upd (upd lo (80 * fr.length + 0) v) k 0) (c 1 (by decide))) (nm_r (e' := nI 2) rfl ?_)⟩)
  refine br_f (by decide) (br_f (by decide) ⟨i 2 (by decide), nm_r (e' := (upd (upd (upd lo (80 * fr.length + 0) v) (80 * fr.length + 1) 0) (80 * fr.length + 2) 0)) (congrArg (fun k => upd (upd (upd lo (80 * fr.length + 0) v) (80 * fr.length + 1) 0) k 0) (c 2 (by decide))) (nm_r (e' := nI 3) rfl ?_)⟩)
  refine br_f (by decide) (br_f (by decide) ⟨i 3 (by decide), nm_r (e' := (upd (upd (upd (upd lo (80 * fr.length + 0) v) (80 * fr.length + 1) 0) (80 * fr.length + 2) 0) (80 * fr.length + 3) 0)) (congrArg (fun k => upd (upd (upd (upd lo (80 * fr.length + 0) v) (80 * fr.length + 1) 0) (80 * fr.length + 2) 0) k 0) (c 3 (by decide))) (nm_r (e' := nI 4) rfl ?_)⟩)
  refine br_f (by decide) (br_f (by decide) ⟨i 4 (by decide), nm_r (e' := (upd (upd (upd (upd (upd lo (80 * fr.length + 0) v) (80 * fr.length + 1) 0) (80 * fr.length + 2) 0) (80 * fr.length + 3) 0) (80 * fr.length + 4) 0)) (congrArg (fun k => upd (upd (upd (upd (upd lo (80 * fr.length + 0) v) (80 * fr.length + 1) 0) (80 * fr.length + 2) 0) (80 * fr.length + 3) 0) k 0) (c 4 (by decide))) (nm_r (e' := nI 5) rfl ?_)⟩)
  refine br_f (by decide) (br_f (by decide) ⟨i 5 (by decide), nm_r (e' := (upd (upd (upd (upd (upd (upd lo (80 * fr.length + 0) v) (80 * fr.length + 1) 0) (80 * fr.length + 2) 0) (80 * fr.length + 3) 0) (80 * fr.length + 4) 0) (80 * fr.length + 5) 0)) (congrArg (fun k => upd (upd (upd (upd (upd (upd lo (80 * fr.length + 0) v) (80 * fr.length + 1) 0) (80 * fr.length + 2) 0) (80 * fr.length + 3) 0) (80 * fr.length + 4) 0) k 0) (c 5 (by decide))) (nm_r (e' := nI 6) rfl ?_)⟩)
  refine br_t (by decide) ⟨vp_in_nI hd (by omega), nm_r (e' := upd bk fr.length b) (by rw [nI_clamp (by omega), ok_shI hb1 hb2]) ⟨vp_in_nI hd (by omega), nm_r (e' := upd fl fr.length (nI tp)) (by rw [nI_clamp (by omega), ok_sh (by omega)]) (nm_r (nI_1 _) ⟨vp_in_nI hd (by omega), nm_r (e' := upd rn fr.length (nI g)) (by rw [nI_clamp (by omega), ok_by (by omega)]) ?_⟩)⟩⟩
  have e5 : (520 : Int32) * nI g = nI (520 * g) := pk_mul 520 g
  rw [e5]
  exact H
theorem ox_ent_rep (ht : tp = ox_tot fr) (R : ox_rX lo sk bk fl rn fr) : ∃ lw0 : Nat → Int32, lw0 0 = v ∧ (∀ w, 0 < w → w < 6 → lw0 w = 0) ∧
    ox_rX (upd (upd (upd (upd (upd (upd lo (80 * fr.length + 0) v) (80 * fr.length + 1) 0) (80 * fr.length + 2) 0) (80 * fr.length + 3) 0) (80 * fr.length + 4) 0) (80 * fr.length + 5) 0) sk (upd bk fr.length b) (upd fl fr.length (nI tp)) (upd rn fr.length (nI g)) ((g, b, lw0, []) :: fr) := by
  refine ⟨fun w => (upd (upd (upd (upd (upd (upd lo (80 * fr.length + 0) v) (80 * fr.length + 1) 0) (80 * fr.length + 2) 0) (80 * fr.length + 3) 0) (80 * fr.length + 4) 0) (80 * fr.length + 5) 0) (80 * fr.length + w), ?_, ?_, pk_us, pk_us, by rw [ht]; exact pk_us, fun _ _ => rfl, trivial, ?_⟩
  · simp [upd]
  · intro w h0 h6
    rcases (by omega : w = 1 ∨ w = 2 ∨ w = 3 ∨ w = 4 ∨ w = 5) with h | h | h | h | h <;> subst h <;> simp [upd]
  · refine ox_rX_cg R (fun j hj => ⟨pk_un (by omega), pk_un (by omega), pk_un (by omega)⟩) (fun u hu => ?_) (fun _ _ => rfl)
    rw [pk_un (by omega), pk_un (by omega), pk_un (by omega), pk_un (by omega), pk_un (by omega), pk_un (by omega)]
end
section
variable {post : Int32 → SX → Prop} {z : SX} {g : Nat} {v b : Int32} {fr : List ox_F} {st sy : Nat} {kd vl : Int32} {lo sk bk fl rn ou : Nat → Int32}
/-- a function begins: everything that follows is settled by one of four cases -/
theorem ox_enter (hg : g < 4) (hd : fr.length ≤ 12) (ht : ox_tot fr < 1000) (hb1 : -32768 ≤ b.toInt) (hb2 : b.toInt < 32768) (hs : st ≤ 300) (R : ox_rX lo sk bk fl rn fr)
    (K1 : oa_there z g = 0 → ox_Z post z 1 (nI g) (b - 1) fr st sy ou)
    (K2 : oa_there z g ≠ 0 → st = 300 → ox_V post z st sy ou)
    (K3 : oa_there z g ≠ 0 → st ≠ 300 → fr.length = 12 → ox_Z post z 2 (nI g) (b - 1) fr (st + 1) sy ou)
    (K4 : oa_there z g ≠ 0 → st ≠ 300 → fr.length ≠ 12 → ∀ lw0 : Nat → Int32, lw0 0 = v → (∀ w, 0 < w → w < 6 → lw0 w = 0) → ox_A post z (520 * g) ((g, b, lw0, []) :: fr) (st + 1) sy kd vl ou) :
    ∃ n, wpX_enter (ox_P post n) ((oa_tokens z), (oa_place z), (oa_here z), (oa_words z), (oa_depth z), (nI fr.length), (nI (ox_tot fr)), (nI st), (nI sy), kd, vl, 0, 0, (-1), (oa_tok z), (oa_need z), (oa_num z), (oa_op z), (oa_x z), (oa_y z), (oa_from z), (oa_to z), (oa_handler z), (oa_caught z), (oa_there z), (oa_open z), (oa_done z), (oa_word z), (oa_start z), (oa_ends z), (oa_last z), (oa_hand z), (oa_bodyEnd z), lo, sk, bk, fl, rn, ou) (nI g) v b := by
  have cg : (nI g).toNatClampNeg = g := nI_clamp (by omega)
  by_cases h1 : oa_there z g = 0
  · obtain ⟨n, m, hn⟩ := K1 h1 (nI (ox_tot fr)) lo sk bk fl rn R
    exact ⟨n, And.intro (vp_in_nI hg (by omega)) (br_t (by rw [cg]; exact h1) ⟨m, hn⟩)⟩
  have h1' : ¬ oa_there z (nI g).toNatClampNeg = 0 := by rw [cg]; exact h1
  by_cases h2 : st = 300
  · refine ⟨1, And.intro (vp_in_nI hg (by omega)) (br_f h1' (br_t (by rw [h2]; rfl) ?_))⟩
    exact br_t (by decide) (br_f (by show ¬ (1 : Int32) = 0; decide) (K2 h1 h2 _ _ _ _ _ _ _ _ _))
  have h2' : ¬ nI st = 300 := fun e => h2 ((nI_eq (b := 300) (by omega) (by omega)).mp e)
  by_cases h3 : fr.length = 12
  · obtain ⟨n, m, hn⟩ := K3 h1 h2 h3 (nI (ox_tot fr)) lo sk bk fl rn R
    exact ⟨n, And.intro (vp_in_nI hg (by omega)) (br_f h1' (br_f h2' (nm_r (nI_1 _) (br_t (by rw [h3]; rfl) ⟨m, hn⟩))))⟩
  · obtain ⟨lw0, a1, a2, R'⟩ := ox_ent_rep (g := g) (v := v) (b := b) rfl R
    obtain ⟨n, hn⟩ := K4 h1 h2 h3 lw0 a1 a2 _ _ _ _ _ R'
    refine ⟨n, And.intro (vp_in_nI hg (by omega)) (br_f h1' (br_f h2' (nm_r (nI_1 _) (br_f (fun e => h3 ((nI_eq (b := 12) (by omega) (by omega)).mp e)) (nm_r (e' := nI (80 * fr.length)) (pk_mul 80 _) ⟨7, ?_⟩)))))⟩
    exact ox_e77 hg (by omega) (by omega) hb1 hb2 hn
end
section
variable {post : Int32 → SX → Prop} {z : SX} {pc f : Nat} {b : Int32} {lw : Nat → Int32} {os : List Int32} {cs : List ox_F} {st sy : Nat} {kd vl : Int32} {ou : Nat → Int32}
theorem ox_call {g : Nat} {v : Int32} (hop : oa_op z pc = 8) (hx : oa_x z pc = nI g) (hg : g < 4) (hpc : pc < 2600) (hd : cs.length < 12) (ht : ox_tot cs + os.length < 520) (hs : st ≤ 300)
    (K1 : oa_there z g = 0 → ox_Z post z 1 (nI g) (nI pc) ((f, b, lw, os) :: cs) st sy ou)
    (K2 : oa_there z g ≠ 0 → st = 300 → ox_V post z st sy ou)
    (K3 : oa_there z g ≠ 0 → st ≠ 300 → cs.length + 1 = 12 → ox_Z post z 2 (nI g) (nI pc) ((f, b, lw, os) :: cs) (st + 1) sy ou)
    (K4 : oa_there z g ≠ 0 → st ≠ 300 → cs.length + 1 ≠ 12 → ∀ lw0 : Nat → Int32, lw0 0 = v → (∀ w, 0 < w → w < 6 → lw0 w = 0) → ox_A post z (520 * g) ((g, nI (pc + 1), lw0, []) :: (f, b, lw, os) :: cs) (st + 1) sy kd vl ou) :
    ox_A post z pc ((f, b, lw, v :: os) :: cs) st sy kd vl ou := by
  intro lo sk bk fl rn R
  have ht2 : (ox_tot ((f, b, lw, os) :: cs)) < 520 := ht
  obtain ⟨hv, R2⟩ := ox_pop R
  have em : nI (pc + 1) - 1 = nI pc := nI_pred _
  have ti := nI_toInt (n := pc + 1) (by omega)
  obtain ⟨n, hn⟩ := ox_enter (post := post) (z := z) (g := g) (v := v) (b := nI (pc + 1)) (kd := kd) (vl := vl) (sy := sy) (ou := ou) hg (by simp only [List.length_cons]; omega) (by omega) (by omega) (by omega) hs R2 (by rw [em]; exact K1) K2 (by rw [em]; exact K3) K4
  have e1 : nI ((f, b, lw, v :: os) :: cs).length - 1 = nI cs.length := nI_pred _
  refine ⟨n + 1, br_f (nI_pos (by omega)) (br_t rfl ⟨vp_in_nI hpc (by omega), nm_r (e' := 8) (by rw [nI_clamp (by omega)]; exact hop) ⟨vp_in_nI hpc (by omega), nm_r (e' := nI g) ((congrArg (oa_x z) (nI_clamp (by omega))).trans hx) (nm_r (e' := nI (80 * cs.length)) (by rw [e1]; exact pk_mul 80 _) ⟨by rw [e1]; exact vp_in_nI hd (by omega), nm_r (e' := nI (520 * f)) (by rw [e1, nI_clamp (by omega), R.1]; exact pk_mul 520 _) ?_⟩)⟩⟩)⟩
  iterate 10 refine br_f (by decide) ?_
  refine br_t rfl ?_
  refine nm_r ox_e2 ⟨vp_in_nI ht2 (by omega), ?_⟩
  rw [nI_clamp (by omega), hv, nI_1]
  exact hn
end
end
section
/-! ===== code lists: lengths, places, entries ===== -/
def oc_A3 (z : SX) (f : Nat) : Nat → List oc_I → Prop
  | _, [] => True
  | a, x :: r => (a < 520 ∧ oa_op z (520 * f + a) = x.1 ∧ oa_x z (520 * f + a) = x.2.1 ∧ oa_y z (520 * f + a) = x.2.2.1) ∧ oc_A3 z f (a + 1) r
theorem oc_A3_app {z : SX} {f : Nat} : ∀ {l1 l2 : List oc_I} {a : Nat}, oc_A3 z f a (l1 ++ l2) ↔ oc_A3 z f a l1 ∧ oc_A3 z f (a + l1.length) l2
  | [], l2, a => by simp [oc_A3]
  | x :: l1, l2, a => by
    simp only [List.cons_append, oc_A3, List.length_cons]
    rw [oc_A3_app, show a + 1 + l1.length = a + (l1.length + 1) by omega]
    simp only [and_assoc]
theorem oc_A3_cc {z : SX} {f : Nat} {g : Nat → List oc_I} {a : Nat} : ∀ {n : Nat}, oc_A3 z f a (oc_cc g n) → ∀ o, o < n → oc_A3 z f (a + oc_sm (fun o => (g o).length) o) (g o)
  | 0, _, o, ho => absurd ho (by omega)
  | n + 1, h, o, ho => by
    have L : ∀ n, (oc_cc g n).length = oc_sm (fun o => (g o).length) n := by
      intro n; induction n with
      | zero => rfl
      | succ n ih => simp only [oc_cc, oc_sm, List.length_append, ih]
    obtain ⟨h1, h2⟩ := oc_A3_app.mp h
    by_cases e : o = n
    · subst e; rw [L] at h2; exact h2
    · exact oc_A3_cc h1 o (by omega)
theorem oc_cc_len {α : Type} {g : Nat → List α} (n : Nat) : (oc_cc g n).length = oc_sm (fun o => (g o).length) n := by
  induction n with
  | zero => rfl
  | succ n ih => simp only [oc_cc, oc_sm, List.length_append, ih]
theorem oc_sm_cg {f g : Nat → Nat} (h : ∀ o, f o = g o) (n : Nat) : oc_sm f n = oc_sm g n := by
  induction n with
  | zero => rfl
  | succ n ih => simp only [oc_sm, ih, h]
theorem oc_sm_le {f : Nat → Nat} {n m : Nat} (h : n ≤ m) : oc_sm f n ≤ oc_sm f m := by
  induction m with
  | zero => rw [Nat.le_zero.mp h]; exact Nat.le_refl _
  | succ m ih =>
    by_cases e : n = m + 1
    · subst e; exact Nat.le_refl _
    · have := ih (by omega); simp only [oc_sm]; omega
section
variable (K : Nat → Nat) (V : Nat → Int32) (C : Nat → Nat → Nat)
theorem oc_bg_len (i nx : Nat) : (oc_bg K V i nx).length = oc_lbg (K i) := by
  unfold oc_bg oc_lbg
  generalize K i = k
  split <;> simp_all
theorem oc_lv_len (i e q w : Nat) : (oc_lv V i e q w).length = oc_gl (V i) := by
  unfold oc_lv oc_gl
  split <;> rfl
theorem oc_bt_len (i n e q w a2 : Nat) : (oc_bt K V i n e q w a2).length = oc_lbt (K i) (V i) n := by
  unfold oc_bt oc_lbt
  generalize K i = k
  split
  · by_cases h1 : n = 1 <;> by_cases h2 : n = 2 <;> simp_all
  · by_cases h1 : n = 1 <;> simp_all
  · by_cases h1 : n ≤ ot_nc (V i)
    · simp only [if_pos h1]; exact oc_lv_len V i e q w
    · by_cases h2 : n = 1 + ot_nc (V i)
      · simp only [if_neg h1, if_pos h2, List.length_append, oc_lv_len]
        by_cases h3 : ot_nc (V i) = 0 <;> by_cases h4 : ot_cl (V i) = true <;> simp [h3, h4] <;> omega
      · simp only [if_neg h1, if_neg h2]; rfl
  · simp_all
theorem oc_jp_len (l : Int32) (j : Nat) : ∀ (cx : oc_X) (pc c : Nat), oc_cj K V l (cx.map Prod.fst) = some c → (oc_jp K V l j pc cx).length = 2 * c + 1
  | [], _, _, h => by simp [oc_cj] at h
  | ((t, o), s, e, w, q) :: r, pc, c, h => by
    simp only [List.map_cons, oc_cj] at h
    simp only [oc_jp]
    by_cases h1 : oc_tgt K V l t o = true
    · rw [if_pos h1] at h ⊢
      cases h
      split <;> rfl
    · rw [if_neg h1] at h ⊢
      cases h2 : oc_cj K V l (r.map Prod.fst) with
      | none => rw [h2] at h; cases h
      | some c' =>
        rw [h2] at h
        simp only [Option.map_some, Option.some.injEq] at h
        by_cases h3 : oc_cln K V t o = true
        · rw [if_pos h3] at h ⊢
          simp only [List.length_cons, oc_jp_len l j r (pc + 2) c' h2]; omega
        · rw [if_neg h3] at h ⊢
          rw [oc_jp_len l j r pc c' h2]; omega
theorem oc_rt_len (own : Nat) : ∀ (cx : oc_X) (pc : Nat), (oc_rt K V own pc cx).length = 2 * oc_cr K V (cx.map Prod.fst) + 2
  | [], _ => rfl
  | ((t, o), s, e, w, q) :: r, pc => by
    simp only [List.map_cons, oc_cr, oc_rt]
    by_cases h3 : oc_cln K V t o = true
    · rw [if_pos h3, if_pos h3]
      simp only [List.length_cons, oc_rt_len own r (pc + 2)]; omega
    · rw [if_neg h3, if_neg h3, oc_rt_len own r pc]; omega
theorem oc_fi_len (i a h w wl : Nat) (cx : oc_X) : (oc_fi K V i a h w wl cx).length = oc_lfi (K i) (V i) (oc_cr K V (cx.map Prod.fst)) (oc_cj K V (V i) (cx.map Prod.fst)) := by
  unfold oc_fi oc_lfi
  generalize hk : K i = k
  have J : ∀ j, (if oc_cj K V (V i) (cx.map Prod.fst) = none then [] else oc_jp K V (V i) j h cx).length = (match oc_cj K V (V i) (cx.map Prod.fst) with | none => 0 | some c => 2 * c + 1) := by
    intro j
    cases h2 : oc_cj K V (V i) (cx.map Prod.fst) with
    | none => rfl
    | some c => rw [if_neg (by simp)]; exact oc_jp_len K V (V i) j cx h c h2
  split
  · rfl
  · rfl
  · rfl
  · rfl
  · rfl
  · split <;> rfl
  · exact J 1
  · exact J 2
  · split
    · rfl
    · simp only [List.length_cons, oc_rt_len]
  · rfl
  · rfl
  · rfl
  · rfl
  · rfl
  · split <;> simp_all
theorem oc_cod_len : ∀ (m i a w : Nat) (cx : oc_X), (oc_cod K V C m i a w cx).length = oc_ln K V C m i (cx.map Prod.fst)
  | 0, _, _, _, _ => rfl
  | m + 1, i, a, w, cx => by
    simp only [oc_cod, oc_ln, List.length_append, oc_bg_len, oc_fi_len, oc_cc_len]
    rw [Nat.add_assoc]
    congr 1; congr 1
    exact oc_sm_cg (fun o => by rw [oc_cod_len, oc_bt_len]; rfl) _
theorem oc_ca_0 (m i : Nat) (p : oc_P) : oc_ca K V C m i p 0 = oc_lbg (K i) := rfl
theorem oc_ca_s (m i : Nat) (p : oc_P) (o : Nat) : oc_ca K V C m i p (o + 1) = oc_ca K V C m i p o + oc_ln K V C m (C i o) ((i, o) :: p) + oc_lbt (K i) (V i) (o + 1) := by
  simp only [oc_ca, oc_sm]; omega
theorem oc_ca_le {m i : Nat} {p : oc_P} {o o' : Nat} (h : o ≤ o') : oc_ca K V C m i p o ≤ oc_ca K V C m i p o' := by
  have := oc_sm_le (f := (fun o => oc_ln K V C m (C i o) ((i, o) :: p) + oc_lbt (K i) (V i) (o + 1))) h
  simp only [oc_ca]; omega
theorem oc_ln_s (m i : Nat) (p : oc_P) : oc_ln K V C (m + 1) i p = oc_ca K V C m i p (ot_np (K i) (V i)) + oc_lfi (K i) (V i) (oc_cr K V p) (oc_cj K V (V i) p) := rfl
theorem oc_wa_s (m i : Nat) (p : oc_P) (o : Nat) : oc_wa K V C m i p (o + 1) = oc_wa K V C m i p o + oc_wn K V C m (C i o) ((i, o) :: p) := by
  simp only [oc_wa, oc_sm]; omega
theorem oc_wn_s (m i : Nat) (p : oc_P) : oc_wn K V C (m + 1) i p = oc_wa K V C m i p (ot_np (K i) (V i)) + (if K i = 21 ∧ oc_cr K V p ≠ 0 then 1 else 0) := rfl
/-- the pieces of a token's code -/
theorem oc_sub {z : SX} {f m i a w : Nat} {cx : oc_X} (H : oc_A3 z f a (oc_cod K V C (m + 1) i a w cx)) :
    oc_A3 z f a (oc_bg K V i (a + oc_ln K V C (m + 1) i (cx.map Prod.fst) + oc_gx V cx)) ∧
    (∀ o, o < ot_np (K i) (V i) → oc_A3 z f (a + oc_ca K V C m i (cx.map Prod.fst) o) (oc_cod K V C m (C i o) (a + oc_ca K V C m i (cx.map Prod.fst) o) (w + oc_wa K V C m i (cx.map Prod.fst) o) (oc_fr K V C m i a w cx o :: cx)) ∧
      oc_A3 z f (a + oc_ca K V C m i (cx.map Prod.fst) o + oc_ln K V C m (C i o) ((i, o) :: cx.map Prod.fst)) (oc_bt K V i (o + 1) (a + oc_ln K V C (m + 1) i (cx.map Prod.fst)) (a + oc_ca K V C m i (cx.map Prod.fst) (1 + ot_nc (V i))) w (a + oc_ca K V C m i (cx.map Prod.fst) 2))) ∧
    oc_A3 z f (a + oc_ca K V C m i (cx.map Prod.fst) (ot_np (K i) (V i))) (oc_fi K V i a (a + oc_ca K V C m i (cx.map Prod.fst) (ot_np (K i) (V i))) w (w + oc_wa K V C m i (cx.map Prod.fst) (ot_np (K i) (V i))) cx) := by
  unfold oc_cod at H
  obtain ⟨h1, h2⟩ := oc_A3_app.mp H
  obtain ⟨h2, h3⟩ := oc_A3_app.mp h2
  rw [oc_bg_len] at h2 h3
  have L : ∀ n, oc_sm (fun o => (oc_cod K V C m (C i o) (a + oc_ca K V C m i (cx.map Prod.fst) o) (w + oc_wa K V C m i (cx.map Prod.fst) o) (oc_fr K V C m i a w cx o :: cx) ++ oc_bt K V i (o + 1) (a + oc_ln K V C (m + 1) i (cx.map Prod.fst)) (a + oc_ca K V C m i (cx.map Prod.fst) (1 + ot_nc (V i))) w (a + oc_ca K V C m i (cx.map Prod.fst) 2)).length) n
      = oc_sm (fun o => oc_ln K V C m (C i o) ((i, o) :: cx.map Prod.fst) + oc_lbt (K i) (V i) (o + 1)) n :=
    oc_sm_cg (fun o => by rw [List.length_append, oc_cod_len, oc_bt_len]; rfl)
  refine ⟨h1, fun o ho => ?_, ?_⟩
  · have h4 := oc_A3_cc h2 o ho
    rw [L] at h4
    rw [Nat.add_assoc] at h4
    obtain ⟨h5, h6⟩ := oc_A3_app.mp h4
    rw [oc_cod_len] at h6
    exact ⟨h5, h6⟩
  · rw [oc_cc_len, L, Nat.add_assoc] at h3
    exact h3
end
def oc_or (x y : Option Nat) : Option Nat := match x with | none => y | some h => some h
theorem oc_fd_app (p : Nat) : ∀ (l1 l2 : List (Nat × Nat × Nat)), oc_fd (l1 ++ l2) p = oc_or (oc_fd l1 p) (oc_fd l2 p)
  | [], l2 => rfl
  | e :: l1, l2 => by
    simp only [List.cons_append, oc_fd]
    split
    · rfl
    · exact oc_fd_app p l1 l2
theorem oc_fd_cc {p o : Nat} {g : Nat → List (Nat × Nat × Nat)} (h : ∀ o', o' ≠ o → oc_fd (g o') p = none) : ∀ n, oc_fd (oc_cc g n) p = if o < n then oc_fd (g o) p else none
  | 0 => rfl
  | n + 1 => by
    simp only [oc_cc, oc_fd_app, oc_fd_cc h n]
    by_cases e : n = o
    · subst e; rw [if_neg (by omega), if_pos (by omega)]; rfl
    · rw [h n e]
      by_cases e2 : o < n
      · rw [if_pos e2, if_pos (by omega)]; cases oc_fd (g o) p <;> rfl
      · rw [if_neg e2, if_neg (by omega)]; rfl
theorem oc_fd_cc0 {p : Nat} {g : Nat → List (Nat × Nat × Nat)} (n : Nat) (h : ∀ o', o' < n → oc_fd (g o') p = none) : oc_fd (oc_cc g n) p = none := by
  induction n with
  | zero => rfl
  | succ n ih => simp only [oc_cc, oc_fd_app]; rw [ih (fun o ho => h o (by omega)), h n (by omega)]; rfl
section
variable (K : Nat → Nat) (V : Nat → Int32) (C : Nat → Nat → Nat)
theorem ot_nc_le (v : Int32) : ot_nc v ≤ 2 := by unfold ot_nc; split; omega; split <;> omega
theorem oc_gl_pos (v : Int32) : 1 ≤ oc_gl v := by unfold oc_gl; split <;> omega
theorem oc_fd_mem {x h : Nat} : ∀ {l : List (Nat × Nat × Nat)}, oc_fd l x = some h → ∃ e, e ∈ l ∧ e.1 ≤ x ∧ x < e.2.1 ∧ e.2.2 = h
  | [], H => by cases H
  | e :: l, H => by
    simp only [oc_fd] at H
    split at H
    · rename_i h3; cases H; exact ⟨e, List.mem_cons_self, h3.1, h3.2, rfl⟩
    · obtain ⟨e', h1, h2⟩ := oc_fd_mem H
      exact ⟨e', List.mem_cons_of_mem _ h1, h2⟩
theorem oc_own_mem {k n s b q : Nat} {v : Int32} {e : Nat × Nat × Nat} (H : e ∈ oc_own k v n s b q) : k = 17 ∧ n = 1 + ot_nc v ∧ e.1 = s ∧ ((ot_nc v ≠ 0 ∧ e.2.1 = b ∧ e.2.2 = b + oc_gl v) ∨ (ot_cl v = true ∧ e.2.1 = q - 4 ∧ e.2.2 = q - 4)) := by
  unfold oc_own at H
  by_cases h1 : k = 17 ∧ n = 1 + ot_nc v
  · rw [if_pos h1] at H
    refine ⟨h1.1, h1.2, ?_⟩
    rcases List.mem_append.mp H with h | h
    · by_cases z0 : ot_nc v = 0
      · rw [if_pos z0] at h; cases h
      · rw [if_neg z0] at h
        rw [List.mem_singleton] at h
        subst h
        exact ⟨rfl, Or.inl ⟨z0, rfl, rfl⟩⟩
    · by_cases z0 : ot_cl v = true
      · rw [if_pos z0] at h
        rw [List.mem_singleton] at h
        subst h
        exact ⟨rfl, Or.inr ⟨z0, rfl, rfl⟩⟩
      · rw [if_neg z0] at h; cases h
  · rw [if_neg h1] at H; cases H
/-- numbers of a TRY's places -/
theorem oc_try_ca {m i : Nat} {p : oc_P} (h : K i = 17) : oc_ca K V C m i p 0 = 0 ∧
    oc_ln K V C m (C i 0) ((i, 0) :: p) + oc_gl (V i) ≤ oc_ca K V C m i p (1 + ot_nc (V i)) ∧
    (ot_cl (V i) = true → oc_ln K V C m (C i 0) ((i, 0) :: p) + oc_gl (V i) + 4 ≤ oc_ca K V C m i p (1 + ot_nc (V i))) := by
  have hb : oc_lbg (K i) = 0 := by rw [h]; rfl
  have e0 := oc_ca_s K V C m i p 0
  rw [Nat.zero_add, oc_ca_0, hb] at e0
  have e1 : oc_ca K V C m i p 1 ≤ oc_ca K V C m i p (1 + ot_nc (V i)) := oc_ca_le K V C (by omega)
  have e2 := oc_ca_s K V C m i p (ot_nc (V i))
  rw [Nat.add_comm (ot_nc (V i)) 1] at e2
  have hl : oc_lbt (K i) (V i) (1 + ot_nc (V i)) = oc_gl (V i) + (if ot_nc (V i) = 0 then 0 else 1) + (if ot_cl (V i) = true then 4 else 0) := by
    rw [h]; simp only [oc_lbt]; rw [if_neg (by omega)]; simp
  refine ⟨by rw [oc_ca_0, hb], ?_, fun hc => ?_⟩
  · by_cases z0 : ot_nc (V i) = 0
    · rw [z0] at hl e2 ⊢; rw [oc_ca_0, hb] at e2; simp only [Nat.add_zero] at *; rw [e2, hl]; omega
    · have : oc_lbt (K i) (V i) 1 = oc_gl (V i) := by rw [h]; simp only [oc_lbt]; rw [if_pos (by omega)]
      omega
  · rw [if_pos hc] at hl
    by_cases z0 : ot_nc (V i) = 0
    · rw [z0] at hl e2 ⊢; rw [oc_ca_0, hb] at e2; simp only [Nat.add_zero] at *; rw [e2, hl]; omega
    · have h5 : oc_lbt (K i) (V i) 1 = oc_gl (V i) := by rw [h]; simp only [oc_lbt]; rw [if_pos (by omega)]
      have := oc_ca_le K V C (m := m) (i := i) (p := p) (o := 1) (o' := ot_nc (V i)) (by omega)
      rw [e2, hl]; omega
theorem ot_np17 (v : Int32) : ot_np 17 v = 1 + ot_nc v + (if ot_cl v = true then 1 else 0) := rfl
/-- the own entries of a token lie in its parts 0 .. nc -/
theorem oc_own_in {m i a : Nat} {p : oc_P} {n x h : Nat} (H : oc_fd (oc_own (K i) (V i) n a (a + oc_ln K V C m (C i 0) ((i, 0) :: p)) (a + oc_ca K V C m i p (1 + ot_nc (V i)))) x = some h) :
    K i = 17 ∧ n = 1 + ot_nc (V i) ∧ a ≤ x ∧ x < a + oc_ca K V C m i p (1 + ot_nc (V i)) ∧ (ot_cl (V i) = true → x + 4 < a + oc_ca K V C m i p (1 + ot_nc (V i))) := by
  obtain ⟨e, h1, h2, h3, _⟩ := oc_fd_mem H
  obtain ⟨g1, g2, g3, g4⟩ := oc_own_mem h1
  obtain ⟨t1, t2, t3⟩ := oc_try_ca K V C (m := m) (p := p) g1
  have hg := oc_gl_pos (V i)
  refine ⟨g1, g2, by omega, ?_, fun hc => ?_⟩
  · rcases g4 with g | g
    · omega
    · have := t3 g.1; omega
  · have := t3 hc
    rcases g4 with g | g <;> omega
/-- a token's entries lie in its own code -/
theorem oc_en_in : ∀ (m i a : Nat) (p : oc_P) (x h : Nat), oc_fd (oc_en K V C m i a p) x = some h → a ≤ x ∧ x < a + oc_ln K V C m i p
  | 0, _, _, _, _, _, H => by cases H
  | m + 1, i, a, p, x, h, H => by
    by_cases c : a ≤ x ∧ x < a + oc_ln K V C (m + 1) i p
    · exact c
    · exfalso
      have N : oc_fd (oc_en K V C (m + 1) i a p) x = none := by
        refine oc_fd_cc0 _ (fun o ho => ?_)
        rw [oc_fd_app]
        have hle : oc_ca K V C m i p (o + 1) ≤ oc_ca K V C m i p (ot_np (K i) (V i)) := oc_ca_le K V C (by omega)
        have hs := oc_ca_s K V C m i p o
        have hl := oc_ln_s K V C m i p
        cases e1 : oc_fd (oc_en K V C m (C i o) (a + oc_ca K V C m i p o) ((i, o) :: p)) x with
        | some h1 => have := oc_en_in m _ _ _ _ _ e1; omega
        | none =>
          cases e2 : oc_fd (oc_own (K i) (V i) (o + 1) a (a + oc_ln K V C m (C i 0) ((i, 0) :: p)) (a + oc_ca K V C m i p (1 + ot_nc (V i)))) x with
          | none => rfl
          | some h2 =>
            obtain ⟨g1, g2, g3, g4, _⟩ := oc_own_in K V C e2
            have : oc_ca K V C m i p (1 + ot_nc (V i)) ≤ oc_ca K V C m i p (ot_np (K i) (V i)) := oc_ca_le K V C (by rw [g1, ot_np17]; omega)
            omega
      rw [N] at H; cases H
/-- what covers a place in part o: that part's entries, then (in parts 0 .. nc of a TRY) its own -/
theorem oc_en_part {m i a : Nat} {p : oc_P} {o x : Nat} (ho : o < ot_np (K i) (V i)) (h1 : a + oc_ca K V C m i p o ≤ x) (h2 : x < a + oc_ca K V C m i p o + oc_ln K V C m (C i o) ((i, o) :: p)) :
    oc_fd (oc_en K V C (m + 1) i a p) x = oc_or (oc_fd (oc_en K V C m (C i o) (a + oc_ca K V C m i p o) ((i, o) :: p)) x)
      (if K i = 17 ∧ o ≤ ot_nc (V i) then oc_fd (oc_own (K i) (V i) (1 + ot_nc (V i)) a (a + oc_ln K V C m (C i 0) ((i, 0) :: p)) (a + oc_ca K V C m i p (1 + ot_nc (V i)))) x else none) := by
  have NO : ∀ o', o' ≠ o → oc_fd (oc_en K V C m (C i o') (a + oc_ca K V C m i p o') ((i, o') :: p)) x = none := by
    intro o' ne
    cases e1 : oc_fd (oc_en K V C m (C i o') (a + oc_ca K V C m i p o') ((i, o') :: p)) x with
    | none => rfl
    | some h =>
      have := oc_en_in K V C m _ _ _ _ _ e1
      have s1 := oc_ca_s K V C m i p o
      have s2 := oc_ca_s K V C m i p o'
      rcases Nat.lt_or_gt_of_ne ne with g | g
      · have := oc_ca_le K V C (m := m) (i := i) (p := p) (o := o' + 1) (o' := o) (by omega); omega
      · have := oc_ca_le K V C (m := m) (i := i) (p := p) (o := o + 1) (o' := o') (by omega); omega
  have G : ∀ n, n ≤ ot_np (K i) (V i) → oc_fd (oc_cc (fun o => oc_en K V C m (C i o) (a + oc_ca K V C m i p o) ((i, o) :: p) ++ oc_own (K i) (V i) (o + 1) a (a + oc_ln K V C m (C i 0) ((i, 0) :: p)) (a + oc_ca K V C m i p (1 + ot_nc (V i)))) n) x
      = oc_or (if o < n then oc_fd (oc_en K V C m (C i o) (a + oc_ca K V C m i p o) ((i, o) :: p)) x else none)
        (if (K i = 17 ∧ o ≤ ot_nc (V i)) ∧ ot_nc (V i) < n then oc_fd (oc_own (K i) (V i) (1 + ot_nc (V i)) a (a + oc_ln K V C m (C i 0) ((i, 0) :: p)) (a + oc_ca K V C m i p (1 + ot_nc (V i)))) x else none) := by
    intro n
    induction n with
    | zero => intro _; rw [if_neg (by omega), if_neg (by omega)]; rfl
    | succ n ih =>
      intro hn
      simp only [oc_cc, oc_fd_app]
      rw [ih (by omega)]
      have own0 : ¬ (K i = 17 ∧ n = ot_nc (V i)) → oc_fd (oc_own (K i) (V i) (n + 1) a (a + oc_ln K V C m (C i 0) ((i, 0) :: p)) (a + oc_ca K V C m i p (1 + ot_nc (V i)))) x = none := by
        intro h; unfold oc_own; rw [if_neg (fun e => h ⟨e.1, by omega⟩)]; rfl
      by_cases c : K i = 17 ∧ n = ot_nc (V i)
      · obtain ⟨c1, c2⟩ := c
        subst c2
        rw [Nat.add_comm (ot_nc (V i)) 1]
        by_cases c3 : o ≤ ot_nc (V i)
        · rw [if_neg (c := (K i = 17 ∧ o ≤ ot_nc (V i)) ∧ ot_nc (V i) < ot_nc (V i)) (by omega), if_pos (c := (K i = 17 ∧ o ≤ ot_nc (V i)) ∧ ot_nc (V i) < 1 + ot_nc (V i)) ⟨⟨c1, c3⟩, by omega⟩, if_pos (c := o < 1 + ot_nc (V i)) (by omega)]
          by_cases c4 : o = ot_nc (V i)
          · rw [if_neg (by omega), ← c4]; rfl
          · rw [if_pos (by omega), NO _ (Ne.symm c4)]
            cases oc_fd (oc_en K V C m (C i o) (a + oc_ca K V C m i p o) ((i, o) :: p)) x <;> rfl
        · have z1 : oc_fd (oc_own (K i) (V i) (1 + ot_nc (V i)) a (a + oc_ln K V C m (C i 0) ((i, 0) :: p)) (a + oc_ca K V C m i p (1 + ot_nc (V i)))) x = none := by
            cases e2 : oc_fd (oc_own (K i) (V i) (1 + ot_nc (V i)) a (a + oc_ln K V C m (C i 0) ((i, 0) :: p)) (a + oc_ca K V C m i p (1 + ot_nc (V i)))) x with
            | none => rfl
            | some h2 =>
              obtain ⟨g1, g2, g3, g4, _⟩ := oc_own_in K V C e2
              have := oc_ca_le K V C (m := m) (i := i) (p := p) (o := 1 + ot_nc (V i)) (o' := o) (by omega)
              omega
          rw [z1, NO (ot_nc (V i)) (by omega)]
          have c8 : ¬ o < ot_nc (V i) := by omega
          have c9 : ¬ o < 1 + ot_nc (V i) := by omega
          simp only [c8, c9, c3, and_false, false_and, if_false]
          rfl
      · rw [own0 c]
        have c5 : ((K i = 17 ∧ o ≤ ot_nc (V i)) ∧ ot_nc (V i) < n + 1) ↔ ((K i = 17 ∧ o ≤ ot_nc (V i)) ∧ ot_nc (V i) < n) := by
          constructor
          · intro h; refine ⟨h.1, ?_⟩
            have : n ≠ ot_nc (V i) := fun e => c ⟨h.1.1, e⟩
            omega
          · intro h; exact ⟨h.1, by omega⟩
        simp only [c5]
        by_cases c6 : o = n
        · subst c6
          have c7 : ¬ ((K i = 17 ∧ o ≤ ot_nc (V i)) ∧ ot_nc (V i) < o) := by omega
          rw [if_neg c7, if_neg (Nat.lt_irrefl o), if_pos (Nat.lt_succ_self o)]
          rfl
        · rw [NO _ (Ne.symm c6)]
          have : (o < n + 1) ↔ (o < n) := by omega
          simp only [this]
          generalize (if o < n then oc_fd (oc_en K V C m (C i o) (a + oc_ca K V C m i p o) ((i, o) :: p)) x else none) = A
          generalize (if (K i = 17 ∧ o ≤ ot_nc (V i)) ∧ ot_nc (V i) < n then oc_fd (oc_own (K i) (V i) (1 + ot_nc (V i)) a (a + oc_ln K V C m (C i 0) ((i, 0) :: p)) (a + oc_ca K V C m i p (1 + ot_nc (V i)))) x else none) = B
          cases A <;> cases B <;> rfl
  have := G _ (Nat.le_refl _)
  rw [if_pos ho] at this
  simp only [oc_en]
  rw [this]
  congr 1
  by_cases c : K i = 17 ∧ o ≤ ot_nc (V i)
  · rw [if_pos c, if_pos ⟨c, by rw [c.1, ot_np17]; omega⟩]
  · rw [if_neg c, if_neg (fun h => c h.1)]
/-- a place of the finish code is covered by none of the token's entries -/
theorem oc_en_fin {m i a : Nat} {p : oc_P} {x : Nat} (h1 : a + oc_ca K V C m i p (ot_np (K i) (V i)) ≤ x) : oc_fd (oc_en K V C (m + 1) i a p) x = none := by
  refine oc_fd_cc0 _ (fun o ho => ?_)
  rw [oc_fd_app]
  have hle : oc_ca K V C m i p (o + 1) ≤ oc_ca K V C m i p (ot_np (K i) (V i)) := oc_ca_le K V C (by omega)
  have hs := oc_ca_s K V C m i p o
  cases e1 : oc_fd (oc_en K V C m (C i o) (a + oc_ca K V C m i p o) ((i, o) :: p)) x with
  | some h1 => have := oc_en_in K V C m _ _ _ _ _ e1; omega
  | none =>
    cases e2 : oc_fd (oc_own (K i) (V i) (o + 1) a (a + oc_ln K V C m (C i 0) ((i, 0) :: p)) (a + oc_ca K V C m i p (1 + ot_nc (V i)))) x with
    | none => rfl
    | some h2 =>
      obtain ⟨g1, g2, g3, g4, _⟩ := oc_own_in K V C e2
      have : oc_ca K V C m i p (1 + ot_nc (V i)) ≤ oc_ca K V C m i p (ot_np (K i) (V i)) := oc_ca_le K V C (by rw [g1, ot_np17]; omega)
      omega
end
end
section
/-! ===== the tree's facts; the evaluator: steps, says, an end ===== -/
section
variable (K : Nat → Nat) (V : Nat → Int32) (C : Nat → Nat → Nat) (Q : Nat → oc_P) (B : Nat → Nat)
/-- what is known of token i of a body with N tokens -/
def ot_W1 (N i : Nat) : Prop :=
  ot_ok (K i) (V i) ∧ (∀ o, o < ot_np (K i) (V i) → i < C i o ∧ C i o < N ∧ ot_so (K (C i o)) = ot_wa (K i) (V i) o ∧ Q (C i o) = (i, o) :: Q i ∧ (o = 0 → C i o = i + 1) ∧ (o + 1 < ot_np (K i) (V i) → C i (o + 1) = B (C i o)) ∧ (o + 1 = ot_np (K i) (V i) → B i = B (C i o))) ∧
  (ot_np (K i) (V i) = 0 → B i = i + 1) ∧ i < B i ∧ B i ≤ N
def ot_WT (N : Nat) : Prop :=
  0 < N ∧ N ≤ 40 ∧ ot_so (K 0) = 1 ∧ Q 0 = [] ∧ B 0 = N ∧ ∀ i, i < N → ot_W1 K V C Q B N i
def ot_BD (N : Nat) : Prop := ∀ i, i < N → (K i = 19 ∨ K i = 20) → oc_cj K V (V i) (Q i) ≠ none
end
theorem oe_Ni {r : oe_R} {g : Int32 → oe_C → oe_R} {o : oe_O} {c : oe_C} (h : oe_N r g = some (o, c)) : ∃ o1 c1, r = some (o1, c1) ∧ ((o1.1 = 0 ∧ g o1.2.1 c1 = some (o, c)) ∨ (o1.1 ≠ 0 ∧ o = o1 ∧ c = c1)) := by
  cases r with
  | none => cases h
  | some x =>
    obtain ⟨o1, c1⟩ := x
    simp only [oe_N] at h
    refine ⟨o1, c1, rfl, ?_⟩
    by_cases e : o1.1 = 0
    · rw [if_pos e] at h; exact Or.inl ⟨e, h⟩
    · rw [if_neg e] at h; cases h; exact Or.inr ⟨e, rfl, rfl⟩
theorem oe_Bi {r : oe_R} {g : oe_O → oe_C → oe_R} {o : oe_O} {c : oe_C} (h : oe_B r g = some (o, c)) : ∃ o1 c1, r = some (o1, c1) ∧ g o1 c1 = some (o, c) := by
  cases r with
  | none => cases h
  | some x => obtain ⟨o1, c1⟩ := x; exact ⟨o1, c1, rfl, h⟩
section
variable (K : Nat → Nat → Nat) (V : Nat → Nat → Int32) (C : Nat → Nat → Nat → Nat) (L : Nat → Nat)
variable (E : Nat → Nat → Nat → oe_C → oe_R)
section
variable {K V C L E} {f d i : Nat} {c : oe_C}
theorem oe_k0 (h : K f i = 0) : oe_bd K V C L E f d i c = some ((0, V f i, 0), c) := by simp only [oe_bd, h]
theorem oe_k1 (h : K f i = 1) : oe_bd K V C L E f d i c = some ((0, c.1 (V f i).toNatClampNeg, 0), c) := by simp only [oe_bd, h]
theorem oe_k26 (h : K f i = 2 ∨ K f i = 3 ∨ K f i = 4 ∨ K f i = 5 ∨ K f i = 6) : oe_bd K V C L E f d i c = oe_N (E f d (C f i 0) c) (fun x c1 => oe_N (E f d (C f i 1) c1) (fun y c2 => if K f i = 5 ∧ y = 0 then some ((4, 0, x), c2) else some ((0, oe_rk (K f i) x y, 0), c2))) := by
  rcases h with h | h | h | h | h <;> simp only [oe_bd, h]
theorem oe_k7 (h : K f i = 7) : oe_bd K V C L E f d i c = oe_N (E f d (C f i 0) c) (fun x c1 => some ((0, (if x = 0 then 1 else 0), 0), c1)) := by simp only [oe_bd, h]
theorem oe_k8 (h : K f i = 8) : oe_bd K V C L E f d i c = oe_N (E f d (C f i 0) c) (fun x c1 => oe_cal L E (V f i).toNatClampNeg d x c1) := by simp only [oe_bd, h]
theorem oe_k10 (h : K f i = 10) : oe_bd K V C L E f d i c = oe_N (E f d (C f i 0) c) (fun x c1 => some ((0, 0, 0), (upd c1.1 (V f i).toNatClampNeg x, c1.2))) := by simp only [oe_bd, h]
theorem oe_k11 (h : K f i = 11) : oe_bd K V C L E f d i c = oe_N (E f d (C f i 0) c) (fun x c1 => if c1.2.2.1 < 100000 then some ((0, 0, 0), (c1.1, c1.2.1, c1.2.2.1 + 1, (if c1.2.2.1 < 40 then upd c1.2.2.2 c1.2.2.1 x else c1.2.2.2))) else none) := by simp only [oe_bd, h]
theorem oe_k12 (h : K f i = 12) : oe_bd K V C L E f d i c = oe_N (E f d (C f i 0) c) (fun x c1 => if x = 0 then E f d (C f i 2) c1 else E f d (C f i 1) c1) := by simp only [oe_bd, h]
theorem oe_k13 (h : K f i = 13) : oe_bd K V C L E f d i c = oe_whl V C E f d i c := by simp only [oe_bd, h]
theorem oe_k14 (h : K f i = 14) : oe_bd K V C L E f d i c = oe_N (E f d (C f i 0) c) (fun _ c1 => E f d (C f i 1) c1) := by simp only [oe_bd, h]
theorem oe_k15 (h : K f i = 15) : oe_bd K V C L E f d i c = some ((0, 0, 0), c) := by simp only [oe_bd, h]
theorem oe_k16 (h : K f i = 16) : oe_bd K V C L E f d i c = oe_N (E f d (C f i 0) c) (fun x c1 => some ((4, V f i, x), c1)) := by simp only [oe_bd, h]
theorem oe_k17 (h : K f i = 17) : oe_bd K V C L E f d i c = oe_B (oe_prt V C E f d i c) (fun o c1 => oe_fin V C E f d i o c1) := by simp only [oe_bd, h]
theorem oe_k18 (h : K f i = 18) : oe_bd K V C L E f d i c = E f d (C f i 0) c := by simp only [oe_bd, h]
theorem oe_k19 (h : K f i = 19) : oe_bd K V C L E f d i c = some ((1, V f i, 0), c) := by simp only [oe_bd, h]
theorem oe_k20 (h : K f i = 20) : oe_bd K V C L E f d i c = some ((2, V f i, 0), c) := by simp only [oe_bd, h]
theorem oe_k21 (h : K f i = 21) : oe_bd K V C L E f d i c = oe_N (E f d (C f i 0) c) (fun x c1 => some ((3, x, 0), c1)) := by simp only [oe_bd, h]
end
/-- steps and says from one state to a later one, over the tokens from i to j -/
def oe_mv (c c' : oe_C) (i j : Nat) : Prop := c.2.1 ≤ c'.2.1 ∧ c'.2.1 ≤ 300 ∧ c'.2.2.1 + 40 * c.2.1 + i ≤ c.2.2.1 + 40 * c'.2.1 + j
theorem ot_kinds {k : Nat} {v : Int32} (h : ot_ok k v) : k = 0 ∨ k = 1 ∨ (k = 2 ∨ k = 3 ∨ k = 4 ∨ k = 5 ∨ k = 6) ∨ k = 7 ∨ k = 8 ∨ k = 10 ∨ k = 11 ∨ k = 12 ∨ k = 13 ∨ k = 14 ∨ k = 15 ∨ k = 16 ∨ k = 17 ∨ k = 18 ∨ k = 19 ∨ k = 20 ∨ k = 21 := by
  have h1 := h.1
  have h2 := h.2.1
  omega
variable (Q : Nat → Nat → oc_P) (B : Nat → Nat → Nat)
theorem oe_mvs (WT : ∀ g, g < 4 → L g ≠ 0 → ot_WT (K g) (V g) (C g) (Q g) (B g) (L g)) : ∀ n f d i c o c', f < 4 → L f ≠ 0 → i < L f → c.2.1 ≤ 300 → oe_ev K V C L n f d i c = some (o, c') → oe_mv c c' i (B f i) := by
  intro n
  induction n with
  | zero => intro f d i c o c' _ _ _ _ h; cases h
  | succ n ih =>
    intro f d i c o c' hf hL hi hc h
    obtain ⟨hN0, hN, _, _, hB0, W⟩ := WT f hf hL
    obtain ⟨ok, ch, b0, b1, b2⟩ := W i hi
    have IH : ∀ j c o c', j < L f → c.2.1 ≤ 300 → oe_ev K V C L n f d j c = some (o, c') → oe_mv c c' j (B f j) := fun j c o c' h1 h2 h3 => ih f d j c o c' hf hL h1 h2 h3
    simp only [oe_ev] at h
    unfold oe_mv at *
    rcases ot_kinds ok with k | k | k | k | k | k | k | k | k | k | k | k | k | k | k | k | k
    · rw [oe_k0 k] at h; cases h; omega
    · rw [oe_k1 k] at h; cases h; omega
    · rw [oe_k26 k] at h
      have n2 : ot_np (K f i) (V f i) = 2 := by rcases k with k | k | k | k | k <;> rw [k] <;> rfl
      obtain ⟨p1, p2, _, _, p3, p4, _⟩ := ch 0 (by omega)
      obtain ⟨q1, q2, _, _, _, _, q3⟩ := ch 1 (by omega)
      have p3 := p3 rfl
      have p4 := p4 (by omega)
      have q3 := q3 (by omega)
      obtain ⟨o1, c1, e1, h⟩ := oe_Ni h
      have := IH _ _ _ _ p2 hc e1
      rcases h with ⟨_, h⟩ | ⟨_, _, rfl⟩
      · obtain ⟨o2, c2, e2, h⟩ := oe_Ni h
        have := IH _ _ _ _ q2 (by omega) e2
        rcases h with ⟨_, h⟩ | ⟨_, _, rfl⟩
        · split at h <;> cases h <;> (try simp only [Nat.reduceAdd] at *) <;> omega
        · (try simp only [Nat.reduceAdd] at *); omega
      · have := (W _ q2).2.2.2.1; (try simp only [Nat.reduceAdd] at *); omega
    · rw [oe_k7 k] at h
      have n2 : ot_np (K f i) (V f i) = 1 := by rw [k]; rfl
      obtain ⟨p1, p2, _, _, p3, _, p4⟩ := ch 0 (by omega)
      have p3 := p3 rfl
      have p4 := p4 (by omega)
      obtain ⟨o1, c1, e1, h⟩ := oe_Ni h
      have := IH _ _ _ _ p2 hc e1
      rcases h with ⟨_, h⟩ | ⟨_, _, rfl⟩
      · cases h; omega
      · omega
    · rw [oe_k8 k] at h
      have n2 : ot_np (K f i) (V f i) = 1 := by rw [k]; rfl
      obtain ⟨p1, p2, _, _, p3, _, p4⟩ := ch 0 (by omega)
      have p3 := p3 rfl
      have p4 := p4 (by omega)
      obtain ⟨o1, c1, e1, h⟩ := oe_Ni h
      have := IH _ _ _ _ p2 hc e1
      rcases h with ⟨_, h⟩ | ⟨_, _, rfl⟩
      · obtain ⟨g, hg, hv⟩ := ok.2.2.2.1 (Or.inl k)
        rw [hv, nI_clamp (by omega)] at h
        unfold oe_cal at h
        split at h
        · cases h; (try dsimp only at *); omega
        · rename_i hL2
          split at h
          · cases h; (try dsimp only at *); omega
          · split at h
            · cases h; (try dsimp only at *); omega
            · obtain ⟨o2, c2, e2, h⟩ := oe_Bi h
              obtain ⟨hg0, hg1, _, _, hg2, _⟩ := WT g hg hL2
              have := ih g _ 0 _ _ _ hg hL2 hg0 (by dsimp only; omega) e2
              cases h
              (try dsimp only at *); omega
      · omega
    · rw [oe_k10 k] at h
      have n2 : ot_np (K f i) (V f i) = 1 := by rw [k]; rfl
      obtain ⟨p1, p2, _, _, p3, _, p4⟩ := ch 0 (by omega)
      have p3 := p3 rfl
      have p4 := p4 (by omega)
      obtain ⟨o1, c1, e1, h⟩ := oe_Ni h
      have := IH _ _ _ _ p2 hc e1
      rcases h with ⟨_, h⟩ | ⟨_, _, rfl⟩
      · cases h; (try dsimp only at *); omega
      · omega
    · rw [oe_k11 k] at h
      have n2 : ot_np (K f i) (V f i) = 1 := by rw [k]; rfl
      obtain ⟨p1, p2, _, _, p3, _, p4⟩ := ch 0 (by omega)
      have p3 := p3 rfl
      have p4 := p4 (by omega)
      obtain ⟨o1, c1, e1, h⟩ := oe_Ni h
      have := IH _ _ _ _ p2 hc e1
      rcases h with ⟨_, h⟩ | ⟨_, _, rfl⟩
      · split at h
        · cases h; (try dsimp only at *); omega
        · cases h
      · omega
    · rw [oe_k12 k] at h
      have n2 : ot_np (K f i) (V f i) = 3 := by rw [k]; rfl
      obtain ⟨p1, p2, _, _, p3, p4, _⟩ := ch 0 (by omega)
      obtain ⟨q1, q2, _, _, _, q4, _⟩ := ch 1 (by omega)
      obtain ⟨r1, r2, _, _, _, _, r4⟩ := ch 2 (by omega)
      have p3 := p3 rfl
      have p4 := p4 (by omega)
      have q4 := q4 (by omega)
      have r4 := r4 (by omega)
      have u1 := (W _ q2).2.2.2.1
      have u2 := (W _ r2).2.2.2.1
      obtain ⟨o1, c1, e1, h⟩ := oe_Ni h
      have := IH _ _ _ _ p2 hc e1
      rcases h with ⟨_, h⟩ | ⟨_, _, rfl⟩
      · split at h
        · have := IH _ _ _ _ r2 (by omega) h; (try simp only [Nat.reduceAdd] at *); omega
        · have := IH _ _ _ _ q2 (by omega) h; (try simp only [Nat.reduceAdd] at *); omega
      · (try simp only [Nat.reduceAdd] at *); omega
    · rw [oe_k13 k] at h
      have n2 : ot_np (K f i) (V f i) = 2 := by rw [k]; rfl
      obtain ⟨p1, p2, _, _, p3, p4, _⟩ := ch 0 (by omega)
      obtain ⟨q1, q2, _, _, _, _, q3⟩ := ch 1 (by omega)
      have p3 := p3 rfl
      have p4 := p4 (by omega)
      have q3 := q3 (by omega)
      have u1 := (W _ q2).2.2.2.1
      simp only [Nat.reduceAdd] at p4
      unfold oe_whl at h
      split at h
      · cases h; omega
      · rename_i hs
        obtain ⟨o1, c1, e1, h⟩ := oe_Ni h
        have := IH _ _ _ _ p2 (by dsimp only; omega) e1
        dsimp only at this
        rcases h with ⟨_, h⟩ | ⟨_, _, rfl⟩
        · split at h
          · cases h; omega
          · obtain ⟨o2, c2, e2, h⟩ := oe_Bi h
            have := IH _ _ _ _ q2 (by omega) e2
            split at h
            · have := IH _ _ _ _ hi (by omega) h; omega
            · split at h <;> cases h <;> omega
        · omega
    · rw [oe_k14 k] at h
      have n2 : ot_np (K f i) (V f i) = 2 := by rw [k]; rfl
      obtain ⟨p1, p2, _, _, p3, p4, _⟩ := ch 0 (by omega)
      obtain ⟨q1, q2, _, _, _, _, q3⟩ := ch 1 (by omega)
      have p3 := p3 rfl
      have p4 := p4 (by omega)
      have q3 := q3 (by omega)
      have u1 := (W _ q2).2.2.2.1
      simp only [Nat.reduceAdd] at p4
      obtain ⟨o1, c1, e1, h⟩ := oe_Ni h
      have := IH _ _ _ _ p2 hc e1
      rcases h with ⟨_, h⟩ | ⟨_, _, rfl⟩
      · have := IH _ _ _ _ q2 (by omega) h; omega
      · omega
    · rw [oe_k15 k] at h; cases h; omega
    · rw [oe_k16 k] at h
      have n2 : ot_np (K f i) (V f i) = 1 := by rw [k]; rfl
      obtain ⟨p1, p2, _, _, p3, _, p4⟩ := ch 0 (by omega)
      have p3 := p3 rfl
      have p4 := p4 (by omega)
      obtain ⟨o1, c1, e1, h⟩ := oe_Ni h
      have := IH _ _ _ _ p2 hc e1
      rcases h with ⟨_, h⟩ | ⟨_, _, rfl⟩
      · cases h; omega
      · omega
    · rw [oe_k17 k] at h
      obtain ⟨o1, c1, e1, h⟩ := oe_Bi h
      have np : ot_np (K f i) (V f i) = 1 + ot_nc (V f i) + (if ot_cl (V f i) = true then 1 else 0) := by rw [k]; rfl
      obtain ⟨p1, p2, _, _, p3, p4, p5⟩ := ch 0 (by omega)
      have p3 := p3 rfl
      simp only [Nat.reduceAdd] at p4 p5
      have nc2 := ot_nc_le (V f i)
      -- the protected part moves at most to the end of part nc
      have P : oe_mv c c1 i (if ot_cl (V f i) = true then C f i (1 + ot_nc (V f i)) else B f i) := by
        have E : ∀ o, o ≤ ot_nc (V f i) → B f (C f i o) ≤ (if ot_cl (V f i) = true then C f i (1 + ot_nc (V f i)) else B f i) := by
          intro o ho
          have key : ∀ s o, o + s = ot_nc (V f i) → B f (C f i o) ≤ (if ot_cl (V f i) = true then C f i (1 + ot_nc (V f i)) else B f i) := by
            intro s
            induction s with
            | zero =>
              intro o ho
              obtain ⟨_, _, _, _, _, r1, r2⟩ := ch o (by omega)
              by_cases hc : ot_cl (V f i) = true
              · rw [if_pos hc] at np ⊢
                rw [← r1 (by omega), ← ho]; rw [show o + 0 = o from rfl, Nat.add_comm 1 o]; exact Nat.le_refl _
              · rw [if_neg hc] at np ⊢
                rw [← r2 (by omega)]; exact Nat.le_refl _
            | succ s ih2 =>
              intro o ho
              have := ih2 (o + 1) (by omega)
              obtain ⟨_, _, _, _, _, r1, r2⟩ := ch o (by omega)
              obtain ⟨_, r3, _⟩ := ch (o + 1) (by omega)
              have r1 := r1 (by omega)
              have := (W _ r3).2.2.2.1
              omega
          exact key (ot_nc (V f i) - o) o (by omega)
        have S : ∀ o, o ≤ ot_nc (V f i) → i < C f i o ∧ C f i o < L f ∧ (0 < o → B f (C f i 0) ≤ C f i o) := by
          intro o ho
          obtain ⟨s1, s2, _⟩ := ch o (by omega)
          refine ⟨s1, s2, fun h0 => ?_⟩
          rcases (by omega : o = 1 ∨ o = 2) with e | e
          · subst e; rw [p4 (by omega)]; exact Nat.le_refl _
          · subst e
            obtain ⟨_, t2, _, _, _, t4, _⟩ := ch 1 (by omega)
            have t4 := t4 (by omega)
            have := p4 (by omega)
            have := (W _ t2).2.2.2.1
            simp only [Nat.reduceAdd] at t4
            omega
        unfold oe_prt at e1
        obtain ⟨o2, c2, e2, e1⟩ := oe_Bi e1
        have m0 := IH _ _ _ _ p2 hc e2
        have E0 := E 0 (by omega)
        unfold oe_mv at *
        split at e1
        · split at e1
          · rename_i g
            obtain ⟨s1, s2, s3⟩ := S 1 (by omega)
            have := IH _ _ _ _ s2 (by dsimp only; omega) e1
            have := E 1 (by omega)
            have := s3 (by omega)
            (try dsimp only at *); omega
          · split at e1
            · rename_i g
              obtain ⟨s1, s2, s3⟩ := S 2 (by omega)
              have := IH _ _ _ _ s2 (by dsimp only; omega) e1
              have := E 2 (by omega)
              have := s3 (by omega)
              (try dsimp only at *); omega
            · cases e1; omega
        · cases e1; omega
      unfold oe_mv at *
      have FB : ot_cl (V f i) = true → C f i (1 + ot_nc (V f i)) < L f ∧ B f i = B f (C f i (1 + ot_nc (V f i))) ∧ C f i (1 + ot_nc (V f i)) < B f i := by
        intro hc
        rw [if_pos hc] at np
        obtain ⟨_, r2, _, _, _, _, r5⟩ := ch (1 + ot_nc (V f i)) (by omega)
        have r5 := r5 (by omega)
        have := (W _ r2).2.2.2.1
        omega
      unfold oe_fin at h
      split at h
      · cases h
        split at P
        · rename_i hc; have := FB hc; omega
        · omega
      · rename_i h5
        have hc : ot_cl (V f i) = true := by
          cases hx : ot_cl (V f i) with
          | true => rfl
          | false => exact absurd (Or.inr hx) h5
        rw [if_pos hc] at P
        have := FB hc
        obtain ⟨o3, c3, e3, h⟩ := oe_Bi h
        have := IH _ _ _ _ this.1 (by omega) e3
        split at h <;> cases h <;> omega
    · rw [oe_k18 k] at h
      have n2 : ot_np (K f i) (V f i) = 1 := by rw [k]; rfl
      obtain ⟨p1, p2, _, _, p3, _, p4⟩ := ch 0 (by omega)
      have p3 := p3 rfl
      have p4 := p4 (by omega)
      have := IH _ _ _ _ p2 hc h
      omega
    · rw [oe_k19 k] at h; cases h; omega
    · rw [oe_k20 k] at h; cases h; omega
    · rw [oe_k21 k] at h
      have n2 : ot_np (K f i) (V f i) = 1 := by rw [k]; rfl
      obtain ⟨p1, p2, _, _, p3, _, p4⟩ := ch 0 (by omega)
      have p3 := p3 rfl
      have p4 := p4 (by omega)
      obtain ⟨o1, c1, e1, h⟩ := oe_Ni h
      have := IH _ _ _ _ p2 hc e1
      rcases h with ⟨_, h⟩ | ⟨_, _, rfl⟩
      · cases h; omega
      · omega
end
end
section
/-! ===== the evaluator comes to an end ===== -/
def oe_dn (r : oe_R) : Prop := ∃ o c, r = some (o, c)
theorem oe_dnN {r : oe_R} {g : Int32 → oe_C → oe_R} (h : oe_dn r) (k : ∀ o c, r = some (o, c) → o.1 = 0 → oe_dn (g o.2.1 c)) : oe_dn (oe_N r g) := by
  obtain ⟨o, c, e⟩ := h
  subst e
  simp only [oe_N]
  by_cases h0 : o.1 = 0
  · rw [if_pos h0]; exact k o c rfl h0
  · rw [if_neg h0]; exact ⟨o, c, rfl⟩
theorem oe_dnB {r : oe_R} {g : oe_O → oe_C → oe_R} (h : oe_dn r) (k : ∀ o c, r = some (o, c) → oe_dn (g o c)) : oe_dn (oe_B r g) := by
  obtain ⟨o, c, e⟩ := h
  subst e
  exact k o c rfl
theorem oe_dns (o : oe_O) (c : oe_C) : oe_dn (some (o, c)) := ⟨o, c, rfl⟩
section
variable (K : Nat → Nat → Nat) (V : Nat → Nat → Int32) (C : Nat → Nat → Nat → Nat) (L : Nat → Nat) (Q : Nat → Nat → oc_P) (B : Nat → Nat → Nat)
theorem oe_trm (WT : ∀ g, g < 4 → L g ≠ 0 → ot_WT (K g) (V g) (C g) (Q g) (B g) (L g)) : ∀ n f d i c, f < 4 → L f ≠ 0 → i < L f → c.2.1 ≤ 300 → d ≤ 12 → c.2.2.1 ≤ 40 * c.2.1 + 40 * d + i → 41 * (300 - c.2.1) + 40 < n + i → oe_dn (oe_ev K V C L n f d i c) := by
  intro n
  induction n with
  | zero =>
    intro f d i c hf hL hi _ _ _ h
    have := (WT f hf hL).2.1
    omega
  | succ n ih =>
    intro f d i c hf hL hi hc hd hy h
    have MV := oe_mvs K V C L Q B WT n
    obtain ⟨hN0, hN, _, _, hB0, W⟩ := WT f hf hL
    obtain ⟨ok, ch, b0, b1, b2⟩ := W i hi
    have IH : ∀ j c', i < j → j < L f → c.2.1 ≤ c'.2.1 → c'.2.1 ≤ 300 → c'.2.2.1 ≤ 40 * c'.2.1 + 40 * d + j → oe_dn (oe_ev K V C L n f d j c') := fun j c' h1 h2 h3 h4 h5 => ih f d j c' hf hL h2 h4 hd h5 (by omega)
    have MVc : ∀ j c o c', j < L f → c.2.1 ≤ 300 → oe_ev K V C L n f d j c = some (o, c') → c.2.1 ≤ c'.2.1 ∧ c'.2.1 ≤ 300 ∧ c'.2.2.1 + 40 * c.2.1 + j ≤ c.2.2.1 + 40 * c'.2.1 + B f j := fun j c o c' h1 h2 h3 => MV f d j c o c' hf hL h1 h2 h3
    simp only [oe_ev]
    have first : 0 < ot_np (K f i) (V f i) → oe_dn (oe_ev K V C L n f d (C f i 0) c) ∧ ∀ o c', oe_ev K V C L n f d (C f i 0) c = some (o, c') → c.2.1 ≤ c'.2.1 ∧ c'.2.1 ≤ 300 ∧ c'.2.2.1 ≤ 40 * c'.2.1 + 40 * d + B f (C f i 0) := by
      intro hp
      obtain ⟨p1, p2, _⟩ := ch 0 hp
      refine ⟨IH _ _ p1 p2 (Nat.le_refl _) hc (by omega), fun o c' e => ?_⟩
      have := MVc _ _ _ _ p2 hc e
      omega
    rcases ot_kinds ok with k | k | k | k | k | k | k | k | k | k | k | k | k | k | k | k | k
    · rw [oe_k0 k]; exact oe_dns _ _
    · rw [oe_k1 k]; exact oe_dns _ _
    · rw [oe_k26 k]
      have n2 : ot_np (K f i) (V f i) = 2 := by rcases k with k | k | k | k | k <;> rw [k] <;> rfl
      obtain ⟨f1, f2⟩ := first (by omega)
      obtain ⟨_, _, _, _, _, p4, _⟩ := ch 0 (by omega)
      obtain ⟨q1, q2, _⟩ := ch 1 (by omega)
      have p4 := p4 (by omega)
      simp only [Nat.reduceAdd] at p4
      refine oe_dnN f1 (fun o1 c1 e1 _ => ?_)
      have := f2 _ _ e1
      refine oe_dnN (IH _ _ q1 q2 (by omega) (by omega) (by omega)) (fun o2 c2 e2 _ => ?_)
      split <;> exact oe_dns _ _
    · rw [oe_k7 k]
      have n2 : ot_np (K f i) (V f i) = 1 := by rw [k]; rfl
      obtain ⟨f1, f2⟩ := first (by omega)
      exact oe_dnN f1 (fun o1 c1 e1 _ => oe_dns _ _)
    · rw [oe_k8 k]
      have n2 : ot_np (K f i) (V f i) = 1 := by rw [k]; rfl
      obtain ⟨f1, f2⟩ := first (by omega)
      obtain ⟨p1, p2, _⟩ := ch 0 (by omega)
      have b3 := (W _ p2).2.2.2.2
      refine oe_dnN f1 (fun o1 c1 e1 _ => ?_)
      have := f2 _ _ e1
      obtain ⟨g, hg, hv⟩ := ok.2.2.2.1 (Or.inl k)
      rw [hv, nI_clamp (by omega)]
      unfold oe_cal
      split
      · exact oe_dns _ _
      · rename_i hL2
        split
        · exact oe_dns _ _
        · split
          · exact oe_dns _ _
          · refine oe_dnB ?_ (fun _ _ _ => oe_dns _ _)
            have hg0 := (WT g hg hL2).1
            refine ih g (d + 1) 0 _ hg hL2 hg0 (by dsimp only; omega) (by omega) (by dsimp only; omega) (by dsimp only; omega)
    · rw [oe_k10 k]
      have n2 : ot_np (K f i) (V f i) = 1 := by rw [k]; rfl
      obtain ⟨f1, f2⟩ := first (by omega)
      exact oe_dnN f1 (fun o1 c1 e1 _ => oe_dns _ _)
    · rw [oe_k11 k]
      have n2 : ot_np (K f i) (V f i) = 1 := by rw [k]; rfl
      obtain ⟨f1, f2⟩ := first (by omega)
      obtain ⟨p1, p2, _⟩ := ch 0 (by omega)
      have b3 := (W _ p2).2.2.2.2
      refine oe_dnN f1 (fun o1 c1 e1 _ => ?_)
      have := f2 _ _ e1
      rw [if_pos (by omega)]
      exact oe_dns _ _
    · rw [oe_k12 k]
      have n2 : ot_np (K f i) (V f i) = 3 := by rw [k]; rfl
      obtain ⟨f1, f2⟩ := first (by omega)
      obtain ⟨_, _, _, _, _, p4, _⟩ := ch 0 (by omega)
      obtain ⟨q1, q2, _, _, _, q4, _⟩ := ch 1 (by omega)
      obtain ⟨r1, r2, _⟩ := ch 2 (by omega)
      have p4 := p4 (by omega)
      have q4 := q4 (by omega)
      have u1 := (W _ q2).2.2.2.1
      simp only [Nat.reduceAdd] at p4 q4
      refine oe_dnN f1 (fun o1 c1 e1 _ => ?_)
      have := f2 _ _ e1
      split
      · exact IH _ _ r1 r2 (by omega) (by omega) (by omega)
      · exact IH _ _ q1 q2 (by omega) (by omega) (by omega)
    · rw [oe_k13 k]
      have n2 : ot_np (K f i) (V f i) = 2 := by rw [k]; rfl
      obtain ⟨p1, p2, _, _, p3, p4, _⟩ := ch 0 (by omega)
      obtain ⟨q1, q2, _, _, _, _, q3⟩ := ch 1 (by omega)
      have p3 := p3 rfl
      have p4 := p4 (by omega)
      have q3 := q3 (by omega)
      have u1 := (W _ q2).2.2.2.1
      simp only [Nat.reduceAdd] at p4
      unfold oe_whl
      split
      · exact oe_dns _ _
      · refine oe_dnN (IH _ _ p1 p2 (by dsimp only; omega) (by dsimp only; omega) (by dsimp only; omega)) (fun o1 c1 e1 _ => ?_)
        have m1 := MVc _ _ _ _ p2 (by dsimp only; omega) e1
        dsimp only at m1
        split
        · exact oe_dns _ _
        · refine oe_dnB (IH _ _ q1 q2 (by omega) (by omega) (by omega)) (fun o2 c2 e2 => ?_)
          have m2 := MVc _ _ _ _ q2 (by omega) e2
          split
          · exact ih f d i c2 hf hL hi (by omega) hd (by omega) (by omega)
          · split <;> exact oe_dns _ _
    · rw [oe_k14 k]
      have n2 : ot_np (K f i) (V f i) = 2 := by rw [k]; rfl
      obtain ⟨f1, f2⟩ := first (by omega)
      obtain ⟨_, _, _, _, _, p4, _⟩ := ch 0 (by omega)
      obtain ⟨q1, q2, _⟩ := ch 1 (by omega)
      have p4 := p4 (by omega)
      simp only [Nat.reduceAdd] at p4
      refine oe_dnN f1 (fun o1 c1 e1 _ => ?_)
      have := f2 _ _ e1
      exact IH _ _ q1 q2 (by omega) (by omega) (by omega)
    · rw [oe_k15 k]; exact oe_dns _ _
    · rw [oe_k16 k]
      have n2 : ot_np (K f i) (V f i) = 1 := by rw [k]; rfl
      obtain ⟨f1, f2⟩ := first (by omega)
      exact oe_dnN f1 (fun o1 c1 e1 _ => oe_dns _ _)
    · rw [oe_k17 k]
      have np : ot_np (K f i) (V f i) = 1 + ot_nc (V f i) + (if ot_cl (V f i) = true then 1 else 0) := by rw [k]; rfl
      obtain ⟨f1, f2⟩ := first (by omega)
      obtain ⟨_, _, _, _, _, p4, _⟩ := ch 0 (by omega)
      simp only [Nat.reduceAdd] at p4
      have nc2 := ot_nc_le (V f i)
      -- part o begins at or behind the end of each earlier part
      have S : ∀ s o, o + 1 + s < ot_np (K f i) (V f i) → B f (C f i o) ≤ C f i (o + 1 + s) := by
        intro s
        induction s with
        | zero =>
          intro o ho
          obtain ⟨_, _, _, _, _, t4, _⟩ := ch o (by omega)
          rw [← t4 (by omega)]; exact Nat.le_refl _
        | succ s ih2 =>
          intro o ho
          have := ih2 o (by omega)
          obtain ⟨_, t2, _, _, _, t4, _⟩ := ch (o + 1 + s) (by omega)
          have t4 := t4 (by omega)
          have := (W _ t2).2.2.2.1
          show B f (C f i o) ≤ C f i (o + 1 + s + 1)
          omega
      -- each outcome of the protected part: its state lies before some part's end
      have P : oe_dn (oe_prt V C (fun f d i c => oe_ev K V C L n f d i c) f d i c) ∧ ∀ o1 c1, oe_prt V C (fun f d i c => oe_ev K V C L n f d i c) f d i c = some (o1, c1) → c.2.1 ≤ c1.2.1 ∧ c1.2.1 ≤ 300 ∧ ∃ o, o ≤ ot_nc (V f i) ∧ c1.2.2.1 ≤ 40 * c1.2.1 + 40 * d + B f (C f i o) := by
        have CT : ∀ o o2 c2, 0 < o → o ≤ ot_nc (V f i) → oe_ev K V C L n f d (C f i 0) c = some (o2, c2) → ∀ w, oe_dn (oe_cat V (fun f d i c => oe_ev K V C L n f d i c) f d (C f i o) w c2) ∧ ∀ o1 c1, oe_cat V (fun f d i c => oe_ev K V C L n f d i c) f d (C f i o) w c2 = some (o1, c1) → c.2.1 ≤ c1.2.1 ∧ c1.2.1 ≤ 300 ∧ c1.2.2.1 ≤ 40 * c1.2.1 + 40 * d + B f (C f i o) := by
          intro o o2 c2 h0 h1 e2 w
          have m0 := f2 _ _ e2
          obtain ⟨q1, q2, _⟩ := ch o (by omega)
          have s := S (o - 1) 0 (by omega)
          rw [show 0 + 1 + (o - 1) = o by omega] at s
          refine ⟨IH _ _ q1 q2 (by dsimp only; omega) (by dsimp only; omega) (by dsimp only; omega), fun o1 c1 e => ?_⟩
          have := MVc _ _ _ _ q2 (by dsimp only; omega) e
          dsimp only at this
          omega
        constructor
        · refine oe_dnB f1 (fun o2 c2 e2 => ?_)
          split
          · split
            · rename_i g; exact (CT 1 o2 c2 (by omega) g.1 e2 _).1
            · split
              · rename_i g; exact (CT 2 o2 c2 (by omega) g.1 e2 _).1
              · exact oe_dns _ _
          · exact oe_dns _ _
        · intro o1 c1 e1
          obtain ⟨o2, c2, e2, e1⟩ := oe_Bi e1
          have m0 := f2 _ _ e2
          split at e1
          · split at e1
            · rename_i g
              obtain ⟨a1, a2, a3⟩ := (CT 1 o2 c2 (by omega) g.1 e2 _).2 _ _ e1
              exact ⟨a1, a2, 1, g.1, a3⟩
            · split at e1
              · rename_i g
                obtain ⟨a1, a2, a3⟩ := (CT 2 o2 c2 (by omega) g.1 e2 _).2 _ _ e1
                exact ⟨a1, a2, 2, g.1, a3⟩
              · cases e1; exact ⟨m0.1, m0.2.1, 0, by omega, m0.2.2⟩
          · cases e1; exact ⟨m0.1, m0.2.1, 0, by omega, m0.2.2⟩
      refine oe_dnB P.1 (fun o1 c1 e1 => ?_)
      obtain ⟨a1, a2, o, ho, a3⟩ := P.2 _ _ e1
      unfold oe_fin
      split
      · exact oe_dns _ _
      · rename_i h5
        have hc : ot_cl (V f i) = true := by
          cases hx : ot_cl (V f i) with
          | true => rfl
          | false => exact absurd (Or.inr hx) h5
        rw [if_pos hc] at np
        obtain ⟨q1, q2, _⟩ := ch (1 + ot_nc (V f i)) (by omega)
        have s := S (ot_nc (V f i) - o) o (by omega)
        rw [show o + 1 + (ot_nc (V f i) - o) = 1 + ot_nc (V f i) by omega] at s
        refine oe_dnB (IH _ _ q1 q2 (by omega) (by omega) (by omega)) (fun o3 c3 _ => ?_)
        split <;> exact oe_dns _ _
    · rw [oe_k18 k]
      have n2 : ot_np (K f i) (V f i) = 1 := by rw [k]; rfl
      exact (first (by omega)).1
    · rw [oe_k19 k]; exact oe_dns _ _
    · rw [oe_k20 k]; exact oe_dns _ _
    · rw [oe_k21 k]
      have n2 : ot_np (K f i) (V f i) = 1 := by rw [k]; rfl
      obtain ⟨f1, f2⟩ := first (by omega)
      exact oe_dnN f1 (fun o1 c1 e1 _ => oe_dns _ _)
end
end
section
/-! ===== X runs the code: what is asked of each outcome ===== -/
/-- the words of a frame behind a token: variables as vr says, other words as before but for w0 .. w1 -/
def ox_lwc (lw lw' vr : Nat → Int32) (w0 w1 : Nat) : Prop := (∀ u, u < 6 → lw' u = vr u) ∧ ∀ u, 6 ≤ u → u < 80 → (u < w0 ∨ w1 ≤ u) → lw' u = lw u
def ox_K (post : Int32 → SX → Prop) (z : SX) (K : Nat → Nat) (V : Nat → Int32) (f : Nat) (b : Int32) (cs : List ox_F) (hd : Option Nat) (cx : oc_X) (w0 w1 en : Nat) (os : List Int32) (ex : Bool) (lw : Nat → Int32) (o : oe_O) (c : oe_C) : Prop :=
  (o.1 = 0 → ∀ lw' kd vl, ox_lwc lw lw' c.1 w0 w1 → ox_A post z (520 * f + en) ((f, b, lw', (if ex = true then o.2.1 :: os else os)) :: cs) c.2.1 c.2.2.1 kd vl c.2.2.2) ∧
  ((o.1 = 1 ∨ o.1 = 2) → oc_cj K V o.2.1 (cx.map Prod.fst) ≠ none → ∀ lw' kd vl pc, ox_lwc lw lw' c.1 w0 w1 → oc_A3 z f pc (oc_jp K V o.2.1 o.1 pc cx) → ox_A post z (520 * f + pc) ((f, b, lw', []) :: cs) c.2.1 c.2.2.1 kd vl c.2.2.2) ∧
  (o.1 = 3 → oc_cr K V (cx.map Prod.fst) = 0 → ∀ lw' kd vl pc, ox_lwc lw lw' c.1 w0 w1 → oc_A3 z f pc [(21, 0, 0, 0)] → ox_A post z (520 * f + pc) ((f, b, lw', [o.2.1]) :: cs) c.2.1 c.2.2.1 kd vl c.2.2.2) ∧
  (o.1 = 3 → oc_cr K V (cx.map Prod.fst) ≠ 0 → ∀ lw' kd vl pc own, ox_lwc lw lw' c.1 w0 w1 → oc_A3 z f pc (oc_rt K V own pc cx) → lw' own = o.2.1 → w0 ≤ own → own < w1 → ox_A post z (520 * f + pc) ((f, b, lw', []) :: cs) c.2.1 c.2.2.1 kd vl c.2.2.2) ∧
  (o.1 = 4 → (∃ q : Nat, q < 4 ∧ o.2.1 = nI q) → ∀ lw', ox_lwc lw lw' c.1 w0 w1 → ∀ h, hd = some h → ox_A post z (520 * f + h) ((f, b, lw', []) :: cs) c.2.1 c.2.2.1 o.2.1 o.2.2 c.2.2.2) ∧
  (o.1 = 4 → (∃ q : Nat, q < 4 ∧ o.2.1 = nI q) → hd = none → ox_Z post z o.2.1 o.2.2 (b - 1) cs c.2.1 c.2.2.1 c.2.2.2) ∧
  (o.1 = 5 → ox_V post z c.2.1 c.2.2.1 c.2.2.2)
theorem ox_lwc_tr {lw lw1 lw2 vr : Nat → Int32} {w0 w1 a0 a1 : Nat} (h : ∀ u, 6 ≤ u → u < 80 → (u < w0 ∨ w1 ≤ u) → lw1 u = lw u) (ha : w0 ≤ a0) (hb : a1 ≤ w1) (h2 : ox_lwc lw1 lw2 vr a0 a1) : ox_lwc lw lw2 vr w0 w1 :=
  ⟨h2.1, fun u h6 h8 hu => (h2.2 u h6 h8 (by omega)).trans (h u h6 h8 hu)⟩
section
variable {post : Int32 → SX → Prop} {z : SX} {K : Nat → Nat} {V : Nat → Int32} {f : Nat} {b : Int32} {cs : List ox_F} {hd : Option Nat} {cx : oc_X} {w0 w1 en : Nat} {os : List Int32} {ex : Bool} {lw : Nat → Int32} {o : oe_O} {c : oe_C}
/-- a part whose frame is neither crossed nor a target: what isn't normal goes through -/
theorem ox_Kp {t op : Nat} {fx : Nat × Nat × Nat × Nat} {a0 a1 en' : Nat} {os' : List Int32} {ex' : Bool} {lw1 : Nat → Int32} (KK : o.1 ≠ 0 → ox_K post z K V f b cs hd cx w0 w1 en os ex lw o c)
    (h : ∀ u, 6 ≤ u → u < 80 → (u < w0 ∨ w1 ≤ u) → lw1 u = lw u) (ha : w0 ≤ a0) (hb : a1 ≤ w1) (hc : oc_cln K V t op = false) (ht : (o.1 = 1 ∨ o.1 = 2) → oc_tgt K V o.2.1 t op = false)
    (N : o.1 = 0 → ∀ lw' kd vl, ox_lwc lw1 lw' c.1 a0 a1 → ox_A post z (520 * f + en') ((f, b, lw', (if ex' = true then o.2.1 :: os' else os')) :: cs) c.2.1 c.2.2.1 kd vl c.2.2.2) :
    ox_K post z K V f b cs hd (((t, op), fx) :: cx) a0 a1 en' os' ex' lw1 o c := by
  have hcr : oc_cr K V ((((t, op), fx) :: cx).map Prod.fst) = oc_cr K V (cx.map Prod.fst) := by
    simp only [List.map_cons, oc_cr, hc]; simp
  refine ⟨N, ?_, ?_, ?_, ?_, ?_, ?_⟩
  · intro h1 h2 lw' kd vl pc h3 h4
    have ht := ht h1
    refine (KK (by omega)).2.1 h1 ?_ lw' kd vl pc (ox_lwc_tr h ha hb h3) ?_
    · intro e; apply h2
      simp only [List.map_cons, oc_cj, ht, e]; rfl
    · simp only [oc_jp, ht, hc] at h4; simpa using h4
  · intro h1 h2 lw' kd vl pc h3 h4
    exact (KK (by omega)).2.2.1 h1 (hcr ▸ h2) lw' kd vl pc (ox_lwc_tr h ha hb h3) h4
  · intro h1 h2 lw' kd vl pc own h3 h4 h5 h6 h7
    refine (KK (by omega)).2.2.2.1 h1 (hcr ▸ h2) lw' kd vl pc own (ox_lwc_tr h ha hb h3) ?_ h5 (by omega) (by omega)
    simp only [oc_rt, hc] at h4; simpa using h4
  · intro h1 h2 lw' h3 g e
    exact (KK (by omega)).2.2.2.2.1 h1 h2 lw' (ox_lwc_tr h ha hb h3) g e
  · intro h1 h2 e
    exact (KK (by omega)).2.2.2.2.2.1 h1 h2 e
  · intro h1
    exact (KK (by omega)).2.2.2.2.2.2 h1
theorem ox_Klw {lw1 : Nat → Int32} (h : ∀ u, 6 ≤ u → u < 80 → (u < w0 ∨ w1 ≤ u) → lw1 u = lw u) (KK : ox_K post z K V f b cs hd cx w0 w1 en os ex lw o c) : ox_K post z K V f b cs hd cx w0 w1 en os ex lw1 o c := by
  have T : ∀ {lw' : Nat → Int32} {vr : Nat → Int32}, ox_lwc lw1 lw' vr w0 w1 → ox_lwc lw lw' vr w0 w1 := fun h3 => ox_lwc_tr h (Nat.le_refl _) (Nat.le_refl _) h3
  exact ⟨fun h1 lw' kd vl h3 => KK.1 h1 lw' kd vl (T h3), fun h1 h2 lw' kd vl pc h3 h4 => KK.2.1 h1 h2 lw' kd vl pc (T h3) h4, fun h1 h2 lw' kd vl pc h3 h4 => KK.2.2.1 h1 h2 lw' kd vl pc (T h3) h4, fun h1 h2 lw' kd vl pc own h3 h4 h5 h6 h7 => KK.2.2.2.1 h1 h2 lw' kd vl pc own (T h3) h4 h5 h6 h7, fun h1 h2 lw' h3 g e => KK.2.2.2.2.1 h1 h2 lw' (T h3) g e, KK.2.2.2.2.2.1, KK.2.2.2.2.2.2⟩
end
section
variable (post : Int32 → SX → Prop) (z : SX) (K : Nat → Nat → Nat) (V : Nat → Nat → Int32) (C : Nat → Nat → Nat → Nat) (L : Nat → Nat) (Q : Nat → Nat → oc_P) (B : Nat → Nat → Nat)
/-- the program that X holds -/
def ox_PR (g : Nat) : Prop :=
  (oa_there z g = 0 ↔ L g = 0) ∧ (L g ≠ 0 → ot_WT (K g) (V g) (C g) (Q g) (B g) (L g) ∧ ot_BD (K g) (V g) (Q g) (L g) ∧
    oc_A3 z g 0 (oc_cod (K g) (V g) (C g) 40 0 0 6 [] ++ [(0, 0, 0, 0), (21, 0, 0, 0)]) ∧ 6 + oc_wn (K g) (V g) (C g) 40 0 [] ≤ 80 ∧ ox_TB z g (oc_en (K g) (V g) (C g) 40 0 0 []))
/-- token i of body f and its code -/
def ox_H (f i m a w : Nat) (cx : oc_X) (hd : Option Nat) : Prop :=
  i < L f ∧ L f ≤ i + m ∧ Q f i = cx.map Prod.fst ∧ oc_A3 z f a (oc_cod (K f) (V f) (C f) m i a w cx) ∧ 6 ≤ w ∧ w + oc_wn (K f) (V f) (C f) m i (cx.map Prod.fst) ≤ 80 ∧
  (∀ x, a ≤ x → x < a + oc_ln (K f) (V f) (C f) m i (cx.map Prod.fst) → oc_fd (oc_en (K f) (V f) (C f) 40 0 0 []) x = oc_or (oc_fd (oc_en (K f) (V f) (C f) m i a (cx.map Prod.fst)) x) hd)
/-- with fuel n the evaluator's outcome is X's -/
def ox_S (n : Nat) : Prop :=
  ∀ (f i : Nat) (c : oe_C) (o : oe_O) (c' : oe_C) (b : Int32) (cs : List ox_F), f < 4 → L f ≠ 0 → c.2.1 ≤ 300 → cs.length < 12 → ox_tot cs ≤ 40 * cs.length → oe_ev K V C L n f (cs.length + 1) i c = some (o, c') →
  ∀ (m a w : Nat) (cx : oc_X) (hd : Option Nat) (lw : Nat → Int32) (os : List Int32) (kd vl : Int32), ox_H z K V C L Q f i m a w cx hd → os.length ≤ i → (ot_so (K f i) ≠ 0 → os = []) → (∀ u, u < 6 → lw u = c.1 u) →
  ox_K post z (K f) (V f) f b cs hd cx w (w + oc_wn (K f) (V f) (C f) m i (cx.map Prod.fst)) (a + oc_ln (K f) (V f) (C f) m i (cx.map Prod.fst)) os (decide (ot_so (K f i) = 0)) lw o c' →
  ox_A post z (520 * f + (if K f i = 18 then a + 1 else a)) ((f, b, lw, os) :: cs) c.2.1 c.2.2.1 kd vl c.2.2.2
end
section
variable {post : Int32 → SX → Prop} {z : SX} {K : Nat → Nat → Nat} {V : Nat → Nat → Int32} {C : Nat → Nat → Nat → Nat} {L : Nat → Nat} {Q : Nat → Nat → oc_P} {B : Nat → Nat → Nat}
theorem oc_wa_le {K : Nat → Nat} {V : Nat → Int32} {C : Nat → Nat → Nat} {m i : Nat} {p : oc_P} {o o' : Nat} (h : o ≤ o') : oc_wa K V C m i p o ≤ oc_wa K V C m i p o' := by
  have := oc_sm_le (f := (fun o => oc_wn K V C m (C i o) ((i, o) :: p))) h
  simp only [oc_wa]; omega
theorem ox_Hc {f i m a w : Nat} {cx : oc_X} {hd hd' : Option Nat} (W : ot_W1 (K f) (V f) (C f) (Q f) (B f) (L f) i) (H : ox_H z K V C L Q f i (m + 1) a w cx hd) {o : Nat} (ho : o < ot_np (K f i) (V f i))
    (hh : ∀ x, a + oc_ca (K f) (V f) (C f) m i (cx.map Prod.fst) o ≤ x → x < a + oc_ca (K f) (V f) (C f) m i (cx.map Prod.fst) o + oc_ln (K f) (V f) (C f) m (C f i o) ((i, o) :: cx.map Prod.fst) →
      oc_or (if K f i = 17 ∧ o ≤ ot_nc (V f i) then oc_fd (oc_own (K f i) (V f i) (1 + ot_nc (V f i)) a (a + oc_ln (K f) (V f) (C f) m (C f i 0) ((i, 0) :: cx.map Prod.fst)) (a + oc_ca (K f) (V f) (C f) m i (cx.map Prod.fst) (1 + ot_nc (V f i)))) x else none) hd = hd') :
    ox_H z K V C L Q f (C f i o) m (a + oc_ca (K f) (V f) (C f) m i (cx.map Prod.fst) o) (w + oc_wa (K f) (V f) (C f) m i (cx.map Prod.fst) o) (oc_fr (K f) (V f) (C f) m i a w cx o :: cx) hd' := by
  obtain ⟨hi, hm, hq, A, h6, h8, HD⟩ := H
  obtain ⟨c1, c2, c3, c4, _⟩ := W.2.1 o ho
  have hs := oc_wa_s (K f) (V f) (C f) m i (cx.map Prod.fst) o
  have hle : oc_wa (K f) (V f) (C f) m i (cx.map Prod.fst) (o + 1) ≤ oc_wa (K f) (V f) (C f) m i (cx.map Prod.fst) (ot_np (K f i) (V f i)) := oc_wa_le (by omega)
  have hw := oc_wn_s (K f) (V f) (C f) m i (cx.map Prod.fst)
  refine ⟨c2, by omega, by rw [c4, hq]; rfl, ((oc_sub (K f) (V f) (C f) A).2.1 o ho).1, by omega, ?_, ?_⟩
  · show w + oc_wa (K f) (V f) (C f) m i (cx.map Prod.fst) o + oc_wn (K f) (V f) (C f) m (C f i o) ((i, o) :: cx.map Prod.fst) ≤ 80
    omega
  · intro x h1 h2
    have h2' : x < a + oc_ca (K f) (V f) (C f) m i (cx.map Prod.fst) o + oc_ln (K f) (V f) (C f) m (C f i o) ((i, o) :: cx.map Prod.fst) := h2
    have e1 := oc_ca_s (K f) (V f) (C f) m i (cx.map Prod.fst) o
    have e2 := oc_ca_le (K f) (V f) (C f) (m := m) (i := i) (p := cx.map Prod.fst) (o := o + 1) (o' := ot_np (K f i) (V f i)) (by omega)
    have e3 := oc_ln_s (K f) (V f) (C f) m i (cx.map Prod.fst)
    rw [HD x (by omega) (by omega), oc_en_part (K f) (V f) (C f) ho h1 h2', ← hh x h1 h2']
    show _ = oc_or (oc_fd (oc_en (K f) (V f) (C f) m (C f i o) (a + oc_ca (K f) (V f) (C f) m i (cx.map Prod.fst) o) ((i, o) :: cx.map Prod.fst)) x) _
    generalize oc_fd (oc_en (K f) (V f) (C f) m (C f i o) (a + oc_ca (K f) (V f) (C f) m i (cx.map Prod.fst) o) ((i, o) :: cx.map Prod.fst)) x = A
    cases A <;> rfl
/-- not a TRY: the handler of a part is that of the token -/
theorem ox_Hn {f i m a w : Nat} {cx : oc_X} {hd : Option Nat} (W : ot_W1 (K f) (V f) (C f) (Q f) (B f) (L f) i) (H : ox_H z K V C L Q f i (m + 1) a w cx hd) (hk : K f i ≠ 17) {o : Nat} (ho : o < ot_np (K f i) (V f i)) :
    ox_H z K V C L Q f (C f i o) m (a + oc_ca (K f) (V f) (C f) m i (cx.map Prod.fst) o) (w + oc_wa (K f) (V f) (C f) m i (cx.map Prod.fst) o) (oc_fr (K f) (V f) (C f) m i a w cx o :: cx) hd :=
  ox_Hc W H ho (fun x _ _ => by rw [if_neg (fun e => hk e.1)]; rfl)
/-- an exception of the instruction at a place that only the token's own handler covers -/
theorem ox_rf {f : Nat} {b : Int32} {cs : List ox_F} {hd : Option Nat} {cx : oc_X} {w0 w1 en x : Nat} {os os' : List Int32} {ex : Bool} {lw lw' : Nat → Int32} {o : oe_O} {c : oe_C}
    (T : ox_TB z f (oc_en (K f) (V f) (C f) 40 0 0 [])) (hx : oc_fd (oc_en (K f) (V f) (C f) 40 0 0 []) x = hd) (hx5 : x < 520) (hcs : cs.length < 12) (KK : ox_K post z (K f) (V f) f b cs hd cx w0 w1 en os ex lw o c) (h4 : o.1 = 4) (hq : ∃ q : Nat, q < 4 ∧ o.2.1 = nI q) (hl : ox_lwc lw lw' c.1 w0 w1) :
    ox_Z post z o.2.1 o.2.2 (nI (520 * f + x)) ((f, b, lw', os') :: cs) c.2.1 c.2.2.1 c.2.2.2 := by
  refine ox_raise T hx5 hcs (fun h e => ?_) (fun e => ?_)
  · exact KK.2.2.2.2.1 h4 hq lw' hl h (hx.symm.trans e)
  · exact KK.2.2.2.2.2.1 h4 hq (hx.symm.trans e)
/-- a place in the finish code is covered by the token's handler alone -/
theorem ox_hfin {f i m a w : Nat} {cx : oc_X} {hd : Option Nat} (H : ox_H z K V C L Q f i (m + 1) a w cx hd) {x : Nat} (h1 : a + oc_ca (K f) (V f) (C f) m i (cx.map Prod.fst) (ot_np (K f i) (V f i)) ≤ x) (h2 : x < a + oc_ln (K f) (V f) (C f) (m + 1) i (cx.map Prod.fst)) :
    oc_fd (oc_en (K f) (V f) (C f) 40 0 0 []) x = hd := by
  rw [H.2.2.2.2.2.2 x (by omega) h2, oc_en_fin (K f) (V f) (C f) h1]; rfl
end
end
section
/-! ===== X runs the code: the tokens but WHILE and TRY ===== -/
section
variable {post : Int32 → SX → Prop} {z : SX} {K : Nat → Nat → Nat} {V : Nat → Nat → Int32} {C : Nat → Nat → Nat → Nat} {L : Nat → Nat} {Q : Nat → Nat → oc_P} {B : Nat → Nat → Nat}
variable {n f i : Nat} {c c' : oe_C} {o : oe_O} {b : Int32} {cs : List ox_F} {m a w : Nat} {cx : oc_X} {hd : Option Nat} {lw : Nat → Int32} {os : List Int32} {kd vl : Int32}
theorem ox_W (PR : ∀ g, g < 4 → ox_PR z K V C L Q B g) (hf : f < 4) (hL : L f ≠ 0) (hi : i < L f) : ot_W1 (K f) (V f) (C f) (Q f) (B f) (L f) i ∧ L f ≤ 40 ∧ ot_BD (K f) (V f) (Q f) (L f) ∧ ox_TB z f (oc_en (K f) (V f) (C f) 40 0 0 []) := by
  obtain ⟨_, P2⟩ := PR f hf
  obtain ⟨WT, BD, _, _, T⟩ := P2 hL
  exact ⟨WT.2.2.2.2.2 i hi, WT.2.1, BD, T⟩
theorem ox_18 (W : ot_W1 (K f) (V f) (C f) (Q f) (B f) (L f) i) (hk : K f i ≠ 17) {op : Nat} (hop : op < ot_np (K f i) (V f i)) : K f (C f i op) ≠ 18 := by
  intro e
  have h := (W.2.1 op hop).2.2.1
  rw [e] at h
  unfold ot_wa at h
  split at h
  · exact hk (by assumption)
  · exact absurd h (by decide)
  · exact absurd h (by decide)
  · split at h <;> exact absurd h (by decide)
  · split at h <;> exact absurd h (by decide)
  · exact absurd h (by decide)
/-- a part of a token that is no TRY, and not the body of a WHILE -/
theorem ox_ch (PR : ∀ g, g < 4 → ox_PR z K V C L Q B g) (S : ox_S post z K V C L Q n) (hf : f < 4) (hL : L f ≠ 0) (hcs : cs.length < 12) (htot : ox_tot cs ≤ 40 * cs.length) (H : ox_H z K V C L Q f i (m + 1) a w cx hd)
    {op : Nat} {c1 c2 : oe_C} {o1 : oe_O} {os1 : List Int32} {lw1 : Nat → Int32} (hop : op < ot_np (K f i) (V f i)) (hk : K f i ≠ 17) (hk2 : K f i ≠ 13 ∨ op ≠ 1) (hc1 : c1.2.1 ≤ 300) (e1 : oe_ev K V C L n f (cs.length + 1) (C f i op) c1 = some (o1, c2))
    (hos : os1.length ≤ C f i op) (hst : ot_so (K f (C f i op)) ≠ 0 → os1 = []) (hl : ox_lwc lw lw1 c1.1 w (w + oc_wn (K f) (V f) (C f) (m + 1) i (cx.map Prod.fst))) (NN : o1.1 ≠ 0 → ox_K post z (K f) (V f) f b cs hd cx w (w + oc_wn (K f) (V f) (C f) (m + 1) i (cx.map Prod.fst)) (a + oc_ln (K f) (V f) (C f) (m + 1) i (cx.map Prod.fst)) os (decide (ot_so (K f i) = 0)) lw o1 c2)
    (N : o1.1 = 0 → ∀ lw2 kd vl, ox_lwc lw lw2 c2.1 w (w + oc_wn (K f) (V f) (C f) (m + 1) i (cx.map Prod.fst)) → ox_A post z (520 * f + (a + oc_ca (K f) (V f) (C f) m i (cx.map Prod.fst) op + oc_ln (K f) (V f) (C f) m (C f i op) ((i, op) :: cx.map Prod.fst))) ((f, b, lw2, (if ot_so (K f (C f i op)) = 0 then o1.2.1 :: os1 else os1)) :: cs) c2.2.1 c2.2.2.1 kd vl c2.2.2.2) :
    ox_A post z (520 * f + (a + oc_ca (K f) (V f) (C f) m i (cx.map Prod.fst) op)) ((f, b, lw1, os1) :: cs) c1.2.1 c1.2.2.1 kd vl c1.2.2.2 := by
  obtain ⟨W, hN, BD, T⟩ := ox_W PR hf hL H.1
  have Hc := ox_Hn W H hk hop
  have hs := oc_wa_s (K f) (V f) (C f) m i (cx.map Prod.fst) op
  have hle : oc_wa (K f) (V f) (C f) m i (cx.map Prod.fst) (op + 1) ≤ oc_wa (K f) (V f) (C f) m i (cx.map Prod.fst) (ot_np (K f i) (V f i)) := oc_wa_le (by omega)
  have hw := oc_wn_s (K f) (V f) (C f) m i (cx.map Prod.fst)
  have G := S f (C f i op) c1 o1 c2 b cs hf hL hc1 hcs htot e1 m _ _ _ hd lw1 os1 kd vl Hc hos hst hl.1 ?_
  · rw [if_neg (ox_18 W hk hop)] at G
    exact G
  · refine ox_Kp NN hl.2 (by omega) ?_ ?_ ?_ ?_
    · show w + oc_wa (K f) (V f) (C f) m i (cx.map Prod.fst) op + oc_wn (K f) (V f) (C f) m (C f i op) ((i, op) :: cx.map Prod.fst) ≤ _
      omega
    · unfold oc_cln; exact decide_eq_false (fun e => hk e.1)
    · intro _; unfold oc_tgt; exact decide_eq_false (fun e => hk2.elim (fun g => g e.1) (fun g => g e.2.2))
    · intro h0 lw2 kd vl h2
      have h3 : ox_lwc lw lw2 c2.1 w (w + oc_wn (K f) (V f) (C f) (m + 1) i (cx.map Prod.fst)) := ox_lwc_tr hl.2 (by omega) (by show w + oc_wa (K f) (V f) (C f) m i (cx.map Prod.fst) op + oc_wn (K f) (V f) (C f) m (C f i op) ((i, op) :: cx.map Prod.fst) ≤ _; omega) h2
      have := N h0 lw2 kd vl h3
      simp only [decide_eq_true_eq]
      exact this
theorem ox_c0 (k : K f i = 0) (PR : ∀ g, g < 4 → ox_PR z K V C L Q B g) (S : ox_S post z K V C L Q n) (hf : f < 4) (hL : L f ≠ 0) (hc : c.2.1 ≤ 300) (hcs : cs.length < 12) (htot : ox_tot cs ≤ 40 * cs.length) (h : oe_ev K V C L (n + 1) f (cs.length + 1) i c = some (o, c')) (H : ox_H z K V C L Q f i (m + 1) a w cx hd) (hos : os.length ≤ i) (hst : ot_so (K f i) ≠ 0 → os = []) (hlw : ∀ u, u < 6 → lw u = c.1 u) (KK : ox_K post z (K f) (V f) f b cs hd cx w (w + oc_wn (K f) (V f) (C f) (m + 1) i (cx.map Prod.fst)) (a + oc_ln (K f) (V f) (C f) (m + 1) i (cx.map Prod.fst)) os (decide (ot_so (K f i) = 0)) lw o c') : ox_A post z (520 * f + a) ((f, b, lw, os) :: cs) c.2.1 c.2.2.1 kd vl c.2.2.2 := by
  obtain ⟨W, hN, BD, T⟩ := ox_W PR hf hL H.1
  obtain ⟨Abg, Ach, Afi⟩ := oc_sub (K f) (V f) (C f) H.2.2.2.1
  have h6 := H.2.2.2.2.1
  have h8 := H.2.2.2.2.2.1
  have hi := H.1
  have ew := oc_wn_s (K f) (V f) (C f) m i (cx.map Prod.fst)
  have el := oc_ln_s (K f) (V f) (C f) m i (cx.map Prod.fst)
  simp only [oe_ev] at h
  rw [oe_k0 k] at h; cases h
  have np : ot_np (K f i) (V f i) = 0 := by rw [k]; rfl
  have e0 : oc_ca (K f) (V f) (C f) m i (cx.map Prod.fst) 0 = 0 := by rw [oc_ca_0, k]; rfl
  rw [np, e0] at Afi el
  simp only [oc_fi, k, oc_A3] at Afi
  obtain ⟨⟨a5, a1, a2, _⟩, _⟩ := Afi
  rw [Nat.add_zero] at a5 a1 a2
  simp only [k, oc_lfi] at el
  refine ox_num a1 (by omega) hcs (by omega) ?_
  rw [a2]
  have G := KK.1 rfl lw kd vl ⟨hlw, fun _ _ _ _ => rfl⟩
  rw [el] at G
  simp only [k] at G
  exact G
theorem ox_c1 (k : K f i = 1) (PR : ∀ g, g < 4 → ox_PR z K V C L Q B g) (S : ox_S post z K V C L Q n) (hf : f < 4) (hL : L f ≠ 0) (hc : c.2.1 ≤ 300) (hcs : cs.length < 12) (htot : ox_tot cs ≤ 40 * cs.length) (h : oe_ev K V C L (n + 1) f (cs.length + 1) i c = some (o, c')) (H : ox_H z K V C L Q f i (m + 1) a w cx hd) (hos : os.length ≤ i) (hst : ot_so (K f i) ≠ 0 → os = []) (hlw : ∀ u, u < 6 → lw u = c.1 u) (KK : ox_K post z (K f) (V f) f b cs hd cx w (w + oc_wn (K f) (V f) (C f) (m + 1) i (cx.map Prod.fst)) (a + oc_ln (K f) (V f) (C f) (m + 1) i (cx.map Prod.fst)) os (decide (ot_so (K f i) = 0)) lw o c') : ox_A post z (520 * f + a) ((f, b, lw, os) :: cs) c.2.1 c.2.2.1 kd vl c.2.2.2 := by
  obtain ⟨W, hN, BD, T⟩ := ox_W PR hf hL H.1
  obtain ⟨Abg, Ach, Afi⟩ := oc_sub (K f) (V f) (C f) H.2.2.2.1
  have h6 := H.2.2.2.2.1
  have h8 := H.2.2.2.2.2.1
  have hi := H.1
  have ew := oc_wn_s (K f) (V f) (C f) m i (cx.map Prod.fst)
  have el := oc_ln_s (K f) (V f) (C f) m i (cx.map Prod.fst)
  simp only [oe_ev] at h
  rw [oe_k1 k] at h; cases h
  have np : ot_np (K f i) (V f i) = 0 := by rw [k]; rfl
  have e0 : oc_ca (K f) (V f) (C f) m i (cx.map Prod.fst) 0 = 0 := by rw [oc_ca_0, k]; rfl
  rw [np, e0] at Afi el
  simp only [oc_fi, k, oc_A3] at Afi
  obtain ⟨⟨a5, a1, a2, _⟩, _⟩ := Afi
  rw [Nat.add_zero] at a5 a1 a2
  simp only [k, oc_lfi] at el
  obtain ⟨q, hq, hv⟩ := W.1.2.2.1 (Or.inl k)
  rw [hv] at a2
  refine ox_var a1 a2 (by omega) (by omega) hcs (by omega) ?_
  have G := KK.1 rfl lw kd vl ⟨hlw, fun _ _ _ _ => rfl⟩
  rw [el] at G
  simp only [k] at G
  rw [hv, nI_clamp (by omega), ← hlw q hq] at G
  exact G
theorem ox_c26 (k : K f i = 2 ∨ K f i = 3 ∨ K f i = 4 ∨ K f i = 5 ∨ K f i = 6) (PR : ∀ g, g < 4 → ox_PR z K V C L Q B g) (S : ox_S post z K V C L Q n) (hf : f < 4) (hL : L f ≠ 0) (hc : c.2.1 ≤ 300) (hcs : cs.length < 12) (htot : ox_tot cs ≤ 40 * cs.length) (h : oe_ev K V C L (n + 1) f (cs.length + 1) i c = some (o, c')) (H : ox_H z K V C L Q f i (m + 1) a w cx hd) (hos : os.length ≤ i) (hst : ot_so (K f i) ≠ 0 → os = []) (hlw : ∀ u, u < 6 → lw u = c.1 u) (KK : ox_K post z (K f) (V f) f b cs hd cx w (w + oc_wn (K f) (V f) (C f) (m + 1) i (cx.map Prod.fst)) (a + oc_ln (K f) (V f) (C f) (m + 1) i (cx.map Prod.fst)) os (decide (ot_so (K f i) = 0)) lw o c') : ox_A post z (520 * f + a) ((f, b, lw, os) :: cs) c.2.1 c.2.2.1 kd vl c.2.2.2 := by
  obtain ⟨W, hN, BD, T⟩ := ox_W PR hf hL H.1
  obtain ⟨Abg, Ach, Afi⟩ := oc_sub (K f) (V f) (C f) H.2.2.2.1
  have h6 := H.2.2.2.2.1
  have h8 := H.2.2.2.2.2.1
  have hi := H.1
  have ew := oc_wn_s (K f) (V f) (C f) m i (cx.map Prod.fst)
  have el := oc_ln_s (K f) (V f) (C f) m i (cx.map Prod.fst)
  simp only [oe_ev] at h
  rw [oe_k26 k] at h
  have np : ot_np (K f i) (V f i) = 2 := by rcases k with k | k | k | k | k <;> rw [k] <;> rfl
  have k17 : K f i ≠ 17 := by omega
  have k13 : K f i ≠ 13 := by omega
  have e0 : oc_ca (K f) (V f) (C f) m i (cx.map Prod.fst) 0 = 0 := by rw [oc_ca_0]; rcases k with k | k | k | k | k <;> rw [k] <;> rfl
  have lb : ∀ x, oc_lbt (K f i) (V f i) x = 0 := by intro x; rcases k with k | k | k | k | k <;> rw [k] <;> rfl
  have e1 := oc_ca_s (K f) (V f) (C f) m i (cx.map Prod.fst) 0
  have e2 := oc_ca_s (K f) (V f) (C f) m i (cx.map Prod.fst) 1
  rw [lb, e0] at e1
  rw [lb] at e2
  simp only [Nat.reduceAdd] at e1 e2
  have efi : oc_fi (K f) (V f) i a (a + oc_ca (K f) (V f) (C f) m i (cx.map Prod.fst) (ot_np (K f i) (V f i))) w (w + oc_wa (K f) (V f) (C f) m i (cx.map Prod.fst) (ot_np (K f i) (V f i))) cx = [(nI (K f i), 0, 0, 0)] := by
    unfold oc_fi; rcases k with k | k | k | k | k <;> simp only [k]
  have elf : oc_lfi (K f i) (V f i) (oc_cr (K f) (V f) (cx.map Prod.fst)) (oc_cj (K f) (V f) (V f i) (cx.map Prod.fst)) = 1 := by rcases k with k | k | k | k | k <;> simp only [k, oc_lfi]
  rw [elf, np] at el
  rw [efi, np] at Afi
  obtain ⟨⟨a5, a1, a2, _⟩, _⟩ := Afi
  have so0 : ∀ op, op < 2 → ot_so (K f (C f i op)) = 0 := by
    intro op hop; rw [(W.2.1 op (by omega)).2.2.1]; rcases k with k | k | k | k | k <;> rw [k] <;> rfl
  have soi : ot_so (K f i) = 0 := by rcases k with k | k | k | k | k <;> rw [k] <;> rfl
  obtain ⟨c00, c01, _, _, _, c04, _⟩ := W.2.1 0 (by omega)
  obtain ⟨c10, c11, _⟩ := W.2.1 1 (by omega)
  have MV := oe_mvs K V C L Q B (fun g hg hLg => ((PR g hg).2 hLg).1) n
  obtain ⟨o1, c1, e3, h⟩ := oe_Ni h
  have m1 := MV f _ _ _ _ _ hf hL c01 hc e3
  have E0 : 520 * f + a = 520 * f + (a + oc_ca (K f) (V f) (C f) m i (cx.map Prod.fst) 0) := by rw [e0]; rfl
  rw [E0]
  refine ox_ch (os := os) (lw := lw) PR S hf hL hcs htot H (by omega) k17 (Or.inl k13) hc e3 (by omega) (fun g => absurd (so0 0 (by omega)) g) ⟨hlw, fun _ _ _ _ => rfl⟩ (fun h0 => ?_) (fun h0 lw1 kd vl hl1 => ?_)
  · rcases h with ⟨g, _⟩ | ⟨_, rfl, rfl⟩
    · exact absurd g h0
    · exact KK
  · rw [if_pos (so0 0 (by omega))]
    rcases h with ⟨_, h⟩ | ⟨g, _⟩
    · obtain ⟨o2, c2, e4, h⟩ := oe_Ni h
      have m2 := MV f _ _ _ _ _ hf hL c11 m1.2.1 e4
      have E1 : 520 * f + (a + oc_ca (K f) (V f) (C f) m i (cx.map Prod.fst) 0 + oc_ln (K f) (V f) (C f) m (C f i 0) ((i, 0) :: cx.map Prod.fst)) = 520 * f + (a + oc_ca (K f) (V f) (C f) m i (cx.map Prod.fst) 1) := by omega
      rw [E1]
      refine ox_ch (os := os) (lw := lw) PR S hf hL hcs htot H (by omega) k17 (Or.inl k13) m1.2.1 e4 (by simp only [List.length_cons]; omega) (fun g => absurd (so0 1 (by omega)) g) hl1 (fun h0 => ?_) (fun h0 lw2 kd vl hl2 => ?_)
      · rcases h with ⟨g, _⟩ | ⟨_, rfl, rfl⟩
        · exact absurd g h0
        · exact KK
      · rw [if_pos (so0 1 (by omega))]
        rcases h with ⟨_, h⟩ | ⟨g, _⟩
        · have E2 : 520 * f + (a + oc_ca (K f) (V f) (C f) m i (cx.map Prod.fst) 1 + oc_ln (K f) (V f) (C f) m (C f i 1) ((i, 1) :: cx.map Prod.fst)) = 520 * f + (a + oc_ca (K f) (V f) (C f) m i (cx.map Prod.fst) 2) := by omega
          rw [E2]
          have hfi := ox_hfin H (x := a + oc_ca (K f) (V f) (C f) m i (cx.map Prod.fst) 2) (by rw [np]; exact Nat.le_refl _) (by omega)
          refine ox_bin k a1 (by omega) hcs (by omega) (fun g5 gy => ?_) (fun g => ?_)
          · rw [if_pos ⟨g5, gy⟩] at h; cases h
            exact ox_rf T hfi a5 hcs KK rfl ⟨0, by omega, rfl⟩ hl2
          · rw [if_neg g] at h; cases h
            have G := KK.1 rfl lw2 kd vl hl2
            rw [el, soi] at G
            exact G
        · exact absurd h0 g
    · exact absurd h0 g
theorem ox_c7 (k : K f i = 7) (PR : ∀ g, g < 4 → ox_PR z K V C L Q B g) (S : ox_S post z K V C L Q n) (hf : f < 4) (hL : L f ≠ 0) (hc : c.2.1 ≤ 300) (hcs : cs.length < 12) (htot : ox_tot cs ≤ 40 * cs.length) (h : oe_ev K V C L (n + 1) f (cs.length + 1) i c = some (o, c')) (H : ox_H z K V C L Q f i (m + 1) a w cx hd) (hos : os.length ≤ i) (hst : ot_so (K f i) ≠ 0 → os = []) (hlw : ∀ u, u < 6 → lw u = c.1 u) (KK : ox_K post z (K f) (V f) f b cs hd cx w (w + oc_wn (K f) (V f) (C f) (m + 1) i (cx.map Prod.fst)) (a + oc_ln (K f) (V f) (C f) (m + 1) i (cx.map Prod.fst)) os (decide (ot_so (K f i) = 0)) lw o c') : ox_A post z (520 * f + a) ((f, b, lw, os) :: cs) c.2.1 c.2.2.1 kd vl c.2.2.2 := by
  obtain ⟨W, hN, BD, T⟩ := ox_W PR hf hL H.1
  obtain ⟨Abg, Ach, Afi⟩ := oc_sub (K f) (V f) (C f) H.2.2.2.1
  have h6 := H.2.2.2.2.1
  have h8 := H.2.2.2.2.2.1
  have hi := H.1
  have ew := oc_wn_s (K f) (V f) (C f) m i (cx.map Prod.fst)
  have el := oc_ln_s (K f) (V f) (C f) m i (cx.map Prod.fst)
  simp only [oe_ev] at h
  rw [oe_k7 k] at h
  have np : ot_np (K f i) (V f i) = 1 := by rw [k]; rfl
  have k17 : K f i ≠ 17 := by omega
  have k13 : K f i ≠ 13 := by omega
  have e0 : oc_ca (K f) (V f) (C f) m i (cx.map Prod.fst) 0 = 0 := by rw [oc_ca_0, k]; rfl
  have e1 := oc_ca_s (K f) (V f) (C f) m i (cx.map Prod.fst) 0
  have lb : oc_lbt (K f i) (V f i) (0 + 1) = 0 := by rw [k]; rfl
  rw [lb, e0] at e1
  simp only [Nat.reduceAdd] at e1
  rw [np] at Afi el ew
  simp only [oc_fi, k, oc_A3] at Afi
  simp only [k, oc_lfi] at el
  have so0 : ot_so (K f (C f i 0)) = 0 := by rw [(W.2.1 0 (by omega)).2.2.1, k]; rfl
  obtain ⟨c00, c01, _, _, _, c04, _⟩ := W.2.1 0 (by omega)
  have MV := oe_mvs K V C L Q B (fun g hg hLg => ((PR g hg).2 hLg).1) n
  obtain ⟨o1, c1, e3, h⟩ := oe_Ni h
  have m1 := MV f _ _ _ _ _ hf hL c01 hc e3
  have E0 : 520 * f + a = 520 * f + (a + oc_ca (K f) (V f) (C f) m i (cx.map Prod.fst) 0) := by rw [e0]; rfl
  have E1 : 520 * f + (a + oc_ca (K f) (V f) (C f) m i (cx.map Prod.fst) 0 + oc_ln (K f) (V f) (C f) m (C f i 0) ((i, 0) :: cx.map Prod.fst)) = 520 * f + (a + oc_ca (K f) (V f) (C f) m i (cx.map Prod.fst) 1) := by omega
  rw [E0]
  refine ox_ch (os := os) (lw := lw) PR S hf hL hcs htot H (by omega) k17 (Or.inl k13) hc e3 (by omega) (fun g => absurd so0 g) ⟨hlw, fun _ _ _ _ => rfl⟩ (fun h0 => (by
    rcases h with ⟨g, _⟩ | ⟨_, rfl, rfl⟩
    · exact absurd g h0
    · exact KK)) (fun h0 lw1 kd vl hl1 => ?_)
  rw [if_pos so0, E1]
  replace h := (by rcases h with ⟨_, h⟩ | ⟨g, _⟩; exact h; exact absurd h0 g : _ = _)
  cases h
  obtain ⟨⟨a5, a1, a2, _⟩, _⟩ := Afi
  refine ox_not a1 (by omega) hcs (by omega) ?_
  have G := KK.1 rfl lw1 kd vl hl1
  rw [el] at G
  simp only [k] at G
  exact G
theorem ox_c10 (k : K f i = 10) (PR : ∀ g, g < 4 → ox_PR z K V C L Q B g) (S : ox_S post z K V C L Q n) (hf : f < 4) (hL : L f ≠ 0) (hc : c.2.1 ≤ 300) (hcs : cs.length < 12) (htot : ox_tot cs ≤ 40 * cs.length) (h : oe_ev K V C L (n + 1) f (cs.length + 1) i c = some (o, c')) (H : ox_H z K V C L Q f i (m + 1) a w cx hd) (hos : os.length ≤ i) (hst : ot_so (K f i) ≠ 0 → os = []) (hlw : ∀ u, u < 6 → lw u = c.1 u) (KK : ox_K post z (K f) (V f) f b cs hd cx w (w + oc_wn (K f) (V f) (C f) (m + 1) i (cx.map Prod.fst)) (a + oc_ln (K f) (V f) (C f) (m + 1) i (cx.map Prod.fst)) os (decide (ot_so (K f i) = 0)) lw o c') : ox_A post z (520 * f + a) ((f, b, lw, os) :: cs) c.2.1 c.2.2.1 kd vl c.2.2.2 := by
  obtain ⟨W, hN, BD, T⟩ := ox_W PR hf hL H.1
  obtain ⟨Abg, Ach, Afi⟩ := oc_sub (K f) (V f) (C f) H.2.2.2.1
  have h6 := H.2.2.2.2.1
  have h8 := H.2.2.2.2.2.1
  have hi := H.1
  have ew := oc_wn_s (K f) (V f) (C f) m i (cx.map Prod.fst)
  have el := oc_ln_s (K f) (V f) (C f) m i (cx.map Prod.fst)
  simp only [oe_ev] at h
  rw [oe_k10 k] at h
  have np : ot_np (K f i) (V f i) = 1 := by rw [k]; rfl
  have k17 : K f i ≠ 17 := by omega
  have k13 : K f i ≠ 13 := by omega
  have e0 : oc_ca (K f) (V f) (C f) m i (cx.map Prod.fst) 0 = 0 := by rw [oc_ca_0, k]; rfl
  have e1 := oc_ca_s (K f) (V f) (C f) m i (cx.map Prod.fst) 0
  have lb : oc_lbt (K f i) (V f i) (0 + 1) = 0 := by rw [k]; rfl
  rw [lb, e0] at e1
  simp only [Nat.reduceAdd] at e1
  rw [np] at Afi el ew
  simp only [oc_fi, k, oc_A3] at Afi
  simp only [k, oc_lfi] at el
  have so0 : ot_so (K f (C f i 0)) = 0 := by rw [(W.2.1 0 (by omega)).2.2.1, k]; rfl
  obtain ⟨c00, c01, _, _, _, c04, _⟩ := W.2.1 0 (by omega)
  have MV := oe_mvs K V C L Q B (fun g hg hLg => ((PR g hg).2 hLg).1) n
  obtain ⟨o1, c1, e3, h⟩ := oe_Ni h
  have m1 := MV f _ _ _ _ _ hf hL c01 hc e3
  have E0 : 520 * f + a = 520 * f + (a + oc_ca (K f) (V f) (C f) m i (cx.map Prod.fst) 0) := by rw [e0]; rfl
  have E1 : 520 * f + (a + oc_ca (K f) (V f) (C f) m i (cx.map Prod.fst) 0 + oc_ln (K f) (V f) (C f) m (C f i 0) ((i, 0) :: cx.map Prod.fst)) = 520 * f + (a + oc_ca (K f) (V f) (C f) m i (cx.map Prod.fst) 1) := by omega
  rw [E0]
  refine ox_ch (os := os) (lw := lw) PR S hf hL hcs htot H (by omega) k17 (Or.inl k13) hc e3 (by omega) (fun g => absurd so0 g) ⟨hlw, fun _ _ _ _ => rfl⟩ (fun h0 => (by
    rcases h with ⟨g, _⟩ | ⟨_, rfl, rfl⟩
    · exact absurd g h0
    · exact KK)) (fun h0 lw1 kd vl hl1 => ?_)
  rw [if_pos so0, E1]
  replace h := (by rcases h with ⟨_, h⟩ | ⟨g, _⟩; exact h; exact absurd h0 g : _ = _)
  cases h
  obtain ⟨⟨a5, a1, a2, _⟩, _⟩ := Afi
  obtain ⟨q, hq, hv⟩ := W.1.2.2.1 (Or.inr k)
  rw [hv] at a2
  refine ox_set a1 a2 (by omega) (by omega) hcs (by omega) ?_
  have G := KK.1 rfl (upd lw1 q o1.2.1) kd vl ⟨fun u hu => ?_, fun u g6 g8 g => ?_⟩
  · rw [el] at G
    simp only [k] at G
    exact G
  · rw [hv, nI_clamp (by omega)]
    show upd lw1 q o1.2.1 u = upd c1.1 q o1.2.1 u
    by_cases e : u = q
    · subst e; rw [pk_us, pk_us]
    · rw [pk_un e, pk_un e]; exact hl1.1 u hu
  · rw [pk_un (by omega)]; exact hl1.2 u g6 g8 g
theorem ox_c11 (k : K f i = 11) (PR : ∀ g, g < 4 → ox_PR z K V C L Q B g) (S : ox_S post z K V C L Q n) (hf : f < 4) (hL : L f ≠ 0) (hc : c.2.1 ≤ 300) (hcs : cs.length < 12) (htot : ox_tot cs ≤ 40 * cs.length) (h : oe_ev K V C L (n + 1) f (cs.length + 1) i c = some (o, c')) (H : ox_H z K V C L Q f i (m + 1) a w cx hd) (hos : os.length ≤ i) (hst : ot_so (K f i) ≠ 0 → os = []) (hlw : ∀ u, u < 6 → lw u = c.1 u) (KK : ox_K post z (K f) (V f) f b cs hd cx w (w + oc_wn (K f) (V f) (C f) (m + 1) i (cx.map Prod.fst)) (a + oc_ln (K f) (V f) (C f) (m + 1) i (cx.map Prod.fst)) os (decide (ot_so (K f i) = 0)) lw o c') : ox_A post z (520 * f + a) ((f, b, lw, os) :: cs) c.2.1 c.2.2.1 kd vl c.2.2.2 := by
  obtain ⟨W, hN, BD, T⟩ := ox_W PR hf hL H.1
  obtain ⟨Abg, Ach, Afi⟩ := oc_sub (K f) (V f) (C f) H.2.2.2.1
  have h6 := H.2.2.2.2.1
  have h8 := H.2.2.2.2.2.1
  have hi := H.1
  have ew := oc_wn_s (K f) (V f) (C f) m i (cx.map Prod.fst)
  have el := oc_ln_s (K f) (V f) (C f) m i (cx.map Prod.fst)
  simp only [oe_ev] at h
  rw [oe_k11 k] at h
  have np : ot_np (K f i) (V f i) = 1 := by rw [k]; rfl
  have k17 : K f i ≠ 17 := by omega
  have k13 : K f i ≠ 13 := by omega
  have e0 : oc_ca (K f) (V f) (C f) m i (cx.map Prod.fst) 0 = 0 := by rw [oc_ca_0, k]; rfl
  have e1 := oc_ca_s (K f) (V f) (C f) m i (cx.map Prod.fst) 0
  have lb : oc_lbt (K f i) (V f i) (0 + 1) = 0 := by rw [k]; rfl
  rw [lb, e0] at e1
  simp only [Nat.reduceAdd] at e1
  rw [np] at Afi el ew
  simp only [oc_fi, k, oc_A3] at Afi
  simp only [k, oc_lfi] at el
  have so0 : ot_so (K f (C f i 0)) = 0 := by rw [(W.2.1 0 (by omega)).2.2.1, k]; rfl
  obtain ⟨c00, c01, _, _, _, c04, _⟩ := W.2.1 0 (by omega)
  have MV := oe_mvs K V C L Q B (fun g hg hLg => ((PR g hg).2 hLg).1) n
  obtain ⟨o1, c1, e3, h⟩ := oe_Ni h
  have m1 := MV f _ _ _ _ _ hf hL c01 hc e3
  have E0 : 520 * f + a = 520 * f + (a + oc_ca (K f) (V f) (C f) m i (cx.map Prod.fst) 0) := by rw [e0]; rfl
  have E1 : 520 * f + (a + oc_ca (K f) (V f) (C f) m i (cx.map Prod.fst) 0 + oc_ln (K f) (V f) (C f) m (C f i 0) ((i, 0) :: cx.map Prod.fst)) = 520 * f + (a + oc_ca (K f) (V f) (C f) m i (cx.map Prod.fst) 1) := by omega
  rw [E0]
  refine ox_ch (os := os) (lw := lw) PR S hf hL hcs htot H (by omega) k17 (Or.inl k13) hc e3 (by omega) (fun g => absurd so0 g) ⟨hlw, fun _ _ _ _ => rfl⟩ (fun h0 => (by
    rcases h with ⟨g, _⟩ | ⟨_, rfl, rfl⟩
    · exact absurd g h0
    · exact KK)) (fun h0 lw1 kd vl hl1 => ?_)
  rw [if_pos so0, E1]
  replace h := (by rcases h with ⟨_, h⟩ | ⟨g, _⟩; exact h; exact absurd h0 g : _ = _)
  obtain ⟨⟨a5, a1, a2, _⟩, _⟩ := Afi
  split at h
  · rename_i hsy
    cases h
    refine ox_say a1 (by omega) hcs (by omega) (by omega) ?_
    have G := KK.1 rfl lw1 kd vl hl1
    rw [el] at G
    simp only [k] at G
    exact G
  · cases h
theorem ox_c16 (k : K f i = 16) (PR : ∀ g, g < 4 → ox_PR z K V C L Q B g) (S : ox_S post z K V C L Q n) (hf : f < 4) (hL : L f ≠ 0) (hc : c.2.1 ≤ 300) (hcs : cs.length < 12) (htot : ox_tot cs ≤ 40 * cs.length) (h : oe_ev K V C L (n + 1) f (cs.length + 1) i c = some (o, c')) (H : ox_H z K V C L Q f i (m + 1) a w cx hd) (hos : os.length ≤ i) (hst : ot_so (K f i) ≠ 0 → os = []) (hlw : ∀ u, u < 6 → lw u = c.1 u) (KK : ox_K post z (K f) (V f) f b cs hd cx w (w + oc_wn (K f) (V f) (C f) (m + 1) i (cx.map Prod.fst)) (a + oc_ln (K f) (V f) (C f) (m + 1) i (cx.map Prod.fst)) os (decide (ot_so (K f i) = 0)) lw o c') : ox_A post z (520 * f + a) ((f, b, lw, os) :: cs) c.2.1 c.2.2.1 kd vl c.2.2.2 := by
  obtain ⟨W, hN, BD, T⟩ := ox_W PR hf hL H.1
  obtain ⟨Abg, Ach, Afi⟩ := oc_sub (K f) (V f) (C f) H.2.2.2.1
  have h6 := H.2.2.2.2.1
  have h8 := H.2.2.2.2.2.1
  have hi := H.1
  have ew := oc_wn_s (K f) (V f) (C f) m i (cx.map Prod.fst)
  have el := oc_ln_s (K f) (V f) (C f) m i (cx.map Prod.fst)
  simp only [oe_ev] at h
  rw [oe_k16 k] at h
  have np : ot_np (K f i) (V f i) = 1 := by rw [k]; rfl
  have k17 : K f i ≠ 17 := by omega
  have k13 : K f i ≠ 13 := by omega
  have e0 : oc_ca (K f) (V f) (C f) m i (cx.map Prod.fst) 0 = 0 := by rw [oc_ca_0, k]; rfl
  have e1 := oc_ca_s (K f) (V f) (C f) m i (cx.map Prod.fst) 0
  have lb : oc_lbt (K f i) (V f i) (0 + 1) = 0 := by rw [k]; rfl
  rw [lb, e0] at e1
  simp only [Nat.reduceAdd] at e1
  rw [np] at Afi el ew
  simp only [oc_fi, k, oc_A3] at Afi
  simp only [k, oc_lfi] at el
  have so0 : ot_so (K f (C f i 0)) = 0 := by rw [(W.2.1 0 (by omega)).2.2.1, k]; rfl
  obtain ⟨c00, c01, _, _, _, c04, _⟩ := W.2.1 0 (by omega)
  have MV := oe_mvs K V C L Q B (fun g hg hLg => ((PR g hg).2 hLg).1) n
  obtain ⟨o1, c1, e3, h⟩ := oe_Ni h
  have m1 := MV f _ _ _ _ _ hf hL c01 hc e3
  have E0 : 520 * f + a = 520 * f + (a + oc_ca (K f) (V f) (C f) m i (cx.map Prod.fst) 0) := by rw [e0]; rfl
  have E1 : 520 * f + (a + oc_ca (K f) (V f) (C f) m i (cx.map Prod.fst) 0 + oc_ln (K f) (V f) (C f) m (C f i 0) ((i, 0) :: cx.map Prod.fst)) = 520 * f + (a + oc_ca (K f) (V f) (C f) m i (cx.map Prod.fst) 1) := by omega
  rw [E0]
  refine ox_ch (os := os) (lw := lw) PR S hf hL hcs htot H (by omega) k17 (Or.inl k13) hc e3 (by omega) (fun g => absurd so0 g) ⟨hlw, fun _ _ _ _ => rfl⟩ (fun h0 => (by
    rcases h with ⟨g, _⟩ | ⟨_, rfl, rfl⟩
    · exact absurd g h0
    · exact KK)) (fun h0 lw1 kd vl hl1 => ?_)
  rw [if_pos so0, E1]
  replace h := (by rcases h with ⟨_, h⟩ | ⟨g, _⟩; exact h; exact absurd h0 g : _ = _)
  cases h
  obtain ⟨⟨a5, a1, a2, _⟩, _⟩ := Afi
  obtain ⟨q, hq, hv⟩ := W.1.2.2.2.1 (by omega)
  have hfi := ox_hfin H (x := a + oc_ca (K f) (V f) (C f) m i (cx.map Prod.fst) 1) (by rw [np]; exact Nat.le_refl _) (by omega)
  refine ox_throw a1 a2 (by omega) hcs (by omega) ?_
  exact ox_rf T hfi a5 hcs KK rfl ⟨q, hq, hv⟩ hl1
theorem ox_c21 (k : K f i = 21) (PR : ∀ g, g < 4 → ox_PR z K V C L Q B g) (S : ox_S post z K V C L Q n) (hf : f < 4) (hL : L f ≠ 0) (hc : c.2.1 ≤ 300) (hcs : cs.length < 12) (htot : ox_tot cs ≤ 40 * cs.length) (h : oe_ev K V C L (n + 1) f (cs.length + 1) i c = some (o, c')) (H : ox_H z K V C L Q f i (m + 1) a w cx hd) (hos : os.length ≤ i) (hst : ot_so (K f i) ≠ 0 → os = []) (hlw : ∀ u, u < 6 → lw u = c.1 u) (KK : ox_K post z (K f) (V f) f b cs hd cx w (w + oc_wn (K f) (V f) (C f) (m + 1) i (cx.map Prod.fst)) (a + oc_ln (K f) (V f) (C f) (m + 1) i (cx.map Prod.fst)) os (decide (ot_so (K f i) = 0)) lw o c') : ox_A post z (520 * f + a) ((f, b, lw, os) :: cs) c.2.1 c.2.2.1 kd vl c.2.2.2 := by
  obtain ⟨W, hN, BD, T⟩ := ox_W PR hf hL H.1
  obtain ⟨Abg, Ach, Afi⟩ := oc_sub (K f) (V f) (C f) H.2.2.2.1
  have h6 := H.2.2.2.2.1
  have h8 := H.2.2.2.2.2.1
  have hi := H.1
  have ew := oc_wn_s (K f) (V f) (C f) m i (cx.map Prod.fst)
  have el := oc_ln_s (K f) (V f) (C f) m i (cx.map Prod.fst)
  simp only [oe_ev] at h
  rw [oe_k21 k] at h
  have np : ot_np (K f i) (V f i) = 1 := by rw [k]; rfl
  have k17 : K f i ≠ 17 := by omega
  have k13 : K f i ≠ 13 := by omega
  have e0 : oc_ca (K f) (V f) (C f) m i (cx.map Prod.fst) 0 = 0 := by rw [oc_ca_0, k]; rfl
  have e1 := oc_ca_s (K f) (V f) (C f) m i (cx.map Prod.fst) 0
  have lb : oc_lbt (K f i) (V f i) (0 + 1) = 0 := by rw [k]; rfl
  rw [lb, e0] at e1
  simp only [Nat.reduceAdd] at e1
  rw [np] at Afi el ew
  simp only [oc_fi, k, oc_A3] at Afi
  simp only [k, oc_lfi] at el
  have so0 : ot_so (K f (C f i 0)) = 0 := by rw [(W.2.1 0 (by omega)).2.2.1, k]; rfl
  obtain ⟨c00, c01, _, _, _, c04, _⟩ := W.2.1 0 (by omega)
  have MV := oe_mvs K V C L Q B (fun g hg hLg => ((PR g hg).2 hLg).1) n
  obtain ⟨o1, c1, e3, h⟩ := oe_Ni h
  have m1 := MV f _ _ _ _ _ hf hL c01 hc e3
  have E0 : 520 * f + a = 520 * f + (a + oc_ca (K f) (V f) (C f) m i (cx.map Prod.fst) 0) := by rw [e0]; rfl
  have E1 : 520 * f + (a + oc_ca (K f) (V f) (C f) m i (cx.map Prod.fst) 0 + oc_ln (K f) (V f) (C f) m (C f i 0) ((i, 0) :: cx.map Prod.fst)) = 520 * f + (a + oc_ca (K f) (V f) (C f) m i (cx.map Prod.fst) 1) := by omega
  rw [E0]
  refine ox_ch (os := os) (lw := lw) PR S hf hL hcs htot H (by omega) k17 (Or.inl k13) hc e3 (by omega) (fun g => absurd so0 g) ⟨hlw, fun _ _ _ _ => rfl⟩ (fun h0 => (by
    rcases h with ⟨g, _⟩ | ⟨_, rfl, rfl⟩
    · exact absurd g h0
    · exact KK)) (fun h0 lw1 kd vl hl1 => ?_)
  rw [if_pos so0, E1]
  replace h := (by rcases h with ⟨_, h⟩ | ⟨g, _⟩; exact h; exact absurd h0 g : _ = _)
  cases h
  have os0 : os = [] := hst (by rw [k]; decide)
  subst os0
  by_cases hcr : oc_cr (K f) (V f) (cx.map Prod.fst) = 0
  · rw [if_pos hcr] at Afi
    exact KK.2.2.1 rfl hcr lw1 kd vl _ hl1 Afi
  · rw [if_neg hcr] at Afi
    obtain ⟨⟨a5, a1, a2, _⟩, a3⟩ := Afi
    rw [if_pos ⟨k, hcr⟩] at ew
    refine ox_set a1 a2 (by omega) (by omega) hcs (by simp; omega) ?_
    refine KK.2.2.2.1 rfl hcr _ kd vl (a + oc_ca (K f) (V f) (C f) m i (cx.map Prod.fst) 1 + 1) (w + oc_wa (K f) (V f) (C f) m i (cx.map Prod.fst) 1) ⟨fun u hu => ?_, fun u g6 g8 g => ?_⟩ a3 pk_us (by omega) (by omega)
    · rw [pk_un (by omega)]; exact hl1.1 u hu
    · rw [pk_un (by omega)]; exact hl1.2 u g6 g8 g
theorem ox_c15 (k : K f i = 15) (PR : ∀ g, g < 4 → ox_PR z K V C L Q B g) (S : ox_S post z K V C L Q n) (hf : f < 4) (hL : L f ≠ 0) (hc : c.2.1 ≤ 300) (hcs : cs.length < 12) (htot : ox_tot cs ≤ 40 * cs.length) (h : oe_ev K V C L (n + 1) f (cs.length + 1) i c = some (o, c')) (H : ox_H z K V C L Q f i (m + 1) a w cx hd) (hos : os.length ≤ i) (hst : ot_so (K f i) ≠ 0 → os = []) (hlw : ∀ u, u < 6 → lw u = c.1 u) (KK : ox_K post z (K f) (V f) f b cs hd cx w (w + oc_wn (K f) (V f) (C f) (m + 1) i (cx.map Prod.fst)) (a + oc_ln (K f) (V f) (C f) (m + 1) i (cx.map Prod.fst)) os (decide (ot_so (K f i) = 0)) lw o c') : ox_A post z (520 * f + a) ((f, b, lw, os) :: cs) c.2.1 c.2.2.1 kd vl c.2.2.2 := by
  obtain ⟨W, hN, BD, T⟩ := ox_W PR hf hL H.1
  obtain ⟨Abg, Ach, Afi⟩ := oc_sub (K f) (V f) (C f) H.2.2.2.1
  have h6 := H.2.2.2.2.1
  have h8 := H.2.2.2.2.2.1
  have hi := H.1
  have ew := oc_wn_s (K f) (V f) (C f) m i (cx.map Prod.fst)
  have el := oc_ln_s (K f) (V f) (C f) m i (cx.map Prod.fst)
  simp only [oe_ev] at h
  rw [oe_k15 k] at h; cases h
  have np : ot_np (K f i) (V f i) = 0 := by rw [k]; rfl
  have e0 : oc_ca (K f) (V f) (C f) m i (cx.map Prod.fst) 0 = 0 := by rw [oc_ca_0, k]; rfl
  rw [np, e0] at el
  simp only [k, oc_lfi] at el
  have G := KK.1 rfl lw kd vl ⟨hlw, fun _ _ _ _ => rfl⟩
  rw [el] at G
  simp only [k] at G
  exact G
theorem ox_c19 (k : K f i = 19 ∨ K f i = 20) (PR : ∀ g, g < 4 → ox_PR z K V C L Q B g) (S : ox_S post z K V C L Q n) (hf : f < 4) (hL : L f ≠ 0) (hc : c.2.1 ≤ 300) (hcs : cs.length < 12) (htot : ox_tot cs ≤ 40 * cs.length) (h : oe_ev K V C L (n + 1) f (cs.length + 1) i c = some (o, c')) (H : ox_H z K V C L Q f i (m + 1) a w cx hd) (hos : os.length ≤ i) (hst : ot_so (K f i) ≠ 0 → os = []) (hlw : ∀ u, u < 6 → lw u = c.1 u) (KK : ox_K post z (K f) (V f) f b cs hd cx w (w + oc_wn (K f) (V f) (C f) (m + 1) i (cx.map Prod.fst)) (a + oc_ln (K f) (V f) (C f) (m + 1) i (cx.map Prod.fst)) os (decide (ot_so (K f i) = 0)) lw o c') : ox_A post z (520 * f + a) ((f, b, lw, os) :: cs) c.2.1 c.2.2.1 kd vl c.2.2.2 := by
  obtain ⟨W, hN, BD, T⟩ := ox_W PR hf hL H.1
  obtain ⟨Abg, Ach, Afi⟩ := oc_sub (K f) (V f) (C f) H.2.2.2.1
  have h6 := H.2.2.2.2.1
  have h8 := H.2.2.2.2.2.1
  have hi := H.1
  have ew := oc_wn_s (K f) (V f) (C f) m i (cx.map Prod.fst)
  have el := oc_ln_s (K f) (V f) (C f) m i (cx.map Prod.fst)
  simp only [oe_ev] at h
  have np : ot_np (K f i) (V f i) = 0 := by rcases k with k | k <;> rw [k] <;> rfl
  have e0 : oc_ca (K f) (V f) (C f) m i (cx.map Prod.fst) 0 = 0 := by rw [oc_ca_0]; rcases k with k | k <;> rw [k] <;> rfl
  have os0 : os = [] := hst (by rcases k with k | k <;> rw [k] <;> decide)
  subst os0
  have bd := BD i hi k
  rw [H.2.2.1] at bd
  rw [np, e0] at Afi
  rcases k with k | k
  · rw [oe_k19 k] at h; cases h
    simp only [oc_fi, k] at Afi
    rw [if_neg bd] at Afi
    exact KK.2.1 (Or.inl rfl) bd lw kd vl a ⟨hlw, fun _ _ _ _ => rfl⟩ Afi
  · rw [oe_k20 k] at h; cases h
    simp only [oc_fi, k] at Afi
    rw [if_neg bd] at Afi
    exact KK.2.1 (Or.inr rfl) bd lw kd vl a ⟨hlw, fun _ _ _ _ => rfl⟩ Afi
theorem ox_c14 (k : K f i = 14) (PR : ∀ g, g < 4 → ox_PR z K V C L Q B g) (S : ox_S post z K V C L Q n) (hf : f < 4) (hL : L f ≠ 0) (hc : c.2.1 ≤ 300) (hcs : cs.length < 12) (htot : ox_tot cs ≤ 40 * cs.length) (h : oe_ev K V C L (n + 1) f (cs.length + 1) i c = some (o, c')) (H : ox_H z K V C L Q f i (m + 1) a w cx hd) (hos : os.length ≤ i) (hst : ot_so (K f i) ≠ 0 → os = []) (hlw : ∀ u, u < 6 → lw u = c.1 u) (KK : ox_K post z (K f) (V f) f b cs hd cx w (w + oc_wn (K f) (V f) (C f) (m + 1) i (cx.map Prod.fst)) (a + oc_ln (K f) (V f) (C f) (m + 1) i (cx.map Prod.fst)) os (decide (ot_so (K f i) = 0)) lw o c') : ox_A post z (520 * f + a) ((f, b, lw, os) :: cs) c.2.1 c.2.2.1 kd vl c.2.2.2 := by
  obtain ⟨W, hN, BD, T⟩ := ox_W PR hf hL H.1
  obtain ⟨Abg, Ach, Afi⟩ := oc_sub (K f) (V f) (C f) H.2.2.2.1
  have h6 := H.2.2.2.2.1
  have h8 := H.2.2.2.2.2.1
  have hi := H.1
  have ew := oc_wn_s (K f) (V f) (C f) m i (cx.map Prod.fst)
  have el := oc_ln_s (K f) (V f) (C f) m i (cx.map Prod.fst)
  simp only [oe_ev] at h
  rw [oe_k14 k] at h
  have np : ot_np (K f i) (V f i) = 2 := by rw [k]; rfl
  have k17 : K f i ≠ 17 := by omega
  have k13 : K f i ≠ 13 := by omega
  have e0 : oc_ca (K f) (V f) (C f) m i (cx.map Prod.fst) 0 = 0 := by rw [oc_ca_0, k]; rfl
  have lb : ∀ x, oc_lbt (K f i) (V f i) x = 0 := by intro x; rw [k]; rfl
  have e1 := oc_ca_s (K f) (V f) (C f) m i (cx.map Prod.fst) 0
  have e2 := oc_ca_s (K f) (V f) (C f) m i (cx.map Prod.fst) 1
  rw [lb, e0] at e1
  rw [lb] at e2
  simp only [Nat.reduceAdd] at e1 e2
  rw [np] at el
  simp only [k, oc_lfi] at el
  have so0 : ∀ op, op < 2 → ¬ ot_so (K f (C f i op)) = 0 := by
    intro op hop; rw [(W.2.1 op (by omega)).2.2.1, k]; simp [ot_wa]
  have os0 : os = [] := hst (by rw [k]; decide)
  subst os0
  obtain ⟨c00, c01, _, _, _, c04, _⟩ := W.2.1 0 (by omega)
  obtain ⟨c10, c11, _⟩ := W.2.1 1 (by omega)
  have MV := oe_mvs K V C L Q B (fun g hg hLg => ((PR g hg).2 hLg).1) n
  obtain ⟨o1, c1, e3, h⟩ := oe_Ni h
  have m1 := MV f _ _ _ _ _ hf hL c01 hc e3
  have E0 : 520 * f + a = 520 * f + (a + oc_ca (K f) (V f) (C f) m i (cx.map Prod.fst) 0) := by rw [e0]; rfl
  rw [E0]
  refine ox_ch (os := []) (lw := lw) PR S hf hL hcs htot H (by omega) k17 (Or.inl k13) hc e3 (by simp) (fun g => rfl) ⟨hlw, fun _ _ _ _ => rfl⟩ (fun h0 => ?_) (fun h0 lw1 kd vl hl1 => ?_)
  · rcases h with ⟨g, _⟩ | ⟨_, rfl, rfl⟩
    · exact absurd g h0
    · exact KK
  · rw [if_neg (so0 0 (by omega))]
    rcases h with ⟨_, h⟩ | ⟨g, _⟩
    · have E1 : 520 * f + (a + oc_ca (K f) (V f) (C f) m i (cx.map Prod.fst) 0 + oc_ln (K f) (V f) (C f) m (C f i 0) ((i, 0) :: cx.map Prod.fst)) = 520 * f + (a + oc_ca (K f) (V f) (C f) m i (cx.map Prod.fst) 1) := by omega
      rw [E1]
      refine ox_ch (os := []) (lw := lw) PR S hf hL hcs htot H (by omega) k17 (Or.inl k13) m1.2.1 h (by simp) (fun g => rfl) hl1 (fun h0 => KK) (fun h0 lw2 kd vl hl2 => ?_)
      rw [if_neg (so0 1 (by omega))]
      have E2 : 520 * f + (a + oc_ca (K f) (V f) (C f) m i (cx.map Prod.fst) 1 + oc_ln (K f) (V f) (C f) m (C f i 1) ((i, 1) :: cx.map Prod.fst)) = 520 * f + (a + oc_ln (K f) (V f) (C f) (m + 1) i (cx.map Prod.fst)) := by omega
      rw [E2]
      have G := KK.1 h0 lw2 kd vl hl2
      rw [k] at G
      exact G
    · exact absurd h0 g
theorem ox_c12 (k : K f i = 12) (PR : ∀ g, g < 4 → ox_PR z K V C L Q B g) (S : ox_S post z K V C L Q n) (hf : f < 4) (hL : L f ≠ 0) (hc : c.2.1 ≤ 300) (hcs : cs.length < 12) (htot : ox_tot cs ≤ 40 * cs.length) (h : oe_ev K V C L (n + 1) f (cs.length + 1) i c = some (o, c')) (H : ox_H z K V C L Q f i (m + 1) a w cx hd) (hos : os.length ≤ i) (hst : ot_so (K f i) ≠ 0 → os = []) (hlw : ∀ u, u < 6 → lw u = c.1 u) (KK : ox_K post z (K f) (V f) f b cs hd cx w (w + oc_wn (K f) (V f) (C f) (m + 1) i (cx.map Prod.fst)) (a + oc_ln (K f) (V f) (C f) (m + 1) i (cx.map Prod.fst)) os (decide (ot_so (K f i) = 0)) lw o c') : ox_A post z (520 * f + a) ((f, b, lw, os) :: cs) c.2.1 c.2.2.1 kd vl c.2.2.2 := by
  obtain ⟨W, hN, BD, T⟩ := ox_W PR hf hL H.1
  obtain ⟨Abg, Ach, Afi⟩ := oc_sub (K f) (V f) (C f) H.2.2.2.1
  have h6 := H.2.2.2.2.1
  have h8 := H.2.2.2.2.2.1
  have hi := H.1
  have ew := oc_wn_s (K f) (V f) (C f) m i (cx.map Prod.fst)
  have el := oc_ln_s (K f) (V f) (C f) m i (cx.map Prod.fst)
  simp only [oe_ev] at h
  rw [oe_k12 k] at h
  have np : ot_np (K f i) (V f i) = 3 := by rw [k]; rfl
  have k17 : K f i ≠ 17 := by omega
  have k13 : K f i ≠ 13 := by omega
  have e0 : oc_ca (K f) (V f) (C f) m i (cx.map Prod.fst) 0 = 0 := by rw [oc_ca_0, k]; rfl
  have e1 := oc_ca_s (K f) (V f) (C f) m i (cx.map Prod.fst) 0
  have e2 := oc_ca_s (K f) (V f) (C f) m i (cx.map Prod.fst) 1
  have e3 := oc_ca_s (K f) (V f) (C f) m i (cx.map Prod.fst) 2
  simp only [Nat.reduceAdd] at e1 e2 e3
  have b1 : oc_lbt (K f i) (V f i) 1 = 1 := by rw [k]; rfl
  have b2 : oc_lbt (K f i) (V f i) 2 = 1 := by rw [k]; rfl
  have b3 : oc_lbt (K f i) (V f i) 3 = 0 := by rw [k]; rfl
  rw [b1, e0] at e1
  rw [b2] at e2
  rw [b3] at e3
  have A0 := (Ach 0 (by omega)).2
  have A1 := (Ach 1 (by omega)).2
  simp only [oc_bt, k] at A0 A1
  rw [if_pos trivial] at A0
  rw [if_neg (by omega), if_pos trivial] at A1
  obtain ⟨⟨a5, a1, a2, _⟩, _⟩ := A0
  obtain ⟨⟨d5, d1, d2, _⟩, _⟩ := A1
  rw [np] at el
  simp only [k, oc_lfi] at el
  have so0 : ot_so (K f (C f i 0)) = 0 := by rw [(W.2.1 0 (by omega)).2.2.1, k]; rfl
  have so1 : ¬ ot_so (K f (C f i 1)) = 0 := by rw [(W.2.1 1 (by omega)).2.2.1, k]; simp [ot_wa]
  have so2 : ¬ ot_so (K f (C f i 2)) = 0 := by rw [(W.2.1 2 (by omega)).2.2.1, k]; simp [ot_wa]
  have os0 : os = [] := hst (by rw [k]; decide)
  subst os0
  obtain ⟨c00, c01, _, _, _, c04, _⟩ := W.2.1 0 (by omega)
  have MV := oe_mvs K V C L Q B (fun g hg hLg => ((PR g hg).2 hLg).1) n
  obtain ⟨o1, c1, x3, h⟩ := oe_Ni h
  have m1 := MV f _ _ _ _ _ hf hL c01 hc x3
  have E0 : 520 * f + a = 520 * f + (a + oc_ca (K f) (V f) (C f) m i (cx.map Prod.fst) 0) := by rw [e0]; rfl
  rw [E0]
  refine ox_ch (os := []) (lw := lw) PR S hf hL hcs htot H (by omega) k17 (Or.inl k13) hc x3 (by simp) (fun g => rfl) ⟨hlw, fun _ _ _ _ => rfl⟩ (fun h0 => ?_) (fun h0 lw1 kd vl hl1 => ?_)
  · rcases h with ⟨g, _⟩ | ⟨_, rfl, rfl⟩
    · exact absurd g h0
    · exact KK
  · rw [if_pos so0]
    rcases h with ⟨_, h⟩ | ⟨g, _⟩
    · refine ox_if a1 a2 (by omega) hcs (by simp; omega) ?_
      by_cases hx : o1.2.1 = 0
      · rw [if_pos hx] at h ⊢
        refine ox_ch (os := []) (lw := lw) PR S hf hL hcs htot H (by omega) k17 (Or.inl k13) m1.2.1 h (by simp) (fun g => rfl) hl1 (fun h0 => KK) (fun h0 lw2 kd vl hl2 => ?_)
        rw [if_neg so2]
        have E2 : 520 * f + (a + oc_ca (K f) (V f) (C f) m i (cx.map Prod.fst) 2 + oc_ln (K f) (V f) (C f) m (C f i 2) ((i, 2) :: cx.map Prod.fst)) = 520 * f + (a + oc_ln (K f) (V f) (C f) (m + 1) i (cx.map Prod.fst)) := by omega
        rw [E2]
        have G := KK.1 h0 lw2 kd vl hl2
        rw [k] at G
        exact G
      · rw [if_neg hx] at h ⊢
        have E1 : 520 * f + (a + oc_ca (K f) (V f) (C f) m i (cx.map Prod.fst) 0 + oc_ln (K f) (V f) (C f) m (C f i 0) ((i, 0) :: cx.map Prod.fst)) + 1 = 520 * f + (a + oc_ca (K f) (V f) (C f) m i (cx.map Prod.fst) 1) := by omega
        rw [E1]
        refine ox_ch (os := []) (lw := lw) PR S hf hL hcs htot H (by omega) k17 (Or.inl k13) m1.2.1 h (by simp) (fun g => rfl) hl1 (fun h0 => KK) (fun h0 lw2 kd vl hl2 => ?_)
        rw [if_neg so1]
        refine ox_goes d1 d2 (by omega) hcs ?_
        have G := KK.1 h0 lw2 kd vl hl2
        rw [k] at G
        exact G
    · exact absurd h0 g
theorem ox_c18 (k : K f i = 18) (PR : ∀ g, g < 4 → ox_PR z K V C L Q B g) (S : ox_S post z K V C L Q n) (hf : f < 4) (hL : L f ≠ 0) (hc : c.2.1 ≤ 300) (hcs : cs.length < 12) (htot : ox_tot cs ≤ 40 * cs.length) (h : oe_ev K V C L (n + 1) f (cs.length + 1) i c = some (o, c')) (H : ox_H z K V C L Q f i (m + 1) a w cx hd) (hos : os.length ≤ i) (hst : ot_so (K f i) ≠ 0 → os = []) (hlw : ∀ u, u < 6 → lw u = c.1 u) (KK : ox_K post z (K f) (V f) f b cs hd cx w (w + oc_wn (K f) (V f) (C f) (m + 1) i (cx.map Prod.fst)) (a + oc_ln (K f) (V f) (C f) (m + 1) i (cx.map Prod.fst)) os (decide (ot_so (K f i) = 0)) lw o c') : ox_A post z (520 * f + (a + 1)) ((f, b, lw, os) :: cs) c.2.1 c.2.2.1 kd vl c.2.2.2 := by
  obtain ⟨W, hN, BD, T⟩ := ox_W PR hf hL H.1
  obtain ⟨Abg, Ach, Afi⟩ := oc_sub (K f) (V f) (C f) H.2.2.2.1
  have h6 := H.2.2.2.2.1
  have h8 := H.2.2.2.2.2.1
  have hi := H.1
  have ew := oc_wn_s (K f) (V f) (C f) m i (cx.map Prod.fst)
  have el := oc_ln_s (K f) (V f) (C f) m i (cx.map Prod.fst)
  simp only [oe_ev] at h
  rw [oe_k18 k] at h
  have np : ot_np (K f i) (V f i) = 1 := by rw [k]; rfl
  have k17 : K f i ≠ 17 := by omega
  have k13 : K f i ≠ 13 := by omega
  have e0 : oc_ca (K f) (V f) (C f) m i (cx.map Prod.fst) 0 = 1 := by rw [oc_ca_0, k]; rfl
  have e1 := oc_ca_s (K f) (V f) (C f) m i (cx.map Prod.fst) 0
  have lb : oc_lbt (K f i) (V f i) (0 + 1) = 0 := by rw [k]; rfl
  rw [lb, e0] at e1
  simp only [Nat.reduceAdd] at e1
  rw [np] at el
  simp only [k, oc_lfi] at el
  have so0 : ¬ ot_so (K f (C f i 0)) = 0 := by rw [(W.2.1 0 (by omega)).2.2.1, k]; simp [ot_wa]
  have os0 : os = [] := hst (by rw [k]; decide)
  subst os0
  rw [← e0]
  refine ox_ch (os := []) (lw := lw) PR S hf hL hcs htot H (by omega) k17 (Or.inl k13) hc h (by simp) (fun g => rfl) ⟨hlw, fun _ _ _ _ => rfl⟩ (fun h0 => KK) (fun h0 lw2 kd vl hl2 => ?_)
  rw [if_neg so0]
  have E2 : 520 * f + (a + oc_ca (K f) (V f) (C f) m i (cx.map Prod.fst) 0 + oc_ln (K f) (V f) (C f) m (C f i 0) ((i, 0) :: cx.map Prod.fst)) = 520 * f + (a + oc_ln (K f) (V f) (C f) (m + 1) i (cx.map Prod.fst)) := by omega
  rw [E2]
  have G := KK.1 h0 lw2 kd vl hl2
  rw [k] at G
  exact G
end
end
section
/-! ===== X runs the code: CALL and WHILE ===== -/
section
variable {post : Int32 → SX → Prop} {z : SX} {K : Nat → Nat → Nat} {V : Nat → Nat → Int32} {C : Nat → Nat → Nat → Nat} {L : Nat → Nat} {Q : Nat → Nat → oc_P} {B : Nat → Nat → Nat}
variable {n f i : Nat} {c c' : oe_C} {o : oe_O} {b : Int32} {cs : List ox_F} {m a w : Nat} {cx : oc_X} {hd : Option Nat} {lw : Nat → Int32} {os : List Int32} {kd vl : Int32}
/-- the body of a function, from its beginning -/
theorem ox_Hr (PR : ∀ g, g < 4 → ox_PR z K V C L Q B g) (hf : f < 4) (hL : L f ≠ 0) : ox_H z K V C L Q f 0 40 0 6 [] none := by
  obtain ⟨WT, BD, A, w8, T⟩ := (PR f hf).2 hL
  refine ⟨WT.1, by have := WT.2.1; omega, WT.2.2.2.1, (oc_A3_app.mp A).1, by omega, w8, fun x _ _ => ?_⟩
  show _ = oc_or (oc_fd (oc_en (K f) (V f) (C f) 40 0 0 []) x) none
  cases oc_fd (oc_en (K f) (V f) (C f) 40 0 0 []) x <;> rfl
theorem ox_c8 (k : K f i = 8) (PR : ∀ g, g < 4 → ox_PR z K V C L Q B g) (S : ox_S post z K V C L Q n) (hf : f < 4) (hL : L f ≠ 0) (hc : c.2.1 ≤ 300) (hcs : cs.length < 12) (htot : ox_tot cs ≤ 40 * cs.length) (h : oe_ev K V C L (n + 1) f (cs.length + 1) i c = some (o, c')) (H : ox_H z K V C L Q f i (m + 1) a w cx hd) (hos : os.length ≤ i) (hst : ot_so (K f i) ≠ 0 → os = []) (hlw : ∀ u, u < 6 → lw u = c.1 u) (KK : ox_K post z (K f) (V f) f b cs hd cx w (w + oc_wn (K f) (V f) (C f) (m + 1) i (cx.map Prod.fst)) (a + oc_ln (K f) (V f) (C f) (m + 1) i (cx.map Prod.fst)) os (decide (ot_so (K f i) = 0)) lw o c') : ox_A post z (520 * f + a) ((f, b, lw, os) :: cs) c.2.1 c.2.2.1 kd vl c.2.2.2 := by
  obtain ⟨W, hN, BD, T⟩ := ox_W PR hf hL H.1
  obtain ⟨Abg, Ach, Afi⟩ := oc_sub (K f) (V f) (C f) H.2.2.2.1
  have h6 := H.2.2.2.2.1
  have h8 := H.2.2.2.2.2.1
  have hi := H.1
  have ew := oc_wn_s (K f) (V f) (C f) m i (cx.map Prod.fst)
  have el := oc_ln_s (K f) (V f) (C f) m i (cx.map Prod.fst)
  simp only [oe_ev] at h
  rw [oe_k8 k] at h
  have np : ot_np (K f i) (V f i) = 1 := by rw [k]; rfl
  have k17 : K f i ≠ 17 := by omega
  have k13 : K f i ≠ 13 := by omega
  have e0 : oc_ca (K f) (V f) (C f) m i (cx.map Prod.fst) 0 = 0 := by rw [oc_ca_0, k]; rfl
  have e1 := oc_ca_s (K f) (V f) (C f) m i (cx.map Prod.fst) 0
  have lb : oc_lbt (K f i) (V f i) (0 + 1) = 0 := by rw [k]; rfl
  rw [lb, e0] at e1
  simp only [Nat.reduceAdd] at e1
  rw [np] at Afi el ew
  simp only [oc_fi, k, oc_A3] at Afi
  simp only [k, oc_lfi] at el
  have so0 : ot_so (K f (C f i 0)) = 0 := by rw [(W.2.1 0 (by omega)).2.2.1, k]; rfl
  obtain ⟨c00, c01, _, _, _, c04, _⟩ := W.2.1 0 (by omega)
  have MV := oe_mvs K V C L Q B (fun g hg hLg => ((PR g hg).2 hLg).1) n
  obtain ⟨o1, c1, e3, h⟩ := oe_Ni h
  have m1 := MV f _ _ _ _ _ hf hL c01 hc e3
  have E0 : 520 * f + a = 520 * f + (a + oc_ca (K f) (V f) (C f) m i (cx.map Prod.fst) 0) := by rw [e0]; rfl
  have E1 : 520 * f + (a + oc_ca (K f) (V f) (C f) m i (cx.map Prod.fst) 0 + oc_ln (K f) (V f) (C f) m (C f i 0) ((i, 0) :: cx.map Prod.fst)) = 520 * f + (a + oc_ca (K f) (V f) (C f) m i (cx.map Prod.fst) 1) := by omega
  rw [E0]
  refine ox_ch (os := os) (lw := lw) PR S hf hL hcs htot H (by omega) k17 (Or.inl k13) hc e3 (by omega) (fun g => absurd so0 g) ⟨hlw, fun _ _ _ _ => rfl⟩ (fun h0 => (by
    rcases h with ⟨g, _⟩ | ⟨_, rfl, rfl⟩
    · exact absurd g h0
    · exact KK)) (fun h0 lw1 kd vl hl1 => ?_)
  rw [if_pos so0, E1]
  replace h := (by rcases h with ⟨_, h⟩ | ⟨g, _⟩; exact h; exact absurd h0 g : _ = _)
  obtain ⟨⟨a5, a1, a2, _⟩, _⟩ := Afi
  obtain ⟨g, hg, hv⟩ := W.1.2.2.2.1 (Or.inl k)
  rw [hv] at a2
  rw [hv, nI_clamp (by omega)] at h
  have soi : ot_so (K f i) = 0 := by rw [k]; rfl
  have hfi := ox_hfin H (x := a + oc_ca (K f) (V f) (C f) m i (cx.map Prod.fst) 1) (by rw [np]; exact Nat.le_refl _) (by omega)
  have th := (PR g hg).1
  unfold oe_cal at h
  refine ox_call a1 a2 hg (by omega) hcs (by omega) m1.2.1 (fun t0 => ?_) (fun t0 t1 => ?_) (fun t0 t1 t2 => ?_) (fun t0 t1 t2 lw0 v0 v1 => ?_)
  · rw [if_pos (th.mp t0)] at h; cases h
    exact ox_rf T hfi a5 hcs KK rfl ⟨1, by omega, rfl⟩ hl1
  · rw [if_neg (fun e => t0 (th.mpr e)), if_pos t1] at h; cases h
    exact KK.2.2.2.2.2.2 rfl
  · rw [if_neg (fun e => t0 (th.mpr e)), if_neg t1, if_pos t2] at h; cases h
    exact ox_rf T hfi a5 hcs KK rfl ⟨2, by omega, rfl⟩ hl1
  · have hLg : L g ≠ 0 := fun e => t0 (th.mpr e)
    rw [if_neg hLg, if_neg t1, if_neg t2] at h
    obtain ⟨o2, c2, e2, h⟩ := oe_Bi h
    have Hr := ox_Hr PR hg hLg
    obtain ⟨WTg, _, Ag, _, _⟩ := (PR g hg).2 hLg
    have A2 := (oc_A3_app.mp Ag).2
    rw [oc_cod_len] at A2
    obtain ⟨⟨b5, b1, b2, _⟩, ⟨d5, d1, d2, _⟩, _⟩ := A2
    have k18 : K g 0 ≠ 18 := by intro e; have := WTg.2.2.1; rw [e] at this; exact absurd this (by decide)
    have so1 : ¬ ot_so (K g 0) = 0 := by rw [WTg.2.2.1]; omega
    have BACK : ∀ v kd vl, o = (0, v, 0) → c' = (c1.1, c2.2) → ox_A post z (520 * f + (a + oc_ca (K f) (V f) (C f) m i (cx.map Prod.fst) 1) + 1) ((f, b, lw1, v :: os) :: cs) c2.2.1 c2.2.2.1 kd vl c2.2.2.2 := by
      intro v kd vl eo ec
      subst eo ec
      have G := KK.1 rfl lw1 kd vl hl1
      rw [el, soi] at G
      exact G
    have G := S g 0 _ o2 c2 (nI (520 * f + (a + oc_ca (K f) (V f) (C f) m i (cx.map Prod.fst) 1) + 1)) ((f, b, lw1, os) :: cs) hg hLg (by have := m1.2.1; dsimp only; omega) (by simp only [List.length_cons]; omega) (by simp only [ox_tot, List.length_cons]; omega) e2 40 0 6 [] none lw0 [] kd vl Hr (by simp) (fun _ => rfl) ?_ ?_
    · rw [if_neg k18] at G
      exact G
    · intro u hu
      show lw0 u = if u = 0 then o1.2.1 else 0
      by_cases e : u = 0
      · rw [if_pos e, e]; exact v0
      · rw [if_neg e]; exact v1 u (by omega) hu
    · have tot9 : ox_tot cs + os.length < 480 := by omega
      refine ⟨fun q0 lw' kd vl hl' => ?_, fun _ q1 => absurd rfl q1, fun q3 _ lw' kd vl pc hl' A9 => ?_, fun _ q1 => absurd rfl q1, fun _ _ _ _ _ e => (nomatch e), fun q4 qk _ => ?_, fun q5 => ?_⟩
      · have hx0 : oa_x z (520 * g + (0 + oc_ln (K g) (V g) (C g) 40 0 (List.map Prod.fst []))) = 0 := b2
        simp only [decide_eq_true_eq, if_neg so1]
        refine ox_num b1 (by omega) (by simp only [List.length_cons]; omega) (by simp only [ox_tot, List.length_nil]; omega) ?_
        rw [hx0]
        refine ox_ret d1 (by omega) rfl (by omega) (by simp; omega) (BACK 0 kd vl ?_ ?_)
        · cases h; rw [if_neg (by omega), if_neg (by omega)]
        · cases h; rfl
      · obtain ⟨⟨f5, f1, _⟩, _⟩ := A9
        refine ox_ret f1 (by omega) rfl (by omega) (by simp; omega) (BACK o2.2.1 kd vl ?_ ?_)
        · cases h; rw [if_neg (by omega), if_pos q3]
        · cases h; rfl
      · rw [show nI (520 * f + (a + oc_ca (K f) (V f) (C f) m i (cx.map Prod.fst) 1) + 1) - 1 = nI (520 * f + (a + oc_ca (K f) (V f) (C f) m i (cx.map Prod.fst) 1)) from nI_pred _]
        cases h
        rw [if_pos (Or.inl q4)] at KK
        exact ox_rf (c := (c1.1, c2.2)) T hfi a5 hcs KK q4 qk hl1
      · cases h
        rw [if_pos (Or.inr q5)] at KK
        exact KK.2.2.2.2.2.2 q5
theorem ox_c13 (k : K f i = 13) (PR : ∀ g, g < 4 → ox_PR z K V C L Q B g) (S : ox_S post z K V C L Q n) (hf : f < 4) (hL : L f ≠ 0) (hc : c.2.1 ≤ 300) (hcs : cs.length < 12) (htot : ox_tot cs ≤ 40 * cs.length) (h : oe_ev K V C L (n + 1) f (cs.length + 1) i c = some (o, c')) (H : ox_H z K V C L Q f i (m + 1) a w cx hd) (hos : os.length ≤ i) (hst : ot_so (K f i) ≠ 0 → os = []) (hlw : ∀ u, u < 6 → lw u = c.1 u) (KK : ox_K post z (K f) (V f) f b cs hd cx w (w + oc_wn (K f) (V f) (C f) (m + 1) i (cx.map Prod.fst)) (a + oc_ln (K f) (V f) (C f) (m + 1) i (cx.map Prod.fst)) os (decide (ot_so (K f i) = 0)) lw o c') : ox_A post z (520 * f + a) ((f, b, lw, os) :: cs) c.2.1 c.2.2.1 kd vl c.2.2.2 := by
  obtain ⟨W, hN, BD, T⟩ := ox_W PR hf hL H.1
  obtain ⟨Abg, Ach, Afi⟩ := oc_sub (K f) (V f) (C f) H.2.2.2.1
  have h6 := H.2.2.2.2.1
  have h8 := H.2.2.2.2.2.1
  have hi := H.1
  have ew := oc_wn_s (K f) (V f) (C f) m i (cx.map Prod.fst)
  have el := oc_ln_s (K f) (V f) (C f) m i (cx.map Prod.fst)
  simp only [oe_ev] at h
  rw [oe_k13 k] at h
  have np : ot_np (K f i) (V f i) = 2 := by rw [k]; rfl
  have k17 : K f i ≠ 17 := by omega
  have e0 : oc_ca (K f) (V f) (C f) m i (cx.map Prod.fst) 0 = 1 := by rw [oc_ca_0, k]; rfl
  have e1 := oc_ca_s (K f) (V f) (C f) m i (cx.map Prod.fst) 0
  have e2 := oc_ca_s (K f) (V f) (C f) m i (cx.map Prod.fst) 1
  simp only [Nat.reduceAdd] at e1 e2
  have b1 : oc_lbt (K f i) (V f i) 1 = 1 := by rw [k]; rfl
  have b2 : oc_lbt (K f i) (V f i) 2 = 0 := by rw [k]; rfl
  rw [b1, e0] at e1
  rw [b2] at e2
  have A0 := (Ach 0 (by omega)).2
  simp only [oc_bt, k] at A0
  rw [if_pos trivial] at A0
  obtain ⟨⟨a5, a1, a2, _⟩, _⟩ := A0
  simp only [oc_bg, k, oc_A3] at Abg
  obtain ⟨⟨g5, g1, g2, _⟩, _⟩ := Abg
  rw [np] at Afi el
  simp only [oc_fi, k, oc_A3] at Afi
  obtain ⟨⟨f5, f1, f2, _⟩, _⟩ := Afi
  simp only [k, oc_lfi] at el
  have so0 : ot_so (K f (C f i 0)) = 0 := by rw [(W.2.1 0 (by omega)).2.2.1, k]; rfl
  have so1 : ¬ ot_so (K f (C f i 1)) = 0 := by rw [(W.2.1 1 (by omega)).2.2.1, k]; simp [ot_wa]
  have os0 : os = [] := hst (by rw [k]; decide)
  subst os0
  obtain ⟨c00, c01, _, _, _, c04, _⟩ := W.2.1 0 (by omega)
  obtain ⟨c10, c11, _⟩ := W.2.1 1 (by omega)
  have MV := oe_mvs K V C L Q B (fun g hg hLg => ((PR g hg).2 hLg).1) n
  have soi : decide (ot_so (K f i) = 0) = false := by rw [k]; rfl
  have KN : ∀ (o9 : oe_O) (c9 : oe_C), o9.1 = 0 → o = o9 → c' = c9 → ∀ lw' kd vl, ox_lwc lw lw' c9.1 w (w + oc_wn (K f) (V f) (C f) (m + 1) i (cx.map Prod.fst)) → ox_A post z (520 * f + (a + oc_ln (K f) (V f) (C f) (m + 1) i (cx.map Prod.fst))) ((f, b, lw', []) :: cs) c9.2.1 c9.2.2.1 kd vl c9.2.2.2 := by
    intro o9 c9 h0 eo ec lw' kd vl hl'
    subst eo ec
    have G := KK.1 h0 lw' kd vl hl'
    rw [soi] at G
    exact G
  unfold oe_whl at h
  refine ox_count g1 (by omega) hcs hc (fun s3 => ?_) (fun s3 => ?_)
  · rw [if_pos s3] at h; cases h
    exact KK.2.2.2.2.2.2 rfl
  · rw [if_neg s3] at h
    obtain ⟨o1, c1, x3, h⟩ := oe_Ni h
    have m1 := MV f _ _ _ _ _ hf hL c01 (by dsimp only; omega) x3
    have E0 : 520 * f + a + 1 = 520 * f + (a + oc_ca (K f) (V f) (C f) m i (cx.map Prod.fst) 0) := by rw [e0]; rfl
    rw [E0]
    refine ox_ch (c1 := (c.1, c.2.1 + 1, c.2.2)) (os := []) (lw := lw) PR S hf hL hcs htot H (by omega) k17 (Or.inr (by omega)) (by dsimp only; omega) x3 (by simp) (fun g => rfl) ⟨hlw, fun _ _ _ _ => rfl⟩ (fun h0 => ?_) (fun h0 lw1 kd vl hl1 => ?_)
    · rcases h with ⟨g, _⟩ | ⟨_, rfl, rfl⟩
      · exact absurd g h0
      · exact KK
    · rw [if_pos so0]
      rcases h with ⟨_, h⟩ | ⟨g, _⟩
      · refine ox_if a1 a2 (by omega) hcs (by simp; omega) ?_
        by_cases hx : o1.2.1 = 0
        · rw [if_pos hx] at h ⊢; cases h
          exact KN _ _ rfl rfl rfl lw1 kd vl hl1
        · rw [if_neg hx] at h ⊢
          obtain ⟨o2, c2, x4, h⟩ := oe_Bi h
          have m2 := MV f _ _ _ _ _ hf hL c11 m1.2.1 x4
          have E1 : 520 * f + (a + oc_ca (K f) (V f) (C f) m i (cx.map Prod.fst) 0 + oc_ln (K f) (V f) (C f) m (C f i 0) ((i, 0) :: cx.map Prod.fst)) + 1 = 520 * f + (a + oc_ca (K f) (V f) (C f) m i (cx.map Prod.fst) 1) := by omega
          rw [E1]
          have hs := oc_wa_s (K f) (V f) (C f) m i (cx.map Prod.fst) 1
          rw [np] at ew
          have LOOP : oe_ev K V C L n f (cs.length + 1) i c2 = some (o, c') → ∀ lw2 kd vl, ox_lwc lw lw2 c2.1 w (w + oc_wn (K f) (V f) (C f) (m + 1) i (cx.map Prod.fst)) → ox_A post z (520 * f + a) ((f, b, lw2, []) :: cs) c2.2.1 c2.2.2.1 kd vl c2.2.2.2 := by
            intro hev lw2 kd vl hl2
            have G := S f i c2 o c' b cs hf hL m2.2.1 hcs htot hev (m + 1) a w cx hd lw2 [] kd vl H (by simp) (fun _ => rfl) hl2.1 (ox_Klw hl2.2 KK)
            rw [if_neg (by omega)] at G
            exact G
          have sub : ∀ lw2, ox_lwc lw1 lw2 c2.1 (w + oc_wa (K f) (V f) (C f) m i (cx.map Prod.fst) 1) (w + oc_wa (K f) (V f) (C f) m i (cx.map Prod.fst) 1 + oc_wn (K f) (V f) (C f) m (C f i 1) ((i, 1) :: cx.map Prod.fst)) → ox_lwc lw lw2 c2.1 w (w + oc_wn (K f) (V f) (C f) (m + 1) i (cx.map Prod.fst)) := fun lw2 h2 => ox_lwc_tr hl1.2 (by omega) (by simp only [Nat.reduceAdd] at hs; omega) h2
          have G := S f (C f i 1) c1 o2 c2 b cs hf hL m1.2.1 hcs htot x4 m _ _ _ hd lw1 [] kd vl (ox_Hn W H k17 (by omega)) (by simp) (fun _ => rfl) hl1.1 ?_
          · rw [if_neg (ox_18 W k17 (by omega))] at G
            exact G
          · by_cases A : o2.1 = 0 ∨ (o2.1 = 2 ∧ o2.2.1 = V f i)
            · rw [if_pos A] at h
              refine ⟨fun q0 lw2 kd vl h2 => ?_, fun q1 _ lw2 kd vl pc h2 A9 => ?_, fun q => ?_, fun q => ?_, fun q => ?_, fun q => ?_, fun q => ?_⟩
              · simp only [decide_eq_true_eq, if_neg so1]
                have E2 : 520 * f + (a + oc_ca (K f) (V f) (C f) m i (cx.map Prod.fst) 1 + oc_ln (K f) (V f) (C f) m (C f i 1) ((oc_fr (K f) (V f) (C f) m i a w cx 1 :: cx).map Prod.fst)) = 520 * f + (a + oc_ca (K f) (V f) (C f) m i (cx.map Prod.fst) 2) := by
                  show 520 * f + (a + oc_ca (K f) (V f) (C f) m i (cx.map Prod.fst) 1 + oc_ln (K f) (V f) (C f) m (C f i 1) ((i, 1) :: cx.map Prod.fst)) = 520 * f + (a + oc_ca (K f) (V f) (C f) m i (cx.map Prod.fst) 2)
                  omega
                rw [E2]
                exact ox_goes f1 f2 (by omega) hcs (LOOP h lw2 kd vl (sub lw2 h2))
              · have A := A.resolve_left (by omega)
                have ht : oc_tgt (K f) (V f) o2.2.1 i 1 = true := by unfold oc_tgt; exact decide_eq_true ⟨k, A.2.symm, rfl⟩
                simp only [oc_fr, oc_jp, ht, if_true] at A9
                rw [if_neg (by omega)] at A9
                obtain ⟨⟨j5, j1, j2, _⟩, _⟩ := A9
                exact ox_goes j1 j2 (by omega) hcs (LOOP h lw2 kd vl (sub lw2 h2))
              all_goals (exfalso; omega)
            · rw [if_neg A] at h
              by_cases A2 : o2.1 = 1 ∧ o2.2.1 = V f i
              · rw [if_pos A2] at h; cases h
                refine ⟨fun q0 => ?_, fun q1 _ lw2 kd vl pc h2 A9 => ?_, fun q => ?_, fun q => ?_, fun q => ?_, fun q => ?_, fun q => ?_⟩
                · omega
                · have ht : oc_tgt (K f) (V f) o2.2.1 i 1 = true := by unfold oc_tgt; exact decide_eq_true ⟨k, A2.2.symm, rfl⟩
                  simp only [oc_fr, oc_jp, ht, if_true] at A9
                  rw [if_pos A2.1] at A9
                  obtain ⟨⟨j5, j1, j2, _⟩, _⟩ := A9
                  exact ox_goes j1 j2 (by omega) hcs (KN _ _ rfl rfl rfl lw2 kd vl (sub lw2 h2))
                all_goals (exfalso; omega)
              · rw [if_neg A2] at h; cases h
                refine ox_Kp (fun _ => KK) hl1.2 (by omega) (by show w + oc_wa (K f) (V f) (C f) m i (cx.map Prod.fst) 1 + oc_wn (K f) (V f) (C f) m (C f i 1) ((i, 1) :: cx.map Prod.fst) ≤ _; simp only [Nat.reduceAdd] at hs; omega) ?_ ?_ ?_
                · unfold oc_cln; exact decide_eq_false (fun e => k17 e.1)
                · intro q; unfold oc_tgt; refine decide_eq_false (fun e => ?_)
                  rcases q with q | q
                  · exact A2 ⟨q, e.2.1.symm⟩
                  · exact A (Or.inr ⟨q, e.2.1.symm⟩)
                · intro q; exact absurd (Or.inl q) A
      · exact absurd h0 g
end
end
section
/-! ===== X runs the code: TRY ===== -/
section
variable {post : Int32 → SX → Prop} {z : SX} {K : Nat → Nat → Nat} {V : Nat → Nat → Int32} {C : Nat → Nat → Nat → Nat} {L : Nat → Nat} {Q : Nat → Nat → oc_P} {B : Nat → Nat → Nat}
variable {n f i : Nat} {c c' : oe_C} {o : oe_O} {b : Int32} {cs : List ox_F} {m a w : Nat} {cx : oc_X} {hd : Option Nat} {lw : Nat → Int32} {os : List Int32} {kd vl : Int32}
theorem ot_v17 {v : Int32} (h : ot_ok 17 v) : ot_nc v = 0 → ot_cl v = true := by
  rcases h.2.2.2.2.1 rfl with e | e | e | e | e <;> subst e <;> decide
theorem oc_own_v {k : Nat} {v : Int32} {s bb qq x : Nat} (hk : k = 17) : oc_fd (oc_own k v (1 + ot_nc v) s bb qq) x = if ot_nc v ≠ 0 ∧ s ≤ x ∧ x < bb then some (bb + oc_gl v) else if ot_cl v = true ∧ s ≤ x ∧ x < qq - 4 then some (qq - 4) else none := by
  unfold oc_own
  rw [if_pos ⟨hk, rfl⟩, oc_fd_app]
  by_cases h0 : ot_nc v = 0 <;> by_cases h1 : ot_cl v = true <;> by_cases h3 : s ≤ x ∧ x < bb <;> by_cases h2 : s ≤ x ∧ x < qq - 4 <;> simp only [h0, h1, h2, h3, oc_fd, oc_or, ne_eq, not_true, not_false_iff, true_and, false_and, and_true, and_false, if_true, if_false, Bool.false_eq_true]
  · have : ¬ x < bb := by omega
    simp only [this, if_false]
  · have : ¬ x < bb := by omega
    simp only [this, if_false]
/-- the numbers of a TRY's places -/
theorem ox_tn (k : K f i = 17) : oc_ca (K f) (V f) (C f) m i (cx.map Prod.fst) 0 = 0 ∧ (∀ op, op < ot_nc (V f i) → oc_ca (K f) (V f) (C f) m i (cx.map Prod.fst) (op + 1) = oc_ca (K f) (V f) (C f) m i (cx.map Prod.fst) op + oc_ln (K f) (V f) (C f) m (C f i op) ((i, op) :: cx.map Prod.fst) + oc_gl (V f i)) ∧
    oc_ca (K f) (V f) (C f) m i (cx.map Prod.fst) (1 + ot_nc (V f i)) = oc_ca (K f) (V f) (C f) m i (cx.map Prod.fst) (ot_nc (V f i)) + oc_ln (K f) (V f) (C f) m (C f i (ot_nc (V f i))) ((i, (ot_nc (V f i))) :: cx.map Prod.fst) + oc_gl (V f i) + (if ot_nc (V f i) = 0 then 0 else 1) + (if ot_cl (V f i) = true then 4 else 0) ∧
    (ot_cl (V f i) = true → ot_np (K f i) (V f i) = 1 + ot_nc (V f i) + 1 ∧ oc_ca (K f) (V f) (C f) m i (cx.map Prod.fst) (1 + ot_nc (V f i) + 1) = oc_ca (K f) (V f) (C f) m i (cx.map Prod.fst) (1 + ot_nc (V f i)) + oc_ln (K f) (V f) (C f) m (C f i (1 + ot_nc (V f i))) ((i, (1 + ot_nc (V f i))) :: cx.map Prod.fst) ∧ oc_ln (K f) (V f) (C f) (m + 1) i (cx.map Prod.fst) = oc_ca (K f) (V f) (C f) m i (cx.map Prod.fst) (1 + ot_nc (V f i) + 1) + 1) ∧
    (ot_cl (V f i) = false → ot_np (K f i) (V f i) = 1 + ot_nc (V f i) ∧ oc_ln (K f) (V f) (C f) (m + 1) i (cx.map Prod.fst) = oc_ca (K f) (V f) (C f) m i (cx.map Prod.fst) (1 + ot_nc (V f i))) ∧
    (ot_cl (V f i) = true → oc_wa (K f) (V f) (C f) m i (cx.map Prod.fst) 0 = 3) ∧ oc_wn (K f) (V f) (C f) (m + 1) i (cx.map Prod.fst) = oc_wa (K f) (V f) (C f) m i (cx.map Prod.fst) (ot_np (K f i) (V f i)) := by
  have np : ot_np (K f i) (V f i) = 1 + ot_nc (V f i) + (if ot_cl (V f i) = true then 1 else 0) := by rw [k]; rfl
  have el := oc_ln_s (K f) (V f) (C f) m i (cx.map Prod.fst)
  have ew := oc_wn_s (K f) (V f) (C f) m i (cx.map Prod.fst)
  have lbt : ∀ x, oc_lbt (K f i) (V f i) x = if x ≤ ot_nc (V f i) then oc_gl (V f i) else if x = 1 + ot_nc (V f i) then oc_gl (V f i) + (if ot_nc (V f i) = 0 then 0 else 1) + (if ot_cl (V f i) = true then 4 else 0) else 0 := by intro x; rw [k]; rfl
  refine ⟨by rw [oc_ca_0, k]; rfl, fun op ho => ?_, ?_, fun hc => ⟨by rw [np, if_pos hc], ?_, ?_⟩, fun hc => ⟨by rw [np, hc]; rfl, ?_⟩, fun hc => ?_, ?_⟩
  · rw [oc_ca_s, lbt, if_pos (by omega)]
  · rw [Nat.add_comm 1, oc_ca_s, lbt, if_neg (by omega), if_pos (by omega)]; omega
  · rw [oc_ca_s, lbt, if_neg (by omega), if_neg (by omega)]; rfl
  · rw [el, np, if_pos hc]; congr 1; rw [k]; simp only [oc_lfi]; rw [if_pos hc]
  · rw [el, np, hc]; simp only [k, oc_lfi, hc]; simp
  · unfold oc_wa; rw [if_pos ⟨k, hc⟩]; rfl
  · rw [ew, if_neg (by omega)]; rfl
/-- the pieces of a TRY's code -/
theorem ox_tp (k : K f i = 17) (A : oc_A3 z f a (oc_cod (K f) (V f) (C f) (m + 1) i a w cx)) :
    (∀ op, op ≤ ot_nc (V f i) → oc_A3 z f (a + oc_ca (K f) (V f) (C f) m i (cx.map Prod.fst) op + oc_ln (K f) (V f) (C f) m (C f i op) ((i, op) :: cx.map Prod.fst)) (oc_lv (V f) i (a + oc_ln (K f) (V f) (C f) (m + 1) i (cx.map Prod.fst)) (a + oc_ca (K f) (V f) (C f) m i (cx.map Prod.fst) (1 + ot_nc (V f i))) w)) ∧
    (ot_nc (V f i) ≠ 0 → oc_A3 z f (a + oc_ca (K f) (V f) (C f) m i (cx.map Prod.fst) (ot_nc (V f i)) + oc_ln (K f) (V f) (C f) m (C f i (ot_nc (V f i))) ((i, (ot_nc (V f i))) :: cx.map Prod.fst) + oc_gl (V f i)) [(27, -1, 0, 0)]) ∧
    (ot_cl (V f i) = true → oc_A3 z f ((a + oc_ca (K f) (V f) (C f) m i (cx.map Prod.fst) (1 + ot_nc (V f i))) - 4) [(26, nI (w + 1), 0, 0), (24, nI ((a + oc_ca (K f) (V f) (C f) m i (cx.map Prod.fst) (1 + ot_nc (V f i))) - 1), nI w, 0), (22, nI (a + oc_ca (K f) (V f) (C f) m i (cx.map Prod.fst) (1 + ot_nc (V f i))), 0, 3 * i + 2), (27, nI (w + 1), 0, 0)] ∧
      oc_A3 z f (a + oc_ca (K f) (V f) (C f) m i (cx.map Prod.fst) (1 + ot_nc (V f i) + 1)) [(25, 0, nI w, 0)]) := by
  obtain ⟨t0, t1, t2, t3, t4, t5, t6⟩ := ox_tn (m := m) (cx := cx) (C := C) (V := V) k
  obtain ⟨_, Ach, Afi⟩ := oc_sub (K f) (V f) (C f) A
  have np : ot_np (K f i) (V f i) = 1 + ot_nc (V f i) + (if ot_cl (V f i) = true then 1 else 0) := by rw [k]; rfl
  have A9 := (Ach (ot_nc (V f i)) (by omega)).2
  simp only [oc_bt, k] at A9
  rw [if_neg (by omega), if_pos (by omega)] at A9
  obtain ⟨A1, A2⟩ := oc_A3_app.mp A9
  rw [oc_lv_len] at A2
  obtain ⟨A3, A4⟩ := oc_A3_app.mp A2
  refine ⟨fun op ho => ?_, fun h0 => ?_, fun hc => ?_⟩
  · by_cases e : op = ot_nc (V f i)
    · subst e; exact A1
    · have A8 := (Ach op (by omega)).2
      simp only [oc_bt, k] at A8
      rw [if_pos (by omega)] at A8
      exact A8
  · rw [if_neg h0] at A3; exact A3
  · obtain ⟨s1, s2, s3⟩ := t3 hc
    constructor
    · rw [if_pos hc] at A4 t2
      have e : (a + oc_ca (K f) (V f) (C f) m i (cx.map Prod.fst) (1 + ot_nc (V f i))) - 4 = a + oc_ca (K f) (V f) (C f) m i (cx.map Prod.fst) (ot_nc (V f i)) + oc_ln (K f) (V f) (C f) m (C f i (ot_nc (V f i))) ((i, (ot_nc (V f i))) :: cx.map Prod.fst) + oc_gl (V f i) + (if ot_nc (V f i) = 0 then ([] : List oc_I) else [(27, -1, 0, 0)]).length := by
        rw [t2]
        by_cases h0 : ot_nc (V f i) = 0
        · rw [if_pos h0, if_pos h0, List.length_nil]; omega
        · rw [if_neg h0, if_neg h0, List.length_singleton]; omega
      rw [e]
      exact A4
    · rw [s1] at Afi
      simp only [oc_fi, k] at Afi
      rw [if_pos hc] at Afi
      exact Afi
/-- a place between the parts of a TRY -/
theorem ox_tb (k : K f i = 17) (H : ox_H z K V C L Q f i (m + 1) a w cx hd) {x : Nat} (h1 : a + oc_ca (K f) (V f) (C f) m i (cx.map Prod.fst) (ot_nc (V f i)) + oc_ln (K f) (V f) (C f) m (C f i (ot_nc (V f i))) ((i, (ot_nc (V f i))) :: cx.map Prod.fst) ≤ x) (h2 : x < (a + oc_ca (K f) (V f) (C f) m i (cx.map Prod.fst) (1 + ot_nc (V f i)))) :
    oc_fd (oc_en (K f) (V f) (C f) 40 0 0 []) x = oc_or (oc_fd (oc_own (K f i) (V f i) (1 + ot_nc (V f i)) a (a + oc_ln (K f) (V f) (C f) m (C f i 0) ((i, 0) :: cx.map Prod.fst)) (a + oc_ca (K f) (V f) (C f) m i (cx.map Prod.fst) (1 + ot_nc (V f i)))) x) hd := by
  obtain ⟨t0, t1, t2, t3, t4, t5, t6⟩ := ox_tn (m := m) (cx := cx) (C := C) (V := V) k
  have np : ot_np (K f i) (V f i) = 1 + ot_nc (V f i) + (if ot_cl (V f i) = true then 1 else 0) := by rw [k]; rfl
  have el := oc_ln_s (K f) (V f) (C f) m i (cx.map Prod.fst)
  have le := oc_ca_le (K f) (V f) (C f) (m := m) (i := i) (p := (cx.map Prod.fst)) (o := 1 + ot_nc (V f i)) (o' := ot_np (K f i) (V f i)) (by omega)
  rw [H.2.2.2.2.2.2 x (by omega) (by omega)]
  congr 1
  have G : ∀ o', o' ≠ ot_nc (V f i) → oc_fd (oc_en (K f) (V f) (C f) m (C f i o') (a + oc_ca (K f) (V f) (C f) m i (cx.map Prod.fst) o') ((i, o') :: (cx.map Prod.fst)) ++ oc_own (K f i) (V f i) (o' + 1) a (a + oc_ln (K f) (V f) (C f) m (C f i 0) ((i, 0) :: cx.map Prod.fst)) (a + oc_ca (K f) (V f) (C f) m i (cx.map Prod.fst) (1 + ot_nc (V f i)))) x = none := by
    intro o' ne
    rw [oc_fd_app]
    have z1 : oc_fd (oc_own (K f i) (V f i) (o' + 1) a (a + oc_ln (K f) (V f) (C f) m (C f i 0) ((i, 0) :: cx.map Prod.fst)) (a + oc_ca (K f) (V f) (C f) m i (cx.map Prod.fst) (1 + ot_nc (V f i)))) x = none := by unfold oc_own; rw [if_neg (by omega)]; rfl
    have z2 : oc_fd (oc_en (K f) (V f) (C f) m (C f i o') (a + oc_ca (K f) (V f) (C f) m i (cx.map Prod.fst) o') ((i, o') :: (cx.map Prod.fst))) x = none := by
      cases e1 : oc_fd (oc_en (K f) (V f) (C f) m (C f i o') (a + oc_ca (K f) (V f) (C f) m i (cx.map Prod.fst) o') ((i, o') :: (cx.map Prod.fst))) x with
      | none => rfl
      | some h =>
        have := oc_en_in (K f) (V f) (C f) m _ _ _ _ _ e1
        have s2 := oc_ca_s (K f) (V f) (C f) m i (cx.map Prod.fst) o'
        rcases Nat.lt_or_gt_of_ne ne with g | g
        · have := oc_ca_le (K f) (V f) (C f) (m := m) (i := i) (p := (cx.map Prod.fst)) (o := o' + 1) (o' := ot_nc (V f i)) (by omega); omega
        · have := oc_ca_le (K f) (V f) (C f) (m := m) (i := i) (p := (cx.map Prod.fst)) (o := 1 + ot_nc (V f i)) (o' := o') (by omega); omega
    rw [z1, z2]; rfl
  simp only [oc_en]
  rw [oc_fd_cc G, if_pos (by omega), oc_fd_app, Nat.add_comm (ot_nc (V f i)) 1]
  have z2 : oc_fd (oc_en (K f) (V f) (C f) m (C f i (ot_nc (V f i))) (a + oc_ca (K f) (V f) (C f) m i (cx.map Prod.fst) (ot_nc (V f i))) ((i, ot_nc (V f i)) :: (cx.map Prod.fst))) x = none := by
    cases e1 : oc_fd (oc_en (K f) (V f) (C f) m (C f i (ot_nc (V f i))) (a + oc_ca (K f) (V f) (C f) m i (cx.map Prod.fst) (ot_nc (V f i))) ((i, ot_nc (V f i)) :: (cx.map Prod.fst))) x with
    | none => rfl
    | some h => have := oc_en_in (K f) (V f) (C f) m _ _ _ _ _ e1; omega
  rw [z2]; rfl
/-- the finally part, with the place t to go on -/
theorem ox_fin (PR : ∀ g, g < 4 → ox_PR z K V C L Q B g) (S : ox_S post z K V C L Q n) (hf : f < 4) (hL : L f ≠ 0) (hcs : cs.length < 12) (htot : ox_tot cs ≤ 40 * cs.length) (H : ox_H z K V C L Q f i (m + 1) a w cx hd) (k : K f i = 17) (hc : ot_cl (V f i) = true) {c1 c3 : oe_C} {o3 : oe_O} (hc1 : c1.2.1 ≤ 300) (e3 : oe_ev K V C L n f (cs.length + 1) (C f i (1 + ot_nc (V f i))) c1 = some (o3, c3)) {lw1 : Nat → Int32} (hl : ox_lwc lw lw1 c1.1 w (w + oc_wn (K f) (V f) (C f) (m + 1) i (cx.map Prod.fst))) {t : Nat} (ht : lw1 w = nI t)
    (NN : o3.1 ≠ 0 → ox_K post z (K f) (V f) f b cs hd cx w (w + oc_wn (K f) (V f) (C f) (m + 1) i (cx.map Prod.fst)) (a + oc_ln (K f) (V f) (C f) (m + 1) i (cx.map Prod.fst)) [] false lw o3 c3)
    (N : o3.1 = 0 → ∀ lw2 kd vl, (∀ u, u < 6 → lw2 u = c3.1 u) → (∀ u, 6 ≤ u → u < 80 → (u < w + oc_wa (K f) (V f) (C f) m i (cx.map Prod.fst) (1 + ot_nc (V f i)) ∨ w + oc_wn (K f) (V f) (C f) (m + 1) i (cx.map Prod.fst) ≤ u) → lw2 u = lw1 u) → ox_A post z (520 * f + t) ((f, b, lw2, []) :: cs) c3.2.1 c3.2.2.1 kd vl c3.2.2.2) :
    ox_A post z (520 * f + (a + oc_ca (K f) (V f) (C f) m i (cx.map Prod.fst) (1 + ot_nc (V f i)))) ((f, b, lw1, []) :: cs) c1.2.1 c1.2.2.1 kd vl c1.2.2.2 := by
  obtain ⟨W, hN, BD, T⟩ := ox_W PR hf hL H.1
  obtain ⟨t0, t1, t2, t3, t4, t5, t6⟩ := ox_tn (m := m) (cx := cx) (C := C) (V := V) k
  obtain ⟨s1, s2, s3⟩ := t3 hc
  have P := (ox_tp k H.2.2.2.1).2.2 hc
  obtain ⟨⟨p5, p1, _, p2⟩, _⟩ := P.2
  have Hc := ox_Hc (hd' := hd) W H (o := 1 + ot_nc (V f i)) (by omega) (fun x _ _ => by rw [if_neg (by omega)]; rfl)
  have so1 : ot_so (K f (C f i (1 + ot_nc (V f i)))) = 1 := by rw [(W.2.1 _ (by omega)).2.2.1, k]; simp only [ot_wa]; rw [if_neg (by omega)]
  have k18 : K f (C f i (1 + ot_nc (V f i))) ≠ 18 := by intro e; rw [e] at so1; exact absurd so1 (by decide)
  have h6 := H.2.2.2.2.1
  have h8 := H.2.2.2.2.2.1
  have hs := oc_wa_s (K f) (V f) (C f) m i (cx.map Prod.fst) (1 + ot_nc (V f i))
  have hle : oc_wa (K f) (V f) (C f) m i (cx.map Prod.fst) 1 ≤ oc_wa (K f) (V f) (C f) m i (cx.map Prod.fst) (1 + ot_nc (V f i)) := oc_wa_le (by omega)
  have hle0 : oc_wa (K f) (V f) (C f) m i (cx.map Prod.fst) 0 ≤ oc_wa (K f) (V f) (C f) m i (cx.map Prod.fst) 1 := oc_wa_le (by omega)
  have w3 := t5 hc
  rw [s1] at t6
  have G := S f (C f i (1 + ot_nc (V f i))) c1 o3 c3 b cs hf hL hc1 hcs htot e3 m _ _ _ hd lw1 [] kd vl Hc (by simp) (fun _ => rfl) hl.1 ?_
  · rw [if_neg k18] at G
    exact G
  · refine ox_Kp NN hl.2 (by omega) ?_ ?_ ?_ ?_
    · show w + oc_wa (K f) (V f) (C f) m i (cx.map Prod.fst) (1 + ot_nc (V f i)) + oc_wn (K f) (V f) (C f) m (C f i (1 + ot_nc (V f i))) ((i, (1 + ot_nc (V f i))) :: cx.map Prod.fst) ≤ _
      omega
    · unfold oc_cln; exact decide_eq_false (fun e => by omega)
    · intro _; unfold oc_tgt; exact decide_eq_false (fun e => by omega)
    · intro h0 lw2 kd vl h2
      have so0 : ¬ ot_so (K f (C f i (1 + ot_nc (V f i)))) = 0 := by omega
      simp only [decide_eq_true_eq, if_neg so0]
      have h2' : ox_lwc lw1 lw2 c3.1 (w + oc_wa (K f) (V f) (C f) m i (cx.map Prod.fst) (1 + ot_nc (V f i))) (w + oc_wa (K f) (V f) (C f) m i (cx.map Prod.fst) (1 + ot_nc (V f i)) + oc_wn (K f) (V f) (C f) m (C f i (1 + ot_nc (V f i))) ((i, (1 + ot_nc (V f i))) :: cx.map Prod.fst)) := h2
      have E2 : 520 * f + (a + oc_ca (K f) (V f) (C f) m i (cx.map Prod.fst) (1 + ot_nc (V f i)) + oc_ln (K f) (V f) (C f) m (C f i (1 + ot_nc (V f i))) ((oc_fr (K f) (V f) (C f) m i a w cx (1 + ot_nc (V f i)) :: cx).map Prod.fst)) = 520 * f + (a + oc_ca (K f) (V f) (C f) m i (cx.map Prod.fst) (1 + ot_nc (V f i) + 1)) := by
        show 520 * f + (a + oc_ca (K f) (V f) (C f) m i (cx.map Prod.fst) (1 + ot_nc (V f i)) + oc_ln (K f) (V f) (C f) m (C f i (1 + ot_nc (V f i))) ((i, (1 + ot_nc (V f i))) :: cx.map Prod.fst)) = _
        omega
      rw [E2]
      have lw_w : lw2 w = nI t := by rw [h2'.2 w (by omega) (by omega) (by omega)]; exact ht
      exact ox_on p1 p2 (by omega) lw_w (by omega) hcs (N h0 lw2 kd vl h2'.1 (fun u g6 g8 g => h2'.2 u g6 g8 (by omega)))
/-- whatever was thrown is kept, the finally part runs, it is thrown anew -/
theorem ox_thr (PR : ∀ g, g < 4 → ox_PR z K V C L Q B g) (S : ox_S post z K V C L Q n) (hf : f < 4) (hL : L f ≠ 0) (hcs : cs.length < 12) (htot : ox_tot cs ≤ 40 * cs.length) (H : ox_H z K V C L Q f i (m + 1) a w cx hd) (k : K f i = 17) (hc : ot_cl (V f i) = true) {c1 : oe_C} {o1 : oe_O} (hc1 : c1.2.1 ≤ 300) (h4 : o1.1 = 4) (hq : ∃ q : Nat, q < 4 ∧ o1.2.1 = nI q) (h : oe_fin V C (fun f d i c => oe_ev K V C L n f d i c) f (cs.length + 1) i o1 c1 = some (o, c'))
    (KK : ox_K post z (K f) (V f) f b cs hd cx w (w + oc_wn (K f) (V f) (C f) (m + 1) i (cx.map Prod.fst)) (a + oc_ln (K f) (V f) (C f) (m + 1) i (cx.map Prod.fst)) [] false lw o c') {lw1 : Nat → Int32} (hl : ox_lwc lw lw1 c1.1 w (w + oc_wn (K f) (V f) (C f) (m + 1) i (cx.map Prod.fst))) :
    ox_A post z (520 * f + ((a + oc_ca (K f) (V f) (C f) m i (cx.map Prod.fst) (1 + ot_nc (V f i))) - 4)) ((f, b, lw1, []) :: cs) c1.2.1 c1.2.2.1 o1.2.1 o1.2.2 c1.2.2.2 := by
  obtain ⟨W, hN, BD, T⟩ := ox_W PR hf hL H.1
  obtain ⟨t0, t1, t2, t3, t4, t5, t6⟩ := ox_tn (m := m) (cx := cx) (C := C) (V := V) k
  obtain ⟨s1, s2, s3⟩ := t3 hc
  obtain ⟨⟨p5, p1, p2, _⟩, ⟨q5, q1, q2, q3⟩, ⟨r5, r1, r2, _⟩, ⟨u5, u1, u2, _⟩, _⟩ := ((ox_tp k H.2.2.2.1).2.2 hc).1
  have h6 := H.2.2.2.2.1
  have h8 := H.2.2.2.2.2.1
  have hs := oc_wa_s (K f) (V f) (C f) m i (cx.map Prod.fst) (1 + ot_nc (V f i))
  have hle : oc_wa (K f) (V f) (C f) m i (cx.map Prod.fst) 1 ≤ oc_wa (K f) (V f) (C f) m i (cx.map Prod.fst) (1 + ot_nc (V f i)) := oc_wa_le (by omega)
  have hle0 : oc_wa (K f) (V f) (C f) m i (cx.map Prod.fst) 0 ≤ oc_wa (K f) (V f) (C f) m i (cx.map Prod.fst) 1 := oc_wa_le (by omega)
  have w3 := t5 hc
  rw [s1] at t6
  unfold oe_fin at h
  rw [if_neg (by rw [hc]; simp; omega)] at h
  obtain ⟨o3, c3, e3, h⟩ := oe_Bi h
  have q4 : 4 ≤ (a + oc_ca (K f) (V f) (C f) m i (cx.map Prod.fst) (1 + ot_nc (V f i))) := by rw [if_pos hc] at t2; omega
  refine ox_keep p1 p2 (by omega) (by omega) hcs ?_
  refine ox_next (a := nI ((a + oc_ca (K f) (V f) (C f) m i (cx.map Prod.fst) (1 + ot_nc (V f i))) - 1)) q1 q2 q3 (by omega) (by omega) hcs ?_
  refine ox_goes r1 r2 (by omega) hcs ?_
  refine ox_fin PR S hf hL hcs htot H k hc hc1 e3 (t := (a + oc_ca (K f) (V f) (C f) m i (cx.map Prod.fst) (1 + ot_nc (V f i))) - 1) (lw := lw) ⟨fun u hu => ?_, fun u g6 g8 g => ?_⟩ pk_us (fun h0 => ?_) (fun h0 lw2 kd vl v1 v2 => ?_)
  · rw [pk_un (by omega), pk_un (by omega), pk_un (by omega)]; exact hl.1 u hu
  · rw [pk_un (by omega), pk_un (by omega), pk_un (by omega)]; exact hl.2 u g6 g8 g
  · rw [if_neg h0] at h; cases h; exact KK
  · rw [if_pos h0] at h; cases h
    have z1 : lw2 (w + 1) = o.2.1 := by rw [v2 (w + 1) (by omega) (by omega) (by omega), pk_un (by omega), pk_un (by omega), pk_us]
    have z2 : lw2 (w + 1 + 1) = o.2.2 := by rw [v2 (w + 1 + 1) (by omega) (by omega) (by omega), pk_un (by omega), pk_us]
    have e4 : (a + oc_ca (K f) (V f) (C f) m i (cx.map Prod.fst) (1 + ot_nc (V f i))) - 4 + 1 + 1 + 1 = (a + oc_ca (K f) (V f) (C f) m i (cx.map Prod.fst) (1 + ot_nc (V f i))) - 1 := by omega
    rw [e4] at u5 u1 u2
    refine ox_again (w := w + 1) u1 u2 (by omega) (by omega) hcs ?_
    rw [z1, z2]
    have fd : oc_fd (oc_en (K f) (V f) (C f) 40 0 0 []) ((a + oc_ca (K f) (V f) (C f) m i (cx.map Prod.fst) (1 + ot_nc (V f i))) - 1) = hd := by
      rw [ox_tb k H (by rw [if_pos hc] at t2; omega) (by omega), oc_own_v k, if_neg (by have := oc_ca_le (K f) (V f) (C f) (m := m) (i := i) (p := (cx.map Prod.fst)) (o := 0) (o' := ot_nc (V f i)) (by omega); have := oc_try_ca (K f) (V f) (C f) (m := m) (p := (cx.map Prod.fst)) k; have := this.2.2 hc; omega), if_neg (by omega)]; rfl
    refine ox_rf T fd u5 hcs KK h4 hq ⟨v1, fun u g6 g8 g => ?_⟩
    rw [v2 u g6 g8 (by omega), pk_un (by omega), pk_un (by omega), pk_un (by omega)]; exact hl.2 u g6 g8 g
theorem oc_rt0 {K : Nat → Nat} {V : Nat → Int32} {own : Nat} : ∀ {cx : oc_X} {pc : Nat}, oc_cr K V (cx.map Prod.fst) = 0 → oc_rt K V own pc cx = [(1, nI own, 0, 0), (21, 0, 0, 0)]
  | [], _, _ => rfl
  | ((t, o), s, e, w, q) :: r, pc, h => by
    simp only [List.map_cons, oc_cr] at h
    simp only [oc_rt]
    by_cases h1 : oc_cln K V t o = true
    · rw [if_pos h1] at h; omega
    · rw [if_neg h1] at h ⊢; exact oc_rt0 (by omega)
/-- what the protected parts of a TRY with a finally part ask -/
theorem ox_pkc (PR : ∀ g, g < 4 → ox_PR z K V C L Q B g) (S : ox_S post z K V C L Q n) (hf : f < 4) (hL : L f ≠ 0) (hcs : cs.length < 12) (htot : ox_tot cs ≤ 40 * cs.length) (H : ox_H z K V C L Q f i (m + 1) a w cx hd) (k : K f i = 17) (hc : ot_cl (V f i) = true) {c1 : oe_C} {o1 : oe_O} (hc1 : c1.2.1 ≤ 300) (h : oe_fin V C (fun f d i c => oe_ev K V C L n f d i c) f (cs.length + 1) i o1 c1 = some (o, c')) (KK : ox_K post z (K f) (V f) f b cs hd cx w (w + oc_wn (K f) (V f) (C f) (m + 1) i (cx.map Prod.fst)) (a + oc_ln (K f) (V f) (C f) (m + 1) i (cx.map Prod.fst)) [] false lw o c')
    {op : Nat} (hop : op ≤ ot_nc (V f i)) {lw1 : Nat → Int32} (hl : ∀ u, 6 ≤ u → u < 80 → (u < w ∨ w + oc_wn (K f) (V f) (C f) (m + 1) i (cx.map Prod.fst) ≤ u) → lw1 u = lw u) {hdx : Option Nat}
    (T1 : o1.1 = 4 → (∃ q : Nat, q < 4 ∧ o1.2.1 = nI q) → ∀ lw', ox_lwc lw lw' c1.1 w (w + oc_wn (K f) (V f) (C f) (m + 1) i (cx.map Prod.fst)) → ∀ h, hdx = some h → ox_A post z (520 * f + h) ((f, b, lw', []) :: cs) c1.2.1 c1.2.2.1 o1.2.1 o1.2.2 c1.2.2.2)
    (T2 : o1.1 = 4 → (∃ q : Nat, q < 4 ∧ o1.2.1 = nI q) → hdx = none → ox_Z post z o1.2.1 o1.2.2 (b - 1) cs c1.2.1 c1.2.2.1 c1.2.2.2) :
    ox_K post z (K f) (V f) f b cs hdx (oc_fr (K f) (V f) (C f) m i a w cx op :: cx) (w + oc_wa (K f) (V f) (C f) m i (cx.map Prod.fst) op) (w + oc_wa (K f) (V f) (C f) m i (cx.map Prod.fst) op + oc_wn (K f) (V f) (C f) m (C f i op) ((i, op) :: cx.map Prod.fst)) (a + oc_ca (K f) (V f) (C f) m i (cx.map Prod.fst) op + oc_ln (K f) (V f) (C f) m (C f i op) ((i, op) :: cx.map Prod.fst)) [] false lw1 o1 c1 := by
  obtain ⟨t0, t1, t2, t3, t4, t5, t6⟩ := ox_tn (m := m) (cx := cx) (C := C) (V := V) k
  obtain ⟨s1, s2, s3⟩ := t3 hc
  have LV := (ox_tp k H.2.2.2.1).1 op hop
  unfold oc_lv at LV
  rw [if_pos hc] at LV
  obtain ⟨⟨p5, p1, p2, p3⟩, ⟨q5, q1, q2, _⟩, _⟩ := LV
  have h6 := H.2.2.2.2.1
  have h8 := H.2.2.2.2.2.1
  have hs := oc_wa_s (K f) (V f) (C f) m i (cx.map Prod.fst) op
  have hle : oc_wa (K f) (V f) (C f) m i (cx.map Prod.fst) (op + 1) ≤ oc_wa (K f) (V f) (C f) m i (cx.map Prod.fst) (1 + ot_nc (V f i)) := oc_wa_le (by omega)
  have hle0 : oc_wa (K f) (V f) (C f) m i (cx.map Prod.fst) 0 ≤ oc_wa (K f) (V f) (C f) m i (cx.map Prod.fst) op := oc_wa_le (by omega)
  have hle2 : oc_wa (K f) (V f) (C f) m i (cx.map Prod.fst) (1 + ot_nc (V f i)) ≤ oc_wa (K f) (V f) (C f) m i (cx.map Prod.fst) (1 + ot_nc (V f i) + 1) := oc_wa_le (by omega)
  have w3 := t5 hc
  rw [s1] at t6
  have cln : oc_cln (K f) (V f) i op = true := by unfold oc_cln; exact decide_eq_true ⟨k, hc, hop⟩
  have tgt : ∀ l, oc_tgt (K f) (V f) l i op = false := by intro l; unfold oc_tgt; exact decide_eq_false (fun e => by omega)
  have sub : ∀ {lw'} , ox_lwc lw1 lw' c1.1 (w + oc_wa (K f) (V f) (C f) m i (cx.map Prod.fst) op) (w + oc_wa (K f) (V f) (C f) m i (cx.map Prod.fst) op + oc_wn (K f) (V f) (C f) m (C f i op) ((i, op) :: cx.map Prod.fst)) → ox_lwc lw lw' c1.1 w (w + oc_wn (K f) (V f) (C f) (m + 1) i (cx.map Prod.fst)) := fun h2 => ox_lwc_tr hl (by omega) (by omega) h2
  -- the finally part, entered with word w = t
  have FIN : o1.1 ≠ 5 → ∀ (lw' : Nat → Int32) (t : Nat) (kd vl : Int32), ox_lwc lw1 lw' c1.1 (w + oc_wa (K f) (V f) (C f) m i (cx.map Prod.fst) op) (w + oc_wa (K f) (V f) (C f) m i (cx.map Prod.fst) op + oc_wn (K f) (V f) (C f) m (C f i op) ((i, op) :: cx.map Prod.fst)) →
      (o.1 = o1.1 → o.2 = o1.2 → ∀ lw2 kd vl, ox_lwc lw lw2 c'.1 w (w + oc_wn (K f) (V f) (C f) (m + 1) i (cx.map Prod.fst)) → (∀ u, w + oc_wa (K f) (V f) (C f) m i (cx.map Prod.fst) op ≤ u → u < w + oc_wa (K f) (V f) (C f) m i (cx.map Prod.fst) op + oc_wn (K f) (V f) (C f) m (C f i op) ((i, op) :: cx.map Prod.fst) → lw2 u = lw' u) → ox_A post z (520 * f + t) ((f, b, lw2, []) :: cs) c'.2.1 c'.2.2.1 kd vl c'.2.2.2) →
      ox_A post z (520 * f + (a + oc_ca (K f) (V f) (C f) m i (cx.map Prod.fst) (1 + ot_nc (V f i)))) ((f, b, upd lw' w (nI t), []) :: cs) c1.2.1 c1.2.2.1 kd vl c1.2.2.2 := by
    intro h5 lw' t kd vl h2 N
    unfold oe_fin at h
    rw [if_neg (by rw [hc]; simp; omega)] at h
    obtain ⟨o3, c3, e3, h⟩ := oe_Bi h
    refine ox_fin PR S hf hL hcs htot H k hc hc1 e3 (t := t) (lw := lw) ⟨fun u hu => ?_, fun u g6 g8 g => ?_⟩ pk_us (fun h0 => ?_) (fun h0 lw2 kd vl v1 v2 => ?_)
    · rw [pk_un (by omega)]; exact h2.1 u hu
    · rw [pk_un (by omega)]; exact (sub h2).2 u g6 g8 g
    · rw [if_neg h0] at h; cases h; exact KK
    · rw [if_pos h0] at h; cases h
      refine N rfl rfl lw2 kd vl ⟨v1, fun u g6 g8 g => ?_⟩ (fun u g1 g2 => ?_)
      · rw [v2 u g6 g8 (by omega), pk_un (by omega)]; exact (sub h2).2 u g6 g8 g
      · rw [v2 u (by omega) (by omega) (by omega), pk_un (by omega)]
  refine ⟨fun q0 lw' kd vl h2 => ?_, fun g1 gj lw' kd vl pc h2 A9 => ?_, fun _ g0 => ?_, fun g3 _ lw' kd vl pc own h2 A9 v1 v2 v3 => ?_, fun g4 gq lw' h2 hh e => T1 g4 gq lw' (sub h2) hh e, T2, fun g5 => ?_⟩
  · refine ox_next (a := nI (a + oc_ln (K f) (V f) (C f) (m + 1) i (cx.map Prod.fst))) p1 p2 p3 (by omega) (by omega) hcs ?_
    refine ox_goes q1 q2 (by omega) hcs (FIN (by omega) lw' _ kd vl h2 (fun eo eo2 lw2 kd vl l2 _ => ?_))
    exact KK.1 (by omega) lw2 kd vl l2
  · simp only [oc_fr, oc_jp, tgt, cln] at A9
    simp only [Bool.false_eq_true, if_false, if_true] at A9
    obtain ⟨⟨r5, r1, r2, r3⟩, ⟨u5, u1, u2, _⟩, A8⟩ := A9
    refine ox_next (a := nI (pc + 2)) r1 r2 r3 (by omega) (by omega) hcs ?_
    refine ox_goes u1 u2 (by omega) hcs (FIN (by omega) lw' _ kd vl h2 (fun eo eo2 lw2 kd vl l2 _ => ?_))
    refine KK.2.1 (by omega) ?_ lw2 kd vl (pc + 2) l2 (by rw [eo, eo2]; exact A8)
    rw [eo2]
    intro e
    apply gj
    simp only [oc_fr, List.map_cons, oc_cj, tgt, e]; rfl
  · exfalso
    simp only [oc_fr, List.map_cons, oc_cr, cln] at g0
    simp at g0
  · simp only [oc_fr, oc_rt, cln, if_true] at A9
    obtain ⟨⟨r5, r1, r2, r3⟩, ⟨u5, u1, u2, _⟩, A8⟩ := A9
    refine ox_next (a := nI (pc + 2)) r1 r2 r3 (by omega) (by omega) hcs ?_
    refine ox_goes u1 u2 (by omega) hcs (FIN (by omega) lw' _ kd vl h2 (fun eo eo2 lw2 kd vl l2 l3 => ?_))
    have lo : lw2 own = o.2.1 := by rw [l3 own v2 v3, v1, eo2]
    by_cases g9 : oc_cr (K f) (V f) (cx.map Prod.fst) = 0
    · rw [oc_rt0 g9] at A8
      obtain ⟨⟨x5, x1, x2, _⟩, A7⟩ := A8
      refine ox_var x1 x2 (by omega) (by omega) hcs (by simp; omega) ?_
      rw [lo]
      exact KK.2.2.1 (by omega) g9 lw2 kd vl (pc + 2 + 1) l2 A7
    · exact KK.2.2.2.1 (by omega) g9 lw2 kd vl (pc + 2) own l2 A8 lo (by omega) (by omega)
  · unfold oe_fin at h
    rw [if_pos (Or.inl g5)] at h; cases h
    exact KK.2.2.2.2.2.2 g5
end
end
section
/-! ===== X runs the code: TRY, and all together ===== -/
section
variable {post : Int32 → SX → Prop} {z : SX} {K : Nat → Nat → Nat} {V : Nat → Nat → Int32} {C : Nat → Nat → Nat → Nat} {L : Nat → Nat} {Q : Nat → Nat → oc_P} {B : Nat → Nat → Nat}
variable {n f i : Nat} {c c' : oe_C} {o : oe_O} {b : Int32} {cs : List ox_F} {m a w : Nat} {cx : oc_X} {hd : Option Nat} {lw : Nat → Int32} {os : List Int32} {kd vl : Int32}
/-- what the protected parts of a TRY ask -/
theorem ox_pk (PR : ∀ g, g < 4 → ox_PR z K V C L Q B g) (S : ox_S post z K V C L Q n) (hf : f < 4) (hL : L f ≠ 0) (hcs : cs.length < 12) (htot : ox_tot cs ≤ 40 * cs.length) (H : ox_H z K V C L Q f i (m + 1) a w cx hd) (k : K f i = 17) {c1 : oe_C} {o1 : oe_O} (hc1 : c1.2.1 ≤ 300) (h : oe_fin V C (fun f d i c => oe_ev K V C L n f d i c) f (cs.length + 1) i o1 c1 = some (o, c')) (KK : ox_K post z (K f) (V f) f b cs hd cx w (w + oc_wn (K f) (V f) (C f) (m + 1) i (cx.map Prod.fst)) (a + oc_ln (K f) (V f) (C f) (m + 1) i (cx.map Prod.fst)) [] false lw o c')
    {op : Nat} (hop : op ≤ ot_nc (V f i)) {lw1 : Nat → Int32} (hl : ∀ u, 6 ≤ u → u < 80 → (u < w ∨ w + oc_wn (K f) (V f) (C f) (m + 1) i (cx.map Prod.fst) ≤ u) → lw1 u = lw u) {hdx : Option Nat}
    (T1 : o1.1 = 4 → (∃ q : Nat, q < 4 ∧ o1.2.1 = nI q) → ∀ lw', ox_lwc lw lw' c1.1 w (w + oc_wn (K f) (V f) (C f) (m + 1) i (cx.map Prod.fst)) → ∀ h, hdx = some h → ox_A post z (520 * f + h) ((f, b, lw', []) :: cs) c1.2.1 c1.2.2.1 o1.2.1 o1.2.2 c1.2.2.2)
    (T2 : o1.1 = 4 → (∃ q : Nat, q < 4 ∧ o1.2.1 = nI q) → hdx = none → ox_Z post z o1.2.1 o1.2.2 (b - 1) cs c1.2.1 c1.2.2.1 c1.2.2.2) :
    ox_K post z (K f) (V f) f b cs hdx (oc_fr (K f) (V f) (C f) m i a w cx op :: cx) (w + oc_wa (K f) (V f) (C f) m i (cx.map Prod.fst) op) (w + oc_wa (K f) (V f) (C f) m i (cx.map Prod.fst) op + oc_wn (K f) (V f) (C f) m (C f i op) ((i, op) :: cx.map Prod.fst)) (a + oc_ca (K f) (V f) (C f) m i (cx.map Prod.fst) op + oc_ln (K f) (V f) (C f) m (C f i op) ((i, op) :: cx.map Prod.fst)) [] false lw1 o1 c1 := by
  by_cases hc : ot_cl (V f i) = true
  · exact ox_pkc PR S hf hL hcs htot H k hc hc1 h KK hop hl T1 T2
  · have hcf : ot_cl (V f i) = false := by cases e : ot_cl (V f i) with | true => exact absurd e hc | false => rfl
    obtain ⟨t0, t1, t2, t3, t4, t5, t6⟩ := ox_tn (m := m) (cx := cx) (C := C) (V := V) k
    obtain ⟨s1, s2⟩ := t4 hcf
    have LV := (ox_tp k H.2.2.2.1).1 op hop
    unfold oc_lv at LV
    rw [if_neg hc] at LV
    obtain ⟨⟨p5, p1, p2, _⟩, _⟩ := LV
    have hs := oc_wa_s (K f) (V f) (C f) m i (cx.map Prod.fst) op
    have hle : oc_wa (K f) (V f) (C f) m i (cx.map Prod.fst) (op + 1) ≤ oc_wa (K f) (V f) (C f) m i (cx.map Prod.fst) (1 + ot_nc (V f i)) := oc_wa_le (by omega)
    rw [s1] at t6
    unfold oe_fin at h
    rw [if_pos (Or.inr hcf)] at h
    cases h
    have hf4 := hf
    have sub : ∀ {lw'} , ox_lwc lw1 lw' c'.1 (w + oc_wa (K f) (V f) (C f) m i (cx.map Prod.fst) op) (w + oc_wa (K f) (V f) (C f) m i (cx.map Prod.fst) op + oc_wn (K f) (V f) (C f) m (C f i op) ((i, op) :: cx.map Prod.fst)) → ox_lwc lw lw' c'.1 w (w + oc_wn (K f) (V f) (C f) (m + 1) i (cx.map Prod.fst)) := fun h2 => ox_lwc_tr hl (by omega) (by omega) h2
    have P : ox_K post z (K f) (V f) f b cs hd (oc_fr (K f) (V f) (C f) m i a w cx op :: cx) (w + oc_wa (K f) (V f) (C f) m i (cx.map Prod.fst) op) (w + oc_wa (K f) (V f) (C f) m i (cx.map Prod.fst) op + oc_wn (K f) (V f) (C f) m (C f i op) ((i, op) :: cx.map Prod.fst)) (a + oc_ca (K f) (V f) (C f) m i (cx.map Prod.fst) op + oc_ln (K f) (V f) (C f) m (C f i op) ((i, op) :: cx.map Prod.fst)) [] false lw1 o c' := by
      refine ox_Kp (fun _ => KK) hl (by omega) (by omega) ?_ ?_ ?_
      · unfold oc_cln; exact decide_eq_false (fun e => hc e.2.1)
      · intro _; unfold oc_tgt; exact decide_eq_false (fun e => by omega)
      · intro h0 lw' kd vl h2
        exact ox_goes p1 p2 (by omega) hcs (KK.1 h0 lw' kd vl (sub h2))
    exact ⟨P.1, P.2.1, P.2.2.1, P.2.2.2.1, fun g4 gq lw' h2 hh e => T1 g4 gq lw' (sub h2) hh e, T2, P.2.2.2.2.2.2⟩
/-- the numbers of a catch -/
theorem ot_k2 {t : Nat} {K : Nat → Nat} (h : ot_so (K t) = 2) : K t = 18 := by
  unfold ot_so at h
  split at h
  · cases h
  · split at h
    · assumption
    · cases h
theorem ot_v18 {v : Int32} (h : ot_ok 18 v) : ∃ n : Nat, n < 48 ∧ n % 8 < 5 ∧ v = nI n ∧ (v &&& 7) = nI (n % 8) ∧ v >>> ((3 : Int32) &&& 31) = nI (n / 8) := by
  obtain ⟨n, h1, h2, h3⟩ := h.2.2.2.2.2 rfl
  refine ⟨n, h1, h2, h3, ?_, ?_⟩
  · rw [h3]; exact pk_andN (by omega) 3 (by decide)
  · rw [h3]; exact pk_shrN (by omega) _ 3 (by decide)
/-- the test of catch op -/
theorem ox_tcat (PR : ∀ g, g < 4 → ox_PR z K V C L Q B g) (S : ox_S post z K V C L Q n) (hf : f < 4) (hL : L f ≠ 0) (hcs : cs.length < 12) (htot : ox_tot cs ≤ 40 * cs.length) (H : ox_H z K V C L Q f i (m + 1) a w cx hd) (k : K f i = 17) {op : Nat} (h1 : 1 ≤ op) (h2 : op ≤ ot_nc (V f i)) {lw1 : Nat → Int32} {st sy : Nat} {kx vx : Int32} {ou : Nat → Int32}
    (YES : oe_for V f (C f i op) kx = true → ∀ w0, w0 < 6 → V f (C f i op) >>> ((3 : Int32) &&& 31) = nI w0 → ox_A post z (520 * f + (a + oc_ca (K f) (V f) (C f) m i (cx.map Prod.fst) op + 1)) ((f, b, upd lw1 w0 vx, []) :: cs) st sy kx vx ou)
    (NO : oe_for V f (C f i op) kx = false → ox_A post z (520 * f + (a + oc_ca (K f) (V f) (C f) m i (cx.map Prod.fst) op + oc_ln (K f) (V f) (C f) m (C f i op) ((i, op) :: cx.map Prod.fst) + oc_gl (V f i))) ((f, b, lw1, []) :: cs) st sy kx vx ou) :
    ox_A post z (520 * f + (a + oc_ca (K f) (V f) (C f) m i (cx.map Prod.fst) op)) ((f, b, lw1, []) :: cs) st sy kx vx ou := by
  obtain ⟨W, hN, BD, T⟩ := ox_W PR hf hL H.1
  have np : ot_np (K f i) (V f i) = 1 + ot_nc (V f i) + (if ot_cl (V f i) = true then 1 else 0) := by rw [k]; rfl
  obtain ⟨c1, c2, c3, _⟩ := W.2.1 op (by omega)
  rw [k] at c3
  simp only [ot_wa] at c3
  rw [if_pos ⟨by omega, h2⟩] at c3
  have k18 := ot_k2 c3
  have W2 := (ox_W PR hf hL c2).1
  have ok2 := W2.1
  rw [k18] at ok2
  obtain ⟨qn, q1, q2, q3, q4, q5⟩ := ot_v18 ok2
  have A := ((oc_sub (K f) (V f) (C f) H.2.2.2.1).2.1 op (by omega)).1
  have hm : 1 ≤ m := by have := H.2.1; omega
  obtain ⟨m', rfl⟩ : ∃ m', m = m' + 1 := ⟨m - 1, by omega⟩
  have A2 := (oc_sub (K f) (V f) (C f) A).1
  simp only [oc_bg, k18] at A2
  obtain ⟨⟨p5, p1, p2, p3⟩, _⟩ := A2
  have p3' : oa_y z (520 * f + (a + oc_ca (K f) (V f) (C f) (m' + 1) i (cx.map Prod.fst) op)) = V f (C f i op) := p3
  have p2' : oa_x z (520 * f + (a + oc_ca (K f) (V f) (C f) (m' + 1) i (cx.map Prod.fst) op)) = nI (a + oc_ca (K f) (V f) (C f) (m' + 1) i (cx.map Prod.fst) op + oc_ln (K f) (V f) (C f) (m' + 1) (C f i op) ((i, op) :: (cx.map Prod.fst)) + oc_gl (V f i)) := p2
  by_cases hfor : oe_for V f (C f i op) kx = true
  · have hf2 : (V f (C f i op) &&& 7) = 4 ∨ (V f (C f i op) &&& 7) = kx := of_decide_eq_true hfor
    refine ox_catch_yes (w := qn / 8) p1 ?_ (by omega) (by rw [p3']; exact q5) (by omega) hcs (YES hfor (qn / 8) (by omega) q5)
    rw [p3']
    rcases hf2 with e | e
    · left; rw [e]; decide
    · exact Or.inr e
  · have hfor' : oe_for V f (C f i op) kx = false := by cases e : oe_for V f (C f i op) kx with | true => exact absurd e hfor | false => rfl
    have hf2 : ¬ ((V f (C f i op) &&& 7) = 4 ∨ (V f (C f i op) &&& 7) = kx) := of_decide_eq_false hfor'
    refine ox_catch_no p1 p2' ?_ ?_ (by omega) hcs (NO hfor')
    · rw [p3', q4]
      refine nI_ge (b := 4) ?_ (by omega)
      have : ¬ qn % 8 = 4 := by
        intro e; apply hf2; left; rw [q4, e]; rfl
      omega
    · rw [p3']; exact fun e => hf2 (Or.inr e)
/-- catch op is taken -/
theorem ox_tyes (PR : ∀ g, g < 4 → ox_PR z K V C L Q B g) (S : ox_S post z K V C L Q n) (hf : f < 4) (hL : L f ≠ 0) (hcs : cs.length < 12) (htot : ox_tot cs ≤ 40 * cs.length) (H : ox_H z K V C L Q f i (m + 1) a w cx hd) (k : K f i = 17) {op : Nat} (h1 : 1 ≤ op) (h2 : op ≤ ot_nc (V f i)) {c0 c1 : oe_C} {o1 : oe_O} (hc0 : c0.2.1 ≤ 300) (e : oe_ev K V C L n f (cs.length + 1) (C f i op) c0 = some (o1, c1)) (h : oe_fin V C (fun f d i c => oe_ev K V C L n f d i c) f (cs.length + 1) i o1 c1 = some (o, c')) (KK : ox_K post z (K f) (V f) f b cs hd cx w (w + oc_wn (K f) (V f) (C f) (m + 1) i (cx.map Prod.fst)) (a + oc_ln (K f) (V f) (C f) (m + 1) i (cx.map Prod.fst)) [] false lw o c') {lw1 : Nat → Int32} (hl : ox_lwc lw lw1 c0.1 w (w + oc_wn (K f) (V f) (C f) (m + 1) i (cx.map Prod.fst))) :
    ox_A post z (520 * f + (a + oc_ca (K f) (V f) (C f) m i (cx.map Prod.fst) op + 1)) ((f, b, lw1, []) :: cs) c0.2.1 c0.2.2.1 kd vl c0.2.2.2 := by
  obtain ⟨W, hN, BD, T⟩ := ox_W PR hf hL H.1
  obtain ⟨t0, t1, t2, t3, t4, t5, t6⟩ := ox_tn (m := m) (cx := cx) (C := C) (V := V) k
  have np : ot_np (K f i) (V f i) = 1 + ot_nc (V f i) + (if ot_cl (V f i) = true then 1 else 0) := by rw [k]; rfl
  obtain ⟨p1, p2, p3, _⟩ := W.2.1 op (by omega)
  rw [k] at p3
  simp only [ot_wa] at p3
  rw [if_pos ⟨by omega, h2⟩] at p3
  have k18 := ot_k2 p3
  have so0 : decide (ot_so (K f (C f i op)) = 0) = false := by rw [p3]; rfl
  have MV := oe_mvs K V C L Q B (fun g hg hLg => ((PR g hg).2 hLg).1) n
  have m1 := MV f _ _ _ _ _ hf hL p2 hc0 e
  have le0 := oc_ca_le (K f) (V f) (C f) (m := m) (i := i) (p := (cx.map Prod.fst)) (o := 1) (o' := op) h1
  have le1 := oc_ca_s (K f) (V f) (C f) m i (cx.map Prod.fst) 0
  simp only [Nat.reduceAdd] at le1
  have le2 := oc_ca_le (K f) (V f) (C f) (m := m) (i := i) (p := (cx.map Prod.fst)) (o := op) (o' := ot_nc (V f i)) h2
  have Hc := ox_Hc (hd' := if ot_cl (V f i) = true then some ((a + oc_ca (K f) (V f) (C f) m i (cx.map Prod.fst) (1 + ot_nc (V f i))) - 4) else hd) W H (o := op) (by omega) (fun x g1 g2 => by
    rw [if_pos ⟨k, h2⟩, oc_own_v k, if_neg (by omega)]
    by_cases hc : ot_cl (V f i) = true
    · have s2 := oc_ca_s (K f) (V f) (C f) m i (cx.map Prod.fst) op
      have : x < (a + oc_ca (K f) (V f) (C f) m i (cx.map Prod.fst) (1 + ot_nc (V f i))) - 4 := by
        rw [if_pos hc] at t2
        by_cases e9 : op = ot_nc (V f i)
        · rw [e9] at g2; omega
        · have := oc_ca_le (K f) (V f) (C f) (m := m) (i := i) (p := (cx.map Prod.fst)) (o := op + 1) (o' := ot_nc (V f i)) (by omega); omega
      rw [if_pos ⟨hc, by omega, this⟩, if_pos hc]; rfl
    · rw [if_neg (fun e => hc e.1), if_neg hc]; rfl)
  have G := S f (C f i op) c0 o1 c1 b cs hf hL hc0 hcs htot e m _ _ _ _ lw1 [] kd vl Hc (by simp) (fun _ => rfl) hl.1 ?_
  · rw [if_pos k18] at G
    exact G
  · rw [so0]
    refine ox_pk PR S hf hL hcs htot H k m1.2.1 h KK h2 hl.2 (fun g4 gq lw' hl' hh e9 => ?_) (fun g4 gq e9 => ?_)
    · by_cases hc : ot_cl (V f i) = true
      · rw [if_pos hc] at e9; cases e9
        exact ox_thr PR S hf hL hcs htot H k hc m1.2.1 g4 gq h KK hl'
      · rw [if_neg hc] at e9
        unfold oe_fin at h
        rw [if_pos (Or.inr (by cases e : ot_cl (V f i) with | true => exact absurd e hc | false => rfl))] at h
        cases h
        exact KK.2.2.2.2.1 g4 gq lw' hl' hh e9
    · by_cases hc : ot_cl (V f i) = true
      · rw [if_pos hc] at e9; cases e9
      · rw [if_neg hc] at e9
        unfold oe_fin at h
        rw [if_pos (Or.inr (by cases e : ot_cl (V f i) with | true => exact absurd e hc | false => rfl))] at h
        cases h
        exact KK.2.2.2.2.2.1 g4 gq e9
/-- no catch is for it -/
theorem ox_tno (PR : ∀ g, g < 4 → ox_PR z K V C L Q B g) (S : ox_S post z K V C L Q n) (hf : f < 4) (hL : L f ≠ 0) (hcs : cs.length < 12) (htot : ox_tot cs ≤ 40 * cs.length) (H : ox_H z K V C L Q f i (m + 1) a w cx hd) (k : K f i = 17) (hn : ot_nc (V f i) ≠ 0) {c1 : oe_C} {o1 : oe_O} (hc1 : c1.2.1 ≤ 300) (h4 : o1.1 = 4) (hq : ∃ q : Nat, q < 4 ∧ o1.2.1 = nI q) (h : oe_fin V C (fun f d i c => oe_ev K V C L n f d i c) f (cs.length + 1) i o1 c1 = some (o, c')) (KK : ox_K post z (K f) (V f) f b cs hd cx w (w + oc_wn (K f) (V f) (C f) (m + 1) i (cx.map Prod.fst)) (a + oc_ln (K f) (V f) (C f) (m + 1) i (cx.map Prod.fst)) [] false lw o c') {lw1 : Nat → Int32} (hl : ox_lwc lw lw1 c1.1 w (w + oc_wn (K f) (V f) (C f) (m + 1) i (cx.map Prod.fst))) :
    ox_A post z (520 * f + (a + oc_ca (K f) (V f) (C f) m i (cx.map Prod.fst) (ot_nc (V f i)) + oc_ln (K f) (V f) (C f) m (C f i (ot_nc (V f i))) ((i, (ot_nc (V f i))) :: cx.map Prod.fst) + oc_gl (V f i))) ((f, b, lw1, []) :: cs) c1.2.1 c1.2.2.1 o1.2.1 o1.2.2 c1.2.2.2 := by
  obtain ⟨W, hN, BD, T⟩ := ox_W PR hf hL H.1
  obtain ⟨t0, t1, t2, t3, t4, t5, t6⟩ := ox_tn (m := m) (cx := cx) (C := C) (V := V) k
  obtain ⟨⟨p5, p1, p2, _⟩, _⟩ := (ox_tp k H.2.2.2.1).2.1 hn
  have le0 := oc_ca_le (K f) (V f) (C f) (m := m) (i := i) (p := (cx.map Prod.fst)) (o := 1) (o' := ot_nc (V f i)) (by omega)
  have le1 := oc_ca_s (K f) (V f) (C f) m i (cx.map Prod.fst) 0
  simp only [Nat.reduceAdd] at le1
  rw [if_neg hn] at t2
  have fd : oc_fd (oc_en (K f) (V f) (C f) 40 0 0 []) (a + oc_ca (K f) (V f) (C f) m i (cx.map Prod.fst) (ot_nc (V f i)) + oc_ln (K f) (V f) (C f) m (C f i (ot_nc (V f i))) ((i, (ot_nc (V f i))) :: cx.map Prod.fst) + oc_gl (V f i)) = (if ot_cl (V f i) = true then some ((a + oc_ca (K f) (V f) (C f) m i (cx.map Prod.fst) (1 + ot_nc (V f i))) - 4) else hd) := by
    rw [ox_tb k H (by omega) (by omega), oc_own_v k, if_neg (by omega)]
    by_cases hc : ot_cl (V f i) = true
    · rw [if_pos hc] at t2
      rw [if_pos ⟨hc, by omega, by omega⟩, if_pos hc]; rfl
    · rw [if_neg (fun e => hc e.1), if_neg hc]; rfl
  refine ox_again0 p1 p2 (by omega) hcs (ox_raise T p5 hcs (fun hh e9 => ?_) (fun e9 => ?_))
  · rw [fd] at e9
    by_cases hc : ot_cl (V f i) = true
    · rw [if_pos hc] at e9; cases e9
      exact ox_thr PR S hf hL hcs htot H k hc hc1 h4 hq h KK hl
    · rw [if_neg hc] at e9
      unfold oe_fin at h
      rw [if_pos (Or.inr (by cases e : ot_cl (V f i) with | true => exact absurd e hc | false => rfl))] at h
      cases h
      exact KK.2.2.2.2.1 h4 hq lw1 hl hh e9
  · rw [fd] at e9
    by_cases hc : ot_cl (V f i) = true
    · rw [if_pos hc] at e9; cases e9
    · rw [if_neg hc] at e9
      unfold oe_fin at h
      rw [if_pos (Or.inr (by cases e : ot_cl (V f i) with | true => exact absurd e hc | false => rfl))] at h
      cases h
      exact KK.2.2.2.2.2.1 h4 hq e9
theorem ox_c17 (k : K f i = 17) (PR : ∀ g, g < 4 → ox_PR z K V C L Q B g) (S : ox_S post z K V C L Q n) (hf : f < 4) (hL : L f ≠ 0) (hc : c.2.1 ≤ 300) (hcs : cs.length < 12) (htot : ox_tot cs ≤ 40 * cs.length) (h : oe_ev K V C L (n + 1) f (cs.length + 1) i c = some (o, c')) (H : ox_H z K V C L Q f i (m + 1) a w cx hd) (hos : os.length ≤ i) (hst : ot_so (K f i) ≠ 0 → os = []) (hlw : ∀ u, u < 6 → lw u = c.1 u) (KK : ox_K post z (K f) (V f) f b cs hd cx w (w + oc_wn (K f) (V f) (C f) (m + 1) i (cx.map Prod.fst)) (a + oc_ln (K f) (V f) (C f) (m + 1) i (cx.map Prod.fst)) os (decide (ot_so (K f i) = 0)) lw o c') : ox_A post z (520 * f + a) ((f, b, lw, os) :: cs) c.2.1 c.2.2.1 kd vl c.2.2.2 := by
  obtain ⟨W, hN, BD, T⟩ := ox_W PR hf hL H.1
  simp only [oe_ev] at h
  rw [oe_k17 k] at h
  obtain ⟨t0, t1, t2, t3, t4, t5, t6⟩ := ox_tn (m := m) (cx := cx) (C := C) (V := V) k
  have np : ot_np (K f i) (V f i) = 1 + ot_nc (V f i) + (if ot_cl (V f i) = true then 1 else 0) := by rw [k]; rfl
  have os0 : os = [] := hst (by rw [k]; decide)
  subst os0
  have soi : decide (ot_so (K f i) = 0) = false := by rw [k]; rfl
  rw [soi] at KK
  obtain ⟨o1, c1, e1, h⟩ := oe_Bi h
  unfold oe_prt at e1
  obtain ⟨o2, c2, e2, e1⟩ := oe_Bi e1
  obtain ⟨c00, c01, c02, _⟩ := W.2.1 0 (by omega)
  have MV := oe_mvs K V C L Q B (fun g hg hLg => ((PR g hg).2 hLg).1) n
  have m2 := MV f _ _ _ _ _ hf hL c01 hc e2
  have so1 : ot_so (K f (C f i 0)) = 1 := by rw [c02, k]; simp only [ot_wa]; rw [if_neg (by omega)]
  have k18 : K f (C f i 0) ≠ 18 := by intro e; rw [e] at so1; exact absurd so1 (by decide)
  have so0 : decide (ot_so (K f (C f i 0)) = 0) = false := by rw [so1]; rfl
  have hs := oc_wa_s (K f) (V f) (C f) m i (cx.map Prod.fst) 0
  have hle : oc_wa (K f) (V f) (C f) m i (cx.map Prod.fst) 1 ≤ oc_wa (K f) (V f) (C f) m i (cx.map Prod.fst) (1 + ot_nc (V f i)) := oc_wa_le (by omega)
  have hle3 : oc_wa (K f) (V f) (C f) m i (cx.map Prod.fst) (1 + ot_nc (V f i)) ≤ oc_wa (K f) (V f) (C f) m i (cx.map Prod.fst) (ot_np (K f i) (V f i)) := oc_wa_le (by omega)
  have ok17 := W.1
  rw [k] at ok17
  have sub : ∀ {lw'} , ox_lwc lw lw' c2.1 (w + oc_wa (K f) (V f) (C f) m i (cx.map Prod.fst) 0) (w + oc_wa (K f) (V f) (C f) m i (cx.map Prod.fst) 0 + oc_wn (K f) (V f) (C f) m (C f i 0) ((i, 0) :: cx.map Prod.fst)) → ox_lwc lw lw' c2.1 w (w + oc_wn (K f) (V f) (C f) (m + 1) i (cx.map Prod.fst)) := fun h2 => ox_lwc_tr (fun _ _ _ _ => rfl) (by omega) (by simp only [Nat.reduceAdd] at hs; omega) h2
  have Hc0 := ox_Hc (hd' := some (if ot_nc (V f i) = 0 then (a + oc_ca (K f) (V f) (C f) m i (cx.map Prod.fst) (1 + ot_nc (V f i))) - 4 else a + oc_ca (K f) (V f) (C f) m i (cx.map Prod.fst) 1)) W H (o := 0) (by omega) (fun x g1 g2 => by
    rw [if_pos ⟨k, by omega⟩, oc_own_v k]
    by_cases n0 : ot_nc (V f i) = 0
    · have hcl := ot_v17 ok17 n0
      rw [if_pos hcl, if_pos n0] at t2
      rw [n0] at t2 ⊢
      rw [if_neg (fun e => e.1 rfl), if_pos ⟨hcl, by omega, by simp only [Nat.add_zero] at t2 ⊢; omega⟩, if_pos rfl]; rfl
    · have e9 := t1 0 (by omega)
      simp only [Nat.reduceAdd] at e9
      rw [if_pos ⟨n0, by omega, by omega⟩, if_neg n0]
      show some _ = some _
      congr 1; omega)
  have E0 : 520 * f + a = 520 * f + (a + oc_ca (K f) (V f) (C f) m i (cx.map Prod.fst) 0) := by rw [t0]; rfl
  rw [E0]
  have G := S f (C f i 0) c o2 c2 b cs hf hL hc hcs htot e2 m _ _ _ _ lw [] kd vl Hc0 (by simp) (fun _ => rfl) hlw ?_
  · rw [if_neg k18] at G
    exact G
  · rw [so0]
    by_cases h4 : o2.1 = 4
    · rw [if_pos h4] at e1
      refine ⟨fun g => by omega, fun g => by omega, fun g => by omega, fun g => by omega, fun _ hq lw' hl' hh e9 => ?_, fun _ _ e9 => (nomatch e9), fun g => by omega⟩
      have hl' := sub hl'
      by_cases n0 : ot_nc (V f i) = 0
      · rw [if_pos n0] at e9; cases e9
        rw [if_neg (by omega), if_neg (by omega)] at e1; cases e1
        exact ox_thr PR S hf hL hcs htot H k (ot_v17 ok17 n0) m2.2.1 h4 hq h KK hl'
      · rw [if_neg n0] at e9; cases e9
        have CAT : ∀ op, 1 ≤ op → op ≤ ot_nc (V f i) → oe_cat V (fun f d i c => oe_ev K V C L n f d i c) f (cs.length + 1) (C f i op) o2.2.2 c2 = some (o1, c1) → ∀ w0, w0 < 6 → V f (C f i op) >>> ((3 : Int32) &&& 31) = nI w0 → ox_A post z (520 * f + (a + oc_ca (K f) (V f) (C f) m i (cx.map Prod.fst) op + 1)) ((f, b, upd lw' w0 o2.2.2, []) :: cs) c2.2.1 c2.2.2.1 o2.2.1 o2.2.2 c2.2.2.2 := by
          intro op g1 g2 ec w0 gw gv
          unfold oe_cat at ec
          rw [gv, nI_clamp (by omega)] at ec
          refine ox_tyes (c0 := (upd c2.1 w0 o2.2.2, c2.2)) PR S hf hL hcs htot H k g1 g2 m2.2.1 ec h KK ⟨fun u hu => ?_, fun u g6 g8 g => ?_⟩
          · show upd lw' w0 o2.2.2 u = upd c2.1 w0 o2.2.2 u
            by_cases e : u = w0
            · subst e; rw [pk_us, pk_us]
            · rw [pk_un e, pk_un e]; exact hl'.1 u hu
          · rw [pk_un (by omega)]; exact hl'.2 u g6 g8 g
        refine ox_tcat PR S hf hL hcs htot H k (by omega) (by omega) (fun y w0 gw gv => ?_) (fun y => ?_)
        · rw [if_pos ⟨by omega, y⟩] at e1
          exact CAT 1 (by omega) (by omega) e1 w0 gw gv
        · rw [if_neg (fun e => by rw [y] at e; exact absurd e.2 (by decide))] at e1
          by_cases n1 : ot_nc (V f i) = 1
          · rw [if_neg (by omega)] at e1; cases e1
            have := ox_tno PR S hf hL hcs htot H k n0 m2.2.1 h4 hq h KK hl'
            rw [n1] at this
            exact this
          · have n2 : ot_nc (V f i) = 2 := by have := ot_nc_le (V f i); omega
            have E2 : a + oc_ca (K f) (V f) (C f) m i (cx.map Prod.fst) 1 + oc_ln (K f) (V f) (C f) m (C f i 1) ((i, 1) :: cx.map Prod.fst) + oc_gl (V f i) = a + oc_ca (K f) (V f) (C f) m i (cx.map Prod.fst) 2 := by have := t1 1 (by omega); simp only [Nat.reduceAdd] at this; omega
            rw [E2]
            refine ox_tcat PR S hf hL hcs htot H k (by omega) (by omega) (fun y2 w0 gw gv => ?_) (fun y2 => ?_)
            · rw [if_pos ⟨by omega, y2⟩] at e1
              exact CAT 2 (by omega) (by omega) e1 w0 gw gv
            · rw [if_neg (fun e => by rw [y2] at e; exact absurd e.2 (by decide))] at e1; cases e1
              have := ox_tno PR S hf hL hcs htot H k n0 m2.2.1 h4 hq h KK hl'
              rw [n2] at this
              exact this
    · rw [if_neg h4] at e1; cases e1
      exact ox_pk PR S hf hL hcs htot H k m2.2.1 h KK (by omega) (fun _ _ _ _ => rfl) (fun g => absurd g h4) (fun g => absurd g h4)
theorem ox_sim (PR : ∀ g, g < 4 → ox_PR z K V C L Q B g) : ∀ n, ox_S post z K V C L Q n := by
  intro n
  induction n with
  | zero => intro f i c o c' b cs _ _ _ _ _ h; cases h
  | succ n S =>
    intro f i c o c' b cs hf hL hc hcs htot h m a w cx hd lw os kd vl H hos hst hlw KK
    obtain ⟨m, rfl⟩ : ∃ m', m = m' + 1 := ⟨m - 1, by have := H.1; have := H.2.1; omega⟩
    obtain ⟨W, _⟩ := ox_W PR hf hL H.1
    by_cases e : K f i = 18
    · rw [if_pos e]
      exact ox_c18 e PR S hf hL hc hcs htot h H hos hst hlw KK
    · rw [if_neg e]
      rcases ot_kinds W.1 with k | k | k | k | k | k | k | k | k | k | k | k | k | k | k | k | k
      · exact ox_c0 k PR S hf hL hc hcs htot h H hos hst hlw KK
      · exact ox_c1 k PR S hf hL hc hcs htot h H hos hst hlw KK
      · exact ox_c26 k PR S hf hL hc hcs htot h H hos hst hlw KK
      · exact ox_c7 k PR S hf hL hc hcs htot h H hos hst hlw KK
      · exact ox_c8 k PR S hf hL hc hcs htot h H hos hst hlw KK
      · exact ox_c10 k PR S hf hL hc hcs htot h H hos hst hlw KK
      · exact ox_c11 k PR S hf hL hc hcs htot h H hos hst hlw KK
      · exact ox_c12 k PR S hf hL hc hcs htot h H hos hst hlw KK
      · exact ox_c13 k PR S hf hL hc hcs htot h H hos hst hlw KK
      · exact ox_c14 k PR S hf hL hc hcs htot h H hos hst hlw KK
      · exact ox_c15 k PR S hf hL hc hcs htot h H hos hst hlw KK
      · exact ox_c16 k PR S hf hL hc hcs htot h H hos hst hlw KK
      · exact ox_c17 k PR S hf hL hc hcs htot h H hos hst hlw KK
      · exact absurd k e
      · exact ox_c19 (Or.inl k) PR S hf hL hc hcs htot h H hos hst hlw KK
      · exact ox_c19 (Or.inr k) PR S hf hL hc hcs htot h H hos hst hlw KK
      · exact ox_c21 k PR S hf hL hc hcs htot h H hos hst hlw KK
end
end
section
/-! ===== Y's machine over lists ===== -/
/-- token, phase, height; target, how, kind, worth, begun -/
abbrev oy_E : Type := Nat × Nat × Nat × (Int32 × Int32 × Int32 × Int32 × Int32)
def oy_rE (tk ht ta ph hw kn wr bg : Nat → Int32) : List oy_E → Prop
  | [] => True
  | e :: es => (tk es.length = nI e.1 ∧ ph es.length = nI e.2.1 ∧ ht es.length = nI e.2.2.1 ∧ ta es.length = e.2.2.2.1 ∧ hw es.length = e.2.2.2.2.1 ∧ kn es.length = e.2.2.2.2.2.1 ∧ wr es.length = e.2.2.2.2.2.2.1 ∧ bg es.length = e.2.2.2.2.2.2.2) ∧ oy_rE tk ht ta ph hw kn wr bg es
def oy_rV (va : Nat → Int32) : List (Nat → Int32) → Prop
  | [] => True
  | v :: vf => (∀ u, u < 6 → va (6 * vf.length + u) = v u) ∧ oy_rV va vf
def oy_A (post : Int32 → SY → Prop) (y : SY) (es : List oy_E) (vs : List Int32) (vf : List (Nat → Int32)) (en tg kd wo : Int32) (st sy : Nat) (ou : Nat → Int32) : Prop :=
  ∀ tk ht ta ph hw kn wr vl va bg : Nat → Int32, oy_rE tk ht ta ph hw kn wr bg es → ox_rS vl 0 vs → oy_rV va vf → ∃ n, wY_run_51 post n (ob_place y) (nI es.length) (nI vs.length) (nI vf.length) en tg kd wo (nI st) (nI sy) (ob_result y) (ob_thrown y) 0 (ob_kind y) (ob_up y) (ob_length y) (ob_value y) (ob_below y) (ob_open y) tk ht ta ph hw kn wr vl va bg ou
def oy_P (post : Int32 → SY → Prop) (n : Nat) (y : SY) : Prop := wY_run_51 post n (ob_place y) (ob_top y) (ob_held y) (ob_depth y) (ob_ended y) (ob_endTarget y) (ob_endKind y) (ob_endWorth y) (ob_steps y) (ob_says y) (ob_result y) (ob_thrown y) (ob_over y) (ob_kind y) (ob_up y) (ob_length y) (ob_value y) (ob_below y) (ob_open y) (ob_token y) (ob_height y) (ob_target y) (ob_phase y) (ob_how y) (ob_kinds y) (ob_worth y) (ob_values y) (ob_variables y) (ob_begun y) (ob_output y)
/-- the run is over: too long -/
def oy_V (post : Int32 → SY → Prop) (y : SY) (st sy : Nat) (ou : Nat → Int32) : Prop :=
  ∀ (tp hl dp en tg kd wo : Int32) (tk ht ta ph hw kn wr vl va bg : Nat → Int32), post 4 ((ob_place y), tp, hl, dp, en, tg, kd, wo, (nI st), (nI sy), 0, (-1), 1, (ob_kind y), (ob_up y), (ob_length y), (ob_value y), (ob_below y), (ob_open y), tk, ht, ta, ph, hw, kn, wr, vl, va, bg, ou)
/-- the run has ended with result r and exception t -/
def oy_D (post : Int32 → SY → Prop) (y : SY) (a r t : Int32) (st sy : Nat) (ou : Nat → Int32) : Prop :=
  ∀ (tp hl dp en tg kd wo : Int32) (tk ht ta ph hw kn wr vl va bg : Nat → Int32), post a ((ob_place y), tp, hl, dp, en, tg, kd, wo, (nI st), (nI sy), r, t, 0, (ob_kind y), (ob_up y), (ob_length y), (ob_value y), (ob_below y), (ob_open y), tk, ht, ta, ph, hw, kn, wr, vl, va, bg, ou)
theorem oy_rE_cg {tk ht ta ph hw kn wr bg tk' ht' ta' ph' hw' kn' wr' bg' : Nat → Int32} : ∀ {es : List oy_E}, oy_rE tk ht ta ph hw kn wr bg es → (∀ j, j < es.length → tk' j = tk j ∧ ht' j = ht j ∧ ta' j = ta j ∧ ph' j = ph j ∧ hw' j = hw j ∧ kn' j = kn j ∧ wr' j = wr j ∧ bg' j = bg j) → oy_rE tk' ht' ta' ph' hw' kn' wr' bg' es
  | [], _, _ => trivial
  | e :: es, h, g => by
    obtain ⟨⟨h1, h2, h3, h4, h5, h6, h7, h8⟩, h9⟩ := h
    obtain ⟨g1, g2, g3, g4, g5, g6, g7, g8⟩ := g es.length (by simp)
    exact ⟨⟨g1.trans h1, g4.trans h2, g2.trans h3, g3.trans h4, g5.trans h5, g6.trans h6, g7.trans h7, g8.trans h8⟩, oy_rE_cg h9 (fun j hj => g j (by simp only [List.length_cons]; omega))⟩
theorem oy_rV_cg {va va' : Nat → Int32} : ∀ {vf : List (Nat → Int32)}, oy_rV va vf → (∀ u, u < 6 * vf.length → va' u = va u) → oy_rV va' vf
  | [], _, _ => trivial
  | v :: vf, h, g => by
    simp only [List.length_cons] at g
    exact ⟨fun u hu => (g _ (by omega)).trans (h.1 u hu), oy_rV_cg h.2 (fun u hu => g u (by omega))⟩
theorem oy_rS_app {vl : Nat → Int32} {l : List Int32} : ∀ {x : List Int32}, ox_rS vl 0 (x ++ l) → ox_rS vl 0 l
  | [], h => h
  | _ :: x, h => oy_rS_app (x := x) h.2
section
variable {P : SY → Prop} {y : SY} {g p h : Nat} {j : Int32 × Int32 × Int32 × Int32 × Int32} {es : List oy_E} {hl dp : Nat} {en tg kd wo : Int32} {st sy : Nat} {tk ht ta ph hw kn wr vl va bg ou : Nat → Int32}
/-- an operand begins -/
theorem oy_opd {o cc g' : Nat} (hg : g < 200) (ho : o < 4) (hb : ob_below y (4 * g + o) = nI cc) (hc : g / 40 * 40 + cc = g') (hg' : g' < 200) (he : es.length + 1 < 600) (hh : hl < 1000) (R : oy_rE tk ht ta ph hw kn wr bg ((g, p, h, j) :: es))
    (H : P ((ob_place y), (nI (es.length + 2)), (nI hl), (nI dp), 0, tg, kd, wo, (nI st), (nI sy), (ob_result y), (ob_thrown y), 0, (ob_kind y), (ob_up y), (ob_length y), (ob_value y), (ob_below y), (ob_open y), (upd tk (es.length + 1) (nI g')), (upd ht (es.length + 1) (nI hl)), ta, (upd (upd ph es.length (nI (o + 1))) (es.length + 1) (nI 0)), hw, kn, wr, vl, va, bg, ou)) :
    wpY_operand P ((ob_place y), (nI (es.length + 1)), (nI hl), (nI dp), en, tg, kd, wo, (nI st), (nI sy), (ob_result y), (ob_thrown y), 0, (ob_kind y), (ob_up y), (ob_length y), (ob_value y), (ob_below y), (ob_open y), tk, ht, ta, ph, hw, kn, wr, vl, va, bg, ou) (nI o) := by
  have e1 : nI (es.length + 1) - 1 = nI es.length := nI_pred _
  have e4 : (4 : Int32) * nI g + nI o = nI (4 * g + o) := by
    have : (4 : Int32) * nI g = nI (4 * g) := pk_mul 4 g
    rw [this, nI_add]
  have e5 : nI g / 40 * 40 + ob_below y ((4 : Int32) * nI g + nI o).toNatClampNeg = nI g' := by
    have a1 : nI g / 40 = nI (g / 40) := pk_div (d := 40) (by omega) (by omega) (by omega)
    have a2 : nI (g / 40) * 40 = nI (g / 40 * 40) := pk_mul _ 40
    rw [e4, nI_clamp (by omega), hb, a1, a2, nI_add, hc]
  refine And.intro (by rw [e1]; exact vp_in_nI (by omega) (by omega)) (nm_r (e' := nI g) (by rw [e1, nI_clamp (by omega)]; exact R.1.1) ⟨by rw [e1]; exact vp_in_nI (by omega) (by omega), nm_r (e' := upd ph es.length (nI (o + 1))) (by rw [e1, nI_clamp (by omega), nI_1, ok_by (by omega)]) ⟨by decide, by rw [e4]; exact vp_in_nI (by omega) (by omega), ?_⟩⟩)
  rw [e5]
  refine And.intro (vp_in_nI he (by omega)) (nm_r (e' := upd tk (es.length + 1) (nI g')) (by rw [nI_clamp (by omega), ok_sh (by omega)]) ⟨vp_in_nI he (by omega), nm_r (e' := upd (upd ph es.length (nI (o + 1))) (es.length + 1) (nI 0)) (by rw [nI_clamp (by omega)]; rfl) (nm_r (nI_1 _) ⟨vp_in_nI he (by omega), nm_r (e' := upd ht (es.length + 1) (nI hl)) (by rw [nI_clamp (by omega), ok_sh (by omega)]) H⟩)⟩)
theorem oy_opd_rep {o g' : Nat} (R : oy_rE tk ht ta ph hw kn wr bg ((g, p, h, j) :: es)) : ∃ j', oy_rE (upd tk (es.length + 1) (nI g')) (upd ht (es.length + 1) (nI hl)) ta (upd (upd ph es.length (nI (o + 1))) (es.length + 1) (nI 0)) hw kn wr bg ((g', 0, hl, j') :: (g, o + 1, h, j) :: es) := by
  refine ⟨(ta (es.length + 1), hw (es.length + 1), kn (es.length + 1), wr (es.length + 1), bg (es.length + 1)), ⟨pk_us, pk_us, pk_us, rfl, rfl, rfl, rfl, rfl⟩, ⟨?_, ?_, ?_, R.1.2.2.2.1, R.1.2.2.2.2.1, R.1.2.2.2.2.2.1, R.1.2.2.2.2.2.2.1, R.1.2.2.2.2.2.2.2⟩, ?_⟩
  · rw [pk_un (by omega)]; exact R.1.1
  · rw [pk_un (by omega), pk_us]
  · rw [pk_un (by omega)]; exact R.1.2.2.1
  · refine oy_rE_cg R.2 (fun j hj => ⟨pk_un (by omega), pk_un (by omega), rfl, ?_, rfl, rfl, rfl, rfl⟩)
    rw [pk_un (by omega), pk_un (by omega)]
/-- the top is through, without a value -/
theorem oy_thr0 (he : es.length < 600) (R : oy_rE tk ht ta ph hw kn wr bg ((g, p, h, j) :: es)) {v : Int32}
    (H : P ((ob_place y), (nI es.length), (nI h), (nI dp), en, tg, kd, wo, (nI st), (nI sy), (ob_result y), (ob_thrown y), 0, (ob_kind y), (ob_up y), (ob_length y), (ob_value y), (ob_below y), (ob_open y), tk, ht, ta, ph, hw, kn, wr, vl, va, bg, ou)) :
    wpY_through P ((ob_place y), (nI (es.length + 1)), (nI hl), (nI dp), en, tg, kd, wo, (nI st), (nI sy), (ob_result y), (ob_thrown y), 0, (ob_kind y), (ob_up y), (ob_length y), (ob_value y), (ob_below y), (ob_open y), tk, ht, ta, ph, hw, kn, wr, vl, va, bg, ou) 0 v :=
  nm_r (e' := nI es.length) (nI_pred _) ⟨vp_in_nI he (by omega), nm_r (e' := nI h) (by rw [nI_clamp (by omega)]; exact R.1.2.2.1) (br_t rfl H)⟩
/-- the top is through, with a value -/
theorem oy_thr1 (he : es.length < 600) (R : oy_rE tk ht ta ph hw kn wr bg ((g, p, h, j) :: es)) {v : Int32} (hh : h < 700)
    (H : P ((ob_place y), (nI es.length), (nI (h + 1)), (nI dp), en, tg, kd, wo, (nI st), (nI sy), (ob_result y), (ob_thrown y), 0, (ob_kind y), (ob_up y), (ob_length y), (ob_value y), (ob_below y), (ob_open y), tk, ht, ta, ph, hw, kn, wr, (upd vl h v), va, bg, ou)) :
    wpY_through P ((ob_place y), (nI (es.length + 1)), (nI hl), (nI dp), en, tg, kd, wo, (nI st), (nI sy), (ob_result y), (ob_thrown y), 0, (ob_kind y), (ob_up y), (ob_length y), (ob_value y), (ob_below y), (ob_open y), tk, ht, ta, ph, hw, kn, wr, vl, va, bg, ou) 1 v :=
  nm_r (e' := nI es.length) (nI_pred _) ⟨vp_in_nI he (by omega), nm_r (e' := nI h) (by rw [nI_clamp (by omega)]; exact R.1.2.2.1) (br_f (by decide) (nm_r (nI_1 _) ⟨vp_in_nI hh (by omega), nm_r (e' := upd vl h v) (by rw [nI_clamp (by omega)]) H⟩))⟩
end
section
variable {post : Int32 → SY → Prop} {y : SY} {g p h : Nat} {j : Int32 × Int32 × Int32 × Int32 × Int32} {es : List oy_E} {vs : List Int32} {vf : List (Nat → Int32)} {en tg kd wo : Int32} {st sy : Nat} {ou : Nat → Int32}
/-- the step of what is on top: W is what its kind asks -/
theorem oy_work {k : Nat} {kl pl : Int32} (hg : g < 200) (hk : ob_kind y g = kl) (hp : nI p = pl) (he : es.length < 600)
    (H : ∀ tk ht ta ph hw kn wr vl va bg : Nat → Int32, oy_rE tk ht ta ph hw kn wr bg ((g, p, h, j) :: es) → ox_rS vl 0 vs → oy_rV va vf → ∃ n,
      (((9 : Int32) ≤ kl → ((kl = 17 → (wpY_attempt (oy_P post n) ((ob_place y), (nI (es.length + 1)), (nI vs.length), (nI vf.length), en, tg, kd, wo, (nI st), (nI sy), (ob_result y), (ob_thrown y), 0, (ob_kind y), (ob_up y), (ob_length y), (ob_value y), (ob_below y), (ob_open y), tk, ht, ta, ph, hw, kn, wr, vl, va, bg, ou) (nI g) pl)) ∧ (¬ kl = 17 → ((kl = 13 → (wpY_repeat (oy_P post n) ((ob_place y), (nI (es.length + 1)), (nI vs.length), (nI vf.length), en, tg, kd, wo, (nI st), (nI sy), (ob_result y), (ob_thrown y), 0, (ob_kind y), (ob_up y), (ob_length y), (ob_value y), (ob_below y), (ob_open y), tk, ht, ta, ph, hw, kn, wr, vl, va, bg, ou) (nI g) pl)) ∧ (¬ kl = 13 → (wpY_statement (oy_P post n) ((ob_place y), (nI (es.length + 1)), (nI vs.length), (nI vf.length), en, tg, kd, wo, (nI st), (nI sy), (ob_result y), (ob_thrown y), 0, (ob_kind y), (ob_up y), (ob_length y), (ob_value y), (ob_below y), (ob_open y), tk, ht, ta, ph, hw, kn, wr, vl, va, bg, ou) (nI g) kl pl)))))) ∧ (¬ (9 : Int32) ≤ kl → (wpY_expression (oy_P post n) ((ob_place y), (nI (es.length + 1)), (nI vs.length), (nI vf.length), en, tg, kd, wo, (nI st), (nI sy), (ob_result y), (ob_thrown y), 0, (ob_kind y), (ob_up y), (ob_length y), (ob_value y), (ob_below y), (ob_open y), tk, ht, ta, ph, hw, kn, wr, vl, va, bg, ou) (nI g) kl pl)))) :
    oy_A post y ((g, p, h, j) :: es) vs vf en tg kd wo st sy ou := by
  intro tk ht ta ph hw kn wr vl va bg R1 R2 R3
  obtain ⟨n, hn⟩ := H tk ht ta ph hw kn wr vl va bg R1 R2 R3
  have e1 : nI ((g, p, h, j) :: es).length - 1 = nI es.length := nI_pred _
  refine ⟨n + 1, br_f (nI_nle (by simp) (by simp; omega)) (br_t rfl ⟨by rw [e1]; exact vp_in_nI he (by omega), nm_r (e' := nI g) (by rw [e1, nI_clamp (by omega)]; exact R1.1.1) ⟨vp_in_nI hg (by omega), nm_r (e' := kl) (by rw [nI_clamp (by omega)]; exact hk) ⟨by rw [e1]; exact vp_in_nI he (by omega), nm_r (e' := pl) (by rw [e1, nI_clamp (by omega)]; exact R1.1.2.1.trans hp) ?_⟩⟩⟩)⟩
  exact hn
end
end
section
/-! ===== Y's machine: expressions ===== -/
theorem oy_opn {P : Int32 → Prop} {k : Nat} {v : Int32} (hk : k < 9) (H : P (nI (ot_np k 0))) : wpY_operands P (nI k) v := by
  rcases (by omega : k = 0 ∨ k = 1 ∨ k = 2 ∨ k = 3 ∨ k = 4 ∨ k = 5 ∨ k = 6 ∨ k = 7 ∨ k = 8) with e | e | e | e | e | e | e | e | e <;> subst e <;> repeat (first | exact br_t (by decide) H | refine br_f (by decide) ?_)
theorem oy_ex {P : SY → Prop} {v_place v_top v_held v_depth v_ended v_endTarget v_endKind v_endWorth v_steps v_says v_result v_thrown v_over : Int32} {v_kind v_up v_length v_value v_below v_open v_token v_height v_target v_phase v_how v_kinds v_worth v_values v_variables v_begun v_output : Nat → Int32} {k : Nat} {p0 p2 : Int32} (h9 : k < 9) (A : k = 8 → p2 = 2 → wpY_returned P (v_place, v_top, v_held, v_depth, v_ended, v_endTarget, v_endKind, v_endWorth, v_steps, v_says, v_result, v_thrown, v_over, v_kind, v_up, v_length, v_value, v_below, v_open, v_token, v_height, v_target, v_phase, v_how, v_kinds, v_worth, v_values, v_variables, v_begun, v_output)) (D : ¬ (k = 8 ∧ p2 = 2) → wY_expression_23 P p0 (nI k) p2 (nI (ot_np k 0)) v_place v_top v_held v_depth v_ended v_endTarget v_endKind v_endWorth v_steps v_says v_result v_thrown v_over v_kind v_up v_length v_value v_below v_open v_token v_height v_target v_phase v_how v_kinds v_worth v_values v_variables v_begun v_output) : wpY_expression P (v_place, v_top, v_held, v_depth, v_ended, v_endTarget, v_endKind, v_endWorth, v_steps, v_says, v_result, v_thrown, v_over, v_kind, v_up, v_length, v_value, v_below, v_open, v_token, v_height, v_target, v_phase, v_how, v_kinds, v_worth, v_values, v_variables, v_begun, v_output) p0 (nI k) p2 := by
  unfold wpY_expression
  refine oy_opn h9 ?_
  have e8 : nI k = 8 ↔ k = 8 := nI_eq (b := 8) (by omega) (by omega)
  refine br_c (fun h1 => br_c (fun h2 => A (e8.mp h1) h2) (fun h2 => D (fun e => h2 e.2))) (fun h1 => D (fun e => h1 (e8.mpr e.1)))
section
variable {post : Int32 → SY → Prop} {y : SY} {g p h k : Nat} {j : Int32 × Int32 × Int32 × Int32 × Int32} {es : List oy_E} {vs vs0 l : List Int32} {vf : List (Nat → Int32)} {vr : Nat → Int32} {en tg kd wo : Int32} {st sy : Nat} {ou : Nat → Int32}
theorem oy_k9 (h9 : k < 9) : ¬ (9 : Int32) ≤ nI k := nI_ge (b := 9) h9 (by omega)
/-- an operand of an expression -/
theorem oy_e1 {cc g' : Nat} (hg : g < 200) (hk : ob_kind y g = nI k) (h9 : k < 9) (hp : p < ot_np k 0) (hp8 : k = 8 → p ≠ 2) (hen : ¬ en = 4) (hb : ob_below y (4 * g + p) = nI cc) (hc : g / 40 * 40 + cc = g') (hg' : g' < 200) (he : es.length + 1 < 600) (hh : vs.length < 1000)
    (K : ∀ j', oy_A post y ((g', 0, vs.length, j') :: (g, p + 1, h, j) :: es) vs vf 0 tg kd wo st sy ou) : oy_A post y ((g, p, h, j) :: es) vs vf en tg kd wo st sy ou := by
  have np3 : ot_np k 0 < 4 := by
    rcases (by omega : k = 0 ∨ k = 1 ∨ k = 2 ∨ k = 3 ∨ k = 4 ∨ k = 5 ∨ k = 6 ∨ k = 7 ∨ k = 8) with e | e | e | e | e | e | e | e | e <;> subst e <;> decide
  refine oy_work (k := k) hg hk rfl (by omega) (fun tk ht ta ph hw kn wr vl va bg R1 R2 R3 => ?_)
  obtain ⟨j', R'⟩ := oy_opd_rep (g' := g') (hl := vs.length) (o := p) R1
  obtain ⟨n, hn⟩ := K j' _ _ _ _ _ _ _ _ _ _ R' R2 R3
  refine ⟨n, br_f (oy_k9 h9) (oy_ex h9 (fun e8 e2 => absurd ((nI_eq (b := 2) (by omega) (by omega)).mp e2) (hp8 e8)) (fun _ => ?_))⟩
  have G : wY_expression_23 (oy_P post n) (nI g) (nI k) (nI p) (nI (ot_np k 0)) (ob_place y) (nI (es.length + 1)) (nI vs.length) (nI vf.length) en tg kd wo (nI st) (nI sy) (ob_result y) (ob_thrown y) 0 (ob_kind y) (ob_up y) (ob_length y) (ob_value y) (ob_below y) (ob_open y) tk ht ta ph hw kn wr vl va bg ou := br_f hen (br_f (nI_ge hp (by omega)) (oy_opd hg (by omega) hb hc hg' he hh R1 hn))
  exact G
/-- an operand threw -/
theorem oy_e2 (hg : g < 200) (hk : ob_kind y g = nI k) (h9 : k < 9) (hp : p < 100) (hp8 : k = 8 → p ≠ 2) (he : es.length < 600) (hh : h = vs0.length)
    (K : oy_A post y es vs0 vf 4 tg kd wo st sy ou) : oy_A post y ((g, p, h, j) :: es) (l ++ vs0) vf 4 tg kd wo st sy ou := by
  refine oy_work (k := k) hg hk rfl (by omega) (fun tk ht ta ph hw kn wr vl va bg R1 R2 R3 => ?_)
  obtain ⟨n, hn⟩ := K _ _ _ _ _ _ _ _ _ _ R1.2 (oy_rS_app R2) R3
  refine ⟨n, br_f (oy_k9 h9) (oy_ex h9 (fun e8 e2 => absurd ((nI_eq (b := 2) (by omega) (by omega)).mp e2) (hp8 e8)) (fun _ => ?_))⟩
  have G : wY_expression_23 (oy_P post n) (nI g) (nI k) (nI p) (nI (ot_np k 0)) (ob_place y) (nI (es.length + 1)) (nI (l ++ vs0).length) (nI vf.length) 4 tg kd wo (nI st) (nI sy) (ob_result y) (ob_thrown y) 0 (ob_kind y) (ob_up y) (ob_length y) (ob_value y) (ob_below y) (ob_open y) tk ht ta ph hw kn wr vl va bg ou := br_t rfl (oy_thr0 he R1 (by rw [hh]; exact hn))
  exact G
theorem oy_push {vl : Nat → Int32} {v : Int32} (R : ox_rS vl 0 vs0) : ox_rS (upd vl vs0.length v) 0 (v :: vs0) :=
  ⟨by rw [Nat.zero_add]; exact pk_us, ox_rS_up R (by omega)⟩
theorem oy_num {v : Int32} (hg : g < 200) (hk : ob_kind y g = 0) (hv : ob_value y g = v) (he : es.length < 600) (hh : h = vs.length) (hl : vs.length < 700)
    (K : oy_A post y es (v :: vs) vf 0 tg kd wo st sy ou) : oy_A post y ((g, 0, h, j) :: es) vs vf 0 tg kd wo st sy ou := by
  refine oy_work (k := 0) hg hk rfl (by omega) (fun tk ht ta ph hw kn wr vl va bg R1 R2 R3 => ?_)
  obtain ⟨n, hn⟩ := K _ _ _ _ _ _ _ _ _ _ R1.2 (oy_push (v := v) R2) R3
  refine ⟨n, br_f (by decide) (oy_ex (k := 0) (by decide) (fun e => absurd e (by decide)) (fun _ => ?_))⟩
  refine (br_f (by show ¬ (0 : Int32) = 4; decide) (br_t (by decide) (br_f (by decide) (br_t (by decide) ⟨vp_in_nI hg (by omega), ?_⟩))))
  refine br_t (by decide) (br_f (by decide) (br_f (by decide) (br_f (by decide) ?_)))
  rw [nI_clamp (by omega), hv]
  exact oy_thr1 he R1 (by omega) (by rw [hh]; exact hn)
theorem oy_var {w : Nat} (hg : g < 200) (hk : ob_kind y g = 1) (hv : ob_value y g = nI w) (hw6 : w < 6) (he : es.length < 600) (hh : h = vs.length) (hl : vs.length < 700) (hd : vf.length < 12)
    (K : oy_A post y es (vr w :: vs) (vr :: vf) 0 tg kd wo st sy ou) : oy_A post y ((g, 0, h, j) :: es) vs (vr :: vf) 0 tg kd wo st sy ou := by
  refine oy_work (k := 1) hg hk rfl (by omega) (fun tk ht ta ph hw kn wr vl va bg R1 R2 R3 => ?_)
  obtain ⟨n, hn⟩ := K _ _ _ _ _ _ _ _ _ _ R1.2 (oy_push (v := vr w) R2) R3
  have ea : (6 : Int32) * (nI (vr :: vf).length - 1) + ob_value y (nI g).toNatClampNeg = nI (6 * vf.length + w) := by
    have e1 : nI (vr :: vf).length - 1 = nI vf.length := nI_pred _
    have e2 : (6 : Int32) * nI vf.length = nI (6 * vf.length) := pk_mul 6 _
    rw [e1, e2, nI_clamp (by omega), hv, nI_add]
  refine ⟨n, br_f (by decide) (oy_ex (k := 1) (by decide) (fun e => absurd e (by decide)) (fun _ => ?_))⟩
  refine (br_f (by show ¬ (0 : Int32) = 4; decide) (br_t (by decide) (br_f (by decide) (br_t (by decide) ⟨vp_in_nI hg (by omega), ?_⟩))))
  refine br_t (by decide) (br_t rfl ⟨vp_in_nI hg (by omega), by rw [ea]; exact vp_in_nI (by omega) (by omega), nm_r (e' := vr w) (by rw [ea, nI_clamp (by omega)]; exact R3.1 w hw6) (br_f (by decide) (br_f (by decide) ?_))⟩)
  exact oy_thr1 he R1 (by omega) (by rw [hh]; exact hn)
theorem oy_not {x : Int32} (hg : g < 200) (hk : ob_kind y g = 7) (he : es.length < 600) (hh : h = vs.length) (hl : vs.length < 700)
    (K : oy_A post y es ((if x = 0 then 1 else 0) :: vs) vf 0 tg kd wo st sy ou) : oy_A post y ((g, 1, h, j) :: es) (x :: vs) vf 0 tg kd wo st sy ou := by
  refine oy_work (k := 7) hg hk rfl (by omega) (fun tk ht ta ph hw kn wr vl va bg R1 R2 R3 => ?_)
  obtain ⟨n, hn⟩ := K _ _ _ _ _ _ _ _ _ _ R1.2 (oy_push (v := if x = 0 then 1 else 0) R2.2) R3
  have e1 : nI (x :: vs).length - nI 1 = nI vs.length := nI_pred _
  have ex : vl (nI (x :: vs).length - nI 1).toNatClampNeg = x := by rw [e1, nI_clamp (by omega)]; have := R2.1; rw [Nat.zero_add] at this; exact this
  refine ⟨n, br_f (by decide) (oy_ex (k := 7) (by decide) (fun e => absurd e (by decide)) (fun _ => ?_))⟩
  refine (br_f (by show ¬ (0 : Int32) = 4; decide) (br_t (by decide) (br_f (by decide) (br_f (by decide) ⟨by show vp_in (nI (x :: vs).length - nI 1) 700; rw [e1]; exact vp_in_nI hl (by omega), ?_⟩))))
  refine br_t (by decide) (br_f (by decide) (br_f (by decide) (br_t (by decide) ?_)))
  refine br_f (by decide) (br_t (by decide) ?_)
  by_cases h0 : x = 0
  · rw [if_pos h0] at hn
    exact br_t (ex.trans h0) (oy_thr1 he R1 (by omega) (by rw [hh]; exact hn))
  · rw [if_neg h0] at hn
    exact br_f (fun e => h0 (ex.symm.trans e)) (oy_thr1 he R1 (by omega) (by rw [hh]; exact hn))
theorem oy_bin {x z : Int32} (hk5 : k = 2 ∨ k = 3 ∨ k = 4 ∨ k = 5 ∨ k = 6) (hg : g < 200) (hk : ob_kind y g = nI k) (he : es.length < 600) (hh : h = vs.length) (hl : vs.length + 1 < 700)
    (K0 : k = 5 → z = 0 → oy_A post y es vs vf 4 tg 0 x st sy ou)
    (K : ¬ (k = 5 ∧ z = 0) → oy_A post y es (oe_rk k x z :: vs) vf 0 tg kd wo st sy ou) : oy_A post y ((g, 2, h, j) :: es) (z :: x :: vs) vf 0 tg kd wo st sy ou := by
  subst hh
  refine oy_work (k := k) hg hk rfl (by omega) (fun tk ht ta ph hw kn wr vl va bg R1 R2 R3 => ?_)
  have e1 : nI (z :: x :: vs).length - nI 2 = nI vs.length := pk_sub (by simp)
  have e2 : nI (z :: x :: vs).length - 1 = nI (x :: vs).length := nI_pred _
  have ez : vl (nI (z :: x :: vs).length - 1).toNatClampNeg = z := by rw [e2, nI_clamp (by simp only [List.length_cons]; omega)]; have := R2.1; rw [Nat.zero_add] at this; exact this
  have ex : vl (nI (z :: x :: vs).length - nI 2).toNatClampNeg = x := by rw [e1, nI_clamp (by omega)]; have := R2.2.1; rw [Nat.zero_add] at this; exact this
  have np2 : ot_np k 0 = 2 := by rcases hk5 with e | e | e | e | e <;> subst e <;> rfl
  have k9 : k < 9 := by omega
  have k8 : ¬ nI k = 8 := fun e => absurd ((nI_eq (b := 8) (by omega) (by omega)).mp e) (by omega)
  have k1 : ¬ nI k = 1 := fun e => absurd ((nI_eq (b := 1) (by omega) (by omega)).mp e) (by omega)
  have k22 : (2 : Int32) ≤ nI k := nI_le (a := 2) (by omega) (by omega)
  have PRE : ∀ n, (wY_expression_205 (oy_P post n) (nI k) x z (ob_place y) (nI (es.length + 1)) (nI (z :: x :: vs).length) (nI vf.length) 0 tg kd wo (nI st) (nI sy) (ob_result y) (ob_thrown y) 0 (ob_kind y) (ob_up y) (ob_length y) (ob_value y) (ob_below y) (ob_open y) tk ht ta ph hw kn wr vl va bg ou) → wpY_expression (oy_P post n) ((ob_place y), (nI (es.length + 1)), (nI (z :: x :: vs).length), (nI vf.length), 0, tg, kd, wo, (nI st), (nI sy), (ob_result y), (ob_thrown y), 0, (ob_kind y), (ob_up y), (ob_length y), (ob_value y), (ob_below y), (ob_open y), tk, ht, ta, ph, hw, kn, wr, vl, va, bg, ou) (nI g) (nI k) (nI 2) := by
    intro n G
    refine oy_ex k9 (fun e => by omega) (fun _ => ?_)
    rw [np2]
    refine (br_f (by show ¬ (0 : Int32) = 4; decide) (br_t (by decide) (br_f k8 (br_f (by decide) ⟨by rw [e1]; exact vp_in_nI (by omega) (by omega), ?_⟩))))
    refine br_f (by decide) ⟨by rw [e2]; exact vp_in_nI hl (by omega), br_f k1 ?_⟩
    rw [ex, ez]
    exact G
  by_cases h0 : k = 5 ∧ z = 0
  · obtain ⟨n, hn⟩ := K0 h0.1 h0.2 _ _ _ _ _ _ _ _ _ _ R1.2 R2.2.2 R3
    refine ⟨n, br_f (oy_k9 k9) (PRE n (br_t (by rw [h0.1]; rfl) (br_t h0.2 ?_)))⟩
    have G : wpY_through (oy_P post n) ((ob_place y), (nI (es.length + 1)), (nI (z :: x :: vs).length), (nI vf.length), 4, tg, 0, x, (nI st), (nI sy), (ob_result y), (ob_thrown y), 0, (ob_kind y), (ob_up y), (ob_length y), (ob_value y), (ob_below y), (ob_open y), tk, ht, ta, ph, hw, kn, wr, vl, va, bg, ou) 0 0 := oy_thr0 he R1 hn
    exact G
  · obtain ⟨n, hn⟩ := K h0 _ _ _ _ _ _ _ _ _ _ R1.2 (oy_push (v := oe_rk k x z) R2.2.2) R3
    have F : ∀ v, v = oe_rk k x z → wY_expression_247 (oy_P post n) v (ob_place y) (nI (es.length + 1)) (nI (z :: x :: vs).length) (nI vf.length) 0 tg kd wo (nI st) (nI sy) (ob_result y) (ob_thrown y) 0 (ob_kind y) (ob_up y) (ob_length y) (ob_value y) (ob_below y) (ob_open y) tk ht ta ph hw kn wr vl va bg ou := by
      intro v ev; rw [ev]; exact oy_thr1 he R1 (by omega) hn
    refine ⟨n, br_f (oy_k9 k9) (PRE n ?_)⟩
    have G : wY_expression_229 (oy_P post n) (nI k) x z (ob_place y) (nI (es.length + 1)) (nI (z :: x :: vs).length) (nI vf.length) 0 tg kd wo (nI st) (nI sy) (ob_result y) (ob_thrown y) 0 (ob_kind y) (ob_up y) (ob_length y) (ob_value y) (ob_below y) (ob_open y) tk ht ta ph hw kn wr vl va bg ou := by
      refine br_t k22 ?_
      rcases hk5 with e | e | e | e | e <;> subst e
      · exact br_f (by decide) (br_f (by decide) (br_t rfl (F _ rfl)))
      · exact br_f (by decide) (br_f (by decide) (br_f (by decide) (br_t rfl (F _ rfl))))
      · exact br_f (by decide) (br_f (by decide) (br_f (by decide) (br_f (by decide) (br_t rfl (F _ rfl)))))
      · have hz : ¬ z = 0 := fun e => h0 ⟨rfl, e⟩
        exact br_f (by decide) (br_f (by decide) (br_f (by decide) (br_f (by decide) (br_f (by decide) (br_t rfl (br_f hz ⟨hz, F _ rfl⟩))))))
      · refine br_f (by decide) (br_f (by decide) (br_f (by decide) (br_f (by decide) (br_f (by decide) (br_f (by decide) (br_t rfl ?_))))))
        by_cases hz : z ≤ x
        · exact br_t hz (F _ (if_pos hz).symm)
        · exact br_f hz (F _ (if_neg hz).symm)
    by_cases h5 : k = 5
    · exact br_t (by rw [h5]; rfl) (br_f (fun e => h0 ⟨h5, e⟩) G)
    · exact br_f (fun e => h5 ((nI_eq (b := 5) (by omega) (by omega)).mp e)) G
end
end
section
/-! ===== Y's machine: calls and returns ===== -/
section
variable {P : SY → Prop} {y : SY} {f tp hl dp : Nat} {x en tg kd wo : Int32} {st sy : Nat} {tk ht ta ph hw kn wr vl va bg ou : Nat → Int32}
theorem oy_c45 (hf : f < 4) (hd : dp < 12) (ht6 : tp < 600) (hh : hl < 1000)
    (H : P ((ob_place y), (nI (tp + 1)), (nI hl), (nI (dp + 1)), 0, tg, kd, wo, (nI st), (nI sy), (ob_result y), (ob_thrown y), 0, (ob_kind y), (ob_up y), (ob_length y), (ob_value y), (ob_below y), (ob_open y), (upd tk tp (nI (40 * f))), (upd ht tp (nI hl)), ta, (upd ph tp (nI 0)), hw, kn, wr, vl, (upd (upd (upd (upd (upd (upd va (6 * dp + 0) x) (6 * dp + 1) 0) (6 * dp + 2) 0) (6 * dp + 3) 0) (6 * dp + 4) 0) (6 * dp + 5) 0), bg, ou)) :
    wY_call_45 P (nI f) x (ob_place y) (nI tp) (nI hl) (nI dp) en tg kd wo (nI st) (nI sy) (ob_result y) (ob_thrown y) 0 7 0 (ob_kind y) (ob_up y) (ob_length y) (ob_value y) (ob_below y) (ob_open y) tk ht ta ph hw kn wr vl va bg ou := by
  have em : (6 : Int32) * nI dp = nI (6 * dp) := pk_mul 6 _
  have c : ∀ j, j < 6 → ((6 : Int32) * nI dp + nI j).toNatClampNeg = 6 * dp + j := fun j hj => by rw [em, nI_add, nI_clamp (by omega)]
  have i : ∀ j, j < 6 → vp_in ((6 : Int32) * nI dp + nI j) 72 := fun j hj => by rw [em, nI_add]; exact vp_in_nI (by omega) (by omega)
  refine br_f (by decide) (br_t rfl ⟨i 0 (by decide), nm_r (e' := (upd va (6 * dp + 0) x)) (congrArg (fun k => upd va k x) (c 0 (by decide))) (nm_r (e' := nI 1) rfl ?_)⟩)
  refine br_f (by decide) (br_f (by decide) ⟨i 1 (by decide), nm_r (e' := (upd (upd va (6 * dp + 0) x) (6 * dp + 1) 0)) (congrArg (fun k => upd (upd va (6 * dp + 0) x) k 0) (c 1 (by decide))) (nm_r (e' := nI 2) rfl ?_)⟩)
  refine br_f (by decide) (br_f (by decide) ⟨i 2 (by decide), nm_r (e' := (upd (upd (upd va (6 * dp + 0) x) (6 * dp + 1) 0) (6 * dp + 2) 0)) (congrArg (fun k => upd (upd (upd va (6 * dp + 0) x) (6 * dp + 1) 0) k 0) (c 2 (by decide))) (nm_r (e' := nI 3) rfl ?_)⟩)
  refine br_f (by decide) (br_f (by decide) ⟨i 3 (by decide), nm_r (e' := (upd (upd (upd (upd va (6 * dp + 0) x) (6 * dp + 1) 0) (6 * dp + 2) 0) (6 * dp + 3) 0)) (congrArg (fun k => upd (upd (upd (upd va (6 * dp + 0) x) (6 * dp + 1) 0) (6 * dp + 2) 0) k 0) (c 3 (by decide))) (nm_r (e' := nI 4) rfl ?_)⟩)
  refine br_f (by decide) (br_f (by decide) ⟨i 4 (by decide), nm_r (e' := (upd (upd (upd (upd (upd va (6 * dp + 0) x) (6 * dp + 1) 0) (6 * dp + 2) 0) (6 * dp + 3) 0) (6 * dp + 4) 0)) (congrArg (fun k => upd (upd (upd (upd (upd va (6 * dp + 0) x) (6 * dp + 1) 0) (6 * dp + 2) 0) (6 * dp + 3) 0) k 0) (c 4 (by decide))) (nm_r (e' := nI 5) rfl ?_)⟩)
  refine br_f (by decide) (br_f (by decide) ⟨i 5 (by decide), nm_r (e' := (upd (upd (upd (upd (upd (upd va (6 * dp + 0) x) (6 * dp + 1) 0) (6 * dp + 2) 0) (6 * dp + 3) 0) (6 * dp + 4) 0) (6 * dp + 5) 0)) (congrArg (fun k => upd (upd (upd (upd (upd (upd va (6 * dp + 0) x) (6 * dp + 1) 0) (6 * dp + 2) 0) (6 * dp + 3) 0) (6 * dp + 4) 0) k 0) (c 5 (by decide))) (nm_r (e' := nI 6) rfl ?_)⟩)
  refine br_t (by decide) (nm_r (nI_1 _) ?_)
  have e5 : (40 : Int32) * nI f = nI (40 * f) := pk_mul 40 f
  rw [e5]
  refine And.intro (vp_in_nI ht6 (by omega)) (nm_r (e' := upd tk tp (nI (40 * f))) (by rw [nI_clamp (by omega), ok_sh (by omega)]) ⟨vp_in_nI ht6 (by omega), nm_r (e' := upd ph tp (nI 0)) (by rw [nI_clamp (by omega)]; rfl) (nm_r (nI_1 _) ⟨vp_in_nI ht6 (by omega), nm_r (e' := upd ht tp (nI hl)) (by rw [nI_clamp (by omega), ok_sh (by omega)]) H⟩)⟩)
theorem oy_c45_rep {vf : List (Nat → Int32)} (hd : dp = vf.length) (R : oy_rV va vf) : oy_rV (upd (upd (upd (upd (upd (upd va (6 * dp + 0) x) (6 * dp + 1) 0) (6 * dp + 2) 0) (6 * dp + 3) 0) (6 * dp + 4) 0) (6 * dp + 5) 0) ((fun v => if v = 0 then x else 0) :: vf) := by
  subst hd
  refine ⟨fun u hu => ?_, oy_rV_cg R (fun u hu => ?_)⟩
  · rcases (by omega : u = 0 ∨ u = 1 ∨ u = 2 ∨ u = 3 ∨ u = 4 ∨ u = 5) with h | h | h | h | h | h <;> subst h <;> simp [upd]
  · rw [pk_un (by omega), pk_un (by omega), pk_un (by omega), pk_un (by omega), pk_un (by omega), pk_un (by omega)]
theorem oy_call (hf : f < 4) (hd : dp ≤ 12) (ht6 : tp < 600) (hh : hl < 1000) (hs : st ≤ 300)
    (K1 : ob_length y f = 0 → P ((ob_place y), (nI tp), (nI hl), (nI dp), 4, tg, 1, (nI f), (nI st), (nI sy), (ob_result y), (ob_thrown y), 0, (ob_kind y), (ob_up y), (ob_length y), (ob_value y), (ob_below y), (ob_open y), tk, ht, ta, ph, hw, kn, wr, vl, va, bg, ou))
    (K2 : ob_length y f ≠ 0 → st = 300 → P ((ob_place y), (nI tp), (nI hl), (nI dp), en, tg, kd, wo, (nI st), (nI sy), (ob_result y), (ob_thrown y), 1, (ob_kind y), (ob_up y), (ob_length y), (ob_value y), (ob_below y), (ob_open y), tk, ht, ta, ph, hw, kn, wr, vl, va, bg, ou))
    (K3 : ob_length y f ≠ 0 → st ≠ 300 → dp = 12 → P ((ob_place y), (nI tp), (nI hl), (nI dp), 4, tg, 2, (nI f), (nI (st + 1)), (nI sy), (ob_result y), (ob_thrown y), 0, (ob_kind y), (ob_up y), (ob_length y), (ob_value y), (ob_below y), (ob_open y), tk, ht, ta, ph, hw, kn, wr, vl, va, bg, ou))
    (K4 : ob_length y f ≠ 0 → st ≠ 300 → dp ≠ 12 → P ((ob_place y), (nI (tp + 1)), (nI hl), (nI (dp + 1)), 0, tg, kd, wo, (nI (st + 1)), (nI sy), (ob_result y), (ob_thrown y), 0, (ob_kind y), (ob_up y), (ob_length y), (ob_value y), (ob_below y), (ob_open y), (upd tk tp (nI (40 * f))), (upd ht tp (nI hl)), ta, (upd ph tp (nI 0)), hw, kn, wr, vl, (upd (upd (upd (upd (upd (upd va (6 * dp + 0) x) (6 * dp + 1) 0) (6 * dp + 2) 0) (6 * dp + 3) 0) (6 * dp + 4) 0) (6 * dp + 5) 0), bg, ou)) :
    wpY_call P ((ob_place y), (nI tp), (nI hl), (nI dp), en, tg, kd, wo, (nI st), (nI sy), (ob_result y), (ob_thrown y), 0, (ob_kind y), (ob_up y), (ob_length y), (ob_value y), (ob_below y), (ob_open y), tk, ht, ta, ph, hw, kn, wr, vl, va, bg, ou) (nI f) x := by
  have cf : (nI f).toNatClampNeg = f := nI_clamp (by omega)
  refine And.intro (vp_in_nI (by omega) (by omega)) ?_
  by_cases h1 : ob_length y f = 0
  · exact br_t (by rw [cf]; exact h1) (K1 h1)
  refine br_f (by rw [cf]; exact h1) ?_
  by_cases h2 : st = 300
  · exact br_t (by rw [h2]; rfl) (br_t rfl (K2 h1 h2))
  refine br_f (fun e => h2 ((nI_eq (b := 300) (by omega) (by omega)).mp e)) (nm_r (nI_1 _) (br_f (by decide) ?_))
  by_cases h3 : dp = 12
  · exact br_t (by rw [h3]; rfl) (K3 h1 h2 h3)
  · exact br_f (fun e => h3 ((nI_eq (b := 12) (by omega) (by omega)).mp e)) ⟨7, oy_c45 hf (by omega) ht6 hh (K4 h1 h2 h3)⟩
end
section
variable {post : Int32 → SY → Prop} {y : SY} {g p h k : Nat} {j : Int32 × Int32 × Int32 × Int32 × Int32} {es : List oy_E} {vs vs0 l : List Int32} {vf : List (Nat → Int32)} {vr : Nat → Int32} {en tg kd wo : Int32} {st sy : Nat} {ou : Nat → Int32}
theorem oy_over {n : Nat} {tp hl dp en tg kd wo : Int32} {tk ht ta ph hw kn wr vl va bg : Nat → Int32} (K : oy_V post y st sy ou) : oy_P post (n + 1) ((ob_place y), tp, hl, dp, en, tg, kd, wo, (nI st), (nI sy), (ob_result y), (ob_thrown y), 1, (ob_kind y), (ob_up y), (ob_length y), (ob_value y), (ob_below y), (ob_open y), tk, ht, ta, ph, hw, kn, wr, vl, va, bg, ou) := by
  have G : wY_run_72 post (ob_place y) tp hl dp en tg kd wo (nI st) (nI sy) (ob_result y) (ob_thrown y) 1 (ob_kind y) (ob_up y) (ob_length y) (ob_value y) (ob_below y) (ob_open y) tk ht ta ph hw kn wr vl va bg ou :=
    br_f (by decide) (br_t rfl (br_f (by decide) (br_f (by decide) (K _ _ _ _ _ _ _ _ _ _ _ _ _ _ _ _ _))))
  exact br_c (fun _ => G) (fun _ => br_f (by show ¬ (1 : Int32) = 0; decide) G)
/-- the argument of a CALL is there -/
theorem oy_ecall {x : Int32} {f : Nat} (hg : g < 200) (hk : ob_kind y g = 8) (hv : ob_value y g = nI f) (hf : f < 4) (he : es.length + 1 < 600) (hh : vs.length < 700) (hd : vf.length ≤ 12) (hs : st ≤ 300)
    (K1 : ob_length y f = 0 → ∀ j, j.2.2.2.2 = 0 → oy_A post y ((g, 2, h, j) :: es) vs vf 4 tg 1 (nI f) st sy ou)
    (K2 : ob_length y f ≠ 0 → st = 300 → oy_V post y st sy ou)
    (K3 : ob_length y f ≠ 0 → st ≠ 300 → vf.length = 12 → ∀ j, j.2.2.2.2 = 0 → oy_A post y ((g, 2, h, j) :: es) vs vf 4 tg 2 (nI f) (st + 1) sy ou)
    (K4 : ob_length y f ≠ 0 → st ≠ 300 → vf.length ≠ 12 → ∀ j j', j.2.2.2.2 = 1 → oy_A post y ((40 * f, 0, vs.length, j') :: (g, 2, h, j) :: es) vs ((fun v => if v = 0 then x else 0) :: vf) 0 tg kd wo (st + 1) sy ou) :
    oy_A post y ((g, 1, h, j) :: es) (x :: vs) vf 0 tg kd wo st sy ou := by
  refine oy_work (k := 8) hg hk rfl (by omega) (fun tk ht ta ph hw kn wr vl va bg R1 R2 R3 => ?_)
  have e1 : nI (es.length + 1) - 1 = nI es.length := nI_pred _
  have e2 : nI (x :: vs).length - 1 = nI vs.length := nI_pred _
  have ex : vl vs.length = x := by have := R2.1; rw [Nat.zero_add] at this; exact this
  have PRE : ∀ n, (ob_length y f = 0 → oy_P post n ((ob_place y), (nI (es.length + 1)), (nI vs.length), (nI vf.length), 4, tg, 1, (nI f), (nI st), (nI sy), (ob_result y), (ob_thrown y), 0, (ob_kind y), (ob_up y), (ob_length y), (ob_value y), (ob_below y), (ob_open y), tk, ht, ta, (upd ph es.length 2), hw, kn, wr, vl, va, (upd bg es.length 0), ou)) →
      (ob_length y f ≠ 0 → st = 300 → oy_P post n ((ob_place y), (nI (es.length + 1)), (nI vs.length), (nI vf.length), 0, tg, kd, wo, (nI st), (nI sy), (ob_result y), (ob_thrown y), 1, (ob_kind y), (ob_up y), (ob_length y), (ob_value y), (ob_below y), (ob_open y), tk, ht, ta, (upd ph es.length 2), hw, kn, wr, vl, va, (upd bg es.length 0), ou)) →
      (ob_length y f ≠ 0 → st ≠ 300 → vf.length = 12 → oy_P post n ((ob_place y), (nI (es.length + 1)), (nI vs.length), (nI vf.length), 4, tg, 2, (nI f), (nI (st + 1)), (nI sy), (ob_result y), (ob_thrown y), 0, (ob_kind y), (ob_up y), (ob_length y), (ob_value y), (ob_below y), (ob_open y), tk, ht, ta, (upd ph es.length 2), hw, kn, wr, vl, va, (upd bg es.length 0), ou)) →
      (ob_length y f ≠ 0 → st ≠ 300 → vf.length ≠ 12 → oy_P post n ((ob_place y), (nI (es.length + 1 + 1)), (nI vs.length), (nI (vf.length + 1)), 0, tg, kd, wo, (nI (st + 1)), (nI sy), (ob_result y), (ob_thrown y), 0, (ob_kind y), (ob_up y), (ob_length y), (ob_value y), (ob_below y), (ob_open y), (upd tk (es.length + 1) (nI (40 * f))), (upd ht (es.length + 1) (nI vs.length)), ta, (upd (upd ph es.length 2) (es.length + 1) (nI 0)), hw, kn, wr, vl, (upd (upd (upd (upd (upd (upd va (6 * vf.length + 0) x) (6 * vf.length + 1) 0) (6 * vf.length + 2) 0) (6 * vf.length + 3) 0) (6 * vf.length + 4) 0) (6 * vf.length + 5) 0), (upd bg es.length 1), ou)) →
      wpY_expression (oy_P post n) ((ob_place y), (nI (es.length + 1)), (nI (x :: vs).length), (nI vf.length), 0, tg, kd, wo, (nI st), (nI sy), (ob_result y), (ob_thrown y), 0, (ob_kind y), (ob_up y), (ob_length y), (ob_value y), (ob_below y), (ob_open y), tk, ht, ta, ph, hw, kn, wr, vl, va, bg, ou) (nI g) 8 (nI 1) := by
    intro n H1 H2 H3 H4
    refine oy_ex (k := 8) (by decide) (fun _ e => absurd e (by decide)) (fun _ => ?_)
    refine br_f (by decide) (br_t (by decide) (br_t rfl (nm_r (e' := nI es.length) e1 ⟨vp_in_nI (by omega) (by omega), nm_r (e' := upd ph es.length 2) (by rw [nI_clamp (by omega)]; rfl) (nm_r (e' := nI vs.length) e2 ⟨by rw [e2]; exact vp_in_nI hh (by omega), nm_r (e' := x) (by rw [e2, nI_clamp (by omega)]; exact ex) ⟨vp_in_nI hg (by omega), ?_⟩⟩)⟩)))
    have eg : ob_value y (nI g).toNatClampNeg = nI f := by rw [nI_clamp (by omega)]; exact hv
    rw [eg]
    have t0 : nI (es.length + 1) ≤ nI es.length + 1 := by rw [nI_1]; exact nI_le (by omega) (by omega)
    have t1 : ¬ nI (es.length + 1 + 1) ≤ nI es.length + 1 := by rw [nI_1]; exact nI_ge (by omega) (by omega)
    refine oy_call hf hd he (by omega) hs (fun h1 => ?_) (fun h1 h2 => ?_) (fun h1 h2 h3 => ?_) (fun h1 h2 h3 => ?_)
    · exact br_t t0 ⟨vp_in_nI (by omega) (by omega), nm_r (e' := upd bg es.length 0) (by rw [nI_clamp (by omega)]; rfl) (H1 h1)⟩
    · exact br_t t0 ⟨vp_in_nI (by omega) (by omega), nm_r (e' := upd bg es.length 0) (by rw [nI_clamp (by omega)]; rfl) (H2 h1 h2)⟩
    · exact br_t t0 ⟨vp_in_nI (by omega) (by omega), nm_r (e' := upd bg es.length 0) (by rw [nI_clamp (by omega)]; rfl) (H3 h1 h2 h3)⟩
    · exact br_f t1 ⟨vp_in_nI (by omega) (by omega), nm_r (e' := upd bg es.length 1) (by rw [nI_clamp (by omega)]; rfl) (H4 h1 h2 h3)⟩
  have RE : ∀ b, oy_rE tk ht ta (upd ph es.length 2) hw kn wr (upd bg es.length b) ((g, 2, h, (ta es.length, hw es.length, kn es.length, wr es.length, b)) :: es) := by
    intro b
    refine ⟨⟨R1.1.1, pk_us, R1.1.2.2.1, rfl, rfl, rfl, rfl, pk_us⟩, oy_rE_cg R1.2 (fun j hj => ⟨rfl, rfl, rfl, pk_un (by omega), rfl, rfl, rfl, pk_un (by omega)⟩)⟩
  by_cases h1 : ob_length y f = 0
  · obtain ⟨n, hn⟩ := K1 h1 _ rfl _ _ _ _ _ _ _ _ _ _ (RE 0) R2.2 R3
    exact ⟨n, br_f (by decide) (PRE n (fun _ => hn) (fun e => absurd h1 e) (fun e => absurd h1 e) (fun e => absurd h1 e))⟩
  by_cases h2 : st = 300
  · exact ⟨0 + 1, br_f (by decide) (PRE _ (fun e => absurd e h1) (fun _ _ => oy_over (K2 h1 h2)) (fun _ e => absurd h2 e) (fun _ e => absurd h2 e))⟩
  by_cases h3 : vf.length = 12
  · obtain ⟨n, hn⟩ := K3 h1 h2 h3 _ rfl _ _ _ _ _ _ _ _ _ _ (RE 0) R2.2 R3
    exact ⟨n, br_f (by decide) (PRE n (fun e => absurd e h1) (fun _ e => absurd e h2) (fun _ _ _ => hn) (fun _ _ e => absurd h3 e))⟩
  · have RE2 : oy_rE (upd tk (es.length + 1) (nI (40 * f))) (upd ht (es.length + 1) (nI vs.length)) ta (upd (upd ph es.length 2) (es.length + 1) (nI 0)) hw kn wr (upd bg es.length 1) ((40 * f, 0, vs.length, (ta (es.length + 1), hw (es.length + 1), kn (es.length + 1), wr (es.length + 1), upd bg es.length 1 (es.length + 1))) :: (g, 2, h, (ta es.length, hw es.length, kn es.length, wr es.length, 1)) :: es) := by
      refine ⟨⟨pk_us, pk_us, pk_us, rfl, rfl, rfl, rfl, rfl⟩, oy_rE_cg (RE 1) (fun j hj => ?_)⟩
      have hj : j < es.length + 1 := hj
      exact ⟨pk_un (by omega), pk_un (by omega), rfl, pk_un (by omega), rfl, rfl, rfl, rfl⟩
    obtain ⟨n, hn⟩ := K4 h1 h2 h3 (ta es.length, hw es.length, kn es.length, wr es.length, 1) _ rfl _ _ _ _ _ _ _ _ _ _ RE2 R2.2 (oy_c45_rep (x := x) rfl R3)
    exact ⟨n, br_f (by decide) (PRE n (fun e => absurd e h1) (fun _ e => absurd e h2) (fun _ _ e => absurd e h3) (fun _ _ _ => hn))⟩
/-- the body of a CALL has ended, or it did not begin -/
theorem oy_ret0 (hg : g < 200) (hk : ob_kind y g = 8) (he : es.length < 600) (hh : h = vs.length) (hj : j.2.2.2.2 = 0)
    (K : oy_A post y es vs vf 4 tg kd wo st sy ou) : oy_A post y ((g, 2, h, j) :: es) vs vf 4 tg kd wo st sy ou := by
  subst hh
  refine oy_work (k := 8) hg hk rfl (by omega) (fun tk ht ta ph hw kn wr vl va bg R1 R2 R3 => ?_)
  have e1 : nI (es.length + 1) - 1 = nI es.length := nI_pred _
  obtain ⟨n, hn⟩ := K _ _ _ _ _ _ _ _ _ _ R1.2 R2 R3
  refine ⟨n, br_f (by decide) (oy_ex (k := 8) (by decide) (fun _ _ => ?_) (fun e => absurd ⟨rfl, rfl⟩ e))⟩
  refine And.intro (by rw [e1]; exact vp_in_nI he (by omega)) (br_t (by rw [e1, nI_clamp (by omega)]; exact R1.1.2.2.2.2.2.2.2.trans hj) ?_)
  refine br_f (by decide) (br_t rfl (br_t rfl ?_))
  exact oy_thr0 he R1 hn
theorem oy_ret1 (hg : g < 200) (hk : ob_kind y g = 8) (he : es.length < 600) (hh : h = vs.length) (hj : j.2.2.2.2 = 1)
    (K : oy_A post y es vs vf 4 tg kd wo st sy ou) : oy_A post y ((g, 2, h, j) :: es) vs (vr :: vf) 4 tg kd wo st sy ou := by
  subst hh
  refine oy_work (k := 8) hg hk rfl (by omega) (fun tk ht ta ph hw kn wr vl va bg R1 R2 R3 => ?_)
  have e1 : nI (es.length + 1) - 1 = nI es.length := nI_pred _
  obtain ⟨n, hn⟩ := K _ _ _ _ _ _ _ _ _ _ R1.2 R2 R3.2
  refine ⟨n, br_f (by decide) (oy_ex (k := 8) (by decide) (fun _ _ => ?_) (fun e => absurd ⟨rfl, rfl⟩ e))⟩
  refine And.intro (by rw [e1]; exact vp_in_nI he (by omega)) (br_f (by rw [e1, nI_clamp (by omega), R1.1.2.2.2.2.2.2.2, hj]; decide) (nm_r (nI_pred _) ?_))
  refine br_f (by decide) (br_t rfl (br_t rfl ?_))
  exact oy_thr0 he R1 hn
theorem oy_ret2 (hg : g < 200) (hk : ob_kind y g = 8) (he : es.length < 600) (hh : h = vs.length) (hj : j.2.2.2.2 = 1) (hen : ¬ en = 4) (hl7 : vs.length < 700)
    (K : oy_A post y es ((if en = 3 then wo else 0) :: vs) vf 0 tg kd wo st sy ou) : oy_A post y ((g, 2, h, j) :: es) vs (vr :: vf) en tg kd wo st sy ou := by
  subst hh
  refine oy_work (k := 8) hg hk rfl (by omega) (fun tk ht ta ph hw kn wr vl va bg R1 R2 R3 => ?_)
  have e1 : nI (es.length + 1) - 1 = nI es.length := nI_pred _
  obtain ⟨n, hn⟩ := K _ _ _ _ _ _ _ _ _ _ R1.2 (oy_push (v := if en = 3 then wo else 0) R2) R3.2
  refine ⟨n, br_f (by decide) (oy_ex (k := 8) (by decide) (fun _ _ => ?_) (fun e => absurd ⟨rfl, rfl⟩ e))⟩
  refine And.intro (by rw [e1]; exact vp_in_nI he (by omega)) (br_f (by rw [e1, nI_clamp (by omega), R1.1.2.2.2.2.2.2.2, hj]; decide) (nm_r (nI_pred _) ?_))
  by_cases h3 : en = 3
  · rw [if_pos h3] at hn
    refine br_t h3 (br_f hen (br_f (by decide) ?_))
    exact oy_thr1 he R1 hl7 hn
  · rw [if_neg h3] at hn
    refine br_f h3 (br_f hen (br_f (by decide) ?_))
    exact oy_thr1 he R1 hl7 hn
end
end
section
/-! ===== Y's machine: statements ===== -/
/-- the WHILE that Y's walk upwards finds -/
def oy_tj (K : Nat → Nat) (V : Nat → Int32) (l : Int32) : oc_P → Option Nat
  | [] => none
  | (t, _) :: p => if K t = 13 ∧ V t = l then some t else oy_tj K V l p
def oy_pu (p : oc_P) : Int32 := match p with | [] => -1 | (t, _) :: _ => nI t
def oy_on (x : Option Nat) : Int32 := match x with | none => -1 | some t => nI t
/-- the tokens above, as Y holds them in body f -/
def oy_up (y : SY) (K : Nat → Nat) (V : Nat → Int32) (f : Nat) : oc_P → Prop
  | [] => True
  | (t, _) :: p => (t < 40 ∧ K t < 22 ∧ ob_kind y (40 * f + t) = nI (K t) ∧ ob_value y (40 * f + t) = V t ∧ ob_up y (40 * f + t) = oy_pu p) ∧ oy_up y K V f p
theorem oy_lp {P : Int32 → Prop} {K : Nat → Nat} {V : Nat → Int32} {f i : Nat} {v_place v_top v_held v_depth v_ended v_endTarget v_endKind v_endWorth v_steps v_says v_result v_thrown v_over : Int32} {v_kind v_up v_length v_value v_below v_open v_token v_height v_target v_phase v_how v_kinds v_worth v_values v_variables v_begun v_output : Nat → Int32} (hf : f < 5) (hi : i < 40) (l : Int32) (hv : v_value (40 * f + i) = l) :
    ∀ p : oc_P, oy_up (v_place, v_top, v_held, v_depth, v_ended, v_endTarget, v_endKind, v_endWorth, v_steps, v_says, v_result, v_thrown, v_over, v_kind, v_up, v_length, v_value, v_below, v_open, v_token, v_height, v_target, v_phase, v_how, v_kinds, v_worth, v_values, v_variables, v_begun, v_output) K V f p → P (oy_on (oy_tj K V l p)) → wY_loop_12 P (nI f) (nI i) v_place v_top v_held v_depth v_ended v_endTarget v_endKind v_endWorth v_steps v_says v_result v_thrown v_over v_kind v_up v_length v_value v_below v_open v_token v_height v_target v_phase v_how v_kinds v_worth v_values v_variables v_begun v_output (p.length + 1) (oy_pu p)
  | [], _, H => br_t (by decide) H
  | (t, o) :: p, U, H => by
    obtain ⟨⟨u1, u2, u3, u4, u5⟩, U⟩ := U
    have ea : ∀ j, (40 : Int32) * nI f + nI j = nI (40 * f + j) := fun j => by
      have : (40 : Int32) * nI f = nI (40 * f) := pk_mul 40 f
      rw [this, nI_add]
    have c : ∀ j, j < 40 → ((40 : Int32) * nI f + nI j).toNatClampNeg = 40 * f + j := fun j hj => by rw [ea, nI_clamp (by omega)]
    have iv : ∀ j, j < 40 → vp_in ((40 : Int32) * nI f + nI j) 200 := fun j hj => by rw [ea]; exact vp_in_nI (by omega) (by omega)
    have k13 : nI (K t) = 13 ↔ K t = 13 := nI_eq (b := 13) (by omega) (by omega)
    have u3 : v_kind ((40 : Int32) * nI f + nI t).toNatClampNeg = nI (K t) := by rw [c t u1]; exact u3
    have u4 : v_value ((40 : Int32) * nI f + nI t).toNatClampNeg = V t := by rw [c t u1]; exact u4
    have u5 : v_up ((40 : Int32) * nI f + nI t).toNatClampNeg = oy_pu p := by rw [c t u1]; exact u5
    have hv : v_value ((40 : Int32) * nI f + nI i).toNatClampNeg = l := by rw [c i hi]; exact hv
    have NX : oy_tj K V l ((t, o) :: p) = oy_tj K V l p → wY_loop_57 P (wY_loop_12 P (nI f) (nI i) v_place v_top v_held v_depth v_ended v_endTarget v_endKind v_endWorth v_steps v_says v_result v_thrown v_over v_kind v_up v_length v_value v_below v_open v_token v_height v_target v_phase v_how v_kinds v_worth v_values v_variables v_begun v_output (p.length + 1)) (nI f) (nI i) (nI t) v_place v_top v_held v_depth v_ended v_endTarget v_endKind v_endWorth v_steps v_says v_result v_thrown v_over v_kind v_up v_length v_value v_below v_open v_token v_height v_target v_phase v_how v_kinds v_worth v_values v_variables v_begun v_output := by
      intro e
      refine And.intro (iv t u1) (nm_r (e' := oy_pu p) u5 (oy_lp hf hi l (by rw [← hv, c i hi]) p U ?_))
      rw [← e]; exact H
    show wY_loop_12 P (nI f) (nI i) v_place v_top v_held v_depth v_ended v_endTarget v_endKind v_endWorth v_steps v_says v_result v_thrown v_over v_kind v_up v_length v_value v_below v_open v_token v_height v_target v_phase v_how v_kinds v_worth v_values v_variables v_begun v_output (p.length + 1 + 1) (nI t)
    refine br_f (nI_pos (by omega)) ⟨iv t u1, ?_⟩
    by_cases h1 : K t = 13
    · refine br_t (by rw [u3]; exact k13.mpr h1) ⟨iv t u1, iv i hi, ?_⟩
      by_cases h2 : V t = l
      · refine br_t (by rw [u4, hv]; exact h2) ?_
        simp only [oy_tj] at H
        rw [if_pos ⟨h1, h2⟩] at H
        exact H
      · refine br_f (by rw [u4, hv]; exact h2) (NX ?_)
        simp only [oy_tj]; rw [if_neg (fun e => h2 e.2)]
    · refine br_f (by rw [u3]; exact fun e => h1 (k13.mp e)) (NX ?_)
      simp only [oy_tj]; rw [if_neg (fun e => h1 e.1)]
theorem oy_loop {P : Int32 → Prop} {K : Nat → Nat} {V : Nat → Int32} {f i : Nat} {v_place v_top v_held v_depth v_ended v_endTarget v_endKind v_endWorth v_steps v_says v_result v_thrown v_over : Int32} {v_kind v_up v_length v_value v_below v_open v_token v_height v_target v_phase v_how v_kinds v_worth v_values v_variables v_begun v_output : Nat → Int32} {p : oc_P} {l : Int32} (hf : f < 5) (hi : i < 40) (hv : v_value (40 * f + i) = l) (hu : v_up (40 * f + i) = oy_pu p) (U : oy_up (v_place, v_top, v_held, v_depth, v_ended, v_endTarget, v_endKind, v_endWorth, v_steps, v_says, v_result, v_thrown, v_over, v_kind, v_up, v_length, v_value, v_below, v_open, v_token, v_height, v_target, v_phase, v_how, v_kinds, v_worth, v_values, v_variables, v_begun, v_output) K V f p) (H : P (oy_on (oy_tj K V l p))) :
    wpY_loop P (v_place, v_top, v_held, v_depth, v_ended, v_endTarget, v_endKind, v_endWorth, v_steps, v_says, v_result, v_thrown, v_over, v_kind, v_up, v_length, v_value, v_below, v_open, v_token, v_height, v_target, v_phase, v_how, v_kinds, v_worth, v_values, v_variables, v_begun, v_output) (nI f) (nI i) := by
  have ea : (40 : Int32) * nI f + nI i = nI (40 * f + i) := by
    have : (40 : Int32) * nI f = nI (40 * f) := pk_mul 40 f
    rw [this, nI_add]
  refine And.intro (by rw [ea]; exact vp_in_nI (by omega) (by omega)) (nm_r (e' := oy_pu p) (by rw [ea, nI_clamp (by omega)]; exact hu) ⟨p.length + 1, oy_lp hf hi l hv p U H⟩)
theorem oy_st {P : SY → Prop} {v_place v_top v_held v_depth v_ended v_endTarget v_endKind v_endWorth v_steps v_says v_result v_thrown v_over : Int32} {v_kind v_up v_length v_value v_below v_open v_token v_height v_target v_phase v_how v_kinds v_worth v_values v_variables v_begun v_output : Nat → Int32} {p0 p1 : Int32} {p : Nat} {z : Int32} (hp : p < 1000) (h0 : p = 0 → z = 0) (h1 : p ≠ 0 → v_ended = 0 → z = 1) (h2 : p ≠ 0 → ¬ v_ended = 0 → z = 0) (D : wY_statement_16 P p0 p1 (nI p) z v_place v_top v_held v_depth v_ended v_endTarget v_endKind v_endWorth v_steps v_says v_result v_thrown v_over v_kind v_up v_length v_value v_below v_open v_token v_height v_target v_phase v_how v_kinds v_worth v_values v_variables v_begun v_output) : wpY_statement P (v_place, v_top, v_held, v_depth, v_ended, v_endTarget, v_endKind, v_endWorth, v_steps, v_says, v_result, v_thrown, v_over, v_kind, v_up, v_length, v_value, v_below, v_open, v_token, v_height, v_target, v_phase, v_how, v_kinds, v_worth, v_values, v_variables, v_begun, v_output) p0 p1 (nI p) := by
  by_cases e : p = 0
  · rw [h0 e] at D; subst e; exact br_t (by decide) D
  · refine br_f (nI_nle (by omega) (by omega)) ?_
    by_cases e2 : v_ended = 0
    · rw [h1 e e2] at D; exact br_t e2 D
    · rw [h2 e e2] at D; exact br_f e2 D
section
variable {post : Int32 → SY → Prop} {y : SY} {g p h k : Nat} {j : Int32 × Int32 × Int32 × Int32 × Int32} {es : List oy_E} {vs vs0 l : List Int32} {vf : List (Nat → Int32)} {vr : Nat → Int32} {en tg kd wo : Int32} {st sy : Nat} {ou : Nat → Int32}
theorem oy_k17 (hs : k = 10 ∨ k = 11 ∨ k = 12 ∨ k = 14 ∨ k = 16 ∨ k = 18 ∨ k = 21) : (9 : Int32) ≤ nI k ∧ ¬ nI k = 17 ∧ ¬ nI k = 13 ∧ ¬ nI k = 15 ∧ ¬ nI k = 19 ∧ ¬ nI k = 20 := by
  rcases hs with e | e | e | e | e | e | e <;> subst e <;> decide
theorem oy_skip (hg : g < 200) (hk : ob_kind y g = 15) (he : es.length < 600) (hh : h = vs.length)
    (K : oy_A post y es vs vf 0 tg kd wo st sy ou) : oy_A post y ((g, 0, h, j) :: es) vs vf 0 tg kd wo st sy ou := by
  subst hh
  refine oy_work (k := 15) hg hk rfl he (fun tk ht ta ph hw kn wr vl va bg R1 R2 R3 => ?_)
  obtain ⟨n, hn⟩ := K _ _ _ _ _ _ _ _ _ _ R1.2 R2 R3
  refine ⟨n, br_t (by decide) (br_f (by decide) (br_f (by decide) (oy_st (p := 0) (z := 0) (by decide) (fun _ => rfl) (fun e => absurd rfl e) (fun e => absurd rfl e) ?_)))⟩
  exact br_t rfl (oy_thr0 he R1 hn)
/-- the first part of a statement -/
theorem oy_s0 {cc g' : Nat} (hs : k = 10 ∨ k = 11 ∨ k = 12 ∨ k = 14 ∨ k = 16 ∨ k = 18 ∨ k = 21) (hg : g < 200) (hk : ob_kind y g = nI k) (hb : ob_below y (4 * g + 0) = nI cc) (hc : g / 40 * 40 + cc = g') (hg' : g' < 200) (he : es.length + 1 < 600) (hh : vs.length < 1000)
    (K : ∀ j', oy_A post y ((g', 0, vs.length, j') :: (g, 1, h, j) :: es) vs vf 0 tg kd wo st sy ou) : oy_A post y ((g, 0, h, j) :: es) vs vf en tg kd wo st sy ou := by
  refine oy_work (k := k) hg hk rfl (by omega) (fun tk ht ta ph hw kn wr vl va bg R1 R2 R3 => ?_)
  obtain ⟨j', R'⟩ := oy_opd_rep (g' := g') (hl := vs.length) (o := 0) R1
  obtain ⟨n, hn⟩ := K j' _ _ _ _ _ _ _ _ _ _ R' R2 R3
  obtain ⟨q1, q2, q3, q4, q5, q6⟩ := oy_k17 hs
  refine ⟨n, br_t q1 (br_f q2 (br_f q3 (oy_st (p := 0) (z := 0) (by decide) (fun _ => rfl) (fun e => absurd rfl e) (fun e => absurd rfl e) ?_)))⟩
  exact br_f q4 (br_f q5 (br_f q6 (br_t rfl (oy_opd (o := 0) hg (by omega) hb hc hg' he hh R1 hn))))
theorem oy_seq {cc g' : Nat} (hg : g < 200) (hk : ob_kind y g = 14) (hb : ob_below y (4 * g + 1) = nI cc) (hc : g / 40 * 40 + cc = g') (hg' : g' < 200) (he : es.length + 1 < 600) (hh : vs.length < 1000)
    (K : ∀ j', oy_A post y ((g', 0, vs.length, j') :: (g, 2, h, j) :: es) vs vf 0 tg kd wo st sy ou) : oy_A post y ((g, 1, h, j) :: es) vs vf 0 tg kd wo st sy ou := by
  refine oy_work (k := 14) hg hk rfl (by omega) (fun tk ht ta ph hw kn wr vl va bg R1 R2 R3 => ?_)
  obtain ⟨j', R'⟩ := oy_opd_rep (g' := g') (hl := vs.length) (o := 1) R1
  obtain ⟨n, hn⟩ := K j' _ _ _ _ _ _ _ _ _ _ R' R2 R3
  refine ⟨n, br_t (by decide) (br_f (by decide) (br_f (by decide) (oy_st (p := 1) (z := 1) (by decide) (fun e => absurd e (by decide)) (fun _ _ => rfl) (fun _ e => absurd rfl e) ?_)))⟩
  exact br_f (by decide) (br_f (by decide) (br_f (by decide) (br_f (by decide) (br_t rfl (br_t rfl (br_f (by decide) (oy_opd (o := 1) hg (by omega) hb hc hg' he hh R1 hn)))))))
theorem oy_if {cc g' o : Nat} {x : Int32} (hg : g < 200) (hk : ob_kind y g = 12) (ho : o = if x = 0 then 2 else 1) (hb : ob_below y (4 * g + o) = nI cc) (hc : g / 40 * 40 + cc = g') (hg' : g' < 200) (he : es.length + 1 < 600) (hh : vs.length < 700)
    (K : ∀ j', oy_A post y ((g', 0, vs.length, j') :: (g, o + 1, h, j) :: es) vs vf 0 tg kd wo st sy ou) : oy_A post y ((g, 1, h, j) :: es) (x :: vs) vf 0 tg kd wo st sy ou := by
  refine oy_work (k := 12) hg hk rfl (by omega) (fun tk ht ta ph hw kn wr vl va bg R1 R2 R3 => ?_)
  obtain ⟨j', R'⟩ := oy_opd_rep (g' := g') (hl := vs.length) (o := o) R1
  obtain ⟨n, hn⟩ := K j' _ _ _ _ _ _ _ _ _ _ R' R2.2 R3
  have e2 : nI (x :: vs).length - 1 = nI vs.length := nI_pred _
  have ex : vl vs.length = x := by have := R2.1; rw [Nat.zero_add] at this; exact this
  refine ⟨n, br_t (by decide) (br_f (by decide) (br_f (by decide) (oy_st (p := 1) (z := 1) (by decide) (fun e => absurd e (by decide)) (fun _ _ => rfl) (fun _ e => absurd rfl e) ?_)))⟩
  refine br_f (by decide) (br_f (by decide) (br_f (by decide) (br_f (by decide) (br_f (by decide) (br_t rfl (br_t rfl (br_f (by decide) (nm_r e2 ⟨by rw [e2]; exact vp_in_nI hh (by omega), nm_r (e' := x) (by rw [e2, nI_clamp (by omega)]; exact ex) ?_⟩))))))))
  by_cases h0 : x = 0
  · rw [if_pos h0] at ho; subst ho
    exact br_t h0 (oy_opd (o := 2) hg (by omega) hb hc hg' he (by omega) R1 hn)
  · rw [if_neg h0] at ho; subst ho
    exact br_f h0 (oy_opd (o := 1) hg (by omega) hb hc hg' he (by omega) R1 hn)
/-- a part of a statement did not end normally -/
theorem oy_s6 (hs : k = 10 ∨ k = 11 ∨ k = 12 ∨ k = 14 ∨ k = 16 ∨ k = 18 ∨ k = 21) (hg : g < 200) (hk : ob_kind y g = nI k) (hp : p ≠ 0) (hp9 : p < 1000) (hen : ¬ en = 0) (he : es.length < 600) (hh : h = vs0.length)
    (K : oy_A post y es vs0 vf en tg kd wo st sy ou) : oy_A post y ((g, p, h, j) :: es) (l ++ vs0) vf en tg kd wo st sy ou := by
  subst hh
  refine oy_work (k := k) hg hk rfl (by omega) (fun tk ht ta ph hw kn wr vl va bg R1 R2 R3 => ?_)
  obtain ⟨n, hn⟩ := K _ _ _ _ _ _ _ _ _ _ R1.2 (oy_rS_app R2) R3
  obtain ⟨q1, q2, q3, q4, q5, q6⟩ := oy_k17 hs
  refine ⟨n, br_t q1 (br_f q2 (br_f q3 (oy_st (z := 0) hp9 (fun e => absurd e hp) (fun _ e => absurd e hen) (fun _ _ => rfl) ?_)))⟩
  have G : wY_statement_185 (oy_P post n) (nI g) (nI k) 0 (ob_place y) (nI (es.length + 1)) (nI (l ++ vs0).length) (nI vf.length) en tg kd wo (nI st) (nI sy) (ob_result y) (ob_thrown y) 0 (ob_kind y) (ob_up y) (ob_length y) (ob_value y) (ob_below y) (ob_open y) tk ht ta ph hw kn wr vl va bg ou := br_t rfl (oy_thr0 he R1 hn)
  have G2 : wY_statement_134 (oy_P post n) (nI g) (nI k) (nI p) 0 (ob_place y) (nI (es.length + 1)) (nI (l ++ vs0).length) (nI vf.length) en tg kd wo (nI st) (nI sy) (ob_result y) (ob_thrown y) 0 (ob_kind y) (ob_up y) (ob_length y) (ob_value y) (ob_below y) (ob_open y) tk ht ta ph hw kn wr vl va bg ou := br_c (fun _ => br_c (fun _ => br_t rfl G) (fun _ => G)) (fun _ => G)
  exact br_f q4 (br_f q5 (br_f q6 (br_f (nI_ne0 (by omega) (by omega)) (br_c (fun _ => br_c (fun _ => br_t rfl G2) (fun _ => G2)) (fun _ => G2)))))
/-- SEQ, IF, CATCH are through -/
theorem oy_s6n (hs : (k = 14 ∧ p = 2) ∨ (k = 12 ∧ (p = 2 ∨ p = 3)) ∨ (k = 18 ∧ p = 1)) (hg : g < 200) (hk : ob_kind y g = nI k) (he : es.length < 600) (hh : h = vs.length)
    (K : oy_A post y es vs vf 0 tg kd wo st sy ou) : oy_A post y ((g, p, h, j) :: es) vs vf 0 tg kd wo st sy ou := by
  subst hh
  refine oy_work (k := k) hg hk rfl (by omega) (fun tk ht ta ph hw kn wr vl va bg R1 R2 R3 => ?_)
  obtain ⟨n, hn⟩ := K _ _ _ _ _ _ _ _ _ _ R1.2 R2 R3
  have T : wY_statement_230 (oy_P post n) (ob_place y) (nI (es.length + 1)) (nI vs.length) (nI vf.length) 0 tg kd wo (nI st) (nI sy) (ob_result y) (ob_thrown y) 0 (ob_kind y) (ob_up y) (ob_length y) (ob_value y) (ob_below y) (ob_open y) tk ht ta ph hw kn wr vl va bg ou := oy_thr0 he R1 hn
  rcases hs with ⟨e1, e2⟩ | ⟨e1, e2 | e2⟩ | ⟨e1, e2⟩ <;> subst e1 <;> subst e2 <;> refine ⟨n, br_t (by decide) (br_f (by decide) (br_f (by decide) (oy_st (z := 1) (by decide) (fun e => absurd e (by decide)) (fun _ _ => rfl) (fun _ e => absurd rfl e) ?_)))⟩
  · exact br_f (by decide) (br_f (by decide) (br_f (by decide) (br_f (by decide) (br_t rfl (br_f (by decide) (br_f (by decide) (br_f (by decide) (br_t rfl T))))))))
  · exact br_f (by decide) (br_f (by decide) (br_f (by decide) (br_f (by decide) (br_f (by decide) (br_t rfl (br_f (by decide) (br_f (by decide) (br_f (by decide) (br_t rfl T)))))))))
  · exact br_f (by decide) (br_f (by decide) (br_f (by decide) (br_f (by decide) (br_f (by decide) (br_t rfl (br_f (by decide) (br_f (by decide) (br_f (by decide) (br_t rfl T)))))))))
  · exact br_f (by decide) (br_f (by decide) (br_f (by decide) (br_f (by decide) (br_f (by decide) (br_f (by decide) (br_f (by decide) (br_f (by decide) (br_f (by decide) (br_t rfl T)))))))))
/-- the expression of a SET, SAY, THROW or RETURN is worked out: U is what is asked of its use -/
theorem oy_use {x : Int32} (hs : k = 10 ∨ k = 11 ∨ k = 16 ∨ k = 21) (hg : g < 200) (hk : ob_kind y g = nI k) (he : es.length < 600) (hl7 : vs.length < 700)
    (H : ∀ tk ht ta ph hw kn wr vl va bg : Nat → Int32, oy_rE tk ht ta ph hw kn wr bg ((g, 1, h, j) :: es) → ox_rS vl 0 vs → oy_rV va vf → ∃ n, ∀ Q : SY → Prop, (∀ {v_place v_top v_held v_depth v_ended v_endTarget v_endKind v_endWorth v_steps v_says v_result v_thrown v_over : Int32} {v_kind v_up v_length v_value v_below v_open v_token v_height v_target v_phase v_how v_kinds v_worth v_values v_variables v_begun v_output : Nat → Int32} , wpY_through (oy_P post n) (v_place, v_top, v_held, v_depth, v_ended, v_endTarget, v_endKind, v_endWorth, v_steps, v_says, v_result, v_thrown, v_over, v_kind, v_up, v_length, v_value, v_below, v_open, v_token, v_height, v_target, v_phase, v_how, v_kinds, v_worth, v_values, v_variables, v_begun, v_output) 0 0 → Q (v_place, v_top, v_held, v_depth, v_ended, v_endTarget, v_endKind, v_endWorth, v_steps, v_says, v_result, v_thrown, v_over, v_kind, v_up, v_length, v_value, v_below, v_open, v_token, v_height, v_target, v_phase, v_how, v_kinds, v_worth, v_values, v_variables, v_begun, v_output)) → wpY_use Q ((ob_place y), (nI (es.length + 1)), (nI (x :: vs).length), (nI vf.length), 0, tg, kd, wo, (nI st), (nI sy), (ob_result y), (ob_thrown y), 0, (ob_kind y), (ob_up y), (ob_length y), (ob_value y), (ob_below y), (ob_open y), tk, ht, ta, ph, hw, kn, wr, vl, va, bg, ou) (nI k) (ob_value y g) x) :
    oy_A post y ((g, 1, h, j) :: es) (x :: vs) vf 0 tg kd wo st sy ou := by
  refine oy_work (k := k) hg hk rfl (by omega) (fun tk ht ta ph hw kn wr vl va bg R1 R2 R3 => ?_)
  obtain ⟨n, hn⟩ := H _ _ _ _ _ _ _ _ _ _ R1 R2.2 R3
  have e2 : nI (x :: vs).length - 1 = nI vs.length := nI_pred _
  have ex : vl (nI (x :: vs).length - 1).toNatClampNeg = x := by rw [e2, nI_clamp (by omega)]; have := R2.1; rw [Nat.zero_add] at this; exact this
  have eg : ob_value y (nI g).toNatClampNeg = ob_value y g := by rw [nI_clamp (by omega)]
  obtain ⟨q1, q2, q3, q4, q5, q6⟩ := oy_k17 (k := k) (by omega)
  have q7 : ¬ nI k = 14 ∧ ¬ nI k = 12 ∧ ¬ nI k = 18 := by rcases hs with e | e | e | e <;> subst e <;> decide
  refine ⟨n, br_t q1 (br_f q2 (br_f q3 (oy_st (p := 1) (z := 1) (by decide) (fun e => absurd e (by decide)) (fun _ _ => rfl) (fun _ e => absurd rfl e) ?_)))⟩
  refine br_f q4 (br_f q5 (br_f q6 (br_f (by decide) (br_f q7.1 (br_f q7.2.1 (br_f (by decide) (br_f q7.1 (br_f q7.2.1 (br_f q7.2.2 ⟨vp_in_nI hg (by omega), by rw [e2]; exact vp_in_nI hl7 (by omega), ?_⟩)))))))))
  rw [ex, eg]
  exact hn _ (fun h => h)
end
end
section
/-! ===== Y's machine: uses, jumps, WHILE, TRY ===== -/
section
variable {post : Int32 → SY → Prop} {y : SY} {g p h k : Nat} {j : Int32 × Int32 × Int32 × Int32 × Int32} {es : List oy_E} {vs vs0 l : List Int32} {vf : List (Nat → Int32)} {vr : Nat → Int32} {en tg kd wo : Int32} {st sy : Nat} {ou : Nat → Int32}
theorem oy_vup {va vr : Nat → Int32} {w : Nat} {x : Int32} (hw6 : w < 6) (R : oy_rV va (vr :: vf)) : oy_rV (upd va (6 * vf.length + w) x) (upd vr w x :: vf) := by
  refine ⟨fun u hu => ?_, oy_rV_cg R.2 (fun u hu => pk_un (by omega))⟩
  by_cases e : u = w
  · subst e; rw [pk_us, pk_us]
  · rw [pk_un (by omega), pk_un e]; exact R.1 u hu
theorem oy_vix {w : Nat} (hd : vf.length < 12) (hw6 : w < 6) : (6 : Int32) * (nI (vr :: vf).length - 1) + nI w = nI (6 * vf.length + w) := by
  have e1 : nI (vr :: vf).length - 1 = nI vf.length := nI_pred _
  have e2 : (6 : Int32) * nI vf.length = nI (6 * vf.length) := pk_mul 6 _
  rw [e1, e2, nI_add]
theorem oy_set {x : Int32} {w : Nat} (hg : g < 200) (hk : ob_kind y g = 10) (hv : ob_value y g = nI w) (hw6 : w < 6) (he : es.length < 600) (hh : h = vs.length) (hl7 : vs.length < 700) (hd : vf.length < 12)
    (K : oy_A post y es vs (upd vr w x :: vf) 0 tg kd wo st sy ou) : oy_A post y ((g, 1, h, j) :: es) (x :: vs) (vr :: vf) 0 tg kd wo st sy ou := by
  subst hh
  refine oy_use (k := 10) (by omega) hg hk he hl7 (fun tk ht ta ph hw kn wr vl va bg R1 R2 R3 => ?_)
  obtain ⟨n, hn⟩ := K _ _ _ _ _ _ _ _ _ _ R1.2 R2 (oy_vup hw6 R3)
  refine ⟨n, fun Q F => ?_⟩
  rw [hv]
  refine br_t rfl ⟨by rw [oy_vix hd hw6]; exact vp_in_nI (by omega) (by omega), nm_r (e' := upd va (6 * vf.length + w) x) (by rw [oy_vix hd hw6, nI_clamp (by omega)]) ?_⟩
  refine br_f (by decide) (br_f (by decide) (br_f (by decide) (br_f (by decide) (F ?_))))
  exact oy_thr0 he R1 hn
theorem oy_say {x : Int32} (hg : g < 200) (hk : ob_kind y g = 11) (he : es.length < 600) (hh : h = vs.length) (hl7 : vs.length < 700) (hs : sy < 1000000)
    (K : oy_A post y es vs vf 0 tg kd wo st (sy + 1) (if sy < 40 then upd ou sy x else ou)) : oy_A post y ((g, 1, h, j) :: es) (x :: vs) vf 0 tg kd wo st sy ou := by
  subst hh
  refine oy_use (k := 11) (by omega) hg hk he hl7 (fun tk ht ta ph hw kn wr vl va bg R1 R2 R3 => ?_)
  obtain ⟨n, hn⟩ := K _ _ _ _ _ _ _ _ _ _ R1.2 R2 R3
  refine ⟨n, fun Q F => ?_⟩
  refine br_f (by decide) (br_t rfl (pk_le 40 sy (fun h => ?_) (fun h => ?_)))
  · rw [if_neg (by omega)] at hn
    exact br_t rfl (nm_r (nI_1 _) (br_f (by decide) (br_f (by decide) (F (oy_thr0 he R1 hn)))))
  · rw [if_pos (by omega)] at hn
    exact ⟨vp_in_nI h (by omega), nm_r (e' := upd ou sy x) (by rw [nI_clamp (by omega)]) (br_t rfl (nm_r (nI_1 _) (br_f (by decide) (br_f (by decide) (F (oy_thr0 he R1 hn))))))⟩
theorem oy_throw {x : Int32} (hg : g < 200) (hk : ob_kind y g = 16) (he : es.length < 600) (hh : h = vs.length) (hl7 : vs.length < 700)
    (K : oy_A post y es vs vf 4 tg (ob_value y g) x st sy ou) : oy_A post y ((g, 1, h, j) :: es) (x :: vs) vf 0 tg kd wo st sy ou := by
  subst hh
  refine oy_use (k := 16) (by omega) hg hk he hl7 (fun tk ht ta ph hw kn wr vl va bg R1 R2 R3 => ?_)
  obtain ⟨n, hn⟩ := K _ _ _ _ _ _ _ _ _ _ R1.2 R2 R3
  refine ⟨n, fun Q F => ?_⟩
  refine br_f (by decide) (br_f (by decide) (br_f (by decide) (br_t rfl ?_)))
  have T : wpY_through (oy_P post n) ((ob_place y), (nI (es.length + 1)), (nI (x :: vs).length), (nI vf.length), 4, tg, (ob_value y g), x, (nI st), (nI sy), (ob_result y), (ob_thrown y), 0, (ob_kind y), (ob_up y), (ob_length y), (ob_value y), (ob_below y), (ob_open y), tk, ht, ta, ph, hw, kn, wr, vl, va, bg, ou) 0 0 := oy_thr0 he R1 hn
  have T2 : wY_use_76 Q (nI 16) x (ob_place y) (nI (es.length + 1)) (nI (x :: vs).length) (nI vf.length) 4 tg (ob_value y g) x (nI st) (nI sy) (ob_result y) (ob_thrown y) 0 (ob_kind y) (ob_up y) (ob_length y) (ob_value y) (ob_below y) (ob_open y) tk ht ta ph hw kn wr vl va bg ou := br_f (by decide) (F T)
  exact T2
theorem oy_rtn {x : Int32} (hg : g < 200) (hk : ob_kind y g = 21) (he : es.length < 600) (hh : h = vs.length) (hl7 : vs.length < 700)
    (K : oy_A post y es vs vf 3 tg kd x st sy ou) : oy_A post y ((g, 1, h, j) :: es) (x :: vs) vf 0 tg kd wo st sy ou := by
  subst hh
  refine oy_use (k := 21) (by omega) hg hk he hl7 (fun tk ht ta ph hw kn wr vl va bg R1 R2 R3 => ?_)
  obtain ⟨n, hn⟩ := K _ _ _ _ _ _ _ _ _ _ R1.2 R2 R3
  refine ⟨n, fun Q F => ?_⟩
  refine br_f (by decide) (br_f (by decide) (br_f (by decide) (br_f (by decide) (br_t rfl ?_))))
  have T : wpY_through (oy_P post n) ((ob_place y), (nI (es.length + 1)), (nI (x :: vs).length), (nI vf.length), 3, tg, kd, x, (nI st), (nI sy), (ob_result y), (ob_thrown y), 0, (ob_kind y), (ob_up y), (ob_length y), (ob_value y), (ob_below y), (ob_open y), tk, ht, ta, ph, hw, kn, wr, vl, va, bg, ou) 0 0 := oy_thr0 he R1 hn
  exact F T
theorem oy_upc {K : Nat → Nat} {V : Nat → Int32} {f : Nat} {y y' : SY} (h1 : ob_kind y' = ob_kind y) (h2 : ob_value y' = ob_value y) (h3 : ob_up y' = ob_up y) : ∀ p : oc_P, oy_up y K V f p → oy_up y' K V f p
  | [], _ => trivial
  | (t, o) :: p, U => ⟨by rw [h1, h2, h3]; exact U.1, oy_upc h1 h2 h3 p U.2⟩
/-- BREAK, CONTINUE -/
theorem oy_brk {K : Nat → Nat} {V : Nat → Int32} {f i t : Nat} {p : oc_P} {lb : Int32} (hs : k = 19 ∨ k = 20) (hf : f < 5) (hi : i < 40) (hg : g = 40 * f + i) (hk : ob_kind y g = nI k) (hv : ob_value y g = lb) (hu : ob_up y g = oy_pu p) (U : oy_up y K V f p) (ht : oy_tj K V lb p = some t) (ht4 : t < 40) (he : es.length < 600) (hh : h = vs.length)
    (KK : oy_A post y es vs vf (nI (k - 18)) (nI (40 * f + t)) kd 0 st sy ou) : oy_A post y ((g, 0, h, j) :: es) vs vf 0 tg kd wo st sy ou := by
  subst hh hg
  have hL := ht
  refine oy_work (k := k) (by omega) hk rfl he (fun tk htt ta ph hw kn wr vl va bg R1 R2 R3 => ?_)
  obtain ⟨n, hn⟩ := KK _ _ _ _ _ _ _ _ _ _ R1.2 R2 R3
  have d1 : nI (40 * f + i) / 40 = nI f := by
    have : nI (40 * f + i) / 40 = nI ((40 * f + i) / 40) := pk_div (d := 40) (by omega) (by omega) (by omega)
    rw [this]; congr 1; omega
  have d2 : nI (40 * f + i) - nI (40 * f + i) / 40 * 40 = nI i := by
    have : nI (40 * f + i) - nI (40 * f + i) / nI 40 * nI 40 = nI ((40 * f + i) % 40) := pk_rem (d := 40) (by omega) (by omega) (by omega)
    have e : (40 * f + i) % 40 = i := by omega
    rw [e] at this; exact this
  have G : ∀ z : Int32, z = nI (k - 18) → (¬ (40 : Int32) = 0 ∧ (∀ q : Int32, q = ((nI (40 * f + i) / 40) * 40) + nI t → oy_P post n ((ob_place y), (nI es.length), (nI vs.length), (nI vf.length), z, q, kd, 0, (nI st), (nI sy), (ob_result y), (ob_thrown y), 0, (ob_kind y), (ob_up y), (ob_length y), (ob_value y), (ob_below y), (ob_open y), tk, htt, ta, ph, hw, kn, wr, vl, va, bg, ou))) := by
    intro z ez
    refine ⟨by decide, nm_r (e' := nI (40 * f + t)) ?_ ?_⟩
    · have e4 : nI f * 40 = nI (40 * f) := by rw [show (40 : Int32) = nI 40 from rfl, pk_mul, Nat.mul_comm]
      rw [d1, e4, nI_add]
    · rw [ez]; exact hn
  have LP : ∀ P : Int32 → Prop, P (nI t) → wpY_loop P ((ob_place y), (nI (es.length + 1)), (nI vs.length), (nI vf.length), 0, tg, kd, wo, (nI st), (nI sy), (ob_result y), (ob_thrown y), 0, (ob_kind y), (ob_up y), (ob_length y), (ob_value y), (ob_below y), (ob_open y), tk, htt, ta, ph, hw, kn, wr, vl, va, bg, ou) (nI (40 * f + i) / 40) (nI (40 * f + i) - nI (40 * f + i) / 40 * 40) := by
    intro P HP
    rw [d2, d1]
    exact oy_loop (K := K) (V := V) (p := p) (l := lb) hf hi hv hu (by refine oy_upc (y := y) ?_ ?_ ?_ p U <;> rfl) (by rw [hL]; exact HP)
  refine ⟨n, ?_⟩
  rcases hs with e | e <;> subst e
  · refine br_t (by decide) (br_f (by decide) (br_f (by decide) (oy_st (p := 0) (z := 0) (by decide) (fun _ => rfl) (fun e => absurd rfl e) (fun e => absurd rfl e) ?_)))
    exact br_f (by decide) (br_t rfl ⟨by decide, by decide, LP _ (oy_thr0 he R1 (br_t rfl (G 1 rfl)))⟩)
  · refine br_t (by decide) (br_f (by decide) (br_f (by decide) (oy_st (p := 0) (z := 0) (by decide) (fun _ => rfl) (fun e => absurd rfl e) (fun e => absurd rfl e) ?_)))
    exact br_f (by decide) (br_f (by decide) (br_t rfl ⟨by decide, by decide, LP _ (oy_thr0 he R1 (br_f (by decide) (G 2 rfl)))⟩))
/-! WHILE -/
theorem oy_w0 {cc g' : Nat} (hc0 : (p = 0 ∧ en = 0) ∨ (p = 2 ∧ en = 0) ∨ (p = 2 ∧ en = 2 ∧ tg = nI g)) (hg : g < 200) (hk : ob_kind y g = 13) (hb : ob_below y (4 * g + 0) = nI cc) (hc : g / 40 * 40 + cc = g') (hg' : g' < 200) (he : es.length + 1 < 600) (hh : vs.length < 1000) (hs : st ≤ 300)
    (K0 : st = 300 → oy_V post y st sy ou)
    (K : st ≠ 300 → ∀ j', oy_A post y ((g', 0, vs.length, j') :: (g, 1, h, j) :: es) vs vf 0 tg kd wo (st + 1) sy ou) : oy_A post y ((g, p, h, j) :: es) vs vf en tg kd wo st sy ou := by
  refine oy_work (k := 13) hg hk rfl (by omega) (fun tk ht ta ph hw kn wr vl va bg R1 R2 R3 => ?_)
  have PRE : ∀ n, wY_repeat_58 (oy_P post n) (ob_place y) (nI (es.length + 1)) (nI vs.length) (nI vf.length) en tg kd wo (nI st) (nI sy) (ob_result y) (ob_thrown y) 0 (ob_kind y) (ob_up y) (ob_length y) (ob_value y) (ob_below y) (ob_open y) tk ht ta ph hw kn wr vl va bg ou → wpY_repeat (oy_P post n) ((ob_place y), (nI (es.length + 1)), (nI vs.length), (nI vf.length), en, tg, kd, wo, (nI st), (nI sy), (ob_result y), (ob_thrown y), 0, (ob_kind y), (ob_up y), (ob_length y), (ob_value y), (ob_below y), (ob_open y), tk, ht, ta, ph, hw, kn, wr, vl, va, bg, ou) (nI g) (nI p) := by
    intro n G
    rcases hc0 with ⟨e1, e2⟩ | ⟨e1, e2⟩ | ⟨e1, e2, e3⟩
    · subst e1 e2; exact br_f (by decide) (br_f (by decide) (br_t rfl G))
    · subst e1 e2; exact br_f (by decide) (br_f (by decide) (br_f (by decide) (br_t rfl (br_t rfl G))))
    · subst e1 e2; exact br_f (by decide) (br_t rfl (br_t e3 (br_f (by decide) (br_t rfl (br_f (by decide) (br_f (by decide) (br_t rfl G)))))))
  by_cases h3 : st = 300
  · refine ⟨0 + 1, br_t (by decide) (br_f (by decide) (br_t rfl (PRE _ ?_)))⟩
    exact br_t (by rw [h3]; rfl) (br_t rfl (oy_over (K0 h3)))
  · obtain ⟨j', R'⟩ := oy_opd_rep (g' := g') (hl := vs.length) (o := 0) R1
    obtain ⟨n, hn⟩ := K h3 j' _ _ _ _ _ _ _ _ _ _ R' R2 R3
    refine ⟨n, br_t (by decide) (br_f (by decide) (br_t rfl (PRE _ ?_)))⟩
    refine br_f (fun e => h3 ((nI_eq (b := 300) (by omega) (by omega)).mp e)) (nm_r (nI_1 _) (br_f (by decide) ?_))
    exact oy_opd (o := 0) hg (by omega) hb hc hg' he hh R1 hn
theorem oy_w1 {cc g' : Nat} {x : Int32} (hg : g < 200) (hk : ob_kind y g = 13) (hb : ob_below y (4 * g + 1) = nI cc) (hc : g / 40 * 40 + cc = g') (hg' : g' < 200) (he : es.length + 1 < 600) (hh : h = vs.length) (hl7 : vs.length < 700)
    (K0 : x = 0 → oy_A post y es vs vf 0 tg kd wo st sy ou)
    (K : ¬ x = 0 → ∀ j', oy_A post y ((g', 0, vs.length, j') :: (g, 2, h, j) :: es) vs vf 0 tg kd wo st sy ou) : oy_A post y ((g, 1, h, j) :: es) (x :: vs) vf 0 tg kd wo st sy ou := by
  subst hh
  refine oy_work (k := 13) hg hk rfl (by omega) (fun tk ht ta ph hw kn wr vl va bg R1 R2 R3 => ?_)
  have e2 : nI (x :: vs).length - 1 = nI vs.length := nI_pred _
  have ex : vl vs.length = x := by have := R2.1; rw [Nat.zero_add] at this; exact this
  by_cases h0 : x = 0
  · obtain ⟨n, hn⟩ := K0 h0 _ _ _ _ _ _ _ _ _ _ R1.2 R2.2 R3
    refine ⟨n, br_t (by decide) (br_f (by decide) (br_t rfl (br_f (by decide) (br_f (by decide) (br_f (by decide) (br_f (by decide) (br_t rfl (br_t rfl (nm_r e2 ⟨by rw [e2]; exact vp_in_nI hl7 (by omega), nm_r (e' := x) (by rw [e2, nI_clamp (by omega)]; exact ex) (br_t h0 ?_)⟩)))))))))⟩
    exact oy_thr0 (by omega) R1 hn
  · obtain ⟨j', R'⟩ := oy_opd_rep (g' := g') (hl := vs.length) (o := 1) R1
    obtain ⟨n, hn⟩ := K h0 j' _ _ _ _ _ _ _ _ _ _ R' R2.2 R3
    refine ⟨n, br_t (by decide) (br_f (by decide) (br_t rfl (br_f (by decide) (br_f (by decide) (br_f (by decide) (br_f (by decide) (br_t rfl (br_t rfl (nm_r e2 ⟨by rw [e2]; exact vp_in_nI hl7 (by omega), nm_r (e' := x) (by rw [e2, nI_clamp (by omega)]; exact ex) (br_f h0 ?_)⟩)))))))))⟩
    exact oy_opd (o := 1) hg (by omega) hb hc hg' he (by omega) R1 hn
theorem oy_w2 (hg : g < 200) (hk : ob_kind y g = 13) (ht : tg = nI g) (he : es.length < 600) (hh : h = vs.length)
    (K : oy_A post y es vs vf 0 tg kd wo st sy ou) : oy_A post y ((g, 2, h, j) :: es) vs vf 1 tg kd wo st sy ou := by
  subst hh
  refine oy_work (k := 13) hg hk rfl (by omega) (fun tk htt ta ph hw kn wr vl va bg R1 R2 R3 => ?_)
  obtain ⟨n, hn⟩ := K _ _ _ _ _ _ _ _ _ _ R1.2 R2 R3
  refine ⟨n, br_t (by decide) (br_f (by decide) (br_t rfl (br_t rfl (br_t ht (br_f (by decide) (br_t rfl (br_f (by decide) (br_f (by decide) (br_f (by decide) (br_f (by decide) ?_))))))))))⟩
  exact oy_thr0 he R1 (br_f (by decide) hn)
theorem oy_w3 (hp : p = 1 ∨ p = 2) (hen : ¬ en = 0) (hm : en = 1 ∨ en = 2 → ¬ tg = nI g) (hg : g < 200) (hk : ob_kind y g = 13) (he : es.length < 600) (hh : h = vs0.length)
    (K : oy_A post y es vs0 vf en tg kd wo st sy ou) : oy_A post y ((g, p, h, j) :: es) (l ++ vs0) vf en tg kd wo st sy ou := by
  subst hh
  refine oy_work (k := 13) hg hk rfl (by omega) (fun tk ht ta ph hw kn wr vl va bg R1 R2 R3 => ?_)
  obtain ⟨n, hn⟩ := K _ _ _ _ _ _ _ _ _ _ R1.2 (oy_rS_app R2) R3
  have T : wY_repeat_129 (oy_P post n) 0 (ob_place y) (nI (es.length + 1)) (nI (l ++ vs0).length) (nI vf.length) en tg kd wo (nI st) (nI sy) (ob_result y) (ob_thrown y) 0 (ob_kind y) (ob_up y) (ob_length y) (ob_value y) (ob_below y) (ob_open y) tk ht ta ph hw kn wr vl va bg ou := oy_thr0 he R1 (br_t rfl hn)
  have T2 : wY_repeat_28 (oy_P post n) (nI p) (ob_place y) (nI (es.length + 1)) (nI (l ++ vs0).length) (nI vf.length) en tg kd wo (nI st) (nI sy) (ob_result y) (ob_thrown y) 0 (ob_kind y) (ob_up y) (ob_length y) (ob_value y) (ob_below y) (ob_open y) tk ht ta ph hw kn wr vl va bg ou := by
    rcases hp with e | e <;> subst e
    · exact br_f (by decide) (br_f (by decide) (br_t rfl (br_f hen T)))
    · exact br_f (by decide) (br_t rfl (br_f hen (br_t rfl (br_f (by decide) T))))
  refine ⟨n, br_t (by decide) (br_f (by decide) (br_t rfl ?_))⟩
  by_cases h1 : en = 1
  · exact br_t h1 (br_f (hm (Or.inl h1)) T2)
  · by_cases h2 : en = 2
    · exact br_f h1 (br_t h2 (br_f (hm (Or.inr h2)) T2))
    · exact br_f h1 (br_f h2 T2)
/-! TRY -/
theorem ot_v17b {v : Int32} (h : ot_ok 17 v) : (v &&& 3) = nI (ot_nc v) ∧ (v ≤ 3 ↔ ot_cl v = false) := by
  rcases h.2.2.2.2.1 rfl with e | e | e | e | e <;> subst e <;> decide
/-- which catch is taken -/
def oy_cho (nc : Nat) (m : Nat → Bool) : Nat := if 1 ≤ nc ∧ m 1 = true then 1 else if 2 ≤ nc ∧ m 2 = true then 2 else 0
theorem oy_chosen {P : Int32 → Prop} {v_place v_top v_held v_depth v_ended v_endTarget v_endKind v_endWorth v_steps v_says v_result v_thrown v_over : Int32} {v_kind v_up v_length v_value v_below v_open v_token v_height v_target v_phase v_how v_kinds v_worth v_values v_variables v_begun v_output : Nat → Int32} {nc : Nat} {cc : Nat → Nat} {vc : Nat → Int32} (hg : g < 200) (hn : nc ≤ 2) (hb : ∀ o, 1 ≤ o → o ≤ nc → v_below (4 * g + o) = nI (cc o) ∧ g / 40 * 40 + cc o < 200 ∧ v_value (g / 40 * 40 + cc o) = vc o)
    (H : P (nI (oy_cho nc (fun o => decide ((vc o &&& 7) = 4 ∨ (vc o &&& 7) = v_endKind))))) : wpY_chosen P (v_place, v_top, v_held, v_depth, v_ended, v_endTarget, v_endKind, v_endWorth, v_steps, v_says, v_result, v_thrown, v_over, v_kind, v_up, v_length, v_value, v_below, v_open, v_token, v_height, v_target, v_phase, v_how, v_kinds, v_worth, v_values, v_variables, v_begun, v_output) (nI g) (nI nc) := by
  have e4 : ∀ o, (4 : Int32) * nI g + nI o = nI (4 * g + o) := fun o => by
    have : (4 : Int32) * nI g = nI (4 * g) := pk_mul 4 g
    rw [this, nI_add]
  have a1 : nI g / 40 * 40 = nI (g / 40 * 40) := by
    have a1 : nI g / 40 = nI (g / 40) := pk_div (d := 40) (by omega) (by omega) (by omega)
    have a2 : nI (g / 40) * 40 = nI (g / 40 * 40) := pk_mul _ 40
    rw [a1, a2]
  -- one turn at o
  have TURN : ∀ n o, 1 ≤ o → o ≤ nc → (((vc o &&& 7) = 4 ∨ (vc o &&& 7) = v_endKind) → P (nI o)) → (¬ ((vc o &&& 7) = 4 ∨ (vc o &&& 7) = v_endKind) → wY_chosen_2 P (nI g) (nI nc) v_place v_top v_held v_depth v_ended v_endTarget v_endKind v_endWorth v_steps v_says v_result v_thrown v_over v_kind v_up v_length v_value v_below v_open v_token v_height v_target v_phase v_how v_kinds v_worth v_values v_variables v_begun v_output n (nI (o + 1))) → wY_chosen_2 P (nI g) (nI nc) v_place v_top v_held v_depth v_ended v_endTarget v_endKind v_endWorth v_steps v_says v_result v_thrown v_over v_kind v_up v_length v_value v_below v_open v_token v_height v_target v_phase v_how v_kinds v_worth v_values v_variables v_begun v_output (n + 1) (nI o) := by
    intro n o h1 h2 T F
    obtain ⟨b1, b2, b3⟩ := hb o h1 h2
    refine br_f (nI_nlt h2 (by omega)) ⟨by decide, by rw [e4]; exact vp_in_nI (by omega) (by omega), nm_r (e' := nI (g / 40 * 40 + cc o)) (by rw [e4, nI_clamp (by omega), b1, a1, nI_add]) ⟨vp_in_nI b2 (by omega), nm_r (e' := vc o &&& 7) (by rw [nI_clamp (by omega), b3]) ?_⟩⟩
    by_cases c1 : (vc o &&& 7) = 4
    · exact br_t c1 (T (Or.inl c1))
    · refine br_f c1 ?_
      by_cases c2 : (vc o &&& 7) = v_endKind
      · exact br_t c2 (T (Or.inr c2))
      · exact br_f c2 (nm_r (nI_1 _) (F (fun e => e.elim c1 c2)))
  have END : ∀ n o, nc < o → o < 10 → P (nI 0) → wY_chosen_2 P (nI g) (nI nc) v_place v_top v_held v_depth v_ended v_endTarget v_endKind v_endWorth v_steps v_says v_result v_thrown v_over v_kind v_up v_length v_value v_below v_open v_token v_height v_target v_phase v_how v_kinds v_worth v_values v_variables v_begun v_output (n + 1) (nI o) := fun n o h h10 hp => br_t (nI_lt h (by omega)) hp
  unfold oy_cho at H
  refine ⟨2 + 1, ?_⟩
  show wY_chosen_2 P (nI g) (nI nc) v_place v_top v_held v_depth v_ended v_endTarget v_endKind v_endWorth v_steps v_says v_result v_thrown v_over v_kind v_up v_length v_value v_below v_open v_token v_height v_target v_phase v_how v_kinds v_worth v_values v_variables v_begun v_output (2 + 1) (nI 1)
  by_cases n1 : 1 ≤ nc
  · refine TURN 2 1 (by omega) n1 (fun c => ?_) (fun c => ?_)
    · rw [if_pos ⟨n1, decide_eq_true c⟩] at H; exact H
    · rw [if_neg (fun e => c (of_decide_eq_true e.2))] at H
      by_cases n2 : 2 ≤ nc
      · refine TURN 1 2 (by omega) n2 (fun c2 => ?_) (fun c2 => ?_)
        · rw [if_pos ⟨n2, decide_eq_true c2⟩] at H; exact H
        · rw [if_neg (fun e => c2 (of_decide_eq_true e.2))] at H
          exact END 0 3 (by omega) (by omega) H
      · rw [if_neg (fun e => n2 e.1)] at H
        exact END 1 2 (by omega) (by omega) H
  · rw [if_neg (fun e => n1 e.1), if_neg (fun e => by omega)] at H
    exact END 2 1 (by omega) (by omega) H
end
end
section
/-! ===== Y's machine: TRY ===== -/
section
variable {post : Int32 → SY → Prop} {y : SY} {g p h k : Nat} {v : Int32} {j : Int32 × Int32 × Int32 × Int32 × Int32} {es : List oy_E} {vs vs0 l : List Int32} {vf : List (Nat → Int32)} {vr : Nat → Int32} {en tg kd wo : Int32} {st sy : Nat} {ou : Nat → Int32}
theorem oy_t0 {cc g' : Nat} (hg : g < 200) (hk : ob_kind y g = 17) (hb : ob_below y (4 * g + 0) = nI cc) (hc : g / 40 * 40 + cc = g') (hg' : g' < 200) (he : es.length + 1 < 600) (hh : vs.length < 1000)
    (K : ∀ j', oy_A post y ((g', 0, vs.length, j') :: (g, 1, h, j) :: es) vs vf 0 tg kd wo st sy ou) : oy_A post y ((g, 0, h, j) :: es) vs vf en tg kd wo st sy ou := by
  refine oy_work (k := 17) hg hk rfl (by omega) (fun tk ht ta ph hw kn wr vl va bg R1 R2 R3 => ?_)
  obtain ⟨j', R'⟩ := oy_opd_rep (g' := g') (hl := vs.length) (o := 0) R1
  obtain ⟨n, hn⟩ := K j' _ _ _ _ _ _ _ _ _ _ R' R2 R3
  refine ⟨n, br_t (by decide) (br_t rfl (And.intro (vp_in_nI hg (by omega)) (nm_e (nm_e (br_t rfl ?_)))))⟩
  exact oy_opd (o := 0) hg (by omega) hb hc hg' he hh R1 hn
/-- the head of attempt, from phase 1 on: z is the catch that is taken, or 0 -/
theorem oy_att {P : SY → Prop} {v_place v_top v_held v_depth v_ended v_endTarget v_endKind v_endWorth v_steps v_says v_result v_thrown v_over : Int32} {v_kind v_up v_length v_value v_below v_open v_token v_height v_target v_phase v_how v_kinds v_worth v_values v_variables v_begun v_output : Nat → Int32} {nc z : Nat} {cc : Nat → Nat} {vc : Nat → Int32} (hg : g < 200) (hv : v_value g = v) (h3 : (v &&& 3) = nI nc) (hn : nc ≤ 2) (hp : p ≠ 0) (hp9 : p < 100)
    (hb : ∀ o, 1 ≤ o → o ≤ nc → v_below (4 * g + o) = nI (cc o) ∧ g / 40 * 40 + cc o < 200 ∧ v_value (g / 40 * 40 + cc o) = vc o)
    (hz : z = if p = 1 ∧ v_ended = 4 then oy_cho nc (fun o => decide ((vc o &&& 7) = 4 ∨ (vc o &&& 7) = v_endKind)) else 0)
    (D : wY_attempt_47 P (nI g) (nI p) (nI nc) (nI (1 + nc)) (nI z) v_place v_top v_held v_depth v_ended v_endTarget v_endKind v_endWorth v_steps v_says v_result v_thrown v_over v_kind v_up v_length v_value v_below v_open v_token v_height v_target v_phase v_how v_kinds v_worth v_values v_variables v_begun v_output) : wpY_attempt P (v_place, v_top, v_held, v_depth, v_ended, v_endTarget, v_endKind, v_endWorth, v_steps, v_says, v_result, v_thrown, v_over, v_kind, v_up, v_length, v_value, v_below, v_open, v_token, v_height, v_target, v_phase, v_how, v_kinds, v_worth, v_values, v_variables, v_begun, v_output) (nI g) (nI p) := by
  refine And.intro (vp_in_nI hg (by omega)) (nm_r (e' := nI nc) (by rw [nI_clamp (by omega), hv]; exact h3) (nm_r (e' := nI (1 + nc)) (nI_add 1 nc) (br_f (nI_ne0 (by omega) (by omega)) ?_)))
  by_cases h1 : p = 1
  · subst h1
    refine br_t rfl ?_
    by_cases h4 : v_ended = 4
    · rw [if_pos ⟨rfl, h4⟩] at hz
      refine br_t h4 (oy_chosen hg hn hb ?_)
      rw [← hz]; exact D
    · rw [if_neg (fun e => h4 e.2)] at hz; subst hz
      exact br_f h4 D
  · rw [if_neg (fun e => h1 e.1)] at hz; subst hz
    exact br_f (fun e => h1 ((nI_eq (b := 1) (by omega) (by omega)).mp e)) D
/-- catch z is taken -/
theorem oy_tc {nc z w : Nat} {cc : Nat → Nat} {vc : Nat → Int32} (hg : g < 200) (hk : ob_kind y g = 17) (hv : ob_value y g = v) (h3 : (v &&& 3) = nI nc) (hn : nc ≤ 2)
    (hb : ∀ o, 1 ≤ o → o ≤ nc → ob_below y (4 * g + o) = nI (cc o) ∧ g / 40 * 40 + cc o < 200 ∧ ob_value y (g / 40 * 40 + cc o) = vc o)
    (hz : z = oy_cho nc (fun o => decide ((vc o &&& 7) = 4 ∨ (vc o &&& 7) = kd))) (hz1 : 1 ≤ z) (hz2 : z ≤ nc) (hw : vc z >>> ((3 : Int32) &&& 31) = nI w) (hw6 : w < 6) (hd : vf.length < 12) (he : es.length + 1 < 600) (hh : vs.length < 1000)
    (K : ∀ j', oy_A post y ((g / 40 * 40 + cc z, 0, vs.length, j') :: (g, z + 1, h, j) :: es) vs (upd vr w wo :: vf) 0 tg kd wo st sy ou) : oy_A post y ((g, 1, h, j) :: es) vs (vr :: vf) 4 tg kd wo st sy ou := by
  refine oy_work (k := 17) hg hk rfl (by omega) (fun tk ht ta ph hww kn wr vl va bg R1 R2 R3 => ?_)
  obtain ⟨j', R'⟩ := oy_opd_rep (g' := g / 40 * 40 + cc z) (hl := vs.length) (o := z) R1
  obtain ⟨n, hn2⟩ := K j' _ _ _ _ _ _ _ _ _ _ R' R2 (oy_vup hw6 R3)
  obtain ⟨b1, b2, b3⟩ := hb z hz1 hz2
  have e4 : (4 : Int32) * nI g + nI z = nI (4 * g + z) := by
    have : (4 : Int32) * nI g = nI (4 * g) := pk_mul 4 g
    rw [this, nI_add]
  have a1 : nI g / 40 * 40 = nI (g / 40 * 40) := by
    have a1 : nI g / 40 = nI (g / 40) := pk_div (d := 40) (by omega) (by omega) (by omega)
    have a2 : nI (g / 40) * 40 = nI (g / 40 * 40) := pk_mul _ 40
    rw [a1, a2]
  refine ⟨n, br_t (by decide) (br_t rfl (oy_att (p := 1) (z := z) hg hv h3 hn (by decide) (by decide) hb (by rw [if_pos ⟨rfl, rfl⟩]; exact hz) ?_))⟩
  refine br_f (nI_nle (by omega) (by omega)) ⟨by decide, by rw [e4]; exact vp_in_nI (by omega) (by omega), nm_r (e' := nI (g / 40 * 40 + cc z)) (by rw [e4, nI_clamp (by omega), b1, a1, nI_add]) ⟨vp_in_nI b2 (by omega), ?_⟩⟩
  have ev : ob_value y (nI (g / 40 * 40 + cc z)).toNatClampNeg = vc z := by rw [nI_clamp (by omega)]; exact b3
  have ei : (6 : Int32) * (nI (vr :: vf).length - 1) + (ob_value y (nI (g / 40 * 40 + cc z)).toNatClampNeg >>> ((3 : Int32) &&& 31)) = nI (6 * vf.length + w) := by rw [ev, hw]; exact oy_vix hd hw6
  refine ⟨by rw [ei]; exact vp_in_nI (by omega) (by omega), nm_r (e' := upd va (6 * vf.length + w) wo) (by rw [ei, nI_clamp (by omega)]) ?_⟩
  exact oy_opd hg (by omega) b1 rfl b2 he hh R1 hn2
/-- the finally part begins -/
theorem oy_tf {nc cf g' : Nat} {cc : Nat → Nat} {vc : Nat → Int32} (hg : g < 200) (hk : ob_kind y g = 17) (hv : ob_value y g = v) (h3 : (v &&& 3) = nI nc) (hn : nc ≤ 2) (hcl : ¬ v ≤ 3)
    (hb : ∀ o, 1 ≤ o → o ≤ nc → ob_below y (4 * g + o) = nI (cc o) ∧ g / 40 * 40 + cc o < 200 ∧ ob_value y (g / 40 * 40 + cc o) = vc o)
    (hp : p ≠ 0) (hp2 : p ≤ nc + 1) (hz : p = 1 → en = 4 → oy_cho nc (fun o => decide ((vc o &&& 7) = 4 ∨ (vc o &&& 7) = kd)) = 0)
    (hf : ob_below y (4 * g + (1 + nc)) = nI cf) (hc : g / 40 * 40 + cf = g') (hg' : g' < 200) (he : es.length + 1 < 600) (hh : vs.length < 1000)
    (K : ∀ j' b, oy_A post y ((g', 0, vs.length, j') :: (g, 4, h, (vp_nar .short tg.toInt16.toInt32, vp_nar .byte en.toInt8.toInt32, vp_nar .byte kd.toInt8.toInt32, wo, b)) :: es) vs vf 0 tg kd wo st sy ou) : oy_A post y ((g, p, h, j) :: es) vs vf en tg kd wo st sy ou := by
  refine oy_work (k := 17) hg hk rfl (by omega) (fun tk ht ta ph hw kn wr vl va bg R1 R2 R3 => ?_)
  have R1' : oy_rE tk ht (upd ta es.length (vp_nar .short tg.toInt16.toInt32)) ph (upd hw es.length (vp_nar .byte en.toInt8.toInt32)) (upd kn es.length (vp_nar .byte kd.toInt8.toInt32)) (upd wr es.length wo) bg ((g, p, h, (vp_nar .short tg.toInt16.toInt32, vp_nar .byte en.toInt8.toInt32, vp_nar .byte kd.toInt8.toInt32, wo, bg es.length)) :: es) :=
    ⟨⟨R1.1.1, R1.1.2.1, R1.1.2.2.1, pk_us, pk_us, pk_us, pk_us, rfl⟩, oy_rE_cg R1.2 (fun j hj => ⟨rfl, rfl, pk_un (by omega), rfl, pk_un (by omega), pk_un (by omega), pk_un (by omega), rfl⟩)⟩
  obtain ⟨j', R'⟩ := oy_opd_rep (g' := g') (hl := vs.length) (o := 1 + nc) R1'
  have R'' : oy_rE (upd tk (es.length + 1) (nI g')) (upd ht (es.length + 1) (nI vs.length)) (upd ta es.length (vp_nar .short tg.toInt16.toInt32)) (upd (upd (upd ph es.length (nI (1 + nc + 1))) (es.length + 1) (nI 0)) es.length 4) (upd hw es.length (vp_nar .byte en.toInt8.toInt32)) (upd kn es.length (vp_nar .byte kd.toInt8.toInt32)) (upd wr es.length wo) bg ((g', 0, vs.length, j') :: (g, 4, h, (vp_nar .short tg.toInt16.toInt32, vp_nar .byte en.toInt8.toInt32, vp_nar .byte kd.toInt8.toInt32, wo, bg es.length)) :: es) := by
    obtain ⟨⟨a1, a2, a3, a4, a5, a6, a7, a8⟩, ⟨b1, b2, b3, b4, b5, b6, b7, b8⟩, R9⟩ := R'
    refine ⟨⟨a1, ?_, a3, a4, a5, a6, a7, a8⟩, ⟨b1, pk_us, b3, b4, b5, b6, b7, b8⟩, oy_rE_cg R9 (fun j hj => ⟨rfl, rfl, rfl, pk_un (by omega), rfl, rfl, rfl, rfl⟩)⟩
    have a2 : upd (upd ph es.length (nI (1 + nc + 1))) (es.length + 1) (nI 0) (es.length + 1) = nI 0 := pk_us
    show upd (upd (upd ph es.length (nI (1 + nc + 1))) (es.length + 1) (nI 0)) es.length 4 (es.length + 1) = nI 0
    rw [pk_un (by omega)]; exact a2
  obtain ⟨n, hn2⟩ := K j' (bg es.length) _ _ _ _ _ _ _ _ _ _ R'' R2 R3
  have e1 : nI (es.length + 1) - 1 = nI es.length := nI_pred _
  have e2 : nI (es.length + 2) - 2 = nI es.length := pk_sub (b := 2) (by omega)
  have i1 : vp_in (nI (es.length + 1) - 1) 600 := by rw [e1]; exact vp_in_nI (by omega) (by omega)
  have c1 : (nI (es.length + 1) - 1).toNatClampNeg = es.length := by rw [e1, nI_clamp (by omega)]
  refine ⟨n, br_t (by decide) (br_t rfl (oy_att (z := 0) hg hv h3 hn hp (by omega) hb (by
    by_cases c : p = 1 ∧ en = 4
    · rw [if_pos c]; exact (hz c.1 c.2).symm
    · rw [if_neg c]) ?_))⟩
  refine br_t (by decide) (br_f ?_ ⟨vp_in_nI hg (by omega), br_f (by rw [nI_clamp (by omega), hv]; exact hcl) (br_f (nI_ge (b := 4) (by omega) (by omega)) ⟨i1, nm_r (e' := upd ta es.length (vp_nar .short tg.toInt16.toInt32)) (by rw [c1]) ⟨i1, nm_r (e' := upd hw es.length (vp_nar .byte en.toInt8.toInt32)) (by rw [c1]) ⟨i1, nm_r (e' := upd kn es.length (vp_nar .byte kd.toInt8.toInt32)) (by rw [c1]) ⟨i1, nm_r (e' := upd wr es.length wo) (by rw [c1]) ?_⟩⟩⟩⟩)⟩)
  · rw [nI_1]; exact nI_nlt hp2 (by omega)
  · refine oy_opd hg (by omega) hf hc hg' he hh R1' ?_
    refine And.intro (by rw [e2]; exact vp_in_nI (by omega) (by omega)) (nm_r (e' := upd (upd (upd ph es.length (nI (1 + nc + 1))) (es.length + 1) (nI 0)) es.length 4) (by rw [e2, nI_clamp (by omega)]; rfl) hn2)
/-- through: the finally part ended normally: how the TRY ended is taken up again -/
theorem oy_t3 {nc : Nat} (hg : g < 200) (hk : ob_kind y g = 17) (hv : ob_value y g = v) (h3 : (v &&& 3) = nI nc) (hn : nc ≤ 2)
    (hb : ∀ o, 1 ≤ o → o ≤ nc → ∃ cc vc, ob_below y (4 * g + o) = nI cc ∧ g / 40 * 40 + cc < 200 ∧ ob_value y (g / 40 * 40 + cc) = vc) (he : es.length < 600) (hh : h = vs.length)
    (K : oy_A post y es vs vf j.2.1 j.1 j.2.2.1 j.2.2.2.1 st sy ou) : oy_A post y ((g, 4, h, j) :: es) vs vf 0 tg kd wo st sy ou := by
  subst hh
  refine oy_work (k := 17) hg hk rfl (by omega) (fun tk ht ta ph hw kn wr vl va bg R1 R2 R3 => ?_)
  obtain ⟨n, hn2⟩ := K _ _ _ _ _ _ _ _ _ _ R1.2 R2 R3
  have e1 : nI (es.length + 1) - 1 = nI es.length := nI_pred _
  have i1 : vp_in (nI (es.length + 1) - 1) 600 := by rw [e1]; exact vp_in_nI (by omega) (by omega)
  have c1 : (nI (es.length + 1) - 1).toNatClampNeg = es.length := by rw [e1, nI_clamp (by omega)]
  have T : wY_attempt_214 (oy_P post n) 4 (ob_place y) (nI (es.length + 1)) (nI vs.length) (nI vf.length) 0 tg kd wo (nI st) (nI sy) (ob_result y) (ob_thrown y) 0 (ob_kind y) (ob_up y) (ob_length y) (ob_value y) (ob_below y) (ob_open y) tk ht ta ph hw kn wr vl va bg ou := by
    refine br_t rfl (br_t rfl ⟨i1, nm_r (e' := j.1) (by rw [c1]; exact R1.1.2.2.2.1) ⟨i1, nm_r (e' := j.2.1) (by rw [c1]; exact R1.1.2.2.2.2.1) ⟨i1, nm_r (e' := j.2.2.1) (by rw [c1]; exact R1.1.2.2.2.2.2.1) ⟨i1, nm_r (e' := j.2.2.2.1) (by rw [c1]; exact R1.1.2.2.2.2.2.2.1) ?_⟩⟩⟩⟩)
    exact oy_thr0 he R1 hn2
  refine ⟨n, br_t (by decide) (br_t rfl (And.intro (vp_in_nI hg (by omega)) (nm_r (e' := nI nc) (by rw [nI_clamp (by omega), hv]; exact h3) (nm_r (e' := nI (1 + nc)) (nI_add 1 nc) (br_f (by decide) (br_f (by decide) ?_))))))⟩
  refine br_t (by decide) (br_t (by rw [nI_1]; exact nI_lt (b := 4) (by omega) (by omega)) T)
/-- through: how it ended stands -/
theorem oy_t4 {nc : Nat} {cc : Nat → Nat} {vc : Nat → Int32} (hg : g < 200) (hk : ob_kind y g = 17) (hv : ob_value y g = v) (h3 : (v &&& 3) = nI nc) (hn : nc ≤ 2)
    (hb : ∀ o, 1 ≤ o → o ≤ nc → ob_below y (4 * g + o) = nI (cc o) ∧ g / 40 * 40 + cc o < 200 ∧ ob_value y (g / 40 * 40 + cc o) = vc o)
    (hp : p ≠ 0) (hp9 : p < 100) (hz : p = 1 → en = 4 → oy_cho nc (fun o => decide ((vc o &&& 7) = 4 ∨ (vc o &&& 7) = kd)) = 0) (hc : (p = 4 ∧ ¬ en = 0) ∨ (p ≠ 4 ∧ v ≤ 3)) (he : es.length < 600) (hh : h = vs.length)
    (K : oy_A post y es vs vf en tg kd wo st sy ou) : oy_A post y ((g, p, h, j) :: es) vs vf en tg kd wo st sy ou := by
  subst hh
  refine oy_work (k := 17) hg hk rfl (by omega) (fun tk ht ta ph hw kn wr vl va bg R1 R2 R3 => ?_)
  obtain ⟨n, hn2⟩ := K _ _ _ _ _ _ _ _ _ _ R1.2 R2 R3
  have T : wY_attempt_214 (oy_P post n) (nI p) (ob_place y) (nI (es.length + 1)) (nI vs.length) (nI vf.length) en tg kd wo (nI st) (nI sy) (ob_result y) (ob_thrown y) 0 (ob_kind y) (ob_up y) (ob_length y) (ob_value y) (ob_below y) (ob_open y) tk ht ta ph hw kn wr vl va bg ou := by
    have T2 : wY_attempt_286 (oy_P post n) (ob_place y) (nI (es.length + 1)) (nI vs.length) (nI vf.length) en tg kd wo (nI st) (nI sy) (ob_result y) (ob_thrown y) 0 (ob_kind y) (ob_up y) (ob_length y) (ob_value y) (ob_below y) (ob_open y) tk ht ta ph hw kn wr vl va bg ou := oy_thr0 he R1 hn2
    rcases hc with ⟨e1, e2⟩ | ⟨e1, e2⟩
    · subst e1; exact br_t rfl (br_f e2 T2)
    · exact br_f (fun e => e1 ((nI_eq (b := 4) (by omega) (by omega)).mp e)) T2
  refine ⟨n, br_t (by decide) (br_t rfl (oy_att (z := 0) hg hv h3 hn hp hp9 hb (by
    by_cases c : p = 1 ∧ en = 4
    · rw [if_pos c]; exact (hz c.1 c.2).symm
    · rw [if_neg c]) ?_))⟩
  refine br_t (by decide) (br_c (fun _ => T) (fun _ => ⟨vp_in_nI hg (by omega), br_c (fun _ => T) (fun h9 => ?_)⟩))
  rw [nI_clamp (by omega), hv] at h9
  rcases hc with ⟨e1, e2⟩ | ⟨e1, e2⟩
  · exact br_t (by rw [e1]; decide) T
  · exact absurd e2 h9
end
end
section
/-! ===== Y runs the tree: what is asked of each outcome ===== -/
def oc_tj (K : Nat → Nat) (V : Nat → Int32) (l : Int32) : oc_P → Option Nat
  | [] => none
  | (t, o) :: p => if oc_tgt K V l t o = true then some t else oc_tj K V l p
theorem oc_tj_cj {K : Nat → Nat} {V : Nat → Int32} {l : Int32} : ∀ {p : oc_P}, oc_cj K V l p ≠ none → ∃ t, oc_tj K V l p = some t
  | [], h => absurd rfl h
  | (t, o) :: p, h => by
    simp only [oc_cj] at h
    simp only [oc_tj]
    by_cases e : oc_tgt K V l t o = true
    · rw [if_pos e]; exact ⟨t, rfl⟩
    · rw [if_neg e] at h ⊢
      refine oc_tj_cj (fun e2 => h ?_)
      rw [e2]; rfl
section
variable (K : Nat → Nat) (V : Nat → Int32) (C : Nat → Nat → Nat) (Q : Nat → oc_P) (B : Nat → Nat) (N : Nat)
/-- the tokens above a token are as C says -/
def oy_pv : Nat → oc_P → Prop
  | _, [] => True
  | i, (t, o) :: p => t < N ∧ o < ot_np (K t) (V t) ∧ i = C t o ∧ Q t = p ∧ oy_pv t p
variable {K V C Q B N}
theorem oy_pv_lt (WT : ot_WT K V C Q B N) {l : Int32} : ∀ {p : oc_P} {i t : Nat}, oy_pv K V C Q N i p → oc_tj K V l p = some t → t < i ∧ t < N
  | [], _, _, _, h => by cases h
  | (t', o) :: p, i, t, ⟨h1, h2, h3, h4, h5⟩, h => by
    have c := ((WT.2.2.2.2.2 t' h1).2.1 o h2).1
    simp only [oc_tj] at h
    by_cases e : oc_tgt K V l t' o = true
    · rw [if_pos e] at h; cases h; omega
    · rw [if_neg e] at h
      have := oy_pv_lt WT h5 h
      omega
theorem ot_wa0 {k : Nat} {v : Int32} {o : Nat} (h : ot_so k = 0) : ot_wa k v o = 0 := by
  unfold ot_so at h
  have : k < 10 := by
    by_cases e : k < 10
    · exact e
    · rw [if_neg e] at h; split at h <;> cases h
  unfold ot_wa
  split
  · omega
  · omega
  · omega
  · omega
  · omega
  · rfl
theorem oy_tj_eq (WT : ot_WT K V C Q B N) {l : Int32} : ∀ {p : oc_P} {i : Nat}, oy_pv K V C Q N i p → ot_so (K i) ≠ 0 → oy_tj K V l p = oc_tj K V l p
  | [], _, _, _ => rfl
  | (t, o) :: p, i, ⟨h1, h2, h3, h4, h5⟩, hs => by
    have c := ((WT.2.2.2.2.2 t h1).2.1 o h2).2.2.1
    rw [← h3] at c
    have ht : ot_so (K t) ≠ 0 := fun e => hs (c.trans (ot_wa0 e))
    simp only [oy_tj, oc_tj]
    rw [oy_tj_eq WT h5 ht]
    by_cases e : K t = 13 ∧ V t = l
    · have o1 : o = 1 := by
        have n2 : ot_np (K t) (V t) = 2 := by rw [e.1]; rfl
        rcases (by omega : o = 0 ∨ o = 1) with z | z
        · exfalso; apply hs; rw [c, e.1, z]; rfl
        · exact z
      rw [if_pos e, if_pos (by unfold oc_tgt; exact decide_eq_true ⟨e.1, e.2, o1⟩)]
    · rw [if_neg e, if_neg (by unfold oc_tgt; intro h; exact e ⟨(of_decide_eq_true h).1, (of_decide_eq_true h).2.1⟩)]
end
section
variable (post : Int32 → SY → Prop) (y : SY) (K : Nat → Nat → Nat) (V : Nat → Nat → Int32) (C : Nat → Nat → Nat → Nat) (L : Nat → Nat) (Q : Nat → Nat → oc_P) (B : Nat → Nat → Nat)
/-- the program that Y holds -/
def oy_PR (g : Nat) : Prop :=
  ob_length y g = nI (L g) ∧ L g ≤ 40 ∧ (L g ≠ 0 → ot_WT (K g) (V g) (C g) (Q g) (B g) (L g) ∧ ot_BD (K g) (V g) (Q g) (L g) ∧
    ∀ i, i < L g → ob_kind y (40 * g + i) = nI (K g i) ∧ ob_value y (40 * g + i) = V g i ∧ (∀ o, o < ot_np (K g i) (V g i) → ob_below y (4 * (40 * g + i) + o) = nI (C g i o)) ∧ ob_up y (40 * g + i) = oy_pu (Q g i))
def oy_K (K : Nat → Nat) (V : Nat → Int32) (p : oc_P) (f : Nat) (es : List oy_E) (vs : List Int32) (vf : List (Nat → Int32)) (ex : Bool) (o : oe_O) (c : oe_C) : Prop :=
  (o.1 = 0 → ∀ tg kd wo, oy_A post y es (if ex = true then o.2.1 :: vs else vs) (c.1 :: vf) 0 tg kd wo c.2.1 c.2.2.1 c.2.2.2) ∧
  ((o.1 = 1 ∨ o.1 = 2) → ∀ t, oc_tj K V o.2.1 p = some t → ∀ kd wo, oy_A post y es vs (c.1 :: vf) (nI o.1) (nI (40 * f + t)) kd wo c.2.1 c.2.2.1 c.2.2.2) ∧
  (o.1 = 3 → ∀ tg kd, oy_A post y es vs (c.1 :: vf) 3 tg kd o.2.1 c.2.1 c.2.2.1 c.2.2.2) ∧
  (o.1 = 4 → (∃ q : Nat, q < 4 ∧ o.2.1 = nI q) → ∀ tg, oy_A post y es vs (c.1 :: vf) 4 tg o.2.1 o.2.2 c.2.1 c.2.2.1 c.2.2.2) ∧
  (o.1 = 5 → oy_V post y c.2.1 c.2.2.1 c.2.2.2)
/-- a token begins, or a WHILE goes on -/
def oy_go (k g p : Nat) (en tg : Int32) : Prop := (p = 0 ∧ en = 0) ∨ (k = 13 ∧ ((p = 2 ∧ en = 0) ∨ (p = 2 ∧ en = 2 ∧ tg = nI g)))
def oy_S (n : Nat) : Prop :=
  ∀ (f i : Nat) (c : oe_C) (o : oe_O) (c' : oe_C) (es : List oy_E) (vs : List Int32) (vf : List (Nat → Int32)), f < 4 → L f ≠ 0 → i < L f → c.2.1 ≤ 300 → vf.length < 12 → es.length ≤ 40 * vf.length + i → vs.length ≤ 40 * vf.length + i → oy_pv (K f) (V f) (C f) (Q f) (L f) i (Q f i) → oe_ev K V C L n f (vf.length + 1) i c = some (o, c') →
  oy_K post y (K f) (V f) (Q f i) f es vs vf (decide (ot_so (K f i) = 0)) o c' →
  ∀ (j : Int32 × Int32 × Int32 × Int32 × Int32) (p : Nat) (en tg kd wo : Int32), oy_go (K f i) (40 * f + i) p en tg → oy_A post y ((40 * f + i, p, vs.length, j) :: es) vs (c.1 :: vf) en tg kd wo c.2.1 c.2.2.1 c.2.2.2
end
section
variable {post : Int32 → SY → Prop} {y : SY} {K : Nat → Nat → Nat} {V : Nat → Nat → Int32} {C : Nat → Nat → Nat → Nat} {L : Nat → Nat} {Q : Nat → Nat → oc_P} {B : Nat → Nat → Nat}
/-- expressions end with a value, an exception, or are over -/
theorem oe_xp (WT : ∀ g, g < 4 → L g ≠ 0 → ot_WT (K g) (V g) (C g) (Q g) (B g) (L g)) : ∀ n f d i c o c', f < 4 → L f ≠ 0 → i < L f → ot_so (K f i) = 0 → oe_ev K V C L n f d i c = some (o, c') → o.1 = 0 ∨ o.1 = 4 ∨ o.1 = 5 := by
  intro n
  induction n with
  | zero => intro f d i c o c' _ _ _ _ h; cases h
  | succ n ih =>
    intro f d i c o c' hf hL hi hs h
    obtain ⟨ok, ch, _⟩ := (WT f hf hL).2.2.2.2.2 i hi
    have IH : ∀ op c o c', op < ot_np (K f i) (V f i) → oe_ev K V C L n f d (C f i op) c = some (o, c') → o.1 = 0 ∨ o.1 = 4 ∨ o.1 = 5 := by
      intro op c o c' h1 h2
      obtain ⟨_, c2, c3, _⟩ := ch op h1
      exact ih f d _ c o c' hf hL c2 (c3.trans (ot_wa0 hs)) h2
    have k10 : K f i < 10 := by
      unfold ot_so at hs
      by_cases e : K f i < 10
      · exact e
      · rw [if_neg e] at hs; split at hs <;> cases hs
    simp only [oe_ev] at h
    rcases ot_kinds ok with k | k | k | k | k | k | k | k | k | k | k | k | k | k | k | k | k
    · rw [oe_k0 k] at h; cases h; exact Or.inl rfl
    · rw [oe_k1 k] at h; cases h; exact Or.inl rfl
    · rw [oe_k26 k] at h
      have n2 : ot_np (K f i) (V f i) = 2 := by rcases k with k | k | k | k | k <;> rw [k] <;> rfl
      obtain ⟨o1, c1, e1, h⟩ := oe_Ni h
      rcases h with ⟨_, h⟩ | ⟨_, rfl, _⟩
      · obtain ⟨o2, c2, e2, h⟩ := oe_Ni h
        rcases h with ⟨_, h⟩ | ⟨_, rfl, _⟩
        · split at h <;> cases h
          · exact Or.inr (Or.inl rfl)
          · exact Or.inl rfl
        · exact IH 1 _ _ _ (by omega) e2
      · exact IH 0 _ _ _ (by omega) e1
    · rw [oe_k7 k] at h
      have n2 : ot_np (K f i) (V f i) = 1 := by rw [k]; rfl
      obtain ⟨o1, c1, e1, h⟩ := oe_Ni h
      rcases h with ⟨_, h⟩ | ⟨_, rfl, _⟩
      · cases h; exact Or.inl rfl
      · exact IH 0 _ _ _ (by omega) e1
    · rw [oe_k8 k] at h
      have n2 : ot_np (K f i) (V f i) = 1 := by rw [k]; rfl
      obtain ⟨o1, c1, e1, h⟩ := oe_Ni h
      rcases h with ⟨_, h⟩ | ⟨_, rfl, _⟩
      · unfold oe_cal at h
        split at h
        · cases h; exact Or.inr (Or.inl rfl)
        · split at h
          · cases h; exact Or.inr (Or.inr rfl)
          · split at h
            · cases h; exact Or.inr (Or.inl rfl)
            · obtain ⟨o2, c2, e2, h⟩ := oe_Bi h
              cases h
              by_cases e : o2.1 = 4 ∨ o2.1 = 5
              · rw [if_pos e]; omega
              · rw [if_neg e]; exact Or.inl rfl
      · exact IH 0 _ _ _ (by omega) e1
    all_goals omega
theorem oy_W (PR : ∀ g, g < 4 → oy_PR y K V C L Q B g) {f i : Nat} (hf : f < 4) (hL : L f ≠ 0) (hi : i < L f) : ot_W1 (K f) (V f) (C f) (Q f) (B f) (L f) i ∧ L f ≤ 40 ∧ ot_WT (K f) (V f) (C f) (Q f) (B f) (L f) ∧ ot_BD (K f) (V f) (Q f) (L f) ∧
    ob_kind y (40 * f + i) = nI (K f i) ∧ ob_value y (40 * f + i) = V f i ∧ (∀ o, o < ot_np (K f i) (V f i) → ob_below y (4 * (40 * f + i) + o) = nI (C f i o)) ∧ ob_up y (40 * f + i) = oy_pu (Q f i) := by
  obtain ⟨_, h4, P⟩ := PR f hf
  obtain ⟨WT, BD, D⟩ := P hL
  exact ⟨WT.2.2.2.2.2 i hi, h4, WT, BD, D i hi⟩
theorem oy_pv_up (PR : ∀ g, g < 4 → oy_PR y K V C L Q B g) {f : Nat} (hf : f < 4) (hL : L f ≠ 0) : ∀ {p : oc_P} {i : Nat}, oy_pv (K f) (V f) (C f) (Q f) (L f) i p → oy_up y (K f) (V f) f p
  | [], _, _ => trivial
  | (t, o) :: p, i, ⟨h1, h2, h3, h4, h5⟩ => by
    obtain ⟨W, hN, _, _, d1, d2, _, d4⟩ := oy_W PR hf hL h1
    exact ⟨⟨by omega, W.1.1, d1, d2, by rw [d4, h4]⟩, oy_pv_up PR hf hL h5⟩
/-- a part that is an expression -/
theorem oy_cx (PR : ∀ g, g < 4 → oy_PR y K V C L Q B g) {n : Nat} (S : oy_S post y K V C L Q n) {f i op ph h : Nat} {c1 c2 : oe_C} {o1 : oe_O} {es : List oy_E} {vs : List Int32} {vf : List (Nat → Int32)} {j : Int32 × Int32 × Int32 × Int32 × Int32} (hf : f < 4) (hL : L f ≠ 0) (hi : i < L f) (hc : c1.2.1 ≤ 300) (hd : vf.length < 12) (he : es.length ≤ 40 * vf.length + i) (hv : vs.length ≤ 40 * vf.length + C f i op)
    (hpv : oy_pv (K f) (V f) (C f) (Q f) (L f) i (Q f i)) (hop : op < ot_np (K f i) (V f i)) (hs : ot_so (K f (C f i op)) = 0) (e : oe_ev K V C L n f (vf.length + 1) (C f i op) c1 = some (o1, c2))
    (T4 : o1.1 = 4 → (∃ q : Nat, q < 4 ∧ o1.2.1 = nI q) → ∀ tg, oy_A post y ((40 * f + i, ph, h, j) :: es) vs (c2.1 :: vf) 4 tg o1.2.1 o1.2.2 c2.2.1 c2.2.2.1 c2.2.2.2)
    (T0 : o1.1 = 0 → ∀ tg kd wo, oy_A post y ((40 * f + i, ph, h, j) :: es) (o1.2.1 :: vs) (c2.1 :: vf) 0 tg kd wo c2.2.1 c2.2.2.1 c2.2.2.2)
    (T5 : o1.1 = 5 → oy_V post y c2.2.1 c2.2.2.1 c2.2.2.2) (j' : Int32 × Int32 × Int32 × Int32 × Int32) (tg kd wo : Int32) :
    oy_A post y ((40 * f + C f i op, 0, vs.length, j') :: (40 * f + i, ph, h, j) :: es) vs (c1.1 :: vf) 0 tg kd wo c1.2.1 c1.2.2.1 c1.2.2.2 := by
  obtain ⟨W, hN, WT, _⟩ := oy_W PR hf hL hi
  obtain ⟨a1, a2, a3, a4, _⟩ := W.2.1 op hop
  have X := oe_xp (Q := Q) (B := B) (fun g hg hLg => ((PR g hg).2.2 hLg).1) n f _ _ _ _ _ hf hL a2 hs e
  refine S f (C f i op) c1 o1 c2 _ vs vf hf hL a2 hc hd (by simp only [List.length_cons]; omega) hv ?_ e ?_ j' 0 0 tg kd wo (Or.inl ⟨rfl, rfl⟩)
  · rw [a4]; exact ⟨hi, hop, rfl, rfl, hpv⟩
  · refine ⟨fun q0 tg kd wo => ?_, fun q => by omega, fun q => by omega, T4, T5⟩
    simp only [decide_eq_true_eq, if_pos hs]
    exact T0 q0 tg kd wo
/-- a part that is a statement -/
theorem oy_cs (PR : ∀ g, g < 4 → oy_PR y K V C L Q B g) {n : Nat} (S : oy_S post y K V C L Q n) {f i op ph h : Nat} {c1 c2 : oe_C} {o1 : oe_O} {es : List oy_E} {vs : List Int32} {vf : List (Nat → Int32)} {j : Int32 × Int32 × Int32 × Int32 × Int32} (hf : f < 4) (hL : L f ≠ 0) (hi : i < L f) (hc : c1.2.1 ≤ 300) (hd : vf.length < 12) (he : es.length ≤ 40 * vf.length + i) (hv : vs.length ≤ 40 * vf.length + C f i op)
    (hpv : oy_pv (K f) (V f) (C f) (Q f) (L f) i (Q f i)) (hop : op < ot_np (K f i) (V f i)) (hs : ot_so (K f (C f i op)) ≠ 0) (e : oe_ev K V C L n f (vf.length + 1) (C f i op) c1 = some (o1, c2))
    (T : oy_K post y (K f) (V f) ((i, op) :: Q f i) f ((40 * f + i, ph, h, j) :: es) vs vf false o1 c2) (j' : Int32 × Int32 × Int32 × Int32 × Int32) (tg kd wo : Int32) :
    oy_A post y ((40 * f + C f i op, 0, vs.length, j') :: (40 * f + i, ph, h, j) :: es) vs (c1.1 :: vf) 0 tg kd wo c1.2.1 c1.2.2.1 c1.2.2.2 := by
  obtain ⟨W, hN, WT, _⟩ := oy_W PR hf hL hi
  obtain ⟨a1, a2, a3, a4, _⟩ := W.2.1 op hop
  refine S f (C f i op) c1 o1 c2 _ vs vf hf hL a2 hc hd (by simp only [List.length_cons]; omega) hv ?_ e ?_ j' 0 0 tg kd wo (Or.inl ⟨rfl, rfl⟩)
  · rw [a4]; exact ⟨hi, hop, rfl, rfl, hpv⟩
  · rw [a4, decide_eq_false hs]; exact T
end
end
section
/-! ===== Y runs the tree: the tokens but TRY ===== -/
section
variable {post : Int32 → SY → Prop} {y : SY} {K : Nat → Nat → Nat} {V : Nat → Nat → Int32} {C : Nat → Nat → Nat → Nat} {L : Nat → Nat} {Q : Nat → Nat → oc_P} {B : Nat → Nat → Nat}
variable {n f i : Nat} {c c' : oe_C} {o : oe_O} {es : List oy_E} {vs : List Int32} {vf : List (Nat → Int32)} {j : Int32 × Int32 × Int32 × Int32 × Int32} {tg kd wo : Int32}
theorem oy_c0 (k : K f i = 0) (PR : ∀ g, g < 4 → oy_PR y K V C L Q B g) (S : oy_S post y K V C L Q n) (hf : f < 4) (hL : L f ≠ 0) (hi : i < L f) (hc : c.2.1 ≤ 300) (hd : vf.length < 12) (he : es.length ≤ 40 * vf.length + i) (hv : vs.length ≤ 40 * vf.length + i) (hpv : oy_pv (K f) (V f) (C f) (Q f) (L f) i (Q f i)) (h : oe_ev K V C L (n + 1) f (vf.length + 1) i c = some (o, c')) (KK : oy_K post y (K f) (V f) (Q f i) f es vs vf (decide (ot_so (K f i) = 0)) o c') : oy_A post y ((40 * f + i, 0, vs.length, j) :: es) vs (c.1 :: vf) 0 tg kd wo c.2.1 c.2.2.1 c.2.2.2 := by
  obtain ⟨W, hN, WT, BD, dk, dv, db, du⟩ := oy_W PR hf hL hi
  have MV := oe_mvs K V C L Q B (fun g hg hLg => ((PR g hg).2.2 hLg).1) n
  have hg : 40 * f + i < 200 := by omega
  have g40 : (40 * f + i) / 40 * 40 = 40 * f := by omega
  simp only [oe_ev] at h
  rw [oe_k0 k] at h; cases h
  rw [k] at dk
  refine oy_num hg dk dv (by omega) rfl (by omega) ?_
  have G := KK.1 rfl tg kd wo
  simp only [k] at G
  exact G
theorem oy_c1 (k : K f i = 1) (PR : ∀ g, g < 4 → oy_PR y K V C L Q B g) (S : oy_S post y K V C L Q n) (hf : f < 4) (hL : L f ≠ 0) (hi : i < L f) (hc : c.2.1 ≤ 300) (hd : vf.length < 12) (he : es.length ≤ 40 * vf.length + i) (hv : vs.length ≤ 40 * vf.length + i) (hpv : oy_pv (K f) (V f) (C f) (Q f) (L f) i (Q f i)) (h : oe_ev K V C L (n + 1) f (vf.length + 1) i c = some (o, c')) (KK : oy_K post y (K f) (V f) (Q f i) f es vs vf (decide (ot_so (K f i) = 0)) o c') : oy_A post y ((40 * f + i, 0, vs.length, j) :: es) vs (c.1 :: vf) 0 tg kd wo c.2.1 c.2.2.1 c.2.2.2 := by
  obtain ⟨W, hN, WT, BD, dk, dv, db, du⟩ := oy_W PR hf hL hi
  have MV := oe_mvs K V C L Q B (fun g hg hLg => ((PR g hg).2.2 hLg).1) n
  have hg : 40 * f + i < 200 := by omega
  have g40 : (40 * f + i) / 40 * 40 = 40 * f := by omega
  simp only [oe_ev] at h
  rw [oe_k1 k] at h; cases h
  rw [k] at dk
  obtain ⟨q, hq, hvq⟩ := W.1.2.2.1 (Or.inl k)
  rw [hvq] at dv
  refine oy_var hg dk dv hq (by omega) rfl (by omega) hd ?_
  have G := KK.1 rfl tg kd wo
  simp only [k] at G
  rw [hvq, nI_clamp (by omega)] at G
  exact G
theorem oy_c26 (k : K f i = 2 ∨ K f i = 3 ∨ K f i = 4 ∨ K f i = 5 ∨ K f i = 6) (PR : ∀ g, g < 4 → oy_PR y K V C L Q B g) (S : oy_S post y K V C L Q n) (hf : f < 4) (hL : L f ≠ 0) (hi : i < L f) (hc : c.2.1 ≤ 300) (hd : vf.length < 12) (he : es.length ≤ 40 * vf.length + i) (hv : vs.length ≤ 40 * vf.length + i) (hpv : oy_pv (K f) (V f) (C f) (Q f) (L f) i (Q f i)) (h : oe_ev K V C L (n + 1) f (vf.length + 1) i c = some (o, c')) (KK : oy_K post y (K f) (V f) (Q f i) f es vs vf (decide (ot_so (K f i) = 0)) o c') : oy_A post y ((40 * f + i, 0, vs.length, j) :: es) vs (c.1 :: vf) 0 tg kd wo c.2.1 c.2.2.1 c.2.2.2 := by
  obtain ⟨W, hN, WT, BD, dk, dv, db, du⟩ := oy_W PR hf hL hi
  have MV := oe_mvs K V C L Q B (fun g hg hLg => ((PR g hg).2.2 hLg).1) n
  have hg : 40 * f + i < 200 := by omega
  have g40 : (40 * f + i) / 40 * 40 = 40 * f := by omega
  simp only [oe_ev] at h
  rw [oe_k26 k] at h
  have np : ot_np (K f i) (V f i) = 2 := by rcases k with k | k | k | k | k <;> rw [k] <;> rfl
  have np0 : ot_np (K f i) 0 = 2 := by rcases k with k | k | k | k | k <;> rw [k] <;> rfl
  have so0 : ∀ op, op < 2 → ot_so (K f (C f i op)) = 0 := by
    intro op hop; rw [(W.2.1 op (by omega)).2.2.1]; rcases k with k | k | k | k | k <;> rw [k] <;> rfl
  have soi : ot_so (K f i) = 0 := by rcases k with k | k | k | k | k <;> rw [k] <;> rfl
  obtain ⟨c00, c01, _⟩ := W.2.1 0 (by omega)
  obtain ⟨c10, c11, _⟩ := W.2.1 1 (by omega)
  obtain ⟨o1, c1, e3, h⟩ := oe_Ni h
  have m1 := MV f _ _ _ _ _ hf hL c01 hc e3
  refine oy_e1 (g' := 40 * f + C f i 0) hg dk (by omega) (by omega) (by omega) (by decide) (db 0 (by omega)) (by omega) (by omega) (by omega) (by omega) (fun j' => ?_)
  refine oy_cx PR S hf hL hi hc hd he (by omega) hpv (by omega) (so0 0 (by omega)) e3 (fun q4 qs tg => ?_) (fun q0 tg kd wo => ?_) (fun q5 => ?_) j' tg kd wo
  · rcases h with ⟨g, _⟩ | ⟨_, rfl, rfl⟩
    · omega
    · exact oy_e2 (l := []) hg dk (by omega) (by omega) (by omega) (by omega) rfl (KK.2.2.2.1 q4 qs tg)
  · rcases h with ⟨_, h⟩ | ⟨g, _⟩
    · obtain ⟨o2, c2, e4, h⟩ := oe_Ni h
      refine oy_e1 (g' := 40 * f + C f i 1) hg dk (by omega) (by omega) (by omega) (by decide) (db 1 (by omega)) (by omega) (by omega) (by omega) (by simp only [List.length_cons]; omega) (fun j' => ?_)
      refine oy_cx PR S hf hL hi m1.2.1 hd he (by simp only [List.length_cons]; omega) hpv (by omega) (so0 1 (by omega)) e4 (fun q4 qs tg => ?_) (fun q0 tg kd wo => ?_) (fun q5 => ?_) j' tg kd wo
      · rcases h with ⟨g, _⟩ | ⟨_, rfl, rfl⟩
        · omega
        · exact oy_e2 (l := [o1.2.1]) hg dk (by omega) (by omega) (by omega) (by omega) rfl (KK.2.2.2.1 q4 qs tg)
      · rcases h with ⟨_, h⟩ | ⟨g, _⟩
        · refine oy_bin k hg dk (by omega) rfl (by omega) (fun g5 gy => ?_) (fun g => ?_)
          · rw [if_pos ⟨g5, gy⟩] at h; cases h
            exact KK.2.2.2.1 rfl ⟨0, by omega, rfl⟩ tg
          · rw [if_neg g] at h; cases h
            have G := KK.1 rfl tg kd wo
            rw [soi] at G
            exact G
        · exact absurd q0 g
      · rcases h with ⟨g, _⟩ | ⟨_, rfl, rfl⟩
        · omega
        · exact KK.2.2.2.2 q5
    · exact absurd q0 g
  · rcases h with ⟨g, _⟩ | ⟨_, rfl, rfl⟩
    · omega
    · exact KK.2.2.2.2 q5
theorem oy_c7 (k : K f i = 7) (PR : ∀ g, g < 4 → oy_PR y K V C L Q B g) (S : oy_S post y K V C L Q n) (hf : f < 4) (hL : L f ≠ 0) (hi : i < L f) (hc : c.2.1 ≤ 300) (hd : vf.length < 12) (he : es.length ≤ 40 * vf.length + i) (hv : vs.length ≤ 40 * vf.length + i) (hpv : oy_pv (K f) (V f) (C f) (Q f) (L f) i (Q f i)) (h : oe_ev K V C L (n + 1) f (vf.length + 1) i c = some (o, c')) (KK : oy_K post y (K f) (V f) (Q f i) f es vs vf (decide (ot_so (K f i) = 0)) o c') : oy_A post y ((40 * f + i, 0, vs.length, j) :: es) vs (c.1 :: vf) 0 tg kd wo c.2.1 c.2.2.1 c.2.2.2 := by
  obtain ⟨W, hN, WT, BD, dk, dv, db, du⟩ := oy_W PR hf hL hi
  have MV := oe_mvs K V C L Q B (fun g hg hLg => ((PR g hg).2.2 hLg).1) n
  have hg : 40 * f + i < 200 := by omega
  have g40 : (40 * f + i) / 40 * 40 = 40 * f := by omega
  simp only [oe_ev] at h
  rw [oe_k7 k] at h
  have np : ot_np (K f i) (V f i) = 1 := by rw [k]; rfl
  have np0 : ot_np (K f i) 0 = 1 := by rw [k]; rfl
  have so0 : ot_so (K f (C f i 0)) = 0 := by rw [(W.2.1 0 (by omega)).2.2.1, k]; rfl
  obtain ⟨c00, c01, _⟩ := W.2.1 0 (by omega)
  obtain ⟨o1, c1, e3, h⟩ := oe_Ni h
  have m1 := MV f _ _ _ _ _ hf hL c01 hc e3
  have dk' := dk
  rw [k] at dk'
  refine oy_e1 (g' := 40 * f + C f i 0) hg dk (by omega) (by omega) (by omega) (by decide) (db 0 (by omega)) (by omega) (by omega) (by omega) (by omega) (fun j' => ?_)
  refine oy_cx PR S hf hL hi hc hd he (by omega) hpv (by omega) so0 e3 (fun q4 qs tg => (by
    rcases h with ⟨g, _⟩ | ⟨_, rfl, rfl⟩
    · omega
    · exact oy_e2 (l := []) hg dk (by omega) (by omega) (by omega) (by omega) rfl (KK.2.2.2.1 q4 qs tg))) (fun q0 tg kd wo => ?_) (fun q5 => (by
    rcases h with ⟨g, _⟩ | ⟨_, rfl, rfl⟩
    · omega
    · exact KK.2.2.2.2 q5)) j' tg kd wo
  replace h := (by rcases h with ⟨_, h⟩ | ⟨g, _⟩; exact h; exact absurd q0 g : _ = _)
  cases h
  refine oy_not hg dk' (by omega) rfl (by omega) ?_
  have G := KK.1 rfl tg kd wo
  simp only [k] at G
  exact G
theorem oy_c8 (k : K f i = 8) (PR : ∀ g, g < 4 → oy_PR y K V C L Q B g) (S : oy_S post y K V C L Q n) (hf : f < 4) (hL : L f ≠ 0) (hi : i < L f) (hc : c.2.1 ≤ 300) (hd : vf.length < 12) (he : es.length ≤ 40 * vf.length + i) (hv : vs.length ≤ 40 * vf.length + i) (hpv : oy_pv (K f) (V f) (C f) (Q f) (L f) i (Q f i)) (h : oe_ev K V C L (n + 1) f (vf.length + 1) i c = some (o, c')) (KK : oy_K post y (K f) (V f) (Q f i) f es vs vf (decide (ot_so (K f i) = 0)) o c') : oy_A post y ((40 * f + i, 0, vs.length, j) :: es) vs (c.1 :: vf) 0 tg kd wo c.2.1 c.2.2.1 c.2.2.2 := by
  obtain ⟨W, hN, WT, BD, dk, dv, db, du⟩ := oy_W PR hf hL hi
  have MV := oe_mvs K V C L Q B (fun g hg hLg => ((PR g hg).2.2 hLg).1) n
  have hg : 40 * f + i < 200 := by omega
  have g40 : (40 * f + i) / 40 * 40 = 40 * f := by omega
  simp only [oe_ev] at h
  rw [oe_k8 k] at h
  have np : ot_np (K f i) (V f i) = 1 := by rw [k]; rfl
  have np0 : ot_np (K f i) 0 = 1 := by rw [k]; rfl
  have so0 : ot_so (K f (C f i 0)) = 0 := by rw [(W.2.1 0 (by omega)).2.2.1, k]; rfl
  obtain ⟨c00, c01, _⟩ := W.2.1 0 (by omega)
  obtain ⟨o1, c1, e3, h⟩ := oe_Ni h
  have m1 := MV f _ _ _ _ _ hf hL c01 hc e3
  have dk' := dk
  rw [k] at dk'
  refine oy_e1 (g' := 40 * f + C f i 0) hg dk (by omega) (by omega) (by omega) (by decide) (db 0 (by omega)) (by omega) (by omega) (by omega) (by omega) (fun j' => ?_)
  refine oy_cx PR S hf hL hi hc hd he (by omega) hpv (by omega) so0 e3 (fun q4 qs tg => (by
    rcases h with ⟨g, _⟩ | ⟨_, rfl, rfl⟩
    · omega
    · exact oy_e2 (l := []) hg dk (by omega) (by omega) (by omega) (by omega) rfl (KK.2.2.2.1 q4 qs tg))) (fun q0 tg kd wo => ?_) (fun q5 => (by
    rcases h with ⟨g, _⟩ | ⟨_, rfl, rfl⟩
    · omega
    · exact KK.2.2.2.2 q5)) j' tg kd wo
  replace h := (by rcases h with ⟨_, h⟩ | ⟨g, _⟩; exact h; exact absurd q0 g : _ = _)
  obtain ⟨g, hgf, hvg⟩ := W.1.2.2.2.1 (Or.inl k)
  rw [hvg] at dv
  rw [hvg, nI_clamp (by omega)] at h
  obtain ⟨lg, lg4, PG⟩ := PR g hgf
  have l0 : ob_length y g = 0 ↔ L g = 0 := by rw [lg]; exact nI_eq (b := 0) (by omega) (by omega)
  have soi : ot_so (K f i) = 0 := by rw [k]; rfl
  unfold oe_cal at h
  refine oy_ecall (f := g) hg dk' dv hgf (by omega) (by omega) (by simp only [List.length_cons]; omega) m1.2.1 (fun t0 j hj => ?_) (fun t0 t1 => ?_) (fun t0 t1 t2 j hj => ?_) (fun t0 t1 t2 j j' hj => ?_)
  · rw [if_pos (l0.mp t0)] at h; cases h
    exact oy_ret0 hg dk' (by omega) rfl hj (KK.2.2.2.1 rfl ⟨1, by omega, rfl⟩ tg)
  · rw [if_neg (fun e => t0 (l0.mpr e)), if_pos t1] at h; cases h
    exact KK.2.2.2.2 rfl
  · have t2 : vf.length + 1 = 12 := t2
    rw [if_neg (fun e => t0 (l0.mpr e)), if_neg t1, if_pos t2] at h; cases h
    exact oy_ret0 hg dk' (by omega) rfl hj (KK.2.2.2.1 rfl ⟨2, by omega, rfl⟩ tg)
  · have hLg : L g ≠ 0 := fun e => t0 (l0.mpr e)
    have t2' : vf.length + 1 ≠ 12 := t2
    rw [if_neg hLg, if_neg t1, if_neg t2'] at h
    obtain ⟨o2, c2, e2, h⟩ := oe_Bi h
    obtain ⟨WTg, BDg, Dg⟩ := PG hLg
    have BACK : ∀ v tg kd wo, o = (0, v, 0) → c' = (c1.1, c2.2) → oy_A post y es (v :: vs) (c1.1 :: vf) 0 tg kd wo c2.2.1 c2.2.2.1 c2.2.2.2 := by
      intro v tg kd wo eo ec
      subst eo ec
      have G := KK.1 rfl tg kd wo
      rw [soi] at G
      exact G
    have Q0 : Q g 0 = [] := WTg.2.2.2.1
    have so1 : ¬ ot_so (K g 0) = 0 := by rw [WTg.2.2.1]; omega
    refine S g 0 _ o2 c2 ((40 * f + i, 2, vs.length, j) :: es) vs (c1.1 :: vf) hgf hLg WTg.1 (by have := m1.2.1; dsimp only; omega) (by simp only [List.length_cons]; omega) (by simp only [List.length_cons]; omega) (by simp only [List.length_cons]; omega) (by rw [Q0]; trivial) e2 ?_ j' 0 0 tg kd wo (Or.inl ⟨rfl, rfl⟩)
    rw [Q0]
    refine ⟨fun q0 tg kd wo => ?_, fun _ t ht => (nomatch ht), fun q3 tg kd => ?_, fun q4 qs tg => ?_, fun q5 => ?_⟩
    · simp only [decide_eq_true_eq, if_neg so1]
      refine oy_ret2 hg dk' (by omega) rfl hj (by decide) (by omega) ?_
      rw [if_neg (by decide)]
      refine BACK 0 tg kd wo ?_ ?_
      · cases h; rw [if_neg (by omega), if_neg (by omega)]
      · cases h; rfl
    · refine oy_ret2 hg dk' (by omega) rfl hj (by decide) (by omega) ?_
      rw [if_pos rfl]
      refine BACK o2.2.1 tg kd o2.2.1 ?_ ?_
      · cases h; rw [if_neg (by omega), if_pos q3]
      · cases h; rfl
    · cases h
      rw [if_pos (Or.inl q4)] at KK
      exact oy_ret1 hg dk' (by omega) rfl hj (KK.2.2.2.1 q4 qs tg)
    · cases h
      rw [if_pos (Or.inr q5)] at KK
      exact KK.2.2.2.2 q5
theorem oy_c10 (k : K f i = 10) (PR : ∀ g, g < 4 → oy_PR y K V C L Q B g) (S : oy_S post y K V C L Q n) (hf : f < 4) (hL : L f ≠ 0) (hi : i < L f) (hc : c.2.1 ≤ 300) (hd : vf.length < 12) (he : es.length ≤ 40 * vf.length + i) (hv : vs.length ≤ 40 * vf.length + i) (hpv : oy_pv (K f) (V f) (C f) (Q f) (L f) i (Q f i)) (h : oe_ev K V C L (n + 1) f (vf.length + 1) i c = some (o, c')) (KK : oy_K post y (K f) (V f) (Q f i) f es vs vf (decide (ot_so (K f i) = 0)) o c') : oy_A post y ((40 * f + i, 0, vs.length, j) :: es) vs (c.1 :: vf) 0 tg kd wo c.2.1 c.2.2.1 c.2.2.2 := by
  obtain ⟨W, hN, WT, BD, dk, dv, db, du⟩ := oy_W PR hf hL hi
  have MV := oe_mvs K V C L Q B (fun g hg hLg => ((PR g hg).2.2 hLg).1) n
  have hg : 40 * f + i < 200 := by omega
  have g40 : (40 * f + i) / 40 * 40 = 40 * f := by omega
  simp only [oe_ev] at h
  rw [oe_k10 k] at h
  have np : ot_np (K f i) (V f i) = 1 := by rw [k]; rfl
  have np0 : ot_np (K f i) 0 = 1 := by rw [k]; rfl
  have so0 : ot_so (K f (C f i 0)) = 0 := by rw [(W.2.1 0 (by omega)).2.2.1, k]; rfl
  obtain ⟨c00, c01, _⟩ := W.2.1 0 (by omega)
  obtain ⟨o1, c1, e3, h⟩ := oe_Ni h
  have m1 := MV f _ _ _ _ _ hf hL c01 hc e3
  have dk' := dk
  rw [k] at dk'
  refine oy_s0 (g' := 40 * f + C f i 0) (k := K f i) (by omega) hg dk (db 0 (by omega)) (by omega) (by omega) (by omega) (by omega) (fun j' => ?_)
  refine oy_cx PR S hf hL hi hc hd he (by omega) hpv (by omega) so0 e3 (fun q4 qs tg => (by
    rcases h with ⟨g, _⟩ | ⟨_, rfl, rfl⟩
    · omega
    · exact oy_s6 (l := []) (k := K f i) (by omega) hg dk (by omega) (by omega) (by decide) (by omega) rfl (KK.2.2.2.1 q4 qs tg))) (fun q0 tg kd wo => ?_) (fun q5 => (by
    rcases h with ⟨g, _⟩ | ⟨_, rfl, rfl⟩
    · omega
    · exact KK.2.2.2.2 q5)) j' tg kd wo
  replace h := (by rcases h with ⟨_, h⟩ | ⟨g, _⟩; exact h; exact absurd q0 g : _ = _)
  cases h
  obtain ⟨q, hq, hvq⟩ := W.1.2.2.1 (Or.inr k)
  rw [hvq] at dv
  refine oy_set hg dk' dv hq (by omega) rfl (by omega) hd ?_
  have G := KK.1 rfl tg kd wo
  simp only [k] at G
  rw [hvq, nI_clamp (by omega)] at G
  exact G
theorem oy_c11 (k : K f i = 11) (PR : ∀ g, g < 4 → oy_PR y K V C L Q B g) (S : oy_S post y K V C L Q n) (hf : f < 4) (hL : L f ≠ 0) (hi : i < L f) (hc : c.2.1 ≤ 300) (hd : vf.length < 12) (he : es.length ≤ 40 * vf.length + i) (hv : vs.length ≤ 40 * vf.length + i) (hpv : oy_pv (K f) (V f) (C f) (Q f) (L f) i (Q f i)) (h : oe_ev K V C L (n + 1) f (vf.length + 1) i c = some (o, c')) (KK : oy_K post y (K f) (V f) (Q f i) f es vs vf (decide (ot_so (K f i) = 0)) o c') : oy_A post y ((40 * f + i, 0, vs.length, j) :: es) vs (c.1 :: vf) 0 tg kd wo c.2.1 c.2.2.1 c.2.2.2 := by
  obtain ⟨W, hN, WT, BD, dk, dv, db, du⟩ := oy_W PR hf hL hi
  have MV := oe_mvs K V C L Q B (fun g hg hLg => ((PR g hg).2.2 hLg).1) n
  have hg : 40 * f + i < 200 := by omega
  have g40 : (40 * f + i) / 40 * 40 = 40 * f := by omega
  simp only [oe_ev] at h
  rw [oe_k11 k] at h
  have np : ot_np (K f i) (V f i) = 1 := by rw [k]; rfl
  have np0 : ot_np (K f i) 0 = 1 := by rw [k]; rfl
  have so0 : ot_so (K f (C f i 0)) = 0 := by rw [(W.2.1 0 (by omega)).2.2.1, k]; rfl
  obtain ⟨c00, c01, _⟩ := W.2.1 0 (by omega)
  obtain ⟨o1, c1, e3, h⟩ := oe_Ni h
  have m1 := MV f _ _ _ _ _ hf hL c01 hc e3
  have dk' := dk
  rw [k] at dk'
  refine oy_s0 (g' := 40 * f + C f i 0) (k := K f i) (by omega) hg dk (db 0 (by omega)) (by omega) (by omega) (by omega) (by omega) (fun j' => ?_)
  refine oy_cx PR S hf hL hi hc hd he (by omega) hpv (by omega) so0 e3 (fun q4 qs tg => (by
    rcases h with ⟨g, _⟩ | ⟨_, rfl, rfl⟩
    · omega
    · exact oy_s6 (l := []) (k := K f i) (by omega) hg dk (by omega) (by omega) (by decide) (by omega) rfl (KK.2.2.2.1 q4 qs tg))) (fun q0 tg kd wo => ?_) (fun q5 => (by
    rcases h with ⟨g, _⟩ | ⟨_, rfl, rfl⟩
    · omega
    · exact KK.2.2.2.2 q5)) j' tg kd wo
  replace h := (by rcases h with ⟨_, h⟩ | ⟨g, _⟩; exact h; exact absurd q0 g : _ = _)
  split at h
  · cases h
    refine oy_say hg dk' (by omega) rfl (by omega) (by omega) ?_
    have G := KK.1 rfl tg kd wo
    simp only [k] at G
    exact G
  · cases h
theorem oy_c16 (k : K f i = 16) (PR : ∀ g, g < 4 → oy_PR y K V C L Q B g) (S : oy_S post y K V C L Q n) (hf : f < 4) (hL : L f ≠ 0) (hi : i < L f) (hc : c.2.1 ≤ 300) (hd : vf.length < 12) (he : es.length ≤ 40 * vf.length + i) (hv : vs.length ≤ 40 * vf.length + i) (hpv : oy_pv (K f) (V f) (C f) (Q f) (L f) i (Q f i)) (h : oe_ev K V C L (n + 1) f (vf.length + 1) i c = some (o, c')) (KK : oy_K post y (K f) (V f) (Q f i) f es vs vf (decide (ot_so (K f i) = 0)) o c') : oy_A post y ((40 * f + i, 0, vs.length, j) :: es) vs (c.1 :: vf) 0 tg kd wo c.2.1 c.2.2.1 c.2.2.2 := by
  obtain ⟨W, hN, WT, BD, dk, dv, db, du⟩ := oy_W PR hf hL hi
  have MV := oe_mvs K V C L Q B (fun g hg hLg => ((PR g hg).2.2 hLg).1) n
  have hg : 40 * f + i < 200 := by omega
  have g40 : (40 * f + i) / 40 * 40 = 40 * f := by omega
  simp only [oe_ev] at h
  rw [oe_k16 k] at h
  have np : ot_np (K f i) (V f i) = 1 := by rw [k]; rfl
  have np0 : ot_np (K f i) 0 = 1 := by rw [k]; rfl
  have so0 : ot_so (K f (C f i 0)) = 0 := by rw [(W.2.1 0 (by omega)).2.2.1, k]; rfl
  obtain ⟨c00, c01, _⟩ := W.2.1 0 (by omega)
  obtain ⟨o1, c1, e3, h⟩ := oe_Ni h
  have m1 := MV f _ _ _ _ _ hf hL c01 hc e3
  have dk' := dk
  rw [k] at dk'
  refine oy_s0 (g' := 40 * f + C f i 0) (k := K f i) (by omega) hg dk (db 0 (by omega)) (by omega) (by omega) (by omega) (by omega) (fun j' => ?_)
  refine oy_cx PR S hf hL hi hc hd he (by omega) hpv (by omega) so0 e3 (fun q4 qs tg => (by
    rcases h with ⟨g, _⟩ | ⟨_, rfl, rfl⟩
    · omega
    · exact oy_s6 (l := []) (k := K f i) (by omega) hg dk (by omega) (by omega) (by decide) (by omega) rfl (KK.2.2.2.1 q4 qs tg))) (fun q0 tg kd wo => ?_) (fun q5 => (by
    rcases h with ⟨g, _⟩ | ⟨_, rfl, rfl⟩
    · omega
    · exact KK.2.2.2.2 q5)) j' tg kd wo
  replace h := (by rcases h with ⟨_, h⟩ | ⟨g, _⟩; exact h; exact absurd q0 g : _ = _)
  cases h
  obtain ⟨q, hq, hvq⟩ := W.1.2.2.2.1 (by omega)
  refine oy_throw hg dk' (by omega) rfl (by omega) ?_
  rw [dv]
  exact KK.2.2.2.1 rfl ⟨q, hq, hvq⟩ tg
theorem oy_c21 (k : K f i = 21) (PR : ∀ g, g < 4 → oy_PR y K V C L Q B g) (S : oy_S post y K V C L Q n) (hf : f < 4) (hL : L f ≠ 0) (hi : i < L f) (hc : c.2.1 ≤ 300) (hd : vf.length < 12) (he : es.length ≤ 40 * vf.length + i) (hv : vs.length ≤ 40 * vf.length + i) (hpv : oy_pv (K f) (V f) (C f) (Q f) (L f) i (Q f i)) (h : oe_ev K V C L (n + 1) f (vf.length + 1) i c = some (o, c')) (KK : oy_K post y (K f) (V f) (Q f i) f es vs vf (decide (ot_so (K f i) = 0)) o c') : oy_A post y ((40 * f + i, 0, vs.length, j) :: es) vs (c.1 :: vf) 0 tg kd wo c.2.1 c.2.2.1 c.2.2.2 := by
  obtain ⟨W, hN, WT, BD, dk, dv, db, du⟩ := oy_W PR hf hL hi
  have MV := oe_mvs K V C L Q B (fun g hg hLg => ((PR g hg).2.2 hLg).1) n
  have hg : 40 * f + i < 200 := by omega
  have g40 : (40 * f + i) / 40 * 40 = 40 * f := by omega
  simp only [oe_ev] at h
  rw [oe_k21 k] at h
  have np : ot_np (K f i) (V f i) = 1 := by rw [k]; rfl
  have np0 : ot_np (K f i) 0 = 1 := by rw [k]; rfl
  have so0 : ot_so (K f (C f i 0)) = 0 := by rw [(W.2.1 0 (by omega)).2.2.1, k]; rfl
  obtain ⟨c00, c01, _⟩ := W.2.1 0 (by omega)
  obtain ⟨o1, c1, e3, h⟩ := oe_Ni h
  have m1 := MV f _ _ _ _ _ hf hL c01 hc e3
  have dk' := dk
  rw [k] at dk'
  refine oy_s0 (g' := 40 * f + C f i 0) (k := K f i) (by omega) hg dk (db 0 (by omega)) (by omega) (by omega) (by omega) (by omega) (fun j' => ?_)
  refine oy_cx PR S hf hL hi hc hd he (by omega) hpv (by omega) so0 e3 (fun q4 qs tg => (by
    rcases h with ⟨g, _⟩ | ⟨_, rfl, rfl⟩
    · omega
    · exact oy_s6 (l := []) (k := K f i) (by omega) hg dk (by omega) (by omega) (by decide) (by omega) rfl (KK.2.2.2.1 q4 qs tg))) (fun q0 tg kd wo => ?_) (fun q5 => (by
    rcases h with ⟨g, _⟩ | ⟨_, rfl, rfl⟩
    · omega
    · exact KK.2.2.2.2 q5)) j' tg kd wo
  replace h := (by rcases h with ⟨_, h⟩ | ⟨g, _⟩; exact h; exact absurd q0 g : _ = _)
  cases h
  refine oy_rtn hg dk' (by omega) rfl (by omega) ?_
  exact KK.2.2.1 rfl tg kd
theorem oy_c15 (k : K f i = 15) (PR : ∀ g, g < 4 → oy_PR y K V C L Q B g) (S : oy_S post y K V C L Q n) (hf : f < 4) (hL : L f ≠ 0) (hi : i < L f) (hc : c.2.1 ≤ 300) (hd : vf.length < 12) (he : es.length ≤ 40 * vf.length + i) (hv : vs.length ≤ 40 * vf.length + i) (hpv : oy_pv (K f) (V f) (C f) (Q f) (L f) i (Q f i)) (h : oe_ev K V C L (n + 1) f (vf.length + 1) i c = some (o, c')) (KK : oy_K post y (K f) (V f) (Q f i) f es vs vf (decide (ot_so (K f i) = 0)) o c') : oy_A post y ((40 * f + i, 0, vs.length, j) :: es) vs (c.1 :: vf) 0 tg kd wo c.2.1 c.2.2.1 c.2.2.2 := by
  obtain ⟨W, hN, WT, BD, dk, dv, db, du⟩ := oy_W PR hf hL hi
  have MV := oe_mvs K V C L Q B (fun g hg hLg => ((PR g hg).2.2 hLg).1) n
  have hg : 40 * f + i < 200 := by omega
  have g40 : (40 * f + i) / 40 * 40 = 40 * f := by omega
  simp only [oe_ev] at h
  rw [oe_k15 k] at h; cases h
  rw [k] at dk
  refine oy_skip hg dk (by omega) rfl ?_
  have G := KK.1 rfl tg kd wo
  simp only [k] at G
  exact G
theorem oy_c19 (k : K f i = 19 ∨ K f i = 20) (PR : ∀ g, g < 4 → oy_PR y K V C L Q B g) (S : oy_S post y K V C L Q n) (hf : f < 4) (hL : L f ≠ 0) (hi : i < L f) (hc : c.2.1 ≤ 300) (hd : vf.length < 12) (he : es.length ≤ 40 * vf.length + i) (hv : vs.length ≤ 40 * vf.length + i) (hpv : oy_pv (K f) (V f) (C f) (Q f) (L f) i (Q f i)) (h : oe_ev K V C L (n + 1) f (vf.length + 1) i c = some (o, c')) (KK : oy_K post y (K f) (V f) (Q f i) f es vs vf (decide (ot_so (K f i) = 0)) o c') : oy_A post y ((40 * f + i, 0, vs.length, j) :: es) vs (c.1 :: vf) 0 tg kd wo c.2.1 c.2.2.1 c.2.2.2 := by
  obtain ⟨W, hN, WT, BD, dk, dv, db, du⟩ := oy_W PR hf hL hi
  have MV := oe_mvs K V C L Q B (fun g hg hLg => ((PR g hg).2.2 hLg).1) n
  have hg : 40 * f + i < 200 := by omega
  have g40 : (40 * f + i) / 40 * 40 = 40 * f := by omega
  simp only [oe_ev] at h
  obtain ⟨t, ht⟩ := oc_tj_cj (BD i hi k)
  have sne : ot_so (K f i) ≠ 0 := by rcases k with k | k <;> rw [k] <;> decide
  have ht2 : oy_tj (K f) (V f) (V f i) (Q f i) = some t := by rw [oy_tj_eq WT hpv sne]; exact ht
  have tl := oy_pv_lt WT hpv ht
  refine oy_brk (k := K f i) (K := K f) (V := V f) (p := Q f i) (i := i) (t := t) k (by omega) (by omega) rfl dk dv du (oy_pv_up PR hf hL hpv) ht2 (by omega) (by omega) rfl ?_
  rcases k with k | k
  · rw [oe_k19 k] at h; cases h
    rw [k]
    exact KK.2.1 (Or.inl rfl) t ht kd 0
  · rw [oe_k20 k] at h; cases h
    rw [k]
    exact KK.2.1 (Or.inr rfl) t ht kd 0
/-- what a part of SEQ, IF, CATCH asks -/
theorem oy_pass (hs : K f i = 12 ∨ K f i = 14 ∨ K f i = 18) (hg : 40 * f + i < 200) (dk : ob_kind y (40 * f + i) = nI (K f i)) (he : es.length < 600) {ph op : Nat} (hp : ph ≠ 0) (hp9 : ph < 1000) {o1 : oe_O} {c2 : oe_C} (KK : o1.1 ≠ 0 → oy_K post y (K f) (V f) (Q f i) f es vs vf false o1 c2)
    (N : o1.1 = 0 → ∀ tg kd wo, oy_A post y ((40 * f + i, ph, vs.length, j) :: es) vs (c2.1 :: vf) 0 tg kd wo c2.2.1 c2.2.2.1 c2.2.2.2) :
    oy_K post y (K f) (V f) ((i, op) :: Q f i) f ((40 * f + i, ph, vs.length, j) :: es) vs vf false o1 c2 := by
  refine ⟨N, fun q1 t ht kd wo => ?_, fun q3 tg kd => ?_, fun q4 qs tg => ?_, fun q5 => (KK (by omega)).2.2.2.2 q5⟩
  · have tgt : oc_tgt (K f) (V f) o1.2.1 i op = false := by unfold oc_tgt; exact decide_eq_false (fun e => by omega)
    simp only [oc_tj, tgt] at ht
    have hne : ¬ nI o1.1 = 0 := nI_ne0 (by omega) (by omega)
    exact oy_s6 (l := []) (k := K f i) (by omega) hg dk hp hp9 hne he rfl ((KK (by omega)).2.1 q1 t ht kd wo)
  · exact oy_s6 (l := []) (k := K f i) (by omega) hg dk hp hp9 (by decide) he rfl ((KK (by omega)).2.2.1 q3 tg kd)
  · exact oy_s6 (l := []) (k := K f i) (by omega) hg dk hp hp9 (by decide) he rfl ((KK (by omega)).2.2.2.1 q4 qs tg)
theorem oy_c14 (k : K f i = 14) (PR : ∀ g, g < 4 → oy_PR y K V C L Q B g) (S : oy_S post y K V C L Q n) (hf : f < 4) (hL : L f ≠ 0) (hi : i < L f) (hc : c.2.1 ≤ 300) (hd : vf.length < 12) (he : es.length ≤ 40 * vf.length + i) (hv : vs.length ≤ 40 * vf.length + i) (hpv : oy_pv (K f) (V f) (C f) (Q f) (L f) i (Q f i)) (h : oe_ev K V C L (n + 1) f (vf.length + 1) i c = some (o, c')) (KK : oy_K post y (K f) (V f) (Q f i) f es vs vf (decide (ot_so (K f i) = 0)) o c') : oy_A post y ((40 * f + i, 0, vs.length, j) :: es) vs (c.1 :: vf) 0 tg kd wo c.2.1 c.2.2.1 c.2.2.2 := by
  obtain ⟨W, hN, WT, BD, dk, dv, db, du⟩ := oy_W PR hf hL hi
  have MV := oe_mvs K V C L Q B (fun g hg hLg => ((PR g hg).2.2 hLg).1) n
  have hg : 40 * f + i < 200 := by omega
  have g40 : (40 * f + i) / 40 * 40 = 40 * f := by omega
  simp only [oe_ev] at h
  rw [oe_k14 k] at h
  have np : ot_np (K f i) (V f i) = 2 := by rw [k]; rfl
  have so0 : ∀ op, op < 2 → ot_so (K f (C f i op)) ≠ 0 := by
    intro op hop; rw [(W.2.1 op (by omega)).2.2.1, k]; simp [ot_wa]
  have soi : decide (ot_so (K f i) = 0) = false := by rw [k]; rfl
  rw [soi] at KK
  obtain ⟨c00, c01, _⟩ := W.2.1 0 (by omega)
  obtain ⟨c10, c11, _⟩ := W.2.1 1 (by omega)
  obtain ⟨o1, c1, e3, h⟩ := oe_Ni h
  have m1 := MV f _ _ _ _ _ hf hL c01 hc e3
  have dk' := dk
  rw [k] at dk'
  refine oy_s0 (g' := 40 * f + C f i 0) (k := K f i) (by omega) hg dk (db 0 (by omega)) (by omega) (by omega) (by omega) (by omega) (fun j' => ?_)
  refine oy_cs PR S hf hL hi hc hd he (by omega) hpv (by omega) (so0 0 (by omega)) e3 (oy_pass (by omega) hg dk (by omega) (by omega) (by omega) (fun q => ?_) (fun q0 tg kd wo => ?_)) j' tg kd wo
  · rcases h with ⟨g, _⟩ | ⟨_, rfl, rfl⟩
    · exact absurd g q
    · exact KK
  · rcases h with ⟨_, h⟩ | ⟨g, _⟩
    · refine oy_seq (g' := 40 * f + C f i 1) hg dk' (db 1 (by omega)) (by omega) (by omega) (by omega) (by omega) (fun j' => ?_)
      refine oy_cs PR S hf hL hi m1.2.1 hd he (by omega) hpv (by omega) (so0 1 (by omega)) h (oy_pass (by omega) hg dk (by omega) (by omega) (by omega) (fun q => KK) (fun q0 tg kd wo => ?_)) j' tg kd wo
      exact oy_s6n (k := K f i) (by omega) hg dk (by omega) rfl (KK.1 q0 tg kd wo)
    · exact absurd q0 g
theorem oy_c18 (k : K f i = 18) (PR : ∀ g, g < 4 → oy_PR y K V C L Q B g) (S : oy_S post y K V C L Q n) (hf : f < 4) (hL : L f ≠ 0) (hi : i < L f) (hc : c.2.1 ≤ 300) (hd : vf.length < 12) (he : es.length ≤ 40 * vf.length + i) (hv : vs.length ≤ 40 * vf.length + i) (hpv : oy_pv (K f) (V f) (C f) (Q f) (L f) i (Q f i)) (h : oe_ev K V C L (n + 1) f (vf.length + 1) i c = some (o, c')) (KK : oy_K post y (K f) (V f) (Q f i) f es vs vf (decide (ot_so (K f i) = 0)) o c') : oy_A post y ((40 * f + i, 0, vs.length, j) :: es) vs (c.1 :: vf) 0 tg kd wo c.2.1 c.2.2.1 c.2.2.2 := by
  obtain ⟨W, hN, WT, BD, dk, dv, db, du⟩ := oy_W PR hf hL hi
  have MV := oe_mvs K V C L Q B (fun g hg hLg => ((PR g hg).2.2 hLg).1) n
  have hg : 40 * f + i < 200 := by omega
  have g40 : (40 * f + i) / 40 * 40 = 40 * f := by omega
  simp only [oe_ev] at h
  rw [oe_k18 k] at h
  have np : ot_np (K f i) (V f i) = 1 := by rw [k]; rfl
  have so0 : ot_so (K f (C f i 0)) ≠ 0 := by rw [(W.2.1 0 (by omega)).2.2.1, k]; simp [ot_wa]
  have soi : decide (ot_so (K f i) = 0) = false := by rw [k]; rfl
  rw [soi] at KK
  obtain ⟨c00, c01, _⟩ := W.2.1 0 (by omega)
  refine oy_s0 (g' := 40 * f + C f i 0) (k := K f i) (by omega) hg dk (db 0 (by omega)) (by omega) (by omega) (by omega) (by omega) (fun j' => ?_)
  refine oy_cs PR S hf hL hi hc hd he (by omega) hpv (by omega) so0 h (oy_pass (by omega) hg dk (by omega) (by omega) (by omega) (fun q => KK) (fun q0 tg kd wo => ?_)) j' tg kd wo
  exact oy_s6n (k := K f i) (by omega) hg dk (by omega) rfl (KK.1 q0 tg kd wo)
theorem oy_c12 (k : K f i = 12) (PR : ∀ g, g < 4 → oy_PR y K V C L Q B g) (S : oy_S post y K V C L Q n) (hf : f < 4) (hL : L f ≠ 0) (hi : i < L f) (hc : c.2.1 ≤ 300) (hd : vf.length < 12) (he : es.length ≤ 40 * vf.length + i) (hv : vs.length ≤ 40 * vf.length + i) (hpv : oy_pv (K f) (V f) (C f) (Q f) (L f) i (Q f i)) (h : oe_ev K V C L (n + 1) f (vf.length + 1) i c = some (o, c')) (KK : oy_K post y (K f) (V f) (Q f i) f es vs vf (decide (ot_so (K f i) = 0)) o c') : oy_A post y ((40 * f + i, 0, vs.length, j) :: es) vs (c.1 :: vf) 0 tg kd wo c.2.1 c.2.2.1 c.2.2.2 := by
  obtain ⟨W, hN, WT, BD, dk, dv, db, du⟩ := oy_W PR hf hL hi
  have MV := oe_mvs K V C L Q B (fun g hg hLg => ((PR g hg).2.2 hLg).1) n
  have hg : 40 * f + i < 200 := by omega
  have g40 : (40 * f + i) / 40 * 40 = 40 * f := by omega
  simp only [oe_ev] at h
  rw [oe_k12 k] at h
  have np : ot_np (K f i) (V f i) = 3 := by rw [k]; rfl
  have so0 : ot_so (K f (C f i 0)) = 0 := by rw [(W.2.1 0 (by omega)).2.2.1, k]; rfl
  have so1 : ∀ op, 0 < op → op < 3 → ot_so (K f (C f i op)) ≠ 0 := by
    intro op h0 hop; rw [(W.2.1 op (by omega)).2.2.1, k]; simp only [ot_wa]; rw [if_pos h0]; omega
  have soi : decide (ot_so (K f i) = 0) = false := by rw [k]; rfl
  rw [soi] at KK
  obtain ⟨c00, c01, _⟩ := W.2.1 0 (by omega)
  obtain ⟨c10, c11, _⟩ := W.2.1 1 (by omega)
  obtain ⟨c20, c21, _⟩ := W.2.1 2 (by omega)
  obtain ⟨o1, c1, e3, h⟩ := oe_Ni h
  have m1 := MV f _ _ _ _ _ hf hL c01 hc e3
  have dk' := dk
  rw [k] at dk'
  refine oy_s0 (g' := 40 * f + C f i 0) (k := K f i) (by omega) hg dk (db 0 (by omega)) (by omega) (by omega) (by omega) (by omega) (fun j' => ?_)
  refine oy_cx PR S hf hL hi hc hd he (by omega) hpv (by omega) so0 e3 (fun q4 qs tg => (by
    rcases h with ⟨g, _⟩ | ⟨_, rfl, rfl⟩
    · omega
    · exact oy_s6 (l := []) (k := K f i) (by omega) hg dk (by omega) (by omega) (by decide) (by omega) rfl (KK.2.2.2.1 q4 qs tg))) (fun q0 tg kd wo => ?_) (fun q5 => (by
    rcases h with ⟨g, _⟩ | ⟨_, rfl, rfl⟩
    · omega
    · exact KK.2.2.2.2 q5)) j' tg kd wo
  replace h := (by rcases h with ⟨_, h⟩ | ⟨g, _⟩; exact h; exact absurd q0 g : _ = _)
  have BR : ∀ op, 0 < op → op < 3 → oe_ev K V C L n f (vf.length + 1) (C f i op) c1 = some (o, c') → ∀ j', oy_A post y ((40 * f + C f i op, 0, vs.length, j') :: (40 * f + i, op + 1, vs.length, j) :: es) vs (c1.1 :: vf) 0 tg kd wo c1.2.1 c1.2.2.1 c1.2.2.2 := by
    intro op h0 h3 h j'
    obtain ⟨a1, a2, _⟩ := W.2.1 op (by omega)
    refine oy_cs PR S hf hL hi m1.2.1 hd he (by omega) hpv (by omega) (so1 op h0 h3) h (oy_pass (by omega) hg dk (by omega) (by omega) (by omega) (fun q => KK) (fun q0 tg kd wo => ?_)) j' tg kd wo
    exact oy_s6n (k := K f i) (by omega) hg dk (by omega) rfl (KK.1 q0 tg kd wo)
  by_cases hx : o1.2.1 = 0
  · rw [if_pos hx] at h
    exact oy_if (g' := 40 * f + C f i 2) (o := 2) hg dk' (by rw [if_pos hx]) (db 2 (by omega)) (by omega) (by omega) (by omega) (by omega) (BR 2 (by omega) (by omega) h)
  · rw [if_neg hx] at h
    exact oy_if (g' := 40 * f + C f i 1) (o := 1) hg dk' (by rw [if_neg hx]) (db 1 (by omega)) (by omega) (by omega) (by omega) (by omega) (BR 1 (by omega) (by omega) h)
theorem oy_c13 (k : K f i = 13) (PR : ∀ g, g < 4 → oy_PR y K V C L Q B g) (S : oy_S post y K V C L Q n) (hf : f < 4) (hL : L f ≠ 0) (hi : i < L f) (hc : c.2.1 ≤ 300) (hd : vf.length < 12) (he : es.length ≤ 40 * vf.length + i) (hv : vs.length ≤ 40 * vf.length + i) (hpv : oy_pv (K f) (V f) (C f) (Q f) (L f) i (Q f i)) (h : oe_ev K V C L (n + 1) f (vf.length + 1) i c = some (o, c')) (KK : oy_K post y (K f) (V f) (Q f i) f es vs vf (decide (ot_so (K f i) = 0)) o c') (p : Nat) (en : Int32) (hgo : oy_go (K f i) (40 * f + i) p en tg) : oy_A post y ((40 * f + i, p, vs.length, j) :: es) vs (c.1 :: vf) en tg kd wo c.2.1 c.2.2.1 c.2.2.2 := by
  obtain ⟨W, hN, WT, BD, dk, dv, db, du⟩ := oy_W PR hf hL hi
  have MV := oe_mvs K V C L Q B (fun g hg hLg => ((PR g hg).2.2 hLg).1) n
  have hg : 40 * f + i < 200 := by omega
  have g40 : (40 * f + i) / 40 * 40 = 40 * f := by omega
  simp only [oe_ev] at h
  rw [oe_k13 k] at h
  have np : ot_np (K f i) (V f i) = 2 := by rw [k]; rfl
  have so0 : ot_so (K f (C f i 0)) = 0 := by rw [(W.2.1 0 (by omega)).2.2.1, k]; rfl
  have so1 : ot_so (K f (C f i 1)) ≠ 0 := by rw [(W.2.1 1 (by omega)).2.2.1, k]; simp [ot_wa]
  have soi : decide (ot_so (K f i) = 0) = false := by rw [k]; rfl
  have KK' := KK
  rw [soi] at KK
  obtain ⟨c00, c01, _⟩ := W.2.1 0 (by omega)
  obtain ⟨c10, c11, _⟩ := W.2.1 1 (by omega)
  have dk' := dk
  rw [k] at dk'
  have hp : (p = 0 ∧ en = 0) ∨ (p = 2 ∧ en = 0) ∨ (p = 2 ∧ en = 2 ∧ tg = nI (40 * f + i)) := by
    rcases hgo with e | ⟨_, e | e⟩
    · exact Or.inl e
    · exact Or.inr (Or.inl e)
    · exact Or.inr (Or.inr e)
  have REC : ∀ (c2 : oe_C) (en tg kd wo : Int32) (j : Int32 × Int32 × Int32 × Int32 × Int32), c2.2.1 ≤ 300 → oe_ev K V C L n f (vf.length + 1) i c2 = some (o, c') → (en = 0 ∨ (en = 2 ∧ tg = nI (40 * f + i))) → oy_A post y ((40 * f + i, 2, vs.length, j) :: es) vs (c2.1 :: vf) en tg kd wo c2.2.1 c2.2.2.1 c2.2.2.2 := by
    intro c2 en tg kd wo j h3 h4 h5
    refine S f i c2 o c' es vs vf hf hL hi h3 hd he hv hpv h4 KK' j 2 en tg kd wo (Or.inr ⟨k, ?_⟩)
    rcases h5 with e | e
    · exact Or.inl ⟨rfl, e⟩
    · exact Or.inr ⟨rfl, e⟩
  unfold oe_whl at h
  refine oy_w0 (g' := 40 * f + C f i 0) hp hg dk' (db 0 (by omega)) (by omega) (by omega) (by omega) (by omega) hc (fun s3 => ?_) (fun s3 j' => ?_)
  · rw [if_pos s3] at h; cases h; exact KK.2.2.2.2 rfl
  · rw [if_neg s3] at h
    obtain ⟨o1, c1, x3, h⟩ := oe_Ni h
    have m1 := MV f _ _ _ _ _ hf hL c01 (by dsimp only; omega) x3
    refine oy_cx (c1 := (c.1, c.2.1 + 1, c.2.2)) PR S hf hL hi (by dsimp only; omega) hd he (by omega) hpv (by omega) so0 x3 (fun q4 qs tg => ?_) (fun q0 tg kd wo => ?_) (fun q5 => ?_) j' tg kd wo
    · rcases h with ⟨g, _⟩ | ⟨_, rfl, rfl⟩
      · omega
      · exact oy_w3 (l := []) (Or.inl rfl) (by decide) (fun e => by rcases e with e | e <;> exact absurd e (by decide)) hg dk' (by omega) rfl (KK.2.2.2.1 q4 qs tg)
    · rcases h with ⟨_, h⟩ | ⟨g, _⟩
      · refine oy_w1 (g' := 40 * f + C f i 1) hg dk' (db 1 (by omega)) (by omega) (by omega) (by omega) rfl (by omega) (fun hx => ?_) (fun hx j' => ?_)
        · rw [if_pos hx] at h; cases h; exact KK.1 rfl tg kd wo
        · rw [if_neg hx] at h
          obtain ⟨o2, c2, x4, h⟩ := oe_Bi h
          have m2 := MV f _ _ _ _ _ hf hL c11 m1.2.1 x4
          refine oy_cs PR S hf hL hi m1.2.1 hd he (by omega) hpv (by omega) so1 x4 ?_ j' tg kd wo
          by_cases A : o2.1 = 0 ∨ (o2.1 = 2 ∧ o2.2.1 = V f i)
          · rw [if_pos A] at h
            refine ⟨fun q0 tg kd wo => REC c2 0 tg kd wo j m2.2.1 h (Or.inl rfl), fun q1 t ht kd wo => ?_, fun q => by omega, fun q => by omega, fun q => by omega⟩
            have A := A.resolve_left (by omega)
            have tgt : oc_tgt (K f) (V f) o2.2.1 i 1 = true := by unfold oc_tgt; exact decide_eq_true ⟨k, A.2.symm, rfl⟩
            simp only [oc_tj, tgt, if_true] at ht
            cases ht
            rw [A.1]
            exact REC c2 _ _ kd wo j m2.2.1 h (Or.inr ⟨rfl, rfl⟩)
          · rw [if_neg A] at h
            by_cases A2 : o2.1 = 1 ∧ o2.2.1 = V f i
            · rw [if_pos A2] at h; cases h
              refine ⟨fun q => by omega, fun q1 t ht kd wo => ?_, fun q => by omega, fun q => by omega, fun q => by omega⟩
              have tgt : oc_tgt (K f) (V f) o2.2.1 i 1 = true := by unfold oc_tgt; exact decide_eq_true ⟨k, A2.2.symm, rfl⟩
              simp only [oc_tj, tgt, if_true] at ht
              cases ht
              rw [A2.1]
              exact oy_w2 hg dk' rfl (by omega) rfl (KK.1 rfl _ kd wo)
            · rw [if_neg A2] at h; cases h
              have n0 : o.1 ≠ 0 := fun e => A (Or.inl e)
              refine ⟨fun q => absurd q n0, fun q1 t ht kd wo => ?_, fun q3 tg kd => ?_, fun q4 qs tg => ?_, fun q5 => KK.2.2.2.2 q5⟩
              · have tgt : oc_tgt (K f) (V f) o.2.1 i 1 = false := by
                  unfold oc_tgt; refine decide_eq_false (fun e => ?_)
                  rcases q1 with q | q
                  · exact A2 ⟨q, e.2.1.symm⟩
                  · exact A (Or.inr ⟨q, e.2.1.symm⟩)
                simp only [oc_tj, tgt] at ht
                have ht : oc_tj (K f) (V f) o.2.1 (Q f i) = some t := ht
                have tl := oy_pv_lt WT hpv ht
                exact oy_w3 (l := []) (Or.inr rfl) (nI_ne0 (by omega) (by omega)) (fun _ e => absurd ((nI_eq (by omega) (by omega)).mp e) (by omega)) hg dk' (by omega) rfl (KK.2.1 q1 t ht kd wo)
              · exact oy_w3 (l := []) (Or.inr rfl) (by decide) (fun e => by rcases e with e | e <;> exact absurd e (by decide)) hg dk' (by omega) rfl (KK.2.2.1 q3 tg kd)
              · exact oy_w3 (l := []) (Or.inr rfl) (by decide) (fun e => by rcases e with e | e <;> exact absurd e (by decide)) hg dk' (by omega) rfl (KK.2.2.2.1 q4 qs tg)
      · exact absurd q0 g
    · rcases h with ⟨g, _⟩ | ⟨_, rfl, rfl⟩
      · omega
      · exact KK.2.2.2.2 q5
end
end
section
/-! ===== Y runs the tree: TRY, and all together ===== -/
section
variable {post : Int32 → SY → Prop} {y : SY} {K : Nat → Nat → Nat} {V : Nat → Nat → Int32} {C : Nat → Nat → Nat → Nat} {L : Nat → Nat} {Q : Nat → Nat → oc_P} {B : Nat → Nat → Nat}
variable {n f i : Nat} {c c' : oe_C} {o : oe_O} {es : List oy_E} {vs : List Int32} {vf : List (Nat → Int32)} {j : Int32 × Int32 × Int32 × Int32 × Int32} {tg kd wo : Int32}
/-- what is known of the catches of a TRY -/
theorem oy_hb (PR : ∀ g, g < 4 → oy_PR y K V C L Q B g) (hf : f < 4) (hL : L f ≠ 0) (hi : i < L f) (k : K f i = 17) : ∀ op, 1 ≤ op → op ≤ ot_nc (V f i) → ob_below y (4 * (40 * f + i) + op) = nI (C f i op) ∧ (40 * f + i) / 40 * 40 + C f i op < 200 ∧ ob_value y ((40 * f + i) / 40 * 40 + C f i op) = V f (C f i op) := by
  intro op h1 h2
  obtain ⟨W, hN, WT, BD, dk, dv, db, du⟩ := oy_W PR hf hL hi
  have np : ot_np (K f i) (V f i) = 1 + ot_nc (V f i) + (if ot_cl (V f i) = true then 1 else 0) := by rw [k]; rfl
  have a2 := (W.2.1 op (by omega)).2.1
  have g40 : (40 * f + i) / 40 * 40 = 40 * f := by omega
  rw [g40]
  exact ⟨db op (by omega), by omega, (oy_W PR hf hL a2).2.2.2.2.2.1⟩
/-- the end of the protected part of a TRY -/
theorem oy_fin (PR : ∀ g, g < 4 → oy_PR y K V C L Q B g) (S : oy_S post y K V C L Q n) (hf : f < 4) (hL : L f ≠ 0) (hi : i < L f) (hd : vf.length < 12) (he : es.length ≤ 40 * vf.length + i) (hv : vs.length ≤ 40 * vf.length + i) (hpv : oy_pv (K f) (V f) (C f) (Q f) (L f) i (Q f i)) (k : K f i = 17) {ph op : Nat} {c1 : oe_C} {o1 : oe_O} (hph : ph ≠ 0) (hph2 : ph ≤ ot_nc (V f i) + 1) (hop : op ≤ ot_nc (V f i)) (hc1 : c1.2.1 ≤ 300)
    (hz : ph = 1 → o1.1 = 4 → oy_cho (ot_nc (V f i)) (fun op => decide ((V f (C f i op) &&& 7) = 4 ∨ (V f (C f i op) &&& 7) = o1.2.1)) = 0)
    (h : oe_fin V C (fun f d i c => oe_ev K V C L n f d i c) f (vf.length + 1) i o1 c1 = some (o, c')) (KK : oy_K post y (K f) (V f) (Q f i) f es vs vf false o c') :
    oy_K post y (K f) (V f) ((i, op) :: Q f i) f ((40 * f + i, ph, vs.length, j) :: es) vs vf false o1 c1 := by
  obtain ⟨W, hN, WT, BD, dk, dv, db, du⟩ := oy_W PR hf hL hi
  have np : ot_np (K f i) (V f i) = 1 + ot_nc (V f i) + (if ot_cl (V f i) = true then 1 else 0) := by rw [k]; rfl
  have hg : 40 * f + i < 200 := by omega
  have g40 : (40 * f + i) / 40 * 40 = 40 * f := by omega
  have ok17 := W.1
  rw [k] at ok17
  obtain ⟨v3, vc⟩ := ot_v17b ok17
  have nc2 := ot_nc_le (V f i)
  have hb := oy_hb PR hf hL hi k
  have dk' := dk
  rw [k] at dk'
  have tgt : ∀ l op, oc_tgt (K f) (V f) l i op = false := by intro l op; unfold oc_tgt; exact decide_eq_false (fun e => by omega)
  -- the state where the part ended, whatever the outcome
  have G : ∀ (en tg kd wo : Int32), o1.1 ≠ 5 → (ph = 1 → en = 4 → oy_cho (ot_nc (V f i)) (fun op => decide ((V f (C f i op) &&& 7) = 4 ∨ (V f (C f i op) &&& 7) = kd)) = 0) →
      (∀ c3 : oe_C, o = o1 → c' = c3 → (ot_cl (V f i) = true → oy_A post y es vs (c3.1 :: vf) (vp_nar .byte en.toInt8.toInt32) (vp_nar .short tg.toInt16.toInt32) (vp_nar .byte kd.toInt8.toInt32) wo c3.2.1 c3.2.2.1 c3.2.2.2) ∧ (¬ ot_cl (V f i) = true → oy_A post y es vs (c3.1 :: vf) en tg kd wo c3.2.1 c3.2.2.1 c3.2.2.2)) →
      oy_A post y ((40 * f + i, ph, vs.length, j) :: es) vs (c1.1 :: vf) en tg kd wo c1.2.1 c1.2.2.1 c1.2.2.2 := by
    intro en tg kd wo h5 hz2 N
    unfold oe_fin at h
    by_cases hc : ot_cl (V f i) = true
    · rw [if_neg (by rw [hc]; simp; omega)] at h
      obtain ⟨o3, c3, e3, h⟩ := oe_Bi h
      rw [if_pos hc] at np
      obtain ⟨a1, a2, a3, a4, _⟩ := W.2.1 (1 + ot_nc (V f i)) (by omega)
      have so1 : ot_so (K f (C f i (1 + ot_nc (V f i)))) ≠ 0 := by rw [a3, k]; simp only [ot_wa]; rw [if_neg (by omega)]; omega
      refine oy_tf (g' := 40 * f + C f i (1 + ot_nc (V f i))) (cf := C f i (1 + ot_nc (V f i))) (cc := fun op => C f i op) (vc := fun op => V f (C f i op)) hg dk' dv v3 nc2 (fun e => by rw [vc.mp e] at hc; cases hc) hb hph hph2 hz2 (db _ (by omega)) (by omega) (by omega) (by omega) (by omega) (fun j' b => ?_)
      refine oy_cs PR S hf hL hi hc1 hd he (by omega) hpv (by omega) so1 e3 ?_ j' tg kd wo
      have KK3 : o3.1 ≠ 0 → oy_K post y (K f) (V f) (Q f i) f es vs vf false o3 c3 := by
        intro q; rw [if_neg q] at h; cases h; exact KK
      refine ⟨fun q0 tg' kd' wo' => ?_, fun q1 t ht kd' wo' => ?_, fun q3 tg' kd' => ?_, fun q4 qs tg' => ?_, fun q5 => (KK3 (by omega)).2.2.2.2 q5⟩
      · rw [if_pos q0] at h
        have e1 : o = o1 := by cases h; rfl
        have e2 : c' = c3 := by cases h; rfl
        exact oy_t3 hg dk' dv v3 nc2 (fun op h1 h2 => ⟨_, _, hb op h1 h2⟩) (by omega) rfl ((N c3 e1 e2).1 hc)
      · simp only [oc_tj, tgt] at ht
        exact oy_t4 (cc := fun op => C f i op) (vc := fun op => V f (C f i op)) hg dk' dv v3 nc2 hb (by omega) (by omega) (fun e => by omega) (Or.inl ⟨rfl, nI_ne0 (by omega) (by omega)⟩) (by omega) rfl ((KK3 (by omega)).2.1 q1 t ht kd' wo')
      · exact oy_t4 (cc := fun op => C f i op) (vc := fun op => V f (C f i op)) hg dk' dv v3 nc2 hb (by omega) (by omega) (fun e => by omega) (Or.inl ⟨rfl, by decide⟩) (by omega) rfl ((KK3 (by omega)).2.2.1 q3 tg' kd')
      · exact oy_t4 (cc := fun op => C f i op) (vc := fun op => V f (C f i op)) hg dk' dv v3 nc2 hb (by omega) (by omega) (fun e => by omega) (Or.inl ⟨rfl, by decide⟩) (by omega) rfl ((KK3 (by omega)).2.2.2.1 q4 qs tg')
    · have hcf : ot_cl (V f i) = false := by cases e : ot_cl (V f i) with | true => exact absurd e hc | false => rfl
      rw [if_pos (Or.inr hcf)] at h
      have e1 : o = o1 := by cases h; rfl
      have e2 : c' = c1 := by cases h; rfl
      exact oy_t4 (cc := fun op => C f i op) (vc := fun op => V f (C f i op)) hg dk' dv v3 nc2 hb hph (by omega) hz2 (Or.inr ⟨by omega, vc.mpr hcf⟩) (by omega) rfl ((N c1 e1 e2).2 hc)
  refine ⟨fun q0 tg kd wo => ?_, fun q1 t ht kd wo => ?_, fun q3 tg kd => ?_, fun q4 qs tg => ?_, fun q5 => ?_⟩
  · refine G 0 tg kd wo (by omega) (fun _ e => absurd e (by decide)) (fun c3 e1 e2 => ?_)
    subst e1 e2
    exact ⟨fun _ => KK.1 q0 _ _ _, fun _ => KK.1 q0 _ _ _⟩
  · simp only [oc_tj, tgt] at ht
    have tl := oy_pv_lt WT hpv ht
    refine G (nI o1.1) (nI (40 * f + t)) kd wo (by omega) (fun _ e => absurd ((nI_eq (b := 4) (by omega) (by omega)).mp e) (by omega)) (fun c3 e1 e2 => ?_)
    subst e1 e2
    rw [ok_by (by omega), ok_sh (by omega)]
    exact ⟨fun _ => KK.2.1 q1 t ht _ _, fun _ => KK.2.1 q1 t ht _ _⟩
  · refine G 3 tg kd o1.2.1 (by omega) (fun _ e => absurd e (by decide)) (fun c3 e1 e2 => ?_)
    subst e1 e2
    exact ⟨fun _ => KK.2.2.1 q3 _ _, fun _ => KK.2.2.1 q3 _ _⟩
  · refine G 4 tg o1.2.1 o1.2.2 (by omega) (fun e _ => hz e q4) (fun c3 e1 e2 => ?_)
    subst e1 e2
    obtain ⟨q, hq, eq⟩ := qs
    refine ⟨fun _ => ?_, fun _ => KK.2.2.2.1 q4 ⟨q, hq, eq⟩ tg⟩
    have := KK.2.2.2.1 q4 ⟨q, hq, eq⟩ (vp_nar .short tg.toInt16.toInt32)
    rw [eq] at this ⊢
    rw [ok_by (by omega)]
    exact this
  · unfold oe_fin at h
    rw [if_pos (Or.inl q5)] at h; cases h
    exact KK.2.2.2.2 q5
theorem oy_c17 (k : K f i = 17) (PR : ∀ g, g < 4 → oy_PR y K V C L Q B g) (S : oy_S post y K V C L Q n) (hf : f < 4) (hL : L f ≠ 0) (hi : i < L f) (hc : c.2.1 ≤ 300) (hd : vf.length < 12) (he : es.length ≤ 40 * vf.length + i) (hv : vs.length ≤ 40 * vf.length + i) (hpv : oy_pv (K f) (V f) (C f) (Q f) (L f) i (Q f i)) (h : oe_ev K V C L (n + 1) f (vf.length + 1) i c = some (o, c')) (KK : oy_K post y (K f) (V f) (Q f i) f es vs vf (decide (ot_so (K f i) = 0)) o c') : oy_A post y ((40 * f + i, 0, vs.length, j) :: es) vs (c.1 :: vf) 0 tg kd wo c.2.1 c.2.2.1 c.2.2.2 := by
  obtain ⟨W, hN, WT, BD, dk, dv, db, du⟩ := oy_W PR hf hL hi
  have MV := oe_mvs K V C L Q B (fun g hg hLg => ((PR g hg).2.2 hLg).1) n
  have hg : 40 * f + i < 200 := by omega
  have g40 : (40 * f + i) / 40 * 40 = 40 * f := by omega
  simp only [oe_ev] at h
  rw [oe_k17 k] at h
  have np : ot_np (K f i) (V f i) = 1 + ot_nc (V f i) + (if ot_cl (V f i) = true then 1 else 0) := by rw [k]; rfl
  have soi : decide (ot_so (K f i) = 0) = false := by rw [k]; rfl
  rw [soi] at KK
  have ok17 := W.1
  rw [k] at ok17
  obtain ⟨v3, vc⟩ := ot_v17b ok17
  have nc2 := ot_nc_le (V f i)
  have hb := oy_hb PR hf hL hi k
  have dk' := dk
  rw [k] at dk'
  obtain ⟨o1, c1, e1, h⟩ := oe_Bi h
  unfold oe_prt at e1
  obtain ⟨o2, c2, e2, e1⟩ := oe_Bi e1
  obtain ⟨c00, c01, c02, _⟩ := W.2.1 0 (by omega)
  have m2 := MV f _ _ _ _ _ hf hL c01 hc e2
  have so1 : ot_so (K f (C f i 0)) ≠ 0 := by rw [c02, k]; simp only [ot_wa]; rw [if_neg (by omega)]; omega
  refine oy_t0 (g' := 40 * f + C f i 0) hg dk' (db 0 (by omega)) (by omega) (by omega) (by omega) (by omega) (fun j' => ?_)
  refine oy_cs PR S hf hL hi hc hd he (by omega) hpv (by omega) so1 e2 ?_ j' tg kd wo
  by_cases h4 : o2.1 = 4
  · rw [if_pos h4] at e1
    refine ⟨fun q => by omega, fun q => by omega, fun q => by omega, fun _ qs tg => ?_, fun q => by omega⟩
    -- the catch that is taken
    have CH : oy_cho (ot_nc (V f i)) (fun op => decide ((V f (C f i op) &&& 7) = 4 ∨ (V f (C f i op) &&& 7) = o2.2.1)) = oy_cho (ot_nc (V f i)) (fun op => oe_for V f (C f i op) o2.2.1) := rfl
    have CAT : ∀ z, 1 ≤ z → z ≤ ot_nc (V f i) → oy_cho (ot_nc (V f i)) (fun op => oe_for V f (C f i op) o2.2.1) = z → oe_cat V (fun f d i c => oe_ev K V C L n f d i c) f (vf.length + 1) (C f i z) o2.2.2 c2 = some (o1, c1) → oy_A post y ((40 * f + i, 1, vs.length, j) :: es) vs (c2.1 :: vf) 4 tg o2.2.1 o2.2.2 c2.2.1 c2.2.2.1 c2.2.2.2 := by
      intro z z1 z2 hz ec
      obtain ⟨a1, a2, a3, a4, _⟩ := W.2.1 z (by omega)
      rw [k] at a3
      simp only [ot_wa] at a3
      rw [if_pos ⟨by omega, z2⟩] at a3
      have k18 := ot_k2 a3
      have W2 := (oy_W PR hf hL a2).1
      have ok2 := W2.1
      rw [k18] at ok2
      obtain ⟨qn, q1, q2, q3, q4, q5⟩ := ot_v18 ok2
      unfold oe_cat at ec
      rw [q5, nI_clamp (by omega)] at ec
      have m1 := MV f _ _ (upd c2.1 (qn / 8) o2.2.2, c2.2) _ _ hf hL a2 m2.2.1 ec
      refine oy_tc (nc := ot_nc (V f i)) (z := z) (w := qn / 8) (cc := fun op => C f i op) (vc := fun op => V f (C f i op)) hg dk' dv v3 nc2 hb hz.symm z1 z2 q5 (by omega) hd (by omega) (by omega) (fun j' => ?_)
      rw [g40]
      exact oy_cs (c1 := (upd c2.1 (qn / 8) o2.2.2, c2.2)) PR S hf hL hi m2.2.1 hd he (by omega) hpv (by omega) (by omega) ec (oy_fin PR S hf hL hi hd he hv hpv k (by omega) (by omega) z2 m1.2.1 (fun e => by omega) h KK) j' tg o2.2.1 o2.2.2
    by_cases y1 : 1 ≤ ot_nc (V f i) ∧ oe_for V f (C f i 1) o2.2.1 = true
    · rw [if_pos y1] at e1
      exact CAT 1 (by omega) y1.1 (by unfold oy_cho; rw [if_pos y1]) e1
    · rw [if_neg y1] at e1
      by_cases y2 : 2 ≤ ot_nc (V f i) ∧ oe_for V f (C f i 2) o2.2.1 = true
      · rw [if_pos y2] at e1
        exact CAT 2 (by omega) y2.1 (by unfold oy_cho; rw [if_neg y1, if_pos y2]) e1
      · rw [if_neg y2] at e1; cases e1
        have F := oy_fin (j := j) (ph := 1) (op := 0) PR S hf hL hi hd he hv hpv k (by omega) (by omega) (by omega) m2.2.1 (fun _ _ => by rw [CH]; unfold oy_cho; rw [if_neg y1, if_neg y2]) h KK
        exact F.2.2.2.1 h4 qs tg
  · rw [if_neg h4] at e1; cases e1
    exact oy_fin PR S hf hL hi hd he hv hpv k (by omega) (by omega) (by omega) m2.2.1 (fun _ e => absurd e h4) h KK
theorem oy_sim (PR : ∀ g, g < 4 → oy_PR y K V C L Q B g) : ∀ n, oy_S post y K V C L Q n := by
  intro n
  induction n with
  | zero => intro f i c o c' es vs vf _ _ _ _ _ _ _ _ h; cases h
  | succ n S =>
    intro f i c o c' es vs vf hf hL hi hc hd he hv hpv h KK j p en tg kd wo hgo
    obtain ⟨W, _⟩ := oy_W PR hf hL hi
    by_cases e : K f i = 13
    · exact oy_c13 e PR S hf hL hi hc hd he hv hpv h KK p en hgo
    · obtain ⟨rfl, rfl⟩ := hgo.resolve_right (fun g => e g.1)
      rcases ot_kinds W.1 with k | k | k | k | k | k | k | k | k | k | k | k | k | k | k | k | k
      · exact oy_c0 k PR S hf hL hi hc hd he hv hpv h KK
      · exact oy_c1 k PR S hf hL hi hc hd he hv hpv h KK
      · exact oy_c26 k PR S hf hL hi hc hd he hv hpv h KK
      · exact oy_c7 k PR S hf hL hi hc hd he hv hpv h KK
      · exact oy_c8 k PR S hf hL hi hc hd he hv hpv h KK
      · exact oy_c10 k PR S hf hL hi hc hd he hv hpv h KK
      · exact oy_c11 k PR S hf hL hi hc hd he hv hpv h KK
      · exact oy_c12 k PR S hf hL hi hc hd he hv hpv h KK
      · exact absurd k e
      · exact oy_c14 k PR S hf hL hi hc hd he hv hpv h KK
      · exact oy_c15 k PR S hf hL hi hc hd he hv hpv h KK
      · exact oy_c16 k PR S hf hL hi hc hd he hv hpv h KK
      · exact oy_c17 k PR S hf hL hi hc hd he hv hpv h KK
      · exact oy_c18 k PR S hf hL hi hc hd he hv hpv h KK
      · exact oy_c19 (Or.inl k) PR S hf hL hi hc hd he hv hpv h KK
      · exact oy_c19 (Or.inr k) PR S hf hL hi hc hd he hv hpv h KK
      · exact oy_c21 k PR S hf hL hi hc hd he hv hpv h KK
end
end
section
/-! ===== a run, on both sides ===== -/
theorem ox_run {post : Int32 → SX → Prop} {v_tokens v_place v_here v_words v_depth v_working v_top v_steps v_says v_kind v_value v_over v_given v_thrown : Int32} {v_tok v_need v_num v_op v_x v_y v_from v_to v_handler v_caught v_there v_open v_done v_word v_start v_ends v_last v_hand v_bodyEnd v_local v_stack v_back v_floor v_running v_output : Nat → Int32} {f : Nat} {a : Int32} (hf : f < 4)
    (K1 : v_there f = 0 → ox_T post (v_tokens, v_place, v_here, v_words, v_depth, v_working, v_top, v_steps, v_says, v_kind, v_value, v_over, v_given, v_thrown, v_tok, v_need, v_num, v_op, v_x, v_y, v_from, v_to, v_handler, v_caught, v_there, v_open, v_done, v_word, v_start, v_ends, v_last, v_hand, v_bodyEnd, v_local, v_stack, v_back, v_floor, v_running, v_output) 1 (nI f) 0 0 v_output)
    (K4 : v_there f ≠ 0 → ∀ lw0 : Nat → Int32, lw0 0 = a → (∀ w, 0 < w → w < 6 → lw0 w = 0) → ox_A post (v_tokens, v_place, v_here, v_words, v_depth, v_working, v_top, v_steps, v_says, v_kind, v_value, v_over, v_given, v_thrown, v_tok, v_need, v_num, v_op, v_x, v_y, v_from, v_to, v_handler, v_caught, v_there, v_open, v_done, v_word, v_start, v_ends, v_last, v_hand, v_bodyEnd, v_local, v_stack, v_back, v_floor, v_running, v_output) (520 * f) ((f, -1, lw0, []) :: []) 1 0 v_kind v_value v_output) :
    wpX_run post (v_tokens, v_place, v_here, v_words, v_depth, v_working, v_top, v_steps, v_says, v_kind, v_value, v_over, v_given, v_thrown, v_tok, v_need, v_num, v_op, v_x, v_y, v_from, v_to, v_handler, v_caught, v_there, v_open, v_done, v_word, v_start, v_ends, v_last, v_hand, v_bodyEnd, v_local, v_stack, v_back, v_floor, v_running, v_output) (nI f) a := by
  have cf : (nI f).toNatClampNeg = f := nI_clamp (by omega)
  have A : ∀ P : Int32 → Prop, P 1 → wpX_among P (nI f) 4 := fun P h => br_f (nI_pos (by omega)) (br_f (nI_ge (b := 4) hf (by omega)) h)
  unfold wpX_run
  refine A _ (br_f (by decide) ?_)
  refine And.intro (vp_in_nI hf (by omega)) ?_
  by_cases h1 : v_there f = 0
  · refine br_t (by rw [cf]; exact h1) ⟨1, br_t (by decide) ⟨1, ?_⟩⟩
    exact br_t (by decide) (br_t rfl (br_f (by decide) (K1 h1 _ _ _ _ _ _ _ _ _)))
  · refine br_f (by rw [cf]; exact h1) (br_f (by decide) (nm_r (e' := nI 1) rfl (br_f (by decide) (nm_r (e' := nI (80 * ([] : List ox_F).length)) rfl ⟨7, ?_⟩))))
    obtain ⟨lw0, a1, a2, R'⟩ := ox_ent_rep (g := f) (v := a) (b := -1) (lo := v_local) (sk := v_stack) (bk := v_back) (fl := v_floor) (rn := v_running) (fr := []) (tp := 0) rfl trivial
    obtain ⟨n, hn⟩ := K4 h1 lw0 a1 a2 _ _ _ _ _ R'
    refine ox_e77 (z := (v_tokens, v_place, v_here, v_words, v_depth, v_working, v_top, v_steps, v_says, v_kind, v_value, v_over, v_given, v_thrown, v_tok, v_need, v_num, v_op, v_x, v_y, v_from, v_to, v_handler, v_caught, v_there, v_open, v_done, v_word, v_start, v_ends, v_last, v_hand, v_bodyEnd, v_local, v_stack, v_back, v_floor, v_running, v_output)) (fr := []) (tp := 0) (g := f) (b := -1) (st := 1) (sy := 0) hf (by decide) (by omega) (by decide) (by decide) ⟨n, hn⟩
theorem oy_end {post : Int32 → SY → Prop} {y : SY} {vs : List Int32} {vf : List (Nat → Int32)} {en tg kd wo : Int32} {st sy : Nat} {ou : Nat → Int32}
    (K0 : en = 0 → oy_D post y 0 0 (-1) st sy ou) (K3 : en = 3 → oy_D post y 0 wo (-1) st sy ou) (K4 : en = 4 → oy_D post y 3 wo kd st sy ou) (he : en = 0 ∨ en = 3 ∨ en = 4) : oy_A post y [] vs vf en tg kd wo st sy ou := by
  intro tk ht ta ph hw kn wr vl va bg _ _ _
  refine ⟨1, br_t (by decide) ?_⟩
  rcases he with e | e | e
  · subst e; exact br_t rfl (br_f (by decide) (br_t rfl (br_t rfl (br_t rfl (br_t rfl (br_t rfl (K0 rfl _ _ _ _ _ _ _ _ _ _ _ _ _ _ _ _ _)))))))
  · subst e; exact br_t rfl (br_f (by decide) (br_t rfl (br_t rfl (br_f (by decide) (br_t rfl (br_t rfl (K3 rfl _ _ _ _ _ _ _ _ _ _ _ _ _ _ _ _ _)))))))
  · subst e; exact br_t rfl (br_t rfl (br_f (by decide) (br_t rfl (br_f (by decide) (br_t rfl (br_f (by decide) (K4 rfl _ _ _ _ _ _ _ _ _ _ _ _ _ _ _ _ _)))))))
theorem oy_run {post : Int32 → SY → Prop} {v_place v_top v_held v_depth v_ended v_endTarget v_endKind v_endWorth v_steps v_says v_result v_thrown v_over : Int32} {v_kind v_up v_length v_value v_below v_open v_token v_height v_target v_phase v_how v_kinds v_worth v_values v_variables v_begun v_output : Nat → Int32} {f : Nat} {a : Int32} (hf : f < 4)
    (K1 : v_length f = 0 → oy_D post (v_place, v_top, v_held, v_depth, v_ended, v_endTarget, v_endKind, v_endWorth, v_steps, v_says, v_result, v_thrown, v_over, v_kind, v_up, v_length, v_value, v_below, v_open, v_token, v_height, v_target, v_phase, v_how, v_kinds, v_worth, v_values, v_variables, v_begun, v_output) 3 (nI f) 1 0 0 v_output)
    (K4 : v_length f ≠ 0 → ∀ j', oy_A post (v_place, v_top, v_held, v_depth, v_ended, v_endTarget, v_endKind, v_endWorth, v_steps, v_says, v_result, v_thrown, v_over, v_kind, v_up, v_length, v_value, v_below, v_open, v_token, v_height, v_target, v_phase, v_how, v_kinds, v_worth, v_values, v_variables, v_begun, v_output) [(40 * f, 0, 0, j')] [] [fun v => if v = 0 then a else 0] 0 v_endTarget v_endKind v_endWorth 1 0 v_output) :
    wpY_run post (v_place, v_top, v_held, v_depth, v_ended, v_endTarget, v_endKind, v_endWorth, v_steps, v_says, v_result, v_thrown, v_over, v_kind, v_up, v_length, v_value, v_below, v_open, v_token, v_height, v_target, v_phase, v_how, v_kinds, v_worth, v_values, v_variables, v_begun, v_output) (nI f) a := by
  have A : ∀ P : Int32 → Prop, P 0 → wpY_out P (nI f) 4 := fun P h => br_f (nI_pos (by omega)) (br_t (nI_lt (b := 4) hf (by omega)) h)
  unfold wpY_run
  refine A _ (br_t rfl ?_)
  refine oy_call (y := (v_place, v_top, v_held, v_depth, v_ended, v_endTarget, v_endKind, v_endWorth, v_steps, v_says, v_result, v_thrown, v_over, v_kind, v_up, v_length, v_value, v_below, v_open, v_token, v_height, v_target, v_phase, v_how, v_kinds, v_worth, v_values, v_variables, v_begun, v_output)) (tp := 0) (hl := 0) (dp := 0) (st := 0) (sy := 0) hf (by omega) (by omega) (by omega) (by omega) (fun h1 => ?_) (fun _ e => absurd e (by decide)) (fun _ _ e => absurd e (by decide)) (fun h1 _ _ => ?_)
  · obtain ⟨n, hn⟩ := oy_end (vs := []) (vf := []) (tg := v_endTarget) (fun e => absurd e (by decide)) (fun e => absurd e (by decide)) (fun _ => K1 h1) (Or.inr (Or.inr rfl)) v_token v_height v_target v_phase v_how v_kinds v_worth v_values v_variables v_begun trivial trivial trivial
    exact ⟨n, hn⟩
  · have RE : oy_rE (upd v_token 0 (nI (40 * f))) (upd v_height 0 (nI 0)) v_target (upd v_phase 0 (nI 0)) v_how v_kinds v_worth v_begun [(40 * f, 0, 0, (v_target 0, v_how 0, v_kinds 0, v_worth 0, v_begun 0))] :=
      ⟨⟨pk_us, pk_us, pk_us, rfl, rfl, rfl, rfl, rfl⟩, trivial⟩
    obtain ⟨n, hn⟩ := K4 h1 _ _ _ _ _ _ _ _ v_values _ _ RE trivial (oy_c45_rep (x := a) (vf := []) (va := v_variables) (dp := 0) rfl trivial)
    exact ⟨n, hn⟩
section
variable {K : Nat → Nat → Nat} {V : Nat → Nat → Int32} {C : Nat → Nat → Nat → Nat} {L : Nat → Nat} {Q : Nat → Nat → oc_P} {B : Nat → Nat → Nat} {o : oe_O} {c : oe_C} {n f : Nat} {a : Int32}
/-- what a run of a function that is there asks, by its outcome -/
theorem ox_whole {post : Int32 → SX → Prop} {z : SX} {lw0 : Nat → Int32} {kd vl : Int32} {ou : Nat → Int32} (PR : ∀ g, g < 4 → ox_PR z K V C L Q B g) (hf : f < 4) (hL : L f ≠ 0) (h : oe_ev K V C L n f 1 0 ((fun v => if v = 0 then a else 0), 1, 0, ou) = some (o, c)) (v0 : lw0 0 = a) (v1 : ∀ w, 0 < w → w < 6 → lw0 w = 0)
    (K0 : o.1 = 0 → ox_D post z 0 c.2.1 c.2.2.1 c.2.2.2) (K3 : o.1 = 3 → ox_D post z o.2.1 c.2.1 c.2.2.1 c.2.2.2) (K4 : o.1 = 4 → (∃ q : Nat, q < 4 ∧ o.2.1 = nI q) → ox_T post z o.2.1 o.2.2 c.2.1 c.2.2.1 c.2.2.2) (K5 : o.1 = 5 → ox_V post z c.2.1 c.2.2.1 c.2.2.2) :
    ox_A post z (520 * f) ((f, -1, lw0, []) :: []) 1 0 kd vl ou := by
  have Hr := ox_Hr PR hf hL
  obtain ⟨WTg, _, Ag, _, _⟩ := (PR f hf).2 hL
  have A2 := (oc_A3_app.mp Ag).2
  rw [oc_cod_len] at A2
  obtain ⟨⟨b5, b1, b2, _⟩, ⟨d5, d1, d2, _⟩, _⟩ := A2
  have k18 : K f 0 ≠ 18 := by intro e; have := WTg.2.2.1; rw [e] at this; exact absurd this (by decide)
  have so1 : ¬ ot_so (K f 0) = 0 := by rw [WTg.2.2.1]; omega
  have G := ox_sim (post := post) PR n f 0 _ o c (-1) [] hf hL (by dsimp only; omega) (by simp) (by simp [ox_tot]) h 40 0 6 [] none lw0 [] kd vl Hr (by simp) (fun _ => rfl) ?_ ?_
  · rw [if_neg k18] at G
    exact G
  · intro u hu
    show lw0 u = if u = 0 then a else 0
    by_cases e : u = 0
    · rw [if_pos e, e]; exact v0
    · rw [if_neg e]; exact v1 u (by omega) hu
  · refine ⟨fun q0 lw' kd vl hl' => ?_, fun _ q1 => absurd rfl q1, fun q3 _ lw' kd vl pc hl' A9 => ?_, fun _ q1 => absurd rfl q1, fun _ _ _ _ _ e => (nomatch e), fun q4 qk _ => ?_, fun q5 => K5 q5⟩
    · have hx0 : oa_x z (520 * f + (0 + oc_ln (K f) (V f) (C f) 40 0 (List.map Prod.fst []))) = 0 := b2
      simp only [decide_eq_true_eq, if_neg so1]
      refine ox_num b1 (by omega) (by simp) (by simp [ox_tot]) ?_
      rw [hx0]
      exact ox_ret0 d1 (by omega) (by simp) (K0 q0)
    · obtain ⟨⟨f5, f1, _⟩, _⟩ := A9
      exact ox_ret0 f1 (by omega) (by simp) (K3 q3)
    · obtain ⟨q, hq, eq⟩ := qk
      exact ox_Z0 (by rw [eq]; exact nI_pos (by omega)) (K4 q4 ⟨q, hq, eq⟩)
theorem oy_whole {post : Int32 → SY → Prop} {y : SY} {j : Int32 × Int32 × Int32 × Int32 × Int32} {tg kd wo : Int32} {ou : Nat → Int32} (PR : ∀ g, g < 4 → oy_PR y K V C L Q B g) (hf : f < 4) (hL : L f ≠ 0) (h : oe_ev K V C L n f 1 0 ((fun v => if v = 0 then a else 0), 1, 0, ou) = some (o, c))
    (K0 : o.1 = 0 → oy_D post y 0 0 (-1) c.2.1 c.2.2.1 c.2.2.2) (K3 : o.1 = 3 → oy_D post y 0 o.2.1 (-1) c.2.1 c.2.2.1 c.2.2.2) (K4 : o.1 = 4 → (∃ q : Nat, q < 4 ∧ o.2.1 = nI q) → oy_D post y 3 o.2.2 o.2.1 c.2.1 c.2.2.1 c.2.2.2) (K5 : o.1 = 5 → oy_V post y c.2.1 c.2.2.1 c.2.2.2) :
    oy_A post y [(40 * f, 0, 0, j)] [] [fun v => if v = 0 then a else 0] 0 tg kd wo 1 0 ou := by
  obtain ⟨WTg, _, _⟩ := (PR f hf).2.2 hL
  have Q0 : Q f 0 = [] := WTg.2.2.2.1
  have so1 : ¬ ot_so (K f 0) = 0 := by rw [WTg.2.2.1]; omega
  refine oy_sim (post := post) PR n f 0 _ o c [] [] [] hf hL WTg.1 (by dsimp only; omega) (by simp) (by simp) (by simp) (by rw [Q0]; trivial) h ?_ j 0 0 tg kd wo (Or.inl ⟨rfl, rfl⟩)
  rw [Q0]
  refine ⟨fun q0 tg kd wo => ?_, fun _ t ht => (nomatch ht), fun q3 tg kd => ?_, fun q4 qs tg => ?_, fun q5 => K5 q5⟩
  · simp only [decide_eq_true_eq, if_neg so1]
    exact oy_end (fun _ => K0 q0) (fun e => absurd e (by decide)) (fun e => absurd e (by decide)) (Or.inl rfl)
  · exact oy_end (fun e => absurd e (by decide)) (fun _ => K3 q3) (fun e => absurd e (by decide)) (Or.inr (Or.inl rfl))
  · exact oy_end (fun e => absurd e (by decide)) (fun e => absurd e (by decide)) (fun _ => K4 q4 qs) (Or.inr (Or.inr rfl))
end
/-! the relation -/
/-- the two objects between calls -/
def ok_R (u : SX) (v : SY) : Prop :=
  (oa_place u = ob_place v ∧ oa_steps u = ob_steps v ∧ oa_says u = ob_says v ∧ oa_given u = ob_result v ∧ oa_thrown u = ob_thrown v ∧ oa_output u = ob_output v) ∧
  (∃ N : Nat, N ≤ 40 ∧ oa_tokens u = nI N ∧ ob_length v 4 = nI N ∧ ∀ i, i < N → ∃ k w, ot_ok k w ∧ oa_tok u i = nI k ∧ ob_kind v (160 + i) = nI k ∧ oa_num u i = w ∧ ob_value v (160 + i) = w) ∧
  (∃ (K : Nat → Nat → Nat) (V : Nat → Nat → Int32) (C : Nat → Nat → Nat → Nat) (L : Nat → Nat) (Q : Nat → Nat → oc_P) (B : Nat → Nat → Nat), ∀ g, g < 4 → ox_PR u K V C L Q B g ∧ oy_PR v K V C L Q B g)
theorem oc_A3_cg {z z' : SX} {f : Nat} (h1 : ∀ k, k < 520 → oa_op z' (520 * f + k) = oa_op z (520 * f + k)) (h2 : ∀ k, k < 520 → oa_x z' (520 * f + k) = oa_x z (520 * f + k)) (h3 : ∀ k, k < 520 → oa_y z' (520 * f + k) = oa_y z (520 * f + k)) : ∀ {l : List oc_I} {a : Nat}, oc_A3 z f a l → oc_A3 z' f a l
  | [], _, _ => trivial
  | x :: l, a, ⟨⟨g1, g2, g3, g4⟩, g5⟩ => ⟨⟨g1, (h1 a g1).trans g2, (h2 a g1).trans g3, (h3 a g1).trans g4⟩, oc_A3_cg h1 h2 h3 g5⟩
theorem ox_PR_cg {z z' : SX} {K : Nat → Nat → Nat} {V : Nat → Nat → Int32} {C : Nat → Nat → Nat → Nat} {L : Nat → Nat} {Q : Nat → Nat → oc_P} {B : Nat → Nat → Nat} {g : Nat} (h1 : ∀ k, k < 520 → oa_op z' (520 * g + k) = oa_op z (520 * g + k)) (h2 : ∀ k, k < 520 → oa_x z' (520 * g + k) = oa_x z (520 * g + k)) (h3 : ∀ k, k < 520 → oa_y z' (520 * g + k) = oa_y z (520 * g + k))
    (h4 : ∀ k, k < 30 → oa_from z' (30 * g + k) = oa_from z (30 * g + k) ∧ oa_to z' (30 * g + k) = oa_to z (30 * g + k) ∧ oa_handler z' (30 * g + k) = oa_handler z (30 * g + k)) (h5 : oa_caught z' g = oa_caught z g) (h6 : oa_there z' g = oa_there z g) (P : ox_PR z K V C L Q B g) : ox_PR z' K V C L Q B g := by
  refine ⟨by rw [h6]; exact P.1, fun hL => ?_⟩
  obtain ⟨p1, p2, p3, p4, t1, t2, t3, t4⟩ := P.2 hL
  refine ⟨p1, p2, oc_A3_cg h1 h2 h3 p3, p4, t1, h5.trans t2, t3, fun k e he => ?_⟩
  have hk : k < 30 := by
    have := (List.getElem?_eq_some_iff.mp he).1
    omega
  obtain ⟨a1, a2, a3⟩ := h4 k hk
  rw [a1, a2, a3]
  exact t4 k e he
/-- the two objects with other answers alone -/
theorem ok_keep {u u' : SX} {v v' : SY} (I : ok_R u v) (e1 : oa_place u' = ob_place v') (e2 : oa_steps u' = ob_steps v') (e3 : oa_says u' = ob_says v') (e4 : oa_given u' = ob_result v') (e5 : oa_thrown u' = ob_thrown v') (e6 : oa_output u' = ob_output v')
    (x1 : oa_tokens u' = oa_tokens u) (x2 : oa_tok u' = oa_tok u) (x3 : oa_num u' = oa_num u) (x4 : oa_op u' = oa_op u) (x5 : oa_x u' = oa_x u) (x6 : oa_y u' = oa_y u) (x7 : oa_from u' = oa_from u) (x8 : oa_to u' = oa_to u) (x9 : oa_handler u' = oa_handler u) (x10 : oa_caught u' = oa_caught u) (x11 : oa_there u' = oa_there u)
    (y1 : ob_kind v' = ob_kind v) (y2 : ob_value v' = ob_value v) (y3 : ob_length v' = ob_length v) (y4 : ob_below v' = ob_below v) (y5 : ob_up v' = ob_up v) : ok_R u' v' := by
  obtain ⟨_, D, K, V, C, L, Q, B, PR⟩ := I
  refine ⟨⟨e1, e2, e3, e4, e5, e6⟩, ?_, K, V, C, L, Q, B, fun g hg => ⟨ox_PR_cg (fun _ _ => by rw [x4]) (fun _ _ => by rw [x5]) (fun _ _ => by rw [x6]) (fun _ _ => by rw [x7, x8, x9]; exact ⟨rfl, rfl, rfl⟩) (by rw [x10]) (by rw [x11]) (PR g hg).1, ?_⟩⟩
  · rw [x1, x2, x3, y1, y2, y3]; exact D
  · have := (PR g hg).2
    unfold oy_PR at this ⊢
    rw [y1, y2, y3, y4, y5]; exact this
theorem ok_run {u : SX} {v : SY} (I : ok_R u v) (v1 v2 : Int32) : wpX_run (fun r u' => wpY_run (fun r' v' => r' = r ∧ ok_R u' v') v v1 v2) u v1 v2 := by
  have I0 := I
  obtain ⟨E, D, K, V, C, L, Q, B, PR⟩ := I
  have PX : ∀ g, g < 4 → ox_PR u K V C L Q B g := fun g hg => (PR g hg).1
  have PY : ∀ g, g < 4 → oy_PR v K V C L Q B g := fun g hg => (PR g hg).2
  rcases pk_ix v1 (n := 4) (by omega) with h | h | ⟨f, hf, rfl⟩
  · unfold wpX_run wpY_run
    exact br_t h (br_t rfl (br_t h (br_f (by decide) ⟨rfl, I0⟩)))
  · have hn : ¬ v1 < 0 := fun e => by
      have a := Int32.lt_iff_toInt_lt.mp e
      have b := Int32.le_iff_toInt_le.mp h
      have c : (nI 4).toInt = 4 := by decide
      have d : (0 : Int32).toInt = 0 := by decide
      omega
    have hn2 : ¬ v1 < 4 := Int32.not_lt.mpr h
    unfold wpX_run wpY_run
    exact br_f hn (br_t h (br_t rfl (br_f hn (br_f hn2 (br_f (by decide) ⟨rfl, I0⟩)))))
  · have eo : oa_output u = ob_output v := E.2.2.2.2.2
    have tx : oa_there u f = 0 ↔ L f = 0 := (PX f hf).1
    have ty : ob_length v f = 0 ↔ L f = 0 := by rw [(PY f hf).1]; have := (PY f hf).2.1; exact nI_eq (b := 0) (by omega) (by omega)
    have G : wpX_run (fun r u' => wpY_run (fun r' v' => r' = r ∧ ok_R u' v') v (nI f) v2) ((oa_tokens u), (oa_place u), (oa_here u), (oa_words u), (oa_depth u), (oa_working u), (oa_top u), (oa_steps u), (oa_says u), (oa_kind u), (oa_value u), (oa_over u), (oa_given u), (oa_thrown u), (oa_tok u), (oa_need u), (oa_num u), (oa_op u), (oa_x u), (oa_y u), (oa_from u), (oa_to u), (oa_handler u), (oa_caught u), (oa_there u), (oa_open u), (oa_done u), (oa_word u), (oa_start u), (oa_ends u), (oa_last u), (oa_hand u), (oa_bodyEnd u), (oa_local u), (oa_stack u), (oa_back u), (oa_floor u), (oa_running u), (oa_output u)) (nI f) v2 := by
      refine ox_run hf (fun t0 => ?_) (fun t0 lw0 a0 a1 => ?_)
      · intro wk tp kd vl lo sk bk fl rn
        have G2 : wpY_run (fun r' v' => r' = 3 ∧ ok_R ((oa_tokens u), (oa_place u), (oa_here u), (oa_words u), (oa_depth u), wk, tp, (nI 0), (nI 0), kd, vl, 0, (nI f), 1, (oa_tok u), (oa_need u), (oa_num u), (oa_op u), (oa_x u), (oa_y u), (oa_from u), (oa_to u), (oa_handler u), (oa_caught u), (oa_there u), (oa_open u), (oa_done u), (oa_word u), (oa_start u), (oa_ends u), (oa_last u), (oa_hand u), (oa_bodyEnd u), lo, sk, bk, fl, rn, (oa_output u)) v') ((ob_place v), (ob_top v), (ob_held v), (ob_depth v), (ob_ended v), (ob_endTarget v), (ob_endKind v), (ob_endWorth v), (ob_steps v), (ob_says v), (ob_result v), (ob_thrown v), (ob_over v), (ob_kind v), (ob_up v), (ob_length v), (ob_value v), (ob_below v), (ob_open v), (ob_token v), (ob_height v), (ob_target v), (ob_phase v), (ob_how v), (ob_kinds v), (ob_worth v), (ob_values v), (ob_variables v), (ob_begun v), (ob_output v)) (nI f) v2 := by
          refine oy_run hf (fun _ => ?_) (fun e => absurd (ty.mpr (tx.mp t0)) e)
          intro _ _ _ _ _ _ _ _ _ _ _ _ _ _ _ _ _
          exact ⟨rfl, ok_keep I0 E.1 rfl rfl rfl rfl eo rfl rfl rfl rfl rfl rfl rfl rfl rfl rfl rfl rfl rfl rfl rfl rfl⟩
        exact G2
      · have hL : L f ≠ 0 := fun e => t0 (tx.mpr e)
        obtain ⟨o, c, h⟩ := oe_trm K V C L Q B (fun g hg hLg => ((PX g hg).2 hLg).1) 20000 f 1 0 ((fun v => if v = 0 then v2 else 0), 1, 0, oa_output u) hf hL ((PX f hf).2 hL).1.1 (by dsimp only; omega) (by omega) (by dsimp only; omega) (by dsimp only; omega)
        have h' : oe_ev K V C L 20000 f 1 0 ((fun v => if v = 0 then v2 else 0), 1, 0, ob_output v) = some (o, c) := by rw [← eo]; exact h
        have YR : ∀ P : Int32 → SY → Prop, (o.1 = 0 → oy_D P ((ob_place v), (ob_top v), (ob_held v), (ob_depth v), (ob_ended v), (ob_endTarget v), (ob_endKind v), (ob_endWorth v), (ob_steps v), (ob_says v), (ob_result v), (ob_thrown v), (ob_over v), (ob_kind v), (ob_up v), (ob_length v), (ob_value v), (ob_below v), (ob_open v), (ob_token v), (ob_height v), (ob_target v), (ob_phase v), (ob_how v), (ob_kinds v), (ob_worth v), (ob_values v), (ob_variables v), (ob_begun v), (ob_output v)) 0 0 (-1) c.2.1 c.2.2.1 c.2.2.2) → (o.1 = 3 → oy_D P ((ob_place v), (ob_top v), (ob_held v), (ob_depth v), (ob_ended v), (ob_endTarget v), (ob_endKind v), (ob_endWorth v), (ob_steps v), (ob_says v), (ob_result v), (ob_thrown v), (ob_over v), (ob_kind v), (ob_up v), (ob_length v), (ob_value v), (ob_below v), (ob_open v), (ob_token v), (ob_height v), (ob_target v), (ob_phase v), (ob_how v), (ob_kinds v), (ob_worth v), (ob_values v), (ob_variables v), (ob_begun v), (ob_output v)) 0 o.2.1 (-1) c.2.1 c.2.2.1 c.2.2.2) → (o.1 = 4 → oy_D P ((ob_place v), (ob_top v), (ob_held v), (ob_depth v), (ob_ended v), (ob_endTarget v), (ob_endKind v), (ob_endWorth v), (ob_steps v), (ob_says v), (ob_result v), (ob_thrown v), (ob_over v), (ob_kind v), (ob_up v), (ob_length v), (ob_value v), (ob_below v), (ob_open v), (ob_token v), (ob_height v), (ob_target v), (ob_phase v), (ob_how v), (ob_kinds v), (ob_worth v), (ob_values v), (ob_variables v), (ob_begun v), (ob_output v)) 3 o.2.2 o.2.1 c.2.1 c.2.2.1 c.2.2.2) → (o.1 = 5 → oy_V P ((ob_place v), (ob_top v), (ob_held v), (ob_depth v), (ob_ended v), (ob_endTarget v), (ob_endKind v), (ob_endWorth v), (ob_steps v), (ob_says v), (ob_result v), (ob_thrown v), (ob_over v), (ob_kind v), (ob_up v), (ob_length v), (ob_value v), (ob_below v), (ob_open v), (ob_token v), (ob_height v), (ob_target v), (ob_phase v), (ob_how v), (ob_kinds v), (ob_worth v), (ob_values v), (ob_variables v), (ob_begun v), (ob_output v)) c.2.1 c.2.2.1 c.2.2.2) → wpY_run P v (nI f) v2 := by
          intro P k0 k3 k4 k5
          have G2 : wpY_run P ((ob_place v), (ob_top v), (ob_held v), (ob_depth v), (ob_ended v), (ob_endTarget v), (ob_endKind v), (ob_endWorth v), (ob_steps v), (ob_says v), (ob_result v), (ob_thrown v), (ob_over v), (ob_kind v), (ob_up v), (ob_length v), (ob_value v), (ob_below v), (ob_open v), (ob_token v), (ob_height v), (ob_target v), (ob_phase v), (ob_how v), (ob_kinds v), (ob_worth v), (ob_values v), (ob_variables v), (ob_begun v), (ob_output v)) (nI f) v2 := by
            refine oy_run hf (fun e => absurd (ty.mp e) hL) (fun _ j' => ?_)
            exact oy_whole (y := ((ob_place v), (ob_top v), (ob_held v), (ob_depth v), (ob_ended v), (ob_endTarget v), (ob_endKind v), (ob_endWorth v), (ob_steps v), (ob_says v), (ob_result v), (ob_thrown v), (ob_over v), (ob_kind v), (ob_up v), (ob_length v), (ob_value v), (ob_below v), (ob_open v), (ob_token v), (ob_height v), (ob_target v), (ob_phase v), (ob_how v), (ob_kinds v), (ob_worth v), (ob_values v), (ob_variables v), (ob_begun v), (ob_output v))) PY hf hL h' k0 k3 (fun q _ => k4 q) k5
          exact G2
        refine ox_whole (z := ((oa_tokens u), (oa_place u), (oa_here u), (oa_words u), (oa_depth u), (oa_working u), (oa_top u), (oa_steps u), (oa_says u), (oa_kind u), (oa_value u), (oa_over u), (oa_given u), (oa_thrown u), (oa_tok u), (oa_need u), (oa_num u), (oa_op u), (oa_x u), (oa_y u), (oa_from u), (oa_to u), (oa_handler u), (oa_caught u), (oa_there u), (oa_open u), (oa_done u), (oa_word u), (oa_start u), (oa_ends u), (oa_last u), (oa_hand u), (oa_bodyEnd u), (oa_local u), (oa_stack u), (oa_back u), (oa_floor u), (oa_running u), (oa_output u))) PX hf hL h a0 a1 (fun q => ?_) (fun q => ?_) (fun q _ => ?_) (fun q => ?_)
        · intro wk tp kd vl lo sk bk fl rn
          refine YR _ (fun _ => ?_) (fun e => by omega) (fun e => by omega) (fun e => by omega)
          intro _ _ _ _ _ _ _ _ _ _ _ _ _ _ _ _ _
          exact ⟨rfl, ok_keep I0 E.1 rfl rfl rfl rfl rfl rfl rfl rfl rfl rfl rfl rfl rfl rfl rfl rfl rfl rfl rfl rfl rfl⟩
        · intro wk tp kd vl lo sk bk fl rn
          refine YR _ (fun e => by omega) (fun _ => ?_) (fun e => by omega) (fun e => by omega)
          intro _ _ _ _ _ _ _ _ _ _ _ _ _ _ _ _ _
          exact ⟨rfl, ok_keep I0 E.1 rfl rfl rfl rfl rfl rfl rfl rfl rfl rfl rfl rfl rfl rfl rfl rfl rfl rfl rfl rfl rfl⟩
        · intro wk tp kd vl lo sk bk fl rn
          refine YR _ (fun e => by omega) (fun e => by omega) (fun _ => ?_) (fun e => by omega)
          intro _ _ _ _ _ _ _ _ _ _ _ _ _ _ _ _ _
          exact ⟨rfl, ok_keep I0 E.1 rfl rfl rfl rfl rfl rfl rfl rfl rfl rfl rfl rfl rfl rfl rfl rfl rfl rfl rfl rfl rfl⟩
        · intro wk tp kd vl lo sk bk fl rn
          refine YR _ (fun e => by omega) (fun e => by omega) (fun e => by omega) (fun _ => ?_)
          intro _ _ _ _ _ _ _ _ _ _ _ _ _ _ _ _ _
          exact ⟨rfl, ok_keep I0 E.1 rfl rfl rfl rfl rfl rfl rfl rfl rfl rfl rfl rfl rfl rfl rfl rfl rfl rfl rfl rfl rfl⟩
    exact G
end
section
/-! ===== X's compiler: the state, emit, fill, protect ===== -/
/-- an open token: its frame, hand, bodyEnd -/
abbrev om_F : Type := ((Nat × Nat) × Nat × Nat × Nat × Nat) × Int32 × Int32
def om_pv (F : Nat → oc_I) (g : Nat) : Nat → Int32
  | 0 => -1
  | h + 1 => if (F h).2.2.2 = g then nI h else om_pv F g h
def om_xv (F : Nat → oc_I) (P : Nat → Bool) (a : Nat) : Int32 := if P (F a).2.2.2 = true then om_pv F (F a).2.2.2 a else (F a).2.1
/-- a chain is closed -/
def om_rm (P : Nat → Bool) (g : Nat) : Nat → Bool := fun q => if q = g then false else P q
theorem om_rm_s {P : Nat → Bool} {g : Nat} : om_rm P g g = false := if_pos rfl
theorem om_rm_n {P : Nat → Bool} {g q : Nat} (h : q ≠ g) : om_rm P g q = P q := if_neg h
/-- dx: places whose x is still to be written -/
def om_cd (F : Nat → oc_I) (P : Nat → Bool) (h : Nat) (dx : List Nat) (op x y : Nat → Int32) : Prop :=
  ∀ a, a < h → op (2080 + a) = (F a).1 ∧ y (2080 + a) = (F a).2.2.1 ∧ (a ∉ dx → x (2080 + a) = om_xv F P a)
def om_rp (K : Nat → Nat) (V : Nat → Int32) (opn dn wd sta ha be : Nat → Int32) : List om_F → Prop
  | [] => True
  | fr :: r => (opn r.length = nI fr.1.1.1 ∧ dn r.length = nI fr.1.1.2 ∧ sta r.length = nI fr.1.2.1 ∧ (K fr.1.1.1 = 17 → ot_cl (V fr.1.1.1) = true → wd r.length = nI fr.1.2.2.2.1) ∧ ha r.length = fr.2.1 ∧ be r.length = fr.2.2) ∧ om_rp K V opn dn wd sta ha be r
def om_at : List om_F → Nat → Option Nat
  | [], _ => none
  | fr :: r, d => if d = r.length then some fr.1.1.1 else om_at r d
/-- the open tokens are below i and fall from the top down -/
def om_srt : List om_F → Nat → Prop
  | [], _ => True
  | fr :: r, i => fr.1.1.1 < i ∧ fr.1.1.2 < 10 ∧ om_srt r fr.1.1.1
def om_chn (F : Nat → oc_I) (h : Nat) (en la : Nat → Int32) (fs : List om_F) : Prop :=
  ∀ d t, om_at fs d = some t → en d = om_pv F (3 * t + 1) h ∧ la d = om_pv F (3 * t + 2) h
def om_ent (EN : List (Nat × Nat × Nat)) (fr to hn ca : Nat → Int32) : Prop :=
  ca 4 = nI EN.length ∧ ∀ k e, EN[k]? = some e → fr (120 + k) = nI e.1 ∧ to (120 + k) = nI e.2.1 ∧ hn (120 + k) = nI e.2.2
/-- what the compiler leaves alone -/
def om_sam (z : SX) (op x y fr to hn ca : Nat → Int32) : Prop :=
  (∀ k, k < 2080 → op k = oa_op z k ∧ x k = oa_x z k ∧ y k = oa_y z k) ∧ (∀ k, k < 120 → fr k = oa_from z k ∧ to k = oa_to z k ∧ hn k = oa_handler z k) ∧ (∀ k, k < 4 → ca k = oa_caught z k)
def om_ok (z : SX) (K : Nat → Nat) (V : Nat → Int32) (F : Nat → oc_I) (P : Nat → Bool) (h : Nat) (dx : List Nat) (fs : List om_F) (EN : List (Nat × Nat × Nat)) (op x y fr to hn ca opn dn wd sta en la ha be : Nat → Int32) : Prop :=
  om_cd F P h dx op x y ∧ om_rp K V opn dn wd sta ha be fs ∧ om_chn F h en la fs ∧ om_ent EN fr to hn ca ∧ om_sam z op x y fr to hn ca
theorem om_at_lt : ∀ {fs : List om_F} {d t : Nat}, om_at fs d = some t → d < fs.length
  | [], _, _, h => by cases h
  | fr :: r, d, t, h => by
    simp only [om_at] at h
    by_cases e : d = r.length
    · simp only [List.length_cons]; omega
    · rw [if_neg e] at h; have := om_at_lt h; simp only [List.length_cons]; omega
theorem om_at_srt : ∀ {fs : List om_F} {i d t : Nat}, om_srt fs i → om_at fs d = some t → t < i
  | [], _, _, _, _, h => by cases h
  | fr :: r, i, d, t, s, h => by
    simp only [om_at] at h
    by_cases e : d = r.length
    · rw [if_pos e] at h; cases h; exact s.1
    · rw [if_neg e] at h; have := om_at_srt s.2.2 h; have := s.1; omega
theorem om_at_inj : ∀ {fs : List om_F} {i d d' t : Nat}, om_srt fs i → om_at fs d = some t → om_at fs d' = some t → d = d'
  | [], _, _, _, _, _, h, _ => by cases h
  | fr :: r, i, d, d', t, s, h, h' => by
    simp only [om_at] at h h'
    by_cases e : d = r.length <;> by_cases e' : d' = r.length
    · omega
    · rw [if_pos e] at h; rw [if_neg e'] at h'; cases h; have := om_at_srt s.2.2 h'; omega
    · rw [if_neg e] at h; rw [if_pos e'] at h'; cases h'; have := om_at_srt s.2.2 h; omega
    · rw [if_neg e] at h; rw [if_neg e'] at h'; exact om_at_inj s.2.2 h h'
theorem om_chn0 {F : Nat → oc_I} {h : Nat} {en la : Nat → Int32} {fs : List om_F} (H : om_chn F h en la fs) (nt : ∀ d t, om_at fs d = some t → (F h).2.2.2 ≠ 3 * t + 1 ∧ (F h).2.2.2 ≠ 3 * t + 2) : om_chn F (h + 1) en la fs := by
  intro d t hd
  obtain ⟨n1, n2⟩ := nt d t hd
  simp only [om_pv]
  rw [if_neg n1, if_neg n2]
  exact H d t hd
theorem om_chnE {F : Nat → oc_I} {h i d0 t0 : Nat} {en la : Nat → Int32} {fs : List om_F} (H : om_chn F h en la fs) (s : om_srt fs i) (h0 : om_at fs d0 = some t0) (ht : (F h).2.2.2 = 3 * t0 + 1) : om_chn F (h + 1) (upd en d0 (nI h)) la fs := by
  intro d t hd
  simp only [om_pv, ht]
  obtain ⟨g1, g2⟩ := H d t hd
  rw [if_neg (c := 3 * t0 + 1 = 3 * t + 2) (by omega)]
  refine ⟨?_, g2⟩
  by_cases e : t = t0
  · subst e
    rw [om_at_inj s hd h0, pk_us, if_pos rfl]
  · rw [if_neg (by omega), pk_un, g1]
    intro e2; subst e2; rw [h0] at hd; cases hd; exact e rfl
theorem om_chnL {F : Nat → oc_I} {h i d0 t0 : Nat} {en la : Nat → Int32} {fs : List om_F} (H : om_chn F h en la fs) (s : om_srt fs i) (h0 : om_at fs d0 = some t0) (ht : (F h).2.2.2 = 3 * t0 + 2) : om_chn F (h + 1) en (upd la d0 (nI h)) fs := by
  intro d t hd
  simp only [om_pv, ht]
  obtain ⟨g1, g2⟩ := H d t hd
  rw [if_neg (c := 3 * t0 + 2 = 3 * t + 1) (by omega)]
  refine ⟨g1, ?_⟩
  by_cases e : t = t0
  · subst e
    rw [om_at_inj s hd h0, pk_us, if_pos rfl]
  · rw [if_neg (by omega), pk_un, g2]
    intro e2; subst e2; rw [h0] at hd; cases hd; exact e rfl
section
variable {z : SX} {K : Nat → Nat} {V : Nat → Int32} {F : Nat → oc_I} {P : Nat → Bool} {h w : Nat} {dx : List Nat} {dep : Int32} {fs : List om_F} {EN : List (Nat × Nat × Nat)} {op x y fr to hn ca opn dn wd sta en la ha be : Nat → Int32}
theorem om_emit {Pst : Int32 → SX → Prop} {o a b xf : Int32} {tg : Nat} {dx' : List Nat} {en' la' : Nat → Int32} (H : om_ok z K V F P h dx fs EN op x y fr to hn ca opn dn wd sta en la ha be) (hh : h < 520) (hF : F h = (o, xf, b, tg)) (ho : vp_nar .byte o.toInt8.toInt32 = o)
    (hx : dx' = h :: dx ∨ (dx' = dx ∧ a = if P tg = true then om_pv F tg h else xf)) (CH : om_chn F (h + 1) en' la' fs)
    (KK : ∀ op' x' y' : Nat → Int32, om_ok z K V F P (h + 1) dx' fs EN op' x' y' fr to hn ca opn dn wd sta en' la' ha be → Pst (nI h) ((oa_tokens z), (oa_place z), (nI (h + 1)), (nI w), dep, (oa_working z), (oa_top z), (oa_steps z), (oa_says z), (oa_kind z), (oa_value z), (oa_over z), (oa_given z), (oa_thrown z), (oa_tok z), (oa_need z), (oa_num z), op', x', y', fr, to, hn, ca, (oa_there z), opn, dn, wd, sta, en, la, ha, be, (oa_local z), (oa_stack z), (oa_back z), (oa_floor z), (oa_running z), (oa_output z))) :
    wpX_emit Pst ((oa_tokens z), (oa_place z), (nI h), (nI w), dep, (oa_working z), (oa_top z), (oa_steps z), (oa_says z), (oa_kind z), (oa_value z), (oa_over z), (oa_given z), (oa_thrown z), (oa_tok z), (oa_need z), (oa_num z), op, x, y, fr, to, hn, ca, (oa_there z), opn, dn, wd, sta, en, la, ha, be, (oa_local z), (oa_stack z), (oa_back z), (oa_floor z), (oa_running z), (oa_output z)) o a b := by
  have ea : (2080 : Int32) + nI h = nI (2080 + h) := nI_add 2080 h
  have iv : vp_in (nI (2080 + h)) 2600 := vp_in_nI (by omega) (by omega)
  have cl : (nI (2080 + h)).toNatClampNeg = 2080 + h := nI_clamp (by omega)
  refine nm_r (e' := nI (2080 + h)) ea ⟨iv, nm_r (e' := upd op (2080 + h) o) (by rw [cl, ho]) ⟨iv, nm_r (e' := upd x (2080 + h) a) (by rw [cl]) ⟨iv, nm_r (e' := upd y (2080 + h) b) (by rw [cl]) (nm_r (nI_1 _) (KK _ _ _ ?_))⟩⟩⟩
  obtain ⟨h1, h2, h3, h4, h5, h6, h7⟩ := H
  refine ⟨fun c hc => ?_, h2, CH, h4, fun k hk => ?_, h6, h7⟩
  · by_cases e : c = h
    · subst e
      rw [pk_us, pk_us, pk_us, hF]
      refine ⟨rfl, rfl, fun hd => ?_⟩
      rcases hx with g1 | ⟨g1, g2⟩
      · rw [g1] at hd; exact absurd List.mem_cons_self hd
      · simp only [om_xv, hF]; exact g2
    · obtain ⟨a1, a2, a3⟩ := h1 c (by omega)
      rw [pk_un (by omega), pk_un (by omega), pk_un (by omega)]
      refine ⟨a1, a2, fun hd => a3 ?_⟩
      rcases hx with g1 | ⟨g1, g2⟩
      · rw [g1] at hd; exact fun z => hd (List.mem_cons_of_mem _ z)
      · rw [g1] at hd; exact hd
  · rw [pk_un (by omega), pk_un (by omega), pk_un (by omega)]; exact h5 k hk
/-- all places of a chain become this one -/
theorem om_fill {Pst : SX → Prop} {g v : Nat} (H : om_ok z K V F P h dx fs EN op x y fr to hn ca opn dn wd sta en la ha be) (hdx : ∀ a, a ∈ dx → (F a).2.2.2 ≠ g) (hh : h ≤ 520) (hP : P g = true) (hg : ∀ a, a < h → (F a).2.2.2 = g → (F a).2.1 = nI v)
    (KK : ∀ x', om_ok z K V F (om_rm P g) h dx fs EN op x' y fr to hn ca opn dn wd sta en la ha be → Pst ((oa_tokens z), (oa_place z), (nI h), (nI w), dep, (oa_working z), (oa_top z), (oa_steps z), (oa_says z), (oa_kind z), (oa_value z), (oa_over z), (oa_given z), (oa_thrown z), (oa_tok z), (oa_need z), (oa_num z), op, x', y, fr, to, hn, ca, (oa_there z), opn, dn, wd, sta, en, la, ha, be, (oa_local z), (oa_stack z), (oa_back z), (oa_floor z), (oa_running z), (oa_output z))) :
    wpX_fill Pst ((oa_tokens z), (oa_place z), (nI h), (nI w), dep, (oa_working z), (oa_top z), (oa_steps z), (oa_says z), (oa_kind z), (oa_value z), (oa_over z), (oa_given z), (oa_thrown z), (oa_tok z), (oa_need z), (oa_num z), op, x, y, fr, to, hn, ca, (oa_there z), opn, dn, wd, sta, en, la, ha, be, (oa_local z), (oa_stack z), (oa_back z), (oa_floor z), (oa_running z), (oa_output z)) (om_pv F g h) (nI v) := by
  obtain ⟨h1, h2, h3, h4, h5, h6, h7⟩ := H
  have LOOP : ∀ m, m ≤ h → ∀ x' : Nat → Int32, (∀ k, k < 2080 → x' k = x k) → (∀ a, a < h → x' (2080 + a) = if (F a).2.2.2 = g ∧ m ≤ a then nI v else x (2080 + a)) →
      ∃ n, wX_fill_2 Pst (nI v) (oa_tokens z) (oa_place z) (nI h) (nI w) dep (oa_working z) (oa_top z) (oa_steps z) (oa_says z) (oa_kind z) (oa_value z) (oa_over z) (oa_given z) (oa_thrown z) n (om_pv F g m) (oa_tok z) (oa_need z) (oa_num z) op x' y fr to hn ca (oa_there z) opn dn wd sta en la ha be (oa_local z) (oa_stack z) (oa_back z) (oa_floor z) (oa_running z) (oa_output z) := by
    intro m
    induction m with
    | zero =>
      intro _ x' q1 q2
      refine ⟨1, br_t (show (-1 : Int32) < 0 by decide) (KK x' ⟨fun a ha => ?_, h2, h3, h4, fun k hk => ?_, h6, h7⟩)⟩
      · obtain ⟨a1, a2, a3⟩ := h1 a ha
        refine ⟨a1, a2, fun hnd => ?_⟩
        rw [q2 a ha]
        by_cases e : (F a).2.2.2 = g
        · rw [if_pos ⟨e, by omega⟩]
          simp only [om_xv]
          rw [e, om_rm_s, if_neg (by decide)]
          exact (hg a ha e).symm
        · rw [if_neg (fun z => e z.1), a3 hnd]
          simp only [om_xv]
          rw [om_rm_n e]
      · rw [q1 k hk]; exact h5 k hk
    | succ m ih =>
      intro hm x' q1 q2
      by_cases e : (F m).2.2.2 = g
      · have ep : om_pv F g (m + 1) = nI m := by simp only [om_pv]; rw [if_pos e]
        rw [ep]
        have ea : (2080 : Int32) + nI m = nI (2080 + m) := nI_add 2080 m
        have iv : vp_in ((2080 : Int32) + nI m) 2600 := by rw [ea]; exact vp_in_nI (by omega) (by omega)
        have cl : ((2080 : Int32) + nI m).toNatClampNeg = 2080 + m := by rw [ea]; exact nI_clamp (by omega)
        have xm : x' (2080 + m) = om_pv F g m := by
          rw [q2 m (by omega), if_neg (by omega), (h1 m (by omega)).2.2 (fun z => hdx m z e)]
          simp only [om_xv, e]
          rw [if_pos hP]
        obtain ⟨n, hn2⟩ := ih (by omega) (upd x' (2080 + m) (nI v)) (fun k hk => by rw [pk_un (by omega)]; exact q1 k hk) (fun a ha => by
          by_cases e2 : a = m
          · subst e2; rw [pk_us, if_pos ⟨e, by omega⟩]
          · rw [pk_un (by omega), q2 a ha]
            by_cases e3 : (F a).2.2.2 = g ∧ m + 1 ≤ a
            · rw [if_pos e3, if_pos ⟨e3.1, by omega⟩]
            · rw [if_neg e3, if_neg (fun z => e3 ⟨z.1, by omega⟩)])
        exact ⟨n + 1, br_f (nI_pos (by omega)) ⟨iv, nm_r (e' := om_pv F g m) (by rw [cl]; exact xm) ⟨iv, nm_r (e' := upd x' (2080 + m) (nI v)) (by rw [cl]) hn2⟩⟩⟩
      · have ep : om_pv F g (m + 1) = om_pv F g m := by simp only [om_pv]; rw [if_neg e]
        rw [ep]
        refine ih (by omega) x' q1 (fun a ha => ?_)
        rw [q2 a ha]
        by_cases e3 : (F a).2.2.2 = g ∧ m + 1 ≤ a
        · rw [if_pos e3, if_pos ⟨e3.1, by omega⟩]
        · rw [if_neg e3, if_neg (fun z => e3 ⟨z.1, by
            have : a ≠ m := fun e4 => e (e4 ▸ z.1)
            omega⟩)]
  exact LOOP h (Nat.le_refl _) x (fun _ _ => rfl) (fun a ha => by rw [if_neg (by omega)])
/-- the place on top of those to be written is written -/
theorem om_clean {v : Int32} {a : Nat} (H : om_ok z K V F P h (a :: dx) fs EN op x y fr to hn ca opn dn wd sta en la ha be) (hv : v = om_xv F P a) : om_ok z K V F P h dx fs EN op (upd x (2080 + a) v) y fr to hn ca opn dn wd sta en la ha be := by
  obtain ⟨h1, h2, h3, h4, h5, h6, h7⟩ := H
  refine ⟨fun c hc => ?_, h2, h3, h4, fun k hk => ?_, h6, h7⟩
  · obtain ⟨a1, a2, a3⟩ := h1 c hc
    refine ⟨a1, a2, fun hd => ?_⟩
    by_cases e : c = a
    · subst e; rw [pk_us]; exact hv
    · rw [pk_un (by omega)]
      refine a3 (fun z => ?_)
      rcases List.mem_cons.mp z with g | g
      · exact e g
      · exact hd g
  · rw [pk_un (by omega)]; exact h5 k hk
/-- only the tags that occur matter -/
theorem om_okP {P' : Nat → Bool} (H : om_ok z K V F P h dx fs EN op x y fr to hn ca opn dn wd sta en la ha be) (hp : ∀ a, a < h → P' (F a).2.2.2 = P (F a).2.2.2) : om_ok z K V F P' h dx fs EN op x y fr to hn ca opn dn wd sta en la ha be := by
  obtain ⟨h1, h2⟩ := H
  refine ⟨fun a ha => ?_, h2⟩
  obtain ⟨a1, a2, a3⟩ := h1 a ha
  refine ⟨a1, a2, fun hd => ?_⟩
  rw [a3 hd]
  simp only [om_xv]
  rw [hp a ha]
theorem om_prot {Pst : SX → Prop} {s e hd : Nat} (H : om_ok z K V F P h dx fs EN op x y fr to hn ca opn dn wd sta en la ha be) (hl : EN.length < 30) (hs : s < 1000) (he : e < 1000) (hh : hd < 1000)
    (KK : ∀ fr' to' hn' ca' : Nat → Int32, om_ok z K V F P h dx fs (EN ++ [(s, e, hd)]) op x y fr' to' hn' ca' opn dn wd sta en la ha be → Pst ((oa_tokens z), (oa_place z), (nI h), (nI w), dep, (oa_working z), (oa_top z), (oa_steps z), (oa_says z), (oa_kind z), (oa_value z), (oa_over z), (oa_given z), (oa_thrown z), (oa_tok z), (oa_need z), (oa_num z), op, x, y, fr', to', hn', ca', (oa_there z), opn, dn, wd, sta, en, la, ha, be, (oa_local z), (oa_stack z), (oa_back z), (oa_floor z), (oa_running z), (oa_output z))) :
    wpX_protect Pst ((oa_tokens z), (oa_place z), (nI h), (nI w), dep, (oa_working z), (oa_top z), (oa_steps z), (oa_says z), (oa_kind z), (oa_value z), (oa_over z), (oa_given z), (oa_thrown z), (oa_tok z), (oa_need z), (oa_num z), op, x, y, fr, to, hn, ca, (oa_there z), opn, dn, wd, sta, en, la, ha, be, (oa_local z), (oa_stack z), (oa_back z), (oa_floor z), (oa_running z), (oa_output z)) (nI s) (nI e) (nI hd) := by
  obtain ⟨h1, h2, h3, ⟨h4, h4'⟩, h5, h6, h7⟩ := H
  have ea : (120 : Int32) + ca 4 = nI (120 + EN.length) := by rw [h4]; exact nI_add 120 _
  have iv : vp_in (nI (120 + EN.length)) 150 := vp_in_nI (by omega) (by omega)
  have cl : (nI (120 + EN.length)).toNatClampNeg = 120 + EN.length := nI_clamp (by omega)
  refine nm_r (e' := upd ca 4 (nI (EN.length + 1))) (by rw [h4, nI_1, ok_by (by omega)]) (nm_r (e' := nI (120 + EN.length)) ea ⟨iv, nm_r (e' := upd fr (120 + EN.length) (nI s)) (by rw [cl, ok_sh (by omega)]) ⟨iv, nm_r (e' := upd to (120 + EN.length) (nI e)) (by rw [cl, ok_sh (by omega)]) ⟨iv, nm_r (e' := upd hn (120 + EN.length) (nI hd)) (by rw [cl, ok_sh (by omega)]) (KK _ _ _ _ ?_)⟩⟩⟩)
  refine ⟨h1, h2, h3, ⟨by rw [pk_us, List.length_append]; rfl, fun k q hq => ?_⟩, h5, fun k hk => ?_, fun k hk => ?_⟩
  · rw [List.getElem?_append] at hq
    split at hq
    · rename_i hk
      rw [pk_un (by omega), pk_un (by omega), pk_un (by omega)]
      exact h4' k q hq
    · rename_i hk
      have e0 : k - EN.length = 0 := by
        have := (List.getElem?_eq_some_iff.mp hq).1
        simp at this; omega
      rw [e0] at hq
      have ek : k = EN.length := by omega
      cases hq
      rw [ek, pk_us, pk_us, pk_us]
      exact ⟨rfl, rfl, rfl⟩
  · rw [pk_un (by omega), pk_un (by omega), pk_un (by omega)]; exact h6 k hk
  · rw [pk_un (by omega)]; exact h7 k hk
end
end
section
/-! ===== X's compiler: looking for a WHILE, crossing finally parts ===== -/
/-- the draft's tokens -/
def om_dr (z : SX) (K : Nat → Nat) (V : Nat → Int32) (N : Nat) : Prop := N ≤ 40 ∧ ∀ t, t < N → ot_ok (K t) (V t) ∧ oa_tok z t = nI (K t) ∧ oa_num z t = V t
def om_ix (r : List om_F) : Int32 := match r with | [] => -1 | _ :: r' => nI r'.length
theorem om_ix_dec {fr : om_F} {r : List om_F} : om_ix (fr :: r) + (-1) = om_ix r := by
  cases r with
  | nil => exact (by decide : nI 0 + (-1) = (-1 : Int32))
  | cons _ r' => exact pk_m1 _
theorem om_ix_top {fs : List om_F} : nI fs.length - 1 = om_ix fs := by
  cases fs with
  | nil => decide
  | cons _ r' => exact nI_pred _
def om_td (K : Nat → Nat) (V : Nat → Int32) (l : Int32) : List om_F → Int32
  | [] => -1
  | f :: r => if oc_tgt K V l f.1.1.1 f.1.1.2 = true then nI r.length else om_td K V l r
theorem oc_At_app {F : Nat → oc_I} : ∀ {l1 l2 : List oc_I} {a : Nat}, oc_At F a (l1 ++ l2) ↔ oc_At F a l1 ∧ oc_At F (a + l1.length) l2
  | [], l2, a => by simp [oc_At]
  | x :: l1, l2, a => by
    simp only [List.cons_append, oc_At, List.length_cons]
    rw [oc_At_app, show a + 1 + l1.length = a + (l1.length + 1) by omega]
    simp only [and_assoc]
section
variable {z : SX} {K : Nat → Nat} {V : Nat → Int32} {F : Nat → oc_I} {P : Nat → Bool} {h w N : Nat} {dx : List Nat} {dep : Int32} {fs : List om_F} {EN : List (Nat × Nat × Nat)} {op x y fr to hn ca opn dn wd sta en la ha be : Nat → Int32}
theorem om_tgt7 {Pst : Int32 → Prop} {l : Int32} (D : om_dr z K V N) : ∀ {r : List om_F} {i : Nat}, i ≤ N → r.length ≤ 40 → om_srt r i → om_rp K V opn dn wd sta ha be r → Pst (om_td K V l r) →
    wX_target_7 Pst l (oa_tokens z) (oa_place z) (nI h) (nI w) dep (oa_working z) (oa_top z) (oa_steps z) (oa_says z) (oa_kind z) (oa_value z) (oa_over z) (oa_given z) (oa_thrown z) (oa_tok z) (oa_need z) (oa_num z) op x y fr to hn ca (oa_there z) opn dn wd sta en la ha be (oa_local z) (oa_stack z) (oa_back z) (oa_floor z) (oa_running z) (oa_output z) (r.length + 1) (om_ix r)
  | [], _, _, _, _, _, H => br_t (by decide) H
  | f :: r, i, hi, hr, s, ⟨⟨p1, p2, p3, p4, p5, p6⟩, R⟩, H => by
    obtain ⟨s1, s2, s3⟩ := s
    have hr' : r.length + 1 ≤ 40 := hr
    have hN := D.1
    obtain ⟨ok, d1, d2⟩ := D.2 f.1.1.1 (by omega)
    have k22 := ok.1
    have c1 : (nI r.length).toNatClampNeg = r.length := nI_clamp (by omega)
    have i1 : vp_in (nI r.length) 41 := vp_in_nI (by omega) (by omega)
    have eo : opn (nI r.length).toNatClampNeg = nI f.1.1.1 := by rw [c1]; exact p1
    have i2 : vp_in (opn (nI r.length).toNatClampNeg) 40 := by rw [eo]; exact vp_in_nI (by omega) (by omega)
    have et : oa_tok z (opn (nI r.length).toNatClampNeg).toNatClampNeg = nI (K f.1.1.1) := by rw [eo, nI_clamp (by omega)]; exact d1
    have ev : oa_num z (opn (nI r.length).toNatClampNeg).toNatClampNeg = V f.1.1.1 := by rw [eo, nI_clamp (by omega)]; exact d2
    have ed : dn (nI r.length).toNatClampNeg = nI f.1.1.2 := by rw [c1]; exact p2
    have k13 : nI (K f.1.1.1) = 13 ↔ K f.1.1.1 = 13 := nI_eq (b := 13) (by omega) (by omega)
    have o1 : nI f.1.1.2 = 1 ↔ f.1.1.2 = 1 := nI_eq (b := 1) (by omega) (by omega)
    have NX : oc_tgt K V l f.1.1.1 f.1.1.2 = false → ∀ q, q = nI r.length + (-1) → wX_target_7 Pst l (oa_tokens z) (oa_place z) (nI h) (nI w) dep (oa_working z) (oa_top z) (oa_steps z) (oa_says z) (oa_kind z) (oa_value z) (oa_over z) (oa_given z) (oa_thrown z) (oa_tok z) (oa_need z) (oa_num z) op x y fr to hn ca (oa_there z) opn dn wd sta en la ha be (oa_local z) (oa_stack z) (oa_back z) (oa_floor z) (oa_running z) (oa_output z) (r.length + 1) q := by
      intro e q eq
      have : nI r.length + (-1) = om_ix r := om_ix_dec (fr := f)
      rw [eq, this]
      refine om_tgt7 D (i := f.1.1.1) (by omega) (by omega) s3 R ?_
      simp only [om_td, e] at H
      simpa using H
    show wX_target_7 Pst l (oa_tokens z) (oa_place z) (nI h) (nI w) dep (oa_working z) (oa_top z) (oa_steps z) (oa_says z) (oa_kind z) (oa_value z) (oa_over z) (oa_given z) (oa_thrown z) (oa_tok z) (oa_need z) (oa_num z) op x y fr to hn ca (oa_there z) opn dn wd sta en la ha be (oa_local z) (oa_stack z) (oa_back z) (oa_floor z) (oa_running z) (oa_output z) (r.length + 1 + 1) (nI r.length)
    refine br_f (nI_pos (by omega)) ⟨i1, i2, ?_⟩
    by_cases a1 : K f.1.1.1 = 13
    · refine br_t (by rw [et]; exact k13.mpr a1) ⟨i1, i2, ?_⟩
      by_cases a2 : V f.1.1.1 = l
      · refine br_t (by rw [ev]; exact a2) ⟨i1, ?_⟩
        by_cases a3 : f.1.1.2 = 1
        · refine br_t (by rw [ed]; exact o1.mpr a3) ?_
          simp only [om_td] at H
          rw [if_pos (by unfold oc_tgt; exact decide_eq_true ⟨a1, a2, a3⟩)] at H
          exact H
        · exact br_f (by rw [ed]; exact fun e => a3 (o1.mp e)) (NX (by unfold oc_tgt; exact decide_eq_false (fun e => a3 e.2.2)))
      · exact br_f (by rw [ev]; exact a2) (NX (by unfold oc_tgt; exact decide_eq_false (fun e => a2 e.2.1)))
    · exact br_f (by rw [et]; exact fun e => a1 (k13.mp e)) (NX (by unfold oc_tgt; exact decide_eq_false (fun e => a1 e.1)))
theorem om_tgt {Pst : Int32 → Prop} {l : Int32} (D : om_dr z K V N) (hr : fs.length ≤ 40) (s : om_srt fs N) (H : om_ok z K V F P h dx fs EN op x y fr to hn ca opn dn wd sta en la ha be) (KK : Pst (om_td K V l fs)) : wpX_target Pst ((oa_tokens z), (oa_place z), (nI h), (nI w), (nI fs.length), (oa_working z), (oa_top z), (oa_steps z), (oa_says z), (oa_kind z), (oa_value z), (oa_over z), (oa_given z), (oa_thrown z), (oa_tok z), (oa_need z), (oa_num z), op, x, y, fr, to, hn, ca, (oa_there z), opn, dn, wd, sta, en, la, ha, be, (oa_local z), (oa_stack z), (oa_back z), (oa_floor z), (oa_running z), (oa_output z)) l :=
  nm_r om_ix_top ⟨fs.length + 1, om_tgt7 D (Nat.le_refl _) hr s H.2.1 KK⟩
theorem om_cln {Pst : Int32 → Prop} {f : om_F} {r : List om_F} {i : Nat} (D : om_dr z K V N) (hi : i ≤ N) (hr : r.length < 40) (s : om_srt (f :: r) i) (R : om_rp K V opn dn wd sta ha be (f :: r))
    (KK : Pst (if oc_cln K V f.1.1.1 f.1.1.2 = true then 1 else 0)) : wpX_cleans Pst ((oa_tokens z), (oa_place z), (nI h), (nI w), dep, (oa_working z), (oa_top z), (oa_steps z), (oa_says z), (oa_kind z), (oa_value z), (oa_over z), (oa_given z), (oa_thrown z), (oa_tok z), (oa_need z), (oa_num z), op, x, y, fr, to, hn, ca, (oa_there z), opn, dn, wd, sta, en, la, ha, be, (oa_local z), (oa_stack z), (oa_back z), (oa_floor z), (oa_running z), (oa_output z)) (nI r.length) := by
  obtain ⟨s1, s2, s3⟩ := s
  obtain ⟨⟨p1, p2, p3, p4, p5, p6⟩, R⟩ := R
  have hN := D.1
  obtain ⟨ok, d1, d2⟩ := D.2 f.1.1.1 (by omega)
  have k22 := ok.1
  have c1 : (nI r.length).toNatClampNeg = r.length := nI_clamp (by omega)
  have i1 : vp_in (nI r.length) 41 := vp_in_nI (by omega) (by omega)
  have i2 : vp_in (nI f.1.1.1) 40 := vp_in_nI (by omega) (by omega)
  have et : oa_tok z (nI f.1.1.1).toNatClampNeg = nI (K f.1.1.1) := by rw [nI_clamp (by omega)]; exact d1
  have ev : oa_num z (nI f.1.1.1).toNatClampNeg = V f.1.1.1 := by rw [nI_clamp (by omega)]; exact d2
  have ed : dn (nI r.length).toNatClampNeg = nI f.1.1.2 := by rw [c1]; exact p2
  have k17 : nI (K f.1.1.1) = 17 ↔ K f.1.1.1 = 17 := nI_eq (b := 17) (by omega) (by omega)
  refine And.intro i1 (nm_r (e' := nI f.1.1.1) (by rw [c1]; exact p1) ⟨i2, ?_⟩)
  by_cases a1 : K f.1.1.1 = 17
  · rw [a1] at ok
    obtain ⟨v3, vc⟩ := ot_v17b ok
    have nc2 := ot_nc_le (V f.1.1.1)
    refine br_t (by rw [et]; exact k17.mpr a1) ⟨i2, ?_⟩
    rw [ev, ed, v3]
    by_cases a2 : ot_cl (V f.1.1.1) = true
    · refine br_f (fun e => by rw [vc.mp e] at a2; cases a2) ⟨i1, i2, ?_⟩
      by_cases a3 : f.1.1.2 ≤ ot_nc (V f.1.1.1)
      · rw [if_pos (by unfold oc_cln; exact decide_eq_true ⟨a1, a2, a3⟩)] at KK
        exact br_f (nI_nlt a3 (by omega)) KK
      · rw [if_neg (by unfold oc_cln; intro e; exact a3 (of_decide_eq_true e).2.2)] at KK
        exact br_t (nI_lt (by omega) (by omega)) KK
    · rw [if_neg (by unfold oc_cln; intro e; exact a2 (of_decide_eq_true e).2.1)] at KK
      exact br_t (vc.mpr (by cases e : ot_cl (V f.1.1.1) with | true => exact absurd e a2 | false => rfl)) KK
  · rw [if_neg (by unfold oc_cln; intro e; exact a1 (of_decide_eq_true e).1)] at KK
    exact br_f (by rw [et]; exact fun e => a1 (k17.mp e)) KK
theorem om_crs9 {Pst : Int32 → Prop} (D : om_dr z K V N) : ∀ {r : List om_F} {i c : Nat}, i ≤ N → r.length ≤ 40 → om_srt r i → om_rp K V opn dn wd sta ha be r → Pst (nI (c + oc_cr K V ((r.map Prod.fst).map Prod.fst))) →
    wX_crossed_9 Pst (-1) (oa_tokens z) (oa_place z) (nI h) (nI w) dep (oa_working z) (oa_top z) (oa_steps z) (oa_says z) (oa_kind z) (oa_value z) (oa_over z) (oa_given z) (oa_thrown z) (oa_tok z) (oa_need z) (oa_num z) op x y fr to hn ca (oa_there z) opn dn wd sta en la ha be (oa_local z) (oa_stack z) (oa_back z) (oa_floor z) (oa_running z) (oa_output z) (r.length + 1) (nI c) (om_ix r)
  | [], _, _, _, _, _, _, H => br_t (by decide) H
  | f :: r, i, c, hi, hr, s, R, H => by
    have hr' : r.length + 1 ≤ 40 := hr
    show wX_crossed_9 Pst (-1) (oa_tokens z) (oa_place z) (nI h) (nI w) dep (oa_working z) (oa_top z) (oa_steps z) (oa_says z) (oa_kind z) (oa_value z) (oa_over z) (oa_given z) (oa_thrown z) (oa_tok z) (oa_need z) (oa_num z) op x y fr to hn ca (oa_there z) opn dn wd sta en la ha be (oa_local z) (oa_stack z) (oa_back z) (oa_floor z) (oa_running z) (oa_output z) (r.length + 1 + 1) (nI c) (nI r.length)
    have en1 : ¬ nI r.length ≤ -1 := by
      intro e
      have a := Int32.le_iff_toInt_le.mp e
      rw [nI_toInt (by omega)] at a
      have b : (-1 : Int32).toInt = -1 := by decide
      omega
    have ex : nI r.length + (-1) = om_ix r := om_ix_dec (fr := f)
    refine br_f en1 (om_cln D hi (by omega) s R ?_)
    simp only [List.map_cons, oc_cr] at H
    by_cases e : oc_cln K V f.1.1.1 f.1.1.2 = true
    · rw [if_pos e] at H ⊢
      refine br_f (by decide) (nm_r (nI_1 c) (nm_r ex (om_crs9 D (i := f.1.1.1) (by have := s.1; omega) (by omega) s.2.2 R.2 ?_)))
      rw [show c + 1 + oc_cr K V ((r.map Prod.fst).map Prod.fst) = c + (1 + oc_cr K V ((r.map Prod.fst).map Prod.fst)) by omega]
      exact H
    · rw [if_neg e] at H ⊢
      refine br_t rfl (nm_r ex (om_crs9 D (i := f.1.1.1) (by have := s.1; omega) (by omega) s.2.2 R.2 ?_))
      rw [Nat.zero_add] at H
      exact H
theorem om_crs {Pst : Int32 → Prop} (D : om_dr z K V N) (hr : fs.length ≤ 40) (s : om_srt fs N) (H : om_ok z K V F P h dx fs EN op x y fr to hn ca opn dn wd sta en la ha be) (KK : Pst (nI (oc_cr K V ((fs.map Prod.fst).map Prod.fst)))) : wpX_crossed Pst ((oa_tokens z), (oa_place z), (nI h), (nI w), (nI fs.length), (oa_working z), (oa_top z), (oa_steps z), (oa_says z), (oa_kind z), (oa_value z), (oa_over z), (oa_given z), (oa_thrown z), (oa_tok z), (oa_need z), (oa_num z), op, x, y, fr, to, hn, ca, (oa_there z), opn, dn, wd, sta, en, la, ha, be, (oa_local z), (oa_stack z), (oa_back z), (oa_floor z), (oa_running z), (oa_output z)) (-1) :=
  nm_r om_ix_top ⟨fs.length + 1, om_crs9 (c := 0) D (Nat.le_refl _) hr s H.2.1 (by rw [Nat.zero_add]; exact KK)⟩
theorem om_at_suf : ∀ {l r : List om_F} {f : om_F}, om_at (l ++ f :: r) r.length = some f.1.1.1
  | [], r, f => by simp [om_at]
  | a :: l, r, f => by
    simp only [List.cons_append, om_at]
    rw [if_neg (by simp; omega)]
    exact om_at_suf
end
end
section
/-! ===== X's compiler: through the finally parts ===== -/
def om_ts (stop : om_F → Bool) : List om_F → Int32
  | [] => -1
  | f :: r => if stop f = true then nI r.length else om_ts stop r
section
variable (K : Nat → Nat) (V : Nat → Int32)
def om_uc (stop : om_F → Bool) : Nat → List om_F → Nat
  | h, [] => h
  | h, f :: r => if stop f = true then h else if oc_cln K V f.1.1.1 f.1.1.2 = true then om_uc stop (h + 2) r else om_uc stop h r
def om_ua (F : Nat → oc_I) (stop : om_F → Bool) : Nat → List om_F → Prop
  | _, [] => True
  | h, f :: r => if stop f = true then True else if oc_cln K V f.1.1.1 f.1.1.2 = true then (F h = (24, nI (h + 2), nI f.1.2.2.2.1, 0) ∧ F (h + 1) = (22, nI f.1.2.2.2.2, 0, 3 * f.1.1.1 + 2)) ∧ om_ua F stop (h + 2) r else om_ua F stop h r
end
theorem om_ts_lt {stop : om_F → Bool} : ∀ {r : List om_F}, r.length ≤ 40 → om_ts stop r = -1 ∨ ∃ d, d < r.length ∧ om_ts stop r = nI d
  | [], _ => Or.inl rfl
  | f :: r, h => by
    simp only [om_ts]
    have h' : r.length + 1 ≤ 40 := h
    by_cases e : stop f = true
    · rw [if_pos e]; exact Or.inr ⟨r.length, by simp, rfl⟩
    · rw [if_neg e]
      rcases om_ts_lt (stop := stop) (r := r) (by omega) with g | ⟨d, g1, g2⟩
      · exact Or.inl g
      · exact Or.inr ⟨d, by simp only [List.length_cons]; omega, g2⟩
theorem om_ts_nle {stop : om_F → Bool} {r : List om_F} (h : r.length ≤ 40) : ¬ nI r.length ≤ om_ts stop r := by
  rcases om_ts_lt (stop := stop) h with g | ⟨d, g1, g2⟩
  · rw [g]
    intro e
    have a := Int32.le_iff_toInt_le.mp e
    rw [nI_toInt (by omega)] at a
    have b : (-1 : Int32).toInt = -1 := by decide
    omega
  · rw [g2]; exact nI_ge g1 (by omega)
section
variable {z : SX} {K : Nat → Nat} {V : Nat → Int32} {F : Nat → oc_I} {P : Nat → Bool} {w N : Nat} {dx : List Nat} {dep : Int32} {fs : List om_F} {EN : List (Nat × Nat × Nat)} {fr to hn ca opn dn wd sta en ha be : Nat → Int32}
theorem om_uc_le {stop : om_F → Bool} : ∀ {r : List om_F} {h : Nat}, h ≤ om_uc K V stop h r
  | [], _ => Nat.le_refl _
  | f :: r, h => by
    simp only [om_uc]
    split
    · exact Nat.le_refl _
    · split
      · have := om_uc_le (stop := stop) (r := r) (h := h + 2); omega
      · exact om_uc_le
/-- frames whose finally part is still to come: their chain is open -/
def om_pl (K : Nat → Nat) (V : Nat → Int32) (P : Nat → Bool) (fs : List om_F) : Prop := ∀ f, f ∈ fs → oc_cln K V f.1.1.1 f.1.1.2 = true → P (3 * f.1.1.1 + 2) = true
theorem om_unw7 {Pst : SX → Prop} {stop : om_F → Bool} (D : om_dr z K V N) (hfs : fs.length ≤ 40) (s : om_srt fs N) (P0 : P 0 = false) (PL : om_pl K V P fs) :
    ∀ (r l : List om_F) (i h : Nat) (op x y la : Nat → Int32), fs = l ++ r → i ≤ N → om_srt r i → om_rp K V opn dn wd sta ha be r → om_ok z K V F P h dx fs EN op x y fr to hn ca opn dn wd sta en la ha be → om_ua K V F stop h r → om_uc K V stop h r ≤ 520 →
    (∀ op' x' y' la' : Nat → Int32, om_ok z K V F P (om_uc K V stop h r) dx fs EN op' x' y' fr to hn ca opn dn wd sta en la' ha be → Pst ((oa_tokens z), (oa_place z), (nI (om_uc K V stop h r)), (nI w), dep, (oa_working z), (oa_top z), (oa_steps z), (oa_says z), (oa_kind z), (oa_value z), (oa_over z), (oa_given z), (oa_thrown z), (oa_tok z), (oa_need z), (oa_num z), op', x', y', fr, to, hn, ca, (oa_there z), opn, dn, wd, sta, en, la', ha, be, (oa_local z), (oa_stack z), (oa_back z), (oa_floor z), (oa_running z), (oa_output z))) →
    wX_unwind_7 Pst (om_ts stop r) (r.length + 1) (om_ix r) (oa_tokens z) (oa_place z) (nI h) (nI w) dep (oa_working z) (oa_top z) (oa_steps z) (oa_says z) (oa_kind z) (oa_value z) (oa_over z) (oa_given z) (oa_thrown z) (oa_tok z) (oa_need z) (oa_num z) op x y fr to hn ca (oa_there z) opn dn wd sta en la ha be (oa_local z) (oa_stack z) (oa_back z) (oa_floor z) (oa_running z) (oa_output z) := by
  intro r
  induction r with
  | nil =>
    intro l i h op x y la _ _ _ _ H _ _ KK
    exact br_t (Int32.le_refl _) (KK _ _ _ _ H)
  | cons f r ih =>
    intro l i h op x y la efs hi sr R H UA UC KK
    have hlen : r.length + 1 ≤ 40 := by rw [efs] at hfs; simp at hfs; omega
    have efs' : fs = (l ++ [f]) ++ r := by rw [efs]; simp
    have ex : nI r.length + (-1) = om_ix r := om_ix_dec (fr := f)
    show wX_unwind_7 Pst (om_ts stop (f :: r)) (r.length + 1 + 1) (nI r.length) (oa_tokens z) (oa_place z) (nI h) (nI w) dep (oa_working z) (oa_top z) (oa_steps z) (oa_says z) (oa_kind z) (oa_value z) (oa_over z) (oa_given z) (oa_thrown z) (oa_tok z) (oa_need z) (oa_num z) op x y fr to hn ca (oa_there z) opn dn wd sta en la ha be (oa_local z) (oa_stack z) (oa_back z) (oa_floor z) (oa_running z) (oa_output z)
    simp only [om_ts, om_ua, om_uc] at UA UC KK ⊢
    by_cases e : stop f = true
    · rw [if_pos e] at *
      refine br_t (Int32.le_refl _) (KK _ _ _ _ ?_)
      exact H
    · rw [if_neg e] at UA ⊢
      simp only [if_neg e] at UC KK
      refine br_f (om_ts_nle (by omega)) (om_cln D hi (by omega) sr R ?_)
      by_cases c : oc_cln K V f.1.1.1 f.1.1.2 = true
      · rw [if_pos c] at UA ⊢
        simp only [if_pos c] at UC KK
        obtain ⟨⟨F1, F2⟩, UA⟩ := UA
        have hle := om_uc_le (K := K) (V := V) (stop := stop) (r := r) (h := h + 2)
        have cw := of_decide_eq_true c
        have hat : om_at fs r.length = some f.1.1.1 := by rw [efs]; exact om_at_suf
        have Pf : P (3 * f.1.1.1 + 2) = true := PL f (by rw [efs]; simp) c
        have iv : vp_in (nI r.length) 41 := vp_in_nI (by omega) (by omega)
        have c1 : (nI r.length).toNatClampNeg = r.length := nI_clamp (by omega)
        have ew : wd (nI r.length).toNatClampNeg = nI f.1.2.2.2.1 := by rw [c1]; exact R.1.2.2.2.1 cw.1 cw.2.1
        refine br_f (by decide) ⟨iv, ?_⟩
        rw [ew]
        refine om_emit (dx' := h :: dx) (en' := en) (la' := la) H (by omega) F1 (by decide) (Or.inl rfl) (om_chn0 H.2.2.1 (fun d t _ => by rw [F1]; exact ⟨by simp, by simp⟩)) (fun op1 x1 y1 H1 => ?_)
        refine And.intro iv ?_
        have el : la (nI r.length).toNatClampNeg = om_pv F (3 * f.1.1.1 + 2) (h + 1) := by rw [c1]; exact (H1.2.2.1 r.length f.1.1.1 hat).2
        rw [el]
        refine om_emit (dx' := h :: dx) (en' := en) (la' := upd la r.length (nI (h + 1))) H1 (by omega) F2 (by decide) (Or.inr ⟨rfl, by rw [if_pos Pf]⟩) (om_chnL H1.2.2.1 s hat (by rw [F2])) (fun op2 x2 y2 H2 => ?_)
        have ea : (2080 : Int32) + nI h = nI (2080 + h) := nI_add 2080 h
        refine And.intro iv (nm_r (e' := upd la r.length (nI (h + 1))) (by rw [c1, ok_sh (by omega)]) ⟨by rw [ea]; exact vp_in_nI (by omega) (by omega), nm_r (e' := upd x2 (2080 + h) (nI (h + 1 + 1))) (by rw [ea, nI_clamp (by omega)]) (nm_r ex ?_)⟩)
        refine ih (l ++ [f]) f.1.1.1 (h + 2) op2 _ y2 _ efs' (by have := sr.1; omega) sr.2.2 R.2 (om_clean H2 ?_) UA UC KK
        simp only [om_xv, F1]
        rw [if_neg (by rw [P0]; decide)]
      · rw [if_neg c] at UA ⊢
        simp only [if_neg c] at UC KK
        exact br_t rfl (nm_r ex (ih (l ++ [f]) f.1.1.1 h op x y la efs' (by have := sr.1; omega) sr.2.2 R.2 H UA UC KK))
theorem om_unw {Pst : SX → Prop} {stop : om_F → Bool} {h : Nat} {op x y la : Nat → Int32} (D : om_dr z K V N) (hfs : fs.length ≤ 40) (s : om_srt fs N) (P0 : P 0 = false) (PL : om_pl K V P fs) (H : om_ok z K V F P h dx fs EN op x y fr to hn ca opn dn wd sta en la ha be) (UA : om_ua K V F stop h fs) (UC : om_uc K V stop h fs ≤ 520)
    (KK : ∀ op' x' y' la' : Nat → Int32, om_ok z K V F P (om_uc K V stop h fs) dx fs EN op' x' y' fr to hn ca opn dn wd sta en la' ha be → Pst ((oa_tokens z), (oa_place z), (nI (om_uc K V stop h fs)), (nI w), (nI fs.length), (oa_working z), (oa_top z), (oa_steps z), (oa_says z), (oa_kind z), (oa_value z), (oa_over z), (oa_given z), (oa_thrown z), (oa_tok z), (oa_need z), (oa_num z), op', x', y', fr, to, hn, ca, (oa_there z), opn, dn, wd, sta, en, la', ha, be, (oa_local z), (oa_stack z), (oa_back z), (oa_floor z), (oa_running z), (oa_output z))) :
    wpX_unwind Pst ((oa_tokens z), (oa_place z), (nI h), (nI w), (nI fs.length), (oa_working z), (oa_top z), (oa_steps z), (oa_says z), (oa_kind z), (oa_value z), (oa_over z), (oa_given z), (oa_thrown z), (oa_tok z), (oa_need z), (oa_num z), op, x, y, fr, to, hn, ca, (oa_there z), opn, dn, wd, sta, en, la, ha, be, (oa_local z), (oa_stack z), (oa_back z), (oa_floor z), (oa_running z), (oa_output z)) (om_ts stop fs) :=
  nm_r om_ix_top ⟨fs.length + 1, om_unw7 D hfs s P0 PL fs [] N h op x y la rfl (Nat.le_refl _) s H.2.1 H UA UC KK⟩
end
section
variable {K : Nat → Nat} {V : Nat → Int32} {F : Nat → oc_I}
theorem om_ua_rt {own : Nat} : ∀ {r : List om_F} {h : Nat}, oc_At F h (oc_rt K V own h (r.map Prod.fst)) → om_ua K V F (fun _ => false) h r ∧ oc_At F (om_uc K V (fun _ => false) h r) [(1, nI own, 0, 0), (21, 0, 0, 0)] ∧ om_uc K V (fun _ => false) h r = h + 2 * oc_cr K V ((r.map Prod.fst).map Prod.fst)
  | [], h, A => ⟨trivial, A, rfl⟩
  | f :: r, h, A => by
    obtain ⟨⟨⟨t, o⟩, s, e, w, q⟩, hb⟩ := f
    simp only [List.map_cons, oc_rt] at A
    simp only [om_ua, om_uc, List.map_cons, oc_cr]
    by_cases c : oc_cln K V t o = true
    · rw [if_pos c] at A
      obtain ⟨a1, a2, a3⟩ := A
      obtain ⟨b1, b2, b3⟩ := om_ua_rt (r := r) (h := h + 2) a3
      simp only [if_pos c, Bool.false_eq_true, if_false]
      exact ⟨⟨⟨a1, a2⟩, b1⟩, b2, by omega⟩
    · rw [if_neg c] at A
      obtain ⟨b1, b2, b3⟩ := om_ua_rt (r := r) A
      simp only [if_neg c, Bool.false_eq_true, if_false]
      exact ⟨b1, b2, by omega⟩
def om_tf (K : Nat → Nat) (V : Nat → Int32) (l : Int32) (f : om_F) : Bool := oc_tgt K V l f.1.1.1 f.1.1.2
theorem om_td_ts {l : Int32} : ∀ {r : List om_F}, om_td K V l r = om_ts (om_tf K V l) r
  | [] => rfl
  | f :: r => by simp only [om_td, om_ts, om_tf]; rw [om_td_ts (r := r)]; rfl
/-- the frame of the WHILE with a label -/
def om_ft (K : Nat → Nat) (V : Nat → Int32) (l : Int32) : List om_F → Option om_F
  | [] => none
  | f :: r => if om_tf K V l f = true then some f else om_ft K V l r
theorem om_ua_jp {l : Int32} {j : Nat} : ∀ {r : List om_F} {h c : Nat}, oc_cj K V l ((r.map Prod.fst).map Prod.fst) = some c → oc_At F h (oc_jp K V l j h (r.map Prod.fst)) →
    om_ua K V F (om_tf K V l) h r ∧ om_uc K V (om_tf K V l) h r = h + 2 * c ∧ ∃ f d, om_ft K V l r = some f ∧ d < r.length ∧ om_ts (om_tf K V l) r = nI d ∧ om_at r d = some f.1.1.1 ∧ F (h + 2 * c) = (if j = 1 then (22, nI f.1.2.2.1, 0, 3 * f.1.1.1 + 1) else (22, nI f.1.2.1, 0, 0))
  | [], _, _, hc, _ => by simp [oc_cj] at hc
  | f :: r, h, c, hc, A => by
    obtain ⟨⟨⟨t, o⟩, s, e, w, q⟩, hb⟩ := f
    simp only [List.map_cons, oc_jp] at A
    simp only [List.map_cons, oc_cj] at hc
    simp only [om_ua, om_uc, om_ts, om_ft]
    by_cases g : oc_tgt K V l t o = true
    · have g' : om_tf K V l (((t, o), s, e, w, q), hb) = true := g
      rw [if_pos g] at A hc
      cases hc
      simp only [if_pos g']
      refine ⟨trivial, rfl, _, r.length, rfl, by simp, rfl, by simp [om_at], ?_⟩
      by_cases j1 : j = 1
      · rw [if_pos j1] at A ⊢; exact A.1
      · rw [if_neg j1] at A ⊢; exact A.1
    · have g' : ¬ om_tf K V l (((t, o), s, e, w, q), hb) = true := g
      rw [if_neg g] at A hc
      simp only [if_neg g']
      cases h2 : oc_cj K V l ((r.map Prod.fst).map Prod.fst) with
      | none => rw [h2] at hc; cases hc
      | some c' =>
        rw [h2] at hc
        simp only [Option.map_some, Option.some.injEq] at hc
        have AT : ∀ d, d < r.length → om_at ((((t, o), s, e, w, q), hb) :: r) d = om_at r d := by
          intro d hd; simp only [om_at]; rw [if_neg (by omega)]
        by_cases cl : oc_cln K V t o = true
        · rw [if_pos cl] at A hc
          obtain ⟨a1, a2, a3⟩ := A
          obtain ⟨b1, b2, f, d, b3, b4, b5, b6, b7⟩ := om_ua_jp (r := r) (h := h + 2) h2 a3
          simp only [if_pos cl]
          refine ⟨⟨⟨a1, a2⟩, b1⟩, by omega, f, d, b3, by simp only [List.length_cons]; omega, b5, by rw [AT d b4]; exact b6, ?_⟩
          rw [show h + 2 * c = h + 2 + 2 * c' by omega]; exact b7
        · rw [if_neg cl] at A hc
          obtain ⟨b1, b2, f, d, b3, b4, b5, b6, b7⟩ := om_ua_jp (r := r) h2 A
          simp only [if_neg cl]
          refine ⟨b1, by omega, f, d, b3, by simp only [List.length_cons]; omega, b5, by rw [AT d b4]; exact b6, ?_⟩
          rw [show h + 2 * c = h + 2 * c' by omega]; exact b7
end
end
section
/-! ===== the tags of the code ===== -/
theorem oc_At_mem {F : Nat → oc_I} : ∀ {l : List oc_I} {a b : Nat}, oc_At F a l → a ≤ b → b < a + l.length → F b ∈ l
  | [], a, b, _, h1, h2 => by simp at h2; omega
  | x :: l, a, b, ⟨g1, g2⟩, h1, h2 => by
    by_cases e : b = a
    · subst e; rw [g1]; exact List.mem_cons_self
    · refine List.mem_cons_of_mem _ (oc_At_mem g2 (by omega) ?_)
      simp only [List.length_cons] at h2; omega
theorem oc_cc_mem {α : Type} {g : Nat → List α} {x : α} : ∀ {n : Nat}, x ∈ oc_cc g n → ∃ o, o < n ∧ x ∈ g o
  | 0, h => by cases h
  | n + 1, h => by
    rcases List.mem_append.mp h with h | h
    · obtain ⟨o, h1, h2⟩ := oc_cc_mem h; exact ⟨o, by omega, h2⟩
    · exact ⟨n, by omega, h⟩
/-- a tag of an open frame, with its target -/
def oc_tx (cx : oc_X) (x : oc_I) : Prop := ∃ f, f ∈ cx ∧ ((x.2.2.2 = 3 * f.1.1 + 1 ∧ x.2.1 = nI f.2.2.1) ∨ (x.2.2.2 = 3 * f.1.1 + 2 ∧ x.2.1 = nI f.2.2.2.2))
theorem oc_tx_cons {f : (Nat × Nat) × Nat × Nat × Nat × Nat} {cx : oc_X} {x : oc_I} (h : oc_tx cx x) : oc_tx (f :: cx) x := by
  obtain ⟨g, h1, h2⟩ := h; exact ⟨g, List.mem_cons_of_mem _ h1, h2⟩
section
variable {K : Nat → Nat} {V : Nat → Int32} {C : Nat → Nat → Nat} {Q : Nat → oc_P} {B : Nat → Nat} {N : Nat}
theorem oc_jp_mem {l : Int32} {j : Nat} {x : oc_I} : ∀ {cx : oc_X} {pc : Nat}, x ∈ oc_jp K V l j pc cx → x.2.2.2 = 0 ∨ oc_tx cx x
  | [], _, h => by cases h
  | ((t, o), s, e, w, q) :: r, pc, h => by
    simp only [oc_jp] at h
    split at h
    · split at h
      · rw [List.mem_singleton] at h; subst h
        exact Or.inr ⟨_, List.mem_cons_self, Or.inl ⟨rfl, rfl⟩⟩
      · rw [List.mem_singleton] at h; subst h; exact Or.inl rfl
    · split at h
      · rcases List.mem_cons.mp h with h | h
        · subst h; exact Or.inl rfl
        · rcases List.mem_cons.mp h with h | h
          · subst h; exact Or.inr ⟨_, List.mem_cons_self, Or.inr ⟨rfl, rfl⟩⟩
          · rcases oc_jp_mem h with g | g
            · exact Or.inl g
            · exact Or.inr (oc_tx_cons g)
      · rcases oc_jp_mem h with g | g
        · exact Or.inl g
        · exact Or.inr (oc_tx_cons g)
theorem oc_rt_mem {own : Nat} {x : oc_I} : ∀ {cx : oc_X} {pc : Nat}, x ∈ oc_rt K V own pc cx → x.2.2.2 = 0 ∨ oc_tx cx x
  | [], _, h => by
    simp only [oc_rt] at h
    rcases List.mem_cons.mp h with h | h
    · subst h; exact Or.inl rfl
    · rw [List.mem_singleton] at h; subst h; exact Or.inl rfl
  | ((t, o), s, e, w, q) :: r, pc, h => by
    simp only [oc_rt] at h
    split at h
    · rcases List.mem_cons.mp h with h | h
      · subst h; exact Or.inl rfl
      · rcases List.mem_cons.mp h with h | h
        · subst h; exact Or.inr ⟨_, List.mem_cons_self, Or.inr ⟨rfl, rfl⟩⟩
        · rcases oc_rt_mem h with g | g
          · exact Or.inl g
          · exact Or.inr (oc_tx_cons g)
    · rcases oc_rt_mem h with g | g
      · exact Or.inl g
      · exact Or.inr (oc_tx_cons g)
theorem ot_Ble (WT : ot_WT K V C Q B N) {i : Nat} (hi : i < N) : ∀ s o, o + s + 1 = ot_np (K i) (V i) → B (C i o) ≤ B i := by
  obtain ⟨ok, ch, b0, b1, b2⟩ := WT.2.2.2.2.2 i hi
  intro s
  induction s with
  | zero =>
    intro o ho
    obtain ⟨_, _, _, _, _, _, p⟩ := ch o (by omega)
    rw [← p (by omega)]; exact Nat.le_refl _
  | succ s ih =>
    intro o ho
    have h1 := ih (o + 1) (by omega)
    obtain ⟨_, _, _, _, _, p, _⟩ := ch o (by omega)
    obtain ⟨_, q, _⟩ := ch (o + 1) (by omega)
    have p := p (by omega)
    have := (WT.2.2.2.2.2 _ q).2.2.2.1
    omega
theorem ot_Bc (WT : ot_WT K V C Q B N) {i o : Nat} (hi : i < N) (ho : o < ot_np (K i) (V i)) : B (C i o) ≤ B i := ot_Ble WT hi (ot_np (K i) (V i) - o - 1) o (by omega)
/-- what a token's own between-code holds -/
theorem oc_bt_mem {i n e q w a2 : Nat} {x : oc_I} (h : x ∈ oc_bt K V i n e q w a2) : x.2.2.2 = 0 ∨ x.2.2.2 = 3 * i + 3 ∨ (x.2.2.2 = 3 * i + 1 ∧ x.2.1 = nI e) ∨ (x.2.2.2 = 3 * i + 2 ∧ x.2.1 = nI q) := by
  have LV : x ∈ oc_lv V i e q w → (x.2.2.2 = 3 * i + 1 ∧ x.2.1 = nI e) ∨ (x.2.2.2 = 3 * i + 2 ∧ x.2.1 = nI q) := by
    intro h
    unfold oc_lv at h
    split at h
    · rcases List.mem_cons.mp h with h | h
      · subst h; exact Or.inl ⟨rfl, rfl⟩
      · rw [List.mem_singleton] at h; subst h; exact Or.inr ⟨rfl, rfl⟩
    · rw [List.mem_singleton] at h; subst h; exact Or.inl ⟨rfl, rfl⟩
  unfold oc_bt at h
  split at h
  · split at h
    · rw [List.mem_singleton] at h; subst h; exact Or.inr (Or.inl rfl)
    · split at h
      · rw [List.mem_singleton] at h; subst h; exact Or.inr (Or.inr (Or.inl ⟨rfl, rfl⟩))
      · cases h
  · split at h
    · rw [List.mem_singleton] at h; subst h; exact Or.inr (Or.inl rfl)
    · cases h
  · split at h
    · exact Or.inr (Or.inr (LV h))
    · split at h
      · rcases List.mem_append.mp h with h | h
        · exact Or.inr (Or.inr (LV h))
        · rcases List.mem_append.mp h with h | h
          · split at h
            · cases h
            · rw [List.mem_singleton] at h; subst h; exact Or.inl rfl
          · split at h
            · rcases List.mem_cons.mp h with h | h
              · subst h; exact Or.inl rfl
              · rcases List.mem_cons.mp h with h | h
                · subst h; exact Or.inl rfl
                · rcases List.mem_cons.mp h with h | h
                  · subst h; exact Or.inr (Or.inr (Or.inr ⟨rfl, rfl⟩))
                  · rw [List.mem_singleton] at h; subst h; exact Or.inl rfl
            · cases h
      · cases h
  · cases h
theorem oc_bg_mem {i nx : Nat} {x : oc_I} (h : x ∈ oc_bg K V i nx) : x.2.2.2 = 0 ∨ x.2.2.2 = 3 * i + 3 := by
  unfold oc_bg at h
  split at h
  · rw [List.mem_singleton] at h; subst h; exact Or.inl rfl
  · rw [List.mem_singleton] at h; subst h; exact Or.inr rfl
  · cases h
theorem oc_fi_mem {i a h0 w wl : Nat} {cx : oc_X} {x : oc_I} (h : x ∈ oc_fi K V i a h0 w wl cx) : x.2.2.2 = 0 ∨ oc_tx cx x := by
  unfold oc_fi at h
  split at h
  · cases h
  · cases h
  · cases h
  · cases h
  · rw [List.mem_singleton] at h; subst h; exact Or.inl rfl
  · split at h
    · rw [List.mem_singleton] at h; subst h; exact Or.inl rfl
    · cases h
  · split at h
    · cases h
    · exact oc_jp_mem h
  · split at h
    · cases h
    · exact oc_jp_mem h
  · split at h
    · rw [List.mem_singleton] at h; subst h; exact Or.inl rfl
    · rcases List.mem_cons.mp h with h | h
      · subst h; exact Or.inl rfl
      · exact oc_rt_mem h
  · rw [List.mem_singleton] at h; subst h; exact Or.inl rfl
  · rw [List.mem_singleton] at h; subst h; exact Or.inl rfl
  · rw [List.mem_singleton] at h; subst h; exact Or.inl rfl
  · rw [List.mem_singleton] at h; subst h; exact Or.inl rfl
  · rw [List.mem_singleton] at h; subst h; exact Or.inl rfl
  · rw [List.mem_singleton] at h; subst h; exact Or.inl rfl
/-- the tags of a token's code: none, an open frame's, or of the token and those below it -/
theorem oc_tag (WT : ot_WT K V C Q B N) : ∀ (m i a w : Nat) (cx : oc_X) (x : oc_I), i < N → (∀ f, f ∈ cx → f.1.1 < i) → x ∈ oc_cod K V C (m + 1) i a w cx →
    (x.2.2.2 = 0 ∨ oc_tx cx x ∨ (3 * i + 1 ≤ x.2.2.2 ∧ x.2.2.2 ≤ 3 * B i)) ∧ (x.2.2.2 = 3 * i + 1 → x.2.1 = nI (a + oc_ln K V C (m + 1) i (cx.map Prod.fst))) ∧ (x.2.2.2 = 3 * i + 2 → x.2.1 = nI (a + oc_ca K V C m i (cx.map Prod.fst) (1 + ot_nc (V i)))) := by
  intro m
  have GEN : ∀ (m i a w : Nat) (cx : oc_X) (x : oc_I), i < N → (∀ f, f ∈ cx → f.1.1 < i) → (∀ (c a' w' : Nat) (cx' : oc_X), c < N → (∀ f, f ∈ cx' → f.1.1 < c) → x ∈ oc_cod K V C m c a' w' cx' → x.2.2.2 = 0 ∨ oc_tx cx' x ∨ (3 * c + 1 ≤ x.2.2.2 ∧ x.2.2.2 ≤ 3 * B c)) → x ∈ oc_cod K V C (m + 1) i a w cx →
      (x.2.2.2 = 0 ∨ oc_tx cx x ∨ (3 * i + 1 ≤ x.2.2.2 ∧ x.2.2.2 ≤ 3 * B i)) ∧ (x.2.2.2 = 3 * i + 1 → x.2.1 = nI (a + oc_ln K V C (m + 1) i (cx.map Prod.fst))) ∧ (x.2.2.2 = 3 * i + 2 → x.2.1 = nI (a + oc_ca K V C m i (cx.map Prod.fst) (1 + ot_nc (V i)))) := by
    intro m i a w cx x hi hcx IH hx
    obtain ⟨ok, ch, b0, b1, b2⟩ := WT.2.2.2.2.2 i hi
    have TX : oc_tx cx x → x.2.2.2 ≠ 3 * i + 1 ∧ x.2.2.2 ≠ 3 * i + 2 := by
      rintro ⟨f, h1, h2⟩
      have := hcx f h1
      rcases h2 with ⟨h2, _⟩ | ⟨h2, _⟩ <;> omega
    unfold oc_cod at hx
    rcases List.mem_append.mp hx with hx | hx
    · rcases oc_bg_mem hx with g | g
      · exact ⟨Or.inl g, fun e => by omega, fun e => by omega⟩
      · exact ⟨Or.inr (Or.inr (by omega)), fun e => by omega, fun e => by omega⟩
    · rcases List.mem_append.mp hx with hx | hx
      · obtain ⟨o, ho, hx⟩ := oc_cc_mem hx
        obtain ⟨c1, c2, _⟩ := ch o ho
        rcases List.mem_append.mp hx with hx | hx
        · have := IH (C i o) _ _ _ c2 (fun f hf => by
            rcases List.mem_cons.mp hf with e | e
            · subst e; exact c1
            · have := hcx f e; omega) hx
          rcases this with g | g | g
          · exact ⟨Or.inl g, fun e => by omega, fun e => by omega⟩
          · obtain ⟨f, h1, h2⟩ := g
            rcases List.mem_cons.mp h1 with e | e
            · subst e
              rcases h2 with ⟨h2, h3⟩ | ⟨h2, h3⟩
              · have h2 : x.2.2.2 = 3 * i + 1 := h2
                exact ⟨Or.inr (Or.inr (by omega)), fun _ => h3, fun e => by omega⟩
              · have h2 : x.2.2.2 = 3 * i + 2 := h2
                exact ⟨Or.inr (Or.inr (by omega)), fun e => by omega, fun _ => h3⟩
            · have tx : oc_tx cx x := ⟨f, e, h2⟩
              exact ⟨Or.inr (Or.inl tx), fun e => absurd e (TX tx).1, fun e => absurd e (TX tx).2⟩
          · have := ot_Bc WT hi ho
            exact ⟨Or.inr (Or.inr (by omega)), fun e => by omega, fun e => by omega⟩
        · rcases oc_bt_mem hx with g | g | ⟨g, g2⟩ | ⟨g, g2⟩
          · exact ⟨Or.inl g, fun e => by omega, fun e => by omega⟩
          · exact ⟨Or.inr (Or.inr (by omega)), fun e => by omega, fun e => by omega⟩
          · exact ⟨Or.inr (Or.inr (by omega)), fun _ => g2, fun e => by omega⟩
          · exact ⟨Or.inr (Or.inr (by omega)), fun e => by omega, fun _ => g2⟩
      · rcases oc_fi_mem hx with g | g
        · exact ⟨Or.inl g, fun e => by omega, fun e => by omega⟩
        · exact ⟨Or.inr (Or.inl g), fun e => absurd e (TX g).1, fun e => absurd e (TX g).2⟩
  induction m with
  | zero =>
    intro i a w cx x hi hcx hx
    exact GEN 0 i a w cx x hi hcx (fun _ _ _ _ _ _ h => by cases h) hx
  | succ m ih =>
    intro i a w cx x hi hcx hx
    exact GEN (m + 1) i a w cx x hi hcx (fun c a' w' cx' h1 h2 h3 => (ih c a' w' cx' x h1 h2 h3).1) hx
end
end
section
/-! ===== X's compiler: frames; the parts of a TRY ===== -/
theorem om_rp_cg {K : Nat → Nat} {V : Nat → Int32} {opn dn wd sta ha be opn' dn' wd' sta' ha' be' : Nat → Int32} : ∀ {fs : List om_F}, om_rp K V opn dn wd sta ha be fs → (∀ d, d < fs.length → opn' d = opn d ∧ dn' d = dn d ∧ wd' d = wd d ∧ sta' d = sta d ∧ ha' d = ha d ∧ be' d = be d) → om_rp K V opn' dn' wd' sta' ha' be' fs
  | [], _, _ => trivial
  | f :: r, ⟨⟨p1, p2, p3, p4, p5, p6⟩, R⟩, h => by
    obtain ⟨g1, g2, g3, g4, g5, g6⟩ := h r.length (by simp)
    exact ⟨⟨g1.trans p1, g2.trans p2, g4.trans p3, fun a b => g3.trans (p4 a b), g5.trans p5, g6.trans p6⟩, om_rp_cg R (fun d hd => h d (by simp only [List.length_cons]; omega))⟩
section
variable {z : SX} {K : Nat → Nat} {V : Nat → Int32} {F : Nat → oc_I} {P : Nat → Bool} {h w N : Nat} {dx : List Nat} {fs : List om_F} {EN : List (Nat × Nat × Nat)} {op x y fr to hn ca opn dn wd sta en la ha be : Nat → Int32}
/-- another head: the same token and places -/
theorem om_head {f f' : om_F} {dn' ha' be' : Nat → Int32} (H : om_ok z K V F P h dx (f :: fs) EN op x y fr to hn ca opn dn wd sta en la ha be) (ht : f'.1.1.1 = f.1.1.1) (hs : f'.1.2 = f.1.2) (hc : ∀ d, d < fs.length → dn' d = dn d ∧ ha' d = ha d ∧ be' d = be d) (hd : dn' fs.length = nI f'.1.1.2) (hh : ha' fs.length = f'.2.1) (hb : be' fs.length = f'.2.2) :
    om_ok z K V F P h dx (f' :: fs) EN op x y fr to hn ca opn dn' wd sta en la ha' be' := by
  obtain ⟨h1, ⟨⟨p1, p2, p3, p4, p5, p6⟩, R⟩, h3, h4⟩ := H
  refine ⟨h1, ⟨⟨by rw [ht]; exact p1, hd, by rw [hs]; exact p3, by rw [ht, hs]; exact p4, hh, hb⟩, om_rp_cg R (fun d hd => ?_)⟩, ?_, h4⟩
  · obtain ⟨a1, a2, a3⟩ := hc d hd
    exact ⟨rfl, a1, rfl, rfl, a2, a3⟩
  · intro d t hd
    refine h3 d t ?_
    simp only [om_at] at hd ⊢
    rw [← ht]; exact hd
/-- without the head -/
theorem om_tail {f : om_F} {i : Nat} (s : om_srt (f :: fs) i) (H : om_ok z K V F P h dx (f :: fs) EN op x y fr to hn ca opn dn wd sta en la ha be) : om_ok z K V F P h dx fs EN op x y fr to hn ca opn dn wd sta en la ha be := by
  obtain ⟨h1, ⟨_, R⟩, h3, h4⟩ := H
  refine ⟨h1, R, fun d t hd => h3 d t ?_, h4⟩
  simp only [om_at]
  have := om_at_lt hd
  rw [if_neg (by omega)]; exact hd
/-- how a part of a TRY is left -/
theorem om_leave {Pst : SX → Prop} {f : om_F} {i e q w0 : Nat} {vz : Int32} (hr : fs.length < 40) (s : om_srt (f :: fs) i) (H : om_ok z K V F P h dx (f :: fs) EN op x y fr to hn ca opn dn wd sta en la ha be) (hk : K f.1.1.1 = 17) (hw0 : f.1.2.2.2.1 = w0) (hvz : vz = if ot_cl (V f.1.1.1) = true then 1 else 0) (A : oc_At F h (oc_lv V f.1.1.1 e q w0)) (hh : h + oc_gl (V f.1.1.1) ≤ 520) (P1 : P (3 * f.1.1.1 + 1) = true) (P2 : ot_cl (V f.1.1.1) = true → P (3 * f.1.1.1 + 2) = true)
    (KK : ∀ op x y en la : Nat → Int32, om_ok z K V F P (h + oc_gl (V f.1.1.1)) dx (f :: fs) EN op x y fr to hn ca opn dn wd sta en la ha be → Pst ((oa_tokens z), (oa_place z), (nI (h + oc_gl (V f.1.1.1))), (nI w), (nI (f :: fs).length), (oa_working z), (oa_top z), (oa_steps z), (oa_says z), (oa_kind z), (oa_value z), (oa_over z), (oa_given z), (oa_thrown z), (oa_tok z), (oa_need z), (oa_num z), op, x, y, fr, to, hn, ca, (oa_there z), opn, dn, wd, sta, en, la, ha, be, (oa_local z), (oa_stack z), (oa_back z), (oa_floor z), (oa_running z), (oa_output z))) :
    wpX_leaveNormally Pst ((oa_tokens z), (oa_place z), (nI h), (nI w), (nI (f :: fs).length), (oa_working z), (oa_top z), (oa_steps z), (oa_says z), (oa_kind z), (oa_value z), (oa_over z), (oa_given z), (oa_thrown z), (oa_tok z), (oa_need z), (oa_num z), op, x, y, fr, to, hn, ca, (oa_there z), opn, dn, wd, sta, en, la, ha, be, (oa_local z), (oa_stack z), (oa_back z), (oa_floor z), (oa_running z), (oa_output z)) (nI fs.length) vz := by
  have iv : vp_in (nI fs.length) 41 := vp_in_nI (by omega) (by omega)
  have c1 : (nI fs.length).toNatClampNeg = fs.length := nI_clamp (by omega)
  have hat : om_at (f :: fs) fs.length = some f.1.1.1 := by simp [om_at]
  have ee : en (nI fs.length).toNatClampNeg = om_pv F (3 * f.1.1.1 + 1) h := by rw [c1]; exact (H.2.2.1 _ _ hat).1
  unfold oc_lv at A
  by_cases hc : ot_cl (V f.1.1.1) = true
  · have gl : oc_gl (V f.1.1.1) = 2 := by unfold oc_gl; rw [if_pos hc]
    rw [if_pos hc] at A hvz
    subst hvz
    obtain ⟨F1, F2, _⟩ := A
    rw [gl] at hh KK
    refine br_f (by decide) ⟨iv, iv, ?_⟩
    have ew : wd (nI fs.length).toNatClampNeg = nI w0 := by rw [c1, ← hw0]; exact H.2.1.1.2.2.2.1 hk hc
    rw [ee, ew]
    refine om_emit (dx' := dx) (en' := upd en fs.length (nI h)) (la' := la) H (by omega) F1 (by decide) (Or.inr ⟨rfl, by rw [if_pos P1]⟩) (om_chnE H.2.2.1 s hat (by rw [F1])) (fun op1 x1 y1 H1 => ?_)
    refine And.intro iv (nm_r (e' := upd en fs.length (nI h)) (by rw [c1, ok_sh (by omega)]) ⟨iv, ?_⟩)
    have el : la (nI fs.length).toNatClampNeg = om_pv F (3 * f.1.1.1 + 2) (h + 1) := by rw [c1]; exact (H1.2.2.1 _ _ hat).2
    rw [el]
    refine om_emit (dx' := dx) (en' := upd en fs.length (nI h)) (la' := upd la fs.length (nI (h + 1))) H1 (by omega) F2 (by decide) (Or.inr ⟨rfl, by rw [if_pos (P2 hc)]⟩) (om_chnL H1.2.2.1 s hat (by rw [F2])) (fun op2 x2 y2 H2 => ?_)
    exact And.intro iv (nm_r (e' := upd la fs.length (nI (h + 1))) (by rw [c1, ok_sh (by omega)]) (KK _ _ _ _ _ H2))
  · have gl : oc_gl (V f.1.1.1) = 1 := by unfold oc_gl; rw [if_neg hc]
    rw [if_neg hc] at A hvz
    subst hvz
    obtain ⟨F1, _⟩ := A
    rw [gl] at hh KK
    refine br_t rfl ⟨iv, ?_⟩
    rw [ee]
    refine om_emit (dx' := dx) (en' := upd en fs.length (nI h)) (la' := la) H (by omega) F1 (by decide) (Or.inr ⟨rfl, by rw [if_pos P1]⟩) (om_chnE H.2.2.1 s hat (by rw [F1])) (fun op1 x1 y1 H1 => ?_)
    exact And.intro iv (nm_r (e' := upd en fs.length (nI h)) (by rw [c1, ok_sh (by omega)]) (KK _ _ _ _ _ H1))
/-- the exception's way into the finally part -/
theorem om_141 {Pst : SX → Prop} {f : om_F} {i e : Nat} (hr : fs.length < 40) (s : om_srt (f :: fs) i) (H : om_ok z K V F P h dx (f :: fs) EN op x y fr to hn ca opn dn wd sta en la ha be) (hk : K f.1.1.1 = 17) (hc : ot_cl (V f.1.1.1) = true) (hdx : ∀ a, a ∈ dx → (F a).2.2.2 % 3 = 0) (P0 : P 0 = false) (P2 : P (3 * f.1.1.1 + 2) = true)
    (A : oc_At F h [(26, nI (f.1.2.2.2.1 + 1), 0, 0), (24, nI (h + 3), nI f.1.2.2.2.1, 0), (22, nI (h + 4), 0, 3 * f.1.1.1 + 2), (27, nI (f.1.2.2.2.1 + 1), 0, 0)]) (hh : h + 4 ≤ 520) (hn2 : EN.length < 30) (hst : f.1.2.1 < 1000) (he : e < 1000) (hw1 : f.1.2.2.2.1 < 100) (EX : ∀ a, a < h + 4 → (F a).2.2.2 = 3 * f.1.1.1 + 2 → (F a).2.1 = nI (h + 4))
    (KK : ∀ op x y fr to hn ca la : Nat → Int32, om_ok z K V F (om_rm P (3 * f.1.1.1 + 2)) (h + 4) dx (f :: fs) (EN ++ [(f.1.2.1, e, h)]) op x y fr to hn ca opn dn wd sta en la ha be → Pst ((oa_tokens z), (oa_place z), (nI (h + 4)), (nI w), (nI (f :: fs).length), (oa_working z), (oa_top z), (oa_steps z), (oa_says z), (oa_kind z), (oa_value z), (oa_over z), (oa_given z), (oa_thrown z), (oa_tok z), (oa_need z), (oa_num z), op, x, y, fr, to, hn, ca, (oa_there z), opn, dn, wd, sta, en, la, ha, be, (oa_local z), (oa_stack z), (oa_back z), (oa_floor z), (oa_running z), (oa_output z))) :
    wX_partOfTry_141 Pst (nI fs.length) 1 (nI e) (oa_tokens z) (oa_place z) (nI h) (nI w) (nI (f :: fs).length) (oa_working z) (oa_top z) (oa_steps z) (oa_says z) (oa_kind z) (oa_value z) (oa_over z) (oa_given z) (oa_thrown z) (oa_tok z) (oa_need z) (oa_num z) op x y fr to hn ca (oa_there z) opn dn wd sta en la ha be (oa_local z) (oa_stack z) (oa_back z) (oa_floor z) (oa_running z) (oa_output z) := by
  have iv : vp_in (nI fs.length) 41 := vp_in_nI (by omega) (by omega)
  have c1 : (nI fs.length).toNatClampNeg = fs.length := nI_clamp (by omega)
  have hat : om_at (f :: fs) fs.length = some f.1.1.1 := by simp [om_at]
  have es : sta (nI fs.length).toNatClampNeg = nI f.1.2.1 := by rw [c1]; exact H.2.1.1.2.2.1
  have ew : wd (nI fs.length).toNatClampNeg = nI f.1.2.2.2.1 := by rw [c1]; exact H.2.1.1.2.2.2.1 hk hc
  obtain ⟨F1, F2, F3, F4, _⟩ := A
  have nt0 : ∀ hh : Nat, (F hh).2.2.2 = 0 → ∀ d t, om_at (f :: fs) d = some t → (F hh).2.2.2 ≠ 3 * t + 1 ∧ (F hh).2.2.2 ≠ 3 * t + 2 := by
    intro hh e d t _; rw [e]; omega
  refine br_f (by decide) ⟨iv, ?_⟩
  rw [es]
  refine om_prot H hn2 hst he (by omega) (fun fr1 to1 hn1 ca1 H1 => ?_)
  refine And.intro iv ?_
  rw [ew, nI_1]
  refine om_emit (dx' := dx) (en' := en) (la' := la) H1 (by omega) F1 (by decide) (Or.inr ⟨rfl, by rw [if_neg (by rw [P0]; decide)]⟩) (om_chn0 H1.2.2.1 (nt0 _ (by rw [F1]))) (fun op2 x2 y2 H2 => ?_)
  refine And.intro iv ?_
  rw [ew]
  refine om_emit (dx' := (h + 1) :: dx) (en' := en) (la' := la) H2 (by omega) F2 (by decide) (Or.inl rfl) (om_chn0 H2.2.2.1 (nt0 _ (by rw [F2]))) (fun op3 x3 y3 H3 => ?_)
  refine And.intro iv ?_
  have el : la (nI fs.length).toNatClampNeg = om_pv F (3 * f.1.1.1 + 2) (h + 1 + 1) := by rw [c1]; exact (H3.2.2.1 _ _ hat).2
  rw [el]
  refine om_emit (dx' := (h + 1) :: dx) (en' := en) (la' := upd la fs.length (nI (h + 1 + 1))) H3 (by omega) F3 (by decide) (Or.inr ⟨rfl, by rw [if_pos P2]⟩) (om_chnL H3.2.2.1 s hat (by rw [F3])) (fun op4 x4 y4 H4 => ?_)
  have ea : (2080 : Int32) + nI (h + 1) = nI (2080 + (h + 1)) := nI_add 2080 _
  refine And.intro iv (nm_r (e' := upd la fs.length (nI (h + 1 + 1))) (by rw [c1, ok_sh (by omega)]) ⟨by rw [ea]; exact vp_in_nI (by omega) (by omega), nm_r (e' := upd x4 (2080 + (h + 1)) (nI (h + 1 + 1 + 1))) (by rw [ea, nI_clamp (by omega)]) ⟨iv, ?_⟩⟩)
  have H5 := om_clean (v := nI (h + 1 + 1 + 1)) H4 (by simp only [om_xv, F2]; rw [if_neg (by rw [P0]; decide)])
  rw [ew, nI_1]
  refine om_emit (dx' := dx) (en' := en) (la' := upd la fs.length (nI (h + 1 + 1))) H5 (by omega) F4 (by decide) (Or.inr ⟨rfl, by rw [if_neg (by rw [P0]; decide)]⟩) (om_chn0 H5.2.2.1 (nt0 _ (by rw [F4]))) (fun op6 x6 y6 H6 => ?_)
  refine And.intro iv ?_
  have el6 : upd la fs.length (nI (h + 1 + 1)) (nI fs.length).toNatClampNeg = om_pv F (3 * f.1.1.1 + 2) (h + 1 + 1 + 1 + 1) := by rw [c1]; exact (H6.2.2.1 _ _ hat).2
  rw [el6]
  refine om_fill (v := h + 4) H6 (fun a ha e => by have := hdx a ha; omega) (by omega) P2 EX (fun x7 H7 => ?_)
  exact KK _ _ _ _ _ _ _ _ H7
end
end
section
/-! ===== X's compiler: a part of a TRY is complete ===== -/
section
variable {z : SX} {K : Nat → Nat} {V : Nat → Int32} {C : Nat → Nat → Nat} {F : Nat → oc_I} {P : Nat → Bool} {h w N : Nat} {dx : List Nat} {fs : List om_F} {EN : List (Nat × Nat × Nat)} {op x y fr to hn ca opn dn wd sta en la ha be : Nat → Int32}
theorem om_pot {Pst : SX → Prop} {i m h0 w0 n ac j : Nat} {hd b0 : Int32} {dxi : List Nat} (k : K i = 17) (ok : ot_ok (K i) (V i)) (hr : fs.length < 40) (s : om_srt ((oc_fr K V C m i h0 w0 (fs.map Prod.fst) n, (hd, b0)) :: fs) j)
    (H : om_ok z K V F P h dxi ((oc_fr K V C m i h0 w0 (fs.map Prod.fst) n, (hd, b0)) :: fs) EN op x y fr to hn ca opn dn wd sta en la ha be) (hn1 : 1 ≤ n) (hnp : n ≤ ot_np (K i) (V i)) (hh : h = h0 + oc_ca K V C m i ((fs.map Prod.fst).map Prod.fst) (n - 1) + oc_ln K V C m (C i (n - 1)) ((i, (n - 1)) :: (fs.map Prod.fst).map Prod.fst))
    (A : oc_At F h (oc_bt K V i n (h0 + oc_ln K V C (m + 1) i ((fs.map Prod.fst).map Prod.fst)) (h0 + oc_ca K V C m i ((fs.map Prod.fst).map Prod.fst) (1 + ot_nc (V i))) w0 (h0 + oc_ca K V C m i ((fs.map Prod.fst).map Prod.fst) 2))) (P1 : P (3 * i + 1) = true) (P2 : ot_cl (V i) = true → n ≤ 1 + ot_nc (V i) → P (3 * i + 2) = true) (PM : ∀ q, q % 3 = 0 → P q = false) (hdx : ∀ a, a ∈ dx → (F a).2.2.2 % 3 = 0)
    (hdxi : dxi = if 1 < n ∧ n ≤ 1 + ot_nc (V i) then ac :: dx else dx) (hac : 1 < n → n ≤ 1 + ot_nc (V i) → ac < 520 ∧ ha (fs.length + 1) = nI ac ∧ (F ac).2.1 = nI (h + oc_gl (V i)) ∧ (F ac).2.2.2 % 3 = 0) (hbe : 1 < n → b0 = nI (h0 + oc_ln K V C m (C i 0) ((i, 0) :: (fs.map Prod.fst).map Prod.fst)))
    (hb : h0 + oc_ca K V C m i ((fs.map Prod.fst).map Prod.fst) n ≤ 520) (hE : n = 1 + ot_nc (V i) → EN.length + 2 ≤ 30) (hw : w0 < 100) (EX : ∀ a, a < (h0 + oc_ca K V C m i ((fs.map Prod.fst).map Prod.fst) (1 + ot_nc (V i))) → (F a).2.2.2 = 3 * i + 2 → (F a).2.1 = nI (h0 + oc_ca K V C m i ((fs.map Prod.fst).map Prod.fst) (1 + ot_nc (V i))))
    (KK : ∀ op x y fr to hn ca en la be : Nat → Int32, om_ok z K V F (if ot_cl (V i) = true ∧ n = 1 + ot_nc (V i) then om_rm P (3 * i + 2) else P) (h0 + oc_ca K V C m i ((fs.map Prod.fst).map Prod.fst) n) dx ((oc_fr K V C m i h0 w0 (fs.map Prod.fst) n, (hd, (if n ≤ 1 + ot_nc (V i) then nI (h0 + oc_ln K V C m (C i 0) ((i, 0) :: (fs.map Prod.fst).map Prod.fst)) else b0))) :: fs) (EN ++ oc_own (K i) (V i) n h0 (h0 + oc_ln K V C m (C i 0) ((i, 0) :: (fs.map Prod.fst).map Prod.fst)) (h0 + oc_ca K V C m i ((fs.map Prod.fst).map Prod.fst) (1 + ot_nc (V i)))) op x y fr to hn ca opn dn wd sta en la ha be → Pst ((oa_tokens z), (oa_place z), (nI (h0 + oc_ca K V C m i ((fs.map Prod.fst).map Prod.fst) n)), (nI w), (nI (fs.length + 1)), (oa_working z), (oa_top z), (oa_steps z), (oa_says z), (oa_kind z), (oa_value z), (oa_over z), (oa_given z), (oa_thrown z), (oa_tok z), (oa_need z), (oa_num z), op, x, y, fr, to, hn, ca, (oa_there z), opn, dn, wd, sta, en, la, ha, be, (oa_local z), (oa_stack z), (oa_back z), (oa_floor z), (oa_running z), (oa_output z))) :
    wpX_partOfTry Pst ((oa_tokens z), (oa_place z), (nI h), (nI w), (nI (fs.length + 1)), (oa_working z), (oa_top z), (oa_steps z), (oa_says z), (oa_kind z), (oa_value z), (oa_over z), (oa_given z), (oa_thrown z), (oa_tok z), (oa_need z), (oa_num z), op, x, y, fr, to, hn, ca, (oa_there z), opn, dn, wd, sta, en, la, ha, be, (oa_local z), (oa_stack z), (oa_back z), (oa_floor z), (oa_running z), (oa_output z)) (nI fs.length) (V i) (nI n) := by
  rw [k] at ok
  obtain ⟨v3, vc⟩ := ot_v17b ok
  have nc2 := ot_nc_le (V i)
  have np : ot_np (K i) (V i) = 1 + ot_nc (V i) + (if ot_cl (V i) = true then 1 else 0) := by rw [k]; rfl
  have np5 : ot_np (K i) (V i) ≤ 4 := by rw [np]; split <;> omega
  have lbt : ∀ x, oc_lbt (K i) (V i) x = if x ≤ ot_nc (V i) then oc_gl (V i) else if x = 1 + ot_nc (V i) then oc_gl (V i) + (if ot_nc (V i) = 0 then 0 else 1) + (if ot_cl (V i) = true then 4 else 0) else 0 := by intro x; rw [k]; rfl
  have cas := oc_ca_s K V C m i ((fs.map Prod.fst).map Prod.fst) (n - 1)
  rw [show n - 1 + 1 = n by omega, lbt] at cas
  have ca0 : oc_ca K V C m i ((fs.map Prod.fst).map Prod.fst) 0 = 0 := by rw [oc_ca_0, k]; rfl
  have iv : vp_in (nI fs.length) 41 := vp_in_nI (by omega) (by omega)
  have c1 : (nI fs.length).toNatClampNeg = fs.length := nI_clamp (by omega)
  have glp := oc_gl_pos (V i)
  have s1 : om_srt ((oc_fr K V C m i h0 w0 (fs.map Prod.fst) n, (hd, nI (h0 + oc_ln K V C m (C i 0) ((i, 0) :: (fs.map Prod.fst).map Prod.fst)))) :: fs) j := s
  have gl2 : oc_gl (V i) ≤ 2 := by unfold oc_gl; split <;> omega
  refine nm_r (e' := nI (ot_nc (V i))) v3 ?_
  have vz : ∀ zv : Int32, zv = (if ot_cl (V i) = true then 1 else 0) → wX_partOfTry_15 Pst (nI fs.length) (nI n) (nI (ot_nc (V i))) zv (oa_tokens z) (oa_place z) (nI h) (nI w) (nI (fs.length + 1)) (oa_working z) (oa_top z) (oa_steps z) (oa_says z) (oa_kind z) (oa_value z) (oa_over z) (oa_given z) (oa_thrown z) (oa_tok z) (oa_need z) (oa_num z) op x y fr to hn ca (oa_there z) opn dn wd sta en la ha be (oa_local z) (oa_stack z) (oa_back z) (oa_floor z) (oa_running z) (oa_output z) := by
    intro zv ezv
    by_cases hnn : n ≤ 1 + ot_nc (V i)
    · have e1 : (1 : Int32) + nI (ot_nc (V i)) = nI (1 + ot_nc (V i)) := nI_add 1 _
      refine br_t (by rw [e1]; exact nI_le hnn (by omega)) ?_
      -- from the leaving on, with the body's end set
      have L42 : ∀ be1 : Nat → Int32, (∀ d, d < fs.length → be1 d = be d) → be1 fs.length = nI (h0 + oc_ln K V C m (C i 0) ((i, 0) :: (fs.map Prod.fst).map Prod.fst)) → wX_partOfTry_42 Pst (nI fs.length) (nI n) (nI (ot_nc (V i))) zv (oa_tokens z) (oa_place z) (nI h) (nI w) (nI (fs.length + 1)) (oa_working z) (oa_top z) (oa_steps z) (oa_says z) (oa_kind z) (oa_value z) (oa_over z) (oa_given z) (oa_thrown z) (oa_tok z) (oa_need z) (oa_num z) op x y fr to hn ca (oa_there z) opn dn wd sta en la ha be1 (oa_local z) (oa_stack z) (oa_back z) (oa_floor z) (oa_running z) (oa_output z) := by
        intro be1 q1 q2
        have H1 : om_ok z K V F P h dxi ((oc_fr K V C m i h0 w0 (fs.map Prod.fst) n, (hd, nI (h0 + oc_ln K V C m (C i 0) ((i, 0) :: (fs.map Prod.fst).map Prod.fst)))) :: fs) EN op x y fr to hn ca opn dn wd sta en la ha be1 :=
          om_head H rfl rfl (fun d hd => ⟨rfl, rfl, q1 d hd⟩) H.2.1.1.2.1 H.2.1.1.2.2.2.2.1 q2
        simp only [oc_bt, k] at A
        have ALV : oc_At F h (oc_lv V i (h0 + oc_ln K V C (m + 1) i ((fs.map Prod.fst).map Prod.fst)) (h0 + oc_ca K V C m i ((fs.map Prod.fst).map Prod.fst) (1 + ot_nc (V i))) w0) := by
          by_cases c : n ≤ ot_nc (V i)
          · rw [if_pos c] at A; exact A
          · rw [if_neg c, if_pos (by omega)] at A; exact (oc_At_app.mp A).1
        have hgl : h + oc_gl (V i) ≤ h0 + oc_ca K V C m i ((fs.map Prod.fst).map Prod.fst) n := by
          rw [cas]; by_cases c : n ≤ ot_nc (V i)
          · rw [if_pos c]; omega
          · rw [if_neg c, if_pos (by omega)]; omega
        refine om_leave (q := (h0 + oc_ca K V C m i ((fs.map Prod.fst).map Prod.fst) (1 + ot_nc (V i)))) (e := h0 + oc_ln K V C (m + 1) i ((fs.map Prod.fst).map Prod.fst)) hr s1 H1 k rfl ezv ALV (by show h + oc_gl (V i) ≤ 520; omega) P1 (fun hc => P2 hc hnn) (fun op2 x2 y2 en2 la2 H2 => ?_)
        have H2 : om_ok z K V F P (h + oc_gl (V i)) dxi ((oc_fr K V C m i h0 w0 (fs.map Prod.fst) n, (hd, nI (h0 + oc_ln K V C m (C i 0) ((i, 0) :: (fs.map Prod.fst).map Prod.fst)))) :: fs) EN op2 x2 y2 fr to hn ca opn dn wd sta en2 la2 ha be1 := H2
        -- behind the mending of the catch
        have L75 : ∀ x3 : Nat → Int32, om_ok z K V F P (h + oc_gl (V i)) dx ((oc_fr K V C m i h0 w0 (fs.map Prod.fst) n, (hd, nI (h0 + oc_ln K V C m (C i 0) ((i, 0) :: (fs.map Prod.fst).map Prod.fst)))) :: fs) EN op2 x3 y2 fr to hn ca opn dn wd sta en2 la2 ha be1 → wX_partOfTry_75 Pst (nI fs.length) (nI n) (nI (ot_nc (V i))) zv (oa_tokens z) (oa_place z) (nI (h + oc_gl (V i))) (nI w) (nI (fs.length + 1)) (oa_working z) (oa_top z) (oa_steps z) (oa_says z) (oa_kind z) (oa_value z) (oa_over z) (oa_given z) (oa_thrown z) (oa_tok z) (oa_need z) (oa_num z) op2 x3 y2 fr to hn ca (oa_there z) opn dn wd sta en2 la2 ha be1 (oa_local z) (oa_stack z) (oa_back z) (oa_floor z) (oa_running z) (oa_output z) := by
          intro x3 H3
          by_cases c : n ≤ ot_nc (V i)
          · refine br_f (nI_nlt c (by omega)) ?_
            rw [if_pos c] at cas
            have own0 : oc_own (K i) (V i) n h0 (h0 + oc_ln K V C m (C i 0) ((i, 0) :: (fs.map Prod.fst).map Prod.fst)) (h0 + oc_ca K V C m i ((fs.map Prod.fst).map Prod.fst) (1 + ot_nc (V i))) = [] := by unfold oc_own; rw [if_neg (by omega)]
            have KK2 := KK op2 x3 y2 fr to hn ca en2 la2 be1
            rw [if_neg (by omega), if_pos hnn, own0, List.append_nil, show h0 + oc_ca K V C m i ((fs.map Prod.fst).map Prod.fst) n = h + oc_gl (V i) by omega] at KK2
            exact KK2 H3
          · have n1 : n = 1 + ot_nc (V i) := by omega
            rw [if_neg c, if_pos n1] at cas
            rw [if_neg c, if_pos n1] at A
            have A2 := (oc_At_app.mp A).2
            rw [oc_lv_len] at A2
            obtain ⟨A3, A4⟩ := oc_At_app.mp A2
            have hE := hE n1
            refine br_t (nI_lt (by omega) (by omega)) ?_
            -- the last step
            have L141 : ∀ (h' : Nat) (EN' : List (Nat × Nat × Nat)) (op4 x4 y4 fr4 to4 hn4 ca4 : Nat → Int32), h' = h + oc_gl (V i) + (if ot_nc (V i) = 0 then 0 else 1) → EN'.length < 30 → EN' = EN ++ (if ot_nc (V i) = 0 then [] else [(h0, h0 + oc_ln K V C m (C i 0) ((i, 0) :: (fs.map Prod.fst).map Prod.fst), h0 + oc_ln K V C m (C i 0) ((i, 0) :: (fs.map Prod.fst).map Prod.fst) + oc_gl (V i))]) → om_ok z K V F P h' dx ((oc_fr K V C m i h0 w0 (fs.map Prod.fst) n, (hd, nI (h0 + oc_ln K V C m (C i 0) ((i, 0) :: (fs.map Prod.fst).map Prod.fst)))) :: fs) EN' op4 x4 y4 fr4 to4 hn4 ca4 opn dn wd sta en2 la2 ha be1 →
                wX_partOfTry_141 Pst (nI fs.length) zv (nI h') (oa_tokens z) (oa_place z) (nI h') (nI w) (nI (fs.length + 1)) (oa_working z) (oa_top z) (oa_steps z) (oa_says z) (oa_kind z) (oa_value z) (oa_over z) (oa_given z) (oa_thrown z) (oa_tok z) (oa_need z) (oa_num z) op4 x4 y4 fr4 to4 hn4 ca4 (oa_there z) opn dn wd sta en2 la2 ha be1 (oa_local z) (oa_stack z) (oa_back z) (oa_floor z) (oa_running z) (oa_output z) := by
              intro h' EN' op4 x4 y4 fr4 to4 hn4 ca4 eh el eE H4
              have own1 : EN ++ oc_own (K i) (V i) n h0 (h0 + oc_ln K V C m (C i 0) ((i, 0) :: (fs.map Prod.fst).map Prod.fst)) (h0 + oc_ca K V C m i ((fs.map Prod.fst).map Prod.fst) (1 + ot_nc (V i))) = EN' ++ (if ot_cl (V i) = true then [(h0, (h0 + oc_ca K V C m i ((fs.map Prod.fst).map Prod.fst) (1 + ot_nc (V i))) - 4, (h0 + oc_ca K V C m i ((fs.map Prod.fst).map Prod.fst) (1 + ot_nc (V i))) - 4)] else []) := by
                unfold oc_own; rw [if_pos ⟨k, n1⟩, eE, List.append_assoc]
              by_cases hc : ot_cl (V i) = true
              · rw [if_pos hc] at ezv A4 own1 cas
                subst ezv
                have eq : (h0 + oc_ca K V C m i ((fs.map Prod.fst).map Prod.fst) (1 + ot_nc (V i))) = h' + 4 := by rw [← n1]; omega
                have eA : h + oc_gl (V i) + (if ot_nc (V i) = 0 then ([] : List oc_I) else [(27, -1, 0, 0)]).length = h' := by
                  rw [eh]; by_cases c0 : ot_nc (V i) = 0
                  · rw [if_pos c0, if_pos c0]; rfl
                  · rw [if_neg c0, if_neg c0]; rfl
                rw [eA, eq, show h' + 4 - 1 = h' + 3 by omega] at A4
                refine om_141 (e := h') hr s1 H4 k hc hdx (PM 0 rfl) (P2 hc hnn) A4 (by omega) el (by show h0 < 1000; omega) (by omega) hw (fun a ha e => by rw [← eq] at ha ⊢; exact EX a ha e) (fun op5 x5 y5 fr5 to5 hn5 ca5 la5 H5 => ?_)
                have KK2 := KK op5 x5 y5 fr5 to5 hn5 ca5 en2 la5 be1
                rw [if_pos ⟨hc, n1⟩, if_pos hnn, own1, show h0 + oc_ca K V C m i ((fs.map Prod.fst).map Prod.fst) n = h' + 4 by omega, eq, show h' + 4 - 4 = h' by omega] at KK2
                exact KK2 H5
              · rw [if_neg hc] at ezv own1 cas
                subst ezv
                refine br_t rfl ?_
                have KK2 := KK op4 x4 y4 fr4 to4 hn4 ca4 en2 la2 be1
                rw [if_neg (fun e => hc e.1), if_pos hnn, own1, List.append_nil, show h0 + oc_ca K V C m i ((fs.map Prod.fst).map Prod.fst) n = h' by omega] at KK2
                exact KK2 H4
            by_cases c0 : ot_nc (V i) = 0
            · refine br_t (by rw [c0]; decide) ?_
              exact L141 (h + oc_gl (V i)) EN _ _ _ _ _ _ _ (by rw [if_pos c0]; omega) (by omega) (by rw [if_pos c0, List.append_nil]) H3
            · refine br_f (nI_nle (by omega) (by omega)) ?_
              rw [if_neg c0] at A3
              have cas2 := cas
              rw [if_neg c0] at cas2
              obtain ⟨F1, _⟩ := A3
              refine om_emit (dx' := dx) (en' := en2) (la' := la2) H3 (by omega) F1 (by decide) (Or.inr ⟨rfl, by rw [if_neg (by rw [PM 0 rfl]; decide)]⟩) (om_chn0 H3.2.2.1 (fun d t _ => by rw [F1]; exact ⟨by simp, by simp⟩)) (fun op4 x4 y4 H4 => ?_)
              have es : sta (nI fs.length).toNatClampNeg = nI h0 := by rw [c1]; exact H.2.1.1.2.2.1
              have eb : be1 (nI fs.length).toNatClampNeg = nI (h0 + oc_ln K V C m (C i 0) ((i, 0) :: (fs.map Prod.fst).map Prod.fst)) := by rw [c1]; exact q2
              have P137 : ∀ g : Nat, g = oc_gl (V i) → wX_partOfTry_137 Pst (nI fs.length) zv (nI (h + oc_gl (V i) + 1)) (nI g) (be1 (nI fs.length).toNatClampNeg) (be1 (nI fs.length).toNatClampNeg) (sta (nI fs.length).toNatClampNeg) (oa_tokens z) (oa_place z) (nI (h + oc_gl (V i) + 1)) (nI w) (nI (fs.length + 1)) (oa_working z) (oa_top z) (oa_steps z) (oa_says z) (oa_kind z) (oa_value z) (oa_over z) (oa_given z) (oa_thrown z) (oa_tok z) (oa_need z) (oa_num z) op4 x4 y4 fr to hn ca (oa_there z) opn dn wd sta en2 la2 ha be1 (oa_local z) (oa_stack z) (oa_back z) (oa_floor z) (oa_running z) (oa_output z) := by
                intro g eg
                rw [es, eb]
                unfold wX_partOfTry_137
                rw [nI_add]
                have b0l : oc_ln K V C m (C i 0) ((i, 0) :: (fs.map Prod.fst).map Prod.fst) ≤ oc_ca K V C m i ((fs.map Prod.fst).map Prod.fst) n := by
                  have := oc_ca_le K V C (m := m) (i := i) (p := (fs.map Prod.fst).map Prod.fst) (o := 1) (o' := n) hn1
                  have := oc_ca_s K V C m i ((fs.map Prod.fst).map Prod.fst) 0
                  simp only [Nat.reduceAdd] at this
                  omega
                refine om_prot H4 (by omega) (by omega) (by omega) (by omega) (fun fr5 to5 hn5 ca5 H5 => ?_)
                exact L141 (h + oc_gl (V i) + 1) _ _ _ _ _ _ _ _ (by rw [if_neg c0]) (by simp; omega) (by rw [if_neg c0, eg]) H5
              refine And.intro iv ⟨iv, iv, ?_⟩
              by_cases hc : ot_cl (V i) = true
              · have := P137 2 (by unfold oc_gl; rw [if_pos hc])
                rw [if_pos hc] at ezv
                exact br_f (by rw [ezv]; decide) this
              · have := P137 1 (by unfold oc_gl; rw [if_neg hc])
                rw [if_neg hc] at ezv
                exact br_t ezv this
        by_cases c : 1 < n
        · obtain ⟨b1, b2, b3, b4⟩ := hac c hnn
          rw [if_pos ⟨c, hnn⟩] at hdxi
          subst hdxi
          have ex1 : nI fs.length + 1 = nI (fs.length + 1) := nI_1 _
          have eh : ha (nI fs.length + 1).toNatClampNeg = nI ac := by rw [ex1, nI_clamp (by omega)]; exact b2
          have ea : (2080 : Int32) + nI ac = nI (2080 + ac) := nI_add 2080 _
          refine br_f (nI_ge (b := n) (a := 1) c (by omega)) ⟨by rw [ex1]; exact vp_in_nI (by omega) (by omega), by rw [eh, ea]; exact vp_in_nI (by omega) (by omega), nm_r (e' := upd x2 (2080 + ac) (nI (h + oc_gl (V i)))) (by rw [eh, ea, nI_clamp (by omega)]; rfl) (L75 _ (om_clean H2 ?_))⟩
          simp only [om_xv]
          rw [PM _ b4, if_neg (by decide), b3]
        · rw [if_neg (fun e => c e.1)] at hdxi
          subst hdxi
          exact br_t (nI_le (b := 1) (by omega) (by omega)) (L75 _ H2)
      by_cases c : n = 1
      · subst c
        have eh : h = h0 + oc_ln K V C m (C i 0) ((i, 0) :: (fs.map Prod.fst).map Prod.fst) := by rw [hh]; simp only [Nat.sub_self]; omega
        refine br_t rfl ⟨iv, nm_r (e' := upd be fs.length (nI (h0 + oc_ln K V C m (C i 0) ((i, 0) :: (fs.map Prod.fst).map Prod.fst)))) (by rw [c1, ok_sh (by omega), eh]) (L42 _ (fun d hd => pk_un (by omega)) pk_us)⟩
      · refine br_f (fun e => c ((nI_eq (b := 1) (by omega) (by omega)).mp e)) (L42 be (fun _ _ => rfl) ?_)
        exact H.2.1.1.2.2.2.2.2.trans (hbe (by omega))
    · have e1 : (1 : Int32) + nI (ot_nc (V i)) = nI (1 + ot_nc (V i)) := nI_add 1 _
      refine br_f (by rw [e1]; exact nI_ge (by omega) (by omega)) ?_
      rw [if_neg (by omega), if_neg (by omega)] at cas
      rw [if_neg (by omega)] at hdxi
      subst hdxi
      have own0 : oc_own (K i) (V i) n h0 (h0 + oc_ln K V C m (C i 0) ((i, 0) :: (fs.map Prod.fst).map Prod.fst)) (h0 + oc_ca K V C m i ((fs.map Prod.fst).map Prod.fst) (1 + ot_nc (V i))) = [] := by unfold oc_own; rw [if_neg (by omega)]
      have KK2 := KK op x y fr to hn ca en la be
      rw [if_neg (by omega), if_neg hnn, own0, List.append_nil, show h0 + oc_ca K V C m i ((fs.map Prod.fst).map Prod.fst) n = h by omega] at KK2
      exact KK2 H
  by_cases hc : ot_cl (V i) = true
  · exact br_f (fun e => by rw [vc.mp e] at hc; cases hc) (vz 1 (by rw [if_pos hc]))
  · exact br_t (vc.mpr (by cases e : ot_cl (V i) with | true => exact absurd e hc | false => rfl)) (vz 0 (by rw [if_neg hc]))
end
end
section
/-! ===== X's compiler: between the parts, and the finish ===== -/
/-- the chains that are open while part o of token i is at work -/
def om_pp (K : Nat → Nat) (V : Nat → Int32) (P : Nat → Bool) (i o : Nat) : Nat → Bool := fun g => if g = 3 * i + 1 then decide (K i = 12 ∨ K i = 13 ∨ K i = 17) else if g = 3 * i + 2 then decide (K i = 17 ∧ ot_cl (V i) = true ∧ o ≤ ot_nc (V i)) else P g
/-- the places to be written while part o of token i is at work -/
def om_dl (K : Nat → Nat) (i a0 h0 o : Nat) (dx : List Nat) : List Nat := if (K i = 12 ∧ o = 1) ∨ (K i = 13 ∧ 1 ≤ o) then a0 :: dx else if K i = 18 then h0 :: dx else dx
section
variable {z : SX} {K : Nat → Nat} {V : Nat → Int32} {C : Nat → Nat → Nat} {F : Nat → oc_I} {P : Nat → Bool} {h w N : Nat} {dx : List Nat} {fs : List om_F} {EN : List (Nat × Nat × Nat)} {op x y fr to hn ca opn dn wd sta en la ha be : Nat → Int32}
theorem om_pp1 {i o : Nat} (h : K i = 12 ∨ K i = 13 ∨ K i = 17) : om_pp K V P i o (3 * i + 1) = true := by unfold om_pp; rw [if_pos rfl]; exact decide_eq_true h
theorem om_pp2 {i o : Nat} (h : K i = 17) (hc : ot_cl (V i) = true) (ho : o ≤ ot_nc (V i)) : om_pp K V P i o (3 * i + 2) = true := by unfold om_pp; rw [if_neg (by omega), if_pos rfl]; exact decide_eq_true ⟨h, hc, ho⟩
theorem om_ppM {i o : Nat} (PM : ∀ q, q % 3 = 0 → P q = false) : ∀ q, q % 3 = 0 → om_pp K V P i o q = false := by
  intro q hq; unfold om_pp; rw [if_neg (by omega), if_neg (by omega)]; exact PM q hq
theorem om_ppo {i o o' : Nat} (h : K i ≠ 17) (q : Nat) : om_pp K V P i o' q = om_pp K V P i o q := by
  unfold om_pp
  by_cases e1 : q = 3 * i + 1
  · rw [if_pos e1, if_pos e1]
  · rw [if_neg e1, if_neg e1]
    by_cases e2 : q = 3 * i + 2
    · rw [if_pos e2, if_pos e2, decide_eq_false (fun e => h e.1), decide_eq_false (fun e => h e.1)]
    · rw [if_neg e2, if_neg e2]
/-- behind part n = o + 1 of token i -/
theorem om_btw {Pst : SX → Prop} {i m h0 w0 n ac j : Nat} {hd b0 : Int32} {dxi : List Nat} (ok : ot_ok (K i) (V i)) (hr : fs.length < 40) (s : om_srt ((oc_fr K V C m i h0 w0 (fs.map Prod.fst) n, (hd, b0)) :: fs) j)
    (H : om_ok z K V F (om_pp K V P i (n - 1)) h dxi ((oc_fr K V C m i h0 w0 (fs.map Prod.fst) n, (hd, b0)) :: fs) EN op x y fr to hn ca opn dn wd sta en la ha be) (hn1 : 1 ≤ n) (hnp : n ≤ ot_np (K i) (V i)) (hh : h = h0 + oc_ca K V C m i ((fs.map Prod.fst).map Prod.fst) (n - 1) + oc_ln K V C m (C i (n - 1)) ((i, (n - 1)) :: (fs.map Prod.fst).map Prod.fst))
    (A : oc_At F h (oc_bt K V i n (h0 + oc_ln K V C (m + 1) i ((fs.map Prod.fst).map Prod.fst)) (h0 + oc_ca K V C m i ((fs.map Prod.fst).map Prod.fst) (1 + ot_nc (V i))) w0 (h0 + oc_ca K V C m i ((fs.map Prod.fst).map Prod.fst) 2))) (PM : ∀ q, q % 3 = 0 → P q = false) (hdx : ∀ a, a ∈ dx → (F a).2.2.2 % 3 = 0)
    (hdxi : dxi = if K i = 17 ∧ 1 < n ∧ n ≤ 1 + ot_nc (V i) then ac :: dx else om_dl K i (h0 + oc_ca K V C m i ((fs.map Prod.fst).map Prod.fst) 0 + oc_ln K V C m (C i 0) ((i, 0) :: (fs.map Prod.fst).map Prod.fst)) h0 (n - 1) dx) (hac : K i = 17 → 1 < n → n ≤ 1 + ot_nc (V i) → ac < 520 ∧ ha (fs.length + 1) = nI ac ∧ (F ac).2.1 = nI (h + oc_gl (V i)) ∧ (F ac).2.2.2 % 3 = 0) (hbe : K i = 17 → 1 < n → b0 = nI (h0 + oc_ln K V C m (C i 0) ((i, 0) :: (fs.map Prod.fst).map Prod.fst))) (hhd : (K i = 12 ∨ K i = 13) → 1 < n → hd = nI (h0 + oc_ca K V C m i ((fs.map Prod.fst).map Prod.fst) 0 + oc_ln K V C m (C i 0) ((i, 0) :: (fs.map Prod.fst).map Prod.fst)))
    (hFA : oc_At F (h0 + oc_ca K V C m i ((fs.map Prod.fst).map Prod.fst) 0 + oc_ln K V C m (C i 0) ((i, 0) :: (fs.map Prod.fst).map Prod.fst)) (oc_bt K V i 1 (h0 + oc_ln K V C (m + 1) i ((fs.map Prod.fst).map Prod.fst)) (h0 + oc_ca K V C m i ((fs.map Prod.fst).map Prod.fst) (1 + ot_nc (V i))) w0 (h0 + oc_ca K V C m i ((fs.map Prod.fst).map Prod.fst) 2)))
    (hb : h0 + oc_ca K V C m i ((fs.map Prod.fst).map Prod.fst) n ≤ 520) (hE : K i = 17 → n = 1 + ot_nc (V i) → EN.length + 2 ≤ 30) (hw : w0 < 100) (EX : K i = 17 → ∀ a, a < (h0 + oc_ca K V C m i ((fs.map Prod.fst).map Prod.fst) (1 + ot_nc (V i))) → (F a).2.2.2 = 3 * i + 2 → (F a).2.1 = nI (h0 + oc_ca K V C m i ((fs.map Prod.fst).map Prod.fst) (1 + ot_nc (V i))))
    (KK : ∀ (op x y fr to hn ca en la ha be : Nat → Int32) (hd' b' : Int32), om_ok z K V F (om_pp K V P i n) (h0 + oc_ca K V C m i ((fs.map Prod.fst).map Prod.fst) n) (om_dl K i (h0 + oc_ca K V C m i ((fs.map Prod.fst).map Prod.fst) 0 + oc_ln K V C m (C i 0) ((i, 0) :: (fs.map Prod.fst).map Prod.fst)) h0 n dx) ((oc_fr K V C m i h0 w0 (fs.map Prod.fst) n, (hd', b')) :: fs) (EN ++ oc_own (K i) (V i) n h0 (h0 + oc_ln K V C m (C i 0) ((i, 0) :: (fs.map Prod.fst).map Prod.fst)) (h0 + oc_ca K V C m i ((fs.map Prod.fst).map Prod.fst) (1 + ot_nc (V i)))) op x y fr to hn ca opn dn wd sta en la ha be → (K i = 17 → b' = nI (h0 + oc_ln K V C m (C i 0) ((i, 0) :: (fs.map Prod.fst).map Prod.fst)) ∨ 1 + ot_nc (V i) < n) → ((K i = 12 ∨ K i = 13) → hd' = nI (h0 + oc_ca K V C m i ((fs.map Prod.fst).map Prod.fst) 0 + oc_ln K V C m (C i 0) ((i, 0) :: (fs.map Prod.fst).map Prod.fst))) → (K i = 18 → hd' = hd) → Pst ((oa_tokens z), (oa_place z), (nI (h0 + oc_ca K V C m i ((fs.map Prod.fst).map Prod.fst) n)), (nI w), (nI (fs.length + 1)), (oa_working z), (oa_top z), (oa_steps z), (oa_says z), (oa_kind z), (oa_value z), (oa_over z), (oa_given z), (oa_thrown z), (oa_tok z), (oa_need z), (oa_num z), op, x, y, fr, to, hn, ca, (oa_there z), opn, dn, wd, sta, en, la, ha, be, (oa_local z), (oa_stack z), (oa_back z), (oa_floor z), (oa_running z), (oa_output z))) :
    wpX_between Pst ((oa_tokens z), (oa_place z), (nI h), (nI w), (nI (fs.length + 1)), (oa_working z), (oa_top z), (oa_steps z), (oa_says z), (oa_kind z), (oa_value z), (oa_over z), (oa_given z), (oa_thrown z), (oa_tok z), (oa_need z), (oa_num z), op, x, y, fr, to, hn, ca, (oa_there z), opn, dn, wd, sta, en, la, ha, be, (oa_local z), (oa_stack z), (oa_back z), (oa_floor z), (oa_running z), (oa_output z)) (nI (K i)) (V i) (nI n) := by
  have k22 := ok.1
  have np4 : ot_np (K i) (V i) ≤ 4 := by
    have nc2 := ot_nc_le (V i)
    rcases ot_kinds ok with k | k | k | k | k | k | k | k | k | k | k | k | k | k | k | k | k
    case inr.inr.inl => rcases k with k | k | k | k | k <;> rw [k] <;> simp [ot_np]
    all_goals rw [k]; simp only [ot_np]; try omega
    split <;> omega
  have iv : vp_in (nI fs.length) 41 := vp_in_nI (by omega) (by omega)
  have c1 : (nI fs.length).toNatClampNeg = fs.length := nI_clamp (by omega)
  have hat : ∀ hd b, om_at ((oc_fr K V C m i h0 w0 (fs.map Prod.fst) n, (hd, b)) :: fs) fs.length = some i := by intro hd b; simp [om_at, oc_fr]
  have cas := oc_ca_s K V C m i ((fs.map Prod.fst).map Prod.fst) (n - 1)
  rw [show n - 1 + 1 = n by omega] at cas
  have kk : ∀ c : Nat, c < 100 → (nI (K i) = nI c ↔ K i = c) := fun c hc => nI_eq (by omega) (by omega)
  have nn : ∀ c : Nat, c < 100 → (nI n = nI c ↔ n = c) := fun c hc => nI_eq (by omega) (by omega)
  have PM' := om_ppM (K := K) (V := V) (P := P) (i := i) (o := n - 1) PM
  have ownN : K i ≠ 17 → oc_own (K i) (V i) n h0 (h0 + oc_ln K V C m (C i 0) ((i, 0) :: (fs.map Prod.fst).map Prod.fst)) (h0 + oc_ca K V C m i ((fs.map Prod.fst).map Prod.fst) (1 + ot_nc (V i))) = [] := by intro e; unfold oc_own; rw [if_neg (fun g => e g.1)]
  refine nm_r (e' := nI fs.length) (nI_pred _) ?_
  by_cases k17 : K i = 17
  · -- TRY
    have d12 : ¬ nI (K i) = 12 := fun e => by have := (kk 12 (by omega)).mp e; omega
    have d13 : ¬ nI (K i) = 13 := fun e => by have := (kk 13 (by omega)).mp e; omega
    refine br_f d12 (br_f d13 (br_f d12 (br_t ((kk 17 (by omega)).mpr k17) ?_)))
    have dl : ∀ o, om_dl K i (h0 + oc_ca K V C m i ((fs.map Prod.fst).map Prod.fst) 0 + oc_ln K V C m (C i 0) ((i, 0) :: (fs.map Prod.fst).map Prod.fst)) h0 o dx = dx := by intro o; unfold om_dl; rw [if_neg (by omega), if_neg (by omega)]
    rw [dl] at hdxi
    refine om_pot (P := om_pp K V P i (n - 1)) (ac := ac) (dx := dx) k17 ok hr s H hn1 hnp hh A (om_pp1 (by omega)) (fun hc hn => om_pp2 k17 hc (by omega)) PM' hdx (by
      rw [hdxi]
      by_cases c : 1 < n ∧ n ≤ 1 + ot_nc (V i)
      · rw [if_pos ⟨k17, c⟩, if_pos c]
      · rw [if_neg (fun e => c e.2), if_neg c]) (hac k17) (hbe k17) hb (hE k17) hw (EX k17) (fun op x y fr to hn ca en la be H2 => ?_)
    refine KK op x y fr to hn ca en la ha be hd (if n ≤ 1 + ot_nc (V i) then nI (h0 + oc_ln K V C m (C i 0) ((i, 0) :: (fs.map Prod.fst).map Prod.fst)) else b0) ?_ (fun _ => ?_) (fun e => by omega) (fun e => by omega)
    · rw [dl]
      refine om_okP H2 (fun a _ => ?_)
      generalize (F a).2.2.2 = q
      by_cases c : ot_cl (V i) = true ∧ n = 1 + ot_nc (V i)
      · rw [if_pos c]
        by_cases e : q = 3 * i + 2
        · subst e; rw [om_rm_s]; unfold om_pp; rw [if_neg (by omega), if_pos rfl]; exact decide_eq_false (fun e => by omega)
        · rw [om_rm_n e]; unfold om_pp; rw [if_neg e, if_neg e]
      · rw [if_neg c]
        unfold om_pp
        by_cases e : q = 3 * i + 2
        · subst e
          have ne : ¬ (3 * i + 2 = 3 * i + 1) := by omega
          simp only [ne, if_false, if_true]
          by_cases hc : ot_cl (V i) = true
          · have : (n ≤ ot_nc (V i)) ↔ (n - 1 ≤ ot_nc (V i)) := by
              constructor
              · intro; omega
              · intro g; have : n ≠ 1 + ot_nc (V i) := fun e => c ⟨hc, e⟩; omega
            simp only [this]
          · rw [decide_eq_false (fun e => hc e.2.1), decide_eq_false (fun e => hc e.2.1)]
        · rw [if_neg e, if_neg e]
    · by_cases c : n ≤ 1 + ot_nc (V i)
      · rw [if_pos c]; exact Or.inl rfl
      · exact Or.inr (by omega)
  have d17 : ¬ nI (K i) = 17 := fun e => k17 ((kk 17 (by omega)).mp e)
  rw [if_neg (fun e => k17 e.1)] at hdxi
  -- nothing is done
  have NOP : h0 + oc_ca K V C m i ((fs.map Prod.fst).map Prod.fst) n = h → om_dl K i (h0 + oc_ca K V C m i ((fs.map Prod.fst).map Prod.fst) 0 + oc_ln K V C m (C i 0) ((i, 0) :: (fs.map Prod.fst).map Prod.fst)) h0 n dx = dxi → ((K i = 12 ∨ K i = 13) → hd = nI (h0 + oc_ca K V C m i ((fs.map Prod.fst).map Prod.fst) 0 + oc_ln K V C m (C i 0) ((i, 0) :: (fs.map Prod.fst).map Prod.fst))) → Pst ((oa_tokens z), (oa_place z), (nI h), (nI w), (nI (fs.length + 1)), (oa_working z), (oa_top z), (oa_steps z), (oa_says z), (oa_kind z), (oa_value z), (oa_over z), (oa_given z), (oa_thrown z), (oa_tok z), (oa_need z), (oa_num z), op, x, y, fr, to, hn, ca, (oa_there z), opn, dn, wd, sta, en, la, ha, be, (oa_local z), (oa_stack z), (oa_back z), (oa_floor z), (oa_running z), (oa_output z)) := by
    intro e1 e2 e3
    have KK2 := KK op x y fr to hn ca en la ha be hd b0
    rw [ownN k17, List.append_nil, e1, e2] at KK2
    exact KK2 (om_okP H (fun a _ => om_ppo k17 _)) (fun e => absurd e k17) e3 (fun _ => rfl)
  -- the conditional jump is written
  have IF1 : (K i = 12 ∨ K i = 13) → n = 1 → (∀ v, wX_between_46 Pst (nI (K i)) v (nI n) (nI fs.length) (oa_tokens z) (oa_place z) (nI h) (nI w) (nI (fs.length + 1)) (oa_working z) (oa_top z) (oa_steps z) (oa_says z) (oa_kind z) (oa_value z) (oa_over z) (oa_given z) (oa_thrown z) (oa_tok z) (oa_need z) (oa_num z) op x y fr to hn ca (oa_there z) opn dn wd sta en la ha be (oa_local z) (oa_stack z) (oa_back z) (oa_floor z) (oa_running z) (oa_output z) = wX_between_46 Pst (nI (K i)) v (nI n) (nI fs.length) (oa_tokens z) (oa_place z) (nI h) (nI w) (nI (fs.length + 1)) (oa_working z) (oa_top z) (oa_steps z) (oa_says z) (oa_kind z) (oa_value z) (oa_over z) (oa_given z) (oa_thrown z) (oa_tok z) (oa_need z) (oa_num z) op x y fr to hn ca (oa_there z) opn dn wd sta en la ha be (oa_local z) (oa_stack z) (oa_back z) (oa_floor z) (oa_running z) (oa_output z)) → wX_between_30 Pst (nI (K i)) (V i) (nI n) (nI fs.length) (oa_tokens z) (oa_place z) (nI h) (nI w) (nI (fs.length + 1)) (oa_working z) (oa_top z) (oa_steps z) (oa_says z) (oa_kind z) (oa_value z) (oa_over z) (oa_given z) (oa_thrown z) (oa_tok z) (oa_need z) (oa_num z) op x y fr to hn ca (oa_there z) opn dn wd sta en la ha be (oa_local z) (oa_stack z) (oa_back z) (oa_floor z) (oa_running z) (oa_output z) := by
    intro hk e1 _
    subst e1
    have eH : h = (h0 + oc_ca K V C m i ((fs.map Prod.fst).map Prod.fst) 0 + oc_ln K V C m (C i 0) ((i, 0) :: (fs.map Prod.fst).map Prod.fst)) := by rw [hh]
    have lb1 : oc_lbt (K i) (V i) 1 = 1 := by rcases hk with e | e <;> rw [e] <;> rfl
    have F1 : ∃ xf, F h = (12, xf, 0, 3 * i + 3) := by
      rcases hk with e | e
      · simp only [oc_bt, e] at A; exact ⟨_, A.1⟩
      · simp only [oc_bt, e] at A; exact ⟨_, A.1⟩
    obtain ⟨xf, F1⟩ := F1
    have dl0 : dxi = dx := by rw [hdxi]; unfold om_dl; rw [if_neg (by omega), if_neg (by omega)]
    have dl1 : om_dl K i (h0 + oc_ca K V C m i ((fs.map Prod.fst).map Prod.fst) 0 + oc_ln K V C m (C i 0) ((i, 0) :: (fs.map Prod.fst).map Prod.fst)) h0 1 dx = h :: dx := by unfold om_dl; rw [if_pos (by omega), eH]
    refine om_emit (dx' := h :: dxi) (en' := en) (la' := la) H (by omega) F1 (by decide) (Or.inl rfl) (om_chn0 H.2.2.1 (fun d t _ => by rw [F1]; exact ⟨by show 3 * i + 3 ≠ _; omega, by show 3 * i + 3 ≠ _; omega⟩)) (fun op2 x2 y2 H2 => ?_)
    refine And.intro iv (nm_r (e' := upd ha fs.length (nI h)) (by rw [c1, ok_sh (by omega)]) ?_)
    have H3 : om_ok z K V F (om_pp K V P i 1) (h0 + oc_ca K V C m i ((fs.map Prod.fst).map Prod.fst) 1) (h :: dx) ((oc_fr K V C m i h0 w0 (fs.map Prod.fst) 1, ((nI h), b0)) :: fs) EN op2 x2 y2 fr to hn ca opn dn wd sta en la (upd ha fs.length (nI h)) be := by
      have := om_head (f' := (oc_fr K V C m i h0 w0 (fs.map Prod.fst) 1, (nI h, b0))) (dn' := dn) (ha' := upd ha fs.length (nI h)) (be' := be) H2 rfl rfl (fun d hd => ⟨rfl, pk_un (by omega), rfl⟩) H2.2.1.1.2.1 pk_us H2.2.1.1.2.2.2.2.2
      rw [dl0] at this
      rw [show h0 + oc_ca K V C m i ((fs.map Prod.fst).map Prod.fst) 1 = h + 1 by simp only [Nat.sub_self] at cas; omega]
      exact om_okP this (fun a _ => om_ppo k17 _)
    have KK2 := KK op2 x2 y2 fr to hn ca en la (upd ha fs.length (nI h)) be (nI h) b0
    rw [ownN k17, List.append_nil, dl1] at KK2
    have KK3 := KK2 H3 (fun e => absurd e k17) (fun _ => by rw [eH]) (fun e => by omega)
    rw [show h0 + oc_ca K V C m i ((fs.map Prod.fst).map Prod.fst) 1 = h + 1 by simp only [Nat.sub_self] at cas; omega] at KK3
    refine br_c (fun _ => br_f (by decide) (br_f d17 KK3)) (fun _ => br_f d17 KK3)
  by_cases k12 : K i = 12
  · have e12 : nI (K i) = 12 := (kk 12 (by omega)).mpr k12
    have d13 : ¬ nI (K i) = 13 := fun e => by have := (kk 13 (by omega)).mp e; omega
    have np3 : ot_np (K i) (V i) = 3 := by rw [k12]; rfl
    rcases (by omega : n = 1 ∨ n = 2 ∨ n = 3) with e | e | e
    · exact br_t e12 (br_t (by rw [e]; rfl) (IF1 (Or.inl k12) e (fun _ => rfl)))
    · refine br_t e12 (br_f (fun g => by have := (nn 1 (by omega)).mp g; omega) (br_f d13 (br_t e12 (br_t (by rw [e]; rfl) ⟨iv, ?_⟩))))
      subst e
      have F1 : F h = (22, nI (h0 + oc_ln K V C (m + 1) i ((fs.map Prod.fst).map Prod.fst)), 0, 3 * i + 1) := by simp only [oc_bt, k12] at A; exact A.1
      have FH : F (h0 + oc_ca K V C m i ((fs.map Prod.fst).map Prod.fst) 0 + oc_ln K V C m (C i 0) ((i, 0) :: (fs.map Prod.fst).map Prod.fst)) = (12, nI (h0 + oc_ca K V C m i ((fs.map Prod.fst).map Prod.fst) 2), 0, 3 * i + 3) := by simp only [oc_bt, k12] at hFA; exact hFA.1
      have lb2 : oc_lbt (K i) (V i) 2 = 1 := by rw [k12]; rfl
      have lb1 : oc_lbt (K i) (V i) 1 = 1 := by rw [k12]; rfl
      have e2 : h0 + oc_ca K V C m i ((fs.map Prod.fst).map Prod.fst) 2 = h + 1 := by rw [cas, lb2]; omega
      have ee : en (nI fs.length).toNatClampNeg = om_pv F (3 * i + 1) h := by rw [c1]; exact (H.2.2.1 _ _ (hat hd b0)).1
      have dl1 : dxi = (h0 + oc_ca K V C m i ((fs.map Prod.fst).map Prod.fst) 0 + oc_ln K V C m (C i 0) ((i, 0) :: (fs.map Prod.fst).map Prod.fst)) :: dx := by rw [hdxi]; unfold om_dl; rw [if_pos (by omega)]
      have dl2 : om_dl K i (h0 + oc_ca K V C m i ((fs.map Prod.fst).map Prod.fst) 0 + oc_ln K V C m (C i 0) ((i, 0) :: (fs.map Prod.fst).map Prod.fst)) h0 2 dx = dx := by unfold om_dl; rw [if_neg (by omega), if_neg (by omega)]
      have le1 := oc_ca_le K V C (m := m) (i := i) (p := (fs.map Prod.fst).map Prod.fst) (o := 0) (o' := 1) (by omega)
      have le2 := oc_ca_le K V C (m := m) (i := i) (p := (fs.map Prod.fst).map Prod.fst) (o := 1) (o' := 2) (by omega)
      have sc0 := oc_ca_s K V C m i ((fs.map Prod.fst).map Prod.fst) 0
      simp only [Nat.reduceAdd] at sc0
      rw [ee]
      rw [dl1] at H
      refine om_emit (dx' := (h0 + oc_ca K V C m i ((fs.map Prod.fst).map Prod.fst) 0 + oc_ln K V C m (C i 0) ((i, 0) :: (fs.map Prod.fst).map Prod.fst)) :: dx) (en' := upd en fs.length (nI h)) (la' := la) H (by omega) F1 (by decide) (Or.inr ⟨rfl, by rw [if_pos (om_pp1 (by omega))]⟩) (om_chnE H.2.2.1 s (hat hd b0) (by rw [F1])) (fun op2 x2 y2 H2 => ?_)
      have eh : ha (nI fs.length).toNatClampNeg = nI (h0 + oc_ca K V C m i ((fs.map Prod.fst).map Prod.fst) 0 + oc_ln K V C m (C i 0) ((i, 0) :: (fs.map Prod.fst).map Prod.fst)) := by rw [c1, ← hhd (Or.inl k12) (by omega)]; exact H.2.1.1.2.2.2.2.1
      have ea : (2080 : Int32) + nI (h0 + oc_ca K V C m i ((fs.map Prod.fst).map Prod.fst) 0 + oc_ln K V C m (C i 0) ((i, 0) :: (fs.map Prod.fst).map Prod.fst)) = nI (2080 + (h0 + oc_ca K V C m i ((fs.map Prod.fst).map Prod.fst) 0 + oc_ln K V C m (C i 0) ((i, 0) :: (fs.map Prod.fst).map Prod.fst))) := nI_add 2080 _
      have hHA : (h0 + oc_ca K V C m i ((fs.map Prod.fst).map Prod.fst) 0 + oc_ln K V C m (C i 0) ((i, 0) :: (fs.map Prod.fst).map Prod.fst)) < 520 := by omega
      refine And.intro iv (nm_r (e' := upd en fs.length (nI h)) (by rw [c1, ok_sh (by omega)]) ⟨iv, by rw [eh, ea]; exact vp_in_nI (by omega) (by omega), nm_r (e' := upd x2 (2080 + (h0 + oc_ca K V C m i ((fs.map Prod.fst).map Prod.fst) 0 + oc_ln K V C m (C i 0) ((i, 0) :: (fs.map Prod.fst).map Prod.fst))) (nI (h + 1))) (by rw [eh, ea, nI_clamp (by omega)]) (br_f d17 ?_)⟩)
      have H3 := om_clean (v := nI (h + 1)) H2 (by simp only [om_xv, FH]; rw [PM' _ (by omega), if_neg (by decide), e2])
      have KK2 := KK op2 (upd x2 (2080 + (h0 + oc_ca K V C m i ((fs.map Prod.fst).map Prod.fst) 0 + oc_ln K V C m (C i 0) ((i, 0) :: (fs.map Prod.fst).map Prod.fst))) (nI (h + 1))) y2 fr to hn ca (upd en fs.length (nI h)) la ha be hd b0
      rw [ownN k17, List.append_nil, dl2, e2] at KK2
      exact KK2 (om_okP H3 (fun a _ => om_ppo k17 _)) (fun e => absurd e k17) (fun _ => hhd (Or.inl k12) (by omega)) (fun e => by omega)
    · refine br_t e12 (br_f (fun g => by have := (nn 1 (by omega)).mp g; omega) (br_f d13 (br_t e12 (br_f (fun g => by have := (nn 2 (by omega)).mp g; omega) (br_f d17 (NOP ?_ ?_ ?_))))))
      · have lb3 : oc_lbt (K i) (V i) n = 0 := by rw [k12, e]; rfl
        rw [cas, lb3]; omega
      · have a1 : ∀ o, o ≠ 1 → om_dl K i (h0 + oc_ca K V C m i ((fs.map Prod.fst).map Prod.fst) 0 + oc_ln K V C m (C i 0) ((i, 0) :: (fs.map Prod.fst).map Prod.fst)) h0 o dx = dx := by intro o ho; unfold om_dl; rw [if_neg (by omega), if_neg (by omega)]
        rw [hdxi, a1 _ (by omega), a1 _ (by omega)]
      · exact fun g => hhd g (by omega)
  · have d12 : ¬ nI (K i) = 12 := fun e => k12 ((kk 12 (by omega)).mp e)
    by_cases k13 : K i = 13
    · have e13 : nI (K i) = 13 := (kk 13 (by omega)).mpr k13
      have np2 : ot_np (K i) (V i) = 2 := by rw [k13]; rfl
      rcases (by omega : n = 1 ∨ n = 2) with e | e
      · exact br_f d12 (br_t e13 (br_t (by rw [e]; rfl) (IF1 (Or.inr k13) e (fun _ => rfl))))
      · refine br_f d12 (br_t e13 (br_f (fun g => by have := (nn 1 (by omega)).mp g; omega) (br_f d12 (br_f d17 (NOP ?_ ?_ ?_)))))
        · have lb3 : oc_lbt (K i) (V i) n = 0 := by rw [k13, e]; rfl
          rw [cas, lb3]; omega
        · have a1 : ∀ o, 1 ≤ o → om_dl K i (h0 + oc_ca K V C m i ((fs.map Prod.fst).map Prod.fst) 0 + oc_ln K V C m (C i 0) ((i, 0) :: (fs.map Prod.fst).map Prod.fst)) h0 o dx = (h0 + oc_ca K V C m i ((fs.map Prod.fst).map Prod.fst) 0 + oc_ln K V C m (C i 0) ((i, 0) :: (fs.map Prod.fst).map Prod.fst)) :: dx := by intro o ho; unfold om_dl; rw [if_pos (by omega)]
          rw [hdxi, a1 _ (by omega), a1 _ (by omega)]
        · exact fun g => hhd g (by omega)
    · have d13 : ¬ nI (K i) = 13 := fun e => k13 ((kk 13 (by omega)).mp e)
      refine br_f d12 (br_f d13 (br_f d12 (br_f d17 (NOP ?_ ?_ (fun g => by omega)))))
      · have lb3 : oc_lbt (K i) (V i) n = 0 := by
          unfold oc_lbt
          split
          · omega
          · omega
          · omega
          · rfl
        rw [cas, lb3]; omega
      · have a1 : ∀ o o', om_dl K i (h0 + oc_ca K V C m i ((fs.map Prod.fst).map Prod.fst) 0 + oc_ln K V C m (C i 0) ((i, 0) :: (fs.map Prod.fst).map Prod.fst)) h0 o dx = om_dl K i (h0 + oc_ca K V C m i ((fs.map Prod.fst).map Prod.fst) 0 + oc_ln K V C m (C i 0) ((i, 0) :: (fs.map Prod.fst).map Prod.fst)) h0 o' dx := by intro o o'; unfold om_dl; rw [if_neg (c := (K i = 12 ∧ o = 1) ∨ (K i = 13 ∧ 1 ≤ o)) (by omega), if_neg (c := (K i = 12 ∧ o' = 1) ∨ (K i = 13 ∧ 1 ≤ o')) (by omega)]
        rw [hdxi]; exact a1 _ _
end
end
section
/-! ===== X's compiler: a token is complete ===== -/
theorem om_ft_mem {K : Nat → Nat} {V : Nat → Int32} {l : Int32} : ∀ {r : List om_F} {f : om_F}, om_ft K V l r = some f → f ∈ r ∧ om_tf K V l f = true
  | [], _, h => by cases h
  | g :: r, f, h => by
    simp only [om_ft] at h
    by_cases e : om_tf K V l g = true
    · rw [if_pos e] at h; cases h; exact ⟨List.mem_cons_self, e⟩
    · rw [if_neg e] at h; have := om_ft_mem h; exact ⟨List.mem_cons_of_mem _ this.1, this.2⟩
theorem om_ft_sta {K : Nat → Nat} {V : Nat → Int32} {l : Int32} {opn dn wd sta ha be : Nat → Int32} : ∀ {r : List om_F} {f : om_F} {d : Nat}, om_rp K V opn dn wd sta ha be r → r.length ≤ 40 → d < r.length → om_ft K V l r = some f → om_ts (om_tf K V l) r = nI d → sta d = nI f.1.2.1
  | [], _, _, _, _, _, h, _ => by cases h
  | g :: r, f, d, R, hr, hd, h, hd2 => by
    have hr' : r.length + 1 ≤ 40 := hr
    have hd' : d < r.length + 1 := hd
    simp only [om_ft] at h
    simp only [om_ts] at hd2
    by_cases e : om_tf K V l g = true
    · rw [if_pos e] at h hd2; cases h
      have : r.length = d := (nI_eq (by omega) (by omega)).mp hd2
      rw [← this]; exact R.1.2.2.1
    · rw [if_neg e] at h hd2
      rcases om_ts_lt (stop := om_tf K V l) (r := r) (by omega) with g1 | ⟨d', g1, g2⟩
      · rw [g1] at hd2
        exfalso
        have a : (-1 : Int32).toInt = (nI d).toInt := by rw [hd2]
        rw [nI_toInt (by omega)] at a
        have b : (-1 : Int32).toInt = -1 := by decide
        omega
      · rw [g2] at hd2
        have : d' = d := (nI_eq (by omega) (by omega)).mp hd2
        subst this
        exact om_ft_sta R.2 (by omega) g1 h g2
theorem om_ts_f : ∀ {r : List om_F}, om_ts (fun _ => false) r = -1
  | [] => rfl
  | _ :: r => by simp only [om_ts, Bool.false_eq_true, if_false]; exact om_ts_f
section
variable {z : SX} {K : Nat → Nat} {V : Nat → Int32} {C : Nat → Nat → Nat} {F : Nat → oc_I} {P : Nat → Bool} {h w N : Nat} {dx : List Nat} {fs : List om_F} {EN : List (Nat × Nat × Nat)} {op x y fr to hn ca opn dn wd sta en la ha be : Nat → Int32}
theorem om_fin {Pst : SX → Prop} {i m h0 w0 wl : Nat} {hd b0 : Int32} (D : om_dr z K V N) (ok : ot_ok (K i) (V i)) (hr : fs.length < 40) (s : om_srt ((oc_fr K V C m i h0 w0 (fs.map Prod.fst) (ot_np (K i) (V i)), (hd, b0)) :: fs) N)
    (H : om_ok z K V F (om_pp K V P i (ot_np (K i) (V i))) h (om_dl K i (h0 + oc_ca K V C m i ((fs.map Prod.fst).map Prod.fst) 0 + oc_ln K V C m (C i 0) ((i, 0) :: (fs.map Prod.fst).map Prod.fst)) h0 (ot_np (K i) (V i)) dx) ((oc_fr K V C m i h0 w0 (fs.map Prod.fst) (ot_np (K i) (V i)), (hd, b0)) :: fs) EN op x y fr to hn ca opn dn wd sta en la ha be) (hh : h = h0 + oc_ca K V C m i ((fs.map Prod.fst).map Prod.fst) (ot_np (K i) (V i)))
    (A : oc_At F h (oc_fi K V i h0 h w0 wl (fs.map Prod.fst))) (PM : ∀ q, q % 3 = 0 → P q = false) (PI : P (3 * i + 1) = false ∧ P (3 * i + 2) = false) (hdx : ∀ a, a ∈ dx → (F a).2.2.2 % 3 = 0)
    (hhd : K i = 13 → hd = nI (h0 + oc_ca K V C m i ((fs.map Prod.fst).map Prod.fst) 0 + oc_ln K V C m (C i 0) ((i, 0) :: (fs.map Prod.fst).map Prod.fst))) (hFA : K i = 13 → F (h0 + oc_ca K V C m i ((fs.map Prod.fst).map Prod.fst) 0 + oc_ln K V C m (C i 0) ((i, 0) :: (fs.map Prod.fst).map Prod.fst)) = (12, nI (h0 + oc_ln K V C (m + 1) i ((fs.map Prod.fst).map Prod.fst)), 0, 3 * i + 3)) (hHA : K i = 13 → (h0 + oc_ca K V C m i ((fs.map Prod.fst).map Prod.fst) 0 + oc_ln K V C m (C i 0) ((i, 0) :: (fs.map Prod.fst).map Prod.fst)) < 520) (hh0 : h0 < 1000)
    (PB : ∀ f, f ∈ fs → K f.1.1.1 = 13 → P (3 * f.1.1.1 + 1) = true) (PL : om_pl K V P fs) (BD : (K i = 19 ∨ K i = 20) → oc_cj K V (V i) ((fs.map Prod.fst).map Prod.fst) ≠ none)
    (hb : h0 + oc_ln K V C (m + 1) i ((fs.map Prod.fst).map Prod.fst) ≤ 520) (hw : wl < 100) (EX : ∀ a, a < h0 + oc_ln K V C (m + 1) i ((fs.map Prod.fst).map Prod.fst) → (F a).2.2.2 = 3 * i + 1 → (F a).2.1 = nI (h0 + oc_ln K V C (m + 1) i ((fs.map Prod.fst).map Prod.fst)))
    (KK : ∀ op x y en la : Nat → Int32, om_ok z K V F P (h0 + oc_ln K V C (m + 1) i ((fs.map Prod.fst).map Prod.fst)) (if K i = 18 then h0 :: dx else dx) fs EN op x y fr to hn ca opn dn wd sta en la ha be → Pst ((oa_tokens z), (oa_place z), (nI (h0 + oc_ln K V C (m + 1) i ((fs.map Prod.fst).map Prod.fst))), (nI (wl + (if K i = 21 ∧ oc_cr K V ((fs.map Prod.fst).map Prod.fst) ≠ 0 then 1 else 0))), (nI (fs.length + 1)), (oa_working z), (oa_top z), (oa_steps z), (oa_says z), (oa_kind z), (oa_value z), (oa_over z), (oa_given z), (oa_thrown z), (oa_tok z), (oa_need z), (oa_num z), op, x, y, fr, to, hn, ca, (oa_there z), opn, dn, wd, sta, en, la, ha, be, (oa_local z), (oa_stack z), (oa_back z), (oa_floor z), (oa_running z), (oa_output z))) :
    wpX_finish Pst ((oa_tokens z), (oa_place z), (nI h), (nI wl), (nI (fs.length + 1)), (oa_working z), (oa_top z), (oa_steps z), (oa_says z), (oa_kind z), (oa_value z), (oa_over z), (oa_given z), (oa_thrown z), (oa_tok z), (oa_need z), (oa_num z), op, x, y, fr, to, hn, ca, (oa_there z), opn, dn, wd, sta, en, la, ha, be, (oa_local z), (oa_stack z), (oa_back z), (oa_floor z), (oa_running z), (oa_output z)) (nI (K i)) (V i) := by
  have k22 := ok.1
  have iv : vp_in (nI fs.length) 41 := vp_in_nI (by omega) (by omega)
  have c1 : (nI fs.length).toNatClampNeg = fs.length := nI_clamp (by omega)
  have hat : om_at ((oc_fr K V C m i h0 w0 (fs.map Prod.fst) (ot_np (K i) (V i)), (hd, b0)) :: fs) fs.length = some i := by simp [om_at, oc_fr]
  have el := oc_ln_s K V C m i ((fs.map Prod.fst).map Prod.fst)
  have PM' := om_ppM (K := K) (V := V) (P := P) (i := i) (o := ot_np (K i) (V i)) PM
  have P0 : om_pp K V P i (ot_np (K i) (V i)) 0 = false := PM' 0 rfl
  -- the chains of token i are closed
  have PP : ¬ (K i = 12 ∨ K i = 13 ∨ K i = 17) → ∀ q, P q = om_pp K V P i (ot_np (K i) (V i)) q := by
    intro hk q
    unfold om_pp
    by_cases e1 : q = 3 * i + 1
    · rw [if_pos e1, e1, PI.1]; exact (decide_eq_false hk).symm
    · rw [if_neg e1]
      by_cases e2 : q = 3 * i + 2
      · rw [if_pos e2, e2, PI.2]; exact (decide_eq_false (fun e => hk (Or.inr (Or.inr e.1)))).symm
      · rw [if_neg e2]
  have PR : ∀ q, P q = om_rm (om_pp K V P i (ot_np (K i) (V i))) (3 * i + 1) q := by
    intro q
    by_cases e1 : q = 3 * i + 1
    · rw [e1, om_rm_s, PI.1]
    · rw [om_rm_n e1]
      unfold om_pp
      rw [if_neg e1]
      by_cases e2 : q = 3 * i + 2
      · rw [if_pos e2, e2, PI.2]
        refine (decide_eq_false (fun e => ?_)).symm
        have np : ot_np (K i) (V i) = 1 + ot_nc (V i) + (if ot_cl (V i) = true then 1 else 0) := by rw [e.1]; rfl
        omega
      · rw [if_neg e2]
  have w0' : K i ≠ 21 → wl + (if K i = 21 ∧ oc_cr K V ((fs.map Prod.fst).map Prod.fst) ≠ 0 then 1 else 0) = wl := by intro e; rw [if_neg (fun g => e g.1)]; rfl
  have dl0 : ¬ (K i = 12 ∨ K i = 13 ∨ K i = 18) → om_dl K i (h0 + oc_ca K V C m i ((fs.map Prod.fst).map Prod.fst) 0 + oc_ln K V C m (C i 0) ((i, 0) :: (fs.map Prod.fst).map Prod.fst)) h0 (ot_np (K i) (V i)) dx = dx := by intro e; unfold om_dl; rw [if_neg (by omega), if_neg (by omega)]
  have nt0 : ∀ g : Nat, g = 0 → ∀ d t, om_at ((oc_fr K V C m i h0 w0 (fs.map Prod.fst) (ot_np (K i) (V i)), (hd, b0)) :: fs) d = some t → g ≠ 3 * t + 1 ∧ g ≠ 3 * t + 2 := by intro g e d t _; omega
  -- one plain instruction
  have EM : ∀ (o a b : Int32), F h = (o, a, b, 0) → oc_ln K V C (m + 1) i ((fs.map Prod.fst).map Prod.fst) = oc_ca K V C m i ((fs.map Prod.fst).map Prod.fst) (ot_np (K i) (V i)) + 1 → ¬ (K i = 12 ∨ K i = 13 ∨ K i = 17 ∨ K i = 18 ∨ K i = 21) → vp_nar .byte o.toInt8.toInt32 = o → wpX_emit (fun _ u => Pst u) ((oa_tokens z), (oa_place z), (nI h), (nI wl), (nI (fs.length + 1)), (oa_working z), (oa_top z), (oa_steps z), (oa_says z), (oa_kind z), (oa_value z), (oa_over z), (oa_given z), (oa_thrown z), (oa_tok z), (oa_need z), (oa_num z), op, x, y, fr, to, hn, ca, (oa_there z), opn, dn, wd, sta, en, la, ha, be, (oa_local z), (oa_stack z), (oa_back z), (oa_floor z), (oa_running z), (oa_output z)) o a b := by
    intro o a b F1 e1 e2 e3
    rw [dl0 (by omega)] at H
    refine om_emit (dx' := dx) (en' := en) (la' := la) H (by omega) F1 e3 (Or.inr ⟨rfl, by rw [P0, if_neg (by decide)]⟩) (om_chn0 H.2.2.1 (nt0 _ (by rw [F1]))) (fun op2 x2 y2 H2 => ?_)
    have KK2 := KK op2 x2 y2 en la
    rw [w0' (by omega), if_neg (by omega), show h0 + oc_ln K V C (m + 1) i ((fs.map Prod.fst).map Prod.fst) = h + 1 by omega] at KK2
    exact KK2 (om_okP (om_tail s H2) (fun a _ => PP (by omega) _))
  -- nothing
  have NOP : oc_ln K V C (m + 1) i ((fs.map Prod.fst).map Prod.fst) = oc_ca K V C m i ((fs.map Prod.fst).map Prod.fst) (ot_np (K i) (V i)) → ¬ (K i = 12 ∨ K i = 13 ∨ K i = 17 ∨ K i = 21) → om_dl K i (h0 + oc_ca K V C m i ((fs.map Prod.fst).map Prod.fst) 0 + oc_ln K V C m (C i 0) ((i, 0) :: (fs.map Prod.fst).map Prod.fst)) h0 (ot_np (K i) (V i)) dx = (if K i = 18 then h0 :: dx else dx) → Pst ((oa_tokens z), (oa_place z), (nI h), (nI wl), (nI (fs.length + 1)), (oa_working z), (oa_top z), (oa_steps z), (oa_says z), (oa_kind z), (oa_value z), (oa_over z), (oa_given z), (oa_thrown z), (oa_tok z), (oa_need z), (oa_num z), op, x, y, fr, to, hn, ca, (oa_there z), opn, dn, wd, sta, en, la, ha, be, (oa_local z), (oa_stack z), (oa_back z), (oa_floor z), (oa_running z), (oa_output z)) := by
    intro e1 e2 e3
    rw [e3] at H
    have KK2 := KK op x y en la
    rw [w0' (by omega), show h0 + oc_ln K V C (m + 1) i ((fs.map Prod.fst).map Prod.fst) = h by omega] at KK2
    exact KK2 (om_okP (om_tail s H) (fun a _ => PP (by omega) _))
  -- the ends are filled
  have FILL : ∀ (op x y : Nat → Int32), K i ≠ 18 → K i ≠ 21 → (K i = 12 ∨ K i = 13 ∨ K i = 17) → om_ok z K V F (om_pp K V P i (ot_np (K i) (V i))) (h0 + oc_ln K V C (m + 1) i ((fs.map Prod.fst).map Prod.fst)) dx ((oc_fr K V C m i h0 w0 (fs.map Prod.fst) (ot_np (K i) (V i)), (hd, b0)) :: fs) EN op x y fr to hn ca opn dn wd sta en la ha be → wpX_fill (fun u => Pst u) ((oa_tokens z), (oa_place z), (nI (h0 + oc_ln K V C (m + 1) i ((fs.map Prod.fst).map Prod.fst))), (nI wl), (nI (fs.length + 1)), (oa_working z), (oa_top z), (oa_steps z), (oa_says z), (oa_kind z), (oa_value z), (oa_over z), (oa_given z), (oa_thrown z), (oa_tok z), (oa_need z), (oa_num z), op, x, y, fr, to, hn, ca, (oa_there z), opn, dn, wd, sta, en, la, ha, be, (oa_local z), (oa_stack z), (oa_back z), (oa_floor z), (oa_running z), (oa_output z)) (en (nI fs.length).toNatClampNeg) (nI (h0 + oc_ln K V C (m + 1) i ((fs.map Prod.fst).map Prod.fst))) := by
    intro op x y k18 k21 hk H2
    have ee : en (nI fs.length).toNatClampNeg = om_pv F (3 * i + 1) (h0 + oc_ln K V C (m + 1) i ((fs.map Prod.fst).map Prod.fst)) := by rw [c1]; exact (H2.2.2.1 _ _ hat).1
    rw [ee]
    refine om_fill H2 (fun a ha e => by have := hdx a ha; omega) hb (om_pp1 hk) EX (fun x3 H3 => ?_)
    have KK2 := KK op x3 y en la
    rw [w0' k21, if_neg k18] at KK2
    exact KK2 (om_okP (om_tail s H3) (fun a _ => PR _))
  -- jumps
  have PL' : om_pl K V (om_pp K V P i (ot_np (K i) (V i))) ((oc_fr K V C m i h0 w0 (fs.map Prod.fst) (ot_np (K i) (V i)), (hd, b0)) :: fs) := by
    intro f hf hcl
    rcases List.mem_cons.mp hf with e | e
    · subst e
      have g := of_decide_eq_true hcl
      exact om_pp2 g.1 g.2.1 g.2.2
    · have ti : f.1.1.1 ≠ i := by
        obtain ⟨l1, l2, e2⟩ := List.append_of_mem e
        have h1 : om_at fs l2.length = some f.1.1.1 := by rw [e2]; exact om_at_suf
        have s3 : om_srt fs i := s.2.2
        have := om_at_srt s3 h1
        omega
      unfold om_pp
      rw [if_neg (by omega), if_neg (by omega)]
      exact PL f e hcl
  have JUMP : (K i = 19 ∨ K i = 20) → (∀ x3_1 : Int32, x3_1 = nI fs.length → wX_finish_229 Pst (nI (K i)) (V i) (oa_tokens z) (oa_place z) (nI h) (nI wl) (nI (fs.length + 1)) (oa_working z) (oa_top z) (oa_steps z) (oa_says z) (oa_kind z) (oa_value z) (oa_over z) (oa_given z) (oa_thrown z) (oa_tok z) (oa_need z) (oa_num z) op x y fr to hn ca (oa_there z) opn dn wd sta en la ha be (oa_local z) (oa_stack z) (oa_back z) (oa_floor z) (oa_running z) (oa_output z)) := by
    intro k _ _
    have tg0 : oc_tgt K V (V i) i (ot_np (K i) (V i)) = false := by unfold oc_tgt; exact decide_eq_false (fun e => by omega)
    have cl0 : oc_cln K V i (ot_np (K i) (V i)) = false := by unfold oc_cln; exact decide_eq_false (fun e => by omega)
    have bd := BD k
    cases hcj : oc_cj K V (V i) ((fs.map Prod.fst).map Prod.fst) with
    | none => exact absurd hcj bd
    | some c =>
      rw [dl0 (by omega)] at H
      have hcj2 : oc_cj K V (V i) (((((oc_fr K V C m i h0 w0 (fs.map Prod.fst) (ot_np (K i) (V i)), (hd, b0)) :: fs)).map Prod.fst).map Prod.fst) = some c := by
        simp only [List.map_cons, oc_fr, oc_cj, tg0, cl0, hcj]; rfl
      have A2 : oc_At F h (oc_jp K V (V i) (K i - 18) h (fs.map Prod.fst)) := by
        rcases k with k | k <;> simp only [oc_fi, k] at A <;> rw [if_neg (by rw [hcj]; simp)] at A <;> rw [k] <;> exact A
      have A3 : oc_At F h (oc_jp K V (V i) (K i - 18) h ((((oc_fr K V C m i h0 w0 (fs.map Prod.fst) (ot_np (K i) (V i)), (hd, b0)) :: fs)).map Prod.fst)) := by
        simp only [List.map_cons, oc_fr, oc_jp, tg0, cl0, Bool.false_eq_true, if_false]; exact A2
      have el2 : oc_ln K V C (m + 1) i ((fs.map Prod.fst).map Prod.fst) = oc_ca K V C m i ((fs.map Prod.fst).map Prod.fst) (ot_np (K i) (V i)) + (2 * c + 1) := by
        rw [el]; congr 1; rcases k with k | k <;> simp only [k, oc_lfi, hcj]
      obtain ⟨UA, UC, f0, d, b3, b4, b5, b6, b7⟩ := om_ua_jp hcj2 A3
      have b3' : om_ft K V (V i) fs = some f0 := by
        simp only [om_ft] at b3
        rw [if_neg (by show ¬ oc_tgt K V (V i) i (ot_np (K i) (V i)) = true; rw [tg0]; decide)] at b3
        exact b3
      obtain ⟨fm, ft⟩ := om_ft_mem b3'
      have ft' := of_decide_eq_true ft
      have hd41 : d < 41 := by simp only [List.length_cons] at b4; omega
      have ivd : vp_in (nI d) 41 := vp_in_nI hd41 (by omega)
      have cd : (nI d).toNatClampNeg = d := nI_clamp (by omega)
      have h520 : h + 2 * c < 520 := by omega
      refine om_tgt D (by simp only [List.length_cons]; omega) s H ?_
      rw [om_td_ts]
      refine om_unw D (by simp only [List.length_cons]; omega) s P0 PL' H UA (by rw [UC]; omega) (fun op3 x3 y3 la3 H3 => ?_)
      rw [UC] at H3 ⊢
      rw [b5]
      rcases k with k | k
      · have j1 : K i - 18 = 1 := by omega
        rw [if_pos j1] at b7
        refine br_t (by rw [k]; rfl) ⟨ivd, ?_⟩
        have ti : f0.1.1.1 ≠ i := by
          obtain ⟨l1, l2, e2⟩ := List.append_of_mem fm
          have h1 : om_at fs l2.length = some f0.1.1.1 := by rw [e2]; exact om_at_suf
          have s3 : om_srt fs i := s.2.2
          have := om_at_srt s3 h1
          omega
        have Pt : om_pp K V P i (ot_np (K i) (V i)) (3 * f0.1.1.1 + 1) = true := by
          unfold om_pp; rw [if_neg (by omega), if_neg (by omega)]; exact PB f0 fm ft'.1
        have ee : en (nI d).toNatClampNeg = om_pv F (3 * f0.1.1.1 + 1) (h + 2 * c) := by rw [cd]; exact (H3.2.2.1 _ _ b6).1
        rw [ee]
        refine om_emit (dx' := dx) (en' := upd en d (nI (h + 2 * c))) (la' := la3) H3 h520 b7 (by decide) (Or.inr ⟨rfl, by rw [if_pos Pt]⟩) (om_chnE H3.2.2.1 s b6 (by rw [b7])) (fun op4 x4 y4 H4 => ?_)
        refine And.intro ivd (nm_r (e' := upd en d (nI (h + 2 * c))) (by rw [cd, ok_sh (by omega)]) ?_)
        have KK2 := KK op4 x4 y4 (upd en d (nI (h + 2 * c))) la3
        rw [w0' (by omega), if_neg (by omega), show h0 + oc_ln K V C (m + 1) i ((fs.map Prod.fst).map Prod.fst) = h + 2 * c + 1 by omega] at KK2
        exact KK2 (om_okP (om_tail s H4) (fun a _ => PP (by omega) _))
      · have j1 : ¬ K i - 18 = 1 := by omega
        rw [if_neg j1] at b7
        refine br_f (by rw [k]; decide) ⟨ivd, ?_⟩
        have es : sta (nI d).toNatClampNeg = nI f0.1.2.1 := by rw [cd]; exact om_ft_sta H3.2.1 (by simp only [List.length_cons]; omega) b4 b3 b5
        rw [es]
        refine om_emit (dx' := dx) (en' := en) (la' := la3) H3 h520 b7 (by decide) (Or.inr ⟨rfl, by rw [P0, if_neg (by decide)]⟩) (om_chn0 H3.2.2.1 (nt0 _ (by rw [b7]))) (fun op4 x4 y4 H4 => ?_)
        have KK2 := KK op4 x4 y4 en la3
        rw [w0' (by omega), if_neg (by omega), show h0 + oc_ln K V C (m + 1) i ((fs.map Prod.fst).map Prod.fst) = h + 2 * c + 1 by omega] at KK2
        exact KK2 (om_okP (om_tail s H4) (fun a _ => PP (by omega) _))
  refine nm_r (e' := nI fs.length) (nI_pred _) ?_
  rcases ot_kinds ok with k | k | k | k | k | k | k | k | k | k | k | k | k | k | k | k | k
  · have ek : nI (K i) = 0 := by rw [k]; rfl
    simp only [oc_fi, k] at A
    simp only [k, oc_lfi] at el
    iterate 2 refine br_f (by rw [ek]; decide) ?_
    refine br_t ek ?_
    have G := EM _ _ _ A.1 (by rw [k]; exact el) (by omega) (by decide)
    unfold wX_finish_112
    rw [ek]
    exact G
  · have ek : nI (K i) = 1 := by rw [k]; rfl
    simp only [oc_fi, k] at A
    simp only [k, oc_lfi] at el
    iterate 3 refine br_f (by rw [ek]; decide) ?_
    refine br_t ek ?_
    have G := EM _ _ _ A.1 (by rw [k]; exact el) (by omega) (by decide)
    rw [← ek] at G
    exact G
  · rcases k with k | k | k | k | k
    · have ek : nI (K i) = 2 := by rw [k]; rfl
      simp only [oc_fi, k] at A
      simp only [k, oc_lfi] at el
      iterate 4 refine br_f (by rw [ek]; decide) ?_
      refine br_t ek ?_
      have G := EM _ _ _ A.1 (by rw [k]; exact el) (by omega) (by decide)
      have e2 : nI 2 = nI (K i) := by rw [k]
      rw [e2] at G
      exact G
    · have ek : nI (K i) = 3 := by rw [k]; rfl
      simp only [oc_fi, k] at A
      simp only [k, oc_lfi] at el
      iterate 5 refine br_f (by rw [ek]; decide) ?_
      refine br_t ek ?_
      have G := EM _ _ _ A.1 (by rw [k]; exact el) (by omega) (by decide)
      have e2 : nI 3 = nI (K i) := by rw [k]
      rw [e2] at G
      exact G
    · have ek : nI (K i) = 4 := by rw [k]; rfl
      simp only [oc_fi, k] at A
      simp only [k, oc_lfi] at el
      iterate 6 refine br_f (by rw [ek]; decide) ?_
      refine br_t ek ?_
      have G := EM _ _ _ A.1 (by rw [k]; exact el) (by omega) (by decide)
      have e2 : nI 4 = nI (K i) := by rw [k]
      rw [e2] at G
      exact G
    · have ek : nI (K i) = 5 := by rw [k]; rfl
      simp only [oc_fi, k] at A
      simp only [k, oc_lfi] at el
      iterate 7 refine br_f (by rw [ek]; decide) ?_
      refine br_t ek ?_
      have G := EM _ _ _ A.1 (by rw [k]; exact el) (by omega) (by decide)
      have e2 : nI 5 = nI (K i) := by rw [k]
      rw [e2] at G
      exact G
    · have ek : nI (K i) = 6 := by rw [k]; rfl
      simp only [oc_fi, k] at A
      simp only [k, oc_lfi] at el
      iterate 8 refine br_f (by rw [ek]; decide) ?_
      refine br_t ek ?_
      have G := EM _ _ _ A.1 (by rw [k]; exact el) (by omega) (by decide)
      have e2 : nI 6 = nI (K i) := by rw [k]
      rw [e2] at G
      exact G
  · have ek : nI (K i) = 7 := by rw [k]; rfl
    simp only [oc_fi, k] at A
    simp only [k, oc_lfi] at el
    iterate 9 refine br_f (by rw [ek]; decide) ?_
    refine br_t ek ?_
    have G := EM _ _ _ A.1 (by rw [k]; exact el) (by omega) (by decide)
    have e2 : nI 7 = nI (K i) := by rw [k]
    rw [e2] at G
    exact G
  · have ek : nI (K i) = 8 := by rw [k]; rfl
    simp only [oc_fi, k] at A
    simp only [k, oc_lfi] at el
    iterate 10 refine br_f (by rw [ek]; decide) ?_
    refine br_t ek ?_
    have G := EM _ _ _ A.1 (by rw [k]; exact el) (by omega) (by decide)
    rw [← ek] at G
    exact G
  · have ek : nI (K i) = 10 := by rw [k]; rfl
    simp only [oc_fi, k] at A
    simp only [k, oc_lfi] at el
    iterate 12 refine br_f (by rw [ek]; decide) ?_
    refine br_t ek ?_
    have G := EM _ _ _ A.1 (by rw [k]; exact el) (by omega) (by decide)
    rw [← ek] at G
    exact G
  · have ek : nI (K i) = 11 := by rw [k]; rfl
    simp only [oc_fi, k] at A
    simp only [k, oc_lfi] at el
    iterate 13 refine br_f (by rw [ek]; decide) ?_
    refine br_t ek ?_
    have G := EM _ _ _ A.1 (by rw [k]; exact el) (by omega) (by decide)
    have e2 : nI 11 = nI (K i) := by rw [k]
    rw [e2] at G
    exact G
  · -- IF
    have ek : nI (K i) = 12 := by rw [k]; rfl
    have np3 : ot_np (K i) (V i) = 3 := by rw [k]; rfl
    simp only [k, oc_lfi] at el
    iterate 14 refine br_f (by rw [ek]; decide) ?_
    refine br_t ek ⟨iv, ?_⟩
    have eh : h = h0 + oc_ln K V C (m + 1) i ((fs.map Prod.fst).map Prod.fst) := by rw [hh, k]; omega
    have dl : om_dl K i (h0 + oc_ca K V C m i ((fs.map Prod.fst).map Prod.fst) 0 + oc_ln K V C m (C i 0) ((i, 0) :: (fs.map Prod.fst).map Prod.fst)) h0 (ot_np (K i) (V i)) dx = dx := by unfold om_dl; rw [if_neg (by omega), if_neg (by omega)]
    rw [dl, eh] at H
    rw [eh]
    exact FILL op x y (by omega) (by omega) (by omega) H
  · -- WHILE
    have ek : nI (K i) = 13 := by rw [k]; rfl
    have np2 : ot_np (K i) (V i) = 2 := by rw [k]; rfl
    simp only [oc_fi, k] at A
    simp only [k, oc_lfi] at el
    iterate 15 refine br_f (by rw [ek]; decide) ?_
    refine br_t ek ⟨iv, ?_⟩
    have eh : h0 + oc_ln K V C (m + 1) i ((fs.map Prod.fst).map Prod.fst) = h + 1 := by rw [hh, k]; omega
    have dl : om_dl K i (h0 + oc_ca K V C m i ((fs.map Prod.fst).map Prod.fst) 0 + oc_ln K V C m (C i 0) ((i, 0) :: (fs.map Prod.fst).map Prod.fst)) h0 (ot_np (K i) (V i)) dx = (h0 + oc_ca K V C m i ((fs.map Prod.fst).map Prod.fst) 0 + oc_ln K V C m (C i 0) ((i, 0) :: (fs.map Prod.fst).map Prod.fst)) :: dx := by unfold om_dl; rw [if_pos (by omega)]
    rw [dl] at H
    have es : sta (nI fs.length).toNatClampNeg = nI h0 := by rw [c1]; exact H.2.1.1.2.2.1
    rw [es]
    obtain ⟨F1, _⟩ := A
    refine om_emit (dx' := (h0 + oc_ca K V C m i ((fs.map Prod.fst).map Prod.fst) 0 + oc_ln K V C m (C i 0) ((i, 0) :: (fs.map Prod.fst).map Prod.fst)) :: dx) (en' := en) (la' := la) H (by omega) F1 (by decide) (Or.inr ⟨rfl, by rw [P0, if_neg (by decide)]⟩) (om_chn0 H.2.2.1 (nt0 _ (by rw [F1]))) (fun op2 x2 y2 H2 => ?_)
    have ehd : ha (nI fs.length).toNatClampNeg = nI (h0 + oc_ca K V C m i ((fs.map Prod.fst).map Prod.fst) 0 + oc_ln K V C m (C i 0) ((i, 0) :: (fs.map Prod.fst).map Prod.fst)) := by rw [c1, ← hhd k]; exact H.2.1.1.2.2.2.2.1
    have ea : (2080 : Int32) + nI (h0 + oc_ca K V C m i ((fs.map Prod.fst).map Prod.fst) 0 + oc_ln K V C m (C i 0) ((i, 0) :: (fs.map Prod.fst).map Prod.fst)) = nI (2080 + (h0 + oc_ca K V C m i ((fs.map Prod.fst).map Prod.fst) 0 + oc_ln K V C m (C i 0) ((i, 0) :: (fs.map Prod.fst).map Prod.fst))) := nI_add 2080 _
    have hHA2 := hHA k
    refine And.intro iv ⟨by rw [ehd, ea]; exact vp_in_nI (by omega) (by omega), nm_r (e' := upd x2 (2080 + (h0 + oc_ca K V C m i ((fs.map Prod.fst).map Prod.fst) 0 + oc_ln K V C m (C i 0) ((i, 0) :: (fs.map Prod.fst).map Prod.fst))) (nI (h + 1))) (by rw [ehd, ea, nI_clamp (by omega)]) ⟨iv, ?_⟩⟩
    have H3 := om_clean (v := nI (h + 1)) H2 (by simp only [om_xv, hFA k]; rw [PM' _ (by omega), if_neg (by decide), eh])
    rw [← eh] at H3 ⊢
    exact FILL _ _ _ (by omega) (by omega) (by omega) H3
  · -- SEQ
    have ek : nI (K i) = 14 := by rw [k]; rfl
    simp only [k, oc_lfi] at el
    iterate 16 refine br_f (by rw [ek]; decide) ?_
    exact br_t ek (NOP (by rw [k]; exact el) (by omega) (by rw [dl0 (by omega), if_neg (by omega)]))
  · -- SKIP
    have ek : nI (K i) = 15 := by rw [k]; rfl
    simp only [k, oc_lfi] at el
    iterate 17 refine br_f (by rw [ek]; decide) ?_
    exact br_t ek (NOP (by rw [k]; exact el) (by omega) (by rw [dl0 (by omega), if_neg (by omega)]))
  · have ek : nI (K i) = 16 := by rw [k]; rfl
    simp only [oc_fi, k] at A
    simp only [k, oc_lfi] at el
    iterate 18 refine br_f (by rw [ek]; decide) ?_
    refine br_t ek ?_
    have G := EM _ _ _ A.1 (by rw [k]; exact el) (by omega) (by decide)
    rw [← ek] at G
    exact G
  · -- TRY
    have ek : nI (K i) = 17 := by rw [k]; rfl
    have ok17 := ok
    rw [k] at ok17
    obtain ⟨v3, vc⟩ := ot_v17b ok17
    simp only [oc_fi, k] at A
    simp only [k, oc_lfi] at el
    rw [dl0 (by omega)] at H
    iterate 19 refine br_f (by rw [ek]; decide) ?_
    refine br_t ek ?_
    by_cases hc : ot_cl (V i) = true
    · rw [if_pos hc] at A el
      refine br_f (fun e => by rw [vc.mp e] at hc; cases hc) ⟨iv, ?_⟩
      have eh : h0 + oc_ln K V C (m + 1) i ((fs.map Prod.fst).map Prod.fst) = h + 1 := by rw [hh, k]; omega
      have ew : wd (nI fs.length).toNatClampNeg = nI w0 := by rw [c1]; exact H.2.1.1.2.2.2.1 k hc
      rw [ew]
      obtain ⟨F1, _⟩ := A
      refine om_emit (dx' := dx) (en' := en) (la' := la) H (by omega) F1 (by decide) (Or.inr ⟨rfl, by rw [P0, if_neg (by decide)]⟩) (om_chn0 H.2.2.1 (nt0 _ (by rw [F1]))) (fun op2 x2 y2 H2 => ?_)
      refine And.intro iv ?_
      rw [← eh] at H2 ⊢
      exact FILL _ _ _ (by omega) (by omega) (by omega) H2
    · rw [if_neg hc] at A el
      have eh : h = h0 + oc_ln K V C (m + 1) i ((fs.map Prod.fst).map Prod.fst) := by rw [hh, k]; omega
      refine br_t (vc.mpr (by cases e : ot_cl (V i) with | true => exact absurd e hc | false => rfl)) (And.intro iv ?_)
      rw [eh] at H ⊢
      exact FILL op x y (by omega) (by omega) (by omega) H
  · -- CATCH
    have ek : nI (K i) = 18 := by rw [k]; rfl
    simp only [k, oc_lfi] at el
    iterate 20 refine br_f (by rw [ek]; decide) ?_
    exact br_t ek (NOP (by rw [k]; exact el) (by omega) (by unfold om_dl; rw [if_neg (by omega), if_pos k]))
  · -- BREAK, CONTINUE
    have ek : nI (K i) = 19 := by rw [k]; rfl
    iterate 21 refine br_f (by rw [ek]; decide) ?_
    exact br_t ek (JUMP (Or.inl k) _ rfl)
  · have ek : nI (K i) = 20 := by rw [k]; rfl
    iterate 22 refine br_f (by rw [ek]; decide) ?_
    exact br_t ek (JUMP (Or.inr k) _ rfl)
  · -- RETURN
    have ek : nI (K i) = 21 := by rw [k]; rfl
    have np1 : ot_np (K i) (V i) = 1 := by rw [k]; rfl
    have cl0 : oc_cln K V i (ot_np (K i) (V i)) = false := by unfold oc_cln; exact decide_eq_false (fun e => by omega)
    have crE : oc_cr K V (((((oc_fr K V C m i h0 w0 (fs.map Prod.fst) (ot_np (K i) (V i)), (hd, b0)) :: fs)).map Prod.fst).map Prod.fst) = oc_cr K V ((fs.map Prod.fst).map Prod.fst) := by
      simp only [List.map_cons, oc_fr, oc_cr, cl0, Bool.false_eq_true, if_false, Nat.zero_add]
    simp only [oc_fi, k] at A
    simp only [k, oc_lfi] at el
    rw [dl0 (by omega)] at H
    iterate 23 refine br_f (by rw [ek]; decide) ?_
    refine br_t ek (om_crs D (by simp only [List.length_cons]; omega) s H ?_)
    rw [crE]
    by_cases hc : oc_cr K V ((fs.map Prod.fst).map Prod.fst) = 0
    · rw [hc] at A el ⊢
      simp only [if_true] at A el
      refine br_t (by decide) ?_
      obtain ⟨F1, _⟩ := A
      refine om_emit (dx' := dx) (en' := en) (la' := la) H (by rw [k] at hh; omega) F1 (by decide) (Or.inr ⟨rfl, by rw [P0, if_neg (by decide)]⟩) (om_chn0 H.2.2.1 (nt0 _ (by rw [F1]))) (fun op2 x2 y2 H2 => ?_)
      have KK2 := KK op2 x2 y2 en la
      rw [if_neg (by omega), if_neg (by omega), show h0 + oc_ln K V C (m + 1) i ((fs.map Prod.fst).map Prod.fst) = h + 1 by rw [k] at hh; omega] at KK2
      exact KK2 (om_okP (om_tail s H2) (fun a _ => PP (by omega) _))
    · rw [if_neg hc] at A el
      have crle := oc_rt_len K V wl (fs.map Prod.fst) (h + 1)
      have crp : 0 < oc_cr K V ((fs.map Prod.fst).map Prod.fst) := by omega
      have crb : oc_cr K V ((fs.map Prod.fst).map Prod.fst) < 1000 := by omega
      refine br_f (nI_nle crp (by omega)) (nm_r (nI_1 wl) ?_)
      obtain ⟨F1, A2⟩ := A
      have A3 : oc_At F (h + 1) (oc_rt K V wl (h + 1) ((((oc_fr K V C m i h0 w0 (fs.map Prod.fst) (ot_np (K i) (V i)), (hd, b0)) :: fs)).map Prod.fst)) := by
        simp only [List.map_cons, oc_fr, oc_rt, cl0, Bool.false_eq_true, if_false]; exact A2
      obtain ⟨UA, ⟨F2, F3, _⟩, UC⟩ := om_ua_rt A3
      rw [crE] at UC
      refine om_emit (dx' := dx) (en' := en) (la' := la) H (by rw [k] at hh; omega) F1 (by decide) (Or.inr ⟨rfl, by rw [P0, if_neg (by decide)]⟩) (om_chn0 H.2.2.1 (nt0 _ (by rw [F1]))) (fun op2 x2 y2 H2 => ?_)
      have e1 : (-1 : Int32) = om_ts (fun _ => false) ((oc_fr K V C m i h0 w0 (fs.map Prod.fst) (ot_np (K i) (V i)), (hd, b0)) :: fs) := om_ts_f.symm
      rw [e1]
      refine om_unw D (by simp only [List.length_cons]; omega) s P0 PL' H2 UA (by rw [UC]; rw [k] at hh; omega) (fun op3 x3 y3 la3 H3 => ?_)
      have u520 : om_uc K V (fun _ => false) (h + 1) ((oc_fr K V C m i h0 w0 (fs.map Prod.fst) (ot_np (K i) (V i)), (hd, b0)) :: fs) + 2 = h0 + oc_ln K V C (m + 1) i ((fs.map Prod.fst).map Prod.fst) := by rw [UC]; rw [k] at hh; omega
      refine om_emit (dx' := dx) (en' := en) (la' := la3) H3 (by omega) F2 (by decide) (Or.inr ⟨rfl, by rw [P0, if_neg (by decide)]⟩) (om_chn0 H3.2.2.1 (nt0 _ (by rw [F2]))) (fun op4 x4 y4 H4 => ?_)
      refine om_emit (dx' := dx) (en' := en) (la' := la3) H4 (by omega) F3 (by decide) (Or.inr ⟨rfl, by rw [P0, if_neg (by decide)]⟩) (om_chn0 H4.2.2.1 (nt0 _ (by rw [F3]))) (fun op5 x5 y5 H5 => ?_)
      have KK2 := KK op5 x5 y5 en la3
      rw [if_neg (c := K i = 18) (by omega), if_pos (c := K i = 21 ∧ oc_cr K V ((fs.map Prod.fst).map Prod.fst) ≠ 0) ⟨k, hc⟩, ← u520] at KK2
      exact KK2 (om_okP (om_tail s H5) (fun a _ => PP (by omega) _))
end
end
section
/-! ===== X's compiler: a token begins ===== -/
theorem om_parts {Pst : Int32 → Prop} {k : Nat} {v : Int32} (ok : ot_ok k v) (H : Pst (nI (ot_np k v))) : wpX_parts Pst (nI k) v := by
  rcases ot_kinds ok with e | e | e | e | e | e | e | e | e | e | e | e | e | e | e | e | e
  case inr.inr.inl => rcases e with e | e | e | e | e <;> subst e <;> repeat (first | exact br_t (by decide) H | refine br_f (by decide) ?_)
  case inr.inr.inr.inr.inr.inr.inr.inr.inr.inr.inr.inr.inl =>
    subst e
    rcases ok.2.2.2.2.1 rfl with e | e | e | e | e <;> subst e <;> exact br_t rfl H
  all_goals subst e; repeat (first | exact br_t (by decide) H | exact br_f (by decide) H | refine br_f (by decide) ?_)
section
variable {z : SX} {K : Nat → Nat} {V : Nat → Int32} {C : Nat → Nat → Nat} {F : Nat → oc_I} {P : Nat → Bool} {h w N : Nat} {dx : List Nat} {fs : List om_F} {EN : List (Nat × Nat × Nat)} {op x y fr to hn ca opn dn wd sta en la ha be : Nat → Int32}
theorem om_pv_none {g : Nat} : ∀ {h : Nat}, (∀ a, a < h → (F a).2.2.2 ≠ g) → om_pv F g h = -1
  | 0, _ => rfl
  | h + 1, H => by
    simp only [om_pv]
    rw [if_neg (H h (by omega))]
    exact om_pv_none (fun a ha => H a (by omega))
theorem om_bgn {Pst : SX → Prop} {i m h0 w0 nx a0 : Nat} (eh : h0 = h) (ew : w0 = w) (ok : ot_ok (K i) (V i)) (hr : fs.length < 40) (hi : i < 40) (H : om_ok z K V F P h dx fs EN op x y fr to hn ca opn dn wd sta en la ha be) (TG : ∀ a, a < h → (F a).2.2.2 ≤ 3 * i) (A : oc_At F h (oc_bg K V i nx)) (hb : h + oc_lbg (K i) ≤ 520) (hw : w < 100) (PM : ∀ q, q % 3 = 0 → P q = false)
    (KK : ∀ (op x y wd ha : Nat → Int32) (hd b0 : Int32), om_ok z K V F (om_pp K V P i 0) (h + oc_lbg (K i)) (om_dl K i a0 h0 0 dx) ((oc_fr K V C m i h0 w0 (fs.map Prod.fst) 0, (hd, b0)) :: fs) EN op x y fr to hn ca (upd opn fs.length (nI i)) (upd dn fs.length (nI 0)) wd (upd sta fs.length (nI h)) (upd en fs.length (-1)) (upd la fs.length (-1)) ha be → (K i = 18 → hd = nI h) → Pst ((oa_tokens z), (oa_place z), (nI (h + oc_lbg (K i))), (nI (w + (if K i = 17 ∧ ot_cl (V i) = true then 3 else 0))), (nI (fs.length + 1)), (oa_working z), (oa_top z), (oa_steps z), (oa_says z), (oa_kind z), (oa_value z), (oa_over z), (oa_given z), (oa_thrown z), (oa_tok z), (oa_need z), (oa_num z), op, x, y, fr, to, hn, ca, (oa_there z), (upd opn fs.length (nI i)), (upd dn fs.length (nI 0)), wd, (upd sta fs.length (nI h)), (upd en fs.length (-1)), (upd la fs.length (-1)), ha, be, (oa_local z), (oa_stack z), (oa_back z), (oa_floor z), (oa_running z), (oa_output z))) :
    wpX_begin Pst ((oa_tokens z), (oa_place z), (nI h), (nI w), (nI (fs.length + 1)), (oa_working z), (oa_top z), (oa_steps z), (oa_says z), (oa_kind z), (oa_value z), (oa_over z), (oa_given z), (oa_thrown z), (oa_tok z), (oa_need z), (oa_num z), op, x, y, fr, to, hn, ca, (oa_there z), (upd opn fs.length (nI i)), (upd dn fs.length (nI 0)), wd, (upd sta fs.length (nI h)), (upd en fs.length (-1)), (upd la fs.length (-1)), ha, be, (oa_local z), (oa_stack z), (oa_back z), (oa_floor z), (oa_running z), (oa_output z)) (nI (K i)) (V i) := by
  subst eh ew
  have k22 := ok.1
  have iv : vp_in (nI fs.length) 41 := vp_in_nI (by omega) (by omega)
  have e1 : nI (fs.length + 1) - 1 = nI fs.length := nI_pred _
  have c1 : (nI fs.length).toNatClampNeg = fs.length := nI_clamp (by omega)
  have kk : ∀ c : Nat, c < 100 → (nI (K i) = nI c ↔ K i = c) := fun c hc => nI_eq (by omega) (by omega)
  -- the frame is pushed
  have PUSH : ∀ (wd' ha' : Nat → Int32) (hd b0 : Int32), (∀ d, d < fs.length → wd' d = wd d ∧ ha' d = ha d) → (K i = 17 → ot_cl (V i) = true → wd' fs.length = nI w0) → ha' fs.length = hd → be fs.length = b0 → om_ok z K V F (om_pp K V P i 0) h0 dx ((oc_fr K V C m i h0 w0 (fs.map Prod.fst) 0, (hd, b0)) :: fs) EN op x y fr to hn ca (upd opn fs.length (nI i)) (upd dn fs.length (nI 0)) wd' (upd sta fs.length (nI h0)) (upd en fs.length (-1)) (upd la fs.length (-1)) ha' be := by
    intro wd' ha' hd b0 g1 g2 g3 g4
    obtain ⟨h1, h2, h3, h4, h5⟩ := H
    refine ⟨fun a ha => ?_, ⟨⟨pk_us, pk_us, pk_us, g2, g3, g4⟩, om_rp_cg h2 (fun d hd => ⟨pk_un (by omega), pk_un (by omega), (g1 d hd).1, pk_un (by omega), (g1 d hd).2, rfl⟩)⟩, ?_, h4, h5⟩
    · obtain ⟨a1, a2, a3⟩ := h1 a ha
      refine ⟨a1, a2, fun hd => ?_⟩
      rw [a3 hd]
      have := TG a ha
      simp only [om_xv]
      have : om_pp K V P i 0 (F a).2.2.2 = P (F a).2.2.2 := by unfold om_pp; rw [if_neg (by omega), if_neg (by omega)]
      rw [this]
    · intro d t hd
      simp only [om_at] at hd
      by_cases e : d = fs.length
      · rw [if_pos e] at hd
        have et : i = t := by injection hd
        subst et e
        rw [pk_us, pk_us, om_pv_none (fun a ha => by have := TG a ha; omega), om_pv_none (fun a ha => by have := TG a ha; omega)]
        exact ⟨rfl, rfl⟩
      · rw [if_neg e] at hd
        rw [pk_un e, pk_un e]
        exact h3 d t hd
  by_cases k13 : K i = 13
  · have d17 : ¬ nI (K i) = 17 := fun e => by have := (kk 17 (by omega)).mp e; omega
    have d18 : ¬ nI (K i) = 18 := fun e => by have := (kk 18 (by omega)).mp e; omega
    simp only [oc_bg, k13] at A
    have lb : oc_lbg (K i) = 1 := by rw [k13]; rfl
    have H1 := PUSH wd ha (ha fs.length) (be fs.length) (fun d _ => ⟨rfl, rfl⟩) (fun e => by omega) rfl rfl
    rw [lb] at KK hb
    refine br_t ((kk 13 (by omega)).mpr k13) ?_
    refine om_emit (dx' := dx) (en' := upd en fs.length (-1)) (la' := upd la fs.length (-1)) H1 (by omega) A.1 (by decide) (Or.inr ⟨rfl, by rw [om_ppM PM 0 rfl, if_neg (by decide)]⟩) (om_chn0 H1.2.2.1 (fun d t _ => by rw [A.1]; exact ⟨by simp, by simp⟩)) (fun op2 x2 y2 H2 => ?_)
    have KK2 := KK op2 x2 y2 wd ha (ha fs.length) (be fs.length)
    have dl : om_dl K i a0 h0 0 dx = dx := by unfold om_dl; rw [if_neg (by omega), if_neg (by omega)]
    rw [dl, if_neg (by omega)] at KK2
    exact br_f d17 (br_f d18 (KK2 H2 (fun e => by omega)))
  · refine br_f (fun e => k13 ((kk 13 (by omega)).mp e)) ?_
    by_cases k18 : K i = 18
    · have d17 : ¬ nI (K i) = 17 := fun e => by have := (kk 17 (by omega)).mp e; omega
      simp only [oc_bg, k18] at A
      have lb : oc_lbg (K i) = 1 := by rw [k18]; rfl
      have H1 := PUSH wd ha (ha fs.length) (be fs.length) (fun d _ => ⟨rfl, rfl⟩) (fun e => by omega) rfl rfl
      rw [lb] at KK hb
      refine br_f d17 (br_t ((kk 18 (by omega)).mpr k18) ?_)
      refine om_emit (dx' := h0 :: dx) (en' := upd en fs.length (-1)) (la' := upd la fs.length (-1)) H1 (by omega) A.1 (by decide) (Or.inl rfl) (om_chn0 H1.2.2.1 (fun d t _ => by rw [A.1]; exact ⟨by show 3 * i + 3 ≠ _; omega, by show 3 * i + 3 ≠ _; omega⟩)) (fun op2 x2 y2 H2 => ?_)
      have KK2 := KK op2 x2 y2 wd (upd ha fs.length (nI h0)) (nI h0) (be fs.length)
      have dl : om_dl K i a0 h0 0 dx = h0 :: dx := by unfold om_dl; rw [if_neg (by omega), if_pos k18]
      rw [dl, if_neg (by omega)] at KK2
      refine And.intro (by rw [e1]; exact iv) (nm_r (e' := upd ha fs.length (nI h0)) (by rw [e1, c1, ok_sh (by omega)]) (KK2 ?_ (fun _ => rfl)))
      exact om_head (f' := (oc_fr K V C m i h0 w0 (fs.map Prod.fst) 0, (nI h0, be fs.length))) H2 rfl rfl (fun d hd => ⟨rfl, pk_un (by omega), rfl⟩) H2.2.1.1.2.1 pk_us rfl
    · have d18 : ¬ nI (K i) = 18 := fun e => k18 ((kk 18 (by omega)).mp e)
      have lb : oc_lbg (K i) = 0 := by
        unfold oc_lbg
        split
        · omega
        · omega
        · rfl
      have dl : om_dl K i a0 h0 0 dx = dx := by unfold om_dl; rw [if_neg (by omega), if_neg (by omega)]
      rw [lb, dl] at KK
      by_cases k17 : K i = 17
      · have ok17 := ok
        rw [k17] at ok17
        obtain ⟨v3, vc⟩ := ot_v17b ok17
        refine br_t ((kk 17 (by omega)).mpr k17) ?_
        by_cases hc : ot_cl (V i) = true
        · have H1 := PUSH (upd wd fs.length (nI w0)) ha (ha fs.length) (be fs.length) (fun d hd => ⟨pk_un (by omega), rfl⟩) (fun _ _ => pk_us) rfl rfl
          have KK2 := KK op x y (upd wd fs.length (nI w0)) ha (ha fs.length) (be fs.length) H1 (fun e => absurd e k18)
          rw [if_pos ⟨k17, hc⟩] at KK2
          refine br_f (fun e => by rw [vc.mp e] at hc; cases hc) ⟨by rw [e1]; exact iv, nm_r (e' := upd wd fs.length (nI w0)) (by rw [e1, c1, ok_by (by omega)]) (nm_r (e' := nI (w0 + 3)) (nI_add w0 3) (br_f d18 KK2))⟩
        · have H1 := PUSH wd ha (ha fs.length) (be fs.length) (fun d _ => ⟨rfl, rfl⟩) (fun _ e => absurd e hc) rfl rfl
          have KK2 := KK op x y wd ha (ha fs.length) (be fs.length) H1 (fun e => absurd e k18)
          rw [if_neg (fun e => hc e.2)] at KK2
          exact br_t (vc.mpr (by cases e : ot_cl (V i) with | true => exact absurd e hc | false => rfl)) (br_f d18 KK2)
      · have H1 := PUSH wd ha (ha fs.length) (be fs.length) (fun d _ => ⟨rfl, rfl⟩) (fun e => absurd e k17) rfl rfl
        have KK2 := KK op x y wd ha (ha fs.length) (be fs.length) H1 (fun e => absurd e k18)
        rw [if_neg (fun e => k17 e.1)] at KK2
        exact br_f (fun e => k17 ((kk 17 (by omega)).mp e)) (br_f d18 KK2)
end
end
section
/-! ===== X's compiler: the induction ===== -/
section
variable (post : Int32 → SX → Prop) (z : SX) (K : Nat → Nat) (V : Nat → Int32) (F : Nat → oc_I) (N : Nat)
/-- the outer loop at token i -/
def om_O (i h w : Nat) (P : Nat → Bool) (dx : List Nat) (fs : List om_F) (EN : List (Nat × Nat × Nat)) : Prop :=
  ∀ op x y fr to hn ca opn dn wd sta en la ha be : Nat → Int32, om_ok z K V F P h dx fs EN op x y fr to hn ca opn dn wd sta en la ha be → ∀ n, N + 1 ≤ n + i → wX_compile_25 post n (nI i) (oa_tokens z) (oa_place z) (nI h) (nI w) (nI fs.length) (oa_working z) (oa_top z) (oa_steps z) (oa_says z) (oa_kind z) (oa_value z) (oa_over z) (oa_given z) (oa_thrown z) (oa_tok z) (oa_need z) (oa_num z) op x y fr to hn ca (oa_there z) opn dn wd sta en la ha be (oa_local z) (oa_stack z) (oa_back z) (oa_floor z) (oa_running z) (oa_output z)
/-- the inner loop within token j -/
def om_I (j h w : Nat) (P : Nat → Bool) (dx : List Nat) (fs : List om_F) (EN : List (Nat × Nat × Nat)) : Prop :=
  ∀ op x y fr to hn ca opn dn wd sta en la ha be : Nat → Int32, om_ok z K V F P h dx fs EN op x y fr to hn ca opn dn wd sta en la ha be → ∀ n, N + 1 ≤ n + (j + 1) → ∀ k, fs.length + 2 ≤ k → wX_compile_140 post (wX_compile_25 post n) (nI j) k 1 (oa_tokens z) (oa_place z) (nI h) (nI w) (nI fs.length) (oa_working z) (oa_top z) (oa_steps z) (oa_says z) (oa_kind z) (oa_value z) (oa_over z) (oa_given z) (oa_thrown z) (oa_tok z) (oa_need z) (oa_num z) op x y fr to hn ca (oa_there z) opn dn wd sta en la ha be (oa_local z) (oa_stack z) (oa_back z) (oa_floor z) (oa_running z) (oa_output z)
/-- behind a token that is complete and popped -/
def om_pt (n k j : Nat) (u : SX) : Prop :=
  ((oa_depth u ≤ 0 → wX_compile_140 post (wX_compile_25 post n) (nI j) k 1 (oa_tokens u) (oa_place u) (oa_here u) (oa_words u) (oa_depth u) (oa_working u) (oa_top u) (oa_steps u) (oa_says u) (oa_kind u) (oa_value u) (oa_over u) (oa_given u) (oa_thrown u) (oa_tok u) (oa_need u) (oa_num u) (oa_op u) (oa_x u) (oa_y u) (oa_from u) (oa_to u) (oa_handler u) (oa_caught u) (oa_there u) (oa_open u) (oa_done u) (oa_word u) (oa_start u) (oa_ends u) (oa_last u) (oa_hand u) (oa_bodyEnd u) (oa_local u) (oa_stack u) (oa_back u) (oa_floor u) (oa_running u) (oa_output u)) ∧ (¬ oa_depth u ≤ 0 → (vp_in (oa_depth u - 1) 41 ∧ (∀ x6 : Int32, x6 = oa_open u (oa_depth u - 1).toNatClampNeg → (vp_in (oa_depth u - 1) 41 ∧ (vp_in (oa_depth u - 1) 41 ∧ ∀ dn' : Nat → Int32, dn' = upd (oa_done u) (oa_depth u - 1).toNatClampNeg (vp_nar .byte ((oa_done u (oa_depth u - 1).toNatClampNeg + 1).toInt8.toInt32)) → (vp_in x6 40 ∧ (vp_in x6 40 ∧ (vp_in (oa_depth u - 1) 41 ∧ (wpX_between (fun u' => wX_compile_140 post (wX_compile_25 post n) (nI j) k 1 (oa_tokens u') (oa_place u') (oa_here u') (oa_words u') (oa_depth u') (oa_working u') (oa_top u') (oa_steps u') (oa_says u') (oa_kind u') (oa_value u') (oa_over u') (oa_given u') (oa_thrown u') (oa_tok u') (oa_need u') (oa_num u') (oa_op u') (oa_x u') (oa_y u') (oa_from u') (oa_to u') (oa_handler u') (oa_caught u') (oa_there u') (oa_open u') (oa_done u') (oa_word u') (oa_start u') (oa_ends u') (oa_last u') (oa_hand u') (oa_bodyEnd u') (oa_local u') (oa_stack u') (oa_back u') (oa_floor u') (oa_running u') (oa_output u')) ((oa_tokens u), (oa_place u), (oa_here u), (oa_words u), (oa_depth u), (oa_working u), (oa_top u), (oa_steps u), (oa_says u), (oa_kind u), (oa_value u), (oa_over u), (oa_given u), (oa_thrown u), (oa_tok u), (oa_need u), (oa_num u), (oa_op u), (oa_x u), (oa_y u), (oa_from u), (oa_to u), (oa_handler u), (oa_caught u), (oa_there u), (oa_open u), dn', (oa_word u), (oa_start u), (oa_ends u), (oa_last u), (oa_hand u), (oa_bodyEnd u), (oa_local u), (oa_stack u), (oa_back u), (oa_floor u), (oa_running u), (oa_output u)) (oa_tok u x6.toNatClampNeg) (oa_num u x6.toNatClampNeg) (dn' (oa_depth u - 1).toNatClampNeg)))))))))))
def om_Z (j h w : Nat) (P : Nat → Bool) (dx : List Nat) (fs : List om_F) (EN : List (Nat × Nat × Nat)) (hp : Int32) : Prop :=
  ∀ op x y fr to hn ca opn dn wd sta en la ha be : Nat → Int32, om_ok z K V F P h dx fs EN op x y fr to hn ca opn dn wd sta en la ha be → ha fs.length = hp → ∀ n, N + 1 ≤ n + (j + 1) → ∀ k, fs.length + 2 ≤ k → om_pt post n k j ((oa_tokens z), (oa_place z), (nI h), (nI w), (nI fs.length), (oa_working z), (oa_top z), (oa_steps z), (oa_says z), (oa_kind z), (oa_value z), (oa_over z), (oa_given z), (oa_thrown z), (oa_tok z), (oa_need z), (oa_num z), op, x, y, fr, to, hn, ca, (oa_there z), opn, dn, wd, sta, en, la, ha, be, (oa_local z), (oa_stack z), (oa_back z), (oa_floor z), (oa_running z), (oa_output z))
/-- what the caller is owed when a jump has no WHILE -/
def om_U (j : Nat) : Prop := ∀ (h w : Nat) (dep : Int32) (op x y fr to hn ca opn dn wd sta en la ha be : Nat → Int32), om_sam z op x y fr to hn ca → post (nI j) ((oa_tokens z), (oa_place z), (nI h), (nI w), dep, (oa_working z), (oa_top z), (oa_steps z), (oa_says z), (oa_kind z), (oa_value z), (oa_over z), (oa_given z), (oa_thrown z), (oa_tok z), (oa_need z), (oa_num z), op, x, y, fr, to, hn, ca, (oa_there z), opn, dn, wd, sta, en, la, ha, be, (oa_local z), (oa_stack z), (oa_back z), (oa_floor z), (oa_running z), (oa_output z))
end
theorem om_td_none {K : Nat → Nat} {V : Nat → Int32} {l : Int32} : ∀ {r : List om_F}, r.length ≤ 40 → (oc_cj K V l ((r.map Prod.fst).map Prod.fst) = none → om_td K V l r = -1) ∧ (oc_cj K V l ((r.map Prod.fst).map Prod.fst) ≠ none → ∃ d, d < 41 ∧ om_td K V l r = nI d)
  | [], _ => ⟨fun _ => rfl, fun h => absurd rfl h⟩
  | f :: r, hr => by
    have hr' : r.length + 1 ≤ 40 := hr
    obtain ⟨a, b⟩ := om_td_none (K := K) (V := V) (l := l) (r := r) (by omega)
    obtain ⟨⟨⟨t, o⟩, s, e, w, q⟩, hb⟩ := f
    simp only [List.map_cons, oc_cj, om_td]
    by_cases e : oc_tgt K V l t o = true
    · rw [if_pos e, if_pos e]
      exact ⟨fun h => (nomatch h), fun _ => ⟨r.length, by omega, rfl⟩⟩
    · rw [if_neg e, if_neg e]
      refine ⟨fun h => a ?_, fun h => b ?_⟩
      · cases h2 : oc_cj K V l ((r.map Prod.fst).map Prod.fst) with
        | none => rfl
        | some c => rw [h2] at h; cases h
      · intro h2; apply h; rw [h2]; rfl
section
variable {post : Int32 → SX → Prop} {z : SX} {K : Nat → Nat} {V : Nat → Int32} {C : Nat → Nat → Nat} {Q : Nat → oc_P} {B : Nat → Nat} {F : Nat → oc_I} {N : Nat}
theorem om_comp (D : om_dr z K V N) (hT : oa_tokens z = nI N) (WT : ot_WT K V C Q B N) : ∀ (m i h w : Nat) (P : Nat → Bool) (dx : List Nat) (fs : List om_F) (EN : List (Nat × Nat × Nat)),
    i < N → N ≤ i + m → Q i = (fs.map Prod.fst).map Prod.fst → om_srt fs i → fs.length ≤ i → oc_At F h (oc_cod K V C m i h w (fs.map Prod.fst)) → (∀ a, a < h → (F a).2.2.2 ≤ 3 * i) → (∀ a, a ∈ dx → (F a).2.2.2 % 3 = 0) → (∀ q, q % 3 = 0 → P q = false) → (∀ q, 3 * i + 1 ≤ q → P q = false) →
    (∀ f, f ∈ fs → K f.1.1.1 = 13 → P (3 * f.1.1.1 + 1) = true) → om_pl K V P fs → h + oc_ln K V C m i ((fs.map Prod.fst).map Prod.fst) ≤ 520 → w + oc_wn K V C m i ((fs.map Prod.fst).map Prod.fst) ≤ 90 → EN.length + (oc_en K V C m i h ((fs.map Prod.fst).map Prod.fst)).length ≤ 28 →
    (∀ j, i ≤ j → j < B i → (K j = 19 ∨ K j = 20) → oc_cj K V (V j) (Q j) = none → (∀ j', i ≤ j' → j' < j → (K j' = 19 ∨ K j' = 20) → oc_cj K V (V j') (Q j') ≠ none) → om_U post z j) →
    ((∀ j', i ≤ j' → j' < B i → (K j' = 19 ∨ K j' = 20) → oc_cj K V (V j') (Q j') ≠ none) → (∀ a, a < h + oc_ln K V C m i ((fs.map Prod.fst).map Prod.fst) → (F a).2.2.2 ≤ 3 * B i) → ∀ hp, (K i = 18 → hp = nI h) → om_Z post z K V F N (B i - 1) (h + oc_ln K V C m i ((fs.map Prod.fst).map Prod.fst)) (w + oc_wn K V C m i ((fs.map Prod.fst).map Prod.fst)) P (if K i = 18 then h :: dx else dx) fs (EN ++ oc_en K V C m i h ((fs.map Prod.fst).map Prod.fst)) hp) →
    om_O post z K V F N i h w P dx fs EN := by
  intro m
  induction m with
  | zero => intro i h w P dx fs EN hi hm; omega
  | succ m ih =>
    intro i h w P dx fs EN hi hm hq hs hl A TG hdx PM PI PB PL hb hw hE UB NX
    obtain ⟨ok, ch, b0', b1, b2⟩ := WT.2.2.2.2.2 i hi
    have hN40 := D.1
    have k22 := ok.1
    have np4 : ot_np (K i) (V i) ≤ 4 := by
      have nc2 := ot_nc_le (V i)
      rcases ot_kinds ok with k | k | k | k | k | k | k | k | k | k | k | k | k | k | k | k | k
      case inr.inr.inl => rcases k with k | k | k | k | k <;> rw [k] <;> simp [ot_np]
      all_goals rw [k]; simp only [ot_np]; try omega
      split <;> omega
    -- the pieces of the code
    have el := oc_ln_s K V C m i ((fs.map Prod.fst).map Prod.fst)
    have ew := oc_wn_s K V C m i ((fs.map Prod.fst).map Prod.fst)
    have cxlt : ∀ f, f ∈ fs.map Prod.fst → f.1.1 < i := by
      intro f hf
      obtain ⟨g, g1, g2⟩ := List.mem_map.mp hf
      obtain ⟨l1, l2, e2⟩ := List.append_of_mem g1
      have h1 : om_at fs l2.length = some g.1.1.1 := by rw [e2]; exact om_at_suf
      have := om_at_srt hs h1
      rw [← g2]; exact this
    have TAG : ∀ a, h ≤ a → a < h + oc_ln K V C (m + 1) i ((fs.map Prod.fst).map Prod.fst) → ((F a).2.2.2 = 3 * i + 1 → (F a).2.1 = nI (h + oc_ln K V C (m + 1) i ((fs.map Prod.fst).map Prod.fst))) ∧ ((F a).2.2.2 = 3 * i + 2 → (F a).2.1 = nI (h + oc_ca K V C m i ((fs.map Prod.fst).map Prod.fst) (1 + ot_nc (V i)))) := by
      intro a g1 g2
      have hm := oc_At_mem A g1 (by rw [oc_cod_len]; exact g2)
      exact (oc_tag WT m i h w (fs.map Prod.fst) (F a) hi cxlt hm).2
    have A' := A
    unfold oc_cod at A'
    obtain ⟨Abg, A2⟩ := oc_At_app.mp A'
    obtain ⟨Acc, Afi⟩ := oc_At_app.mp A2
    rw [oc_bg_len] at Acc Afi
    have Lc : ∀ n, (oc_cc (fun o => oc_cod K V C m (C i o) (h + oc_ca K V C m i ((fs.map Prod.fst).map Prod.fst) o) (w + oc_wa K V C m i ((fs.map Prod.fst).map Prod.fst) o) (oc_fr K V C m i h w (fs.map Prod.fst) o :: fs.map Prod.fst) ++ oc_bt K V i (o + 1) (h + oc_ln K V C (m + 1) i ((fs.map Prod.fst).map Prod.fst)) (h + oc_ca K V C m i ((fs.map Prod.fst).map Prod.fst) (1 + ot_nc (V i))) w (h + oc_ca K V C m i ((fs.map Prod.fst).map Prod.fst) 2)) n).length = oc_sm (fun o => oc_ln K V C m (C i o) ((i, o) :: (fs.map Prod.fst).map Prod.fst) + oc_lbt (K i) (V i) (o + 1)) n := by
      intro n; rw [oc_cc_len]; exact oc_sm_cg (fun o => by rw [List.length_append, oc_cod_len, oc_bt_len]; rfl) n
    have Ach : ∀ n, n ≤ ot_np (K i) (V i) → oc_At F (h + oc_lbg (K i)) (oc_cc (fun o => oc_cod K V C m (C i o) (h + oc_ca K V C m i ((fs.map Prod.fst).map Prod.fst) o) (w + oc_wa K V C m i ((fs.map Prod.fst).map Prod.fst) o) (oc_fr K V C m i h w (fs.map Prod.fst) o :: fs.map Prod.fst) ++ oc_bt K V i (o + 1) (h + oc_ln K V C (m + 1) i ((fs.map Prod.fst).map Prod.fst)) (h + oc_ca K V C m i ((fs.map Prod.fst).map Prod.fst) (1 + ot_nc (V i))) w (h + oc_ca K V C m i ((fs.map Prod.fst).map Prod.fst) 2)) n) := by
      intro n hn
      have key : ∀ s n, n + s = ot_np (K i) (V i) → oc_At F (h + oc_lbg (K i)) (oc_cc (fun o => oc_cod K V C m (C i o) (h + oc_ca K V C m i ((fs.map Prod.fst).map Prod.fst) o) (w + oc_wa K V C m i ((fs.map Prod.fst).map Prod.fst) o) (oc_fr K V C m i h w (fs.map Prod.fst) o :: fs.map Prod.fst) ++ oc_bt K V i (o + 1) (h + oc_ln K V C (m + 1) i ((fs.map Prod.fst).map Prod.fst)) (h + oc_ca K V C m i ((fs.map Prod.fst).map Prod.fst) (1 + ot_nc (V i))) w (h + oc_ca K V C m i ((fs.map Prod.fst).map Prod.fst) 2)) n) := by
        intro s
        induction s with
        | zero => intro n e; rw [show n = ot_np (K i) (V i) by omega]; exact Acc
        | succ s ih2 => intro n e; exact (oc_At_app.mp (ih2 (n + 1) (by omega))).1
      exact key (ot_np (K i) (V i) - n) n (by omega)
    have Apc : ∀ o, o < ot_np (K i) (V i) → oc_At F (h + oc_ca K V C m i ((fs.map Prod.fst).map Prod.fst) o) (oc_cod K V C m (C i o) (h + oc_ca K V C m i ((fs.map Prod.fst).map Prod.fst) o) (w + oc_wa K V C m i ((fs.map Prod.fst).map Prod.fst) o) (oc_fr K V C m i h w (fs.map Prod.fst) o :: fs.map Prod.fst)) ∧ oc_At F (h + oc_ca K V C m i ((fs.map Prod.fst).map Prod.fst) o + oc_ln K V C m (C i o) ((i, o) :: (fs.map Prod.fst).map Prod.fst)) (oc_bt K V i (o + 1) (h + oc_ln K V C (m + 1) i ((fs.map Prod.fst).map Prod.fst)) (h + oc_ca K V C m i ((fs.map Prod.fst).map Prod.fst) (1 + ot_nc (V i))) w (h + oc_ca K V C m i ((fs.map Prod.fst).map Prod.fst) 2)) := by
      intro o ho
      have a1 := (oc_At_app.mp (Ach (o + 1) (by omega))).2
      rw [Lc] at a1
      have e1 : h + oc_lbg (K i) + oc_sm (fun o => oc_ln K V C m (C i o) ((i, o) :: (fs.map Prod.fst).map Prod.fst) + oc_lbt (K i) (V i) (o + 1)) o = h + oc_ca K V C m i ((fs.map Prod.fst).map Prod.fst) o := by simp only [oc_ca]; omega
      rw [e1] at a1
      obtain ⟨a2, a3⟩ := oc_At_app.mp a1
      rw [oc_cod_len] at a3
      exact ⟨a2, a3⟩
    have Afi2 : oc_At F (h + oc_ca K V C m i ((fs.map Prod.fst).map Prod.fst) (ot_np (K i) (V i))) (oc_fi K V i h (h + oc_ca K V C m i ((fs.map Prod.fst).map Prod.fst) (ot_np (K i) (V i))) w (w + oc_wa K V C m i ((fs.map Prod.fst).map Prod.fst) (ot_np (K i) (V i))) (fs.map Prod.fst)) := by
      rw [Lc] at Afi
      have e1 : h + oc_lbg (K i) + oc_sm (fun o => oc_ln K V C m (C i o) ((i, o) :: (fs.map Prod.fst).map Prod.fst) + oc_lbt (K i) (V i) (o + 1)) (ot_np (K i) (V i)) = h + oc_ca K V C m i ((fs.map Prod.fst).map Prod.fst) (ot_np (K i) (V i)) := by simp only [oc_ca]; omega
      rw [e1] at Afi
      exact Afi
    have cale : ∀ o, o ≤ ot_np (K i) (V i) → oc_ca K V C m i ((fs.map Prod.fst).map Prod.fst) o ≤ oc_ca K V C m i ((fs.map Prod.fst).map Prod.fst) (ot_np (K i) (V i)) := fun o ho => oc_ca_le K V C ho
    have wale : ∀ o, o ≤ ot_np (K i) (V i) → oc_wa K V C m i ((fs.map Prod.fst).map Prod.fst) o ≤ oc_wa K V C m i ((fs.map Prod.fst).map Prod.fst) (ot_np (K i) (V i)) := fun o ho => oc_wa_le ho
    have w90 : w ≤ 90 := by omega
    have HBF : ∀ o, 1 ≤ o → o ≤ ot_np (K i) (V i) → (K i = 12 ∨ K i = 13) → (h + oc_ca K V C m i ((fs.map Prod.fst).map Prod.fst) 0 + oc_ln K V C m (C i 0) ((i, 0) :: (fs.map Prod.fst).map Prod.fst)) < 520 ∧ ∃ xf, F (h + oc_ca K V C m i ((fs.map Prod.fst).map Prod.fst) 0 + oc_ln K V C m (C i 0) ((i, 0) :: (fs.map Prod.fst).map Prod.fst)) = (12, xf, 0, 3 * i + 3) ∧ (K i = 13 → xf = nI (h + oc_ln K V C (m + 1) i ((fs.map Prod.fst).map Prod.fst))) := by
      intro o o1 o2 hk
      have a := (Apc 0 (by omega)).2
      have sc := oc_ca_s K V C m i ((fs.map Prod.fst).map Prod.fst) 0
      have c1 := cale 1 (by omega)
      have lb1 : oc_lbt (K i) (V i) (0 + 1) = 1 := by rcases hk with e | e <;> rw [e] <;> rfl
      rw [lb1] at sc
      simp only [Nat.reduceAdd] at sc
      refine ⟨by omega, ?_⟩
      rcases hk with e | e
      · simp only [oc_bt, e] at a; exact ⟨_, a.1, fun g => by omega⟩
      · simp only [oc_bt, e] at a; exact ⟨_, a.1, fun _ => rfl⟩
    have DLm : ∀ o, o ≤ ot_np (K i) (V i) → ∀ a, a ∈ om_dl K i (h + oc_ca K V C m i ((fs.map Prod.fst).map Prod.fst) 0 + oc_ln K V C m (C i 0) ((i, 0) :: (fs.map Prod.fst).map Prod.fst)) h o dx → (F a).2.2.2 % 3 = 0 := by
      intro o ho a ha
      unfold om_dl at ha
      split at ha
      · rename_i g
        rcases List.mem_cons.mp ha with e | e
        · obtain ⟨_, xf, e3, _⟩ := HBF o (by omega) ho (by omega)
          rw [e, e3]; show (3 * i + 3) % 3 = 0; omega
        · exact hdx a e
      · split at ha
        · rename_i g
          rcases List.mem_cons.mp ha with e | e
          · simp only [oc_bg, g] at Abg
            rw [e, Abg.1]; show (3 * i + 3) % 3 = 0; omega
          · exact hdx a e
        · exact hdx a ha
    have EXq : ∀ a, a < h + oc_ca K V C m i ((fs.map Prod.fst).map Prod.fst) (1 + ot_nc (V i)) → K i = 17 → (F a).2.2.2 = 3 * i + 2 → (F a).2.1 = nI (h + oc_ca K V C m i ((fs.map Prod.fst).map Prod.fst) (1 + ot_nc (V i))) := by
      intro a ha k e
      by_cases c : a < h
      · have := TG a c; omega
      · refine (TAG a (by omega) ?_).2 e
        have : oc_ca K V C m i ((fs.map Prod.fst).map Prod.fst) (1 + ot_nc (V i)) ≤ oc_ca K V C m i ((fs.map Prod.fst).map Prod.fst) (ot_np (K i) (V i)) := cale _ (by rw [k, ot_np17]; omega)
        omega
    -- the parts, one behind the other
    have PARTS : ∀ s o, o + s = ot_np (K i) (V i) → ∀ (j : Nat) (hd b0 : Int32), j + 1 = (if o < ot_np (K i) (V i) then C i o else B i) → (∀ a, a < h + oc_ca K V C m i ((fs.map Prod.fst).map Prod.fst) o → (F a).2.2.2 ≤ 3 * (j + 1)) → (∀ j', i ≤ j' → j' < j + 1 → (K j' = 19 ∨ K j' = 20) → oc_cj K V (V j') (Q j') ≠ none) →
        ((K i = 12 ∨ K i = 13) → 1 ≤ o → hd = nI (h + oc_ca K V C m i ((fs.map Prod.fst).map Prod.fst) 0 + oc_ln K V C m (C i 0) ((i, 0) :: (fs.map Prod.fst).map Prod.fst))) → (K i = 18 → hd = nI h) → (K i = 17 → 1 ≤ o → o ≤ 1 + ot_nc (V i) → b0 = nI (h + oc_ln K V C m (C i 0) ((i, 0) :: (fs.map Prod.fst).map Prod.fst))) →
        om_I post z K V F N j (h + oc_ca K V C m i ((fs.map Prod.fst).map Prod.fst) o) (w + oc_wa K V C m i ((fs.map Prod.fst).map Prod.fst) o) (om_pp K V P i o) (om_dl K i (h + oc_ca K V C m i ((fs.map Prod.fst).map Prod.fst) 0 + oc_ln K V C m (C i 0) ((i, 0) :: (fs.map Prod.fst).map Prod.fst)) h o dx) ((oc_fr K V C m i h w (fs.map Prod.fst) o, (hd, b0)) :: fs) (EN ++ oc_cc (fun o => oc_en K V C m (C i o) (h + oc_ca K V C m i ((fs.map Prod.fst).map Prod.fst) o) ((i, o) :: (fs.map Prod.fst).map Prod.fst) ++ oc_own (K i) (V i) (o + 1) h (h + oc_ln K V C m (C i 0) ((i, 0) :: (fs.map Prod.fst).map Prod.fst)) (h + oc_ca K V C m i ((fs.map Prod.fst).map Prod.fst) (1 + ot_nc (V i)))) o) := by
      intro s
      induction s with
      | zero =>
        intro o ho j hd b0 hj TGo BN hd1 hd2 hd3 op x y fr to hn ca opn dn wd sta en la ha be H n hn2 k hk
        have eo : o = ot_np (K i) (V i) := by omega
        subst eo
        rw [if_neg (by omega)] at hj
        have hs' : om_srt ((oc_fr K V C m i h w (fs.map Prod.fst) (ot_np (K i) (V i)), (hd, b0)) :: fs) N := ⟨by show i < N; exact hi, by show ot_np (K i) (V i) < 10; omega, hs⟩
        have NX2 := NX (fun j' g1 g2 => BN j' g1 (by omega)) (fun a ha => by
          by_cases c : a < h + oc_ca K V C m i ((fs.map Prod.fst).map Prod.fst) (ot_np (K i) (V i))
          · have := TGo a c; omega
          · have hm := oc_At_mem A (a := h) (b := a) (by omega) (by rw [oc_cod_len]; exact ha)
            rcases (oc_tag WT m i h w (fs.map Prod.fst) (F a) hi cxlt hm).1 with g | ⟨f, g1, g2⟩ | g
            · omega
            · have := cxlt f g1; rcases g2 with g2 | g2 <;> omega
            · omega) hd hd2
        -- the loop's turn
        have iv : vp_in (nI fs.length) 41 := vp_in_nI (by omega) (by omega)
        have e1 : nI (fs.length + 1) - 1 = nI fs.length := nI_pred _
        have iv2 : vp_in (nI (fs.length + 1) - 1) 41 := by rw [e1]; exact iv
        have c1 : (nI fs.length).toNatClampNeg = fs.length := nI_clamp (by omega)
        have eop : opn (nI (fs.length + 1) - 1).toNatClampNeg = nI i := by rw [e1, c1]; exact H.2.1.1.1
        have edn : dn (nI (fs.length + 1) - 1).toNatClampNeg = nI (ot_np (K i) (V i)) := by rw [e1, c1]; exact H.2.1.1.2.1
        have i40 : vp_in (nI i) 40 := vp_in_nI (by omega) (by omega)
        have etk : oa_tok z (nI i).toNatClampNeg = nI (K i) := by rw [nI_clamp (by omega)]; exact (D.2 i hi).2.1
        have env : oa_num z (nI i).toNatClampNeg = V i := by rw [nI_clamp (by omega)]; exact (D.2 i hi).2.2
        have FINN : ∀ (Ps : SX → Prop), (∀ op x y en la : Nat → Int32, om_ok z K V F P (h + oc_ln K V C (m + 1) i ((fs.map Prod.fst).map Prod.fst)) (if K i = 18 then h :: dx else dx) fs (EN ++ oc_cc (fun o => oc_en K V C m (C i o) (h + oc_ca K V C m i ((fs.map Prod.fst).map Prod.fst) o) ((i, o) :: (fs.map Prod.fst).map Prod.fst) ++ oc_own (K i) (V i) (o + 1) h (h + oc_ln K V C m (C i 0) ((i, 0) :: (fs.map Prod.fst).map Prod.fst)) (h + oc_ca K V C m i ((fs.map Prod.fst).map Prod.fst) (1 + ot_nc (V i)))) (ot_np (K i) (V i))) op x y fr to hn ca opn dn wd sta en la ha be → Ps ((oa_tokens z), (oa_place z), (nI (h + oc_ln K V C (m + 1) i ((fs.map Prod.fst).map Prod.fst))), (nI (w + oc_wa K V C m i ((fs.map Prod.fst).map Prod.fst) (ot_np (K i) (V i)) + (if K i = 21 ∧ oc_cr K V ((fs.map Prod.fst).map Prod.fst) ≠ 0 then 1 else 0))), (nI (fs.length + 1)), (oa_working z), (oa_top z), (oa_steps z), (oa_says z), (oa_kind z), (oa_value z), (oa_over z), (oa_given z), (oa_thrown z), (oa_tok z), (oa_need z), (oa_num z), op, x, y, fr, to, hn, ca, (oa_there z), opn, dn, wd, sta, en, la, ha, be, (oa_local z), (oa_stack z), (oa_back z), (oa_floor z), (oa_running z), (oa_output z))) → wpX_finish Ps ((oa_tokens z), (oa_place z), (nI (h + oc_ca K V C m i ((fs.map Prod.fst).map Prod.fst) (ot_np (K i) (V i)))), (nI (w + oc_wa K V C m i ((fs.map Prod.fst).map Prod.fst) (ot_np (K i) (V i)))), (nI (fs.length + 1)), (oa_working z), (oa_top z), (oa_steps z), (oa_says z), (oa_kind z), (oa_value z), (oa_over z), (oa_given z), (oa_thrown z), (oa_tok z), (oa_need z), (oa_num z), op, x, y, fr, to, hn, ca, (oa_there z), opn, dn, wd, sta, en, la, ha, be, (oa_local z), (oa_stack z), (oa_back z), (oa_floor z), (oa_running z), (oa_output z)) (nI (K i)) (V i) := by
          intro Ps KK
          refine om_fin (h0 := h) (w0 := w) (m := m) (C := C) (hd := hd) (b0 := b0) D ok (by omega) hs' H rfl Afi2 PM ⟨PI _ (by omega), PI _ (by omega)⟩ hdx (fun k => hd1 (Or.inr k) (by rw [k]; show 1 ≤ 2; omega)) (fun k => ?_) (fun k => (HBF 1 (by omega) (by rw [k]; show 1 ≤ 2; omega) (Or.inr k)).1) (by omega) PB PL (fun k => by have := BN i (by omega) (by omega) k; rw [hq] at this; exact this) hb (by omega) (fun a ha e => ?_) KK
          · obtain ⟨_, xf, e3, e4⟩ := HBF 1 (by omega) (by rw [k]; show 1 ≤ 2; omega) (Or.inr k)
            rw [e3, e4 k]
          · by_cases c : a < h
            · have := TG a c; omega
            · exact (TAG a (by omega) ha).1 e
        obtain ⟨k, rfl⟩ : ∃ k', k = k' + 1 := ⟨k - 1, by omega⟩
        have hk' : fs.length + 1 + 2 ≤ k + 1 := hk
        refine br_f (by decide) (br_f (nI_nle (by simp) (by simp; omega)) ⟨iv2, nm_r (e' := nI i) eop ⟨iv2, i40, i40, ?_⟩⟩)
        rw [etk, env]
        refine om_parts ok (br_t edn (br_f (by decide) ⟨i40, i40, ?_⟩))
        rw [etk, env]
        refine FINN _ (fun op2 x2 y2 en2 la2 H2 => ?_)
        refine nm_r (e' := nI fs.length) e1 ?_
        have G := NX2 op2 x2 y2 fr to hn ca opn dn wd sta en2 la2 ha be H2 H.2.1.1.2.2.2.2.1 n (by omega) k (by omega)
        rw [show B i - 1 = j by omega, ew, ← Nat.add_assoc] at G
        exact G
      | succ s ih2 =>
        intro o ho j hd b0 hj TGo BN hd1 hd2 hd3 op x y fr to hn ca opn dn wd sta en la ha be H n hn2 k hk
        rw [if_pos (by omega)] at hj
        obtain ⟨c1', c2', c3', c4', c5', c6', c7'⟩ := ch o (by omega)
        have iv : vp_in (nI fs.length) 41 := vp_in_nI (by omega) (by omega)
        have e1 : nI (fs.length + 1) - 1 = nI fs.length := nI_pred _
        have iv2 : vp_in (nI (fs.length + 1) - 1) 41 := by rw [e1]; exact iv
        have c1 : (nI fs.length).toNatClampNeg = fs.length := nI_clamp (by omega)
        have eop : opn (nI (fs.length + 1) - 1).toNatClampNeg = nI i := by rw [e1, c1]; exact H.2.1.1.1
        have edn : dn (nI (fs.length + 1) - 1).toNatClampNeg = nI o := by rw [e1, c1]; exact H.2.1.1.2.1
        have i40 : vp_in (nI i) 40 := vp_in_nI (by omega) (by omega)
        have etk : oa_tok z (nI i).toNatClampNeg = nI (K i) := by rw [nI_clamp (by omega)]; exact (D.2 i hi).2.1
        have env : oa_num z (nI i).toNatClampNeg = V i := by rw [nI_clamp (by omega)]; exact (D.2 i hi).2.2
        obtain ⟨k, rfl⟩ : ∃ k', k = k' + 1 + 1 := ⟨k - 2, by omega⟩
        refine br_f (by decide) (br_f (nI_nle (by simp) (by simp; omega)) ⟨iv2, nm_r (e' := nI i) eop ⟨iv2, i40, i40, ?_⟩⟩)
        rw [etk, env]
        refine om_parts ok (br_f (fun e => ?_) (br_t rfl (br_t rfl (nm_r (nI_1 j) ?_))))
        · have e' : nI o = nI (ot_np (K i) (V i)) := edn.symm.trans e
          have := (nI_eq (by omega) (by omega)).mp e'
          omega
        rw [hj]
        have sc := oc_ca_s K V C m i ((fs.map Prod.fst).map Prod.fst) o
        have sw := oc_wa_s K V C m i ((fs.map Prod.fst).map Prod.fst) o
        have cale1 := cale (o + 1) (by omega)
        have wale1 := wale (o + 1) (by omega)
        have esl : (oc_cc (fun o => oc_en K V C m (C i o) (h + oc_ca K V C m i ((fs.map Prod.fst).map Prod.fst) o) ((i, o) :: (fs.map Prod.fst).map Prod.fst) ++ oc_own (K i) (V i) (o + 1) h (h + oc_ln K V C m (C i 0) ((i, 0) :: (fs.map Prod.fst).map Prod.fst)) (h + oc_ca K V C m i ((fs.map Prod.fst).map Prod.fst) (1 + ot_nc (V i)))) o).length + (oc_en K V C m (C i o) (h + oc_ca K V C m i ((fs.map Prod.fst).map Prod.fst) o) ((i, o) :: (fs.map Prod.fst).map Prod.fst)).length + (oc_own (K i) (V i) (o + 1) h (h + oc_ln K V C m (C i 0) ((i, 0) :: (fs.map Prod.fst).map Prod.fst)) (h + oc_ca K V C m i ((fs.map Prod.fst).map Prod.fst) (1 + ot_nc (V i)))).length ≤ (oc_en K V C (m + 1) i h ((fs.map Prod.fst).map Prod.fst)).length := by
          have a1 : (oc_cc (fun o => oc_en K V C m (C i o) (h + oc_ca K V C m i ((fs.map Prod.fst).map Prod.fst) o) ((i, o) :: (fs.map Prod.fst).map Prod.fst) ++ oc_own (K i) (V i) (o + 1) h (h + oc_ln K V C m (C i 0) ((i, 0) :: (fs.map Prod.fst).map Prod.fst)) (h + oc_ca K V C m i ((fs.map Prod.fst).map Prod.fst) (1 + ot_nc (V i)))) (o + 1)).length ≤ (oc_cc (fun o => oc_en K V C m (C i o) (h + oc_ca K V C m i ((fs.map Prod.fst).map Prod.fst) o) ((i, o) :: (fs.map Prod.fst).map Prod.fst) ++ oc_own (K i) (V i) (o + 1) h (h + oc_ln K V C m (C i 0) ((i, 0) :: (fs.map Prod.fst).map Prod.fst)) (h + oc_ca K V C m i ((fs.map Prod.fst).map Prod.fst) (1 + ot_nc (V i)))) (ot_np (K i) (V i))).length := by
            rw [oc_cc_len, oc_cc_len]; exact oc_sm_le (by omega)
          simp only [oc_cc, List.length_append] at a1
          simp only [oc_en]
          omega
        have wa2 : ot_so (K (C i o)) = 2 ↔ (K i = 17 ∧ 0 < o ∧ o ≤ ot_nc (V i)) := by
          rw [c3']
          unfold ot_wa
          split
          · rename_i g
            by_cases c : 0 < o ∧ o ≤ ot_nc (V i)
            · rw [if_pos c]; exact ⟨fun _ => ⟨g, c⟩, fun _ => rfl⟩
            · rw [if_neg c]; exact ⟨fun e => by omega, fun e => absurd e.2 c⟩
          · exact ⟨fun e => by omega, fun e => by omega⟩
          · exact ⟨fun e => by omega, fun e => by omega⟩
          · exact ⟨fun e => by split at e <;> omega, fun e => by omega⟩
          · exact ⟨fun e => by split at e <;> omega, fun e => by omega⟩
          · rename_i g1 g2 g3 g4 g5; exact ⟨fun e => by omega, fun e => absurd e.1 (by omega)⟩
        have k18c : K (C i o) = 18 ↔ (K i = 17 ∧ 0 < o ∧ o ≤ ot_nc (V i)) := by
          rw [← wa2]
          exact ⟨fun e => by rw [e]; rfl, fun e => ot_k2 e⟩
        have ppo : ∀ t, t < i → om_pp K V P i o (3 * t + 1) = P (3 * t + 1) ∧ om_pp K V P i o (3 * t + 2) = P (3 * t + 2) := by
          intro t ht; unfold om_pp; rw [if_neg (by omega), if_neg (by omega), if_neg (by omega), if_neg (by omega)]; exact ⟨rfl, rfl⟩
        have fslt : ∀ f, f ∈ fs → f.1.1.1 < i := fun f hf => cxlt f.1 (List.mem_map.mpr ⟨f, hf, rfl⟩)
        have B3 := ot_Bc WT hi (o := o) (by omega)
        have B4 := (WT.2.2.2.2.2 _ c2').2.2.2.1
        refine ih (C i o) (h + oc_ca K V C m i ((fs.map Prod.fst).map Prod.fst) o) (w + oc_wa K V C m i ((fs.map Prod.fst).map Prod.fst) o) (om_pp K V P i o) (om_dl K i (h + oc_ca K V C m i ((fs.map Prod.fst).map Prod.fst) 0 + oc_ln K V C m (C i 0) ((i, 0) :: (fs.map Prod.fst).map Prod.fst)) h o dx) ((oc_fr K V C m i h w (fs.map Prod.fst) o, (hd, b0)) :: fs) (EN ++ oc_cc (fun o => oc_en K V C m (C i o) (h + oc_ca K V C m i ((fs.map Prod.fst).map Prod.fst) o) ((i, o) :: (fs.map Prod.fst).map Prod.fst) ++ oc_own (K i) (V i) (o + 1) h (h + oc_ln K V C m (C i 0) ((i, 0) :: (fs.map Prod.fst).map Prod.fst)) (h + oc_ca K V C m i ((fs.map Prod.fst).map Prod.fst) (1 + ot_nc (V i)))) o) c2' (by omega) (by rw [c4', hq]; rfl) ⟨by show i < _; exact c1', by show o < 10; omega, hs⟩ (by simp only [List.length_cons]; omega) (Apc o (by omega)).1 (fun a ha => by have := TGo a ha; omega) (DLm o (by omega)) (om_ppM PM) (fun q hq2 => by unfold om_pp; rw [if_neg (by omega), if_neg (by omega)]; exact PI q (by omega)) ?_ ?_ ?_ ?_ ?_ ?_ ?_ op x y fr to hn ca opn dn wd sta en la ha be H n (by omega)
        · intro f hf k13
          rcases List.mem_cons.mp hf with e | e
          · subst e; exact om_pp1 (Or.inr (Or.inl k13))
          · rw [(ppo _ (fslt f e)).1]; exact PB f e k13
        · intro f hf hcl
          rcases List.mem_cons.mp hf with e | e
          · subst e; have g := of_decide_eq_true hcl; exact om_pp2 g.1 g.2.1 g.2.2
          · rw [(ppo _ (fslt f e)).2]; exact PL f e hcl
        · show h + oc_ca K V C m i ((fs.map Prod.fst).map Prod.fst) o + oc_ln K V C m (C i o) ((i, o) :: (fs.map Prod.fst).map Prod.fst) ≤ 520; omega
        · show w + oc_wa K V C m i ((fs.map Prod.fst).map Prod.fst) o + oc_wn K V C m (C i o) ((i, o) :: (fs.map Prod.fst).map Prod.fst) ≤ 90; omega
        · show (EN ++ oc_cc (fun o => oc_en K V C m (C i o) (h + oc_ca K V C m i ((fs.map Prod.fst).map Prod.fst) o) ((i, o) :: (fs.map Prod.fst).map Prod.fst) ++ oc_own (K i) (V i) (o + 1) h (h + oc_ln K V C m (C i 0) ((i, 0) :: (fs.map Prod.fst).map Prod.fst)) (h + oc_ca K V C m i ((fs.map Prod.fst).map Prod.fst) (1 + ot_nc (V i)))) o).length + (oc_en K V C m (C i o) (h + oc_ca K V C m i ((fs.map Prod.fst).map Prod.fst) o) ((i, o) :: (fs.map Prod.fst).map Prod.fst)).length ≤ 28
          rw [List.length_append]; omega
        · intro j' g1 g2 g3 g4 g5
          refine UB j' (by omega) (by omega) g3 g4 (fun j'' g6 g7 g8 => ?_)
          by_cases c : j'' < C i o
          · exact BN j'' g6 (by omega) g8
          · exact g5 j'' (by omega) g7 g8
        · intro BN2 TG2 hp hph op2 x2 y2 fr2 to2 hn3 ca2 opn2 dn2 wd2 sta2 en2 la2 ha2 be2 H2 hp2 n2 hn4 k2 hk2
          have TG2 : ∀ a, a < h + oc_ca K V C m i ((fs.map Prod.fst).map Prod.fst) o + oc_ln K V C m (C i o) ((i, o) :: (fs.map Prod.fst).map Prod.fst) → (F a).2.2.2 ≤ 3 * B (C i o) := TG2
          have eop2 : opn2 (nI (fs.length + 1) - 1).toNatClampNeg = nI i := by rw [e1, c1]; exact H2.2.1.1.1
          have edn2 : dn2 fs.length = nI o := H2.2.1.1.2.1
          refine br_f (nI_nle (by simp) (by simp; omega)) ⟨iv2, nm_r (e' := nI i) eop2 ⟨iv2, iv2, nm_r (e' := upd dn2 fs.length (nI (o + 1))) (by show upd dn2 (nI (fs.length + 1) - 1).toNatClampNeg _ = _; rw [e1, c1]; show upd dn2 fs.length (vp_nar .byte ((dn2 (nI (fs.length + 1) - 1).toNatClampNeg + 1).toInt8.toInt32)) = _; rw [e1, c1, edn2, nI_1, ok_by (by omega)]) ⟨i40, i40, iv2, ?_⟩⟩⟩
          have etk2 : oa_tok z (nI i).toNatClampNeg = nI (K i) := etk
          have G : wpX_between (fun u' => wX_compile_140 post (wX_compile_25 post n2) (nI (B (C i o) - 1)) k2 1 (oa_tokens u') (oa_place u') (oa_here u') (oa_words u') (oa_depth u') (oa_working u') (oa_top u') (oa_steps u') (oa_says u') (oa_kind u') (oa_value u') (oa_over u') (oa_given u') (oa_thrown u') (oa_tok u') (oa_need u') (oa_num u') (oa_op u') (oa_x u') (oa_y u') (oa_from u') (oa_to u') (oa_handler u') (oa_caught u') (oa_there u') (oa_open u') (oa_done u') (oa_word u') (oa_start u') (oa_ends u') (oa_last u') (oa_hand u') (oa_bodyEnd u') (oa_local u') (oa_stack u') (oa_back u') (oa_floor u') (oa_running u') (oa_output u')) ((oa_tokens z), (oa_place z), (nI (h + oc_ca K V C m i ((fs.map Prod.fst).map Prod.fst) o + oc_ln K V C m (C i o) ((i, o) :: (fs.map Prod.fst).map Prod.fst))), (nI (w + oc_wa K V C m i ((fs.map Prod.fst).map Prod.fst) o + oc_wn K V C m (C i o) ((i, o) :: (fs.map Prod.fst).map Prod.fst))), (nI (fs.length + 1)), (oa_working z), (oa_top z), (oa_steps z), (oa_says z), (oa_kind z), (oa_value z), (oa_over z), (oa_given z), (oa_thrown z), (oa_tok z), (oa_need z), (oa_num z), op2, x2, y2, fr2, to2, hn3, ca2, (oa_there z), opn2, (upd dn2 fs.length (nI (o + 1))), wd2, sta2, en2, la2, ha2, be2, (oa_local z), (oa_stack z), (oa_back z), (oa_floor z), (oa_running z), (oa_output z)) (nI (K i)) (V i) (nI (o + 1)) := by
            have H3 : om_ok z K V F (om_pp K V P i o) (h + oc_ca K V C m i ((fs.map Prod.fst).map Prod.fst) o + oc_ln K V C m (C i o) ((i, o) :: (fs.map Prod.fst).map Prod.fst)) (if K (C i o) = 18 then (h + oc_ca K V C m i ((fs.map Prod.fst).map Prod.fst) o) :: om_dl K i (h + oc_ca K V C m i ((fs.map Prod.fst).map Prod.fst) 0 + oc_ln K V C m (C i 0) ((i, 0) :: (fs.map Prod.fst).map Prod.fst)) h o dx else om_dl K i (h + oc_ca K V C m i ((fs.map Prod.fst).map Prod.fst) 0 + oc_ln K V C m (C i 0) ((i, 0) :: (fs.map Prod.fst).map Prod.fst)) h o dx) ((oc_fr K V C m i h w (fs.map Prod.fst) (o + 1), (hd, b0)) :: fs) (EN ++ oc_cc (fun o => oc_en K V C m (C i o) (h + oc_ca K V C m i ((fs.map Prod.fst).map Prod.fst) o) ((i, o) :: (fs.map Prod.fst).map Prod.fst) ++ oc_own (K i) (V i) (o + 1) h (h + oc_ln K V C m (C i 0) ((i, 0) :: (fs.map Prod.fst).map Prod.fst)) (h + oc_ca K V C m i ((fs.map Prod.fst).map Prod.fst) (1 + ot_nc (V i)))) o ++ oc_en K V C m (C i o) (h + oc_ca K V C m i ((fs.map Prod.fst).map Prod.fst) o) ((i, o) :: (fs.map Prod.fst).map Prod.fst)) op2 x2 y2 fr2 to2 hn3 ca2 opn2 (upd dn2 fs.length (nI (o + 1))) wd2 sta2 en2 la2 ha2 be2 :=
              om_head (f' := (oc_fr K V C m i h w (fs.map Prod.fst) (o + 1), (hd, b0))) H2 rfl rfl (fun d hd => ⟨pk_un (by omega), rfl, rfl⟩) pk_us H2.2.1.1.2.2.2.2.1 H2.2.1.1.2.2.2.2.2
            refine om_btw (n := o + 1) (ac := h + oc_ca K V C m i ((fs.map Prod.fst).map Prod.fst) o) (h0 := h) (w0 := w) (j := N) (P := P) (dx := dx) ok (by omega) ⟨by show i < N; exact hi, by show o + 1 < 10; omega, hs⟩ H3 (by omega) (by omega) rfl (Apc o (by omega)).2 PM hdx ?_ ?_ ?_ ?_ (Apc 0 (by omega)).2 (by omega) ?_ (by omega) (fun k17 a ha e => EXq a ha k17 e) ?_
            · by_cases c : K (C i o) = 18
              · have g := k18c.mp c
                have dl : om_dl K i (h + oc_ca K V C m i ((fs.map Prod.fst).map Prod.fst) 0 + oc_ln K V C m (C i 0) ((i, 0) :: (fs.map Prod.fst).map Prod.fst)) h o dx = dx := by unfold om_dl; rw [if_neg (by omega), if_neg (by omega)]
                rw [if_pos c, if_pos ⟨g.1, by omega, by omega⟩, dl]
              · have g : ¬ (K i = 17 ∧ 1 < o + 1 ∧ o + 1 ≤ 1 + ot_nc (V i)) := fun e => c (k18c.mpr ⟨e.1, by omega, by omega⟩)
                rw [if_neg c, if_neg g]; rfl
            · intro k17 g1 g2
              have c : K (C i o) = 18 := k18c.mpr ⟨k17, by omega, by omega⟩
              have hm1 : 1 ≤ m := by omega
              have lb : 1 ≤ oc_lbt (K i) (V i) (o + 1) := by
                have := oc_gl_pos (V i)
                rw [k17]; simp only [oc_lbt]
                by_cases c9 : o + 1 ≤ ot_nc (V i)
                · rw [if_pos c9]; exact this
                · rw [if_neg c9, if_pos (by omega)]; omega
              obtain ⟨m', rfl⟩ : ∃ m', m = m' + 1 := ⟨m - 1, by omega⟩
              have Ab := (Apc o (by omega)).1
              unfold oc_cod at Ab
              have Ab := (oc_At_app.mp Ab).1
              simp only [oc_bg, c] at Ab
              have F1 := Ab.1
              refine ⟨by omega, hp2.trans (hph c), by rw [F1]; rfl, by rw [F1]; show (3 * C i o + 3) % 3 = 0; omega⟩
            · intro k17 g1; exact hd3 k17 (by omega) (by
                have : ot_np (K i) (V i) = 1 + ot_nc (V i) + (if ot_cl (V i) = true then 1 else 0) := by rw [k17]; rfl
                have : (if ot_cl (V i) = true then 1 else 0) ≤ 1 := by split <;> omega
                omega)
            · intro g g1; exact hd1 g (by omega)
            · intro k17 g1
              rw [List.length_append, List.length_append]
              have own1 : 1 ≤ (oc_own (K i) (V i) (o + 1) h (h + oc_ln K V C m (C i 0) ((i, 0) :: (fs.map Prod.fst).map Prod.fst)) (h + oc_ca K V C m i ((fs.map Prod.fst).map Prod.fst) (1 + ot_nc (V i)))).length := by
                unfold oc_own
                rw [if_pos ⟨k17, g1⟩]
                rw [k17] at ok
                by_cases c0 : ot_nc (V i) = 0
                · rw [if_pos c0, if_pos (ot_v17 ok c0)]; simp
                · rw [if_neg c0]; simp
              omega
            · intro op5 x5 y5 fr5 to5 hn5 ca5 en5 la5 ha5 be5 hd' b' H5 q1 q2 q3
              have eEN : EN ++ oc_cc (fun o => oc_en K V C m (C i o) (h + oc_ca K V C m i ((fs.map Prod.fst).map Prod.fst) o) ((i, o) :: (fs.map Prod.fst).map Prod.fst) ++ oc_own (K i) (V i) (o + 1) h (h + oc_ln K V C m (C i 0) ((i, 0) :: (fs.map Prod.fst).map Prod.fst)) (h + oc_ca K V C m i ((fs.map Prod.fst).map Prod.fst) (1 + ot_nc (V i)))) o ++ oc_en K V C m (C i o) (h + oc_ca K V C m i ((fs.map Prod.fst).map Prod.fst) o) ((i, o) :: (fs.map Prod.fst).map Prod.fst) ++ oc_own (K i) (V i) (o + 1) h (h + oc_ln K V C m (C i 0) ((i, 0) :: (fs.map Prod.fst).map Prod.fst)) (h + oc_ca K V C m i ((fs.map Prod.fst).map Prod.fst) (1 + ot_nc (V i))) = EN ++ oc_cc (fun o => oc_en K V C m (C i o) (h + oc_ca K V C m i ((fs.map Prod.fst).map Prod.fst) o) ((i, o) :: (fs.map Prod.fst).map Prod.fst) ++ oc_own (K i) (V i) (o + 1) h (h + oc_ln K V C m (C i 0) ((i, 0) :: (fs.map Prod.fst).map Prod.fst)) (h + oc_ca K V C m i ((fs.map Prod.fst).map Prod.fst) (1 + ot_nc (V i)))) (o + 1) := by
                simp only [oc_cc, List.append_assoc]
              rw [eEN] at H5
              have R := ih2 (o + 1) (by omega) (B (C i o) - 1) hd' b' (by
                by_cases c : o + 1 < ot_np (K i) (V i)
                · rw [if_pos c, c6' c]; omega
                · rw [if_neg c, c7' (by omega)]; omega) (fun a ha => by
                  by_cases c : a < h + oc_ca K V C m i ((fs.map Prod.fst).map Prod.fst) o + oc_ln K V C m (C i o) ((i, o) :: (fs.map Prod.fst).map Prod.fst)
                  · have := TG2 a c; omega
                  · have hm2 := oc_At_mem (Apc o (by omega)).2 (b := a) (by omega) (by rw [oc_bt_len]; omega)
                    rcases oc_bt_mem hm2 with g | g | ⟨g, _⟩ | ⟨g, _⟩ <;> omega) (fun j' g1 g2 g3 => by
                  by_cases c : j' < C i o
                  · exact BN j' g1 (by omega) g3
                  · exact BN2 j' (by omega) (by omega) g3) (fun g _ => q2 g) (fun g => by rw [q3 g]; exact hd2 g) (fun g _ g3 => by
                  rcases q1 g with e | e
                  · exact e
                  · omega) op5 x5 y5 fr5 to5 hn5 ca5 opn2 _ wd2 sta2 en5 la5 ha5 be5 H5 n2 (by omega) k2 hk2
              rw [sw, ← Nat.add_assoc] at R
              exact R
          have edn3 : upd dn2 fs.length (nI (o + 1)) (nI (fs.length + 1) - 1).toNatClampNeg = nI (o + 1) := by rw [e1, c1, pk_us]
          show wpX_between _ _ (oa_tok z (nI i).toNatClampNeg) (oa_num z (nI i).toNatClampNeg) (upd dn2 fs.length (nI (o + 1)) (nI (fs.length + 1) - 1).toNatClampNeg)
          rw [edn3, etk, env]
          exact G
    -- the token begins
    intro op x y fr to hn ca opn dn wd sta en la ha be H n hn2
    obtain ⟨n, rfl⟩ : ∃ n', n = n' + 1 := ⟨n - 1, by omega⟩
    have i40 : vp_in (nI i) 40 := vp_in_nI (by omega) (by omega)
    have etk : oa_tok z (nI i).toNatClampNeg = nI (K i) := by rw [nI_clamp (by omega)]; exact (D.2 i hi).2.1
    have env : oa_num z (nI i).toNatClampNeg = V i := by rw [nI_clamp (by omega)]; exact (D.2 i hi).2.2
    have iv : vp_in (nI fs.length) 41 := vp_in_nI (by omega) (by omega)
    have c1 : (nI fs.length).toNatClampNeg = fs.length := nI_clamp (by omega)
    have kk : ∀ c : Nat, c < 100 → (nI (K i) = nI c ↔ K i = c) := fun c hc => nI_eq (by omega) (by omega)
    have hsN : om_srt fs N := by
      cases fs with
      | nil => trivial
      | cons f r => exact ⟨by have := hs.1; omega, hs.2⟩
    -- the token is pushed
    have GO : ((K i = 19 ∨ K i = 20) → oc_cj K V (V i) (Q i) ≠ none) → wX_compile_69 post (wX_compile_25 post n) (nI i) (nI (K i)) (V i) (oa_tokens z) (oa_place z) (nI h) (nI w) (nI fs.length) (oa_working z) (oa_top z) (oa_steps z) (oa_says z) (oa_kind z) (oa_value z) (oa_over z) (oa_given z) (oa_thrown z) (oa_tok z) (oa_need z) (oa_num z) op x y fr to hn ca (oa_there z) opn dn wd sta en la ha be (oa_local z) (oa_stack z) (oa_back z) (oa_floor z) (oa_running z) (oa_output z) := by
      intro BNi
      refine And.intro iv (nm_r (e' := upd opn fs.length (nI i)) (by rw [c1, ok_by (by omega)]) ⟨iv, nm_r (e' := upd dn fs.length (nI 0)) (by rw [c1]; rfl) ⟨iv, nm_r (e' := upd en fs.length (-1)) (by rw [c1]; rfl) ⟨iv, nm_r (e' := upd la fs.length (-1)) (by rw [c1]; rfl) (nm_r (nI_1 _) ⟨iv, nm_r (e' := upd sta fs.length (nI h)) (by rw [c1, ok_sh (by omega)]) ?_⟩)⟩⟩⟩)
      refine om_bgn (m := m) (C := C) (h0 := h) (w0 := w) (a0 := (h + oc_ca K V C m i ((fs.map Prod.fst).map Prod.fst) 0 + oc_ln K V C m (C i 0) ((i, 0) :: (fs.map Prod.fst).map Prod.fst))) rfl rfl ok (by omega) (by omega) H TG Abg (by have := cale 0 (by omega); rw [oc_ca_0] at this; omega) (by omega) PM (fun op2 x2 y2 wd2 ha2 hd b0 H2 g18 => ?_)
      have R := PARTS (ot_np (K i) (V i)) 0 (by omega) i hd b0 (by
        by_cases c : 0 < ot_np (K i) (V i)
        · rw [if_pos c]; exact ((ch 0 c).2.2.2.2.1 rfl).symm
        · rw [if_neg c]; exact (b0' (by omega)).symm) (fun a ha => by
          by_cases c : a < h
          · have := TG a c; omega
          · rw [oc_ca_0] at ha
            have hm2 := oc_At_mem Abg (b := a) (by omega) (by rw [oc_bg_len]; omega)
            rcases oc_bg_mem hm2 with g | g <;> omega) (fun j' g1 g2 g3 => by
          have : j' = i := by omega
          subst this; exact BNi g3) (fun _ e => by omega) g18 (fun _ e => by omega)
      have R2 := R op2 x2 y2 fr to hn ca _ _ wd2 _ _ _ ha2 be (by
        show om_ok z K V F (om_pp K V P i 0) (h + oc_ca K V C m i ((fs.map Prod.fst).map Prod.fst) 0) (om_dl K i (h + oc_ca K V C m i ((fs.map Prod.fst).map Prod.fst) 0 + oc_ln K V C m (C i 0) ((i, 0) :: (fs.map Prod.fst).map Prod.fst)) h 0 dx) ((oc_fr K V C m i h w (fs.map Prod.fst) 0, (hd, b0)) :: fs) (EN ++ []) _ _ _ _ _ _ _ _ _ _ _ _ _ _ _
        rw [List.append_nil, oc_ca_0]; exact H2) n (by omega) (fs.length + 3) (by simp only [List.length_cons]; omega)
      refine ⟨fs.length + 3, ?_⟩
      have ew0 : w + oc_wa K V C m i ((fs.map Prod.fst).map Prod.fst) 0 = w + (if K i = 17 ∧ ot_cl (V i) = true then 3 else 0) := by simp only [oc_wa, oc_sm]; omega
      rw [oc_ca_0, ew0] at R2
      exact R2
    have SEL : (K i = 19 ∨ K i = 20) → wX_compile_59 post (wX_compile_25 post n) (nI i) (nI (K i)) (V i) (oa_tokens z) (oa_place z) (nI h) (nI w) (nI fs.length) (oa_working z) (oa_top z) (oa_steps z) (oa_says z) (oa_kind z) (oa_value z) (oa_over z) (oa_given z) (oa_thrown z) (oa_tok z) (oa_need z) (oa_num z) op x y fr to hn ca (oa_there z) opn dn wd sta en la ha be (oa_local z) (oa_stack z) (oa_back z) (oa_floor z) (oa_running z) (oa_output z) := by
      intro hk
      obtain ⟨t1, t2⟩ := om_td_none (K := K) (V := V) (l := V i) (r := fs) (by omega)
      refine om_tgt D (by omega) hsN H ?_
      by_cases c : oc_cj K V (V i) (Q i) = none
      · rw [t1 (by rw [← hq]; exact c)]
        exact br_f (by decide) (UB i (by omega) b1 hk c (fun j' g1 g2 => by omega) _ _ _ _ _ _ _ _ _ _ _ _ _ _ _ _ _ _ H.2.2.2.2)
      · obtain ⟨d, d1, d2⟩ := t2 (by rw [← hq]; exact c)
        rw [d2]
        exact br_t (nI_pos' (by omega)) (GO (fun _ => c))
    refine br_f (by rw [hT]; exact nI_ge hi (by omega)) ⟨i40, nm_r (e' := nI (K i)) etk ⟨i40, nm_r (e' := V i) env ?_⟩⟩
    by_cases k19 : K i = 19
    · exact br_t ((kk 19 (by omega)).mpr k19) (SEL (Or.inl k19))
    · refine br_f (fun e => k19 ((kk 19 (by omega)).mp e)) ?_
      by_cases k20 : K i = 20
      · exact br_t ((kk 20 (by omega)).mpr k20) (SEL (Or.inr k20))
      · exact br_f (fun e => k20 ((kk 20 (by omega)).mp e)) (GO (fun e => by omega))
end
end
section
/-! ===== X's compiler: from the top ===== -/
def oc_FL (l : List oc_I) : Nat → oc_I := fun k => l.getD k (0, 0, 0, 0)
theorem oc_FL_At (l : List oc_I) : ∀ (r : List oc_I) (a : Nat), (∀ k, l.getD (a + k) (0, 0, 0, 0) = r.getD k (0, 0, 0, 0)) → oc_At (oc_FL l) a r
  | [], _, _ => trivial
  | x :: r, a, h => ⟨by have := h 0; show l.getD a (0, 0, 0, 0) = x; simpa using this, oc_FL_At l r (a + 1) (fun k => by
      have := h (k + 1)
      rw [show a + 1 + k = a + (k + 1) by omega, this]; simp)⟩
theorem om_top {post : Int32 → SX → Prop} {z : SX} {K : Nat → Nat} {V : Nat → Int32} {C : Nat → Nat → Nat} {Q : Nat → oc_P} {B : Nat → Nat} {N : Nat} (D : om_dr z K V N) (hT : (oa_tokens z) = nI N) (WT : ot_WT K V C Q B N) (b1 : oc_ln K V C 40 0 [] + 2 ≤ 520) (b2 : 6 + oc_wn K V C 40 0 [] ≤ 90) (b3 : (oc_en K V C 40 0 0 []).length ≤ 28)
    (UB : ∀ j, j < N → (K j = 19 ∨ K j = 20) → oc_cj K V (V j) (Q j) = none → (∀ j', j' < j → (K j' = 19 ∨ K j' = 20) → oc_cj K V (V j') (Q j') ≠ none) → om_U post z j)
    (OKP : (∀ j', j' < N → (K j' = 19 ∨ K j' = 20) → oc_cj K V (V j') (Q j') ≠ none) → ∀ (w : Nat) (dep : Int32) (op x y fr to hn ca opn dn wd sta en la ha be : Nat → Int32), (∀ a, a < oc_ln K V C 40 0 [] + 2 → op (2080 + a) = (oc_FL (oc_cod K V C 40 0 0 6 [] ++ [(0, 0, 0, 0), (21, 0, 0, 0)]) a).1 ∧ x (2080 + a) = (oc_FL (oc_cod K V C 40 0 0 6 [] ++ [(0, 0, 0, 0), (21, 0, 0, 0)]) a).2.1 ∧ y (2080 + a) = (oc_FL (oc_cod K V C 40 0 0 6 [] ++ [(0, 0, 0, 0), (21, 0, 0, 0)]) a).2.2.1) →
      om_ent (oc_en K V C 40 0 0 []) fr to hn ca → om_sam z op x y fr to hn ca → post (-1) ((oa_tokens z), (oa_place z), (nI (oc_ln K V C 40 0 [] + 2)), (nI w), dep, (oa_working z), (oa_top z), (oa_steps z), (oa_says z), (oa_kind z), (oa_value z), (oa_over z), (oa_given z), (oa_thrown z), (oa_tok z), (oa_need z), (oa_num z), op, x, y, fr, to, hn, ca, (oa_there z), opn, dn, wd, sta, en, la, ha, be, (oa_local z), (oa_stack z), (oa_back z), (oa_floor z), (oa_running z), (oa_output z))) :
    wpX_compile post ((oa_tokens z), (oa_place z), (oa_here z), (oa_words z), (oa_depth z), (oa_working z), (oa_top z), (oa_steps z), (oa_says z), (oa_kind z), (oa_value z), (oa_over z), (oa_given z), (oa_thrown z), (oa_tok z), (oa_need z), (oa_num z), (oa_op z), (oa_x z), (oa_y z), (oa_from z), (oa_to z), (oa_handler z), (oa_caught z), (oa_there z), (oa_open z), (oa_done z), (oa_word z), (oa_start z), (oa_ends z), (oa_last z), (oa_hand z), (oa_bodyEnd z), (oa_local z), (oa_stack z), (oa_back z), (oa_floor z), (oa_running z), (oa_output z)) := by
  have hN := WT.1
  have hN2 := WT.2.1
  have AT := oc_FL_At (oc_cod K V C 40 0 0 6 [] ++ [(0, 0, 0, 0), (21, 0, 0, 0)]) _ 0 (fun k => by rw [Nat.zero_add])
  obtain ⟨A1, A2⟩ := oc_At_app.mp AT
  rw [oc_cod_len] at A2
  have k18 : K 0 ≠ 18 := by intro e; have := WT.2.2.1; rw [e] at this; exact absurd this (by decide)
  refine nm_r (e' := upd (oa_caught z) 4 (nI 0)) rfl ⟨N + 1, ?_⟩
  have O := om_comp (post := post) (F := oc_FL (oc_cod K V C 40 0 0 6 [] ++ [(0, 0, 0, 0), (21, 0, 0, 0)])) D hT WT 40 0 0 6 (fun _ => false) [] [] [] hN (by omega) WT.2.2.2.1 trivial (by simp) A1 (fun a ha => by omega) (fun a ha => by cases ha) (fun _ _ => rfl) (fun _ _ => rfl) (fun f hf => by cases hf) (fun f hf => by cases hf) (by show 0 + oc_ln K V C 40 0 [] ≤ 520; omega) b2 (by show 0 + (oc_en K V C 40 0 0 []).length ≤ 28; omega) (fun j _ g2 g3 g4 g5 => UB j (by rw [WT.2.2.2.2.1] at g2; exact g2) g3 g4 (fun j' h1 h2 => g5 j' (by omega) h1 h2)) ?_
  · exact O (oa_op z) (oa_x z) (oa_y z) (oa_from z) (oa_to z) (oa_handler z) (upd (oa_caught z) 4 (nI 0)) (oa_open z) (oa_done z) (oa_word z) (oa_start z) (oa_ends z) (oa_last z) (oa_hand z) (oa_bodyEnd z) ⟨fun a ha => (by omega), trivial, fun d t h => (nomatch h), ⟨pk_us, fun k e h => (by cases h)⟩, fun k hk => ⟨rfl, rfl, rfl⟩, fun k hk => ⟨rfl, rfl, rfl⟩, fun k hk => pk_un (by omega)⟩ (N + 1) (by omega)
  · intro BN TG hp hph op x y fr to hn ca opn dn wd sta en la ha be H _ n hn2 k hk
    rw [WT.2.2.2.2.1] at BN hn2 ⊢
    rw [if_neg k18] at H
    obtain ⟨k, rfl⟩ : ∃ k', k = k' + 1 := ⟨k - 1, by simp at hk; omega⟩
    obtain ⟨n, rfl⟩ : ∃ n', n = n' + 1 := ⟨n - 1, by omega⟩
    have W25 : wX_compile_25 post (n + 1) (nI N) (oa_tokens z) (oa_place z) (nI (0 + oc_ln K V C 40 0 [])) (nI (6 + oc_wn K V C 40 0 [])) (nI 0) (oa_working z) (oa_top z) (oa_steps z) (oa_says z) (oa_kind z) (oa_value z) (oa_over z) (oa_given z) (oa_thrown z) (oa_tok z) (oa_need z) (oa_num z) op x y fr to hn ca (oa_there z) opn dn wd sta en la ha be (oa_local z) (oa_stack z) (oa_back z) (oa_floor z) (oa_running z) (oa_output z) := by
      refine br_t (by show oa_tokens z ≤ nI N; rw [hT]; exact Int32.le_refl _) ?_
      obtain ⟨F1, F2, _⟩ := A2
      have F1 : oc_FL (oc_cod K V C 40 0 0 6 [] ++ [(0, 0, 0, 0), (21, 0, 0, 0)]) (0 + oc_ln K V C 40 0 []) = (0, 0, 0, 0) := F1
      have F2 : oc_FL (oc_cod K V C 40 0 0 6 [] ++ [(0, 0, 0, 0), (21, 0, 0, 0)]) (0 + oc_ln K V C 40 0 [] + 1) = (21, 0, 0, 0) := F2
      have H : om_ok z K V (oc_FL (oc_cod K V C 40 0 0 6 [] ++ [(0, 0, 0, 0), (21, 0, 0, 0)])) (fun _ => false) (0 + oc_ln K V C 40 0 []) [] [] ([] ++ oc_en K V C 40 0 0 []) op x y fr to hn ca opn dn wd sta en la ha be := H
      refine om_emit (dx' := []) (en' := en) (la' := la) H (by omega) F1 (by decide) (Or.inr ⟨rfl, rfl⟩) (om_chn0 H.2.2.1 (fun d t h => by cases h)) (fun op2 x2 y2 H2 => ?_)
      refine om_emit (dx' := []) (en' := en) (la' := la) H2 (by omega) F2 (by decide) (Or.inr ⟨rfl, rfl⟩) (om_chn0 H2.2.2.1 (fun d t h => by cases h)) (fun op3 x3 y3 H3 => ?_)
      have G := OKP (fun j' h1 h2 => BN j' (by omega) h1 h2) (6 + oc_wn K V C 40 0 []) (nI 0) op3 x3 y3 fr to hn ca opn dn wd sta en la ha be (fun a ha => by
        obtain ⟨a1, a2, a3⟩ := H3.1 a (by omega)
        exact ⟨a1, a3 (by simp), a2⟩) H3.2.2.2.1 H3.2.2.2.2
      rw [show oc_ln K V C 40 0 [] + 2 = 0 + oc_ln K V C 40 0 [] + 1 + 1 by omega] at G
      exact G
    exact br_t (show nI 0 ≤ 0 by decide) (br_f (by decide) (br_t (show nI 0 ≤ 0 by decide) (nm_r (e' := nI N) (by rw [nI_1]; congr 1; omega) W25)))
end
section
/-! ===== the parse: stacks of slots, and the tree ===== -/
abbrev ps_S : Type := Option (Nat × Nat)
def ps_sl (i : Nat) : Nat → Nat → List ps_S
  | _, 0 => []
  | o, n + 1 => some (i, o) :: ps_sl i (o + 1) n
section
variable (K : Nat → Nat) (V : Nat → Int32)
def ps_wt (s : ps_S) : Nat := match s with | none => 1 | some (t, o) => ot_wa (K t) (V t) o
def ps_st : Nat → List ps_S
  | 0 => [none]
  | i + 1 => ps_sl i 0 (ot_np (K i) (V i)) ++ (ps_st i).tail
/-- the answer of the parse from token i on -/
def ps_r : Nat → Nat → Int32
  | 0, i => if (ps_st K V i).length = 0 then -1 else nI i
  | r + 1, i => match ps_st K V i with | [] => nI i | s :: _ => if ot_so (K i) = ps_wt K V s then ps_r r (i + 1) else nI i
/-- tokens 0 .. N - 1 fit, and nothing is left -/
def ps_ok (N : Nat) : Prop := (∀ j, j < N → ∃ s l, ps_st K V j = s :: l ∧ ot_so (K j) = ps_wt K V s) ∧ ps_st K V N = []
end
section
variable {K : Nat → Nat} {V : Nat → Int32} {N : Nat}
theorem ps_r_ok (hN : N ≤ 40) : ∀ r i, i + r = N → ps_r K V r i = -1 → (∀ j, i ≤ j → j < N → ∃ s l, ps_st K V j = s :: l ∧ ot_so (K j) = ps_wt K V s) ∧ ps_st K V N = [] := by
  have ne : ∀ j : Nat, j ≤ 40 → nI j = -1 → False := by
    intro j hj e
    have a : (nI j).toInt = (-1 : Int32).toInt := by rw [e]
    rw [nI_toInt (by omega)] at a
    have b : (-1 : Int32).toInt = -1 := by decide
    omega
  intro r
  induction r with
  | zero =>
    intro i hi h
    simp only [ps_r] at h
    by_cases c : (ps_st K V i).length = 0
    · refine ⟨fun j h1 h2 => by omega, ?_⟩
      rw [show N = i by omega]; exact List.length_eq_zero_iff.mp c
    · rw [if_neg c] at h; exact absurd h (fun e => ne i (by omega) e)
  | succ r ih =>
    intro i hi h
    simp only [ps_r] at h
    cases hs : ps_st K V i with
    | nil => rw [hs] at h; exact absurd h (fun e => ne i (by omega) e)
    | cons s l =>
      rw [hs] at h
      simp only at h
      by_cases c : ot_so (K i) = ps_wt K V s
      · rw [if_pos c] at h
        obtain ⟨a, b⟩ := ih (i + 1) (by omega) h
        refine ⟨fun j h1 h2 => ?_, b⟩
        by_cases e : j = i
        · subst e; exact ⟨s, l, hs, c⟩
        · exact a j (by omega) h2
      · rw [if_neg c] at h; exact absurd h (fun e => ne i (by omega) e)
theorem ps_sl_len : ∀ (i o n : Nat), (ps_sl i o n).length = n
  | _, _, 0 => rfl
  | i, o, n + 1 => by simp only [ps_sl, List.length_cons, ps_sl_len i (o + 1) n]
theorem ps_sl_mem {i : Nat} : ∀ {o n : Nat} {s : ps_S}, s ∈ ps_sl i o n → ∃ p, s = some (i, p) ∧ o ≤ p ∧ p < o + n
  | _, 0, _, h => by cases h
  | o, n + 1, s, h => by
    rcases List.mem_cons.mp h with e | e
    · exact ⟨o, e, by omega, by omega⟩
    · obtain ⟨p, e1, e2, e3⟩ := ps_sl_mem e; exact ⟨p, e1, by omega, by omega⟩
theorem ps_sl_nd {i : Nat} : ∀ {o n : Nat}, (ps_sl i o n).Nodup
  | _, 0 => List.nodup_nil
  | o, n + 1 => by
    refine List.nodup_cons.mpr ⟨fun h => ?_, ps_sl_nd⟩
    obtain ⟨p, e1, e2, e3⟩ := ps_sl_mem h
    have : o = p := by injection e1 with e1; injection e1
    omega
/-- the slots on the stack belong to earlier tokens, each at most once, with parts below their number -/
theorem ps_st_mem : ∀ (i : Nat) (t o : Nat), some (t, o) ∈ ps_st K V i → t < i ∧ o < ot_np (K t) (V t)
  | 0, t, o, h => by rcases List.mem_cons.mp h with e | e <;> cases e
  | i + 1, t, o, h => by
    rcases List.mem_append.mp h with e | e
    · obtain ⟨p, e1, e2, e3⟩ := ps_sl_mem e
      have e4 : (t, o) = (i, p) := by injection e1
      have e5 : t = i := congrArg Prod.fst e4
      have e6 : o = p := congrArg Prod.snd e4
      subst e5 e6
      exact ⟨by omega, by omega⟩
    · have := ps_st_mem i t o (List.mem_of_mem_tail e); exact ⟨by omega, this.2⟩
theorem ps_st_nd : ∀ (i : Nat), (ps_st K V i).Nodup
  | 0 => by simp [ps_st]
  | i + 1 => by
    refine List.nodup_append.mpr ⟨ps_sl_nd, ?_, ?_⟩
    · have := ps_st_nd i
      cases h : ps_st K V i with
      | nil => exact List.nodup_nil
      | cons s l => rw [h] at this; exact (List.nodup_cons.mp this).2
    · intro a ha b hb e
      subst e
      obtain ⟨p, e1, _⟩ := ps_sl_mem ha
      subst e1
      have := (ps_st_mem i i p (List.mem_of_mem_tail hb)).1
      omega
theorem ps_none : ∀ (i : Nat), 0 < i → none ∉ ps_st K V i
  | 0, h, _ => by omega
  | i + 1, _, h => by
    rcases List.mem_append.mp h with e | e
    · obtain ⟨p, e1, _⟩ := ps_sl_mem e; cases e1
    · by_cases c : i = 0
      · subst c; simp [ps_st] at e
      · exact ps_none i (by omega) (List.mem_of_mem_tail e)
/-- a slot that was taken isn't on the stack any more -/
theorem ps_gone {j : Nat} {s : ps_S} {l : List ps_S} (hj : ps_st K V j = s :: l) : ∀ d, s ∉ ps_st K V (j + 1 + d) := by
  intro d
  induction d with
  | zero =>
    intro h
    rcases List.mem_append.mp h with e | e
    · obtain ⟨p, e1, _⟩ := ps_sl_mem e
      subst e1
      have := (ps_st_mem j j p (by rw [hj]; exact List.mem_cons_self)).1
      omega
    · have nd := ps_st_nd (K := K) (V := V) j
      rw [hj] at nd e
      exact (List.nodup_cons.mp nd).1 e
  | succ d ih =>
    intro h
    rcases List.mem_append.mp h with e | e
    · obtain ⟨p, e1, _⟩ := ps_sl_mem e
      subst e1
      have := (ps_st_mem j (j + 1 + d) p (by rw [hj]; exact List.mem_cons_self)).1
      omega
    · exact ih (List.mem_of_mem_tail e)
/-- the stack comes down to each of its tails -/
theorem ps_suf (OK : ps_ok K V N) : ∀ d j l1 l2, j + d = N → ps_st K V j = l1 ++ l2 → ∃ b, j ≤ b ∧ b ≤ N ∧ ps_st K V b = l2 ∧ ∀ k, j ≤ k → k < b → l2.length < (ps_st K V k).length := by
  intro d
  induction d with
  | zero =>
    intro j l1 l2 hj h
    have e : j = N := by omega
    subst e
    rw [OK.2] at h
    have := List.append_eq_nil_iff.mp h.symm
    exact ⟨j, Nat.le_refl _, Nat.le_refl _, by rw [OK.2]; exact this.2.symm, fun k h1 h2 => by omega⟩
  | succ d ih =>
    intro j l1 l2 hj h
    cases l1 with
    | nil => exact ⟨j, Nat.le_refl _, by omega, h, fun k h1 h2 => by omega⟩
    | cons s l1 =>
      have e : ps_st K V (j + 1) = (ps_sl j 0 (ot_np (K j) (V j)) ++ l1) ++ l2 := by
        simp only [ps_st, h, List.cons_append, List.tail_cons, List.append_assoc]
      obtain ⟨b, b1, b2, b3, b4⟩ := ih (j + 1) _ l2 (by omega) e
      refine ⟨b, by omega, b2, b3, fun k h1 h2 => ?_⟩
      by_cases c : k = j
      · subst c; rw [h]; simp; omega
      · exact b4 k (by omega) h2
def ps_E (K : Nat → Nat) (V : Nat → Int32) (N i b : Nat) : Prop := i < b ∧ b ≤ N ∧ ps_st K V b = (ps_st K V i).tail ∧ ∀ k, i < k → k < b → (ps_st K V i).tail.length < (ps_st K V k).length
theorem ps_E_ex (OK : ps_ok K V N) {i : Nat} (hi : i < N) : ∃ b, ps_E K V N i b := by
  obtain ⟨b, b1, b2, b3, b4⟩ := ps_suf OK (N - (i + 1)) (i + 1) (ps_sl i 0 (ot_np (K i) (V i))) (ps_st K V i).tail (by omega) rfl
  exact ⟨b, by omega, b2, b3, fun k h1 h2 => b4 k (by omega) h2⟩
theorem ps_E_un {i b b' : Nat} (h : ps_E K V N i b) (h' : ps_E K V N i b') : b = b' := by
  obtain ⟨a1, a2, a3, a4⟩ := h
  obtain ⟨c1, c2, c3, c4⟩ := h'
  rcases Nat.lt_trichotomy b b' with g | g | g
  · have := c4 b a1 g; rw [a3] at this; omega
  · exact g
  · have := a4 b' c1 g; rw [c3] at this; omega
def ps_C (B : Nat → Nat) (i : Nat) : Nat → Nat
  | 0 => i + 1
  | o + 1 => B (ps_C B i o)
/-- the path: by fuel -/
def ps_Q (K : Nat → Nat) (V : Nat → Int32) : Nat → Nat → oc_P
  | 0, _ => []
  | n + 1, j => match ps_st K V j with | some (t, o) :: _ => (t, o) :: ps_Q K V n t | _ => []
theorem ps_Q_st : ∀ n j, j ≤ n → ps_Q K V n j = ps_Q K V j j
  | 0, j, h => by rw [show j = 0 by omega]
  | n + 1, 0, _ => by simp [ps_Q, ps_st]
  | n + 1, j + 1, h => by
    simp only [ps_Q]
    cases hs : ps_st K V (j + 1) with
    | nil => rfl
    | cons s l =>
      cases s with
      | none => rfl
      | some p =>
        obtain ⟨t, o⟩ := p
        have ht := (ps_st_mem (j + 1) t o (by rw [hs]; exact List.mem_cons_self)).1
        show (t, o) :: ps_Q K V n t = (t, o) :: ps_Q K V j t
        rw [ps_Q_st n t (by omega), ps_Q_st j t (by omega)]
/-- the tree -/
theorem ps_tree (OK : ps_ok K V N) (hN : N ≤ 40) (DR : ∀ i, i < N → ot_ok (K i) (V i)) : ∃ B : Nat → Nat, ot_WT K V (ps_C B) (fun j => ps_Q K V j j) B N ∧
    (∀ i o, i < N → o < ot_np (K i) (V i) → ∃ l, ps_st K V (ps_C B i o) = some (i, o) :: l) := by
  have ex : ∀ i, ∃ b, i < N → ps_E K V N i b := by
    intro i
    by_cases h : i < N
    · obtain ⟨b, hb⟩ := ps_E_ex OK h; exact ⟨b, fun _ => hb⟩
    · exact ⟨0, fun e => absurd e h⟩
  obtain ⟨B, HB⟩ := Classical.skolem.mp ex
  -- where part o begins
  have CH : ∀ i, i < N → ∀ o, o ≤ ot_np (K i) (V i) → i < ps_C B i o ∧ ps_C B i o ≤ N ∧ ps_st K V (ps_C B i o) = ps_sl i o (ot_np (K i) (V i) - o) ++ (ps_st K V i).tail ∧ ∀ k, i < k → k < ps_C B i o → (ps_st K V i).tail.length < (ps_st K V k).length := by
    intro i hi o
    induction o with
    | zero => intro _; exact ⟨by simp [ps_C], by simp only [ps_C]; omega, rfl, fun k h1 h2 => by simp only [ps_C] at h2; omega⟩
    | succ o ih =>
      intro ho
      obtain ⟨a1, a2, a3, a4⟩ := ih (by omega)
      have e1 : ot_np (K i) (V i) - o = (ot_np (K i) (V i) - (o + 1)) + 1 := by omega
      rw [e1] at a3
      have lt : ps_C B i o < N := by
        rcases Nat.lt_or_ge (ps_C B i o) N with g | g
        · exact g
        · have : ps_C B i o = N := by omega
          rw [this, OK.2] at a3; cases a3
      obtain ⟨b1, b2, b3, b4⟩ := HB _ lt
      have e2 : (ps_st K V (ps_C B i o)).tail = ps_sl i (o + 1) (ot_np (K i) (V i) - (o + 1)) ++ (ps_st K V i).tail := by rw [a3]; rfl
      refine ⟨by show i < B _; omega, b2, by show ps_st K V (B _) = _; rw [b3, e2], fun k h1 h2 => ?_⟩
      have h2 : k < B (ps_C B i o) := h2
      rcases Nat.lt_trichotomy k (ps_C B i o) with g | g | g
      · exact a4 k h1 g
      · subst g; rw [a3]; simp [ps_sl]; omega
      · have := b4 k g h2
        rw [e2, List.length_append] at this
        omega
  have CHl : ∀ i o, i < N → o < ot_np (K i) (V i) → ∃ l, ps_st K V (ps_C B i o) = some (i, o) :: l := by
    intro i o hi ho
    obtain ⟨_, _, a3, _⟩ := CH i hi o (by omega)
    rw [show ot_np (K i) (V i) - o = (ot_np (K i) (V i) - (o + 1)) + 1 by omega] at a3
    exact ⟨_, a3⟩
  have CLT : ∀ i o, i < N → o < ot_np (K i) (V i) → ps_C B i o < N := by
    intro i o hi ho
    obtain ⟨l, hl⟩ := CHl i o hi ho
    obtain ⟨_, a2, _, _⟩ := CH i hi o (by omega)
    rcases Nat.lt_or_ge (ps_C B i o) N with g | g
    · exact g
    · have : ps_C B i o = N := by omega
      rw [this, OK.2] at hl; cases hl
  have N0 : 0 < N := by
    rcases Nat.eq_zero_or_pos N with g | g
    · have := OK.2; rw [g] at this; cases this
    · exact g
  have BE : ∀ i, i < N → B i = ps_C B i (ot_np (K i) (V i)) := by
    intro i hi
    obtain ⟨a1, a2, a3, a4⟩ := CH i hi _ (Nat.le_refl _)
    refine ps_E_un (HB i hi) ⟨a1, a2, ?_, a4⟩
    rw [a3, Nat.sub_self]; rfl
  refine ⟨B, ⟨N0, hN, ?_, ?_, ?_, fun i hi => ⟨DR i hi, fun o ho => ⟨(CH i hi o (by omega)).1, CLT i o hi ho, ?_, ?_, fun e => by rw [e]; rfl, fun _ => rfl, fun e => by rw [BE i hi, ← e]; rfl⟩, fun e => by rw [BE i hi, e]; rfl, (HB i hi).1, (HB i hi).2.1⟩⟩, CHl⟩
  · obtain ⟨s, l, h1, h2⟩ := OK.1 0 N0
    simp only [ps_st] at h1
    cases h1
    exact h2
  · rfl
  · obtain ⟨b1, b2, b3, _⟩ := HB 0 N0
    rcases Nat.lt_or_ge (B 0) N with g | g
    · obtain ⟨s, l, h1, _⟩ := OK.1 _ g
      rw [b3] at h1; simp [ps_st] at h1
    · omega
  · obtain ⟨l, hl⟩ := CHl i o hi ho
    obtain ⟨s, l', h1, h2⟩ := OK.1 _ (CLT i o hi ho)
    rw [hl] at h1
    cases h1
    exact h2
  · obtain ⟨l, hl⟩ := CHl i o hi ho
    have lt := (CH i hi o (by omega)).1
    show ps_Q K V (ps_C B i o) (ps_C B i o) = (i, o) :: ps_Q K V i i
    obtain ⟨c', hc'⟩ : ∃ c', ps_C B i o = c' + 1 := ⟨ps_C B i o - 1, by omega⟩
    rw [hc'] at hl ⊢
    simp only [ps_Q, hl]
    rw [ps_Q_st c' i (by omega)]
end
end
section
/-! ===== X's misfit ===== -/
theorem ps_sort {Pst : Int32 → Prop} {k o : Nat} {v : Int32} (ok : ot_ok k v) (ho : o < 5) (H : Pst (nI (ot_wa k v o))) : wpX_sort Pst (nI k) v (nI o) := by
  have os : o = 0 ∨ o = 1 ∨ o = 2 ∨ o = 3 ∨ o = 4 := by omega
  rcases ot_kinds ok with e | e | e | e | e | e | e | e | e | e | e | e | e | e | e | e | e
  case inr.inr.inl => rcases e with e | e | e | e | e <;> subst e <;> repeat (first | exact br_t (by decide) H | exact br_f (by decide) H | refine br_f (by decide) ?_)
  case inr.inr.inr.inr.inr.inr.inr.inr.inr.inr.inr.inr.inl =>
    subst e
    rcases ok.2.2.2.2.1 rfl with e | e | e | e | e <;> subst e <;> rcases os with e | e | e | e | e <;> subst e <;> refine br_t rfl ?_ <;> repeat (first | exact br_t (by decide) H | exact br_f (by decide) H | refine br_f (by decide) ?_)
  case inr.inr.inr.inr.inr.inr.inr.inl =>
    subst e
    rcases os with e | e | e | e | e <;> subst e <;> refine br_f (by decide) (br_f (by decide) (br_f (by decide) (br_t rfl ?_))) <;> first | exact br_t (by decide) H | exact br_f (by decide) H
  case inr.inr.inr.inr.inr.inr.inr.inr.inl =>
    subst e
    rcases os with e | e | e | e | e <;> subst e <;> refine br_f (by decide) (br_f (by decide) (br_f (by decide) (br_f (by decide) (br_t rfl ?_)))) <;> first | exact br_t (by decide) H | exact br_f (by decide) H
  all_goals subst e; repeat (first | exact br_t (by decide) H | exact br_f (by decide) H | refine br_f (by decide) ?_)
theorem ps_sortOf {Pst : Int32 → Prop} {k : Nat} {v : Int32} (ok : ot_ok k v) (H : Pst (nI (ot_so k))) : wpX_sortOf Pst (nI k) := by
  rcases ot_kinds ok with e | e | e | e | e | e | e | e | e | e | e | e | e | e | e | e | e
  case inr.inr.inl => rcases e with e | e | e | e | e <;> subst e <;> exact br_f (by decide) H
  all_goals subst e; first | exact br_f (by decide) H | exact br_t (by decide) (br_t (by decide) H) | exact br_t (by decide) (br_f (by decide) H)
theorem ps_m1 (c : Nat) : nI c + (-1) = nI c - 1 := by
  cases c with
  | zero => decide
  | succ c => rw [pk_m1]; exact (nI_pred c).symm
theorem ps_np4 {k : Nat} {v : Int32} (ok : ot_ok k v) : ot_np k v ≤ 4 := by
  have nc2 := ot_nc_le v
  rcases ot_kinds ok with e | e | e | e | e | e | e | e | e | e | e | e | e | e | e | e | e
  case inr.inr.inl => rcases e with e | e | e | e | e <;> rw [e] <;> simp [ot_np]
  all_goals rw [e]; simp only [ot_np]; try omega
  split <;> omega
section
variable {post : Int32 → SX → Prop} {z : SX} {K : Nat → Nat} {V : Nat → Int32} {N : Nat}
theorem ps_X68 {J : Int32 → Int32 → (Nat → Int32) → (Nat → Int32) → (Nat → Int32) → (Nat → Int32) → (Nat → Int32) → (Nat → Int32) → (Nat → Int32) → (Nat → Int32) → (Nat → Int32) → (Nat → Int32) → (Nat → Int32) → (Nat → Int32) → (Nat → Int32) → (Nat → Int32) → (Nat → Int32) → (Nat → Int32) → (Nat → Int32) → (Nat → Int32) → (Nat → Int32) → (Nat → Int32) → (Nat → Int32) → (Nat → Int32) → (Nat → Int32) → (Nat → Int32) → (Nat → Int32) → Prop} {i : Nat} (ok : ot_ok (K i) (V i)) (hi : i < 40) {l : List ps_S} (hl : l.length ≤ 3 * i) :
    ∀ (c : Nat) (nd : Nat → Int32), c ≤ ot_np (K i) (V i) → ox_rS nd 0 ((ps_sl i c (ot_np (K i) (V i) - c) ++ l).map (fun s => nI (ps_wt K V s))) →
    (∀ nd', ox_rS nd' 0 ((ps_sl i 0 (ot_np (K i) (V i)) ++ l).map (fun s => nI (ps_wt K V s))) → J (nI (ot_np (K i) (V i) + l.length)) (nI (i + 1)) (oa_tok z) nd' (oa_num z) (oa_op z) (oa_x z) (oa_y z) (oa_from z) (oa_to z) (oa_handler z) (oa_caught z) (oa_there z) (oa_open z) (oa_done z) (oa_word z) (oa_start z) (oa_ends z) (oa_last z) (oa_hand z) (oa_bodyEnd z) (oa_local z) (oa_stack z) (oa_back z) (oa_floor z) (oa_running z) (oa_output z)) →
    wX_misfit_68 post J (nI i) (nI (K i)) (V i) (oa_tokens z) (oa_place z) (oa_here z) (oa_words z) (oa_depth z) (oa_working z) (oa_top z) (oa_steps z) (oa_says z) (oa_kind z) (oa_value z) (oa_over z) (oa_given z) (oa_thrown z) (c + 1) (nI ((ot_np (K i) (V i) - c) + l.length)) (nI c - 1) (oa_tok z) nd (oa_num z) (oa_op z) (oa_x z) (oa_y z) (oa_from z) (oa_to z) (oa_handler z) (oa_caught z) (oa_there z) (oa_open z) (oa_done z) (oa_word z) (oa_start z) (oa_ends z) (oa_last z) (oa_hand z) (oa_bodyEnd z) (oa_local z) (oa_stack z) (oa_back z) (oa_floor z) (oa_running z) (oa_output z) := by
  have np4 := ps_np4 ok
  intro c
  induction c with
  | zero =>
    intro nd _ R KK
    refine br_t (by decide) (nm_r (nI_1 i) ?_)
    rw [Nat.sub_zero] at R ⊢
    exact KK nd R
  | succ c ih =>
    intro nd hc R KK
    have e1 : nI (c + 1) - 1 = nI c := nI_pred c
    rw [e1]
    refine br_f (nI_pos (by omega)) (nm_r (nI_1 _) (ps_sort ok (by omega) ?_))
    have e2 : ot_np (K i) (V i) - c = (ot_np (K i) (V i) - (c + 1)) + 1 := by omega
    have wl : ot_wa (K i) (V i) c < 100 := by
      unfold ot_wa
      split
      · split <;> omega
      · omega
      · omega
      · split <;> omega
      · split <;> omega
      · omega
    refine And.intro (vp_in_nI (by omega) (by omega)) (nm_r (e' := upd nd ((ot_np (K i) (V i) - (c + 1)) + l.length) (nI (ot_wa (K i) (V i) c))) (by rw [nI_clamp (by omega), ok_by (by omega)]) (nm_r (ps_m1 c) ?_))
    have R2 := ih (upd nd ((ot_np (K i) (V i) - (c + 1)) + l.length) (nI (ot_wa (K i) (V i) c))) (by omega) (by
      rw [e2]
      have := oy_push (v := nI (ot_wa (K i) (V i) c)) R
      rw [List.length_map, List.length_append, ps_sl_len] at this
      exact this) KK
    rw [show ot_np (K i) (V i) - (c + 1) + l.length + 1 = ot_np (K i) (V i) - c + l.length by omega]
    exact R2
theorem ps_X11 (D : om_dr z K V N) (hT : oa_tokens z = nI N) : ∀ (r i : Nat) (nd : Nat → Int32), i + r = N → (ps_st K V i).length ≤ 1 + 3 * i → ox_rS nd 0 ((ps_st K V i).map (fun s => nI (ps_wt K V s))) → (∀ nd', post (ps_r K V r i) ((oa_tokens z), (oa_place z), (oa_here z), (oa_words z), (oa_depth z), (oa_working z), (oa_top z), (oa_steps z), (oa_says z), (oa_kind z), (oa_value z), (oa_over z), (oa_given z), (oa_thrown z), (oa_tok z), nd', (oa_num z), (oa_op z), (oa_x z), (oa_y z), (oa_from z), (oa_to z), (oa_handler z), (oa_caught z), (oa_there z), (oa_open z), (oa_done z), (oa_word z), (oa_start z), (oa_ends z), (oa_last z), (oa_hand z), (oa_bodyEnd z), (oa_local z), (oa_stack z), (oa_back z), (oa_floor z), (oa_running z), (oa_output z))) →
    wX_misfit_11 post (oa_tokens z) (oa_place z) (oa_here z) (oa_words z) (oa_depth z) (oa_working z) (oa_top z) (oa_steps z) (oa_says z) (oa_kind z) (oa_value z) (oa_over z) (oa_given z) (oa_thrown z) (r + 1) (nI (ps_st K V i).length) (nI i) (oa_tok z) nd (oa_num z) (oa_op z) (oa_x z) (oa_y z) (oa_from z) (oa_to z) (oa_handler z) (oa_caught z) (oa_there z) (oa_open z) (oa_done z) (oa_word z) (oa_start z) (oa_ends z) (oa_last z) (oa_hand z) (oa_bodyEnd z) (oa_local z) (oa_stack z) (oa_back z) (oa_floor z) (oa_running z) (oa_output z) := by
  have hN := D.1
  intro r
  induction r with
  | zero =>
    intro i nd hi hl R KK
    have e : i = N := by omega
    subst e
    simp only [ps_r] at KK
    refine br_t (by rw [hT]; exact Int32.le_refl _) ?_
    by_cases c : (ps_st K V i).length = 0
    · rw [if_pos c] at KK
      exact br_t (by rw [c]; decide) (KK nd)
    · rw [if_neg c] at KK
      refine br_f (nI_nle (by omega) (by omega)) ?_
      have K2 := KK nd
      rw [← hT] at K2
      exact K2
  | succ r ih =>
    intro i nd hi hl R KK
    obtain ⟨ok, d1, d2⟩ := D.2 i (by omega)
    have k22 := ok.1
    have i40 : vp_in (nI i) 40 := vp_in_nI (by omega) (by omega)
    have et : oa_tok z (nI i).toNatClampNeg = nI (K i) := by rw [nI_clamp (by omega)]; exact d1
    have ev : oa_num z (nI i).toNatClampNeg = V i := by rw [nI_clamp (by omega)]; exact d2
    refine br_f (by rw [hT]; exact nI_ge (by omega) (by omega)) ⟨i40, nm_r (e' := nI (K i)) et ⟨i40, nm_r (e' := V i) ev ?_⟩⟩
    simp only [ps_r] at KK
    cases hs : ps_st K V i with
    | nil =>
      rw [hs] at KK
      exact br_t rfl (KK nd)
    | cons s l =>
      rw [hs] at KK R hl
      simp only at KK
      have ll : l.length + 1 ≤ 1 + 3 * i := hl
      refine br_f (nI_ne0 (by simp) (by simp; omega)) (ps_sortOf ok ?_)
      have e1 : nI (s :: l).length - 1 = nI l.length := nI_pred _
      have e2 : nI (s :: l).length + (-1) = nI l.length := pk_m1 _
      have en : nd (nI (s :: l).length - 1).toNatClampNeg = nI (ps_wt K V s) := by
        rw [e1, nI_clamp (by omega)]
        have := R.1; rw [Nat.zero_add, List.length_map] at this; exact this
      have wl : ps_wt K V s < 100 := by
        cases s with
        | none => show 1 < 100; omega
        | some p =>
          show ot_wa (K p.1) (V p.1) p.2 < 100
          unfold ot_wa
          split
          · split <;> omega
          · omega
          · omega
          · split <;> omega
          · split <;> omega
          · omega
      have sl : ot_so (K i) < 100 := by unfold ot_so; split; omega; split <;> omega
      refine And.intro (by rw [e1]; exact vp_in_nI (by omega) (by omega)) ?_
      rw [en]
      by_cases c : ot_so (K i) = ps_wt K V s
      · rw [if_pos c] at KK
        refine br_t (by rw [c]) (nm_r e2 (om_parts ok (nm_e ⟨ot_np (K i) (V i) + 1, ?_⟩)))
        have st1 : ps_st K V (i + 1) = ps_sl i 0 (ot_np (K i) (V i)) ++ l := by simp only [ps_st, hs, List.tail_cons]
        have np4 := ps_np4 ok
        have G := ps_X68 (post := post) (z := z) (J := wX_misfit_11 post (oa_tokens z) (oa_place z) (oa_here z) (oa_words z) (oa_depth z) (oa_working z) (oa_top z) (oa_steps z) (oa_says z) (oa_kind z) (oa_value z) (oa_over z) (oa_given z) (oa_thrown z) (r + 1)) ok (by omega) (l := l) (by omega) (ot_np (K i) (V i)) nd (Nat.le_refl _) (by rw [Nat.sub_self]; exact R.2) (fun nd' R' => by
          have := ih (i + 1) nd' (by omega) (by rw [st1, List.length_append, ps_sl_len]; omega) (by rw [st1]; exact R') KK
          rw [st1, List.length_append, ps_sl_len] at this
          exact this)
        rw [Nat.sub_self, Nat.zero_add] at G
        exact G
      · rw [if_neg c] at KK
        exact br_f (fun e => c ((nI_eq (by omega) (by omega)).mp e)) (KK nd)
end
end
section
/-! ===== Y's shape ===== -/
theorem ps_wanted {Pst : Int32 → Prop} {k o : Nat} {v : Int32} (ok : ot_ok k v) (ho : o < 5) (H : Pst (nI (ot_wa k v o))) : wpY_wanted Pst (nI k) v (nI o) := by
  have os : o = 0 ∨ o = 1 ∨ o = 2 ∨ o = 3 ∨ o = 4 := by omega
  rcases ot_kinds ok with e | e | e | e | e | e | e | e | e | e | e | e | e | e | e | e | e
  case inr.inr.inl => rcases e with e | e | e | e | e <;> subst e <;> repeat (first | exact br_t (by decide) H | exact br_f (by decide) H | refine br_f (by decide) ?_)
  case inr.inr.inr.inr.inr.inr.inr.inr.inr.inr.inr.inr.inl =>
    subst e
    rcases ok.2.2.2.2.1 rfl with e | e | e | e | e <;> subst e <;> rcases os with e | e | e | e | e <;> subst e <;> refine br_t rfl ?_ <;> repeat (first | exact br_t (by decide) H | exact br_f (by decide) H | refine br_f (by decide) ?_)
  case inr.inr.inr.inr.inr.inr.inr.inl =>
    subst e
    rcases os with e | e | e | e | e <;> subst e <;> refine br_f (by decide) (br_t rfl ?_) <;> first | exact br_t (by decide) H | exact br_f (by decide) H
  case inr.inr.inr.inr.inr.inr.inr.inr.inl =>
    subst e
    rcases os with e | e | e | e | e <;> subst e <;> refine br_f (by decide) (br_f (by decide) (br_t rfl ?_)) <;> first | exact br_t (by decide) H | exact br_f (by decide) H
  all_goals subst e; repeat (first | exact br_t (by decide) H | exact br_f (by decide) H | refine br_f (by decide) ?_)
theorem ps_ysort {Pst : Int32 → Prop} {k : Nat} {v : Int32} (ok : ot_ok k v) (H : Pst (nI (ot_so k))) : wpY_sort Pst (nI k) := by
  rcases ot_kinds ok with e | e | e | e | e | e | e | e | e | e | e | e | e | e | e | e | e
  case inr.inr.inl => rcases e with e | e | e | e | e <;> subst e <;> exact br_f (by decide) H
  all_goals subst e; first | exact br_f (by decide) H | exact br_t (by decide) (br_t (by decide) H) | exact br_t (by decide) (br_f (by decide) H)
theorem ps_ops {Pst : Int32 → Prop} {k : Nat} {v : Int32} (ok : ot_ok k v) (H : Pst (nI (ot_np k v))) : wpY_operands Pst (nI k) v := by
  rcases ot_kinds ok with e | e | e | e | e | e | e | e | e | e | e | e | e | e | e | e | e
  case inr.inr.inl => rcases e with e | e | e | e | e <;> subst e <;> repeat (first | exact br_t (by decide) H | refine br_f (by decide) ?_)
  case inr.inr.inr.inr.inr.inr.inr.inr.inr.inr.inr.inr.inl =>
    subst e
    rcases ok.2.2.2.2.1 rfl with e | e | e | e | e <;> subst e <;> iterate 17 refine br_f (by decide) ?_
    all_goals exact br_t rfl H
  all_goals subst e; repeat (first | exact br_t (by decide) H | refine br_f (by decide) ?_)
def ps_cd (s : ps_S) : Int32 := match s with | none => -1 | some (t, o) => nI (4 * t + o)
def ps_us (s : ps_S) : Int32 := match s with | none => -1 | some (t, _) => nI t
/-- the draft as Y holds it -/
def oy_dr (y : SY) (K : Nat → Nat) (V : Nat → Int32) (N : Nat) : Prop := N ≤ 40 ∧ ob_length y 4 = nI N ∧ ∀ t, t < N → ot_ok (K t) (V t) ∧ ob_kind y (160 + t) = nI (K t) ∧ ob_value y (160 + t) = V t
def ps_rows (y : SY) (up bl : Nat → Int32) : Prop := (∀ k, k < 160 → up k = ob_up y k) ∧ (∀ k, k < 640 → bl k = ob_below y k)
def ps_ub (K : Nat → Nat) (V : Nat → Int32) (i : Nat) (up bl : Nat → Int32) : Prop := ∀ j, j < i → ∀ s l, ps_st K V j = s :: l → up (160 + j) = ps_us s ∧ ∀ t o, s = some (t, o) → bl (640 + (4 * t + o)) = nI j
section
variable {post : Int32 → SY → Prop} {y : SY} {K : Nat → Nat} {V : Nat → Int32} {N : Nat}
theorem ps_Y166 {J : Int32 → Int32 → (Nat → Int32) → (Nat → Int32) → (Nat → Int32) → (Nat → Int32) → (Nat → Int32) → (Nat → Int32) → (Nat → Int32) → (Nat → Int32) → (Nat → Int32) → (Nat → Int32) → (Nat → Int32) → (Nat → Int32) → (Nat → Int32) → (Nat → Int32) → (Nat → Int32) → (Nat → Int32) → (Nat → Int32) → Prop} {i : Nat} {up bl : Nat → Int32} (ok : ot_ok (K i) (V i)) (hi : i < 40) {l : List ps_S} (hl : l.length ≤ 3 * i) :
    ∀ (c : Nat) (op : Nat → Int32), c ≤ ot_np (K i) (V i) → ox_rS op 0 ((ps_sl i c (ot_np (K i) (V i) - c) ++ l).map ps_cd) →
    (∀ op', ox_rS op' 0 ((ps_sl i 0 (ot_np (K i) (V i)) ++ l).map ps_cd) → J (nI (ot_np (K i) (V i) + l.length)) (nI (i + 1)) (ob_kind y) up (ob_length y) (ob_value y) bl op' (ob_token y) (ob_height y) (ob_target y) (ob_phase y) (ob_how y) (ob_kinds y) (ob_worth y) (ob_values y) (ob_variables y) (ob_begun y) (ob_output y)) →
    wY_shape_166 post J (nI i) (ob_place y) (ob_top y) (ob_held y) (ob_depth y) (ob_ended y) (ob_endTarget y) (ob_endKind y) (ob_endWorth y) (ob_steps y) (ob_says y) (ob_result y) (ob_thrown y) (ob_over y) (c + 1) (nI ((ot_np (K i) (V i) - c) + l.length)) (nI c - 1) (ob_kind y) up (ob_length y) (ob_value y) bl op (ob_token y) (ob_height y) (ob_target y) (ob_phase y) (ob_how y) (ob_kinds y) (ob_worth y) (ob_values y) (ob_variables y) (ob_begun y) (ob_output y) := by
  have np4 := ps_np4 ok
  intro c
  induction c with
  | zero =>
    intro op _ R KK
    refine br_t (by decide) (nm_r (nI_1 i) ?_)
    rw [Nat.sub_zero] at R ⊢
    exact KK op R
  | succ c ih =>
    intro op hc R KK
    have e1 : nI (c + 1) - 1 = nI c := nI_pred c
    rw [e1]
    have e2 : ot_np (K i) (V i) - c = (ot_np (K i) (V i) - (c + 1)) + 1 := by omega
    have e3 : (4 : Int32) * nI i + nI c = nI (4 * i + c) := by
      have : (4 : Int32) * nI i = nI (4 * i) := pk_mul 4 i
      rw [this, nI_add]
    refine br_f (nI_pos (by omega)) (nm_r (nI_1 _) ⟨vp_in_nI (by omega) (by omega), nm_r (e' := upd op ((ot_np (K i) (V i) - (c + 1)) + l.length) (nI (4 * i + c))) (by rw [nI_clamp (by omega), e3, ok_sh (by omega)]) (nm_r (ps_m1 c) ?_)⟩)
    have R2 := ih (upd op ((ot_np (K i) (V i) - (c + 1)) + l.length) (nI (4 * i + c))) (by omega) (by
      rw [e2]
      have := oy_push (v := nI (4 * i + c)) R
      rw [List.length_map, List.length_append, ps_sl_len] at this
      exact this) KK
    rw [show ot_np (K i) (V i) - (c + 1) + l.length + 1 = ot_np (K i) (V i) - c + l.length by omega]
    exact R2
theorem ps_ub_s {i : Nat} {up bl : Nat → Int32} {s : ps_S} {l : List ps_S} (DR : ∀ t, t < i → ot_ok (K t) (V t)) (hs : ps_st K V i = s :: l) (H : ps_ub K V i up bl) (bl' : Nat → Int32) (h1 : ∀ t o, s = some (t, o) → bl' = upd bl (640 + (4 * t + o)) (nI i)) (h2 : s = none → bl' = bl) : ps_ub K V (i + 1) (upd up (160 + i) (ps_us s)) bl' := by
  intro j hj s' l' hj'
  by_cases e : j = i
  · subst e
    rw [hs] at hj'
    cases hj'
    refine ⟨pk_us, fun t o e => ?_⟩
    rw [h1 t o e]; exact pk_us
  · obtain ⟨a, b⟩ := H j (by omega) s' l' hj'
    refine ⟨by rw [pk_un (by omega)]; exact a, fun t' o' e' => ?_⟩
    have b := b t' o' e'
    cases s with
    | none => rw [h2 rfl]; exact b
    | some p =>
      obtain ⟨t, o⟩ := p
      rw [h1 t o rfl]
      by_cases c : 4 * t' + o' = 4 * t + o
      · exfalso
        have m1 := ps_st_mem (K := K) (V := V) i t o (by rw [hs]; exact List.mem_cons_self)
        have m2 := ps_st_mem (K := K) (V := V) j t' o' (by rw [hj', e']; exact List.mem_cons_self)
        have n1 := ps_np4 (DR t (by omega))
        have n2 := ps_np4 (DR t' (by omega))
        have e1 : t' = t := by omega
        have e2 : o' = o := by omega
        subst e1 e2
        have g := ps_gone hj' (i - (j + 1))
        rw [show j + 1 + (i - (j + 1)) = i by omega, hs, e'] at g
        exact g List.mem_cons_self
      · rw [pk_un (by omega)]; exact b
theorem ps_Y11 (D : oy_dr y K V N) : ∀ (r i : Nat) (op up bl : Nat → Int32), i + r = N → (ps_st K V i).length ≤ 1 + 3 * i → ox_rS op 0 ((ps_st K V i).map ps_cd) → ps_ub K V i up bl → ps_rows y up bl → (∀ op' up' bl', (ps_r K V r i = -1 → ps_ub K V N up' bl') → ps_rows y up' bl' → post (ps_r K V r i) ((ob_place y), (ob_top y), (ob_held y), (ob_depth y), (ob_ended y), (ob_endTarget y), (ob_endKind y), (ob_endWorth y), (ob_steps y), (ob_says y), (ob_result y), (ob_thrown y), (ob_over y), (ob_kind y), up', (ob_length y), (ob_value y), bl', op', (ob_token y), (ob_height y), (ob_target y), (ob_phase y), (ob_how y), (ob_kinds y), (ob_worth y), (ob_values y), (ob_variables y), (ob_begun y), (ob_output y))) →
    wY_shape_11 post (ob_place y) (ob_top y) (ob_held y) (ob_depth y) (ob_ended y) (ob_endTarget y) (ob_endKind y) (ob_endWorth y) (ob_steps y) (ob_says y) (ob_result y) (ob_thrown y) (ob_over y) (r + 1) (nI (ps_st K V i).length) (nI i) (ob_kind y) up (ob_length y) (ob_value y) bl op (ob_token y) (ob_height y) (ob_target y) (ob_phase y) (ob_how y) (ob_kinds y) (ob_worth y) (ob_values y) (ob_variables y) (ob_begun y) (ob_output y) := by
  obtain ⟨hN, hT, DD⟩ := D
  have ne : ∀ j : Nat, j ≤ 40 → nI j = -1 → False := by
    intro j hj e
    have a : (nI j).toInt = (-1 : Int32).toInt := by rw [e]
    rw [nI_toInt (by omega)] at a
    have b : (-1 : Int32).toInt = -1 := by decide
    omega
  intro r
  induction r with
  | zero =>
    intro i op up bl hi hl R U RO KK
    have e : i = N := by omega
    subst e
    simp only [ps_r] at KK
    refine br_t (by rw [hT]; exact Int32.le_refl _) ?_
    by_cases c : (ps_st K V i).length = 0
    · rw [if_pos c] at KK
      exact br_t (by rw [c]; decide) (KK _ _ _ (fun _ => U) RO)
    · rw [if_neg c] at KK
      refine br_f (nI_nle (by omega) (by omega)) ?_
      have K2 := KK op up bl (fun e => absurd e (fun g => ne i hN g)) RO
      rw [← hT] at K2
      exact K2
  | succ r ih =>
    intro i op up bl hi hl R U RO KK
    obtain ⟨ok, d1, d2⟩ := DD i (by omega)
    have k22 := ok.1
    have eai : ∀ j, (160 : Int32) + nI j = nI (160 + j) := fun j => nI_add 160 j
    have i200 : ∀ j, j < 40 → vp_in ((160 : Int32) + nI j) 200 := fun j hj => by rw [eai]; exact vp_in_nI (by omega) (by omega)
    have cl : ∀ j, j < 40 → ((160 : Int32) + nI j).toNatClampNeg = 160 + j := fun j hj => by rw [eai]; exact nI_clamp (by omega)
    refine br_f (by rw [hT]; exact nI_ge (by omega) (by omega)) ?_
    simp only [ps_r] at KK
    cases hs : ps_st K V i with
    | nil =>
      rw [hs] at KK
      exact br_t rfl (KK _ _ _ (fun e => absurd e (fun g => ne i (by omega) g)) RO)
    | cons s l =>
      rw [hs] at KK R hl
      simp only at KK
      have ll : l.length + 1 ≤ 1 + 3 * i := hl
      have e2 : nI (s :: l).length + (-1) = nI l.length := pk_m1 _
      have eo : op (nI l.length).toNatClampNeg = ps_cd s := by
        rw [nI_clamp (by omega)]
        have := R.1; rw [Nat.zero_add, List.length_map] at this; exact this
      refine br_f (nI_ne0 (by simp) (by simp; omega)) (nm_r e2 ⟨vp_in_nI (by omega) (by omega), nm_r (e' := ps_cd s) eo ?_⟩)
      have wl : ps_wt K V s < 100 := by
        cases s with
        | none => show 1 < 100; omega
        | some p =>
          show ot_wa (K p.1) (V p.1) p.2 < 100
          unfold ot_wa
          split
          · split <;> omega
          · omega
          · omega
          · split <;> omega
          · split <;> omega
          · omega
      have sl : ot_so (K i) < 100 := by unfold ot_so; split; omega; split <;> omega
      have st1 : ps_st K V (i + 1) = ps_sl i 0 (ot_np (K i) (V i)) ++ l := by simp only [ps_st, hs, List.tail_cons]
      have np4 := ps_np4 ok
      have et : ob_kind y ((160 : Int32) + nI i).toNatClampNeg = nI (K i) := by rw [cl i (by omega)]; exact d1
      have ev : ob_value y ((160 : Int32) + nI i).toNatClampNeg = V i := by rw [cl i (by omega)]; exact d2
      -- the pushes, and on
      have L143 : ∀ up' bl' : Nat → Int32, ot_so (K i) = ps_wt K V s → ps_ub K V (i + 1) up' bl' → ps_rows y up' bl' → wY_shape_143 post (wY_shape_11 post (ob_place y) (ob_top y) (ob_held y) (ob_depth y) (ob_ended y) (ob_endTarget y) (ob_endKind y) (ob_endWorth y) (ob_steps y) (ob_says y) (ob_result y) (ob_thrown y) (ob_over y) (r + 1)) (nI l.length) (nI i) (nI (K i)) (ob_place y) (ob_top y) (ob_held y) (ob_depth y) (ob_ended y) (ob_endTarget y) (ob_endKind y) (ob_endWorth y) (ob_steps y) (ob_says y) (ob_result y) (ob_thrown y) (ob_over y) (ob_kind y) up' (ob_length y) (ob_value y) bl' op (ob_token y) (ob_height y) (ob_target y) (ob_phase y) (ob_how y) (ob_kinds y) (ob_worth y) (ob_values y) (ob_variables y) (ob_begun y) (ob_output y) := by
        intro up' bl' c U' RO'
        rw [if_pos c] at KK
        refine And.intro (i200 i (by omega)) ?_
        rw [ev]
        refine ps_ops ok (nm_e ⟨ot_np (K i) (V i) + 1, ?_⟩)
        have G := ps_Y166 (post := post) (y := y) (J := wY_shape_11 post (ob_place y) (ob_top y) (ob_held y) (ob_depth y) (ob_ended y) (ob_endTarget y) (ob_endKind y) (ob_endWorth y) (ob_steps y) (ob_says y) (ob_result y) (ob_thrown y) (ob_over y) (r + 1)) (up := up') (bl := bl') ok (by omega) (l := l) (by omega) (ot_np (K i) (V i)) op (Nat.le_refl _) (by rw [Nat.sub_self]; exact R.2) (fun op' R' => by
          have := ih (i + 1) op' up' bl' (by omega) (by rw [st1, List.length_append, ps_sl_len]; omega) (by rw [st1]; exact R') U' RO' KK
          rw [st1, List.length_append, ps_sl_len] at this
          exact this)
        rw [Nat.sub_self, Nat.zero_add] at G
        exact G
      -- the test of the sort
      have L99 : ∀ (x4 : Int32), x4 = ps_us s → wY_shape_99 post (wY_shape_11 post (ob_place y) (ob_top y) (ob_held y) (ob_depth y) (ob_ended y) (ob_endTarget y) (ob_endKind y) (ob_endWorth y) (ob_steps y) (ob_says y) (ob_result y) (ob_thrown y) (ob_over y) (r + 1)) (nI l.length) (nI i) (ps_cd s) x4 (nI (K i)) (nI (ps_wt K V s)) (ob_place y) (ob_top y) (ob_held y) (ob_depth y) (ob_ended y) (ob_endTarget y) (ob_endKind y) (ob_endWorth y) (ob_steps y) (ob_says y) (ob_result y) (ob_thrown y) (ob_over y) (ob_kind y) up (ob_length y) (ob_value y) bl op (ob_token y) (ob_height y) (ob_target y) (ob_phase y) (ob_how y) (ob_kinds y) (ob_worth y) (ob_values y) (ob_variables y) (ob_begun y) (ob_output y) := by
        intro x4 e4
        refine ps_ysort ok ?_
        by_cases c : ot_so (K i) = ps_wt K V s
        · refine br_t (by rw [c]) ⟨i200 i (by omega), nm_r (e' := upd up (160 + i) (ps_us s)) ?_ ?_⟩
          · rw [cl i (by omega), e4]
            cases s with
            | none => rfl
            | some p =>
              have := (ps_st_mem (K := K) (V := V) i p.1 p.2 (by rw [hs]; exact List.mem_cons_self)).1
              show upd up (160 + i) (vp_nar .byte (nI p.1).toInt8.toInt32) = _
              rw [ok_by (by omega)]; rfl
          · cases s with
            | none =>
              refine br_t (by rw [e4]; decide) (L143 _ _ c (ps_ub_s (fun t ht => (DD t (by omega)).1) hs U bl (fun t o e => by cases e) (fun _ => rfl)) ⟨fun k hk => by rw [pk_un (by omega)]; exact RO.1 k hk, RO.2⟩)
            | some p =>
              obtain ⟨t, o⟩ := p
              have m1 := ps_st_mem (K := K) (V := V) i t o (by rw [hs]; exact List.mem_cons_self)
              have n1 := ps_np4 (DD t (by omega)).1
              have e6 : (640 : Int32) + ps_cd (some (t, o)) = nI (640 + (4 * t + o)) := nI_add 640 _
              refine br_f (by rw [e4]; exact nI_pos (by omega)) ⟨by rw [e6]; exact vp_in_nI (by omega) (by omega), nm_r (e' := upd bl (640 + (4 * t + o)) (nI i)) (by rw [e6, nI_clamp (by omega), ok_sh (by omega)]) (L143 _ _ c (ps_ub_s (fun t ht => (DD t (by omega)).1) hs U _ (fun t' o' e => by cases e; rfl) (fun e => by cases e)) ⟨fun k hk => by rw [pk_un (by omega)]; exact RO.1 k hk, fun k hk => by rw [pk_un (by omega)]; exact RO.2 k hk⟩)⟩
        · rw [if_neg c] at KK
          exact br_f (fun e => c ((nI_eq (by omega) (by omega)).mp e).symm) (KK _ _ _ (fun e => absurd e (fun g => ne i (by omega) g)) RO)
      cases s with
      | none =>
        refine br_f (by show ¬ (0 : Int32) ≤ -1; decide) ⟨i200 i (by omega), nm_r (e' := nI (K i)) et (br_f (by decide) ?_)⟩
        exact L99 (-1) rfl
      | some p =>
        obtain ⟨t, o⟩ := p
        have m1 := ps_st_mem (K := K) (V := V) i t o (by rw [hs]; exact List.mem_cons_self)
        obtain ⟨okt, dt1, dt2⟩ := DD t (by omega)
        have n1 := ps_np4 okt
        have ed : ps_cd (some (t, o)) / 4 = nI t := by
          have : nI (4 * t + o) / nI 4 = nI ((4 * t + o) / 4) := pk_div (by omega) (by omega) (by omega)
          rw [show (4 * t + o) / 4 = t by omega] at this; exact this
        have er : ps_cd (some (t, o)) - ps_cd (some (t, o)) / 4 * 4 = nI o := by
          have : nI (4 * t + o) - nI (4 * t + o) / nI 4 * nI 4 = nI ((4 * t + o) % 4) := pk_rem (by omega) (by omega) (by omega)
          rw [show (4 * t + o) % 4 = o by omega] at this; exact this
        refine br_t (nI_pos' (by omega)) ⟨by decide, i200 i (by omega), nm_r (e' := nI (K i)) et ?_⟩
        rw [ed]
        refine br_t (nI_pos' (by omega)) ⟨i200 t (by omega), i200 t (by omega), by decide, ?_⟩
        have ek : ob_kind y ((160 : Int32) + nI t).toNatClampNeg = nI (K t) := by rw [cl t (by omega)]; exact dt1
        have evt : ob_value y ((160 : Int32) + nI t).toNatClampNeg = V t := by rw [cl t (by omega)]; exact dt2
        rw [ed] at er
        rw [er, ek, evt]
        exact ps_wanted okt (by omega) (L99 (nI t) rfl)
end
end
section
/-! ===== Y's unbound ===== -/
theorem oc_tj_none {K : Nat → Nat} {V : Nat → Int32} {l : Int32} : ∀ {p : oc_P}, oc_cj K V l p = none → oc_tj K V l p = none
  | [], _ => rfl
  | (t, o) :: p, h => by
    simp only [oc_cj] at h
    simp only [oc_tj]
    by_cases e : oc_tgt K V l t o = true
    · rw [if_pos e] at h; cases h
    · rw [if_neg e] at h ⊢
      refine oc_tj_none ?_
      cases h2 : oc_cj K V l p with
      | none => rfl
      | some c => rw [h2] at h; cases h
section
variable {K : Nat → Nat} {V : Nat → Int32} {N : Nat} {B : Nat → Nat}
/-- the first token from i on that jumps nowhere -/
def ps_b (K : Nat → Nat) (V : Nat → Int32) (Q : Nat → oc_P) : Nat → Nat → Int32
  | 0, _ => -1
  | r + 1, i => if (K i = 19 ∨ K i = 20) ∧ oc_cj K V (V i) (Q i) = none then nI i else ps_b K V Q r (i + 1)
theorem ps_b_some {Q : Nat → oc_P} : ∀ r i, (ps_b K V Q r i = -1 ∧ ∀ j, i ≤ j → j < i + r → (K j = 19 ∨ K j = 20) → oc_cj K V (V j) (Q j) ≠ none) ∨ ∃ j, i ≤ j ∧ j < i + r ∧ (K j = 19 ∨ K j = 20) ∧ oc_cj K V (V j) (Q j) = none ∧ (∀ j', i ≤ j' → j' < j → (K j' = 19 ∨ K j' = 20) → oc_cj K V (V j') (Q j') ≠ none) ∧ ps_b K V Q r i = nI j
  | 0, i => Or.inl ⟨rfl, fun j h1 h2 => by omega⟩
  | r + 1, i => by
    simp only [ps_b]
    by_cases c : (K i = 19 ∨ K i = 20) ∧ oc_cj K V (V i) (Q i) = none
    · rw [if_pos c]
      exact Or.inr ⟨i, Nat.le_refl _, by omega, c.1, c.2, fun j' h1 h2 => by omega, rfl⟩
    · rw [if_neg c]
      have hi : (K i = 19 ∨ K i = 20) → oc_cj K V (V i) (Q i) ≠ none := fun h1 h2 => c ⟨h1, h2⟩
      rcases ps_b_some (Q := Q) r (i + 1) with ⟨a, b⟩ | ⟨j, a1, a2, a3, a4, a5, a6⟩
      · refine Or.inl ⟨a, fun j h1 h2 h3 => ?_⟩
        by_cases e : j = i
        · subst e; exact hi h3
        · exact b j (by omega) (by omega) h3
      · refine Or.inr ⟨j, by omega, by omega, a3, a4, fun j' h1 h2 h3 => ?_, a6⟩
        by_cases e : j' = i
        · subst e; exact hi h3
        · exact a5 j' (by omega) h2 h3
/-- the paths of the tree are as its children say -/
theorem ps_pv (OK : ps_ok K V N) (WT : ot_WT K V (ps_C B) (fun j => ps_Q K V j j) B N) (CH : ∀ i o, i < N → o < ot_np (K i) (V i) → ∃ l, ps_st K V (ps_C B i o) = some (i, o) :: l) :
    ∀ n j, j ≤ n → j < N → oy_pv K V (ps_C B) (fun j => ps_Q K V j j) N j (ps_Q K V j j) := by
  intro n
  induction n with
  | zero => intro j h1 h2; rw [show j = 0 by omega]; trivial
  | succ n ih =>
    intro j h1 h2
    cases j with
    | zero => trivial
    | succ j =>
      obtain ⟨s, l, e1, e2⟩ := OK.1 (j + 1) h2
      cases s with
      | none => exact absurd (by rw [e1]; exact List.mem_cons_self) (ps_none (K := K) (V := V) (j + 1) (by omega))
      | some p =>
        obtain ⟨t, o⟩ := p
        have m1 := ps_st_mem (K := K) (V := V) (j + 1) t o (by rw [e1]; exact List.mem_cons_self)
        obtain ⟨l', e3⟩ := CH t o (by omega) m1.2
        have ej : j + 1 = ps_C B t o := by
          rcases Nat.lt_trichotomy (j + 1) (ps_C B t o) with g | g | g
          · exfalso
            have := ps_gone e1 (ps_C B t o - (j + 1 + 1))
            rw [show j + 1 + 1 + (ps_C B t o - (j + 1 + 1)) = ps_C B t o by omega, e3] at this
            exact this List.mem_cons_self
          · exact g
          · exfalso
            have := ps_gone e3 (j + 1 - (ps_C B t o + 1))
            rw [show ps_C B t o + 1 + (j + 1 - (ps_C B t o + 1)) = j + 1 by omega, e1] at this
            exact this List.mem_cons_self
        simp only [ps_Q, e1]
        refine ⟨by omega, m1.2, ej, ?_, ?_⟩
        · show ps_Q K V t t = ps_Q K V j t
          rw [ps_Q_st j t (by omega)]
        · rw [ps_Q_st j t (by omega)]
          exact ih t (by omega) (by omega)
end
section
variable {post : Int32 → Prop} {y : SY} {K : Nat → Nat} {V : Nat → Int32} {N : Nat} {C : Nat → Nat → Nat} {Q : Nat → oc_P} {B : Nat → Nat}
theorem ps_U2 (D : oy_dr y K V N) (WT : ot_WT K V C Q B N) (PV : ∀ j, j < N → oy_pv K V C Q N j (Q j)) (UP : ∀ j, j < N → ob_up y (160 + j) = oy_pu (Q j)) : ∀ (r i : Nat), i + r = N → post (ps_b K V Q r i) → wY_unbound_2 post (ob_place y) (ob_top y) (ob_held y) (ob_depth y) (ob_ended y) (ob_endTarget y) (ob_endKind y) (ob_endWorth y) (ob_steps y) (ob_says y) (ob_result y) (ob_thrown y) (ob_over y) (ob_kind y) (ob_up y) (ob_length y) (ob_value y) (ob_below y) (ob_open y) (ob_token y) (ob_height y) (ob_target y) (ob_phase y) (ob_how y) (ob_kinds y) (ob_worth y) (ob_values y) (ob_variables y) (ob_begun y) (ob_output y) (r + 1) (nI i) := by
  obtain ⟨hN, hT, DD⟩ := D
  have UPS : ∀ {p : oc_P} {i : Nat}, oy_pv K V C Q N i p → oy_up y K V 4 p := by
    intro p
    induction p with
    | nil => intro i _; trivial
    | cons e p ih =>
      intro i h
      obtain ⟨t, o⟩ := e
      obtain ⟨h1, h2, h3, h4, h5⟩ := h
      obtain ⟨ok, d1, d2⟩ := DD t h1
      exact ⟨⟨by omega, ok.1, d1, d2, by rw [show 40 * 4 + t = 160 + t by omega, UP t h1, h4]⟩, ih h5⟩
  intro r
  induction r with
  | zero =>
    intro i hi H
    refine br_t (by rw [hT, show i = N by omega]; exact Int32.le_refl _) H
  | succ r ih =>
    intro i hi H
    obtain ⟨ok, d1, d2⟩ := DD i (by omega)
    have k22 := ok.1
    have eai : (160 : Int32) + nI i = nI (160 + i) := nI_add 160 i
    have iv : vp_in ((160 : Int32) + nI i) 200 := by rw [eai]; exact vp_in_nI (by omega) (by omega)
    have et : ob_kind y ((160 : Int32) + nI i).toNatClampNeg = nI (K i) := by rw [eai, nI_clamp (by omega)]; exact d1
    have kk : ∀ c : Nat, c < 100 → (nI (K i) = nI c ↔ K i = c) := fun c hc => nI_eq (by omega) (by omega)
    simp only [ps_b] at H
    have LP : (K i = 19 ∨ K i = 20) → wY_unbound_42 post (wY_unbound_2 post (ob_place y) (ob_top y) (ob_held y) (ob_depth y) (ob_ended y) (ob_endTarget y) (ob_endKind y) (ob_endWorth y) (ob_steps y) (ob_says y) (ob_result y) (ob_thrown y) (ob_over y) (ob_kind y) (ob_up y) (ob_length y) (ob_value y) (ob_below y) (ob_open y) (ob_token y) (ob_height y) (ob_target y) (ob_phase y) (ob_how y) (ob_kinds y) (ob_worth y) (ob_values y) (ob_variables y) (ob_begun y) (ob_output y) (r + 1)) (nI i) (ob_place y) (ob_top y) (ob_held y) (ob_depth y) (ob_ended y) (ob_endTarget y) (ob_endKind y) (ob_endWorth y) (ob_steps y) (ob_says y) (ob_result y) (ob_thrown y) (ob_over y) (ob_kind y) (ob_up y) (ob_length y) (ob_value y) (ob_below y) (ob_open y) (ob_token y) (ob_height y) (ob_target y) (ob_phase y) (ob_how y) (ob_kinds y) (ob_worth y) (ob_values y) (ob_variables y) (ob_begun y) (ob_output y) := by
      intro hk
      have sne : ot_so (K i) ≠ 0 := by rcases hk with k | k <;> rw [k] <;> decide
      have tj := oy_tj_eq WT (l := V i) (PV i (by omega)) sne
      refine oy_loop (f := 4) (K := K) (V := V) (p := Q i) (l := V i) (by omega) (by omega) d2 (UP i (by omega)) (UPS (PV i (by omega))) ?_
      rw [tj]
      by_cases c : oc_cj K V (V i) (Q i) = none
      · rw [if_pos ⟨hk, c⟩] at H
        rw [oc_tj_none c]
        exact br_f (by decide) H
      · rw [if_neg (fun e => c e.2)] at H
        obtain ⟨t, ht⟩ := oc_tj_cj c
        have := oy_pv_lt WT (PV i (by omega)) ht
        rw [ht]
        exact br_t (nI_pos' (by omega)) (nm_r (nI_1 i) (ih (i + 1) (by omega) H))
    refine br_f (by rw [hT]; exact nI_ge (by omega) (by omega)) ⟨iv, ?_⟩
    by_cases k19 : K i = 19
    · exact br_t (by rw [et]; exact (kk 19 (by omega)).mpr k19) (LP (Or.inl k19))
    · refine br_f (by rw [et]; exact fun e => k19 ((kk 19 (by omega)).mp e)) ⟨iv, ?_⟩
      by_cases k20 : K i = 20
      · exact br_t (by rw [et]; exact (kk 20 (by omega)).mpr k20) (LP (Or.inr k20))
      · rw [if_neg (fun e => by omega)] at H
        exact br_f (by rw [et]; exact fun e => k20 ((kk 20 (by omega)).mp e)) (nm_r (nI_1 i) (ih (i + 1) (by omega) H))
end
end
section
/-! ===== bounds: arithmetic ===== -/
def bd_U (c a l : Nat) : Prop := 4 * l + 13 ≤ a * a + 16 * a + 4 * (c * a) + 4 * c
def bd_W (c a l : Nat) : Prop := 4 * l + 13 ≤ a * a + 16 * a + 4 * (c * a)
def bd_Z (c a l : Nat) : Prop := (a = 1 → l = 0) ∧ (2 ≤ a → 4 * l + 12 ≤ a * a + 12 * a + 4 * (c * a))
def bd_Y (c a l : Nat) : Prop := 4 * l + 12 ≤ a * a + 12 * a + 4 * (c * a)
theorem bd_s2 (a b : Nat) : (1 + a + b) * (1 + a + b) = 1 + 2 * a + 2 * b + a * a + b * b + 2 * (a * b) := by
  simp only [Nat.mul_add, Nat.add_mul, Nat.mul_one, Nat.one_mul]
  have := Nat.mul_comm a b
  omega
theorem bd_s3 (a b d : Nat) : (1 + a + b + d) * (1 + a + b + d) = 1 + 2 * a + 2 * b + 2 * d + a * a + b * b + d * d + 2 * (a * b) + 2 * (a * d) + 2 * (b * d) := by
  simp only [Nat.mul_add, Nat.add_mul, Nat.mul_one, Nat.one_mul]
  have := Nat.mul_comm a b
  have := Nat.mul_comm a d
  have := Nat.mul_comm b d
  omega
theorem bd_s4 (a b d e : Nat) : (1 + a + b + d + e) * (1 + a + b + d + e) = 1 + 2 * a + 2 * b + 2 * d + 2 * e + a * a + b * b + d * d + e * e + 2 * (a * b) + 2 * (a * d) + 2 * (b * d) + 2 * (a * e) + 2 * (b * e) + 2 * (d * e) := by
  simp only [Nat.mul_add, Nat.add_mul, Nat.mul_one, Nat.one_mul]
  have := Nat.mul_comm a b
  have := Nat.mul_comm a d
  have := Nat.mul_comm b d
  have := Nat.mul_comm a e
  have := Nat.mul_comm b e
  have := Nat.mul_comm d e
  omega
theorem bd_c1 (c a : Nat) : c * (1 + a) = c + c * a := by rw [Nat.mul_add, Nat.mul_one]
theorem bd_c2 (c a b : Nat) : c * (1 + a + b) = c + c * a + c * b := by rw [Nat.mul_add, bd_c1]
theorem bd_c3 (c a b d : Nat) : c * (1 + a + b + d) = c + c * a + c * b + c * d := by rw [Nat.mul_add, bd_c2]
theorem bd_c4 (c a b d e : Nat) : c * (1 + a + b + d + e) = c + c * a + c * b + c * d + c * e := by rw [Nat.mul_add, bd_c3]
theorem bd_p (c a : Nat) : (1 + c) * a = a + c * a := by rw [Nat.add_mul, Nat.one_mul]
theorem bd_ge {a b : Nat} (hb : 1 ≤ b) : a ≤ a * b := Nat.le_mul_of_pos_right a hb
theorem bd_ge2 {a b : Nat} (hb : 2 ≤ b) : 2 * a ≤ a * b := by
  have := Nat.mul_le_mul_left a hb
  omega
theorem bd_s1 (a : Nat) : (1 + a) * (1 + a) = 1 + 2 * a + a * a := by
  simp only [Nat.mul_add, Nat.add_mul, Nat.mul_one, Nat.one_mul]; omega
/-- one expression below -/
theorem bd_e1 {c e l : Nat} (he : 1 ≤ e) (hl : l ≤ e + 1) : bd_U c (1 + e) l ∧ bd_Z c (1 + e) l := by
  unfold bd_U bd_Z
  rw [bd_s1]
  have := bd_ge (a := e) he
  refine ⟨by omega, fun h => by omega, fun _ => by omega⟩
theorem bd_rt {c e l : Nat} (he : 1 ≤ e) (hl : l ≤ e + 2 * c + 3) : bd_U c (1 + e) l ∧ bd_Z c (1 + e) l := by
  unfold bd_U bd_Z
  rw [bd_s1, bd_c1 c e]
  have := bd_ge (a := e) he
  have := bd_ge (a := c) he
  refine ⟨by omega, fun h => by omega, fun _ => by omega⟩
theorem bd_sq {c a b la lb l : Nat} (ha : 1 ≤ a) (hb : 1 ≤ b) (hl : l ≤ la + lb) : (bd_U c a la → bd_U c b lb → bd_U c (1 + a + b) l) ∧ (bd_Z c a la → bd_Z c b lb → bd_Z c (1 + a + b) l) := by
  unfold bd_U bd_Z
  rw [bd_s2, bd_c2 c a b]
  have := bd_ge (a := a) hb
  refine ⟨fun _ _ => by omega, fun ⟨z1, z2⟩ ⟨z3, z4⟩ => ⟨fun h => by omega, fun _ => ?_⟩⟩
  by_cases a1 : a = 1
  · have := z1 a1
    by_cases b1 : b = 1
    · have := z3 b1; omega
    · have := z4 (by omega); omega
  · have := z2 (by omega)
    by_cases b1 : b = 1
    · have := z3 b1; omega
    · have := z4 (by omega); omega
theorem bd_if {c e a b la lb l : Nat} (he : 1 ≤ e) (ha : 1 ≤ a) (hb : 1 ≤ b) (hl : l ≤ e + 2 + la + lb) : (bd_U c a la → bd_U c b lb → bd_U c (1 + e + a + b) l) ∧ (bd_Z c a la → bd_Z c b lb → bd_Z c (1 + e + a + b) l) := by
  unfold bd_U bd_Z
  rw [bd_s3, bd_c3 c e a b]
  have := bd_ge (a := a) hb
  have := bd_ge (a := e) ha
  have := bd_ge (a := e) hb
  have := bd_ge (a := e) he
  refine ⟨fun _ _ => by omega, fun ⟨z1, z2⟩ ⟨z3, z4⟩ => ⟨fun h => by omega, fun _ => ?_⟩⟩
  by_cases a1 : a = 1
  · have := z1 a1
    by_cases b1 : b = 1
    · have := z3 b1; omega
    · have := z4 (by omega); omega
  · have := z2 (by omega)
    by_cases b1 : b = 1
    · have := z3 b1; omega
    · have := z4 (by omega); omega
theorem bd_wh {c e a la l : Nat} (he : 1 ≤ e) (ha : 1 ≤ a) (hl : l ≤ e + 3 + la) : bd_U c a la → bd_U c (1 + e + a) l ∧ bd_Z c (1 + e + a) l := by
  unfold bd_U bd_Z
  rw [bd_s2, bd_c2 c e a]
  have := bd_ge (a := e) ha
  have := Nat.mul_comm e a
  have := bd_ge (a := a) he
  have := bd_ge (a := e) he
  have := bd_ge (a := c) he
  refine fun _ => ⟨by omega, fun h => by omega, fun _ => by omega⟩
theorem bd_ct {c a la l : Nat} (ha : 1 ≤ a) (hl : l ≤ 1 + la) : (bd_U c a la → bd_W c (1 + a) l) ∧ (bd_Z c a la → bd_Y c (1 + a) l) := by
  unfold bd_U bd_W bd_Z bd_Y
  rw [bd_s1, bd_c1 c a]
  refine ⟨fun _ => by omega, fun ⟨z1, z2⟩ => ?_⟩
  by_cases a1 : a = 1
  · have := z1 a1; omega
  · have := z2 (by omega); omega
/-- TRY with one catch -/
theorem bd_t1 {c a b la lb l : Nat} (ha : 1 ≤ a) (hb : 2 ≤ b) (hl : l ≤ la + lb + 3) : (bd_U c a la → bd_W c b lb → bd_U c (1 + a + b) l) ∧ (bd_Z c a la → bd_Y c b lb → bd_Z c (1 + a + b) l) := by
  unfold bd_U bd_W bd_Z bd_Y
  rw [bd_s2, bd_c2 c a b]
  have := bd_ge2 (a := a) hb
  refine ⟨fun _ _ => by omega, fun ⟨z1, z2⟩ z3 => ⟨fun h => by omega, fun _ => ?_⟩⟩
  by_cases a1 : a = 1
  · have := z1 a1; omega
  · have := z2 (by omega); omega
theorem bd_t2 {c a b d la lb ld l : Nat} (ha : 1 ≤ a) (hb : 2 ≤ b) (hd : 2 ≤ d) (hl : l ≤ la + lb + ld + 4) : (bd_U c a la → bd_W c b lb → bd_W c d ld → bd_U c (1 + a + b + d) l) ∧ (bd_Z c a la → bd_Y c b lb → bd_Y c d ld → bd_Z c (1 + a + b + d) l) := by
  unfold bd_U bd_W bd_Z bd_Y
  rw [bd_s3, bd_c3 c a b d]
  have := bd_ge2 (a := a) hb
  have := bd_ge2 (a := a) hd
  have := bd_ge2 (a := b) hd
  refine ⟨fun _ _ _ => by omega, fun ⟨z1, z2⟩ z3 z4 => ⟨fun h => by omega, fun _ => ?_⟩⟩
  by_cases a1 : a = 1
  · have := z1 a1; omega
  · have := z2 (by omega); omega
/-- TRY with a finally part alone -/
theorem bd_t4 {c a f la lf l : Nat} (ha : 1 ≤ a) (hf : 1 ≤ f) (hl : l ≤ la + lf + 7) : (bd_U (1 + c) a la → bd_U c f lf → bd_U c (1 + a + f) l) ∧ (bd_Z (1 + c) a la → bd_Z c f lf → bd_Z c (1 + a + f) l) := by
  unfold bd_U bd_Z
  rw [bd_s2, bd_c2 c a f, bd_p c a]
  have := bd_ge (a := a) hf
  have := Nat.mul_comm a f
  have := bd_ge (a := f) ha
  refine ⟨fun _ _ => by omega, fun ⟨z1, z2⟩ ⟨z3, z4⟩ => ⟨fun h => by omega, fun _ => ?_⟩⟩
  by_cases a1 : a = 1
  · have := z1 a1
    by_cases b1 : f = 1
    · have := z3 b1; omega
    · have := z4 (by omega); omega
  · have := z2 (by omega)
    by_cases b1 : f = 1
    · have := z3 b1; subst b1; omega
    · have := z4 (by omega)
      have := bd_ge2 (a := a) (b := f) (by omega)
      omega
theorem bd_t5 {c a b f la lb lf l : Nat} (ha : 1 ≤ a) (hb : 2 ≤ b) (hf : 1 ≤ f) (hl : l ≤ la + lb + lf + 10) : (bd_U (1 + c) a la → bd_W (1 + c) b lb → bd_U c f lf → bd_U c (1 + a + b + f) l) ∧ (bd_Z (1 + c) a la → bd_Y (1 + c) b lb → bd_Z c f lf → bd_Z c (1 + a + b + f) l) := by
  unfold bd_U bd_W bd_Z bd_Y
  rw [bd_s3, bd_c3 c a b f, bd_p c a, bd_p c b]
  have := bd_ge2 (a := a) hb
  have := bd_ge (a := a) hf
  have := bd_ge (a := b) hf
  have := Nat.mul_comm a b
  have := bd_ge (a := b) ha
  refine ⟨fun _ _ _ => by omega, fun ⟨z1, z2⟩ z5 ⟨z3, z4⟩ => ⟨fun h => by omega, fun _ => ?_⟩⟩
  by_cases a1 : a = 1
  · have := z1 a1
    by_cases b1 : f = 1
    · have := z3 b1; omega
    · have := z4 (by omega); omega
  · have := z2 (by omega)
    by_cases b1 : f = 1
    · have := z3 b1; omega
    · have := z4 (by omega); omega
theorem bd_t6 {c a b d f la lb ld lf l : Nat} (ha : 1 ≤ a) (hb : 2 ≤ b) (hd : 2 ≤ d) (hf : 1 ≤ f) (hl : l ≤ la + lb + ld + lf + 12) : (bd_U (1 + c) a la → bd_W (1 + c) b lb → bd_W (1 + c) d ld → bd_U c f lf → bd_U c (1 + a + b + d + f) l) ∧ (bd_Z (1 + c) a la → bd_Y (1 + c) b lb → bd_Y (1 + c) d ld → bd_Z c f lf → bd_Z c (1 + a + b + d + f) l) := by
  unfold bd_U bd_W bd_Z bd_Y
  rw [bd_s4, bd_c4 c a b d f, bd_p c a, bd_p c b, bd_p c d]
  have := bd_ge2 (a := a) hb
  have := bd_ge2 (a := a) hd
  have := bd_ge2 (a := b) hd
  have := bd_ge (a := a) hf
  have := bd_ge (a := b) hf
  have := bd_ge (a := d) hf
  have := Nat.mul_comm b d
  have := bd_ge2 (a := d) hb
  refine ⟨fun _ _ _ _ => by omega, fun ⟨z1, z2⟩ z5 z6 ⟨z3, z4⟩ => ⟨fun h => by omega, fun _ => ?_⟩⟩
  by_cases a1 : a = 1
  · have := z1 a1
    by_cases b1 : f = 1
    · have := z3 b1; omega
    · have := z4 (by omega); omega
  · have := z2 (by omega)
    by_cases b1 : f = 1
    · have := z3 b1; omega
    · have := z4 (by omega); omega
end
section
/-! ===== bounds of the code, the words, the entries ===== -/
def oc_hw (K : Nat → Nat) (p : oc_P) : Prop := ∃ f, f ∈ p ∧ K f.1 = 13 ∧ f.2 = 1
theorem oc_cj_le {K : Nat → Nat} {V : Nat → Int32} {l : Int32} : ∀ {p : oc_P} {c : Nat}, oc_cj K V l p = some c → c ≤ oc_cr K V p ∧ oc_hw K p
  | [], c, h => by cases h
  | (t, o) :: p, c, h => by
    simp only [oc_cj] at h
    simp only [oc_cr]
    by_cases e : oc_tgt K V l t o = true
    · rw [if_pos e] at h; cases h
      have g := of_decide_eq_true e
      exact ⟨by omega, (t, o), List.mem_cons_self, g.1, g.2.2⟩
    · rw [if_neg e] at h
      cases h2 : oc_cj K V l p with
      | none => rw [h2] at h; cases h
      | some c' =>
        rw [h2] at h
        obtain ⟨a, f, b1, b2⟩ := oc_cj_le h2
        simp only [Option.map_some, Option.some.injEq] at h
        exact ⟨by omega, f, List.mem_cons_of_mem _ b1, b2⟩
def bd_all (K : Nat → Nat) (V : Nat → Int32) (C : Nat → Nat → Nat) (B : Nat → Nat) (m i a : Nat) (p : oc_P) : Prop :=
  (ot_so (K i) = 0 → oc_ln K V C m i p ≤ B i - i ∧ oc_wn K V C m i p = 0 ∧ (oc_en K V C m i a p).length = 0) ∧
  (ot_so (K i) = 1 → bd_U (oc_cr K V p) (B i - i) (oc_ln K V C m i p) ∧ (¬ oc_hw K p → bd_Z (oc_cr K V p) (B i - i) (oc_ln K V C m i p)) ∧ 2 * oc_wn K V C m i p + 3 ≤ 3 * (B i - i) ∧ 2 * (oc_en K V C m i a p).length + 1 ≤ B i - i) ∧
  (ot_so (K i) = 2 → bd_W (oc_cr K V p) (B i - i) (oc_ln K V C m i p) ∧ (¬ oc_hw K p → bd_Y (oc_cr K V p) (B i - i) (oc_ln K V C m i p)) ∧ 2 * oc_wn K V C m i p + 6 ≤ 3 * (B i - i) ∧ 2 * (oc_en K V C m i a p).length + 2 ≤ B i - i)
section
variable {K : Nat → Nat} {V : Nat → Int32} {C : Nat → Nat → Nat} {Q : Nat → oc_P} {B : Nat → Nat} {N : Nat}
theorem bd_main (WT : ot_WT K V C Q B N) : ∀ (m i a : Nat) (p : oc_P), i < N → N ≤ i + m → bd_all K V C B m i a p := by
  intro m
  induction m with
  | zero => intro i a p h1 h2; omega
  | succ m ih =>
    intro i a p hi hm
    obtain ⟨ok, ch, b0, b1, b2⟩ := WT.2.2.2.2.2 i hi
    have IH : ∀ o, o < ot_np (K i) (V i) → bd_all K V C B m (C i o) (a + oc_ca K V C m i p o) ((i, o) :: p) ∧ 1 ≤ (B (C i o) - C i o) := by
      intro o ho
      obtain ⟨c1, c2, _⟩ := ch o ho
      have := (WT.2.2.2.2.2 _ c2).2.2.2.1
      exact ⟨ih (C i o) _ _ c2 (by omega), by omega⟩
    have SO : ∀ o, o < ot_np (K i) (V i) → ot_so (K (C i o)) = ot_wa (K i) (V i) o := fun o ho => (ch o ho).2.2.1
    -- frames of tokens that are neither TRY nor WHILE change nothing
    have CR : ∀ o, K i ≠ 17 → oc_cr K V ((i, o) :: p) = oc_cr K V p := by
      intro o h; simp only [oc_cr]
      rw [if_neg (by unfold oc_cln; intro e; exact h (of_decide_eq_true e).1), Nat.zero_add]
    have HW : ∀ o, (K i ≠ 13 ∨ o ≠ 1) → ¬ oc_hw K p → ¬ oc_hw K ((i, o) :: p) := by
      rintro o h1 h2 ⟨f, f1, f2, f3⟩
      rcases List.mem_cons.mp f1 with e | e
      · subst e; rcases h1 with h1 | h1
        · exact h1 f2
        · exact h1 f3
      · exact h2 ⟨f, e, f2, f3⟩
    have OWN : K i ≠ 17 → ∀ n s b q, oc_own (K i) (V i) n s b q = [] := by intro h n s b q; unfold oc_own; rw [if_neg (fun e => h e.1)]
    have LB : K i ≠ 12 → K i ≠ 13 → K i ≠ 17 → ∀ n, oc_lbt (K i) (V i) n = 0 := by
      intro h1 h2 h3 n
      unfold oc_lbt
      split
      · omega
      · omega
      · omega
      · rfl
    have WN : K i ≠ 17 → K i ≠ 21 → oc_wn K V C (m + 1) i p = oc_sm (fun o => oc_wn K V C m (C i o) ((i, o) :: p)) (ot_np (K i) (V i)) := by
      intro h1 h2; simp only [oc_wn]; rw [if_neg (fun e => h1 e.1), if_neg (fun e => h2 e.1)]; omega
    have ENL : K i ≠ 17 → (oc_en K V C (m + 1) i a p).length = oc_sm (fun o => (oc_en K V C m (C i o) (a + oc_ca K V C m i p o) ((i, o) :: p)).length) (ot_np (K i) (V i)) := by
      intro h; simp only [oc_en, oc_cc_len]
      exact oc_sm_cg (fun o => by rw [List.length_append, OWN h]; rfl) _
    have LN := oc_ln_s K V C m i p
    have CA0 := oc_ca_0 K V C m i p
    have CAS := fun o => oc_ca_s K V C m i p o
    have SZ0 : ot_np (K i) (V i) = 0 → B i - i = 1 := fun h => by have := b0 h; omega
    have SZ1 : ot_np (K i) (V i) = 1 → B i - i = 1 + (B (C i 0) - C i 0) := fun h => by
      obtain ⟨_, _, _, _, e1, _, e2⟩ := ch 0 (by omega)
      have := e1 rfl; have := e2 (by omega); have := (IH 0 (by omega)).2; omega
    have SZ2 : ot_np (K i) (V i) = 2 → B i - i = 1 + (B (C i 0) - C i 0) + (B (C i 1) - C i 1) := fun h => by
      obtain ⟨_, _, _, _, e1, e3, _⟩ := ch 0 (by omega)
      obtain ⟨_, _, _, _, _, _, e2⟩ := ch 1 (by omega)
      have := e1 rfl; have := e3 (by omega); have := e2 (by omega); have := (IH 0 (by omega)).2; have := (IH 1 (by omega)).2
      simp only [Nat.zero_add] at *; omega
    have SZ3 : ot_np (K i) (V i) = 3 → B i - i = 1 + (B (C i 0) - C i 0) + (B (C i 1) - C i 1) + (B (C i 2) - C i 2) := fun h => by
      obtain ⟨_, _, _, _, e1, e3, _⟩ := ch 0 (by omega)
      obtain ⟨_, _, _, _, _, e4, _⟩ := ch 1 (by omega)
      obtain ⟨_, _, _, _, _, _, e2⟩ := ch 2 (by omega)
      have := e1 rfl; have := e3 (by omega); have := e4 (by omega); have := e2 (by omega); have := (IH 0 (by omega)).2; have := (IH 1 (by omega)).2; have := (IH 2 (by omega)).2
      simp only [Nat.zero_add, Nat.reduceAdd] at *; omega
    have SZ4 : ot_np (K i) (V i) = 4 → B i - i = 1 + (B (C i 0) - C i 0) + (B (C i 1) - C i 1) + (B (C i 2) - C i 2) + (B (C i 3) - C i 3) := fun h => by
      obtain ⟨_, _, _, _, e1, e3, _⟩ := ch 0 (by omega)
      obtain ⟨_, _, _, _, _, e4, _⟩ := ch 1 (by omega)
      obtain ⟨_, _, _, _, _, e5, _⟩ := ch 2 (by omega)
      obtain ⟨_, _, _, _, _, _, e2⟩ := ch 3 (by omega)
      have := e1 rfl; have := e3 (by omega); have := e4 (by omega); have := e5 (by omega); have := e2 (by omega); have := (IH 0 (by omega)).2; have := (IH 1 (by omega)).2; have := (IH 2 (by omega)).2; have := (IH 3 (by omega)).2
      simp only [Nat.zero_add, Nat.reduceAdd] at *; omega
    have LN1 : ot_np (K i) (V i) = 1 → oc_ln K V C (m + 1) i p = oc_lbg (K i) + oc_ln K V C m (C i 0) ((i, 0) :: p) + oc_lbt (K i) (V i) 1 + oc_lfi (K i) (V i) (oc_cr K V p) (oc_cj K V (V i) p) := fun h => by rw [LN, h, CAS 0, CA0]
    have LN2 : ot_np (K i) (V i) = 2 → oc_ln K V C (m + 1) i p = oc_lbg (K i) + oc_ln K V C m (C i 0) ((i, 0) :: p) + oc_lbt (K i) (V i) 1 + oc_ln K V C m (C i 1) ((i, 1) :: p) + oc_lbt (K i) (V i) 2 + oc_lfi (K i) (V i) (oc_cr K V p) (oc_cj K V (V i) p) := fun h => by rw [LN, h, CAS 1, CAS 0, CA0]
    have LN3 : ot_np (K i) (V i) = 3 → oc_ln K V C (m + 1) i p = oc_lbg (K i) + oc_ln K V C m (C i 0) ((i, 0) :: p) + oc_lbt (K i) (V i) 1 + oc_ln K V C m (C i 1) ((i, 1) :: p) + oc_lbt (K i) (V i) 2 + oc_ln K V C m (C i 2) ((i, 2) :: p) + oc_lbt (K i) (V i) 3 + oc_lfi (K i) (V i) (oc_cr K V p) (oc_cj K V (V i) p) := fun h => by rw [LN, h, CAS 2, CAS 1, CAS 0, CA0]
    have LN4 : ot_np (K i) (V i) = 4 → oc_ln K V C (m + 1) i p = oc_lbg (K i) + oc_ln K V C m (C i 0) ((i, 0) :: p) + oc_lbt (K i) (V i) 1 + oc_ln K V C m (C i 1) ((i, 1) :: p) + oc_lbt (K i) (V i) 2 + oc_ln K V C m (C i 2) ((i, 2) :: p) + oc_lbt (K i) (V i) 3 + oc_ln K V C m (C i 3) ((i, 3) :: p) + oc_lbt (K i) (V i) 4 + oc_lfi (K i) (V i) (oc_cr K V p) (oc_cj K V (V i) p) := fun h => by rw [LN, h, CAS 3, CAS 2, CAS 1, CAS 0, CA0]
    have SM1 : ∀ g : Nat → Nat, oc_sm g 1 = g 0 := fun g => Nat.zero_add _
    have SM2 : ∀ g : Nat → Nat, oc_sm g 2 = g 0 + g 1 := fun g => by simp only [oc_sm]; omega
    have SM3 : ∀ g : Nat → Nat, oc_sm g 3 = g 0 + g 1 + g 2 := fun g => by simp only [oc_sm]; omega
    have SM4 : ∀ g : Nat → Nat, oc_sm g 4 = g 0 + g 1 + g 2 + g 3 := fun g => by simp only [oc_sm]; omega
    unfold bd_all
    rcases ot_kinds ok with k | k | k | k | k | k | k | k | k | k | k | k | k | k | k | k | k
    · have np : ot_np (K i) (V i) = 0 := by rw [k]; rfl
      have sz := SZ0 np
      have so : ot_so (K i) = 0 := by rw [k]; rfl
      have ln := LN; rw [np, CA0] at ln
      have g0 : oc_lbg (K i) = 0 := by rw [k]; rfl
      have gf : oc_lfi (K i) (V i) (oc_cr K V p) (oc_cj K V (V i) p) = 1 := by rw [k]; rfl
      have wn := WN (by omega) (by omega); rw [np] at wn; simp only [oc_sm] at wn
      have en := ENL (by omega); rw [np] at en; simp only [oc_sm] at en
      clear LN LN1 LN2 LN3 LN4 SZ0 SZ1 SZ2 SZ3 SZ4 SM1 SM2 SM3 SM4 CAS ENL WN
      refine ⟨fun _ => ⟨by omega, by omega, by omega⟩, fun h => by omega, fun h => by omega⟩
    · have np : ot_np (K i) (V i) = 0 := by rw [k]; rfl
      have sz := SZ0 np
      have so : ot_so (K i) = 0 := by rw [k]; rfl
      have ln := LN; rw [np, CA0] at ln
      have g0 : oc_lbg (K i) = 0 := by rw [k]; rfl
      have gf : oc_lfi (K i) (V i) (oc_cr K V p) (oc_cj K V (V i) p) = 1 := by rw [k]; rfl
      have wn := WN (by omega) (by omega); rw [np] at wn; simp only [oc_sm] at wn
      have en := ENL (by omega); rw [np] at en; simp only [oc_sm] at en
      clear LN LN1 LN2 LN3 LN4 SZ0 SZ1 SZ2 SZ3 SZ4 SM1 SM2 SM3 SM4 CAS ENL WN
      refine ⟨fun _ => ⟨by omega, by omega, by omega⟩, fun h => by omega, fun h => by omega⟩
    · have np : ot_np (K i) (V i) = 2 := by rcases k with k | k | k | k | k <;> rw [k] <;> rfl
      have sz := SZ2 np
      have so : ot_so (K i) = 0 := by rcases k with k | k | k | k | k <;> rw [k] <;> rfl
      have ln := LN2 np
      have g0 : oc_lbg (K i) = 0 := by rcases k with k | k | k | k | k <;> rw [k] <;> rfl
      have g1 : oc_lbt (K i) (V i) 1 = 0 := by rcases k with k | k | k | k | k <;> rw [k] <;> rfl
      have g2 : oc_lbt (K i) (V i) 2 = 0 := by rcases k with k | k | k | k | k <;> rw [k] <;> rfl
      have gf : oc_lfi (K i) (V i) (oc_cr K V p) (oc_cj K V (V i) p) = 1 := by rcases k with k | k | k | k | k <;> rw [k] <;> rfl
      have wn := WN (by omega) (by omega); rw [np] at wn; rw [SM2] at wn
      have en := ENL (by omega); rw [np] at en; rw [SM2] at en
      obtain ⟨⟨x0, y0, z0⟩, w0⟩ := IH 0 (by omega)
      have s0 : ot_so (K (C i 0)) = 0 := by rw [SO 0 (by omega)]; rcases k with k | k | k | k | k <;> rw [k] <;> rfl
      have h0 := x0 s0
      obtain ⟨⟨x1, y1, z1⟩, w1⟩ := IH 1 (by omega)
      have s1 : ot_so (K (C i 1)) = 0 := by rw [SO 1 (by omega)]; rcases k with k | k | k | k | k <;> rw [k] <;> rfl
      have h1 := x1 s1
      clear LN LN1 LN2 LN3 LN4 SZ0 SZ1 SZ2 SZ3 SZ4 SM1 SM2 SM3 SM4 CAS ENL WN
      refine ⟨fun _ => ⟨by omega, by omega, by omega⟩, fun h => by omega, fun h => by omega⟩
    · have np : ot_np (K i) (V i) = 1 := by rw [k]; rfl
      have sz := SZ1 np
      have so : ot_so (K i) = 0 := by rw [k]; rfl
      have ln := LN1 np
      have g0 : oc_lbg (K i) = 0 := by rw [k]; rfl
      have g1 : oc_lbt (K i) (V i) 1 = 0 := by rw [k]; rfl
      have gf : oc_lfi (K i) (V i) (oc_cr K V p) (oc_cj K V (V i) p) = 1 := by rw [k]; rfl
      have wn := WN (by omega) (by omega); rw [np] at wn; rw [SM1] at wn
      have en := ENL (by omega); rw [np] at en; rw [SM1] at en
      obtain ⟨⟨x0, y0, z0⟩, w0⟩ := IH 0 (by omega)
      have s0 : ot_so (K (C i 0)) = 0 := by rw [SO 0 (by omega)]; rw [k]; rfl
      have h0 := x0 s0
      clear LN LN1 LN2 LN3 LN4 SZ0 SZ1 SZ2 SZ3 SZ4 SM1 SM2 SM3 SM4 CAS ENL WN
      refine ⟨fun _ => ⟨by omega, by omega, by omega⟩, fun h => by omega, fun h => by omega⟩
    · have np : ot_np (K i) (V i) = 1 := by rw [k]; rfl
      have sz := SZ1 np
      have so : ot_so (K i) = 0 := by rw [k]; rfl
      have ln := LN1 np
      have g0 : oc_lbg (K i) = 0 := by rw [k]; rfl
      have g1 : oc_lbt (K i) (V i) 1 = 0 := by rw [k]; rfl
      have gf : oc_lfi (K i) (V i) (oc_cr K V p) (oc_cj K V (V i) p) = 1 := by rw [k]; rfl
      have wn := WN (by omega) (by omega); rw [np] at wn; rw [SM1] at wn
      have en := ENL (by omega); rw [np] at en; rw [SM1] at en
      obtain ⟨⟨x0, y0, z0⟩, w0⟩ := IH 0 (by omega)
      have s0 : ot_so (K (C i 0)) = 0 := by rw [SO 0 (by omega)]; rw [k]; rfl
      have h0 := x0 s0
      clear LN LN1 LN2 LN3 LN4 SZ0 SZ1 SZ2 SZ3 SZ4 SM1 SM2 SM3 SM4 CAS ENL WN
      refine ⟨fun _ => ⟨by omega, by omega, by omega⟩, fun h => by omega, fun h => by omega⟩
    · have np : ot_np (K i) (V i) = 1 := by rw [k]; rfl
      have sz := SZ1 np
      have so : ot_so (K i) = 1 := by rw [k]; rfl
      have ln := LN1 np
      have g0 : oc_lbg (K i) = 0 := by rw [k]; rfl
      have g1 : oc_lbt (K i) (V i) 1 = 0 := by rw [k]; rfl
      have gf : oc_lfi (K i) (V i) (oc_cr K V p) (oc_cj K V (V i) p) = 1 := by rw [k]; rfl
      have wn := WN (by omega) (by omega); rw [np] at wn; rw [SM1] at wn
      have en := ENL (by omega); rw [np] at en; rw [SM1] at en
      obtain ⟨⟨x0, y0, z0⟩, w0⟩ := IH 0 (by omega)
      have s0 : ot_so (K (C i 0)) = 0 := by rw [SO 0 (by omega)]; rw [k]; rfl
      have h0 := x0 s0
      clear LN LN1 LN2 LN3 LN4 SZ0 SZ1 SZ2 SZ3 SZ4 SM1 SM2 SM3 SM4 CAS ENL WN
      refine ⟨fun h => by omega, fun _ => ?_, fun h => by omega⟩
      have q := bd_e1 (c := oc_cr K V p) w0 (show oc_ln K V C (m + 1) i p ≤ _ by omega)
      rw [sz]
      exact ⟨q.1, fun _ => q.2, by omega, by omega⟩
    · have np : ot_np (K i) (V i) = 1 := by rw [k]; rfl
      have sz := SZ1 np
      have so : ot_so (K i) = 1 := by rw [k]; rfl
      have ln := LN1 np
      have g0 : oc_lbg (K i) = 0 := by rw [k]; rfl
      have g1 : oc_lbt (K i) (V i) 1 = 0 := by rw [k]; rfl
      have gf : oc_lfi (K i) (V i) (oc_cr K V p) (oc_cj K V (V i) p) = 1 := by rw [k]; rfl
      have wn := WN (by omega) (by omega); rw [np] at wn; rw [SM1] at wn
      have en := ENL (by omega); rw [np] at en; rw [SM1] at en
      obtain ⟨⟨x0, y0, z0⟩, w0⟩ := IH 0 (by omega)
      have s0 : ot_so (K (C i 0)) = 0 := by rw [SO 0 (by omega)]; rw [k]; rfl
      have h0 := x0 s0
      clear LN LN1 LN2 LN3 LN4 SZ0 SZ1 SZ2 SZ3 SZ4 SM1 SM2 SM3 SM4 CAS ENL WN
      refine ⟨fun h => by omega, fun _ => ?_, fun h => by omega⟩
      have q := bd_e1 (c := oc_cr K V p) w0 (show oc_ln K V C (m + 1) i p ≤ _ by omega)
      rw [sz]
      exact ⟨q.1, fun _ => q.2, by omega, by omega⟩
    · have np : ot_np (K i) (V i) = 3 := by rw [k]; rfl
      have sz := SZ3 np
      have so : ot_so (K i) = 1 := by rw [k]; rfl
      have ln := LN3 np
      have g0 : oc_lbg (K i) = 0 := by rw [k]; rfl
      have g1 : oc_lbt (K i) (V i) 1 = 1 := by rw [k]; rfl
      have g2 : oc_lbt (K i) (V i) 2 = 1 := by rw [k]; rfl
      have g3 : oc_lbt (K i) (V i) 3 = 0 := by rw [k]; rfl
      have gf : oc_lfi (K i) (V i) (oc_cr K V p) (oc_cj K V (V i) p) = 0 := by rw [k]; rfl
      have wn := WN (by omega) (by omega); rw [np] at wn; rw [SM3] at wn
      have en := ENL (by omega); rw [np] at en; rw [SM3] at en
      obtain ⟨⟨x0, y0, z0⟩, w0⟩ := IH 0 (by omega)
      have s0 : ot_so (K (C i 0)) = 0 := by rw [SO 0 (by omega)]; rw [k]; rfl
      have h0 := x0 s0
      obtain ⟨⟨x1, y1, z1⟩, w1⟩ := IH 1 (by omega)
      have s1 : ot_so (K (C i 1)) = 1 := by rw [SO 1 (by omega)]; rw [k]; rfl
      have h1 := y1 s1
      obtain ⟨⟨x2, y2, z2⟩, w2⟩ := IH 2 (by omega)
      have s2 : ot_so (K (C i 2)) = 1 := by rw [SO 2 (by omega)]; rw [k]; rfl
      have h2 := y2 s2
      clear LN LN1 LN2 LN3 LN4 SZ0 SZ1 SZ2 SZ3 SZ4 SM1 SM2 SM3 SM4 CAS ENL WN
      refine ⟨fun h => by omega, fun _ => ?_, fun h => by omega⟩
      rw [CR 1 (by omega)] at h1
      rw [CR 2 (by omega)] at h2
      have q := bd_if (c := oc_cr K V p) w0 w1 w2 (show oc_ln K V C (m + 1) i p ≤ (B (C i 0) - C i 0) + 2 + oc_ln K V C m (C i 1) ((i, 1) :: p) + oc_ln K V C m (C i 2) ((i, 2) :: p) by omega)
      rw [sz]
      exact ⟨q.1 h1.1 h2.1, fun w => q.2 (h1.2.1 (HW 1 (by omega) w)) (h2.2.1 (HW 2 (by omega) w)), by omega, by omega⟩
    · have np : ot_np (K i) (V i) = 2 := by rw [k]; rfl
      have sz := SZ2 np
      have so : ot_so (K i) = 1 := by rw [k]; rfl
      have ln := LN2 np
      have g0 : oc_lbg (K i) = 1 := by rw [k]; rfl
      have g1 : oc_lbt (K i) (V i) 1 = 1 := by rw [k]; rfl
      have g2 : oc_lbt (K i) (V i) 2 = 0 := by rw [k]; rfl
      have gf : oc_lfi (K i) (V i) (oc_cr K V p) (oc_cj K V (V i) p) = 1 := by rw [k]; rfl
      have wn := WN (by omega) (by omega); rw [np] at wn; rw [SM2] at wn
      have en := ENL (by omega); rw [np] at en; rw [SM2] at en
      obtain ⟨⟨x0, y0, z0⟩, w0⟩ := IH 0 (by omega)
      have s0 : ot_so (K (C i 0)) = 0 := by rw [SO 0 (by omega)]; rw [k]; rfl
      have h0 := x0 s0
      obtain ⟨⟨x1, y1, z1⟩, w1⟩ := IH 1 (by omega)
      have s1 : ot_so (K (C i 1)) = 1 := by rw [SO 1 (by omega)]; rw [k]; rfl
      have h1 := y1 s1
      clear LN LN1 LN2 LN3 LN4 SZ0 SZ1 SZ2 SZ3 SZ4 SM1 SM2 SM3 SM4 CAS ENL WN
      refine ⟨fun h => by omega, fun _ => ?_, fun h => by omega⟩
      rw [CR 1 (by omega)] at h1
      have q := bd_wh (c := oc_cr K V p) w0 w1 (show oc_ln K V C (m + 1) i p ≤ (B (C i 0) - C i 0) + 3 + oc_ln K V C m (C i 1) ((i, 1) :: p) by omega) h1.1
      rw [sz]
      exact ⟨q.1, fun _ => q.2, by omega, by omega⟩
    · have np : ot_np (K i) (V i) = 2 := by rw [k]; rfl
      have sz := SZ2 np
      have so : ot_so (K i) = 1 := by rw [k]; rfl
      have ln := LN2 np
      have g0 : oc_lbg (K i) = 0 := by rw [k]; rfl
      have g1 : oc_lbt (K i) (V i) 1 = 0 := by rw [k]; rfl
      have g2 : oc_lbt (K i) (V i) 2 = 0 := by rw [k]; rfl
      have gf : oc_lfi (K i) (V i) (oc_cr K V p) (oc_cj K V (V i) p) = 0 := by rw [k]; rfl
      have wn := WN (by omega) (by omega); rw [np] at wn; rw [SM2] at wn
      have en := ENL (by omega); rw [np] at en; rw [SM2] at en
      obtain ⟨⟨x0, y0, z0⟩, w0⟩ := IH 0 (by omega)
      have s0 : ot_so (K (C i 0)) = 1 := by rw [SO 0 (by omega)]; rw [k]; rfl
      have h0 := y0 s0
      obtain ⟨⟨x1, y1, z1⟩, w1⟩ := IH 1 (by omega)
      have s1 : ot_so (K (C i 1)) = 1 := by rw [SO 1 (by omega)]; rw [k]; rfl
      have h1 := y1 s1
      clear LN LN1 LN2 LN3 LN4 SZ0 SZ1 SZ2 SZ3 SZ4 SM1 SM2 SM3 SM4 CAS ENL WN
      refine ⟨fun h => by omega, fun _ => ?_, fun h => by omega⟩
      rw [CR 0 (by omega)] at h0
      rw [CR 1 (by omega)] at h1
      have q := bd_sq (c := oc_cr K V p) w0 w1 (show oc_ln K V C (m + 1) i p ≤ oc_ln K V C m (C i 0) ((i, 0) :: p) + oc_ln K V C m (C i 1) ((i, 1) :: p) by omega)
      rw [sz]
      exact ⟨q.1 h0.1 h1.1, fun w => q.2 (h0.2.1 (HW 0 (by omega) w)) (h1.2.1 (HW 1 (by omega) w)), by omega, by omega⟩
    · have np : ot_np (K i) (V i) = 0 := by rw [k]; rfl
      have sz := SZ0 np
      have so : ot_so (K i) = 1 := by rw [k]; rfl
      have ln := LN; rw [np, CA0] at ln
      have g0 : oc_lbg (K i) = 0 := by rw [k]; rfl
      have gf : oc_lfi (K i) (V i) (oc_cr K V p) (oc_cj K V (V i) p) = 0 := by rw [k]; rfl
      have wn := WN (by omega) (by omega); rw [np] at wn; simp only [oc_sm] at wn
      have en := ENL (by omega); rw [np] at en; simp only [oc_sm] at en
      clear LN LN1 LN2 LN3 LN4 SZ0 SZ1 SZ2 SZ3 SZ4 SM1 SM2 SM3 SM4 CAS ENL WN
      refine ⟨fun h => by omega, fun _ => ?_, fun h => by omega⟩
      rw [sz]; unfold bd_U bd_Z
      exact ⟨by omega, fun _ => ⟨fun _ => by omega, fun h => by omega⟩, by omega, by omega⟩
    · have np : ot_np (K i) (V i) = 1 := by rw [k]; rfl
      have sz := SZ1 np
      have so : ot_so (K i) = 1 := by rw [k]; rfl
      have ln := LN1 np
      have g0 : oc_lbg (K i) = 0 := by rw [k]; rfl
      have g1 : oc_lbt (K i) (V i) 1 = 0 := by rw [k]; rfl
      have gf : oc_lfi (K i) (V i) (oc_cr K V p) (oc_cj K V (V i) p) = 1 := by rw [k]; rfl
      have wn := WN (by omega) (by omega); rw [np] at wn; rw [SM1] at wn
      have en := ENL (by omega); rw [np] at en; rw [SM1] at en
      obtain ⟨⟨x0, y0, z0⟩, w0⟩ := IH 0 (by omega)
      have s0 : ot_so (K (C i 0)) = 0 := by rw [SO 0 (by omega)]; rw [k]; rfl
      have h0 := x0 s0
      clear LN LN1 LN2 LN3 LN4 SZ0 SZ1 SZ2 SZ3 SZ4 SM1 SM2 SM3 SM4 CAS ENL WN
      refine ⟨fun h => by omega, fun _ => ?_, fun h => by omega⟩
      have q := bd_e1 (c := oc_cr K V p) w0 (show oc_ln K V C (m + 1) i p ≤ _ by omega)
      rw [sz]
      exact ⟨q.1, fun _ => q.2, by omega, by omega⟩
    · rcases ok.2.2.2.2.1 k with hv | hv | hv | hv | hv
      · have np : ot_np (K i) (V i) = 2 := by first | (rw [k, hv]; rfl) | (rw [k]; rfl)
        have sz := SZ2 np
        have so : ot_so (K i) = 1 := by first | (rw [k, hv]; rfl) | (rw [k]; rfl)
        have ln := LN2 np
        have g0 : oc_lbg (K i) = 0 := by first | (rw [k, hv]; rfl) | (rw [k]; rfl)
        have g1 : oc_lbt (K i) (V i) 1 = 1 := by first | (rw [k, hv]; rfl) | (rw [k]; rfl)
        have g2 : oc_lbt (K i) (V i) 2 = 2 := by first | (rw [k, hv]; rfl) | (rw [k]; rfl)
        have gf : oc_lfi (K i) (V i) (oc_cr K V p) (oc_cj K V (V i) p) = 0 := by first | (rw [k, hv]; rfl) | (rw [k]; rfl)
        have wn : oc_wn K V C (m + 1) i p ≤ oc_wn K V C m (C i 0) ((i, 0) :: p) + oc_wn K V C m (C i 1) ((i, 1) :: p) := by simp only [oc_wn]; rw [np, SM2, if_neg (c := K i = 21 ∧ _) (fun e => by omega), if_neg (c := K i = 17 ∧ _) (fun e => by rw [hv] at e; exact absurd e.2 (by decide))]; omega
        have ow0 : ∀ s b q, (oc_own (K i) (V i) 1 s b q).length = 0 := by intro s b q; first | (rw [k, hv]; rfl) | (rw [k]; rfl)
        have ow1 : ∀ s b q, (oc_own (K i) (V i) 2 s b q).length = 1 := by intro s b q; first | (rw [k, hv]; rfl) | (rw [k]; rfl)
        have en : (oc_en K V C (m + 1) i a p).length = (oc_en K V C m (C i 0) (a + oc_ca K V C m i p 0) ((i, 0) :: p)).length + (oc_en K V C m (C i 1) (a + oc_ca K V C m i p 1) ((i, 1) :: p)).length + 1 := by simp only [oc_en, oc_cc_len]; rw [np, SM2]; simp only [List.length_append, Nat.zero_add, Nat.reduceAdd, ow0, ow1]; omega
        obtain ⟨⟨x0, y0, z0⟩, w0⟩ := IH 0 (by omega)
        have s0 : ot_so (K (C i 0)) = 1 := by rw [SO 0 (by omega)]; first | (rw [k, hv]; rfl) | (rw [k]; rfl)
        have h0 := y0 s0
        have c0 : oc_cr K V ((i, 0) :: p) = 0 + oc_cr K V p := by simp only [oc_cr]; rw [show oc_cln K V i 0 = false from by unfold oc_cln; rw [k, hv]; rfl]; rfl
        rw [Nat.zero_add] at c0
        rw [c0] at h0
        obtain ⟨⟨x1, y1, z1⟩, w1⟩ := IH 1 (by omega)
        have s1 : ot_so (K (C i 1)) = 2 := by rw [SO 1 (by omega)]; first | (rw [k, hv]; rfl) | (rw [k]; rfl)
        have h1 := z1 s1
        have c1 : oc_cr K V ((i, 1) :: p) = 0 + oc_cr K V p := by simp only [oc_cr]; rw [show oc_cln K V i 1 = false from by unfold oc_cln; rw [k, hv]; rfl]; rfl
        rw [Nat.zero_add] at c1
        rw [c1] at h1
        clear LN LN1 LN2 LN3 LN4 SZ0 SZ1 SZ2 SZ3 SZ4 SM1 SM2 SM3 SM4 CAS ENL WN
        refine ⟨fun h => by omega, fun _ => ?_, fun h => by omega⟩
        have q := bd_t1 (c := oc_cr K V p) w0 (show 2 ≤ (B (C i 1) - C i 1) by omega) (show oc_ln K V C (m + 1) i p ≤ oc_ln K V C m (C i 0) ((i, 0) :: p) + oc_ln K V C m (C i 1) ((i, 1) :: p) + 3 by omega)
        rw [sz]
        exact ⟨q.1 h0.1 h1.1, fun w => q.2 (h0.2.1 (HW 0 (by omega) w)) (h1.2.1 (HW 1 (by omega) w)), by omega, by omega⟩
      · have np : ot_np (K i) (V i) = 3 := by first | (rw [k, hv]; rfl) | (rw [k]; rfl)
        have sz := SZ3 np
        have so : ot_so (K i) = 1 := by first | (rw [k, hv]; rfl) | (rw [k]; rfl)
        have ln := LN3 np
        have g0 : oc_lbg (K i) = 0 := by first | (rw [k, hv]; rfl) | (rw [k]; rfl)
        have g1 : oc_lbt (K i) (V i) 1 = 1 := by first | (rw [k, hv]; rfl) | (rw [k]; rfl)
        have g2 : oc_lbt (K i) (V i) 2 = 1 := by first | (rw [k, hv]; rfl) | (rw [k]; rfl)
        have g3 : oc_lbt (K i) (V i) 3 = 2 := by first | (rw [k, hv]; rfl) | (rw [k]; rfl)
        have gf : oc_lfi (K i) (V i) (oc_cr K V p) (oc_cj K V (V i) p) = 0 := by first | (rw [k, hv]; rfl) | (rw [k]; rfl)
        have wn : oc_wn K V C (m + 1) i p ≤ oc_wn K V C m (C i 0) ((i, 0) :: p) + oc_wn K V C m (C i 1) ((i, 1) :: p) + oc_wn K V C m (C i 2) ((i, 2) :: p) := by simp only [oc_wn]; rw [np, SM3, if_neg (c := K i = 21 ∧ _) (fun e => by omega), if_neg (c := K i = 17 ∧ _) (fun e => by rw [hv] at e; exact absurd e.2 (by decide))]; omega
        have ow0 : ∀ s b q, (oc_own (K i) (V i) 1 s b q).length = 0 := by intro s b q; first | (rw [k, hv]; rfl) | (rw [k]; rfl)
        have ow1 : ∀ s b q, (oc_own (K i) (V i) 2 s b q).length = 0 := by intro s b q; first | (rw [k, hv]; rfl) | (rw [k]; rfl)
        have ow2 : ∀ s b q, (oc_own (K i) (V i) 3 s b q).length = 1 := by intro s b q; first | (rw [k, hv]; rfl) | (rw [k]; rfl)
        have en : (oc_en K V C (m + 1) i a p).length = (oc_en K V C m (C i 0) (a + oc_ca K V C m i p 0) ((i, 0) :: p)).length + (oc_en K V C m (C i 1) (a + oc_ca K V C m i p 1) ((i, 1) :: p)).length + (oc_en K V C m (C i 2) (a + oc_ca K V C m i p 2) ((i, 2) :: p)).length + 1 := by simp only [oc_en, oc_cc_len]; rw [np, SM3]; simp only [List.length_append, Nat.zero_add, Nat.reduceAdd, ow0, ow1, ow2]; omega
        obtain ⟨⟨x0, y0, z0⟩, w0⟩ := IH 0 (by omega)
        have s0 : ot_so (K (C i 0)) = 1 := by rw [SO 0 (by omega)]; first | (rw [k, hv]; rfl) | (rw [k]; rfl)
        have h0 := y0 s0
        have c0 : oc_cr K V ((i, 0) :: p) = 0 + oc_cr K V p := by simp only [oc_cr]; rw [show oc_cln K V i 0 = false from by unfold oc_cln; rw [k, hv]; rfl]; rfl
        rw [Nat.zero_add] at c0
        rw [c0] at h0
        obtain ⟨⟨x1, y1, z1⟩, w1⟩ := IH 1 (by omega)
        have s1 : ot_so (K (C i 1)) = 2 := by rw [SO 1 (by omega)]; first | (rw [k, hv]; rfl) | (rw [k]; rfl)
        have h1 := z1 s1
        have c1 : oc_cr K V ((i, 1) :: p) = 0 + oc_cr K V p := by simp only [oc_cr]; rw [show oc_cln K V i 1 = false from by unfold oc_cln; rw [k, hv]; rfl]; rfl
        rw [Nat.zero_add] at c1
        rw [c1] at h1
        obtain ⟨⟨x2, y2, z2⟩, w2⟩ := IH 2 (by omega)
        have s2 : ot_so (K (C i 2)) = 2 := by rw [SO 2 (by omega)]; first | (rw [k, hv]; rfl) | (rw [k]; rfl)
        have h2 := z2 s2
        have c2 : oc_cr K V ((i, 2) :: p) = 0 + oc_cr K V p := by simp only [oc_cr]; rw [show oc_cln K V i 2 = false from by unfold oc_cln; rw [k, hv]; rfl]; rfl
        rw [Nat.zero_add] at c2
        rw [c2] at h2
        clear LN LN1 LN2 LN3 LN4 SZ0 SZ1 SZ2 SZ3 SZ4 SM1 SM2 SM3 SM4 CAS ENL WN
        refine ⟨fun h => by omega, fun _ => ?_, fun h => by omega⟩
        have q := bd_t2 (c := oc_cr K V p) w0 (show 2 ≤ (B (C i 1) - C i 1) by omega) (show 2 ≤ (B (C i 2) - C i 2) by omega) (show oc_ln K V C (m + 1) i p ≤ oc_ln K V C m (C i 0) ((i, 0) :: p) + oc_ln K V C m (C i 1) ((i, 1) :: p) + oc_ln K V C m (C i 2) ((i, 2) :: p) + 4 by omega)
        rw [sz]
        exact ⟨q.1 h0.1 h1.1 h2.1, fun w => q.2 (h0.2.1 (HW 0 (by omega) w)) (h1.2.1 (HW 1 (by omega) w)) (h2.2.1 (HW 2 (by omega) w)), by omega, by omega⟩
      · have np : ot_np (K i) (V i) = 2 := by first | (rw [k, hv]; rfl) | (rw [k]; rfl)
        have sz := SZ2 np
        have so : ot_so (K i) = 1 := by first | (rw [k, hv]; rfl) | (rw [k]; rfl)
        have ln := LN2 np
        have g0 : oc_lbg (K i) = 0 := by first | (rw [k, hv]; rfl) | (rw [k]; rfl)
        have g1 : oc_lbt (K i) (V i) 1 = 6 := by first | (rw [k, hv]; rfl) | (rw [k]; rfl)
        have g2 : oc_lbt (K i) (V i) 2 = 0 := by first | (rw [k, hv]; rfl) | (rw [k]; rfl)
        have gf : oc_lfi (K i) (V i) (oc_cr K V p) (oc_cj K V (V i) p) = 1 := by first | (rw [k, hv]; rfl) | (rw [k]; rfl)
        have wn : oc_wn K V C (m + 1) i p ≤ 3 + (oc_wn K V C m (C i 0) ((i, 0) :: p) + oc_wn K V C m (C i 1) ((i, 1) :: p)) := by simp only [oc_wn]; rw [np, SM2, if_neg (c := K i = 21 ∧ _) (fun e => by omega)]; split <;> omega
        have ow0 : ∀ s b q, (oc_own (K i) (V i) 1 s b q).length = 1 := by intro s b q; first | (rw [k, hv]; rfl) | (rw [k]; rfl)
        have ow1 : ∀ s b q, (oc_own (K i) (V i) 2 s b q).length = 0 := by intro s b q; first | (rw [k, hv]; rfl) | (rw [k]; rfl)
        have en : (oc_en K V C (m + 1) i a p).length = (oc_en K V C m (C i 0) (a + oc_ca K V C m i p 0) ((i, 0) :: p)).length + (oc_en K V C m (C i 1) (a + oc_ca K V C m i p 1) ((i, 1) :: p)).length + 1 := by simp only [oc_en, oc_cc_len]; rw [np, SM2]; simp only [List.length_append, Nat.zero_add, Nat.reduceAdd, ow0, ow1]; omega
        obtain ⟨⟨x0, y0, z0⟩, w0⟩ := IH 0 (by omega)
        have s0 : ot_so (K (C i 0)) = 1 := by rw [SO 0 (by omega)]; first | (rw [k, hv]; rfl) | (rw [k]; rfl)
        have h0 := y0 s0
        have c0 : oc_cr K V ((i, 0) :: p) = 1 + oc_cr K V p := by simp only [oc_cr]; rw [show oc_cln K V i 0 = true from by unfold oc_cln; rw [k, hv]; rfl]; rfl
        rw [c0] at h0
        obtain ⟨⟨x1, y1, z1⟩, w1⟩ := IH 1 (by omega)
        have s1 : ot_so (K (C i 1)) = 1 := by rw [SO 1 (by omega)]; first | (rw [k, hv]; rfl) | (rw [k]; rfl)
        have h1 := y1 s1
        have c1 : oc_cr K V ((i, 1) :: p) = 0 + oc_cr K V p := by simp only [oc_cr]; rw [show oc_cln K V i 1 = false from by unfold oc_cln; rw [k, hv]; rfl]; rfl
        rw [Nat.zero_add] at c1
        rw [c1] at h1
        clear LN LN1 LN2 LN3 LN4 SZ0 SZ1 SZ2 SZ3 SZ4 SM1 SM2 SM3 SM4 CAS ENL WN
        refine ⟨fun h => by omega, fun _ => ?_, fun h => by omega⟩
        have q := bd_t4 (c := oc_cr K V p) w0 w1 (show oc_ln K V C (m + 1) i p ≤ oc_ln K V C m (C i 0) ((i, 0) :: p) + oc_ln K V C m (C i 1) ((i, 1) :: p) + 7 by omega)
        rw [sz]
        exact ⟨q.1 h0.1 h1.1, fun w => q.2 (h0.2.1 (HW 0 (by omega) w)) (h1.2.1 (HW 1 (by omega) w)), by omega, by omega⟩
      · have np : ot_np (K i) (V i) = 3 := by first | (rw [k, hv]; rfl) | (rw [k]; rfl)
        have sz := SZ3 np
        have so : ot_so (K i) = 1 := by first | (rw [k, hv]; rfl) | (rw [k]; rfl)
        have ln := LN3 np
        have g0 : oc_lbg (K i) = 0 := by first | (rw [k, hv]; rfl) | (rw [k]; rfl)
        have g1 : oc_lbt (K i) (V i) 1 = 2 := by first | (rw [k, hv]; rfl) | (rw [k]; rfl)
        have g2 : oc_lbt (K i) (V i) 2 = 7 := by first | (rw [k, hv]; rfl) | (rw [k]; rfl)
        have g3 : oc_lbt (K i) (V i) 3 = 0 := by first | (rw [k, hv]; rfl) | (rw [k]; rfl)
        have gf : oc_lfi (K i) (V i) (oc_cr K V p) (oc_cj K V (V i) p) = 1 := by first | (rw [k, hv]; rfl) | (rw [k]; rfl)
        have wn : oc_wn K V C (m + 1) i p ≤ 3 + (oc_wn K V C m (C i 0) ((i, 0) :: p) + oc_wn K V C m (C i 1) ((i, 1) :: p) + oc_wn K V C m (C i 2) ((i, 2) :: p)) := by simp only [oc_wn]; rw [np, SM3, if_neg (c := K i = 21 ∧ _) (fun e => by omega)]; split <;> omega
        have ow0 : ∀ s b q, (oc_own (K i) (V i) 1 s b q).length = 0 := by intro s b q; first | (rw [k, hv]; rfl) | (rw [k]; rfl)
        have ow1 : ∀ s b q, (oc_own (K i) (V i) 2 s b q).length = 2 := by intro s b q; first | (rw [k, hv]; rfl) | (rw [k]; rfl)
        have ow2 : ∀ s b q, (oc_own (K i) (V i) 3 s b q).length = 0 := by intro s b q; first | (rw [k, hv]; rfl) | (rw [k]; rfl)
        have en : (oc_en K V C (m + 1) i a p).length = (oc_en K V C m (C i 0) (a + oc_ca K V C m i p 0) ((i, 0) :: p)).length + (oc_en K V C m (C i 1) (a + oc_ca K V C m i p 1) ((i, 1) :: p)).length + (oc_en K V C m (C i 2) (a + oc_ca K V C m i p 2) ((i, 2) :: p)).length + 2 := by simp only [oc_en, oc_cc_len]; rw [np, SM3]; simp only [List.length_append, Nat.zero_add, Nat.reduceAdd, ow0, ow1, ow2]; omega
        obtain ⟨⟨x0, y0, z0⟩, w0⟩ := IH 0 (by omega)
        have s0 : ot_so (K (C i 0)) = 1 := by rw [SO 0 (by omega)]; first | (rw [k, hv]; rfl) | (rw [k]; rfl)
        have h0 := y0 s0
        have c0 : oc_cr K V ((i, 0) :: p) = 1 + oc_cr K V p := by simp only [oc_cr]; rw [show oc_cln K V i 0 = true from by unfold oc_cln; rw [k, hv]; rfl]; rfl
        rw [c0] at h0
        obtain ⟨⟨x1, y1, z1⟩, w1⟩ := IH 1 (by omega)
        have s1 : ot_so (K (C i 1)) = 2 := by rw [SO 1 (by omega)]; first | (rw [k, hv]; rfl) | (rw [k]; rfl)
        have h1 := z1 s1
        have c1 : oc_cr K V ((i, 1) :: p) = 1 + oc_cr K V p := by simp only [oc_cr]; rw [show oc_cln K V i 1 = true from by unfold oc_cln; rw [k, hv]; rfl]; rfl
        rw [c1] at h1
        obtain ⟨⟨x2, y2, z2⟩, w2⟩ := IH 2 (by omega)
        have s2 : ot_so (K (C i 2)) = 1 := by rw [SO 2 (by omega)]; first | (rw [k, hv]; rfl) | (rw [k]; rfl)
        have h2 := y2 s2
        have c2 : oc_cr K V ((i, 2) :: p) = 0 + oc_cr K V p := by simp only [oc_cr]; rw [show oc_cln K V i 2 = false from by unfold oc_cln; rw [k, hv]; rfl]; rfl
        rw [Nat.zero_add] at c2
        rw [c2] at h2
        clear LN LN1 LN2 LN3 LN4 SZ0 SZ1 SZ2 SZ3 SZ4 SM1 SM2 SM3 SM4 CAS ENL WN
        refine ⟨fun h => by omega, fun _ => ?_, fun h => by omega⟩
        have q := bd_t5 (c := oc_cr K V p) w0 (show 2 ≤ (B (C i 1) - C i 1) by omega) w2 (show oc_ln K V C (m + 1) i p ≤ oc_ln K V C m (C i 0) ((i, 0) :: p) + oc_ln K V C m (C i 1) ((i, 1) :: p) + oc_ln K V C m (C i 2) ((i, 2) :: p) + 10 by omega)
        rw [sz]
        exact ⟨q.1 h0.1 h1.1 h2.1, fun w => q.2 (h0.2.1 (HW 0 (by omega) w)) (h1.2.1 (HW 1 (by omega) w)) (h2.2.1 (HW 2 (by omega) w)), by omega, by omega⟩
      · have np : ot_np (K i) (V i) = 4 := by first | (rw [k, hv]; rfl) | (rw [k]; rfl)
        have sz := SZ4 np
        have so : ot_so (K i) = 1 := by first | (rw [k, hv]; rfl) | (rw [k]; rfl)
        have ln := LN4 np
        have g0 : oc_lbg (K i) = 0 := by first | (rw [k, hv]; rfl) | (rw [k]; rfl)
        have g1 : oc_lbt (K i) (V i) 1 = 2 := by first | (rw [k, hv]; rfl) | (rw [k]; rfl)
        have g2 : oc_lbt (K i) (V i) 2 = 2 := by first | (rw [k, hv]; rfl) | (rw [k]; rfl)
        have g3 : oc_lbt (K i) (V i) 3 = 7 := by first | (rw [k, hv]; rfl) | (rw [k]; rfl)
        have g4 : oc_lbt (K i) (V i) 4 = 0 := by first | (rw [k, hv]; rfl) | (rw [k]; rfl)
        have gf : oc_lfi (K i) (V i) (oc_cr K V p) (oc_cj K V (V i) p) = 1 := by first | (rw [k, hv]; rfl) | (rw [k]; rfl)
        have wn : oc_wn K V C (m + 1) i p ≤ 3 + (oc_wn K V C m (C i 0) ((i, 0) :: p) + oc_wn K V C m (C i 1) ((i, 1) :: p) + oc_wn K V C m (C i 2) ((i, 2) :: p) + oc_wn K V C m (C i 3) ((i, 3) :: p)) := by simp only [oc_wn]; rw [np, SM4, if_neg (c := K i = 21 ∧ _) (fun e => by omega)]; split <;> omega
        have ow0 : ∀ s b q, (oc_own (K i) (V i) 1 s b q).length = 0 := by intro s b q; first | (rw [k, hv]; rfl) | (rw [k]; rfl)
        have ow1 : ∀ s b q, (oc_own (K i) (V i) 2 s b q).length = 0 := by intro s b q; first | (rw [k, hv]; rfl) | (rw [k]; rfl)
        have ow2 : ∀ s b q, (oc_own (K i) (V i) 3 s b q).length = 2 := by intro s b q; first | (rw [k, hv]; rfl) | (rw [k]; rfl)
        have ow3 : ∀ s b q, (oc_own (K i) (V i) 4 s b q).length = 0 := by intro s b q; first | (rw [k, hv]; rfl) | (rw [k]; rfl)
        have en : (oc_en K V C (m + 1) i a p).length = (oc_en K V C m (C i 0) (a + oc_ca K V C m i p 0) ((i, 0) :: p)).length + (oc_en K V C m (C i 1) (a + oc_ca K V C m i p 1) ((i, 1) :: p)).length + (oc_en K V C m (C i 2) (a + oc_ca K V C m i p 2) ((i, 2) :: p)).length + (oc_en K V C m (C i 3) (a + oc_ca K V C m i p 3) ((i, 3) :: p)).length + 2 := by simp only [oc_en, oc_cc_len]; rw [np, SM4]; simp only [List.length_append, Nat.zero_add, Nat.reduceAdd, ow0, ow1, ow2, ow3]; omega
        obtain ⟨⟨x0, y0, z0⟩, w0⟩ := IH 0 (by omega)
        have s0 : ot_so (K (C i 0)) = 1 := by rw [SO 0 (by omega)]; first | (rw [k, hv]; rfl) | (rw [k]; rfl)
        have h0 := y0 s0
        have c0 : oc_cr K V ((i, 0) :: p) = 1 + oc_cr K V p := by simp only [oc_cr]; rw [show oc_cln K V i 0 = true from by unfold oc_cln; rw [k, hv]; rfl]; rfl
        rw [c0] at h0
        obtain ⟨⟨x1, y1, z1⟩, w1⟩ := IH 1 (by omega)
        have s1 : ot_so (K (C i 1)) = 2 := by rw [SO 1 (by omega)]; first | (rw [k, hv]; rfl) | (rw [k]; rfl)
        have h1 := z1 s1
        have c1 : oc_cr K V ((i, 1) :: p) = 1 + oc_cr K V p := by simp only [oc_cr]; rw [show oc_cln K V i 1 = true from by unfold oc_cln; rw [k, hv]; rfl]; rfl
        rw [c1] at h1
        obtain ⟨⟨x2, y2, z2⟩, w2⟩ := IH 2 (by omega)
        have s2 : ot_so (K (C i 2)) = 2 := by rw [SO 2 (by omega)]; first | (rw [k, hv]; rfl) | (rw [k]; rfl)
        have h2 := z2 s2
        have c2 : oc_cr K V ((i, 2) :: p) = 1 + oc_cr K V p := by simp only [oc_cr]; rw [show oc_cln K V i 2 = true from by unfold oc_cln; rw [k, hv]; rfl]; rfl
        rw [c2] at h2
        obtain ⟨⟨x3, y3, z3⟩, w3⟩ := IH 3 (by omega)
        have s3 : ot_so (K (C i 3)) = 1 := by rw [SO 3 (by omega)]; first | (rw [k, hv]; rfl) | (rw [k]; rfl)
        have h3 := y3 s3
        have c3 : oc_cr K V ((i, 3) :: p) = 0 + oc_cr K V p := by simp only [oc_cr]; rw [show oc_cln K V i 3 = false from by unfold oc_cln; rw [k, hv]; rfl]; rfl
        rw [Nat.zero_add] at c3
        rw [c3] at h3
        clear LN LN1 LN2 LN3 LN4 SZ0 SZ1 SZ2 SZ3 SZ4 SM1 SM2 SM3 SM4 CAS ENL WN
        refine ⟨fun h => by omega, fun _ => ?_, fun h => by omega⟩
        have q := bd_t6 (c := oc_cr K V p) w0 (show 2 ≤ (B (C i 1) - C i 1) by omega) (show 2 ≤ (B (C i 2) - C i 2) by omega) w3 (show oc_ln K V C (m + 1) i p ≤ oc_ln K V C m (C i 0) ((i, 0) :: p) + oc_ln K V C m (C i 1) ((i, 1) :: p) + oc_ln K V C m (C i 2) ((i, 2) :: p) + oc_ln K V C m (C i 3) ((i, 3) :: p) + 12 by omega)
        rw [sz]
        exact ⟨q.1 h0.1 h1.1 h2.1 h3.1, fun w => q.2 (h0.2.1 (HW 0 (by omega) w)) (h1.2.1 (HW 1 (by omega) w)) (h2.2.1 (HW 2 (by omega) w)) (h3.2.1 (HW 3 (by omega) w)), by omega, by omega⟩
    · have np : ot_np (K i) (V i) = 1 := by rw [k]; rfl
      have sz := SZ1 np
      have so : ot_so (K i) = 2 := by rw [k]; rfl
      have ln := LN1 np
      have g0 : oc_lbg (K i) = 1 := by rw [k]; rfl
      have g1 : oc_lbt (K i) (V i) 1 = 0 := by rw [k]; rfl
      have gf : oc_lfi (K i) (V i) (oc_cr K V p) (oc_cj K V (V i) p) = 0 := by rw [k]; rfl
      have wn := WN (by omega) (by omega); rw [np] at wn; rw [SM1] at wn
      have en := ENL (by omega); rw [np] at en; rw [SM1] at en
      obtain ⟨⟨x0, y0, z0⟩, w0⟩ := IH 0 (by omega)
      have s0 : ot_so (K (C i 0)) = 1 := by rw [SO 0 (by omega)]; rw [k]; rfl
      have h0 := y0 s0
      clear LN LN1 LN2 LN3 LN4 SZ0 SZ1 SZ2 SZ3 SZ4 SM1 SM2 SM3 SM4 CAS ENL WN
      refine ⟨fun h => by omega, fun h => by omega, fun _ => ?_⟩
      rw [CR 0 (by omega)] at h0
      have q := bd_ct (c := oc_cr K V p) w0 (show oc_ln K V C (m + 1) i p ≤ 1 + oc_ln K V C m (C i 0) ((i, 0) :: p) by omega)
      rw [sz]
      exact ⟨q.1 h0.1, fun w => q.2 (h0.2.1 (HW 0 (by omega) w)), by omega, by omega⟩
    · have np : ot_np (K i) (V i) = 0 := by rw [k]; rfl
      have sz := SZ0 np
      have so : ot_so (K i) = 1 := by rw [k]; rfl
      have ln := LN; rw [np, CA0] at ln
      have g0 : oc_lbg (K i) = 0 := by rw [k]; rfl
      have wn := WN (by omega) (by omega); rw [np] at wn; simp only [oc_sm] at wn
      have en := ENL (by omega); rw [np] at en; simp only [oc_sm] at en
      clear LN LN1 LN2 LN3 LN4 SZ0 SZ1 SZ2 SZ3 SZ4 SM1 SM2 SM3 SM4 CAS ENL WN
      refine ⟨fun h => by omega, fun _ => ?_, fun h => by omega⟩
      have gf : oc_lfi (K i) (V i) (oc_cr K V p) (oc_cj K V (V i) p) = (match oc_cj K V (V i) p with | none => 0 | some c => 2 * c + 1) := by rw [k]; rfl
      rw [gf, g0] at ln
      rw [sz, ln]
      cases hj : oc_cj K V (V i) p with
      | none => exact ⟨by unfold bd_U; simp only; omega, fun _ => ⟨fun _ => rfl, fun h => by omega⟩, by omega, by omega⟩
      | some c =>
        have q := oc_cj_le hj
        exact ⟨by unfold bd_U; simp only; omega, fun w => absurd q.2 w, by omega, by omega⟩
    · have np : ot_np (K i) (V i) = 0 := by rw [k]; rfl
      have sz := SZ0 np
      have so : ot_so (K i) = 1 := by rw [k]; rfl
      have ln := LN; rw [np, CA0] at ln
      have g0 : oc_lbg (K i) = 0 := by rw [k]; rfl
      have wn := WN (by omega) (by omega); rw [np] at wn; simp only [oc_sm] at wn
      have en := ENL (by omega); rw [np] at en; simp only [oc_sm] at en
      clear LN LN1 LN2 LN3 LN4 SZ0 SZ1 SZ2 SZ3 SZ4 SM1 SM2 SM3 SM4 CAS ENL WN
      refine ⟨fun h => by omega, fun _ => ?_, fun h => by omega⟩
      have gf : oc_lfi (K i) (V i) (oc_cr K V p) (oc_cj K V (V i) p) = (match oc_cj K V (V i) p with | none => 0 | some c => 2 * c + 1) := by rw [k]; rfl
      rw [gf, g0] at ln
      rw [sz, ln]
      cases hj : oc_cj K V (V i) p with
      | none => exact ⟨by unfold bd_U; simp only; omega, fun _ => ⟨fun _ => rfl, fun h => by omega⟩, by omega, by omega⟩
      | some c =>
        have q := oc_cj_le hj
        exact ⟨by unfold bd_U; simp only; omega, fun w => absurd q.2 w, by omega, by omega⟩
    · have np : ot_np (K i) (V i) = 1 := by rw [k]; rfl
      have sz := SZ1 np
      have so : ot_so (K i) = 1 := by rw [k]; rfl
      have ln := LN1 np
      have g0 : oc_lbg (K i) = 0 := by rw [k]; rfl
      have g1 : oc_lbt (K i) (V i) 1 = 0 := by rw [k]; rfl
      have en := ENL (by omega); rw [np] at en; rw [SM1] at en
      obtain ⟨⟨x0, y0, z0⟩, w0⟩ := IH 0 (by omega)
      have s0 : ot_so (K (C i 0)) = 0 := by rw [SO 0 (by omega)]; rw [k]; rfl
      have h0 := x0 s0
      clear LN LN1 LN2 LN3 LN4 SZ0 SZ1 SZ2 SZ3 SZ4 SM1 SM2 SM3 SM4 CAS ENL WN
      have gf : oc_lfi (K i) (V i) (oc_cr K V p) (oc_cj K V (V i) p) ≤ 2 * oc_cr K V p + 3 := by rw [k]; simp only [oc_lfi]; split <;> omega
      have wn : oc_wn K V C (m + 1) i p ≤ oc_wn K V C m (C i 0) ((i, 0) :: p) + 1 := by simp only [oc_wn]; rw [np]; simp only [oc_sm]; rw [if_neg (fun e => by omega)]; split <;> omega
      refine ⟨fun h => by omega, fun _ => ?_, fun h => by omega⟩
      have q := bd_rt (c := oc_cr K V p) w0 (show oc_ln K V C (m + 1) i p ≤ (B (C i 0) - C i 0) + 2 * oc_cr K V p + 3 by omega)
      rw [sz]
      exact ⟨q.1, fun _ => q.2, by omega, by omega⟩
theorem bd_root (WT : ot_WT K V C Q B N) : oc_ln K V C 40 0 [] + 2 ≤ 520 ∧ 6 + oc_wn K V C 40 0 [] ≤ 90 ∧ (oc_en K V C 40 0 0 []).length ≤ 28 ∧ 6 + oc_wn K V C 40 0 [] ≤ 80 := by
  have WT0 := WT
  obtain ⟨n0, n1, so, _, hB, _⟩ := WT0
  obtain ⟨_, h, _⟩ := bd_main WT 40 0 0 [] n0 (by omega)
  obtain ⟨_, z, w, e⟩ := h so
  have z := z (by rintro ⟨f, f1, _⟩; cases f1)
  rw [hB] at z w e
  simp only [Nat.sub_zero] at z w e
  have hl : oc_ln K V C 40 0 [] + 2 ≤ 520 := by
    by_cases a1 : N = 1
    · have := z.1 a1; omega
    · have z2 := z.2 (by omega)
      simp only [oc_cr, Nat.zero_mul] at z2
      have := Nat.mul_le_mul n1 n1
      omega
  exact ⟨hl, by omega, by omega, by omega⟩
end
end
section
/-! ===== define: what the code's list holds ===== -/
def oc_sml (x : oc_I) : Prop := ∃ k : Nat, k < 28 ∧ x.1 = nI k
section
variable {K : Nat → Nat} {V : Nat → Int32} {C : Nat → Nat → Nat} {Q : Nat → oc_P} {B : Nat → Nat} {N : Nat}
theorem oc_jp_sml (l : Int32) (j : Nat) : ∀ (cx : oc_X) (pc : Nat), ∀ x, x ∈ oc_jp K V l j pc cx → oc_sml x
  | [], _, x, h => by simp only [oc_jp] at h; cases h
  | ((t, o), s, e, w, q) :: r, pc, x, h => by
    simp only [oc_jp] at h
    by_cases c1 : oc_tgt K V l t o = true
    · rw [if_pos c1] at h
      by_cases c2 : j = 1
      · rw [if_pos c2] at h; rw [List.mem_singleton.mp h]; exact ⟨22, by decide, rfl⟩
      · rw [if_neg c2] at h; rw [List.mem_singleton.mp h]; exact ⟨22, by decide, rfl⟩
    · rw [if_neg c1] at h
      by_cases c2 : oc_cln K V t o = true
      · rw [if_pos c2] at h
        rcases List.mem_cons.mp h with h | h
        · rw [h]; exact ⟨24, by decide, rfl⟩
        · rcases List.mem_cons.mp h with h | h
          · rw [h]; exact ⟨22, by decide, rfl⟩
          · exact oc_jp_sml l j r _ x h
      · rw [if_neg c2] at h; exact oc_jp_sml l j r _ x h
theorem oc_rt_sml (own : Nat) : ∀ (cx : oc_X) (pc : Nat), ∀ x, x ∈ oc_rt K V own pc cx → oc_sml x
  | [], _, x, h => by
    simp only [oc_rt] at h
    rcases List.mem_cons.mp h with h | h
    · rw [h]; exact ⟨1, by decide, rfl⟩
    · rw [List.mem_singleton.mp h]; exact ⟨21, by decide, rfl⟩
  | ((t, o), s, e, w, q) :: r, pc, x, h => by
    simp only [oc_rt] at h
    by_cases c2 : oc_cln K V t o = true
    · rw [if_pos c2] at h
      rcases List.mem_cons.mp h with h | h
      · rw [h]; exact ⟨24, by decide, rfl⟩
      · rcases List.mem_cons.mp h with h | h
        · rw [h]; exact ⟨22, by decide, rfl⟩
        · exact oc_rt_sml own r _ x h
    · rw [if_neg c2] at h; exact oc_rt_sml own r _ x h
theorem oc_lv_sml {i e q w : Nat} : ∀ x, x ∈ oc_lv V i e q w → oc_sml x := by
  intro x h
  unfold oc_lv at h
  split at h
  · rcases List.mem_cons.mp h with h | h
    · rw [h]; exact ⟨24, by decide, rfl⟩
    · rw [List.mem_singleton.mp h]; exact ⟨22, by decide, rfl⟩
  · rw [List.mem_singleton.mp h]; exact ⟨22, by decide, rfl⟩
theorem oc_bt_sml {i n e q w a2 : Nat} : ∀ x, x ∈ oc_bt K V i n e q w a2 → oc_sml x := by
  intro x h
  unfold oc_bt at h
  split at h
  · split at h
    · rw [List.mem_singleton.mp h]; exact ⟨12, by decide, rfl⟩
    · split at h
      · rw [List.mem_singleton.mp h]; exact ⟨22, by decide, rfl⟩
      · cases h
  · split at h
    · rw [List.mem_singleton.mp h]; exact ⟨12, by decide, rfl⟩
    · cases h
  · split at h
    · exact oc_lv_sml x h
    · split at h
      · rcases List.mem_append.mp h with h | h
        · exact oc_lv_sml x h
        · rcases List.mem_append.mp h with h | h
          · split at h
            · cases h
            · rw [List.mem_singleton.mp h]; exact ⟨27, by decide, rfl⟩
          · split at h
            · simp only [List.mem_cons, List.not_mem_nil, or_false] at h
              rcases h with h | h | h | h
              · rw [h]; exact ⟨26, by decide, rfl⟩
              · rw [h]; exact ⟨24, by decide, rfl⟩
              · rw [h]; exact ⟨22, by decide, rfl⟩
              · rw [h]; exact ⟨27, by decide, rfl⟩
            · cases h
      · cases h
  · cases h
theorem oc_fi_sml {i a h0 w wl : Nat} {cx : oc_X} (hk : K i < 22) : ∀ x, x ∈ oc_fi K V i a h0 w wl cx → oc_sml x := by
  intro x h
  unfold oc_fi at h
  split at h
  · cases h
  · cases h
  · cases h
  · cases h
  · rw [List.mem_singleton.mp h]; exact ⟨22, by decide, rfl⟩
  · split at h
    · rw [List.mem_singleton.mp h]; exact ⟨25, by decide, rfl⟩
    · cases h
  · split at h
    · cases h
    · exact oc_jp_sml _ _ _ _ x h
  · split at h
    · cases h
    · exact oc_jp_sml _ _ _ _ x h
  · split at h
    · rw [List.mem_singleton.mp h]; exact ⟨21, by decide, rfl⟩
    · rcases List.mem_cons.mp h with h | h
      · rw [h]; exact ⟨10, by decide, rfl⟩
      · exact oc_rt_sml _ _ _ x h
  · rw [List.mem_singleton.mp h]; exact ⟨0, by decide, rfl⟩
  · rw [List.mem_singleton.mp h]; exact ⟨1, by decide, rfl⟩
  · rw [List.mem_singleton.mp h]; exact ⟨8, by decide, rfl⟩
  · rw [List.mem_singleton.mp h]; exact ⟨10, by decide, rfl⟩
  · rw [List.mem_singleton.mp h]; exact ⟨16, by decide, rfl⟩
  · rw [List.mem_singleton.mp h]; exact ⟨_, by omega, rfl⟩
theorem oc_cod_sml (WT : ot_WT K V C Q B N) : ∀ (m i a w : Nat) (cx : oc_X), i < N → ∀ x, x ∈ oc_cod K V C m i a w cx → oc_sml x
  | 0, _, _, _, _, _, x, h => by cases h
  | m + 1, i, a, w, cx, hi, x, h => by
    simp only [oc_cod] at h
    have W := WT.2.2.2.2.2 i hi
    rcases List.mem_append.mp h with h | h
    · unfold oc_bg at h
      split at h
      · rw [List.mem_singleton.mp h]; exact ⟨23, by decide, rfl⟩
      · rw [List.mem_singleton.mp h]; exact ⟨18, by decide, rfl⟩
      · cases h
    · rcases List.mem_append.mp h with h | h
      · obtain ⟨o, ho, h⟩ := oc_cc_mem h
        rcases List.mem_append.mp h with h | h
        · exact oc_cod_sml WT m _ _ _ _ (W.2.1 o ho).2.1 x h
        · exact oc_bt_sml x h
      · exact oc_fi_sml W.1.1 x h
theorem oc_en_bd : ∀ (m i a : Nat) (p : oc_P), ∀ e, e ∈ oc_en K V C m i a p → e.1 ≤ a + oc_ln K V C m i p ∧ e.2.1 ≤ a + oc_ln K V C m i p ∧ e.2.2 ≤ a + oc_ln K V C m i p + 4
  | 0, _, _, _, e, h => by cases h
  | m + 1, i, a, p, e, h => by
    simp only [oc_en] at h
    obtain ⟨o, ho, h⟩ := oc_cc_mem h
    have hl := oc_ln_s K V C m i p
    have hs := oc_ca_s K V C m i p o
    have hle : oc_ca K V C m i p (o + 1) ≤ oc_ca K V C m i p (ot_np (K i) (V i)) := oc_ca_le K V C (by omega)
    rcases List.mem_append.mp h with h | h
    · obtain ⟨h1, h2, h3⟩ := oc_en_bd m _ _ _ e h
      omega
    · unfold oc_own at h
      split at h
      · rename_i c
        have s0 := oc_ca_s K V C m i p 0
        have l0 : oc_ca K V C m i p (0 + 1) ≤ oc_ca K V C m i p (ot_np (K i) (V i)) := oc_ca_le K V C (by omega)
        have eo : 1 + ot_nc (V i) = o + 1 := by omega
        have g2 : oc_gl (V i) ≤ 2 := by unfold oc_gl; split <;> omega
        rw [eo] at h
        rcases List.mem_append.mp h with h | h
        · split at h
          · cases h
          · rw [List.mem_singleton.mp h]
            refine ⟨?_, ?_, ?_⟩
            · show a ≤ _; omega
            · show a + oc_ln K V C m (C i 0) ((i, 0) :: p) ≤ _; omega
            · show a + oc_ln K V C m (C i 0) ((i, 0) :: p) + oc_gl (V i) ≤ _; omega
        · split at h
          · rw [List.mem_singleton.mp h]
            refine ⟨?_, ?_, ?_⟩
            · show a ≤ _; omega
            · show a + oc_ca K V C m i p (o + 1) - 4 ≤ _; omega
            · show a + oc_ca K V C m i p (o + 1) - 4 ≤ _; omega
          · cases h
      · cases h
theorem oc_FL_sml {l : List oc_I} (h : ∀ x, x ∈ l → oc_sml x) (a : Nat) : oc_sml (oc_FL l a) := by
  unfold oc_FL
  by_cases c : a < l.length
  · rw [List.getD_eq_getElem?_getD, List.getElem?_eq_getElem c]; exact h _ (List.getElem_mem c)
  · rw [List.getD_eq_getElem?_getD, List.getElem?_eq_none (by omega)]; exact ⟨0, by decide, rfl⟩
/-- what lies at the places of a list -/
theorem oc_A3_FL {z : SX} {f : Nat} {l : List oc_I} : ∀ (r : List oc_I) (a : Nat), a + r.length = l.length → l.length ≤ 520 → l.drop a = r → (∀ k, k < l.length → oa_op z (520 * f + k) = (oc_FL l k).1 ∧ oa_x z (520 * f + k) = (oc_FL l k).2.1 ∧ oa_y z (520 * f + k) = (oc_FL l k).2.2.1) → oc_A3 z f a r
  | [], _, _, _, _, _ => trivial
  | x :: r, a, h1, h2, h3, H => by
    have h1' : a + (r.length + 1) = l.length := h1
    have e : oc_FL l a = x := by
      unfold oc_FL
      have g : l[a]? = some x := by
        have := congrArg (fun q => q[0]?) h3
        simpa using this
      rw [List.getD_eq_getElem?_getD, g]; rfl
    obtain ⟨g1, g2, g3⟩ := H a (by omega)
    rw [e] at g1 g2 g3
    refine ⟨⟨by omega, g1, g2, g3⟩, oc_A3_FL r (a + 1) (by omega) h2 ?_ H⟩
    have := congrArg List.tail h3
    rw [List.tail_drop] at this
    exact this
end
end
section
/-! ===== define, X: the copies ===== -/
theorem df_63 {post : Int32 → SX → Prop} {v_tokens v_place v_here v_words v_depth v_working v_top v_steps v_says v_kind v_value v_over v_given v_thrown : Int32} {v_tok v_need v_num v_op v_x v_y v_from v_to v_handler v_caught v_there v_open v_done v_word v_start v_ends v_last v_hand v_bodyEnd v_local v_stack v_back v_floor v_running v_output : Nat → Int32} {f H : Nat} (hf : f < 4) (hH : H ≤ 520) (hv : ∀ a, a < H → vp_nar .byte (v_op (2080 + a)) = v_op (2080 + a))
    (KK : ∀ op x y : Nat → Int32, (∀ j, j < H → op (520 * f + j) = v_op (2080 + j) ∧ x (520 * f + j) = v_x (2080 + j) ∧ y (520 * f + j) = v_y (2080 + j)) → (∀ j, (j < 520 * f ∨ 520 * f + 520 ≤ j) → op j = v_op j ∧ x j = v_x j ∧ y j = v_y j) → ∃ n, wX_define_165 post (nI f) v_tokens v_place (nI H) v_words v_depth v_working v_top v_steps v_says v_kind v_value v_over v_given v_thrown n 0 v_tok v_need v_num op x y v_from v_to v_handler (upd v_caught f (vp_nar .byte (v_caught 4))) v_there v_open v_done v_word v_start v_ends v_last v_hand v_bodyEnd v_local v_stack v_back v_floor v_running v_output) :
    ∀ (r k : Nat) (op x y : Nat → Int32), k + r = H → (∀ j, j < k → op (520 * f + j) = v_op (2080 + j) ∧ x (520 * f + j) = v_x (2080 + j) ∧ y (520 * f + j) = v_y (2080 + j)) → (∀ j, (j < 520 * f ∨ 520 * f + 520 ≤ j) → op j = v_op j ∧ x j = v_x j ∧ y j = v_y j) → wX_define_63 post (nI f) v_tokens v_place (nI H) v_words v_depth v_working v_top v_steps v_says v_kind v_value v_over v_given v_thrown (r + 1) (nI k) v_tok v_need v_num op x y v_from v_to v_handler v_caught v_there v_open v_done v_word v_start v_ends v_last v_hand v_bodyEnd v_local v_stack v_back v_floor v_running v_output := by
  intro r
  induction r with
  | zero =>
    intro k op x y hk h1 h2
    have e : k = H := by omega
    subst e
    exact br_t (Int32.le_refl _) ⟨vp_in_nI (by omega) (by omega), nm_r (e' := upd v_caught f (vp_nar .byte (v_caught 4))) (by rw [nI_clamp (by omega)]) (KK op x y h1 h2)⟩
  | succ r ih =>
    intro k op x y hk h1 h2
    have ea : (2080 : Int32) + nI k = nI (2080 + k) := nI_add 2080 k
    have eb : (520 : Int32) * nI f + nI k = nI (520 * f + k) := by
      have : (520 : Int32) * nI f = nI (520 * f) := pk_mul 520 f
      rw [this, nI_add]
    have ia : vp_in ((2080 : Int32) + nI k) 2600 := by rw [ea]; exact vp_in_nI (by omega) (by omega)
    have ib : vp_in ((520 : Int32) * nI f + nI k) 2600 := by rw [eb]; exact vp_in_nI (by omega) (by omega)
    have ca : ((2080 : Int32) + nI k).toNatClampNeg = 2080 + k := by rw [ea]; exact nI_clamp (by omega)
    have cb : ((520 : Int32) * nI f + nI k).toNatClampNeg = 520 * f + k := by rw [eb]; exact nI_clamp (by omega)
    obtain ⟨o1, o2, o3⟩ := h2 (2080 + k) (by omega)
    refine br_f (nI_ge (by omega) (by omega)) ⟨ia, ib, nm_r (e' := upd op (520 * f + k) (v_op (2080 + k))) (by rw [ca, cb, o1, hv k (by omega)]) ⟨ia, ib, nm_r (e' := upd x (520 * f + k) (v_x (2080 + k))) (by rw [ca, cb, o2]) ⟨ia, ib, nm_r (e' := upd y (520 * f + k) (v_y (2080 + k))) (by rw [ca, cb, o3]) (nm_r (nI_1 k) (ih (k + 1) _ _ _ (by omega) (fun j hj => ?_) (fun j hj => ?_)))⟩⟩⟩
    · by_cases e : j = k
      · subst e; exact ⟨pk_us, pk_us, pk_us⟩
      · rw [pk_un (by omega), pk_un (by omega), pk_un (by omega)]; exact h1 j (by omega)
    · rw [pk_un (by omega), pk_un (by omega), pk_un (by omega)]; exact h2 j hj
theorem df_165 {post : Int32 → SX → Prop} {v_tokens v_place v_here v_words v_depth v_working v_top v_steps v_says v_kind v_value v_over v_given v_thrown : Int32} {v_tok v_need v_num v_op v_x v_y v_from v_to v_handler v_caught v_there v_open v_done v_word v_start v_ends v_last v_hand v_bodyEnd v_local v_stack v_back v_floor v_running v_output : Nat → Int32} {f E : Nat} (hf : f < 4) (hE : E ≤ 30) (hc : v_caught 4 = nI E) (hv : ∀ a, a < E → vp_nar .short (v_from (120 + a)) = v_from (120 + a) ∧ vp_nar .short (v_to (120 + a)) = v_to (120 + a) ∧ vp_nar .short (v_handler (120 + a)) = v_handler (120 + a))
    (KK : ∀ fr to hn : Nat → Int32, (∀ j, j < E → fr (30 * f + j) = v_from (120 + j) ∧ to (30 * f + j) = v_to (120 + j) ∧ hn (30 * f + j) = v_handler (120 + j)) → (∀ j, (j < 30 * f ∨ 30 * f + 30 ≤ j) → fr j = v_from j ∧ to j = v_to j ∧ hn j = v_handler j) → post 0 (v_tokens, v_place, v_here, v_words, v_depth, v_working, v_top, v_steps, v_says, v_kind, v_value, v_over, v_given, v_thrown, v_tok, v_need, v_num, v_op, v_x, v_y, fr, to, hn, v_caught, (upd v_there f 1), v_open, v_done, v_word, v_start, v_ends, v_last, v_hand, v_bodyEnd, v_local, v_stack, v_back, v_floor, v_running, v_output)) :
    ∀ (r k : Nat) (fr to hn : Nat → Int32), k + r = E → (∀ j, j < k → fr (30 * f + j) = v_from (120 + j) ∧ to (30 * f + j) = v_to (120 + j) ∧ hn (30 * f + j) = v_handler (120 + j)) → (∀ j, (j < 30 * f ∨ 30 * f + 30 ≤ j) → fr j = v_from j ∧ to j = v_to j ∧ hn j = v_handler j) → wX_define_165 post (nI f) v_tokens v_place v_here v_words v_depth v_working v_top v_steps v_says v_kind v_value v_over v_given v_thrown (r + 1) (nI k) v_tok v_need v_num v_op v_x v_y fr to hn v_caught v_there v_open v_done v_word v_start v_ends v_last v_hand v_bodyEnd v_local v_stack v_back v_floor v_running v_output := by
  intro r
  induction r with
  | zero =>
    intro k fr to hn hk h1 h2
    have e : k = E := by omega
    subst e
    exact br_t (by rw [hc]; exact Int32.le_refl _) ⟨vp_in_nI (by omega) (by omega), nm_r (e' := upd v_there f 1) (by rw [nI_clamp (by omega)]; rfl) (KK fr to hn h1 h2)⟩
  | succ r ih =>
    intro k fr to hn hk h1 h2
    have ea : (120 : Int32) + nI k = nI (120 + k) := nI_add 120 k
    have eb : (30 : Int32) * nI f + nI k = nI (30 * f + k) := by
      have : (30 : Int32) * nI f = nI (30 * f) := pk_mul 30 f
      rw [this, nI_add]
    have ia : vp_in ((120 : Int32) + nI k) 150 := by rw [ea]; exact vp_in_nI (by omega) (by omega)
    have ib : vp_in ((30 : Int32) * nI f + nI k) 150 := by rw [eb]; exact vp_in_nI (by omega) (by omega)
    have ca : ((120 : Int32) + nI k).toNatClampNeg = 120 + k := by rw [ea]; exact nI_clamp (by omega)
    have cb : ((30 : Int32) * nI f + nI k).toNatClampNeg = 30 * f + k := by rw [eb]; exact nI_clamp (by omega)
    obtain ⟨o1, o2, o3⟩ := h2 (120 + k) (by omega)
    obtain ⟨v1, v2, v3⟩ := hv k (by omega)
    refine br_f (by rw [hc]; exact nI_ge (by omega) (by omega)) ⟨ia, ib, nm_r (e' := upd fr (30 * f + k) (v_from (120 + k))) (by rw [ca, cb, o1, v1]) ⟨ia, ib, nm_r (e' := upd to (30 * f + k) (v_to (120 + k))) (by rw [ca, cb, o2, v2]) ⟨ia, ib, nm_r (e' := upd hn (30 * f + k) (v_handler (120 + k))) (by rw [ca, cb, o3, v3]) (nm_r (nI_1 k) (ih (k + 1) _ _ _ (by omega) (fun j hj => ?_) (fun j hj => ?_)))⟩⟩⟩
    · by_cases e : j = k
      · subst e; exact ⟨pk_us, pk_us, pk_us⟩
      · rw [pk_un (by omega), pk_un (by omega), pk_un (by omega)]; exact h1 j (by omega)
    · rw [pk_un (by omega), pk_un (by omega), pk_un (by omega)]; exact h2 j hj
end
section
/-! ===== define, X ===== -/
def df_kx (z u : SX) : Prop := oa_tokens u = nI 0 ∧ oa_steps u = oa_steps z ∧ oa_says u = oa_says z ∧ oa_given u = oa_given z ∧ oa_thrown u = oa_thrown z ∧ oa_output u = oa_output z
/-- body g is the same in both -/
def df_kg (z u : SX) (g : Nat) : Prop :=
  (∀ k, k < 520 → oa_op u (520 * g + k) = oa_op z (520 * g + k)) ∧ (∀ k, k < 520 → oa_x u (520 * g + k) = oa_x z (520 * g + k)) ∧ (∀ k, k < 520 → oa_y u (520 * g + k) = oa_y z (520 * g + k)) ∧
  (∀ k, k < 30 → oa_from u (30 * g + k) = oa_from z (30 * g + k) ∧ oa_to u (30 * g + k) = oa_to z (30 * g + k) ∧ oa_handler u (30 * g + k) = oa_handler z (30 * g + k)) ∧ oa_caught u g = oa_caught z g ∧ oa_there u g = oa_there z g
theorem df_nn {j : Nat} (hj : j < 2 ^ 31) : ¬ nI j < 0 := fun e => by
  have a := Int32.lt_iff_toInt_lt.mp e
  rw [nI_toInt hj] at a
  have d : (0 : Int32).toInt = 0 := by decide
  omega
section
variable {post : Int32 → SX → Prop} {z : SX} {K : Nat → Nat} {V : Nat → Int32} {C : Nat → Nat → Nat} {Q : Nat → oc_P} {B : Nat → Nat} {N f : Nat}
theorem df_X24 (D : om_dr z K V N) (hT : oa_tokens z = nI N) (WT : ot_WT K V C Q B N) (hf : f < 4) {x2 : Int32}
    (K2 : ∀ j u, j < N → (K j = 19 ∨ K j = 20) → oc_cj K V (V j) (Q j) = none → (∀ j', j' < j → (K j' = 19 ∨ K j' = 20) → oc_cj K V (V j') (Q j') ≠ none) → df_kx z u → oa_place u = nI j → (∀ g, g < 4 → df_kg z u g) → post 2 u)
    (K3 : (∀ j', j' < N → (K j' = 19 ∨ K j' = 20) → oc_cj K V (V j') (Q j') ≠ none) → ∀ u, df_kx z u → oa_place u = -1 → (∀ g, g < 4 → g ≠ f → df_kg z u g) → oa_there u f = 1 → oc_A3 u f 0 (oc_cod K V C 40 0 0 6 [] ++ [(0, 0, 0, 0), (21, 0, 0, 0)]) → ox_TB u f (oc_en K V C 40 0 0 []) → post 0 u) :
    wX_define_24 post (nI f) x2 0 (oa_tokens z) (oa_place z) (oa_here z) (oa_words z) (oa_depth z) (oa_working z) (oa_top z) (oa_steps z) (oa_says z) (oa_kind z) (oa_value z) (oa_over z) (oa_given z) (oa_thrown z) (oa_tok z) (oa_need z) (oa_num z) (oa_op z) (oa_x z) (oa_y z) (oa_from z) (oa_to z) (oa_handler z) (oa_caught z) (oa_there z) (oa_open z) (oa_done z) (oa_word z) (oa_start z) (oa_ends z) (oa_last z) (oa_hand z) (oa_bodyEnd z) (oa_local z) (oa_stack z) (oa_back z) (oa_floor z) (oa_running z) (oa_output z) := by
  obtain ⟨b1, b2, b3, b4⟩ := bd_root WT
  refine br_t rfl (om_top D hT WT b1 b2 b3 (fun j hj hk hu hb => ?_) (fun AB w dep op x y fr to hn ca opn dn wd sta en la ha be HC HE HS => ?_))
  · intro h w dep op x y fr to hn ca opn dn wd sta en la ha be HS
    have hN := WT.2.1
    refine br_f (df_nn (by omega)) ?_
    refine br_f (by decide) (K2 j _ hj hk hu hb ⟨rfl, rfl, rfl, rfl, rfl, rfl⟩ rfl (fun g hg => ?_))
    obtain ⟨s1, s2, s3⟩ := HS
    exact ⟨fun k hk => (s1 (520 * g + k) (by omega)).1, fun k hk => (s1 (520 * g + k) (by omega)).2.1, fun k hk => (s1 (520 * g + k) (by omega)).2.2, fun k hk => s2 (30 * g + k) (by omega), s3 g hg, rfl⟩
  · obtain ⟨s1, s2, s3⟩ := HS
    have SM : ∀ x, x ∈ (oc_cod K V C 40 0 0 6 [] ++ [(0, 0, 0, 0), (21, 0, 0, 0)]) → oc_sml x := by
      intro x hx
      rcases List.mem_append.mp hx with h | h
      · exact oc_cod_sml WT 40 0 0 6 [] WT.1 x h
      · rcases List.mem_cons.mp h with h | h
        · rw [h]; exact ⟨0, by decide, rfl⟩
        · rw [List.mem_singleton.mp h]; exact ⟨21, by decide, rfl⟩
    have EB := oc_en_bd (K := K) (V := V) (C := C) 40 0 0 []
    have EL : ∀ a, a < (oc_en K V C 40 0 0 []).length → ∃ e, (oc_en K V C 40 0 0 [])[a]? = some e ∧ e.1 < 1000 ∧ e.2.1 < 1000 ∧ e.2.2 < 1000 := by
      intro a ha
      obtain ⟨q1, q2, q3⟩ := EB _ (List.getElem_mem ha)
      exact ⟨_, List.getElem?_eq_getElem ha, by omega, by omega, by omega⟩
    have c4 : upd ca f (vp_nar .byte (ca 4)) 4 = nI (oc_en K V C 40 0 0 []).length := by rw [pk_un (by omega)]; exact HE.1
    have cf : upd ca f (vp_nar .byte (ca 4)) f = nI (oc_en K V C 40 0 0 []).length := by rw [pk_us, HE.1, ok_by' (by omega)]
    refine br_t (by decide) ?_
    refine br_t rfl ⟨oc_ln K V C 40 0 [] + 2 + 1, df_63 (v_here := 0) hf b1 (fun a ha => ?_) (fun op2 x2 y2 i1 i2 => ⟨(oc_en K V C 40 0 0 []).length + 1, df_165 hf (by omega) c4 (fun a ha => ?_) (fun fr2 to2 hn2 i3 i4 => ?_) (oc_en K V C 40 0 0 []).length 0 _ _ _ (by omega) (fun j hj => by omega) (fun j hj => ⟨rfl, rfl, rfl⟩)⟩) (oc_ln K V C 40 0 [] + 2) 0 _ _ _ (by omega) (fun j hj => by omega) (fun j hj => ⟨rfl, rfl, rfl⟩)⟩
    · obtain ⟨k, k1, k2⟩ := oc_FL_sml SM a
      rw [(HC a ha).1, k2]; exact ok_by' (by omega)
    · obtain ⟨e, e0, e1, e2, e3⟩ := EL a ha
      obtain ⟨h1, h2, h3⟩ := HE.2 a e e0
      rw [h1, h2, h3]
      exact ⟨ok_sh' (by omega), ok_sh' (by omega), ok_sh' (by omega)⟩
    · refine K3 AB _ ⟨rfl, rfl, rfl, rfl, rfl, rfl⟩ rfl (fun g hg hne => ?_) (show upd (oa_there z) f 1 f = 1 from pk_us) ?_ ?_
      · refine ⟨fun k hk => ?_, fun k hk => ?_, fun k hk => ?_, fun k hk => ?_, ?_, ?_⟩
        · exact (i2 (520 * g + k) (by omega)).1.trans (s1 (520 * g + k) (by omega)).1
        · exact (i2 (520 * g + k) (by omega)).2.1.trans (s1 (520 * g + k) (by omega)).2.1
        · exact (i2 (520 * g + k) (by omega)).2.2.trans (s1 (520 * g + k) (by omega)).2.2
        · obtain ⟨a1, a2, a3⟩ := i4 (30 * g + k) (by omega)
          obtain ⟨c1, c2, c3⟩ := s2 (30 * g + k) (by omega)
          exact ⟨a1.trans c1, a2.trans c2, a3.trans c3⟩
        · show upd ca f (vp_nar .byte (ca 4)) g = _
          rw [pk_un (by omega)]; exact s3 g hg
        · show upd (oa_there z) f 1 g = _
          exact pk_un hne
      · have le : ((oc_cod K V C 40 0 0 6 [] ++ [(0, 0, 0, 0), (21, 0, 0, 0)])).length = oc_ln K V C 40 0 [] + 2 := by rw [List.length_append, oc_cod_len]; rfl
        refine oc_A3_FL (l := (oc_cod K V C 40 0 0 6 [] ++ [(0, 0, 0, 0), (21, 0, 0, 0)])) _ 0 (by omega) (by omega) rfl (fun k hk => ?_)
        obtain ⟨a1, a2, a3⟩ := i1 k (by omega)
        obtain ⟨c1, c2, c3⟩ := HC k (by omega)
        exact ⟨a1.trans c1, a2.trans c2, a3.trans c3⟩
      · refine ⟨hf, cf, by omega, fun k e he => ?_⟩
        have hk := (List.getElem?_eq_some_iff.mp he).1
        obtain ⟨e', e0, e1, e2, e3⟩ := EL k hk
        rw [he] at e0; cases e0
        obtain ⟨a1, a2, a3⟩ := i3 k hk
        obtain ⟨c1, c2, c3⟩ := HE.2 k e he
        exact ⟨a1.trans c1, a2.trans c2, a3.trans c3, e1, e2⟩
theorem df_kgr (z u : SX) (g : Nat) (h1 : oa_op u = oa_op z) (h2 : oa_x u = oa_x z) (h3 : oa_y u = oa_y z) (h4 : oa_from u = oa_from z) (h5 : oa_to u = oa_to z) (h6 : oa_handler u = oa_handler z) (h7 : oa_caught u = oa_caught z) (h8 : oa_there u = oa_there z) : df_kg z u g := by
  unfold df_kg; rw [h1, h2, h3, h4, h5, h6, h7, h8]; exact ⟨fun _ _ => rfl, fun _ _ => rfl, fun _ _ => rfl, fun _ _ => ⟨rfl, rfl, rfl⟩, rfl, rfl⟩
/-- the misfit from the top -/
theorem df_mis (D : om_dr z K V N) (hT : oa_tokens z = nI N) (KK : ∀ nd, post (ps_r K V N 0) ((oa_tokens z), (oa_place z), (oa_here z), (oa_words z), (oa_depth z), (oa_working z), (oa_top z), (oa_steps z), (oa_says z), (oa_kind z), (oa_value z), (oa_over z), (oa_given z), (oa_thrown z), (oa_tok z), nd, (oa_num z), (oa_op z), (oa_x z), (oa_y z), (oa_from z), (oa_to z), (oa_handler z), (oa_caught z), (oa_there z), (oa_open z), (oa_done z), (oa_word z), (oa_start z), (oa_ends z), (oa_last z), (oa_hand z), (oa_bodyEnd z), (oa_local z), (oa_stack z), (oa_back z), (oa_floor z), (oa_running z), (oa_output z))) : wpX_misfit post ((oa_tokens z), (oa_place z), (oa_here z), (oa_words z), (oa_depth z), (oa_working z), (oa_top z), (oa_steps z), (oa_says z), (oa_kind z), (oa_value z), (oa_over z), (oa_given z), (oa_thrown z), (oa_tok z), (oa_need z), (oa_num z), (oa_op z), (oa_x z), (oa_y z), (oa_from z), (oa_to z), (oa_handler z), (oa_caught z), (oa_there z), (oa_open z), (oa_done z), (oa_word z), (oa_start z), (oa_ends z), (oa_last z), (oa_hand z), (oa_bodyEnd z), (oa_local z), (oa_stack z), (oa_back z), (oa_floor z), (oa_running z), (oa_output z)) := by
  refine nm_r (e' := upd (oa_need z) 0 1) rfl ⟨N + 1, ?_⟩
  exact ps_X11 D hT N 0 (upd (oa_need z) 0 1) (by omega) (by simp [ps_st]) ⟨pk_us, trivial⟩ KK
theorem df_X1 (D : om_dr z K V N) (hT : oa_tokens z = nI N) (hf : f < 4) (hr : ¬ ps_r K V N 0 < 0)
    (K1 : ∀ u, df_kx z u → oa_place u = ps_r K V N 0 → (∀ g, g < 4 → df_kg z u g) → post 1 u) : wpX_define post ((oa_tokens z), (oa_place z), (oa_here z), (oa_words z), (oa_depth z), (oa_working z), (oa_top z), (oa_steps z), (oa_says z), (oa_kind z), (oa_value z), (oa_over z), (oa_given z), (oa_thrown z), (oa_tok z), (oa_need z), (oa_num z), (oa_op z), (oa_x z), (oa_y z), (oa_from z), (oa_to z), (oa_handler z), (oa_caught z), (oa_there z), (oa_open z), (oa_done z), (oa_word z), (oa_start z), (oa_ends z), (oa_last z), (oa_hand z), (oa_bodyEnd z), (oa_local z), (oa_stack z), (oa_back z), (oa_floor z), (oa_running z), (oa_output z)) (nI f) := by
  refine br_f (df_nn (by omega)) (br_f (fun e => ?_) (br_f (by decide) (df_mis D hT (fun nd => br_f hr (br_f (by decide) (br_f (by decide) (K1 _ ⟨rfl, rfl, rfl, rfl, rfl, rfl⟩ rfl (fun g hg => df_kgr z _ g rfl rfl rfl rfl rfl rfl rfl rfl))))))))
  exact nI_ge (b := 4) (a := f) (by omega) (by omega) e
theorem df_X2 (D : om_dr z K V N) (hT : oa_tokens z = nI N) (WT : ot_WT K V C Q B N) (hf : f < 4) (hr : ps_r K V N 0 = -1)
    (K2 : ∀ j u, j < N → (K j = 19 ∨ K j = 20) → oc_cj K V (V j) (Q j) = none → (∀ j', j' < j → (K j' = 19 ∨ K j' = 20) → oc_cj K V (V j') (Q j') ≠ none) → df_kx z u → oa_place u = nI j → (∀ g, g < 4 → df_kg z u g) → post 2 u)
    (K3 : (∀ j', j' < N → (K j' = 19 ∨ K j' = 20) → oc_cj K V (V j') (Q j') ≠ none) → ∀ u, df_kx z u → oa_place u = -1 → (∀ g, g < 4 → g ≠ f → df_kg z u g) → oa_there u f = 1 → oc_A3 u f 0 (oc_cod K V C 40 0 0 6 [] ++ [(0, 0, 0, 0), (21, 0, 0, 0)]) → ox_TB u f (oc_en K V C 40 0 0 []) → post 0 u) : wpX_define post ((oa_tokens z), (oa_place z), (oa_here z), (oa_words z), (oa_depth z), (oa_working z), (oa_top z), (oa_steps z), (oa_says z), (oa_kind z), (oa_value z), (oa_over z), (oa_given z), (oa_thrown z), (oa_tok z), (oa_need z), (oa_num z), (oa_op z), (oa_x z), (oa_y z), (oa_from z), (oa_to z), (oa_handler z), (oa_caught z), (oa_there z), (oa_open z), (oa_done z), (oa_word z), (oa_start z), (oa_ends z), (oa_last z), (oa_hand z), (oa_bodyEnd z), (oa_local z), (oa_stack z), (oa_back z), (oa_floor z), (oa_running z), (oa_output z)) (nI f) := by
  refine br_f (df_nn (by omega)) (br_f (fun e => ?_) (br_f (by decide) (df_mis D hT (fun nd => ?_))))
  · exact nI_ge (b := 4) (a := f) (by omega) (by omega) e
  · rw [hr]
    exact br_t (by decide) (df_X24 (z := ((oa_tokens z), (oa_place z), (oa_here z), (oa_words z), (oa_depth z), (oa_working z), (oa_top z), (oa_steps z), (oa_says z), (oa_kind z), (oa_value z), (oa_over z), (oa_given z), (oa_thrown z), (oa_tok z), nd, (oa_num z), (oa_op z), (oa_x z), (oa_y z), (oa_from z), (oa_to z), (oa_handler z), (oa_caught z), (oa_there z), (oa_open z), (oa_done z), (oa_word z), (oa_start z), (oa_ends z), (oa_last z), (oa_hand z), (oa_bodyEnd z), (oa_local z), (oa_stack z), (oa_back z), (oa_floor z), (oa_running z), (oa_output z))) D hT WT hf K2 K3)
end
end
section
/-! ===== define, Y: the copies ===== -/
theorem df_134 {post : Int32 → SY → Prop} {J : Int32 → (Nat → Int32) → (Nat → Int32) → (Nat → Int32) → (Nat → Int32) → (Nat → Int32) → (Nat → Int32) → (Nat → Int32) → (Nat → Int32) → (Nat → Int32) → (Nat → Int32) → (Nat → Int32) → (Nat → Int32) → (Nat → Int32) → (Nat → Int32) → (Nat → Int32) → (Nat → Int32) → (Nat → Int32) → Prop} {v_place v_top v_held v_depth v_ended v_endTarget v_endKind v_endWorth v_steps v_says v_result v_thrown v_over : Int32} {v_kind v_up v_length v_value v_below v_open v_token v_height v_target v_phase v_how v_kinds v_worth v_values v_variables v_begun v_output : Nat → Int32} {f k : Nat} {x2 : Int32} (hf : f < 4) (hk : k < 40)
    (KK : ∀ bl : Nat → Int32, (∀ o, o < 4 → bl (160 * f + 4 * k + o) = vp_nar .short (v_below (640 + 4 * k + o))) → (∀ j, (j < 160 * f + 4 * k ∨ 160 * f + 4 * k + 4 ≤ j) → bl j = v_below j) → J (nI (k + 1)) v_kind v_up v_length v_value bl v_open v_token v_height v_target v_phase v_how v_kinds v_worth v_values v_variables v_begun v_output) :
    ∀ (r c : Nat) (bl : Nat → Int32), c + r = 4 → (∀ o, o < c → bl (160 * f + 4 * k + o) = vp_nar .short (v_below (640 + 4 * k + o))) → (∀ j, (j < 160 * f + 4 * k ∨ 160 * f + 4 * k + 4 ≤ j) → bl j = v_below j) →
    wY_define_134 post J (nI f) x2 (nI k) v_place v_top v_held v_depth v_ended v_endTarget v_endKind v_endWorth v_steps v_says v_result v_thrown v_over (r + 1) (nI c) v_kind v_up v_length v_value bl v_open v_token v_height v_target v_phase v_how v_kinds v_worth v_values v_variables v_begun v_output := by
  intro r
  induction r with
  | zero =>
    intro c bl hc h1 h2
    have e : c = 4 := by omega
    subst e
    exact br_t (by decide) (nm_r (nI_1 k) (KK bl h1 h2))
  | succ r ih =>
    intro c bl hc h1 h2
    have e4 : (4 : Int32) * nI k = nI (4 * k) := pk_mul 4 k
    have e160 : (160 : Int32) * nI f = nI (160 * f) := pk_mul 160 f
    have ea : ((640 : Int32) + (4 * nI k)) + nI c = nI (640 + 4 * k + c) := by
      have : (640 : Int32) + nI (4 * k) = nI (640 + 4 * k) := nI_add 640 (4 * k)
      rw [e4, this, nI_add]
    have eb : ((160 : Int32) * nI f + (4 * nI k)) + nI c = nI (160 * f + 4 * k + c) := by rw [e4, e160, nI_add, nI_add]
    refine br_f (nI_ge (b := 4) (a := c) (by omega) (by omega)) ⟨by rw [ea]; exact vp_in_nI (by omega) (by omega), by rw [eb]; exact vp_in_nI (by omega) (by omega), nm_r (e' := upd bl (160 * f + 4 * k + c) (vp_nar .short (v_below (640 + 4 * k + c)))) (by rw [ea, eb, nI_clamp (by omega), nI_clamp (by omega), h2 _ (by omega)]) (nm_r (nI_1 c) (ih (c + 1) _ (by omega) (fun o ho => ?_) (fun j hj => ?_)))⟩
    · by_cases e : o = c
      · subst e; exact pk_us
      · rw [pk_un (by omega)]; exact h1 o (by omega)
    · rw [pk_un (by omega)]; exact h2 j hj
theorem df_58 {post : Int32 → SY → Prop} {v_place v_top v_held v_depth v_ended v_endTarget v_endKind v_endWorth v_steps v_says v_result v_thrown v_over : Int32} {v_kind v_up v_length v_value v_below v_open v_token v_height v_target v_phase v_how v_kinds v_worth v_values v_variables v_begun v_output : Nat → Int32} {f : Nat} (hf : f < 4)
    (KK : ∀ kd up vl bl : Nat → Int32, (∀ j, j < 40 → kd (40 * f + j) = vp_nar .byte (v_kind (160 + j)) ∧ vl (40 * f + j) = v_value (160 + j) ∧ up (40 * f + j) = vp_nar .byte (v_up (160 + j)) ∧ ∀ o, o < 4 → bl (160 * f + 4 * j + o) = vp_nar .short (v_below (640 + 4 * j + o))) → (∀ j, (j < 40 * f ∨ 40 * f + 40 ≤ j) → kd j = v_kind j ∧ vl j = v_value j ∧ up j = v_up j) → (∀ j, (j < 160 * f ∨ 160 * f + 160 ≤ j) → bl j = v_below j) → wY_define_184 post (nI f) 0 v_place v_top v_held v_depth v_ended v_endTarget v_endKind v_endWorth v_steps v_says v_result v_thrown v_over kd up v_length vl bl v_open v_token v_height v_target v_phase v_how v_kinds v_worth v_values v_variables v_begun v_output) :
    ∀ (r k : Nat) (kd up vl bl : Nat → Int32), k + r = 40 → (∀ j, j < k → kd (40 * f + j) = vp_nar .byte (v_kind (160 + j)) ∧ vl (40 * f + j) = v_value (160 + j) ∧ up (40 * f + j) = vp_nar .byte (v_up (160 + j)) ∧ ∀ o, o < 4 → bl (160 * f + 4 * j + o) = vp_nar .short (v_below (640 + 4 * j + o))) → (∀ j, (j < 40 * f ∨ 40 * f + 40 ≤ j) → kd j = v_kind j ∧ vl j = v_value j ∧ up j = v_up j) → (∀ j, (j < 160 * f ∨ 160 * f + 160 ≤ j) → bl j = v_below j) → wY_define_58 post (nI f) 0 v_place v_top v_held v_depth v_ended v_endTarget v_endKind v_endWorth v_steps v_says v_result v_thrown v_over (r + 1) (nI k) kd up v_length vl bl v_open v_token v_height v_target v_phase v_how v_kinds v_worth v_values v_variables v_begun v_output := by
  intro r
  induction r with
  | zero =>
    intro k kd up vl bl hk h1 h2 h3
    have e : k = 40 := by omega
    subst e
    exact br_t (by decide) (KK kd up vl bl h1 h2 h3)
  | succ r ih =>
    intro k kd up vl bl hk h1 h2 h3
    have ea : (160 : Int32) + nI k = nI (160 + k) := nI_add 160 k
    have eb : (40 : Int32) * nI f + nI k = nI (40 * f + k) := by
      have : (40 : Int32) * nI f = nI (40 * f) := pk_mul 40 f
      rw [this, nI_add]
    have ia : vp_in ((160 : Int32) + nI k) 200 := by rw [ea]; exact vp_in_nI (by omega) (by omega)
    have ib : vp_in ((40 : Int32) * nI f + nI k) 200 := by rw [eb]; exact vp_in_nI (by omega) (by omega)
    have ca : ((160 : Int32) + nI k).toNatClampNeg = 160 + k := by rw [ea]; exact nI_clamp (by omega)
    have cb : ((40 : Int32) * nI f + nI k).toNatClampNeg = 40 * f + k := by rw [eb]; exact nI_clamp (by omega)
    obtain ⟨o1, o2, o3⟩ := h2 (160 + k) (by omega)
    refine br_f (nI_ge (b := 40) (a := k) (by omega) (by omega)) (br_t rfl ⟨ia, ib, nm_r (e' := upd kd (40 * f + k) (vp_nar .byte (v_kind (160 + k)))) (by rw [ca, cb, o1]) ⟨ia, ib, nm_r (e' := upd vl (40 * f + k) (v_value (160 + k))) (by rw [ca, cb, o2]) ⟨ia, ib, nm_r (e' := upd up (40 * f + k) (vp_nar .byte (v_up (160 + k)))) (by rw [ca, cb, o3]) ⟨5, ?_⟩⟩⟩⟩)
    refine df_134 (v_below := bl) hf (by omega) (fun bl2 g1 g2 => ih (k + 1) _ _ _ _ (by omega) (fun j hj => ?_) (fun j hj => ?_) (fun j hj => ?_)) 4 0 bl (by omega) (fun o ho => by omega) (fun j _ => rfl)
    · by_cases e : j = k
      · subst e
        exact ⟨pk_us, pk_us, pk_us, fun o ho => by rw [g1 o ho, h3 _ (by omega)]⟩
      · obtain ⟨q1, q2, q3, q4⟩ := h1 j (by omega)
        rw [pk_un (by omega), pk_un (by omega), pk_un (by omega)]
        exact ⟨q1, q2, q3, fun o ho => by rw [g2 _ (by omega)]; exact q4 o ho⟩
    · rw [pk_un (by omega), pk_un (by omega), pk_un (by omega)]; exact h2 j hj
    · rw [g2 _ (by omega)]; exact h3 j hj
end
section
/-! ===== define, Y ===== -/
section
variable {K : Nat → Nat} {V : Nat → Int32} {N : Nat}
theorem df_rc (K : Nat → Nat) (V : Nat → Int32) : ∀ r i, ps_r K V r i = -1 ∨ ∃ j, j ≤ i + r ∧ ps_r K V r i = nI j
  | 0, i => by
    simp only [ps_r]
    split
    · exact Or.inl rfl
    · exact Or.inr ⟨i, by omega, rfl⟩
  | r + 1, i => by
    simp only [ps_r]
    split
    · exact Or.inr ⟨i, by omega, rfl⟩
    · split
      · rcases df_rc K V r (i + 1) with h | ⟨j, h1, h2⟩
        · exact Or.inl h
        · exact Or.inr ⟨j, by omega, h2⟩
      · exact Or.inr ⟨i, by omega, rfl⟩
theorem df_pu {j : Nat} {s : ps_S} {l : List ps_S} (h : ps_st K V j = s :: l) : oy_pu (ps_Q K V j j) = ps_us s := by
  cases j with
  | zero => simp only [ps_st, List.cons.injEq] at h; rw [← h.1]; rfl
  | succ j =>
    simp only [ps_Q, h]
    cases s with
    | none => rfl
    | some e => obtain ⟨t, o⟩ := e; rfl
theorem df_un {i j : Nat} {s : ps_S} {l l' : List ps_S} (h1 : ps_st K V i = s :: l) (h2 : ps_st K V j = s :: l') : i = j := by
  rcases Nat.lt_trichotomy i j with g | g | g
  · exfalso
    have q := ps_gone h1 (j - (i + 1))
    rw [show i + 1 + (j - (i + 1)) = j by omega, h2] at q
    exact q List.mem_cons_self
  · exact g
  · exfalso
    have q := ps_gone h2 (i - (j + 1))
    rw [show j + 1 + (i - (j + 1)) = i by omega, h1] at q
    exact q List.mem_cons_self
theorem df_pv {B : Nat → Nat} (CH : ∀ i o, i < N → o < ot_np (K i) (V i) → ∃ l, ps_st K V (ps_C B i o) = some (i, o) :: l) : ∀ n j, j ≤ n → j < N → oy_pv K V (ps_C B) (fun j => ps_Q K V j j) N j (ps_Q K V j j) := by
  intro n
  induction n with
  | zero => intro j h1 _; rw [show j = 0 by omega]; trivial
  | succ n ih =>
    intro j h1 h2
    cases j with
    | zero => trivial
    | succ j =>
      simp only [ps_Q]
      cases hs : ps_st K V (j + 1) with
      | nil => trivial
      | cons s l =>
        cases s with
        | none => trivial
        | some e =>
          obtain ⟨t, o⟩ := e
          obtain ⟨m1, m2⟩ := ps_st_mem (K := K) (V := V) (j + 1) t o (by rw [hs]; exact List.mem_cons_self)
          obtain ⟨l', hl⟩ := CH t o (by omega) m2
          show oy_pv K V (ps_C B) (fun j => ps_Q K V j j) N (j + 1) ((t, o) :: ps_Q K V j t)
          rw [ps_Q_st j t (by omega)]
          exact ⟨by omega, m2, df_un hs hl, rfl, ih t (by omega) (by omega)⟩
end
def df_ky (y v : SY) : Prop := ob_length v 4 = nI 0 ∧ ob_steps v = ob_steps y ∧ ob_says v = ob_says y ∧ ob_result v = ob_result y ∧ ob_thrown v = ob_thrown y ∧ ob_output v = ob_output y
/-- body g is the same in both -/
def df_kh (y v : SY) (g : Nat) : Prop :=
  ob_length v g = ob_length y g ∧ (∀ i, i < 40 → ob_kind v (40 * g + i) = ob_kind y (40 * g + i) ∧ ob_value v (40 * g + i) = ob_value y (40 * g + i) ∧ ob_up v (40 * g + i) = ob_up y (40 * g + i)) ∧ (∀ i, i < 160 → ob_below v (160 * g + i) = ob_below y (160 * g + i))
theorem oy_PR_cg {y v : SY} {K : Nat → Nat → Nat} {V : Nat → Nat → Int32} {C : Nat → Nat → Nat → Nat} {L : Nat → Nat} {Q : Nat → Nat → oc_P} {B : Nat → Nat → Nat} {g : Nat} (H : df_kh y v g) (P : oy_PR y K V C L Q B g) : oy_PR v K V C L Q B g := by
  obtain ⟨h1, h2, h3⟩ := H
  obtain ⟨p1, p2, p3⟩ := P
  refine ⟨h1.trans p1, p2, fun hL => ?_⟩
  obtain ⟨w, b, q⟩ := p3 hL
  refine ⟨w, b, fun i hi => ?_⟩
  obtain ⟨q1, q2, q3, q4⟩ := q i hi
  obtain ⟨a1, a2, a3⟩ := h2 i (by omega)
  refine ⟨a1.trans q1, a2.trans q2, fun o ho => ?_, a3.trans q4⟩
  have n4 := ps_np4 (w.2.2.2.2.2 i hi).1
  have e := h3 (4 * i + o) (by omega)
  rw [show 160 * g + (4 * i + o) = 4 * (40 * g + i) + o by omega] at e
  exact e.trans (q3 o ho)
section
variable {post : Int32 → SY → Prop} {y : SY} {K : Nat → Nat} {V : Nat → Int32} {N f : Nat}
theorem df_sh (D : oy_dr y K V N) (KK : ∀ op up bl, (ps_r K V N 0 = -1 → ps_ub K V N up bl) → ps_rows y up bl → post (ps_r K V N 0) ((ob_place y), (ob_top y), (ob_held y), (ob_depth y), (ob_ended y), (ob_endTarget y), (ob_endKind y), (ob_endWorth y), (ob_steps y), (ob_says y), (ob_result y), (ob_thrown y), (ob_over y), (ob_kind y), up, (ob_length y), (ob_value y), bl, op, (ob_token y), (ob_height y), (ob_target y), (ob_phase y), (ob_how y), (ob_kinds y), (ob_worth y), (ob_values y), (ob_variables y), (ob_begun y), (ob_output y))) : wpY_shape post ((ob_place y), (ob_top y), (ob_held y), (ob_depth y), (ob_ended y), (ob_endTarget y), (ob_endKind y), (ob_endWorth y), (ob_steps y), (ob_says y), (ob_result y), (ob_thrown y), (ob_over y), (ob_kind y), (ob_up y), (ob_length y), (ob_value y), (ob_below y), (ob_open y), (ob_token y), (ob_height y), (ob_target y), (ob_phase y), (ob_how y), (ob_kinds y), (ob_worth y), (ob_values y), (ob_variables y), (ob_begun y), (ob_output y)) := by
  refine nm_r (e' := upd (ob_open y) 0 (-1)) rfl ⟨N + 1, ?_⟩
  exact ps_Y11 D N 0 (upd (ob_open y) 0 (-1)) (ob_up y) (ob_below y) (by omega) (by simp [ps_st]) ⟨pk_us, trivial⟩ (fun j hj => by omega) ⟨fun _ _ => rfl, fun _ _ => rfl⟩ KK
theorem df_khr {up bl op len : Nat → Int32} {pl : Int32} {g : Nat} (hg : g < 4) (R : ps_rows y up bl) (hl : len = upd (ob_length y) 4 0) : df_kh y (pl, (ob_top y), (ob_held y), (ob_depth y), (ob_ended y), (ob_endTarget y), (ob_endKind y), (ob_endWorth y), (ob_steps y), (ob_says y), (ob_result y), (ob_thrown y), (ob_over y), (ob_kind y), up, len, (ob_value y), bl, op, (ob_token y), (ob_height y), (ob_target y), (ob_phase y), (ob_how y), (ob_kinds y), (ob_worth y), (ob_values y), (ob_variables y), (ob_begun y), (ob_output y)) g := by
  refine ⟨?_, fun i hi => ⟨rfl, rfl, R.1 _ (by omega)⟩, fun i hi => R.2 _ (by omega)⟩
  show len g = _
  rw [hl]; exact pk_un (by omega)
theorem df_Y1 (D : oy_dr y K V N) (hf : f < 4) {j : Nat} (hj : j ≤ 40) (hr : ps_r K V N 0 = nI j)
    (K1 : ∀ v, df_ky y v → ob_place v = nI j → (∀ g, g < 4 → df_kh y v g) → post 1 v) : wpY_define post ((ob_place y), (ob_top y), (ob_held y), (ob_depth y), (ob_ended y), (ob_endTarget y), (ob_endKind y), (ob_endWorth y), (ob_steps y), (ob_says y), (ob_result y), (ob_thrown y), (ob_over y), (ob_kind y), (ob_up y), (ob_length y), (ob_value y), (ob_below y), (ob_open y), (ob_token y), (ob_height y), (ob_target y), (ob_phase y), (ob_how y), (ob_kinds y), (ob_worth y), (ob_values y), (ob_variables y), (ob_begun y), (ob_output y)) (nI f) := by
  refine br_f (df_nn (by omega)) (br_t ?_ (br_t rfl (df_sh D (fun op up bl U R => ?_))))
  · exact nI_lt (a := f) (b := 4) hf (by omega)
  · rw [hr]
    refine br_t (Int32.not_lt.mp (df_nn (by omega))) (br_f (by decide) ⟨1, br_f (by decide) (br_f (by decide) (br_f (by decide) (nm_r (e' := upd (ob_length y) 4 0) rfl ?_)))⟩)
    exact K1 _ ⟨(pk_us : upd (ob_length y) 4 (0 : Int32) 4 = 0), rfl, rfl, rfl, rfl, rfl⟩ rfl (fun g hg => df_khr hg R rfl)
theorem df_Y2 {B : Nat → Nat} (D : oy_dr y K V N) (hf : f < 4) (WT : ot_WT K V (ps_C B) (fun j => ps_Q K V j j) B N) (CH : ∀ i o, i < N → o < ot_np (K i) (V i) → ∃ l, ps_st K V (ps_C B i o) = some (i, o) :: l) (OK : ps_ok K V N) (hr : ps_r K V N 0 = -1)
    (K2 : ∀ j, j ≤ 40 → ps_b K V (fun j => ps_Q K V j j) N 0 = nI j → ∀ v, df_ky y v → ob_place v = nI j → (∀ g, g < 4 → df_kh y v g) → post 2 v)
    (K3 : ps_b K V (fun j => ps_Q K V j j) N 0 = -1 → ∀ v, df_ky y v → ob_place v = -1 → (∀ g, g < 4 → g ≠ f → df_kh y v g) → ob_length v f = nI N → (∀ i, i < N → ob_kind v (40 * f + i) = nI (K i) ∧ ob_value v (40 * f + i) = V i ∧ (∀ o, o < ot_np (K i) (V i) → ob_below v (4 * (40 * f + i) + o) = nI (ps_C B i o)) ∧ ob_up v (40 * f + i) = oy_pu (ps_Q K V i i)) → post 0 v) : wpY_define post ((ob_place y), (ob_top y), (ob_held y), (ob_depth y), (ob_ended y), (ob_endTarget y), (ob_endKind y), (ob_endWorth y), (ob_steps y), (ob_says y), (ob_result y), (ob_thrown y), (ob_over y), (ob_kind y), (ob_up y), (ob_length y), (ob_value y), (ob_below y), (ob_open y), (ob_token y), (ob_height y), (ob_target y), (ob_phase y), (ob_how y), (ob_kinds y), (ob_worth y), (ob_values y), (ob_variables y), (ob_begun y), (ob_output y)) (nI f) := by
  have hN := WT.2.1
  refine br_f (df_nn (by omega)) (br_t ?_ (br_t rfl (df_sh D (fun op up bl U R => ?_))))
  · exact nI_lt (a := f) (b := 4) hf (by omega)
  · have U := U hr
    have UP : ∀ j, j < N → up (160 + j) = oy_pu (ps_Q K V j j) := by
      intro j hj
      obtain ⟨s, l, h1, _⟩ := OK.1 j hj
      rw [(U j hj s l h1).1, df_pu h1]
    rw [hr]
    refine br_f (by decide) (br_t rfl ⟨N + 1, ?_⟩)
    refine ps_U2 (y := ((-1), (ob_top y), (ob_held y), (ob_depth y), (ob_ended y), (ob_endTarget y), (ob_endKind y), (ob_endWorth y), (ob_steps y), (ob_says y), (ob_result y), (ob_thrown y), (ob_over y), (ob_kind y), up, (ob_length y), (ob_value y), bl, op, (ob_token y), (ob_height y), (ob_target y), (ob_phase y), (ob_how y), (ob_kinds y), (ob_worth y), (ob_values y), (ob_variables y), (ob_begun y), (ob_output y))) D WT (fun j hj => df_pv CH j j (Nat.le_refl _) hj) UP N 0 (by omega) ?_
    rcases ps_b_some (K := K) (V := V) (Q := fun j => ps_Q K V j j) N 0 with ⟨a, b⟩ | ⟨j, a1, a2, a3, a4, a5, a6⟩
    · rw [a]
      refine br_f (by decide) ⟨41, df_58 hf (fun kd up2 vl bl2 I1 I2 I3 => ?_) 40 0 _ _ _ _ (by omega) (fun j hj => by omega) (fun j hj => ⟨rfl, rfl, rfl⟩) (fun j hj => rfl)⟩
      have e4 : ob_length y 4 = nI N := D.2.1
      refine br_t rfl ⟨vp_in_nI (by omega) (by omega), nm_r (e' := upd (ob_length y) f (nI N)) ?_ (nm_r (e' := upd (upd (ob_length y) f (nI N)) 4 0) rfl ?_)⟩
      · show upd (ob_length y) (nI f).toNatClampNeg (vp_nar .byte (ob_length y 4)) = _
        rw [nI_clamp (by omega), e4, ok_by' (by omega)]
      · refine K3 a _ ⟨(pk_us : upd (upd (ob_length y) f (nI N)) 4 (0 : Int32) 4 = 0), rfl, rfl, rfl, rfl, rfl⟩ rfl (fun g hg hne => ⟨?_, fun i hi => ?_, fun i hi => ?_⟩) ?_ (fun i hi => ?_)
        · show upd (upd (ob_length y) f (nI N)) 4 0 g = _
          rw [pk_un (by omega), pk_un hne]
        · obtain ⟨b1, b2, b3⟩ := I2 (40 * g + i) (by omega)
          exact ⟨b1, b2, b3.trans (R.1 _ (by omega))⟩
        · exact (I3 (160 * g + i) (by omega)).trans (R.2 _ (by omega))
        · show upd (upd (ob_length y) f (nI N)) 4 0 f = _
          rw [pk_un (by omega), pk_us]
        · obtain ⟨b1, b2, b3, b4⟩ := I1 i (by omega)
          obtain ⟨ok, d1, d2⟩ := D.2.2 i hi
          have k22 := ok.1
          refine ⟨b1.trans ?_, b2.trans d2, fun o ho => ?_, b3.trans ?_⟩
          · show vp_nar .byte (ob_kind y (160 + i)) = _
            rw [d1]; exact ok_by' (by omega)
          · have n4 := ps_np4 ok
            obtain ⟨l, hl⟩ := CH i o hi ho
            have cN := ((WT.2.2.2.2.2 i hi).2.1 o ho).2.1
            have q := (U _ cN _ _ hl).2 i o rfl
            have b5 := b4 o (by omega)
            rw [show 160 * f + 4 * i + o = 4 * (40 * f + i) + o by omega, show 640 + 4 * i + o = 640 + (4 * i + o) by omega, q, ok_sh' (by omega)] at b5
            exact b5
          · rw [UP i hi]
            obtain ⟨s, l, h1, _⟩ := OK.1 i hi
            rw [df_pu h1]
            cases s with
            | none => rfl
            | some e =>
              obtain ⟨t, o⟩ := e
              have := (ps_st_mem (K := K) (V := V) i t o (by rw [h1]; exact List.mem_cons_self)).1
              exact ok_by' (by omega)
    · rw [a6]
      refine br_t (Int32.not_lt.mp (df_nn (by omega))) ⟨1, br_f (by decide) (br_f (by decide) (br_f (by decide) (nm_r (e' := upd (ob_length y) 4 0) rfl ?_)))⟩
      exact K2 j (by omega) a6 _ ⟨(pk_us : upd (ob_length y) 4 (0 : Int32) 4 = 0), rfl, rfl, rfl, rfl, rfl⟩ rfl (fun g hg => df_khr hg R rfl)
end
end
section
/-! ===== define ===== -/
def df_up {α : Type} (F : Nat → α) (f : Nat) (x : α) : Nat → α := fun g => if g = f then x else F g
theorem df_ups {α : Type} {F : Nat → α} {f : Nat} {x : α} : df_up F f x f = x := if_pos rfl
theorem df_upn {α : Type} {F : Nat → α} {f g : Nat} {x : α} (h : g ≠ f) : df_up F f x g = F g := if_neg h
section
variable {K K' : Nat → Nat → Nat} {V V' : Nat → Nat → Int32} {C C' : Nat → Nat → Nat → Nat} {L L' : Nat → Nat} {Q Q' : Nat → Nat → oc_P} {B B' : Nat → Nat → Nat} {g : Nat}
theorem ox_PR_ext {z : SX} (h1 : K' g = K g) (h2 : V' g = V g) (h3 : C' g = C g) (h4 : L' g = L g) (h5 : Q' g = Q g) (h6 : B' g = B g) (P : ox_PR z K V C L Q B g) : ox_PR z K' V' C' L' Q' B' g := by
  unfold ox_PR at P ⊢; rw [h1, h2, h3, h4, h5, h6]; exact P
theorem oy_PR_ext {y : SY} (h1 : K' g = K g) (h2 : V' g = V g) (h3 : C' g = C g) (h4 : L' g = L g) (h5 : Q' g = Q g) (h6 : B' g = B g) (P : oy_PR y K V C L Q B g) : oy_PR y K' V' C' L' Q' B' g := by
  unfold oy_PR at P ⊢; rw [h1, h2, h3, h4, h5, h6]; exact P
end
theorem ok_same {u u' : SX} {v v' : SY} (I : ok_R u v) (hx : df_kx u u') (hy : df_ky v v') (hp : oa_place u' = ob_place v') :
    (oa_place u' = ob_place v' ∧ oa_steps u' = ob_steps v' ∧ oa_says u' = ob_says v' ∧ oa_given u' = ob_result v' ∧ oa_thrown u' = ob_thrown v' ∧ oa_output u' = ob_output v') ∧
    (∃ N : Nat, N ≤ 40 ∧ oa_tokens u' = nI N ∧ ob_length v' 4 = nI N ∧ ∀ i, i < N → ∃ k w, ot_ok k w ∧ oa_tok u' i = nI k ∧ ob_kind v' (160 + i) = nI k ∧ oa_num u' i = w ∧ ob_value v' (160 + i) = w) := by
  obtain ⟨⟨e1, e2, e3, e4, e5, e6⟩, _⟩ := I
  obtain ⟨x0, x1, x2, x3, x4, x5⟩ := hx
  obtain ⟨y0, y1, y2, y3, y4, y5⟩ := hy
  refine ⟨⟨hp, ?_, ?_, ?_, ?_, ?_⟩, 0, by omega, x0, y0, fun i hi => by omega⟩
  · rw [x1, y1, e2]
  · rw [x2, y2, e3]
  · rw [x3, y3, e4]
  · rw [x4, y4, e5]
  · rw [x5, y5, e6]
theorem ok_fail {u u' : SX} {v v' : SY} (I : ok_R u v) (hx : df_kx u u') (hy : df_ky v v') (hp : oa_place u' = ob_place v') (gx : ∀ g, g < 4 → df_kg u u' g) (gy : ∀ g, g < 4 → df_kh v v' g) : ok_R u' v' := by
  obtain ⟨a, b⟩ := ok_same I hx hy hp
  obtain ⟨_, _, K, V, C, L, Q, B, PR⟩ := I
  refine ⟨a, b, K, V, C, L, Q, B, fun g hg => ?_⟩
  obtain ⟨q1, q2, q3, q4, q5, q6⟩ := gx g hg
  exact ⟨ox_PR_cg q1 q2 q3 q4 q5 q6 (PR g hg).1, oy_PR_cg (gy g hg) (PR g hg).2⟩
theorem ok_define {u : SX} {v : SY} (I : ok_R u v) (v1 : Int32) : wpX_define (fun r u' => wpY_define (fun r' v' => r' = r ∧ ok_R u' v') v v1) u v1 := by
  have I0 := I
  obtain ⟨E, ⟨N, hN, tX, tY, DD⟩, K, V, C, L, Q, B, PR⟩ := I
  rcases pk_ix v1 (n := 4) (by omega) with h | h | ⟨f, hf, rfl⟩
  · unfold wpX_define wpY_define
    exact br_t h (br_t rfl (br_t h (br_f (by decide) ⟨rfl, I0⟩)))
  · have hn : ¬ v1 < 0 := fun e => by
      have a := Int32.lt_iff_toInt_lt.mp e
      have b := Int32.le_iff_toInt_le.mp h
      have c : (nI 4).toInt = 4 := by decide
      have d : (0 : Int32).toInt = 0 := by decide
      omega
    have hn2 : ¬ v1 < 4 := Int32.not_lt.mpr h
    unfold wpX_define wpY_define
    exact br_f hn (br_t h (br_t rfl (br_f hn (br_f hn2 (br_f (by decide) ⟨rfl, I0⟩)))))
  · have ex : ∀ i, ∃ q : Nat × Int32, i < N → ot_ok q.1 q.2 ∧ oa_tok u i = nI q.1 ∧ ob_kind v (160 + i) = nI q.1 ∧ oa_num u i = q.2 ∧ ob_value v (160 + i) = q.2 := by
      intro i
      by_cases h : i < N
      · obtain ⟨k, w, h1⟩ := DD i h; exact ⟨(k, w), fun _ => h1⟩
      · exact ⟨(0, 0), fun e => absurd e h⟩
    obtain ⟨F, HF⟩ := Classical.skolem.mp ex
    obtain ⟨Kd, hKd⟩ : ∃ Kd : Nat → Nat, Kd = fun i => (F i).1 := ⟨_, rfl⟩
    obtain ⟨Vd, hVd⟩ : ∃ Vd : Nat → Int32, Vd = fun i => (F i).2 := ⟨_, rfl⟩
    have DX : om_dr u Kd Vd N := by
      subst hKd hVd
      exact ⟨hN, fun t ht => ⟨(HF t ht).1, (HF t ht).2.1, (HF t ht).2.2.2.1⟩⟩
    have DY : oy_dr v Kd Vd N := by
      subst hKd hVd
      exact ⟨hN, tY, fun t ht => ⟨(HF t ht).1, (HF t ht).2.2.1, (HF t ht).2.2.2.2⟩⟩
    have ne : ∀ j : Nat, j ≤ 40 → nI j = -1 → False := by
      intro j hj e
      have a : (nI j).toInt = (-1 : Int32).toInt := by rw [e]
      rw [nI_toInt (by omega)] at a
      have b : (-1 : Int32).toInt = -1 := by decide
      omega
    rcases df_rc Kd Vd N 0 with hr | ⟨j, hj, hr⟩
    · obtain ⟨o1, o2⟩ := ps_r_ok (K := Kd) (V := Vd) hN N 0 (by omega) hr
      have OK : ps_ok Kd Vd N := ⟨fun j hj => o1 j (by omega) hj, o2⟩
      obtain ⟨Bd, WT, CH⟩ := ps_tree OK hN (fun i hi => (DX.2 i hi).1)
      refine df_X2 (z := u) (K := Kd) (V := Vd) DX tX WT hf hr (fun j u' hj hk hu hb kx px gx => ?_) (fun AB u' kx px gx th A3 TB => ?_)
      · have pb : ps_b Kd Vd (fun j => ps_Q Kd Vd j j) N 0 = nI j := by
          rcases ps_b_some (K := Kd) (V := Vd) (Q := fun j => ps_Q Kd Vd j j) N 0 with ⟨a, b⟩ | ⟨i, a1, a2, a3, a4, a5, a6⟩
          · exact absurd hu (b j (by omega) (by omega) hk)
          · rcases Nat.lt_trichotomy i j with g | g | g
            · exact absurd a4 (hb i g a3)
            · rw [a6, g]
            · exact absurd hu (a5 j (by omega) g hk)
        refine df_Y2 (y := v) (K := Kd) (V := Vd) (N := N) DY hf WT CH OK hr (fun j' hj' hb' v' ky py gy => ⟨rfl, ?_⟩) (fun e => absurd (pb.symm.trans e) (fun q => ne j (by omega) q))
        exact ok_fail I0 kx ky (by rw [px, py, ← hb', pb]) gx gy
      · have pb : ps_b Kd Vd (fun j => ps_Q Kd Vd j j) N 0 = -1 := by
          rcases ps_b_some (K := Kd) (V := Vd) (Q := fun j => ps_Q Kd Vd j j) N 0 with ⟨a, b⟩ | ⟨i, a1, a2, a3, a4, a5, a6⟩
          · exact a
          · exact absurd a4 (AB i (by omega) a3)
        refine df_Y2 (y := v) (K := Kd) (V := Vd) (N := N) DY hf WT CH OK hr (fun j' hj' hb' => absurd (hb'.symm.trans pb) (fun q => ne j' hj' q)) (fun _ v' ky py gy ln RW => ⟨rfl, ?_⟩)
        obtain ⟨a, b⟩ := ok_same I0 kx ky (by rw [px, py])
        have n0 := WT.1
        refine ⟨a, b, df_up K f Kd, df_up V f Vd, df_up C f (ps_C Bd), df_up L f N, df_up Q f (fun j => ps_Q Kd Vd j j), df_up B f Bd, fun g hg => ?_⟩
        by_cases e : g = f
        · subst e
          refine ⟨?_, ?_⟩
          · unfold ox_PR
            rw [df_ups, df_ups, df_ups, df_ups, df_ups, df_ups]
            refine ⟨⟨fun q => ?_, fun q => absurd q (by omega)⟩, fun _ => ⟨WT, AB, A3, (bd_root WT).2.2.2, TB⟩⟩
            rw [th] at q; exact absurd q (by decide)
          · unfold oy_PR
            rw [df_ups, df_ups, df_ups, df_ups, df_ups, df_ups]
            exact ⟨ln, hN, fun _ => ⟨WT, AB, RW⟩⟩
        · obtain ⟨q1, q2, q3, q4, q5, q6⟩ := gx g hg e
          exact ⟨ox_PR_ext (df_upn e) (df_upn e) (df_upn e) (df_upn e) (df_upn e) (df_upn e) (ox_PR_cg q1 q2 q3 q4 q5 q6 (PR g hg).1), oy_PR_ext (df_upn e) (df_upn e) (df_upn e) (df_upn e) (df_upn e) (df_upn e) (oy_PR_cg (gy g hg e) (PR g hg).2)⟩
    · refine df_X1 (z := u) (K := Kd) (V := Vd) DX tX hf (by rw [hr]; exact df_nn (by omega)) (fun u' kx px gx => ?_)
      refine df_Y1 (y := v) (K := Kd) (V := Vd) (N := N) DY hf (by omega) hr (fun v' ky py gy => ⟨rfl, ?_⟩)
      exact ok_fail I0 kx ky (by rw [px, py, hr]) gx gy
end
section
/-! ===== token ===== -/
theorem tk_am {P : Int32 → Prop} {x : Int32} {n : Nat} (hn : n < 2 ^ 31) (H1 : ∀ j, j < n → x = nI j → P 1) (H0 : (∀ j, j < n → x = nI j → False) → P 0) : wpX_among P x (nI n) := by
  rcases pk_ix x (n := n) hn with h | h | ⟨j, hj, e⟩
  · exact br_t h (H0 (fun j hj e => by rw [e] at h; exact df_nn (by omega) h))
  · have hx := Int32.le_iff_toInt_le.mp h
    rw [nI_toInt hn] at hx
    refine br_f (fun e => ?_) (br_t h (H0 (fun j hj e => ?_)))
    · have a := Int32.lt_iff_toInt_lt.mp e
      have d : (0 : Int32).toInt = 0 := by decide
      omega
    · rw [e, nI_toInt (by omega)] at hx; omega
  · rw [e]; exact br_f (df_nn (by omega)) (br_f (nI_ge hj (by omega)) (H1 j hj e))
theorem tk_out {P : Int32 → Prop} {x : Int32} {n : Nat} (hn : n < 2 ^ 31) (H1 : ∀ j, j < n → x = nI j → P 0) (H0 : (∀ j, j < n → x = nI j → False) → P 1) : wpY_out P x (nI n) := by
  rcases pk_ix x (n := n) hn with h | h | ⟨j, hj, e⟩
  · exact br_t h (H0 (fun j hj e => by rw [e] at h; exact df_nn (by omega) h))
  · have hx := Int32.le_iff_toInt_le.mp h
    rw [nI_toInt hn] at hx
    refine br_f (fun e => ?_) (br_f (Int32.not_lt.mpr h) (H0 (fun j hj e => ?_)))
    · have a := Int32.lt_iff_toInt_lt.mp e
      have d : (0 : Int32).toInt = 0 := by decide
      omega
    · rw [e, nI_toInt (by omega)] at hx; omega
  · rw [e]; exact br_f (df_nn (by omega)) (br_t (nI_lt hj (by omega)) (H1 j hj e))
theorem tk_k22 {k : Nat} (h : k < 22) (h9 : k ≠ 9) : (k = 1 ∨ k = 10) ∨ (k = 8 ∨ k = 13 ∨ k = 16 ∨ k = 19 ∨ k = 20) ∨ k = 17 ∨ k = 18 ∨ (k = 0 ∨ k = 2 ∨ k = 3 ∨ k = 4 ∨ k = 5 ∨ k = 6 ∨ k = 7 ∨ k = 11 ∨ k = 12 ∨ k = 14 ∨ k = 15 ∨ k = 21) := by omega
theorem tk_7 {j : Nat} (h : j < 48) : (nI j &&& 7) = nI (j % 8) := by
  have : ∀ j : Fin 48, (nI j.val &&& 7) = nI (j.val % 8) := by decide
  exact this ⟨j, h⟩
theorem tk_d17 {w : Int32} : (w = 1 ∨ w = 2 ∨ w = 4 ∨ w = 5 ∨ w = 6) ↔ ∃ j, j < 7 ∧ w = nI j ∧ j ≠ 0 ∧ j ≠ 3 := by
  constructor
  · rintro (h | h | h | h | h)
    · exact ⟨1, by decide, h, by decide, by decide⟩
    · exact ⟨2, by decide, h, by decide, by decide⟩
    · exact ⟨4, by decide, h, by decide, by decide⟩
    · exact ⟨5, by decide, h, by decide, by decide⟩
    · exact ⟨6, by decide, h, by decide, by decide⟩
  · rintro ⟨j, h1, h2, h3, h4⟩
    have : j = 1 ∨ j = 2 ∨ j = 4 ∨ j = 5 ∨ j = 6 := by omega
    rcases this with e | e | e | e | e <;> subst e
    · exact Or.inl h2
    · exact Or.inr (Or.inl h2)
    · exact Or.inr (Or.inr (Or.inl h2))
    · exact Or.inr (Or.inr (Or.inr (Or.inl h2)))
    · exact Or.inr (Or.inr (Or.inr (Or.inr h2)))
theorem tk_Y {P : Int32 → Prop} {k : Nat} {w : Int32} (hk : k < 22) (h9 : k ≠ 9) (H1 : ot_ok k w → P 1) (H0 : ¬ ot_ok k w → P 0) : wpY_fits P (nI k) w := by
  rcases tk_k22 hk h9 with h | h | h | h | h
  · have G : wY_fits_96 P w := by
      refine tk_out (n := 6) (by omega) (fun j hj e => br_t rfl (H1 ⟨hk, h9, fun _ => ⟨j, hj, e⟩, fun g => by omega, fun g => by omega, fun g => by omega⟩)) (fun q => br_f (by decide) (H0 (fun o => ?_)))
      obtain ⟨j, hj, e⟩ := o.2.2.1 h
      exact q j hj e
    clear H1 H0
    rcases h with e | e <;> subst e
    all_goals repeat (first | exact G | refine br_t (by decide) ?_ | refine br_f (by decide) ?_)
  · have G : wY_fits_111 P w := by
      refine tk_out (n := 4) (by omega) (fun j hj e => br_t rfl (H1 ⟨hk, h9, fun g => by omega, fun _ => ⟨j, hj, e⟩, fun g => by omega, fun g => by omega⟩)) (fun q => br_f (by decide) (H0 (fun o => ?_)))
      obtain ⟨j, hj, e⟩ := o.2.2.2.1 h
      exact q j hj e
    clear H1 H0
    rcases h with e | e | e | e | e <;> subst e
    all_goals repeat (first | exact G | refine br_t (by decide) ?_ | refine br_f (by decide) ?_)
  · subst h
    have n17 : ∀ {j : Nat}, w = nI j → (j = 0 ∨ j = 3 ∨ (7 ≤ j ∧ j < 2 ^ 31)) → ¬ ot_ok 17 w := by
      intro j e h1 o
      obtain ⟨i, i1, i2, i3, i4⟩ := tk_d17.mp (o.2.2.2.2.1 rfl)
      rw [e] at i2
      have := (nI_eq (a := j) (b := i) (by omega) (by omega)).mp i2
      omega
    have G : (w ≤ 0 → P 0) ∧ (¬ w ≤ 0 → (7 ≤ w → P 0) ∧ (¬ 7 ≤ w → (w = 3 → P 0) ∧ (¬ w = 3 → P 1))) := by
      have nok : (∀ j, j < 7 → w = nI j → False) → ¬ ot_ok 17 w := fun q o => by
        obtain ⟨i, i1, i2, i3, i4⟩ := tk_d17.mp (o.2.2.2.2.1 rfl)
        exact q i i1 i2
      rcases pk_ix w (n := 7) (by omega) with h | h | ⟨j, hj, e⟩
      · have hx := Int32.lt_iff_toInt_lt.mp h
        have d : (0 : Int32).toInt = 0 := by decide
        refine br_t (Int32.le_iff_toInt_le.mpr (by omega)) (H0 (nok (fun j hj e => ?_)))
        rw [e, nI_toInt (by omega)] at hx; omega
      · have hx := Int32.le_iff_toInt_le.mp h
        rw [nI_toInt (by omega)] at hx
        have d : (0 : Int32).toInt = 0 := by decide
        refine br_f (fun q => ?_) (br_t h (H0 (nok (fun j hj e => ?_))))
        · have := Int32.le_iff_toInt_le.mp q; omega
        · rw [e, nI_toInt (by omega)] at hx; omega
      · by_cases j0 : j = 0
        · subst j0; exact br_t (by rw [e]; decide) (H0 (n17 e (by omega)))
        · refine br_f (by rw [e]; exact nI_nle (by omega) (by omega)) (br_f (by rw [e]; exact nI_ge (b := 7) hj (by omega)) ?_)
          by_cases j3 : j = 3
          · subst j3; exact br_t e (H0 (n17 e (by omega)))
          · refine br_f (fun q => j3 ?_) (H1 ⟨hk, h9, fun g => by omega, fun g => by omega, fun _ => tk_d17.mpr ⟨j, hj, e, j0, j3⟩, fun g => by omega⟩)
            rw [e] at q
            exact (nI_eq (a := j) (b := 3) (by omega) (by omega)).mp q
    clear H1 H0
    repeat (first | exact G | refine br_t (by decide) ?_ | refine br_f (by decide) ?_)
  · subst h
    have G : wpY_out (fun r_28 => (((r_28 = 0 → (((5 ≤ (w &&& 7) → (P 0)) ∧ (¬ 5 ≤ (w &&& 7) → (P 1))))) ∧ (¬ r_28 = 0 → (P 0))))) w 48 := by
      refine tk_out (n := 48) (by omega) (fun j hj e => br_t rfl ?_) (fun q => br_f (by decide) (H0 (fun o => ?_)))
      · by_cases c : j % 8 < 5
        · exact br_f (by rw [e, tk_7 hj]; exact nI_ge (b := 5) c (by omega)) (H1 ⟨hk, h9, fun g => by omega, fun g => by omega, fun g => by omega, fun _ => ⟨j, hj, c, e⟩⟩)
        · refine br_t (by rw [e, tk_7 hj]; exact nI_le (a := 5) (by omega) (by omega)) (H0 (fun o => ?_))
          obtain ⟨i, i1, i2, i3⟩ := o.2.2.2.2.2 rfl
          rw [e] at i3
          have := (nI_eq (a := j) (b := i) (by omega) (by omega)).mp i3
          subst this; exact c i2
      · obtain ⟨i, i1, i2, i3⟩ := o.2.2.2.2.2 rfl
        exact q i i1 i3
    clear H1 H0
    repeat (first | exact G | refine br_t (by decide) ?_ | refine br_f (by decide) ?_)
  · have G := H1 ⟨hk, h9, fun g => by omega, fun g => by omega, fun g => by omega, fun g => by omega⟩
    clear H1 H0
    rcases h with e | e | e | e | e | e | e | e | e | e | e | e <;> subst e
    all_goals repeat (first | exact G | refine br_t (by decide) ?_ | refine br_f (by decide) ?_)
end
section
/-! ===== token, X; the join ===== -/
theorem tk_X {post : Int32 → SX → Prop} {v_tokens v_place v_here v_words v_depth v_working v_top v_steps v_says v_kind v_value v_over v_given v_thrown : Int32} {v_tok v_need v_num v_op v_x v_y v_from v_to v_handler v_caught v_there v_open v_done v_word v_start v_ends v_last v_hand v_bodyEnd v_local v_stack v_back v_floor v_running v_output : Nat → Int32} {k : Nat} {w : Int32} (hk : k < 22) (h9 : k ≠ 9) (H1 : ot_ok k w → wX_token_141 post (nI k) w 1 v_tokens v_place v_here v_words v_depth v_working v_top v_steps v_says v_kind v_value v_over v_given v_thrown v_tok v_need v_num v_op v_x v_y v_from v_to v_handler v_caught v_there v_open v_done v_word v_start v_ends v_last v_hand v_bodyEnd v_local v_stack v_back v_floor v_running v_output) (H0 : ¬ ot_ok k w → wX_token_141 post (nI k) w 0 v_tokens v_place v_here v_words v_depth v_working v_top v_steps v_says v_kind v_value v_over v_given v_thrown v_tok v_need v_num v_op v_x v_y v_from v_to v_handler v_caught v_there v_open v_done v_word v_start v_ends v_last v_hand v_bodyEnd v_local v_stack v_back v_floor v_running v_output) :
    ((nI k = 1 → wX_token_39 post (nI k) w v_tokens v_place v_here v_words v_depth v_working v_top v_steps v_says v_kind v_value v_over v_given v_thrown v_tok v_need v_num v_op v_x v_y v_from v_to v_handler v_caught v_there v_open v_done v_word v_start v_ends v_last v_hand v_bodyEnd v_local v_stack v_back v_floor v_running v_output) ∧ (¬ nI k = 1 → ((nI k = 10 → wX_token_39 post (nI k) w v_tokens v_place v_here v_words v_depth v_working v_top v_steps v_says v_kind v_value v_over v_given v_thrown v_tok v_need v_num v_op v_x v_y v_from v_to v_handler v_caught v_there v_open v_done v_word v_start v_ends v_last v_hand v_bodyEnd v_local v_stack v_back v_floor v_running v_output) ∧ (¬ nI k = 10 → wX_token_46 post (nI k) w 1 v_tokens v_place v_here v_words v_depth v_working v_top v_steps v_says v_kind v_value v_over v_given v_thrown v_tok v_need v_num v_op v_x v_y v_from v_to v_handler v_caught v_there v_open v_done v_word v_start v_ends v_last v_hand v_bodyEnd v_local v_stack v_back v_floor v_running v_output)))) := by
  rcases tk_k22 hk h9 with h | h | h | h | h
  · have W : ∀ x3, wX_token_141 post (nI k) w x3 v_tokens v_place v_here v_words v_depth v_working v_top v_steps v_says v_kind v_value v_over v_given v_thrown v_tok v_need v_num v_op v_x v_y v_from v_to v_handler v_caught v_there v_open v_done v_word v_start v_ends v_last v_hand v_bodyEnd v_local v_stack v_back v_floor v_running v_output → wX_token_46 post (nI k) w x3 v_tokens v_place v_here v_words v_depth v_working v_top v_steps v_says v_kind v_value v_over v_given v_thrown v_tok v_need v_num v_op v_x v_y v_from v_to v_handler v_caught v_there v_open v_done v_word v_start v_ends v_last v_hand v_bodyEnd v_local v_stack v_back v_floor v_running v_output := by
      intro x3 G
      clear H1 H0
      rcases h with e | e <;> subst e
      all_goals repeat (first | exact G | refine br_t (by decide) ?_ | refine br_f (by decide) ?_)
    have G : wX_token_39 post (nI k) w v_tokens v_place v_here v_words v_depth v_working v_top v_steps v_says v_kind v_value v_over v_given v_thrown v_tok v_need v_num v_op v_x v_y v_from v_to v_handler v_caught v_there v_open v_done v_word v_start v_ends v_last v_hand v_bodyEnd v_local v_stack v_back v_floor v_running v_output := by
      refine tk_am (n := 6) (by omega) (fun j hj e => W 1 (H1 ⟨hk, h9, fun _ => ⟨j, hj, e⟩, fun g => by omega, fun g => by omega, fun g => by omega⟩)) (fun q => W 0 (H0 (fun o => ?_)))
      obtain ⟨j, hj, e⟩ := o.2.2.1 h
      exact q j hj e
    clear H1 H0 W
    rcases h with e | e <;> subst e
    all_goals repeat (first | exact G | refine br_t (by decide) ?_ | refine br_f (by decide) ?_)
  · have W : ∀ x3, wX_token_141 post (nI k) w x3 v_tokens v_place v_here v_words v_depth v_working v_top v_steps v_says v_kind v_value v_over v_given v_thrown v_tok v_need v_num v_op v_x v_y v_from v_to v_handler v_caught v_there v_open v_done v_word v_start v_ends v_last v_hand v_bodyEnd v_local v_stack v_back v_floor v_running v_output → wX_token_82 post (nI k) w x3 v_tokens v_place v_here v_words v_depth v_working v_top v_steps v_says v_kind v_value v_over v_given v_thrown v_tok v_need v_num v_op v_x v_y v_from v_to v_handler v_caught v_there v_open v_done v_word v_start v_ends v_last v_hand v_bodyEnd v_local v_stack v_back v_floor v_running v_output := by
      intro x3 G
      clear H1 H0
      rcases h with e | e | e | e | e <;> subst e
      all_goals repeat (first | exact G | refine br_t (by decide) ?_ | refine br_f (by decide) ?_)
    have G : wX_token_76 post (nI k) w v_tokens v_place v_here v_words v_depth v_working v_top v_steps v_says v_kind v_value v_over v_given v_thrown v_tok v_need v_num v_op v_x v_y v_from v_to v_handler v_caught v_there v_open v_done v_word v_start v_ends v_last v_hand v_bodyEnd v_local v_stack v_back v_floor v_running v_output := by
      refine tk_am (n := 4) (by omega) (fun j hj e => W 1 (H1 ⟨hk, h9, fun g => by omega, fun _ => ⟨j, hj, e⟩, fun g => by omega, fun g => by omega⟩)) (fun q => W 0 (H0 (fun o => ?_)))
      obtain ⟨j, hj, e⟩ := o.2.2.2.1 h
      exact q j hj e
    clear H1 H0 W
    rcases h with e | e | e | e | e <;> subst e
    all_goals repeat (first | exact G | refine br_t (by decide) ?_ | refine br_f (by decide) ?_)
  · subst h
    have W : ∀ x3, wX_token_141 post (nI 17) w x3 v_tokens v_place v_here v_words v_depth v_working v_top v_steps v_says v_kind v_value v_over v_given v_thrown v_tok v_need v_num v_op v_x v_y v_from v_to v_handler v_caught v_there v_open v_done v_word v_start v_ends v_last v_hand v_bodyEnd v_local v_stack v_back v_floor v_running v_output → wX_token_112 post (nI 17) w x3 v_tokens v_place v_here v_words v_depth v_working v_top v_steps v_says v_kind v_value v_over v_given v_thrown v_tok v_need v_num v_op v_x v_y v_from v_to v_handler v_caught v_there v_open v_done v_word v_start v_ends v_last v_hand v_bodyEnd v_local v_stack v_back v_floor v_running v_output := fun x3 G => br_f (by decide) G
    have n17 : ∀ {j : Nat}, w = nI j → (j = 0 ∨ j = 3) → ¬ ot_ok 17 w := by
      intro j e h1 o
      obtain ⟨i, i1, i2, i3, i4⟩ := tk_d17.mp (o.2.2.2.2.1 rfl)
      rw [e] at i2
      have := (nI_eq (a := j) (b := i) (by omega) (by omega)).mp i2
      omega
    have G : wX_token_82 post (nI 17) w 1 v_tokens v_place v_here v_words v_depth v_working v_top v_steps v_says v_kind v_value v_over v_given v_thrown v_tok v_need v_num v_op v_x v_y v_from v_to v_handler v_caught v_there v_open v_done v_word v_start v_ends v_last v_hand v_bodyEnd v_local v_stack v_back v_floor v_running v_output := by
      refine br_t rfl (tk_am (n := 7) (by omega) (fun j hj e => br_f (by decide) ?_) (fun q => br_t rfl (W 0 (H0 (fun o => ?_)))))
      · by_cases j0 : j = 0
        · subst j0; exact br_t e (W 0 (H0 (n17 e (by omega))))
        · refine br_f (fun q => j0 ?_) ?_
          · rw [e] at q; exact (nI_eq (a := j) (b := 0) (by omega) (by omega)).mp q
          · by_cases j3 : j = 3
            · subst j3; exact br_t e (W 0 (H0 (n17 e (by omega))))
            · refine br_f (fun q => j3 ?_) (W 1 (H1 ⟨hk, h9, fun g => by omega, fun g => by omega, fun _ => tk_d17.mpr ⟨j, hj, e, j0, j3⟩, fun g => by omega⟩))
              rw [e] at q; exact (nI_eq (a := j) (b := 3) (by omega) (by omega)).mp q
      · obtain ⟨i, i1, i2, i3, i4⟩ := tk_d17.mp (o.2.2.2.2.1 rfl)
        exact q i i1 i2
    clear H1 H0 W
    repeat (first | exact G | refine br_t (by decide) ?_ | refine br_f (by decide) ?_)
  · subst h
    have G : wX_token_112 post (nI 18) w 1 v_tokens v_place v_here v_words v_depth v_working v_top v_steps v_says v_kind v_value v_over v_given v_thrown v_tok v_need v_num v_op v_x v_y v_from v_to v_handler v_caught v_there v_open v_done v_word v_start v_ends v_last v_hand v_bodyEnd v_local v_stack v_back v_floor v_running v_output := by
      refine br_t rfl (tk_am (n := 48) (by omega) (fun j hj e => br_f (by decide) ?_) (fun q => br_t rfl (H0 (fun o => ?_))))
      · by_cases c : j % 8 < 5
        · exact br_f (by rw [e, tk_7 hj]; exact nI_ge (b := 5) c (by omega)) (H1 ⟨hk, h9, fun g => by omega, fun g => by omega, fun g => by omega, fun _ => ⟨j, hj, c, e⟩⟩)
        · refine br_t (by rw [e, tk_7 hj]; exact nI_le (a := 5) (by omega) (by omega)) (H0 (fun o => ?_))
          obtain ⟨i, i1, i2, i3⟩ := o.2.2.2.2.2 rfl
          rw [e] at i3
          have := (nI_eq (a := j) (b := i) (by omega) (by omega)).mp i3
          subst this; exact c i2
      · obtain ⟨i, i1, i2, i3⟩ := o.2.2.2.2.2 rfl
        exact q i i1 i3
    clear H1 H0
    repeat (first | exact G | refine br_t (by decide) ?_ | refine br_f (by decide) ?_)
  · have G := H1 ⟨hk, h9, fun g => by omega, fun g => by omega, fun g => by omega, fun g => by omega⟩
    clear H1 H0
    rcases h with e | e | e | e | e | e | e | e | e | e | e | e <;> subst e
    all_goals repeat (first | exact G | refine br_t (by decide) ?_ | refine br_f (by decide) ?_)
theorem ok_token {u : SX} {v : SY} (I : ok_R u v) (v1 w : Int32) : wpX_token (fun r u' => wpY_token (fun r' v' => r' = r ∧ ok_R u' v') v v1 w) u v1 w := by
  have I0 := I
  obtain ⟨E, ⟨N, hN, tX, tY, DD⟩, K, V, C, L, Q, B, PR⟩ := I
  show wpX_token _ ((oa_tokens u), (oa_place u), (oa_here u), (oa_words u), (oa_depth u), (oa_working u), (oa_top u), (oa_steps u), (oa_says u), (oa_kind u), (oa_value u), (oa_over u), (oa_given u), (oa_thrown u), (oa_tok u), (oa_need u), (oa_num u), (oa_op u), (oa_x u), (oa_y u), (oa_from u), (oa_to u), (oa_handler u), (oa_caught u), (oa_there u), (oa_open u), (oa_done u), (oa_word u), (oa_start u), (oa_ends u), (oa_last u), (oa_hand u), (oa_bodyEnd u), (oa_local u), (oa_stack u), (oa_back u), (oa_floor u), (oa_running u), (oa_output u)) v1 w
  unfold wpX_token
  refine tk_am (n := 22) (by omega) (fun k hk e => ?_) (fun q => ?_)
  rotate_left
  · refine br_t rfl ?_
    show wpY_token _ ((ob_place v), (ob_top v), (ob_held v), (ob_depth v), (ob_ended v), (ob_endTarget v), (ob_endKind v), (ob_endWorth v), (ob_steps v), (ob_says v), (ob_result v), (ob_thrown v), (ob_over v), (ob_kind v), (ob_up v), (ob_length v), (ob_value v), (ob_below v), (ob_open v), (ob_token v), (ob_height v), (ob_target v), (ob_phase v), (ob_how v), (ob_kinds v), (ob_worth v), (ob_values v), (ob_variables v), (ob_begun v), (ob_output v)) v1 w
    unfold wpY_token
    refine tk_out (n := 22) (by omega) (fun j hj e => (q j hj e).elim) (fun _ => ?_)
    exact br_f (by decide) ⟨rfl, I0⟩
  refine br_f (by decide) ?_
  subst e
  by_cases h9 : k = 9
  · subst h9
    refine br_t rfl ?_
    show wpY_token _ ((ob_place v), (ob_top v), (ob_held v), (ob_depth v), (ob_ended v), (ob_endTarget v), (ob_endKind v), (ob_endWorth v), (ob_steps v), (ob_says v), (ob_result v), (ob_thrown v), (ob_over v), (ob_kind v), (ob_up v), (ob_length v), (ob_value v), (ob_below v), (ob_open v), (ob_token v), (ob_height v), (ob_target v), (ob_phase v), (ob_how v), (ob_kinds v), (ob_worth v), (ob_values v), (ob_variables v), (ob_begun v), (ob_output v)) _ w
    unfold wpY_token
    refine tk_out (n := 22) (by omega) (fun _ _ _ => br_t rfl ?_) (fun q => (q _ hk rfl).elim)
    exact br_t rfl ⟨rfl, I0⟩
  · have n9 : ¬ nI k = 9 := fun q => h9 ((nI_eq (a := k) (b := 9) (by omega) (by omega)).mp q)
    refine br_f n9 ?_
    by_cases h40 : N = 40
    · refine br_t (tX.trans (by rw [h40]; rfl)) ?_
      show wpY_token _ ((ob_place v), (ob_top v), (ob_held v), (ob_depth v), (ob_ended v), (ob_endTarget v), (ob_endKind v), (ob_endWorth v), (ob_steps v), (ob_says v), (ob_result v), (ob_thrown v), (ob_over v), (ob_kind v), (ob_up v), (ob_length v), (ob_value v), (ob_below v), (ob_open v), (ob_token v), (ob_height v), (ob_target v), (ob_phase v), (ob_how v), (ob_kinds v), (ob_worth v), (ob_values v), (ob_variables v), (ob_begun v), (ob_output v)) _ w
      unfold wpY_token
      refine tk_out (n := 22) (by omega) (fun _ _ _ => br_t rfl ?_) (fun q => (q _ hk rfl).elim)
      exact br_f n9 (tk_Y hk h9 (fun _ => br_f (by decide) (br_t (tY.trans (by rw [h40]; rfl)) ⟨rfl, I0⟩)) (fun _ => br_t rfl ⟨rfl, I0⟩))
    · have n40 : ¬ nI N = 40 := fun q => h40 ((nI_eq (a := N) (b := 40) (by omega) (by omega)).mp q)
      refine br_f (fun q => n40 (tX.symm.trans q)) (tk_X hk h9 (fun ok => ?_) (fun no => ?_))
      · have iv : vp_in (oa_tokens u) 40 := by rw [tX]; exact vp_in_nI (by omega) (by omega)
        refine br_f (by decide) ⟨iv, nm_r (e' := upd (oa_tok u) N (nI k)) ?_ (nm_r (e' := nI (N + 1)) ?_ ⟨iv, nm_r (e' := upd (oa_num u) N w) ?_ ?_⟩)⟩
        · show upd (oa_tok u) (oa_tokens u).toNatClampNeg _ = _
          rw [tX, nI_clamp (by omega), ok_by (by omega)]
        · show oa_tokens u + 1 = _
          rw [tX]; exact nI_1 N
        · show upd (oa_num u) (oa_tokens u).toNatClampNeg w = _
          rw [tX, nI_clamp (by omega)]
        · show wpY_token _ ((ob_place v), (ob_top v), (ob_held v), (ob_depth v), (ob_ended v), (ob_endTarget v), (ob_endKind v), (ob_endWorth v), (ob_steps v), (ob_says v), (ob_result v), (ob_thrown v), (ob_over v), (ob_kind v), (ob_up v), (ob_length v), (ob_value v), (ob_below v), (ob_open v), (ob_token v), (ob_height v), (ob_target v), (ob_phase v), (ob_how v), (ob_kinds v), (ob_worth v), (ob_values v), (ob_variables v), (ob_begun v), (ob_output v)) _ w
          unfold wpY_token
          refine tk_out (n := 22) (by omega) (fun _ _ _ => br_t rfl ?_) (fun q => (q _ hk rfl).elim)
          refine br_f n9 (tk_Y hk h9 (fun _ => br_f (by decide) (br_f (fun q => n40 (tY.symm.trans q)) ?_)) (fun q => absurd ok q))
          have ea : (160 : Int32) + nI N = nI (160 + N) := nI_add 160 N
          have ia : vp_in ((160 : Int32) + ob_length v 4) 200 := by rw [tY, ea]; exact vp_in_nI (by omega) (by omega)
          have ca : ((160 : Int32) + ob_length v 4).toNatClampNeg = 160 + N := by rw [tY, ea]; exact nI_clamp (by omega)
          refine ⟨ia, nm_r (e' := upd (ob_kind v) (160 + N) (nI k)) (by rw [ca, ok_by (by omega)]) (nm_r (e' := upd (ob_length v) 4 (nI (N + 1))) (by rw [tY, nI_1, ok_by (by omega)]) ⟨ia, nm_r (e' := upd (ob_value v) (160 + N) w) (by rw [ca]) ⟨rfl, ?_⟩⟩)⟩
          refine ⟨E, ⟨N + 1, by omega, rfl, (pk_us : upd (ob_length v) 4 (nI (N + 1)) 4 = _), fun i hi => ?_⟩, K, V, C, L, Q, B, fun g hg => ⟨ox_PR_cg (z := u) (fun _ _ => rfl) (fun _ _ => rfl) (fun _ _ => rfl) (fun _ _ => ⟨rfl, rfl, rfl⟩) rfl rfl (PR g hg).1, oy_PR_cg (y := v) ⟨?_, fun i hi => ⟨?_, ?_, rfl⟩, fun _ _ => rfl⟩ (PR g hg).2⟩⟩
          · show ∃ k' w', ot_ok k' w' ∧ upd (oa_tok u) N (nI k) i = nI k' ∧ upd (ob_kind v) (160 + N) (nI k) (160 + i) = nI k' ∧ upd (oa_num u) N w i = w' ∧ upd (ob_value v) (160 + N) w (160 + i) = w'
            by_cases e : i = N
            · subst e; exact ⟨k, w, ok, pk_us, pk_us, pk_us, pk_us⟩
            · rw [pk_un e, pk_un (by omega), pk_un e, pk_un (by omega)]; exact DD i (by omega)
          · exact (pk_un (by omega) : upd (ob_length v) 4 (nI (N + 1)) g = ob_length v g)
          · exact (pk_un (by omega) : upd (ob_kind v) (160 + N) (nI k) (40 * g + i) = _)
          · exact (pk_un (by omega) : upd (ob_value v) (160 + N) w (40 * g + i) = _)
      · refine br_t rfl ?_
        show wpY_token _ ((ob_place v), (ob_top v), (ob_held v), (ob_depth v), (ob_ended v), (ob_endTarget v), (ob_endKind v), (ob_endWorth v), (ob_steps v), (ob_says v), (ob_result v), (ob_thrown v), (ob_over v), (ob_kind v), (ob_up v), (ob_length v), (ob_value v), (ob_below v), (ob_open v), (ob_token v), (ob_height v), (ob_target v), (ob_phase v), (ob_how v), (ob_kinds v), (ob_worth v), (ob_values v), (ob_variables v), (ob_begun v), (ob_output v)) _ w
        unfold wpY_token
        refine tk_out (n := 22) (by omega) (fun _ _ _ => br_t rfl ?_) (fun q => (q _ hk rfl).elim)
        exact br_f n9 (tk_Y hk h9 (fun q => absurd q no) (fun _ => br_t rfl ⟨rfl, I0⟩))
end
section
/-! ===== drop, said, the rest; the owed names ===== -/
theorem ok_drop {u : SX} {v : SY} (I : ok_R u v) (v1 : Int32) : wpX_drop (fun r u' => wpY_drop (fun r' v' => r' = r ∧ ok_R u' v') v v1) u v1 := by
  have I0 := I
  obtain ⟨E, ⟨N, hN, tX, tY, DD⟩, K, V, C, L, Q, B, PR⟩ := I
  show wpX_drop _ ((oa_tokens u), (oa_place u), (oa_here u), (oa_words u), (oa_depth u), (oa_working u), (oa_top u), (oa_steps u), (oa_says u), (oa_kind u), (oa_value u), (oa_over u), (oa_given u), (oa_thrown u), (oa_tok u), (oa_need u), (oa_num u), (oa_op u), (oa_x u), (oa_y u), (oa_from u), (oa_to u), (oa_handler u), (oa_caught u), (oa_there u), (oa_open u), (oa_done u), (oa_word u), (oa_start u), (oa_ends u), (oa_last u), (oa_hand u), (oa_bodyEnd u), (oa_local u), (oa_stack u), (oa_back u), (oa_floor u), (oa_running u), (oa_output u)) v1
  unfold wpX_drop
  refine tk_am (n := 4) (by omega) (fun f hf e => ?_) (fun q => ?_)
  rotate_left
  · refine br_t rfl ?_
    show wpY_drop _ ((ob_place v), (ob_top v), (ob_held v), (ob_depth v), (ob_ended v), (ob_endTarget v), (ob_endKind v), (ob_endWorth v), (ob_steps v), (ob_says v), (ob_result v), (ob_thrown v), (ob_over v), (ob_kind v), (ob_up v), (ob_length v), (ob_value v), (ob_below v), (ob_open v), (ob_token v), (ob_height v), (ob_target v), (ob_phase v), (ob_how v), (ob_kinds v), (ob_worth v), (ob_values v), (ob_variables v), (ob_begun v), (ob_output v)) v1
    unfold wpY_drop
    refine tk_out (n := 4) (by omega) (fun j hj e => (q j hj e).elim) (fun _ => ?_)
    exact br_f (by decide) ⟨rfl, I0⟩
  subst e
  have cf : (nI f).toNatClampNeg = f := nI_clamp (by omega)
  have i4 : vp_in (nI f) 4 := vp_in_nI hf (by omega)
  have i5 : vp_in (nI f) 5 := vp_in_nI (by omega) (by omega)
  have tx : oa_there u f = 0 ↔ L f = 0 := (PR f hf).1.1
  have ty : ob_length v f = 0 ↔ L f = 0 := by rw [(PR f hf).2.1]; have := (PR f hf).2.2.1; exact nI_eq (b := 0) (by omega) (by omega)
  refine br_f (by decide) ⟨i4, ?_⟩
  by_cases h0 : L f = 0
  · refine br_t (by rw [cf]; exact tx.mpr h0) ?_
    show wpY_drop _ ((ob_place v), (ob_top v), (ob_held v), (ob_depth v), (ob_ended v), (ob_endTarget v), (ob_endKind v), (ob_endWorth v), (ob_steps v), (ob_says v), (ob_result v), (ob_thrown v), (ob_over v), (ob_kind v), (ob_up v), (ob_length v), (ob_value v), (ob_below v), (ob_open v), (ob_token v), (ob_height v), (ob_target v), (ob_phase v), (ob_how v), (ob_kinds v), (ob_worth v), (ob_values v), (ob_variables v), (ob_begun v), (ob_output v)) (nI f)
    unfold wpY_drop
    refine tk_out (n := 4) (by omega) (fun _ _ _ => ?_) (fun q => (q f hf rfl).elim)
    exact br_t rfl ⟨i5, br_t (by rw [cf]; exact ty.mpr h0) ⟨rfl, I0⟩⟩
  · refine br_f (by rw [cf]; exact fun q => h0 (tx.mp q)) ⟨i4, nm_r (e' := upd (oa_there u) f 0) (by rw [cf]; rfl) ?_⟩
    show wpY_drop _ ((ob_place v), (ob_top v), (ob_held v), (ob_depth v), (ob_ended v), (ob_endTarget v), (ob_endKind v), (ob_endWorth v), (ob_steps v), (ob_says v), (ob_result v), (ob_thrown v), (ob_over v), (ob_kind v), (ob_up v), (ob_length v), (ob_value v), (ob_below v), (ob_open v), (ob_token v), (ob_height v), (ob_target v), (ob_phase v), (ob_how v), (ob_kinds v), (ob_worth v), (ob_values v), (ob_variables v), (ob_begun v), (ob_output v)) (nI f)
    unfold wpY_drop
    refine tk_out (n := 4) (by omega) (fun _ _ _ => ?_) (fun q => (q f hf rfl).elim)
    refine br_t rfl ⟨i5, br_f (by rw [cf]; exact fun q => h0 (ty.mp q)) ⟨i5, nm_r (e' := upd (ob_length v) f 0) (by rw [cf]; rfl) ⟨rfl, ?_⟩⟩⟩
    refine ⟨E, ⟨N, hN, tX, ?_, DD⟩, K, V, C, df_up L f 0, Q, B, fun g hg => ?_⟩
    · show upd (ob_length v) f 0 4 = _
      rw [pk_un (by omega)]; exact tY
    · by_cases e : g = f
      · subst e
        refine ⟨?_, ?_⟩
        · unfold ox_PR
          rw [df_ups]
          exact ⟨⟨fun _ => rfl, fun _ => (pk_us : upd (oa_there u) g 0 g = 0)⟩, fun q => absurd rfl q⟩
        · unfold oy_PR
          rw [df_ups]
          exact ⟨(pk_us : upd (ob_length v) g 0 g = 0), by omega, fun q => absurd rfl q⟩
      · refine ⟨ox_PR_ext rfl rfl rfl (df_upn e) rfl rfl (ox_PR_cg (z := u) (fun _ _ => rfl) (fun _ _ => rfl) (fun _ _ => rfl) (fun _ _ => ⟨rfl, rfl, rfl⟩) rfl (pk_un e : upd (oa_there u) f 0 g = _) (PR g hg).1), oy_PR_ext rfl rfl rfl (df_upn e) rfl rfl (oy_PR_cg (y := v) ⟨(pk_un e : upd (ob_length v) f 0 g = _), fun i hi => ⟨rfl, rfl, rfl⟩, fun _ _ => rfl⟩ (PR g hg).2)⟩
theorem ok_said {u : SX} {v : SY} (I : ok_R u v) (v1 : Int32) : wpX_said (fun r => wpY_said (fun r' => r' = r ∧ ok_R u v) v v1) u v1 := by
  have es : oa_says u = ob_says v := I.1.2.2.1
  have eo : oa_output u = ob_output v := I.1.2.2.2.2.2
  show wpX_said _ ((oa_tokens u), (oa_place u), (oa_here u), (oa_words u), (oa_depth u), (oa_working u), (oa_top u), (oa_steps u), (oa_says u), (oa_kind u), (oa_value u), (oa_over u), (oa_given u), (oa_thrown u), (oa_tok u), (oa_need u), (oa_num u), (oa_op u), (oa_x u), (oa_y u), (oa_from u), (oa_to u), (oa_handler u), (oa_caught u), (oa_there u), (oa_open u), (oa_done u), (oa_word u), (oa_start u), (oa_ends u), (oa_last u), (oa_hand u), (oa_bodyEnd u), (oa_local u), (oa_stack u), (oa_back u), (oa_floor u), (oa_running u), (oa_output u)) v1
  unfold wpX_said
  refine tk_am (n := 40) (by omega) (fun f hf e => ?_) (fun q => ?_)
  rotate_left
  · refine br_t rfl ?_
    show wpY_said _ ((ob_place v), (ob_top v), (ob_held v), (ob_depth v), (ob_ended v), (ob_endTarget v), (ob_endKind v), (ob_endWorth v), (ob_steps v), (ob_says v), (ob_result v), (ob_thrown v), (ob_over v), (ob_kind v), (ob_up v), (ob_length v), (ob_value v), (ob_below v), (ob_open v), (ob_token v), (ob_height v), (ob_target v), (ob_phase v), (ob_how v), (ob_kinds v), (ob_worth v), (ob_values v), (ob_variables v), (ob_begun v), (ob_output v)) v1
    unfold wpY_said
    refine tk_out (n := 40) (by omega) (fun j hj e => (q j hj e).elim) (fun _ => ?_)
    exact br_f (by decide) ⟨rfl, I⟩
  refine br_f (by decide) ?_
  have iv : vp_in v1 40 := by rw [e]; exact vp_in_nI hf (by omega)
  by_cases c : oa_says u ≤ v1
  · refine br_t c ?_
    show wpY_said _ ((ob_place v), (ob_top v), (ob_held v), (ob_depth v), (ob_ended v), (ob_endTarget v), (ob_endKind v), (ob_endWorth v), (ob_steps v), (ob_says v), (ob_result v), (ob_thrown v), (ob_over v), (ob_kind v), (ob_up v), (ob_length v), (ob_value v), (ob_below v), (ob_open v), (ob_token v), (ob_height v), (ob_target v), (ob_phase v), (ob_how v), (ob_kinds v), (ob_worth v), (ob_values v), (ob_variables v), (ob_begun v), (ob_output v)) v1
    unfold wpY_said
    refine tk_out (n := 40) (by omega) (fun _ _ _ => ?_) (fun q => (q f hf e).elim)
    exact br_t rfl (br_f (Int32.not_lt.mpr (es ▸ c)) ⟨rfl, I⟩)
  · refine br_f c ⟨iv, ?_⟩
    show wpY_said _ ((ob_place v), (ob_top v), (ob_held v), (ob_depth v), (ob_ended v), (ob_endTarget v), (ob_endKind v), (ob_endWorth v), (ob_steps v), (ob_says v), (ob_result v), (ob_thrown v), (ob_over v), (ob_kind v), (ob_up v), (ob_length v), (ob_value v), (ob_below v), (ob_open v), (ob_token v), (ob_height v), (ob_target v), (ob_phase v), (ob_how v), (ob_kinds v), (ob_worth v), (ob_values v), (ob_variables v), (ob_begun v), (ob_output v)) v1
    unfold wpY_said
    refine tk_out (n := 40) (by omega) (fun _ _ _ => ?_) (fun q => (q f hf e).elim)
    exact br_t rfl (br_t (Int32.not_le.mp (es ▸ c)) ⟨iv, (by rw [eo]), I⟩)
theorem ok_init : wpX_init (fun u => wpY_init (fun v => ok_R u v)) := by
  refine ⟨⟨rfl, rfl, rfl, rfl, rfl, rfl⟩, ⟨0, by omega, rfl, rfl, fun i hi => by omega⟩, fun _ _ => 0, fun _ _ => 0, fun _ _ _ => 0, fun _ => 0, fun _ _ => [], fun _ _ => 0, fun g hg => ⟨⟨⟨fun _ => rfl, fun _ => rfl⟩, fun q => absurd rfl q⟩, rfl, Nat.zero_le _, fun q => absurd rfl q⟩⟩
/-! the relation at the head of a turn -/
def i_Rel (k : Nat) (u : SX) (v : SY) : Prop := ok_R u v
theorem i_up {k : Nat} {u : SX} {v : SY} (h : i_Rel k u v) : i_Rel (k + 3) u v := h
theorem i_vc0 : wpX_init (fun u => wpY_init (fun v => i_Rel 0 u v)) := ok_init
theorem i_vc_token {k : Nat} {u : SX} {v : SY} (I : i_Rel k u v) (hk : k + 3 ≤ 1536) (v1 : Int32) (v2 : Int32) : wpX_token (fun r u' => wpY_token (fun r' v' => r' = r ∧ i_Rel (k + 3) u' v') v v1 v2) u v1 v2 := ok_token I v1 v2
theorem i_vc_define {k : Nat} {u : SX} {v : SY} (I : i_Rel k u v) (hk : k + 3 ≤ 1536) (v1 : Int32) : wpX_define (fun r u' => wpY_define (fun r' v' => r' = r ∧ i_Rel (k + 3) u' v') v v1) u v1 := ok_define I v1
theorem i_vc_place {k : Nat} {u : SX} {v : SY} (I : i_Rel k u v) (hk : k + 3 ≤ 1536) : wpX_place (fun r => wpY_place (fun r' => r' = r ∧ i_Rel (k + 3) u v) v) u := ⟨I.1.1.symm, I⟩
theorem i_vc_drop {k : Nat} {u : SX} {v : SY} (I : i_Rel k u v) (hk : k + 3 ≤ 1536) (v1 : Int32) : wpX_drop (fun r u' => wpY_drop (fun r' v' => r' = r ∧ i_Rel (k + 3) u' v') v v1) u v1 := ok_drop I v1
theorem i_vc_run {k : Nat} {u : SX} {v : SY} (I : i_Rel k u v) (hk : k + 3 ≤ 1536) (v1 : Int32) (v2 : Int32) : wpX_run (fun r u' => wpY_run (fun r' v' => r' = r ∧ i_Rel (k + 3) u' v') v v1 v2) u v1 v2 := ok_run I v1 v2
theorem i_vc_result {k : Nat} {u : SX} {v : SY} (I : i_Rel k u v) (hk : k + 3 ≤ 1536) : wpX_result (fun r => wpY_result (fun r' => r' = r ∧ i_Rel (k + 3) u v) v) u := ⟨I.1.2.2.2.1.symm, I⟩
theorem i_vc_kind {k : Nat} {u : SX} {v : SY} (I : i_Rel k u v) (hk : k + 3 ≤ 1536) : wpX_kind (fun r => wpY_kind (fun r' => r' = r ∧ i_Rel (k + 3) u v) v) u := ⟨I.1.2.2.2.2.1.symm, I⟩
theorem i_vc_steps {k : Nat} {u : SX} {v : SY} (I : i_Rel k u v) (hk : k + 3 ≤ 1536) : wpX_steps (fun r => wpY_steps (fun r' => r' = r ∧ i_Rel (k + 3) u v) v) u := ⟨I.1.2.1.symm, I⟩
theorem i_vc_says {k : Nat} {u : SX} {v : SY} (I : i_Rel k u v) (hk : k + 3 ≤ 1536) : wpX_says (fun r => wpY_says (fun r' => r' = r ∧ i_Rel (k + 3) u v) v) u := ⟨I.1.2.2.1.symm, I⟩
theorem i_vc_said {k : Nat} {u : SX} {v : SY} (I : i_Rel k u v) (hk : k + 3 ≤ 1536) (v1 : Int32) : wpX_said (fun r => wpY_said (fun r' => r' = r ∧ i_Rel (k + 3) u v) v v1) u v1 := ok_said I v1
end
