section
/-! pure rows to paste: stores, nI and lN arithmetic, masks, shifts, narrowing, branches by naturals (pk_le, pk_lt, pk_eq), loops (lp1 .. lp16: the measure of the state; rp1 ..: recursion), negatives. Take what you need -/
theorem pk_us {f : Nat → Int32} {k : Nat} {x : Int32} : upd f k x k = x := if_pos rfl
theorem pk_un {f : Nat → Int32} {k j : Nat} {x : Int32} (h : j ≠ k) : upd f k x j = f j := if_neg h
theorem pk_uLs {f : Nat → Int64} {k : Nat} {x : Int64} : vp_updL f k x k = x := if_pos rfl
theorem pk_uLn {f : Nat → Int64} {k j : Nat} {x : Int64} (h : j ≠ k) : vp_updL f k x j = f j := if_neg h
theorem pk_sub {a b : Nat} (h : b ≤ a) : nI a - nI b = nI (a - b) := by
  obtain ⟨c, rfl⟩ : ∃ c, a = c + b := ⟨a - b, by omega⟩
  rw [← nI_add, Int32.add_sub_cancel, Nat.add_sub_cancel]
theorem pk_m1 (n : Nat) : nI (n + 1) + (-1) = nI n := by
  rw [← nI_1, Int32.add_assoc, show (1 : Int32) + (-1) = 0 from rfl, Int32.add_zero]
theorem pk_mul (a b : Nat) : nI a * nI b = nI (a * b) := (Int32.ofNat_mul a b).symm
theorem pk_div {a d : Nat} (ha : a < 2 ^ 31) (h0 : 0 < d) (hd : d < 2 ^ 31) : nI a / nI d = nI (a / d) := by
  apply Int32.toInt_inj.mp
  rw [lg_idiv_nonneg (by rw [nI_toInt ha]; omega) (by rw [nI_toInt hd]; omega), nI_toInt ha, nI_toInt hd, nI_toInt (Nat.lt_of_le_of_lt (Nat.div_le_self a d) ha)]
  first | rfl | exact (Int.natCast_ediv _ _).symm
theorem pk_rem {a d : Nat} (ha : a < 2 ^ 31) (h0 : 0 < d) (hd : d < 2 ^ 31) : nI a - nI a / nI d * nI d = nI (a % d) := by
  rw [pk_div ha h0 hd, pk_mul, pk_sub (Nat.div_mul_le_self a d)]
  exact congrArg nI (by have := Nat.div_add_mod' a d; omega)
theorem pk_sub_toInt {a b : Nat} (ha : a < 2 ^ 30) (hb : b < 2 ^ 30) : (nI a - nI b).toInt = (a : Int) - b := by
  rw [Int32.toInt_sub, nI_toInt (by omega), nI_toInt (by omega)]
  exact Int.bmod_eq_of_le (by omega) (by omega)
theorem pk_sneg {a b : Nat} (hb : b < 2 ^ 30) (h : a < b) : nI a - nI b < 0 := by
  rw [Int32.lt_iff_toInt_lt, pk_sub_toInt (by omega) hb, show (0 : Int32).toInt = 0 from by decide]
  omega
theorem pk_ix (x : Int32) {n : Nat} (hn : n < 2 ^ 31) : x < 0 ∨ nI n ≤ x ∨ ∃ j : Nat, j < n ∧ x = nI j := by
  by_cases h : x < 0
  · exact Or.inl h
  · obtain ⟨j, hj, rfl⟩ := nI_of h
    by_cases h2 : j < n
    · exact Or.inr (Or.inr ⟨j, h2, rfl⟩)
    · exact Or.inr (Or.inl (nI_le (by omega) hj))
theorem pk_le {x y : Int32} {A B : Prop} (a b : Nat) (f : a ≤ b → A) (g : b < a → B) (hx : x = nI a := by rfl) (hy : y = nI b := by rfl) (ha : a < 2 ^ 31 := by omega) (hb : b < 2 ^ 31 := by omega) : (x ≤ y → A) ∧ (¬ x ≤ y → B) := by
  subst hx hy
  rw [nI_leI ha hb]
  exact ⟨f, fun z => g (by omega)⟩
theorem pk_lt {x y : Int32} {A B : Prop} (a b : Nat) (f : a < b → A) (g : b ≤ a → B) (hx : x = nI a := by rfl) (hy : y = nI b := by rfl) (ha : a < 2 ^ 31 := by omega) (hb : b < 2 ^ 31 := by omega) : (x < y → A) ∧ (¬ x < y → B) := by
  subst hx hy
  rw [nI_ltI ha hb]
  exact ⟨f, fun z => g (by omega)⟩
theorem pk_eq {x y : Int32} {A B : Prop} (a b : Nat) (f : a = b → A) (g : a ≠ b → B) (hx : x = nI a := by rfl) (hy : y = nI b := by rfl) (ha : a < 2 ^ 31 := by omega) (hb : b < 2 ^ 31 := by omega) : (x = y → A) ∧ (¬ x = y → B) := by
  subst hx hy
  rw [nI_eq ha hb]
  exact ⟨f, g⟩
theorem pk_in {x : Int32} (n N : Nat) (h : n < N) (hx : x = nI n := by rfl) (hN : N < 2 ^ 31 := by omega) : vp_in x N := by
  subst hx
  exact vp_in_nI h hN
theorem pk_cl {x : Int32} (n : Nat) (hx : x = nI n := by rfl) (h : n < 2 ^ 31 := by omega) : x.toNatClampNeg = n := by
  subst hx
  exact nI_clamp h
theorem pk_tn {n : Nat} (h : n < 2 ^ 32) : (nI n).toBitVec.toNat = n := Nat.mod_eq_of_lt h
theorem pk_and (x : Int32) {m : Int32} (k : Nat) (hm : m.toBitVec.toNat = 2 ^ k - 1) : x &&& m = nI (x.toBitVec.toNat % 2 ^ k) := by
  apply Int32.toBitVec_inj.mp
  apply BitVec.eq_of_toNat_eq
  rw [Int32.toBitVec_and, BitVec.toNat_and, hm, Nat.and_two_pow_sub_one_eq_mod]
  show _ = (BitVec.ofNat 32 _).toNat
  rw [BitVec.toNat_ofNat]
  exact (Nat.mod_eq_of_lt (Nat.lt_of_le_of_lt (Nat.mod_le _ _) x.toBitVec.isLt)).symm
theorem pk_andN {n : Nat} (h : n < 2 ^ 32) {m : Int32} (k : Nat) (hm : m.toBitVec.toNat = 2 ^ k - 1) : nI n &&& m = nI (n % 2 ^ k) := by
  rw [pk_and _ k hm, pk_tn h]
theorem pk_andE (x : Int32) {m : Int32} (k : Nat) (hm : m.toBitVec.toNat = 2 ^ k - 1) : ∃ j : Nat, j < 2 ^ k ∧ x &&& m = nI j := ⟨_, Nat.mod_lt _ (Nat.two_pow_pos k), pk_and x k hm⟩
theorem pk_andIn (x : Int32) {m : Int32} (k : Nat) (hm : m.toBitVec.toNat = 2 ^ k - 1) (hk : k ≤ 30) : vp_in (x &&& m) (2 ^ k) := by
  obtain ⟨j, hj, e⟩ := pk_andE x k hm
  rw [e]
  exact vp_in_nI hj (Nat.lt_of_le_of_lt (Nat.pow_le_pow_right (by decide) hk) (by decide))
theorem pk_shl (a s : Int32) (k : Nat) (hs : (s.toBitVec.smod 32).toNat = k) : (a <<< s).toBitVec.toNat = a.toBitVec.toNat * 2 ^ k % 2 ^ 32 := by
  show (a.toBitVec <<< (s.toBitVec.smod 32).toNat).toNat = _
  rw [hs, BitVec.toNat_shiftLeft, Nat.shiftLeft_eq]
theorem pk_shlN {n : Nat} (s : Int32) (k : Nat) (hs : (s.toBitVec.smod 32).toNat = k) (h : n * 2 ^ k < 2 ^ 32) : nI n <<< s = nI (n * 2 ^ k) := by
  apply Int32.toBitVec_inj.mp
  apply BitVec.eq_of_toNat_eq
  have hn : n < 2 ^ 32 := Nat.lt_of_le_of_lt (Nat.le_mul_of_pos_right n (Nat.two_pow_pos k)) h
  rw [pk_shl _ _ k hs, pk_tn hn, pk_tn h, Nat.mod_eq_of_lt h]
theorem pk_shr (a s : Int32) (k : Nat) (hs : (s.toBitVec.smod 32).toNat = k) : (a >>> s).toInt = a.toInt >>> k := by
  show (a.toBitVec.sshiftRight (s.toBitVec.smod 32).toNat).toInt = _
  rw [hs, BitVec.toInt_sshiftRight]
  rfl
theorem pk_shrN {n : Nat} (h : n < 2 ^ 31) (s : Int32) (k : Nat) (hs : (s.toBitVec.smod 32).toNat = k) : nI n >>> s = nI (n / 2 ^ k) := by
  apply Int32.toInt_inj.mp
  have h2 : n / 2 ^ k ≤ n := Nat.div_le_self _ _
  rw [pk_shr _ _ k hs, nI_toInt h, nI_toInt (by omega), Int.shiftRight_eq_div_pow]
  rfl
theorem pk_ushr (x s : Int32) (k : Nat) (hs : ((s.toUInt32 &&& Int32.toUInt32 31).toBitVec % 32).toNat = k) : (x.toUInt32 >>> (s.toUInt32 &&& Int32.toUInt32 31)).toInt32.toBitVec.toNat = x.toBitVec.toNat / 2 ^ k := by
  have e : (x.toUInt32 >>> (s.toUInt32 &&& Int32.toUInt32 31)).toInt32.toBitVec = x.toBitVec >>> k := by
    rw [← hs]
    exact UInt32.toBitVec_shiftRight _ _
  rw [e, BitVec.toNat_ushiftRight, Nat.shiftRight_eq_div_pow]
theorem pk_ushrN {n : Nat} (hn : n < 2 ^ 32) (s : Int32) (k : Nat) (hs : ((s.toUInt32 &&& Int32.toUInt32 31).toBitVec % 32).toNat = k) : ((nI n).toUInt32 >>> (s.toUInt32 &&& Int32.toUInt32 31)).toInt32 = nI (n / 2 ^ k) := by
  apply Int32.toBitVec_inj.mp
  apply BitVec.eq_of_toNat_eq
  rw [pk_ushr _ s k hs, pk_tn hn, pk_tn (Nat.lt_of_le_of_lt (Nat.div_le_self _ _) hn)]
theorem pk_nb (z : Int32) : narrow .byte (.int z.toInt8.toInt32) = .int z.toInt8.toInt32 := congrArg Value.int (by simp)
theorem pk_ns (z : Int32) : narrow .short (.int z.toInt16.toInt32) = .int z.toInt16.toInt32 := congrArg Value.int (by simp)
theorem pk_fb (r : Int32) : fits .byte (.int r.toInt8.toInt32) = true := by
  have ⟨a, b⟩ := lg_i2b_range r
  have h1 : (-128 : Int32).toInt = -128 := by decide
  have h2 : (127 : Int32).toInt = 127 := by decide
  simp only [fits, Bool.and_eq_true, decide_eq_true_eq, Int32.le_iff_toInt_le, h1, h2]
  omega
theorem pk_fs (r : Int32) : fits .short (.int r.toInt16.toInt32) = true := by
  have ⟨a, b⟩ := lg_i2s_range r
  have h1 : (-32768 : Int32).toInt = -32768 := by decide
  have h2 : (32767 : Int32).toInt = 32767 := by decide
  simp only [fits, Bool.and_eq_true, decide_eq_true_eq, Int32.le_iff_toInt_le, h1, h2]
  omega
theorem pk_charN {q : Nat} (hq : q < 65536) : narrow .char (.int (nI q)) = .int (nI q) ∧ fits .char (.int (nI q)) = true := by
  constructor
  · have e : (nI q).toUInt32.toUInt16.toUInt32.toInt32 = nI q := by
      apply Int32.toBitVec_inj.mp
      apply BitVec.eq_of_toNat_eq
      show (nI q).toUInt32.toUInt16.toUInt32.toNat = q % 2 ^ 32
      rw [UInt16.toNat_toUInt32, UInt32.toNat_toUInt16, show (nI q).toUInt32.toNat = q % 2 ^ 32 from rfl]
      omega
    exact congrArg Value.int e
  · have a : (0 : Int32) ≤ nI q := nI_pos' (by omega)
    have b : nI q ≤ 65535 := nI_le (b := 65535) (by omega) (by decide)
    show (decide ((0 : Int32) ≤ nI q) && decide (nI q ≤ 65535)) = true
    rw [decide_eq_true a, decide_eq_true b]
    rfl
theorem pk_char (x : Int32) : (x.toUInt32 % 65536).toInt32 = nI (x.toBitVec.toNat % 65536) := by
  apply Int32.toBitVec_inj.mp
  apply BitVec.eq_of_toNat_eq
  rw [pk_tn (by omega)]
  show (x.toUInt32 % 65536).toNat = _
  rw [UInt32.toNat_mod]
  rfl
theorem pk_nc (x : Int32) : narrow .char (.int (x.toUInt32 % 65536).toInt32) = .int (x.toUInt32 % 65536).toInt32 := by
  rw [pk_char]
  exact (pk_charN (Nat.mod_lt _ (by decide))).1
theorem pk_fc (x : Int32) : fits .char (.int (x.toUInt32 % 65536).toInt32) = true := by
  rw [pk_char]
  exact (pk_charN (Nat.mod_lt _ (by decide))).2
theorem pk_vb (z : Int32) : vp_nar .byte z.toInt8.toInt32 = z.toInt8.toInt32 := by rw [vp_nar_byte]; simp
theorem pk_vs (z : Int32) : vp_nar .short z.toInt16.toInt32 = z.toInt16.toInt32 := by rw [vp_nar_short]; simp
theorem pk_vc (z : Int32) : vp_nar .char (z.toUInt32 % 65536).toInt32 = (z.toUInt32 % 65536).toInt32 := Value.int.inj (pk_nc z)
theorem pk_lT {n : Nat} (h : n < 2 ^ 63) : (lN n).toInt = (n : Int) := lg_ofNat_toInt h
theorem pk_lLT {a b : Nat} (ha : a < 2 ^ 63) (hb : b < 2 ^ 63) : lN a < lN b ↔ a < b := by
  rw [Int64.lt_iff_toInt_lt, pk_lT ha, pk_lT hb]; omega
theorem pk_lLE {a b : Nat} (ha : a < 2 ^ 63) (hb : b < 2 ^ 63) : lN a ≤ lN b ↔ a ≤ b := by
  rw [Int64.le_iff_toInt_le, pk_lT ha, pk_lT hb]; omega
theorem pk_lEQ {a b : Nat} (ha : a < 2 ^ 63) (hb : b < 2 ^ 63) : lN a = lN b ↔ a = b := by
  rw [← Int64.toInt_inj, pk_lT ha, pk_lT hb]; omega
theorem pk_lOf {x : Int64} (h : ¬ x < 0) : ∃ k : Nat, k < 2 ^ 63 ∧ x = lN k := by
  rw [Int64.lt_iff_toInt_lt] at h
  have h0 : (0 : Int64).toInt = 0 := by decide
  have hx := Int64.toInt_lt x
  refine ⟨x.toInt.toNat, by omega, Int64.toInt_inj.mp ?_⟩
  rw [pk_lT (by omega)]
  omega
theorem pk_lDiv {a b : Nat} (ha : a < 2 ^ 63) (h0 : 0 < b) (hb : b < 2 ^ 63) : lN a / lN b = lN (a / b) := by
  apply Int64.toInt_inj.mp
  rw [lg_ldiv_nonneg (by rw [pk_lT ha]; omega) (by rw [pk_lT hb]; omega), pk_lT ha, pk_lT hb, pk_lT (Nat.lt_of_le_of_lt (Nat.div_le_self a b) ha)]
  rfl
theorem pk_lRem {a b : Nat} (ha : a < 2 ^ 63) (h0 : 0 < b) (hb : b < 2 ^ 63) : lN a - lN a / lN b * lN b = lN (a % b) := by
  rw [pk_lDiv ha h0 hb, lN_mul, lN_sub (Nat.div_mul_le_self a b)]
  exact congrArg lN (by have := Nat.div_add_mod' a b; omega)
theorem pk_loop {σ : Type} (W : Nat → Nat → σ → Prop) (I : Nat → σ → Prop) (e i0 : Nat) (s : σ) (hi : i0 ≤ e) (h0 : I i0 s) (hx : ∀ n s, I e s → W (n + 1) e s)
    (hs : ∀ n i s, i < e → I i s → (∀ s', I (i + 1) s' → W n (i + 1) s') → W (n + 1) i s) : ∃ n, W n i0 s :=
  ⟨e + 1, loop_i W I e hx hs (e + 1) i0 s hi (by omega) h0⟩
theorem pk_loopD {σ : Type} (W : Nat → Nat → σ → Prop) (I : Nat → σ → Prop) (hx : ∀ n s, I 0 s → W (n + 1) 0 s)
    (hs : ∀ n i s, I (i + 1) s → (∀ s', I i s' → W n i s') → W (n + 1) (i + 1) s) : ∀ (e : Nat) (s : σ), I e s → W (e + 1) e s := by
  intro e
  induction e with
  | zero => exact fun s h => hx 0 s h
  | succ e ih => exact fun s h => hs (e + 1) e s h (fun s' h' => ih s' h')
theorem lp1 {A1 : Type} (W : Nat → A1 → Prop) (I : A1 → Prop) (μ : A1 → Nat) (hs : ∀ (n : Nat) (a1 : A1), I a1 → (∀ (b1 : A1), I b1 → μ b1 < μ a1 → W n b1) → W (n + 1) a1) (a1 : A1) (h : I a1) : ∃ n, W n a1 :=
  loop_m (σ := A1) (fun n s => W n s) (fun s => I s) (fun s => μ s) (fun n s hI hk => hs n s hI (fun b1 h9 hm => hk b1 h9 hm)) a1 h
theorem lp2 {A1 A2 : Type} (W : Nat → A1 → A2 → Prop) (I : A1 → A2 → Prop) (μ : A1 → A2 → Nat) (hs : ∀ (n : Nat) (a1 : A1) (a2 : A2), I a1 a2 → (∀ (b1 : A1) (b2 : A2), I b1 b2 → μ b1 b2 < μ a1 a2 → W n b1 b2) → W (n + 1) a1 a2) (a1 : A1) (a2 : A2) (h : I a1 a2) : ∃ n, W n a1 a2 :=
  loop_m (σ := A1 × A2) (fun n s => W n s.1 s.2) (fun s => I s.1 s.2) (fun s => μ s.1 s.2) (fun n s hI hk => hs n s.1 s.2 hI (fun b1 b2 h9 hm => hk (b1, b2) h9 hm)) (a1, a2) h
theorem lp3 {A1 A2 A3 : Type} (W : Nat → A1 → A2 → A3 → Prop) (I : A1 → A2 → A3 → Prop) (μ : A1 → A2 → A3 → Nat) (hs : ∀ (n : Nat) (a1 : A1) (a2 : A2) (a3 : A3), I a1 a2 a3 → (∀ (b1 : A1) (b2 : A2) (b3 : A3), I b1 b2 b3 → μ b1 b2 b3 < μ a1 a2 a3 → W n b1 b2 b3) → W (n + 1) a1 a2 a3) (a1 : A1) (a2 : A2) (a3 : A3) (h : I a1 a2 a3) : ∃ n, W n a1 a2 a3 :=
  loop_m (σ := A1 × A2 × A3) (fun n s => W n s.1 s.2.1 s.2.2) (fun s => I s.1 s.2.1 s.2.2) (fun s => μ s.1 s.2.1 s.2.2) (fun n s hI hk => hs n s.1 s.2.1 s.2.2 hI (fun b1 b2 b3 h9 hm => hk (b1, b2, b3) h9 hm)) (a1, a2, a3) h
theorem lp4 {A1 A2 A3 A4 : Type} (W : Nat → A1 → A2 → A3 → A4 → Prop) (I : A1 → A2 → A3 → A4 → Prop) (μ : A1 → A2 → A3 → A4 → Nat) (hs : ∀ (n : Nat) (a1 : A1) (a2 : A2) (a3 : A3) (a4 : A4), I a1 a2 a3 a4 → (∀ (b1 : A1) (b2 : A2) (b3 : A3) (b4 : A4), I b1 b2 b3 b4 → μ b1 b2 b3 b4 < μ a1 a2 a3 a4 → W n b1 b2 b3 b4) → W (n + 1) a1 a2 a3 a4) (a1 : A1) (a2 : A2) (a3 : A3) (a4 : A4) (h : I a1 a2 a3 a4) : ∃ n, W n a1 a2 a3 a4 :=
  loop_m (σ := A1 × A2 × A3 × A4) (fun n s => W n s.1 s.2.1 s.2.2.1 s.2.2.2) (fun s => I s.1 s.2.1 s.2.2.1 s.2.2.2) (fun s => μ s.1 s.2.1 s.2.2.1 s.2.2.2) (fun n s hI hk => hs n s.1 s.2.1 s.2.2.1 s.2.2.2 hI (fun b1 b2 b3 b4 h9 hm => hk (b1, b2, b3, b4) h9 hm)) (a1, a2, a3, a4) h
theorem lp5 {A1 A2 A3 A4 A5 : Type} (W : Nat → A1 → A2 → A3 → A4 → A5 → Prop) (I : A1 → A2 → A3 → A4 → A5 → Prop) (μ : A1 → A2 → A3 → A4 → A5 → Nat) (hs : ∀ (n : Nat) (a1 : A1) (a2 : A2) (a3 : A3) (a4 : A4) (a5 : A5), I a1 a2 a3 a4 a5 → (∀ (b1 : A1) (b2 : A2) (b3 : A3) (b4 : A4) (b5 : A5), I b1 b2 b3 b4 b5 → μ b1 b2 b3 b4 b5 < μ a1 a2 a3 a4 a5 → W n b1 b2 b3 b4 b5) → W (n + 1) a1 a2 a3 a4 a5) (a1 : A1) (a2 : A2) (a3 : A3) (a4 : A4) (a5 : A5) (h : I a1 a2 a3 a4 a5) : ∃ n, W n a1 a2 a3 a4 a5 :=
  loop_m (σ := A1 × A2 × A3 × A4 × A5) (fun n s => W n s.1 s.2.1 s.2.2.1 s.2.2.2.1 s.2.2.2.2) (fun s => I s.1 s.2.1 s.2.2.1 s.2.2.2.1 s.2.2.2.2) (fun s => μ s.1 s.2.1 s.2.2.1 s.2.2.2.1 s.2.2.2.2) (fun n s hI hk => hs n s.1 s.2.1 s.2.2.1 s.2.2.2.1 s.2.2.2.2 hI (fun b1 b2 b3 b4 b5 h9 hm => hk (b1, b2, b3, b4, b5) h9 hm)) (a1, a2, a3, a4, a5) h
theorem lp6 {A1 A2 A3 A4 A5 A6 : Type} (W : Nat → A1 → A2 → A3 → A4 → A5 → A6 → Prop) (I : A1 → A2 → A3 → A4 → A5 → A6 → Prop) (μ : A1 → A2 → A3 → A4 → A5 → A6 → Nat) (hs : ∀ (n : Nat) (a1 : A1) (a2 : A2) (a3 : A3) (a4 : A4) (a5 : A5) (a6 : A6), I a1 a2 a3 a4 a5 a6 → (∀ (b1 : A1) (b2 : A2) (b3 : A3) (b4 : A4) (b5 : A5) (b6 : A6), I b1 b2 b3 b4 b5 b6 → μ b1 b2 b3 b4 b5 b6 < μ a1 a2 a3 a4 a5 a6 → W n b1 b2 b3 b4 b5 b6) → W (n + 1) a1 a2 a3 a4 a5 a6) (a1 : A1) (a2 : A2) (a3 : A3) (a4 : A4) (a5 : A5) (a6 : A6) (h : I a1 a2 a3 a4 a5 a6) : ∃ n, W n a1 a2 a3 a4 a5 a6 :=
  loop_m (σ := A1 × A2 × A3 × A4 × A5 × A6) (fun n s => W n s.1 s.2.1 s.2.2.1 s.2.2.2.1 s.2.2.2.2.1 s.2.2.2.2.2) (fun s => I s.1 s.2.1 s.2.2.1 s.2.2.2.1 s.2.2.2.2.1 s.2.2.2.2.2) (fun s => μ s.1 s.2.1 s.2.2.1 s.2.2.2.1 s.2.2.2.2.1 s.2.2.2.2.2) (fun n s hI hk => hs n s.1 s.2.1 s.2.2.1 s.2.2.2.1 s.2.2.2.2.1 s.2.2.2.2.2 hI (fun b1 b2 b3 b4 b5 b6 h9 hm => hk (b1, b2, b3, b4, b5, b6) h9 hm)) (a1, a2, a3, a4, a5, a6) h
theorem lp7 {A1 A2 A3 A4 A5 A6 A7 : Type} (W : Nat → A1 → A2 → A3 → A4 → A5 → A6 → A7 → Prop) (I : A1 → A2 → A3 → A4 → A5 → A6 → A7 → Prop) (μ : A1 → A2 → A3 → A4 → A5 → A6 → A7 → Nat) (hs : ∀ (n : Nat) (a1 : A1) (a2 : A2) (a3 : A3) (a4 : A4) (a5 : A5) (a6 : A6) (a7 : A7), I a1 a2 a3 a4 a5 a6 a7 → (∀ (b1 : A1) (b2 : A2) (b3 : A3) (b4 : A4) (b5 : A5) (b6 : A6) (b7 : A7), I b1 b2 b3 b4 b5 b6 b7 → μ b1 b2 b3 b4 b5 b6 b7 < μ a1 a2 a3 a4 a5 a6 a7 → W n b1 b2 b3 b4 b5 b6 b7) → W (n + 1) a1 a2 a3 a4 a5 a6 a7) (a1 : A1) (a2 : A2) (a3 : A3) (a4 : A4) (a5 : A5) (a6 : A6) (a7 : A7) (h : I a1 a2 a3 a4 a5 a6 a7) : ∃ n, W n a1 a2 a3 a4 a5 a6 a7 :=
  loop_m (σ := A1 × A2 × A3 × A4 × A5 × A6 × A7) (fun n s => W n s.1 s.2.1 s.2.2.1 s.2.2.2.1 s.2.2.2.2.1 s.2.2.2.2.2.1 s.2.2.2.2.2.2) (fun s => I s.1 s.2.1 s.2.2.1 s.2.2.2.1 s.2.2.2.2.1 s.2.2.2.2.2.1 s.2.2.2.2.2.2) (fun s => μ s.1 s.2.1 s.2.2.1 s.2.2.2.1 s.2.2.2.2.1 s.2.2.2.2.2.1 s.2.2.2.2.2.2) (fun n s hI hk => hs n s.1 s.2.1 s.2.2.1 s.2.2.2.1 s.2.2.2.2.1 s.2.2.2.2.2.1 s.2.2.2.2.2.2 hI (fun b1 b2 b3 b4 b5 b6 b7 h9 hm => hk (b1, b2, b3, b4, b5, b6, b7) h9 hm)) (a1, a2, a3, a4, a5, a6, a7) h
theorem lp8 {A1 A2 A3 A4 A5 A6 A7 A8 : Type} (W : Nat → A1 → A2 → A3 → A4 → A5 → A6 → A7 → A8 → Prop) (I : A1 → A2 → A3 → A4 → A5 → A6 → A7 → A8 → Prop) (μ : A1 → A2 → A3 → A4 → A5 → A6 → A7 → A8 → Nat) (hs : ∀ (n : Nat) (a1 : A1) (a2 : A2) (a3 : A3) (a4 : A4) (a5 : A5) (a6 : A6) (a7 : A7) (a8 : A8), I a1 a2 a3 a4 a5 a6 a7 a8 → (∀ (b1 : A1) (b2 : A2) (b3 : A3) (b4 : A4) (b5 : A5) (b6 : A6) (b7 : A7) (b8 : A8), I b1 b2 b3 b4 b5 b6 b7 b8 → μ b1 b2 b3 b4 b5 b6 b7 b8 < μ a1 a2 a3 a4 a5 a6 a7 a8 → W n b1 b2 b3 b4 b5 b6 b7 b8) → W (n + 1) a1 a2 a3 a4 a5 a6 a7 a8) (a1 : A1) (a2 : A2) (a3 : A3) (a4 : A4) (a5 : A5) (a6 : A6) (a7 : A7) (a8 : A8) (h : I a1 a2 a3 a4 a5 a6 a7 a8) : ∃ n, W n a1 a2 a3 a4 a5 a6 a7 a8 :=
  loop_m (σ := A1 × A2 × A3 × A4 × A5 × A6 × A7 × A8) (fun n s => W n s.1 s.2.1 s.2.2.1 s.2.2.2.1 s.2.2.2.2.1 s.2.2.2.2.2.1 s.2.2.2.2.2.2.1 s.2.2.2.2.2.2.2) (fun s => I s.1 s.2.1 s.2.2.1 s.2.2.2.1 s.2.2.2.2.1 s.2.2.2.2.2.1 s.2.2.2.2.2.2.1 s.2.2.2.2.2.2.2) (fun s => μ s.1 s.2.1 s.2.2.1 s.2.2.2.1 s.2.2.2.2.1 s.2.2.2.2.2.1 s.2.2.2.2.2.2.1 s.2.2.2.2.2.2.2) (fun n s hI hk => hs n s.1 s.2.1 s.2.2.1 s.2.2.2.1 s.2.2.2.2.1 s.2.2.2.2.2.1 s.2.2.2.2.2.2.1 s.2.2.2.2.2.2.2 hI (fun b1 b2 b3 b4 b5 b6 b7 b8 h9 hm => hk (b1, b2, b3, b4, b5, b6, b7, b8) h9 hm)) (a1, a2, a3, a4, a5, a6, a7, a8) h
theorem lp9 {A1 A2 A3 A4 A5 A6 A7 A8 A9 : Type} (W : Nat → A1 → A2 → A3 → A4 → A5 → A6 → A7 → A8 → A9 → Prop) (I : A1 → A2 → A3 → A4 → A5 → A6 → A7 → A8 → A9 → Prop) (μ : A1 → A2 → A3 → A4 → A5 → A6 → A7 → A8 → A9 → Nat) (hs : ∀ (n : Nat) (a1 : A1) (a2 : A2) (a3 : A3) (a4 : A4) (a5 : A5) (a6 : A6) (a7 : A7) (a8 : A8) (a9 : A9), I a1 a2 a3 a4 a5 a6 a7 a8 a9 → (∀ (b1 : A1) (b2 : A2) (b3 : A3) (b4 : A4) (b5 : A5) (b6 : A6) (b7 : A7) (b8 : A8) (b9 : A9), I b1 b2 b3 b4 b5 b6 b7 b8 b9 → μ b1 b2 b3 b4 b5 b6 b7 b8 b9 < μ a1 a2 a3 a4 a5 a6 a7 a8 a9 → W n b1 b2 b3 b4 b5 b6 b7 b8 b9) → W (n + 1) a1 a2 a3 a4 a5 a6 a7 a8 a9) (a1 : A1) (a2 : A2) (a3 : A3) (a4 : A4) (a5 : A5) (a6 : A6) (a7 : A7) (a8 : A8) (a9 : A9) (h : I a1 a2 a3 a4 a5 a6 a7 a8 a9) : ∃ n, W n a1 a2 a3 a4 a5 a6 a7 a8 a9 :=
  loop_m (σ := A1 × A2 × A3 × A4 × A5 × A6 × A7 × A8 × A9) (fun n s => W n s.1 s.2.1 s.2.2.1 s.2.2.2.1 s.2.2.2.2.1 s.2.2.2.2.2.1 s.2.2.2.2.2.2.1 s.2.2.2.2.2.2.2.1 s.2.2.2.2.2.2.2.2) (fun s => I s.1 s.2.1 s.2.2.1 s.2.2.2.1 s.2.2.2.2.1 s.2.2.2.2.2.1 s.2.2.2.2.2.2.1 s.2.2.2.2.2.2.2.1 s.2.2.2.2.2.2.2.2) (fun s => μ s.1 s.2.1 s.2.2.1 s.2.2.2.1 s.2.2.2.2.1 s.2.2.2.2.2.1 s.2.2.2.2.2.2.1 s.2.2.2.2.2.2.2.1 s.2.2.2.2.2.2.2.2) (fun n s hI hk => hs n s.1 s.2.1 s.2.2.1 s.2.2.2.1 s.2.2.2.2.1 s.2.2.2.2.2.1 s.2.2.2.2.2.2.1 s.2.2.2.2.2.2.2.1 s.2.2.2.2.2.2.2.2 hI (fun b1 b2 b3 b4 b5 b6 b7 b8 b9 h9 hm => hk (b1, b2, b3, b4, b5, b6, b7, b8, b9) h9 hm)) (a1, a2, a3, a4, a5, a6, a7, a8, a9) h
theorem lp10 {A1 A2 A3 A4 A5 A6 A7 A8 A9 A10 : Type} (W : Nat → A1 → A2 → A3 → A4 → A5 → A6 → A7 → A8 → A9 → A10 → Prop) (I : A1 → A2 → A3 → A4 → A5 → A6 → A7 → A8 → A9 → A10 → Prop) (μ : A1 → A2 → A3 → A4 → A5 → A6 → A7 → A8 → A9 → A10 → Nat) (hs : ∀ (n : Nat) (a1 : A1) (a2 : A2) (a3 : A3) (a4 : A4) (a5 : A5) (a6 : A6) (a7 : A7) (a8 : A8) (a9 : A9) (a10 : A10), I a1 a2 a3 a4 a5 a6 a7 a8 a9 a10 → (∀ (b1 : A1) (b2 : A2) (b3 : A3) (b4 : A4) (b5 : A5) (b6 : A6) (b7 : A7) (b8 : A8) (b9 : A9) (b10 : A10), I b1 b2 b3 b4 b5 b6 b7 b8 b9 b10 → μ b1 b2 b3 b4 b5 b6 b7 b8 b9 b10 < μ a1 a2 a3 a4 a5 a6 a7 a8 a9 a10 → W n b1 b2 b3 b4 b5 b6 b7 b8 b9 b10) → W (n + 1) a1 a2 a3 a4 a5 a6 a7 a8 a9 a10) (a1 : A1) (a2 : A2) (a3 : A3) (a4 : A4) (a5 : A5) (a6 : A6) (a7 : A7) (a8 : A8) (a9 : A9) (a10 : A10) (h : I a1 a2 a3 a4 a5 a6 a7 a8 a9 a10) : ∃ n, W n a1 a2 a3 a4 a5 a6 a7 a8 a9 a10 :=
  loop_m (σ := A1 × A2 × A3 × A4 × A5 × A6 × A7 × A8 × A9 × A10) (fun n s => W n s.1 s.2.1 s.2.2.1 s.2.2.2.1 s.2.2.2.2.1 s.2.2.2.2.2.1 s.2.2.2.2.2.2.1 s.2.2.2.2.2.2.2.1 s.2.2.2.2.2.2.2.2.1 s.2.2.2.2.2.2.2.2.2) (fun s => I s.1 s.2.1 s.2.2.1 s.2.2.2.1 s.2.2.2.2.1 s.2.2.2.2.2.1 s.2.2.2.2.2.2.1 s.2.2.2.2.2.2.2.1 s.2.2.2.2.2.2.2.2.1 s.2.2.2.2.2.2.2.2.2) (fun s => μ s.1 s.2.1 s.2.2.1 s.2.2.2.1 s.2.2.2.2.1 s.2.2.2.2.2.1 s.2.2.2.2.2.2.1 s.2.2.2.2.2.2.2.1 s.2.2.2.2.2.2.2.2.1 s.2.2.2.2.2.2.2.2.2) (fun n s hI hk => hs n s.1 s.2.1 s.2.2.1 s.2.2.2.1 s.2.2.2.2.1 s.2.2.2.2.2.1 s.2.2.2.2.2.2.1 s.2.2.2.2.2.2.2.1 s.2.2.2.2.2.2.2.2.1 s.2.2.2.2.2.2.2.2.2 hI (fun b1 b2 b3 b4 b5 b6 b7 b8 b9 b10 h9 hm => hk (b1, b2, b3, b4, b5, b6, b7, b8, b9, b10) h9 hm)) (a1, a2, a3, a4, a5, a6, a7, a8, a9, a10) h
theorem lp11 {A1 A2 A3 A4 A5 A6 A7 A8 A9 A10 A11 : Type} (W : Nat → A1 → A2 → A3 → A4 → A5 → A6 → A7 → A8 → A9 → A10 → A11 → Prop) (I : A1 → A2 → A3 → A4 → A5 → A6 → A7 → A8 → A9 → A10 → A11 → Prop) (μ : A1 → A2 → A3 → A4 → A5 → A6 → A7 → A8 → A9 → A10 → A11 → Nat) (hs : ∀ (n : Nat) (a1 : A1) (a2 : A2) (a3 : A3) (a4 : A4) (a5 : A5) (a6 : A6) (a7 : A7) (a8 : A8) (a9 : A9) (a10 : A10) (a11 : A11), I a1 a2 a3 a4 a5 a6 a7 a8 a9 a10 a11 → (∀ (b1 : A1) (b2 : A2) (b3 : A3) (b4 : A4) (b5 : A5) (b6 : A6) (b7 : A7) (b8 : A8) (b9 : A9) (b10 : A10) (b11 : A11), I b1 b2 b3 b4 b5 b6 b7 b8 b9 b10 b11 → μ b1 b2 b3 b4 b5 b6 b7 b8 b9 b10 b11 < μ a1 a2 a3 a4 a5 a6 a7 a8 a9 a10 a11 → W n b1 b2 b3 b4 b5 b6 b7 b8 b9 b10 b11) → W (n + 1) a1 a2 a3 a4 a5 a6 a7 a8 a9 a10 a11) (a1 : A1) (a2 : A2) (a3 : A3) (a4 : A4) (a5 : A5) (a6 : A6) (a7 : A7) (a8 : A8) (a9 : A9) (a10 : A10) (a11 : A11) (h : I a1 a2 a3 a4 a5 a6 a7 a8 a9 a10 a11) : ∃ n, W n a1 a2 a3 a4 a5 a6 a7 a8 a9 a10 a11 :=
  loop_m (σ := A1 × A2 × A3 × A4 × A5 × A6 × A7 × A8 × A9 × A10 × A11) (fun n s => W n s.1 s.2.1 s.2.2.1 s.2.2.2.1 s.2.2.2.2.1 s.2.2.2.2.2.1 s.2.2.2.2.2.2.1 s.2.2.2.2.2.2.2.1 s.2.2.2.2.2.2.2.2.1 s.2.2.2.2.2.2.2.2.2.1 s.2.2.2.2.2.2.2.2.2.2) (fun s => I s.1 s.2.1 s.2.2.1 s.2.2.2.1 s.2.2.2.2.1 s.2.2.2.2.2.1 s.2.2.2.2.2.2.1 s.2.2.2.2.2.2.2.1 s.2.2.2.2.2.2.2.2.1 s.2.2.2.2.2.2.2.2.2.1 s.2.2.2.2.2.2.2.2.2.2) (fun s => μ s.1 s.2.1 s.2.2.1 s.2.2.2.1 s.2.2.2.2.1 s.2.2.2.2.2.1 s.2.2.2.2.2.2.1 s.2.2.2.2.2.2.2.1 s.2.2.2.2.2.2.2.2.1 s.2.2.2.2.2.2.2.2.2.1 s.2.2.2.2.2.2.2.2.2.2) (fun n s hI hk => hs n s.1 s.2.1 s.2.2.1 s.2.2.2.1 s.2.2.2.2.1 s.2.2.2.2.2.1 s.2.2.2.2.2.2.1 s.2.2.2.2.2.2.2.1 s.2.2.2.2.2.2.2.2.1 s.2.2.2.2.2.2.2.2.2.1 s.2.2.2.2.2.2.2.2.2.2 hI (fun b1 b2 b3 b4 b5 b6 b7 b8 b9 b10 b11 h9 hm => hk (b1, b2, b3, b4, b5, b6, b7, b8, b9, b10, b11) h9 hm)) (a1, a2, a3, a4, a5, a6, a7, a8, a9, a10, a11) h
theorem lp12 {A1 A2 A3 A4 A5 A6 A7 A8 A9 A10 A11 A12 : Type} (W : Nat → A1 → A2 → A3 → A4 → A5 → A6 → A7 → A8 → A9 → A10 → A11 → A12 → Prop) (I : A1 → A2 → A3 → A4 → A5 → A6 → A7 → A8 → A9 → A10 → A11 → A12 → Prop) (μ : A1 → A2 → A3 → A4 → A5 → A6 → A7 → A8 → A9 → A10 → A11 → A12 → Nat) (hs : ∀ (n : Nat) (a1 : A1) (a2 : A2) (a3 : A3) (a4 : A4) (a5 : A5) (a6 : A6) (a7 : A7) (a8 : A8) (a9 : A9) (a10 : A10) (a11 : A11) (a12 : A12), I a1 a2 a3 a4 a5 a6 a7 a8 a9 a10 a11 a12 → (∀ (b1 : A1) (b2 : A2) (b3 : A3) (b4 : A4) (b5 : A5) (b6 : A6) (b7 : A7) (b8 : A8) (b9 : A9) (b10 : A10) (b11 : A11) (b12 : A12), I b1 b2 b3 b4 b5 b6 b7 b8 b9 b10 b11 b12 → μ b1 b2 b3 b4 b5 b6 b7 b8 b9 b10 b11 b12 < μ a1 a2 a3 a4 a5 a6 a7 a8 a9 a10 a11 a12 → W n b1 b2 b3 b4 b5 b6 b7 b8 b9 b10 b11 b12) → W (n + 1) a1 a2 a3 a4 a5 a6 a7 a8 a9 a10 a11 a12) (a1 : A1) (a2 : A2) (a3 : A3) (a4 : A4) (a5 : A5) (a6 : A6) (a7 : A7) (a8 : A8) (a9 : A9) (a10 : A10) (a11 : A11) (a12 : A12) (h : I a1 a2 a3 a4 a5 a6 a7 a8 a9 a10 a11 a12) : ∃ n, W n a1 a2 a3 a4 a5 a6 a7 a8 a9 a10 a11 a12 :=
  loop_m (σ := A1 × A2 × A3 × A4 × A5 × A6 × A7 × A8 × A9 × A10 × A11 × A12) (fun n s => W n s.1 s.2.1 s.2.2.1 s.2.2.2.1 s.2.2.2.2.1 s.2.2.2.2.2.1 s.2.2.2.2.2.2.1 s.2.2.2.2.2.2.2.1 s.2.2.2.2.2.2.2.2.1 s.2.2.2.2.2.2.2.2.2.1 s.2.2.2.2.2.2.2.2.2.2.1 s.2.2.2.2.2.2.2.2.2.2.2) (fun s => I s.1 s.2.1 s.2.2.1 s.2.2.2.1 s.2.2.2.2.1 s.2.2.2.2.2.1 s.2.2.2.2.2.2.1 s.2.2.2.2.2.2.2.1 s.2.2.2.2.2.2.2.2.1 s.2.2.2.2.2.2.2.2.2.1 s.2.2.2.2.2.2.2.2.2.2.1 s.2.2.2.2.2.2.2.2.2.2.2) (fun s => μ s.1 s.2.1 s.2.2.1 s.2.2.2.1 s.2.2.2.2.1 s.2.2.2.2.2.1 s.2.2.2.2.2.2.1 s.2.2.2.2.2.2.2.1 s.2.2.2.2.2.2.2.2.1 s.2.2.2.2.2.2.2.2.2.1 s.2.2.2.2.2.2.2.2.2.2.1 s.2.2.2.2.2.2.2.2.2.2.2) (fun n s hI hk => hs n s.1 s.2.1 s.2.2.1 s.2.2.2.1 s.2.2.2.2.1 s.2.2.2.2.2.1 s.2.2.2.2.2.2.1 s.2.2.2.2.2.2.2.1 s.2.2.2.2.2.2.2.2.1 s.2.2.2.2.2.2.2.2.2.1 s.2.2.2.2.2.2.2.2.2.2.1 s.2.2.2.2.2.2.2.2.2.2.2 hI (fun b1 b2 b3 b4 b5 b6 b7 b8 b9 b10 b11 b12 h9 hm => hk (b1, b2, b3, b4, b5, b6, b7, b8, b9, b10, b11, b12) h9 hm)) (a1, a2, a3, a4, a5, a6, a7, a8, a9, a10, a11, a12) h
theorem lp13 {A1 A2 A3 A4 A5 A6 A7 A8 A9 A10 A11 A12 A13 : Type} (W : Nat → A1 → A2 → A3 → A4 → A5 → A6 → A7 → A8 → A9 → A10 → A11 → A12 → A13 → Prop) (I : A1 → A2 → A3 → A4 → A5 → A6 → A7 → A8 → A9 → A10 → A11 → A12 → A13 → Prop) (μ : A1 → A2 → A3 → A4 → A5 → A6 → A7 → A8 → A9 → A10 → A11 → A12 → A13 → Nat) (hs : ∀ (n : Nat) (a1 : A1) (a2 : A2) (a3 : A3) (a4 : A4) (a5 : A5) (a6 : A6) (a7 : A7) (a8 : A8) (a9 : A9) (a10 : A10) (a11 : A11) (a12 : A12) (a13 : A13), I a1 a2 a3 a4 a5 a6 a7 a8 a9 a10 a11 a12 a13 → (∀ (b1 : A1) (b2 : A2) (b3 : A3) (b4 : A4) (b5 : A5) (b6 : A6) (b7 : A7) (b8 : A8) (b9 : A9) (b10 : A10) (b11 : A11) (b12 : A12) (b13 : A13), I b1 b2 b3 b4 b5 b6 b7 b8 b9 b10 b11 b12 b13 → μ b1 b2 b3 b4 b5 b6 b7 b8 b9 b10 b11 b12 b13 < μ a1 a2 a3 a4 a5 a6 a7 a8 a9 a10 a11 a12 a13 → W n b1 b2 b3 b4 b5 b6 b7 b8 b9 b10 b11 b12 b13) → W (n + 1) a1 a2 a3 a4 a5 a6 a7 a8 a9 a10 a11 a12 a13) (a1 : A1) (a2 : A2) (a3 : A3) (a4 : A4) (a5 : A5) (a6 : A6) (a7 : A7) (a8 : A8) (a9 : A9) (a10 : A10) (a11 : A11) (a12 : A12) (a13 : A13) (h : I a1 a2 a3 a4 a5 a6 a7 a8 a9 a10 a11 a12 a13) : ∃ n, W n a1 a2 a3 a4 a5 a6 a7 a8 a9 a10 a11 a12 a13 :=
  loop_m (σ := A1 × A2 × A3 × A4 × A5 × A6 × A7 × A8 × A9 × A10 × A11 × A12 × A13) (fun n s => W n s.1 s.2.1 s.2.2.1 s.2.2.2.1 s.2.2.2.2.1 s.2.2.2.2.2.1 s.2.2.2.2.2.2.1 s.2.2.2.2.2.2.2.1 s.2.2.2.2.2.2.2.2.1 s.2.2.2.2.2.2.2.2.2.1 s.2.2.2.2.2.2.2.2.2.2.1 s.2.2.2.2.2.2.2.2.2.2.2.1 s.2.2.2.2.2.2.2.2.2.2.2.2) (fun s => I s.1 s.2.1 s.2.2.1 s.2.2.2.1 s.2.2.2.2.1 s.2.2.2.2.2.1 s.2.2.2.2.2.2.1 s.2.2.2.2.2.2.2.1 s.2.2.2.2.2.2.2.2.1 s.2.2.2.2.2.2.2.2.2.1 s.2.2.2.2.2.2.2.2.2.2.1 s.2.2.2.2.2.2.2.2.2.2.2.1 s.2.2.2.2.2.2.2.2.2.2.2.2) (fun s => μ s.1 s.2.1 s.2.2.1 s.2.2.2.1 s.2.2.2.2.1 s.2.2.2.2.2.1 s.2.2.2.2.2.2.1 s.2.2.2.2.2.2.2.1 s.2.2.2.2.2.2.2.2.1 s.2.2.2.2.2.2.2.2.2.1 s.2.2.2.2.2.2.2.2.2.2.1 s.2.2.2.2.2.2.2.2.2.2.2.1 s.2.2.2.2.2.2.2.2.2.2.2.2) (fun n s hI hk => hs n s.1 s.2.1 s.2.2.1 s.2.2.2.1 s.2.2.2.2.1 s.2.2.2.2.2.1 s.2.2.2.2.2.2.1 s.2.2.2.2.2.2.2.1 s.2.2.2.2.2.2.2.2.1 s.2.2.2.2.2.2.2.2.2.1 s.2.2.2.2.2.2.2.2.2.2.1 s.2.2.2.2.2.2.2.2.2.2.2.1 s.2.2.2.2.2.2.2.2.2.2.2.2 hI (fun b1 b2 b3 b4 b5 b6 b7 b8 b9 b10 b11 b12 b13 h9 hm => hk (b1, b2, b3, b4, b5, b6, b7, b8, b9, b10, b11, b12, b13) h9 hm)) (a1, a2, a3, a4, a5, a6, a7, a8, a9, a10, a11, a12, a13) h
theorem lp14 {A1 A2 A3 A4 A5 A6 A7 A8 A9 A10 A11 A12 A13 A14 : Type} (W : Nat → A1 → A2 → A3 → A4 → A5 → A6 → A7 → A8 → A9 → A10 → A11 → A12 → A13 → A14 → Prop) (I : A1 → A2 → A3 → A4 → A5 → A6 → A7 → A8 → A9 → A10 → A11 → A12 → A13 → A14 → Prop) (μ : A1 → A2 → A3 → A4 → A5 → A6 → A7 → A8 → A9 → A10 → A11 → A12 → A13 → A14 → Nat) (hs : ∀ (n : Nat) (a1 : A1) (a2 : A2) (a3 : A3) (a4 : A4) (a5 : A5) (a6 : A6) (a7 : A7) (a8 : A8) (a9 : A9) (a10 : A10) (a11 : A11) (a12 : A12) (a13 : A13) (a14 : A14), I a1 a2 a3 a4 a5 a6 a7 a8 a9 a10 a11 a12 a13 a14 → (∀ (b1 : A1) (b2 : A2) (b3 : A3) (b4 : A4) (b5 : A5) (b6 : A6) (b7 : A7) (b8 : A8) (b9 : A9) (b10 : A10) (b11 : A11) (b12 : A12) (b13 : A13) (b14 : A14), I b1 b2 b3 b4 b5 b6 b7 b8 b9 b10 b11 b12 b13 b14 → μ b1 b2 b3 b4 b5 b6 b7 b8 b9 b10 b11 b12 b13 b14 < μ a1 a2 a3 a4 a5 a6 a7 a8 a9 a10 a11 a12 a13 a14 → W n b1 b2 b3 b4 b5 b6 b7 b8 b9 b10 b11 b12 b13 b14) → W (n + 1) a1 a2 a3 a4 a5 a6 a7 a8 a9 a10 a11 a12 a13 a14) (a1 : A1) (a2 : A2) (a3 : A3) (a4 : A4) (a5 : A5) (a6 : A6) (a7 : A7) (a8 : A8) (a9 : A9) (a10 : A10) (a11 : A11) (a12 : A12) (a13 : A13) (a14 : A14) (h : I a1 a2 a3 a4 a5 a6 a7 a8 a9 a10 a11 a12 a13 a14) : ∃ n, W n a1 a2 a3 a4 a5 a6 a7 a8 a9 a10 a11 a12 a13 a14 :=
  loop_m (σ := A1 × A2 × A3 × A4 × A5 × A6 × A7 × A8 × A9 × A10 × A11 × A12 × A13 × A14) (fun n s => W n s.1 s.2.1 s.2.2.1 s.2.2.2.1 s.2.2.2.2.1 s.2.2.2.2.2.1 s.2.2.2.2.2.2.1 s.2.2.2.2.2.2.2.1 s.2.2.2.2.2.2.2.2.1 s.2.2.2.2.2.2.2.2.2.1 s.2.2.2.2.2.2.2.2.2.2.1 s.2.2.2.2.2.2.2.2.2.2.2.1 s.2.2.2.2.2.2.2.2.2.2.2.2.1 s.2.2.2.2.2.2.2.2.2.2.2.2.2) (fun s => I s.1 s.2.1 s.2.2.1 s.2.2.2.1 s.2.2.2.2.1 s.2.2.2.2.2.1 s.2.2.2.2.2.2.1 s.2.2.2.2.2.2.2.1 s.2.2.2.2.2.2.2.2.1 s.2.2.2.2.2.2.2.2.2.1 s.2.2.2.2.2.2.2.2.2.2.1 s.2.2.2.2.2.2.2.2.2.2.2.1 s.2.2.2.2.2.2.2.2.2.2.2.2.1 s.2.2.2.2.2.2.2.2.2.2.2.2.2) (fun s => μ s.1 s.2.1 s.2.2.1 s.2.2.2.1 s.2.2.2.2.1 s.2.2.2.2.2.1 s.2.2.2.2.2.2.1 s.2.2.2.2.2.2.2.1 s.2.2.2.2.2.2.2.2.1 s.2.2.2.2.2.2.2.2.2.1 s.2.2.2.2.2.2.2.2.2.2.1 s.2.2.2.2.2.2.2.2.2.2.2.1 s.2.2.2.2.2.2.2.2.2.2.2.2.1 s.2.2.2.2.2.2.2.2.2.2.2.2.2) (fun n s hI hk => hs n s.1 s.2.1 s.2.2.1 s.2.2.2.1 s.2.2.2.2.1 s.2.2.2.2.2.1 s.2.2.2.2.2.2.1 s.2.2.2.2.2.2.2.1 s.2.2.2.2.2.2.2.2.1 s.2.2.2.2.2.2.2.2.2.1 s.2.2.2.2.2.2.2.2.2.2.1 s.2.2.2.2.2.2.2.2.2.2.2.1 s.2.2.2.2.2.2.2.2.2.2.2.2.1 s.2.2.2.2.2.2.2.2.2.2.2.2.2 hI (fun b1 b2 b3 b4 b5 b6 b7 b8 b9 b10 b11 b12 b13 b14 h9 hm => hk (b1, b2, b3, b4, b5, b6, b7, b8, b9, b10, b11, b12, b13, b14) h9 hm)) (a1, a2, a3, a4, a5, a6, a7, a8, a9, a10, a11, a12, a13, a14) h
theorem lp15 {A1 A2 A3 A4 A5 A6 A7 A8 A9 A10 A11 A12 A13 A14 A15 : Type} (W : Nat → A1 → A2 → A3 → A4 → A5 → A6 → A7 → A8 → A9 → A10 → A11 → A12 → A13 → A14 → A15 → Prop) (I : A1 → A2 → A3 → A4 → A5 → A6 → A7 → A8 → A9 → A10 → A11 → A12 → A13 → A14 → A15 → Prop) (μ : A1 → A2 → A3 → A4 → A5 → A6 → A7 → A8 → A9 → A10 → A11 → A12 → A13 → A14 → A15 → Nat) (hs : ∀ (n : Nat) (a1 : A1) (a2 : A2) (a3 : A3) (a4 : A4) (a5 : A5) (a6 : A6) (a7 : A7) (a8 : A8) (a9 : A9) (a10 : A10) (a11 : A11) (a12 : A12) (a13 : A13) (a14 : A14) (a15 : A15), I a1 a2 a3 a4 a5 a6 a7 a8 a9 a10 a11 a12 a13 a14 a15 → (∀ (b1 : A1) (b2 : A2) (b3 : A3) (b4 : A4) (b5 : A5) (b6 : A6) (b7 : A7) (b8 : A8) (b9 : A9) (b10 : A10) (b11 : A11) (b12 : A12) (b13 : A13) (b14 : A14) (b15 : A15), I b1 b2 b3 b4 b5 b6 b7 b8 b9 b10 b11 b12 b13 b14 b15 → μ b1 b2 b3 b4 b5 b6 b7 b8 b9 b10 b11 b12 b13 b14 b15 < μ a1 a2 a3 a4 a5 a6 a7 a8 a9 a10 a11 a12 a13 a14 a15 → W n b1 b2 b3 b4 b5 b6 b7 b8 b9 b10 b11 b12 b13 b14 b15) → W (n + 1) a1 a2 a3 a4 a5 a6 a7 a8 a9 a10 a11 a12 a13 a14 a15) (a1 : A1) (a2 : A2) (a3 : A3) (a4 : A4) (a5 : A5) (a6 : A6) (a7 : A7) (a8 : A8) (a9 : A9) (a10 : A10) (a11 : A11) (a12 : A12) (a13 : A13) (a14 : A14) (a15 : A15) (h : I a1 a2 a3 a4 a5 a6 a7 a8 a9 a10 a11 a12 a13 a14 a15) : ∃ n, W n a1 a2 a3 a4 a5 a6 a7 a8 a9 a10 a11 a12 a13 a14 a15 :=
  loop_m (σ := A1 × A2 × A3 × A4 × A5 × A6 × A7 × A8 × A9 × A10 × A11 × A12 × A13 × A14 × A15) (fun n s => W n s.1 s.2.1 s.2.2.1 s.2.2.2.1 s.2.2.2.2.1 s.2.2.2.2.2.1 s.2.2.2.2.2.2.1 s.2.2.2.2.2.2.2.1 s.2.2.2.2.2.2.2.2.1 s.2.2.2.2.2.2.2.2.2.1 s.2.2.2.2.2.2.2.2.2.2.1 s.2.2.2.2.2.2.2.2.2.2.2.1 s.2.2.2.2.2.2.2.2.2.2.2.2.1 s.2.2.2.2.2.2.2.2.2.2.2.2.2.1 s.2.2.2.2.2.2.2.2.2.2.2.2.2.2) (fun s => I s.1 s.2.1 s.2.2.1 s.2.2.2.1 s.2.2.2.2.1 s.2.2.2.2.2.1 s.2.2.2.2.2.2.1 s.2.2.2.2.2.2.2.1 s.2.2.2.2.2.2.2.2.1 s.2.2.2.2.2.2.2.2.2.1 s.2.2.2.2.2.2.2.2.2.2.1 s.2.2.2.2.2.2.2.2.2.2.2.1 s.2.2.2.2.2.2.2.2.2.2.2.2.1 s.2.2.2.2.2.2.2.2.2.2.2.2.2.1 s.2.2.2.2.2.2.2.2.2.2.2.2.2.2) (fun s => μ s.1 s.2.1 s.2.2.1 s.2.2.2.1 s.2.2.2.2.1 s.2.2.2.2.2.1 s.2.2.2.2.2.2.1 s.2.2.2.2.2.2.2.1 s.2.2.2.2.2.2.2.2.1 s.2.2.2.2.2.2.2.2.2.1 s.2.2.2.2.2.2.2.2.2.2.1 s.2.2.2.2.2.2.2.2.2.2.2.1 s.2.2.2.2.2.2.2.2.2.2.2.2.1 s.2.2.2.2.2.2.2.2.2.2.2.2.2.1 s.2.2.2.2.2.2.2.2.2.2.2.2.2.2) (fun n s hI hk => hs n s.1 s.2.1 s.2.2.1 s.2.2.2.1 s.2.2.2.2.1 s.2.2.2.2.2.1 s.2.2.2.2.2.2.1 s.2.2.2.2.2.2.2.1 s.2.2.2.2.2.2.2.2.1 s.2.2.2.2.2.2.2.2.2.1 s.2.2.2.2.2.2.2.2.2.2.1 s.2.2.2.2.2.2.2.2.2.2.2.1 s.2.2.2.2.2.2.2.2.2.2.2.2.1 s.2.2.2.2.2.2.2.2.2.2.2.2.2.1 s.2.2.2.2.2.2.2.2.2.2.2.2.2.2 hI (fun b1 b2 b3 b4 b5 b6 b7 b8 b9 b10 b11 b12 b13 b14 b15 h9 hm => hk (b1, b2, b3, b4, b5, b6, b7, b8, b9, b10, b11, b12, b13, b14, b15) h9 hm)) (a1, a2, a3, a4, a5, a6, a7, a8, a9, a10, a11, a12, a13, a14, a15) h
theorem lp16 {A1 A2 A3 A4 A5 A6 A7 A8 A9 A10 A11 A12 A13 A14 A15 A16 : Type} (W : Nat → A1 → A2 → A3 → A4 → A5 → A6 → A7 → A8 → A9 → A10 → A11 → A12 → A13 → A14 → A15 → A16 → Prop) (I : A1 → A2 → A3 → A4 → A5 → A6 → A7 → A8 → A9 → A10 → A11 → A12 → A13 → A14 → A15 → A16 → Prop) (μ : A1 → A2 → A3 → A4 → A5 → A6 → A7 → A8 → A9 → A10 → A11 → A12 → A13 → A14 → A15 → A16 → Nat) (hs : ∀ (n : Nat) (a1 : A1) (a2 : A2) (a3 : A3) (a4 : A4) (a5 : A5) (a6 : A6) (a7 : A7) (a8 : A8) (a9 : A9) (a10 : A10) (a11 : A11) (a12 : A12) (a13 : A13) (a14 : A14) (a15 : A15) (a16 : A16), I a1 a2 a3 a4 a5 a6 a7 a8 a9 a10 a11 a12 a13 a14 a15 a16 → (∀ (b1 : A1) (b2 : A2) (b3 : A3) (b4 : A4) (b5 : A5) (b6 : A6) (b7 : A7) (b8 : A8) (b9 : A9) (b10 : A10) (b11 : A11) (b12 : A12) (b13 : A13) (b14 : A14) (b15 : A15) (b16 : A16), I b1 b2 b3 b4 b5 b6 b7 b8 b9 b10 b11 b12 b13 b14 b15 b16 → μ b1 b2 b3 b4 b5 b6 b7 b8 b9 b10 b11 b12 b13 b14 b15 b16 < μ a1 a2 a3 a4 a5 a6 a7 a8 a9 a10 a11 a12 a13 a14 a15 a16 → W n b1 b2 b3 b4 b5 b6 b7 b8 b9 b10 b11 b12 b13 b14 b15 b16) → W (n + 1) a1 a2 a3 a4 a5 a6 a7 a8 a9 a10 a11 a12 a13 a14 a15 a16) (a1 : A1) (a2 : A2) (a3 : A3) (a4 : A4) (a5 : A5) (a6 : A6) (a7 : A7) (a8 : A8) (a9 : A9) (a10 : A10) (a11 : A11) (a12 : A12) (a13 : A13) (a14 : A14) (a15 : A15) (a16 : A16) (h : I a1 a2 a3 a4 a5 a6 a7 a8 a9 a10 a11 a12 a13 a14 a15 a16) : ∃ n, W n a1 a2 a3 a4 a5 a6 a7 a8 a9 a10 a11 a12 a13 a14 a15 a16 :=
  loop_m (σ := A1 × A2 × A3 × A4 × A5 × A6 × A7 × A8 × A9 × A10 × A11 × A12 × A13 × A14 × A15 × A16) (fun n s => W n s.1 s.2.1 s.2.2.1 s.2.2.2.1 s.2.2.2.2.1 s.2.2.2.2.2.1 s.2.2.2.2.2.2.1 s.2.2.2.2.2.2.2.1 s.2.2.2.2.2.2.2.2.1 s.2.2.2.2.2.2.2.2.2.1 s.2.2.2.2.2.2.2.2.2.2.1 s.2.2.2.2.2.2.2.2.2.2.2.1 s.2.2.2.2.2.2.2.2.2.2.2.2.1 s.2.2.2.2.2.2.2.2.2.2.2.2.2.1 s.2.2.2.2.2.2.2.2.2.2.2.2.2.2.1 s.2.2.2.2.2.2.2.2.2.2.2.2.2.2.2) (fun s => I s.1 s.2.1 s.2.2.1 s.2.2.2.1 s.2.2.2.2.1 s.2.2.2.2.2.1 s.2.2.2.2.2.2.1 s.2.2.2.2.2.2.2.1 s.2.2.2.2.2.2.2.2.1 s.2.2.2.2.2.2.2.2.2.1 s.2.2.2.2.2.2.2.2.2.2.1 s.2.2.2.2.2.2.2.2.2.2.2.1 s.2.2.2.2.2.2.2.2.2.2.2.2.1 s.2.2.2.2.2.2.2.2.2.2.2.2.2.1 s.2.2.2.2.2.2.2.2.2.2.2.2.2.2.1 s.2.2.2.2.2.2.2.2.2.2.2.2.2.2.2) (fun s => μ s.1 s.2.1 s.2.2.1 s.2.2.2.1 s.2.2.2.2.1 s.2.2.2.2.2.1 s.2.2.2.2.2.2.1 s.2.2.2.2.2.2.2.1 s.2.2.2.2.2.2.2.2.1 s.2.2.2.2.2.2.2.2.2.1 s.2.2.2.2.2.2.2.2.2.2.1 s.2.2.2.2.2.2.2.2.2.2.2.1 s.2.2.2.2.2.2.2.2.2.2.2.2.1 s.2.2.2.2.2.2.2.2.2.2.2.2.2.1 s.2.2.2.2.2.2.2.2.2.2.2.2.2.2.1 s.2.2.2.2.2.2.2.2.2.2.2.2.2.2.2) (fun n s hI hk => hs n s.1 s.2.1 s.2.2.1 s.2.2.2.1 s.2.2.2.2.1 s.2.2.2.2.2.1 s.2.2.2.2.2.2.1 s.2.2.2.2.2.2.2.1 s.2.2.2.2.2.2.2.2.1 s.2.2.2.2.2.2.2.2.2.1 s.2.2.2.2.2.2.2.2.2.2.1 s.2.2.2.2.2.2.2.2.2.2.2.1 s.2.2.2.2.2.2.2.2.2.2.2.2.1 s.2.2.2.2.2.2.2.2.2.2.2.2.2.1 s.2.2.2.2.2.2.2.2.2.2.2.2.2.2.1 s.2.2.2.2.2.2.2.2.2.2.2.2.2.2.2 hI (fun b1 b2 b3 b4 b5 b6 b7 b8 b9 b10 b11 b12 b13 b14 b15 b16 h9 hm => hk (b1, b2, b3, b4, b5, b6, b7, b8, b9, b10, b11, b12, b13, b14, b15, b16) h9 hm)) (a1, a2, a3, a4, a5, a6, a7, a8, a9, a10, a11, a12, a13, a14, a15, a16) h
theorem pk_least (P : Nat → Prop) (h : ∃ k, P k) : ∃ k, P k ∧ ∀ j, j < k → ¬ P j := by
  obtain ⟨k, hk⟩ := h
  induction k using Nat.strongRecOn with
  | ind k ih =>
    by_cases e : ∃ j, j < k ∧ P j
    · obtain ⟨j, hj, pj⟩ := e
      exact ih j hj pj
    · exact ⟨k, hk, fun j hj pj => e ⟨j, hj, pj⟩⟩
theorem rp1 {ρ A1 : Type} (W : Nat → (ρ → Prop) → A1 → Prop) (ok : A1 → Prop) (μ : A1 → Nat) (val : A1 → ρ)
    (hs : ∀ (d : Nat) (post : ρ → Prop) (a1 : A1), ok a1 → post (val a1) → (∀ (post' : ρ → Prop) (b1 : A1), ok b1 → μ b1 < μ a1 → post' (val b1) → W d post' b1) → W (d + 1) post a1) :
    ∀ (d : Nat) (post : ρ → Prop) (a1 : A1), ok a1 → μ a1 < d → post (val a1) → W d post a1 := by
  intro d
  induction d with
  | zero => intro post a1 _ h; omega
  | succ d ih =>
    intro post a1 ho hm hp
    exact hs d post a1 ho hp (fun post' b1 ho' hm' hp' => ih post' b1 ho' (by omega) hp')
theorem rp2 {ρ A1 A2 : Type} (W : Nat → (ρ → Prop) → A1 → A2 → Prop) (ok : A1 → A2 → Prop) (μ : A1 → A2 → Nat) (val : A1 → A2 → ρ)
    (hs : ∀ (d : Nat) (post : ρ → Prop) (a1 : A1) (a2 : A2), ok a1 a2 → post (val a1 a2) → (∀ (post' : ρ → Prop) (b1 : A1) (b2 : A2), ok b1 b2 → μ b1 b2 < μ a1 a2 → post' (val b1 b2) → W d post' b1 b2) → W (d + 1) post a1 a2) :
    ∀ (d : Nat) (post : ρ → Prop) (a1 : A1) (a2 : A2), ok a1 a2 → μ a1 a2 < d → post (val a1 a2) → W d post a1 a2 := by
  intro d
  induction d with
  | zero => intro post a1 a2 _ h; omega
  | succ d ih =>
    intro post a1 a2 ho hm hp
    exact hs d post a1 a2 ho hp (fun post' b1 b2 ho' hm' hp' => ih post' b1 b2 ho' (by omega) hp')
theorem rp3 {ρ A1 A2 A3 : Type} (W : Nat → (ρ → Prop) → A1 → A2 → A3 → Prop) (ok : A1 → A2 → A3 → Prop) (μ : A1 → A2 → A3 → Nat) (val : A1 → A2 → A3 → ρ)
    (hs : ∀ (d : Nat) (post : ρ → Prop) (a1 : A1) (a2 : A2) (a3 : A3), ok a1 a2 a3 → post (val a1 a2 a3) → (∀ (post' : ρ → Prop) (b1 : A1) (b2 : A2) (b3 : A3), ok b1 b2 b3 → μ b1 b2 b3 < μ a1 a2 a3 → post' (val b1 b2 b3) → W d post' b1 b2 b3) → W (d + 1) post a1 a2 a3) :
    ∀ (d : Nat) (post : ρ → Prop) (a1 : A1) (a2 : A2) (a3 : A3), ok a1 a2 a3 → μ a1 a2 a3 < d → post (val a1 a2 a3) → W d post a1 a2 a3 := by
  intro d
  induction d with
  | zero => intro post a1 a2 a3 _ h; omega
  | succ d ih =>
    intro post a1 a2 a3 ho hm hp
    exact hs d post a1 a2 a3 ho hp (fun post' b1 b2 b3 ho' hm' hp' => ih post' b1 b2 b3 ho' (by omega) hp')
theorem rp4 {ρ A1 A2 A3 A4 : Type} (W : Nat → (ρ → Prop) → A1 → A2 → A3 → A4 → Prop) (ok : A1 → A2 → A3 → A4 → Prop) (μ : A1 → A2 → A3 → A4 → Nat) (val : A1 → A2 → A3 → A4 → ρ)
    (hs : ∀ (d : Nat) (post : ρ → Prop) (a1 : A1) (a2 : A2) (a3 : A3) (a4 : A4), ok a1 a2 a3 a4 → post (val a1 a2 a3 a4) → (∀ (post' : ρ → Prop) (b1 : A1) (b2 : A2) (b3 : A3) (b4 : A4), ok b1 b2 b3 b4 → μ b1 b2 b3 b4 < μ a1 a2 a3 a4 → post' (val b1 b2 b3 b4) → W d post' b1 b2 b3 b4) → W (d + 1) post a1 a2 a3 a4) :
    ∀ (d : Nat) (post : ρ → Prop) (a1 : A1) (a2 : A2) (a3 : A3) (a4 : A4), ok a1 a2 a3 a4 → μ a1 a2 a3 a4 < d → post (val a1 a2 a3 a4) → W d post a1 a2 a3 a4 := by
  intro d
  induction d with
  | zero => intro post a1 a2 a3 a4 _ h; omega
  | succ d ih =>
    intro post a1 a2 a3 a4 ho hm hp
    exact hs d post a1 a2 a3 a4 ho hp (fun post' b1 b2 b3 b4 ho' hm' hp' => ih post' b1 b2 b3 b4 ho' (by omega) hp')
theorem rp5 {ρ A1 A2 A3 A4 A5 : Type} (W : Nat → (ρ → Prop) → A1 → A2 → A3 → A4 → A5 → Prop) (ok : A1 → A2 → A3 → A4 → A5 → Prop) (μ : A1 → A2 → A3 → A4 → A5 → Nat) (val : A1 → A2 → A3 → A4 → A5 → ρ)
    (hs : ∀ (d : Nat) (post : ρ → Prop) (a1 : A1) (a2 : A2) (a3 : A3) (a4 : A4) (a5 : A5), ok a1 a2 a3 a4 a5 → post (val a1 a2 a3 a4 a5) → (∀ (post' : ρ → Prop) (b1 : A1) (b2 : A2) (b3 : A3) (b4 : A4) (b5 : A5), ok b1 b2 b3 b4 b5 → μ b1 b2 b3 b4 b5 < μ a1 a2 a3 a4 a5 → post' (val b1 b2 b3 b4 b5) → W d post' b1 b2 b3 b4 b5) → W (d + 1) post a1 a2 a3 a4 a5) :
    ∀ (d : Nat) (post : ρ → Prop) (a1 : A1) (a2 : A2) (a3 : A3) (a4 : A4) (a5 : A5), ok a1 a2 a3 a4 a5 → μ a1 a2 a3 a4 a5 < d → post (val a1 a2 a3 a4 a5) → W d post a1 a2 a3 a4 a5 := by
  intro d
  induction d with
  | zero => intro post a1 a2 a3 a4 a5 _ h; omega
  | succ d ih =>
    intro post a1 a2 a3 a4 a5 ho hm hp
    exact hs d post a1 a2 a3 a4 a5 ho hp (fun post' b1 b2 b3 b4 b5 ho' hm' hp' => ih post' b1 b2 b3 b4 b5 ho' (by omega) hp')
theorem rp6 {ρ A1 A2 A3 A4 A5 A6 : Type} (W : Nat → (ρ → Prop) → A1 → A2 → A3 → A4 → A5 → A6 → Prop) (ok : A1 → A2 → A3 → A4 → A5 → A6 → Prop) (μ : A1 → A2 → A3 → A4 → A5 → A6 → Nat) (val : A1 → A2 → A3 → A4 → A5 → A6 → ρ)
    (hs : ∀ (d : Nat) (post : ρ → Prop) (a1 : A1) (a2 : A2) (a3 : A3) (a4 : A4) (a5 : A5) (a6 : A6), ok a1 a2 a3 a4 a5 a6 → post (val a1 a2 a3 a4 a5 a6) → (∀ (post' : ρ → Prop) (b1 : A1) (b2 : A2) (b3 : A3) (b4 : A4) (b5 : A5) (b6 : A6), ok b1 b2 b3 b4 b5 b6 → μ b1 b2 b3 b4 b5 b6 < μ a1 a2 a3 a4 a5 a6 → post' (val b1 b2 b3 b4 b5 b6) → W d post' b1 b2 b3 b4 b5 b6) → W (d + 1) post a1 a2 a3 a4 a5 a6) :
    ∀ (d : Nat) (post : ρ → Prop) (a1 : A1) (a2 : A2) (a3 : A3) (a4 : A4) (a5 : A5) (a6 : A6), ok a1 a2 a3 a4 a5 a6 → μ a1 a2 a3 a4 a5 a6 < d → post (val a1 a2 a3 a4 a5 a6) → W d post a1 a2 a3 a4 a5 a6 := by
  intro d
  induction d with
  | zero => intro post a1 a2 a3 a4 a5 a6 _ h; omega
  | succ d ih =>
    intro post a1 a2 a3 a4 a5 a6 ho hm hp
    exact hs d post a1 a2 a3 a4 a5 a6 ho hp (fun post' b1 b2 b3 b4 b5 b6 ho' hm' hp' => ih post' b1 b2 b3 b4 b5 b6 ho' (by omega) hp')
theorem rec_p {σ ρ : Type} (W : Nat → (ρ → Prop) → σ → Prop) (ok : σ → Prop) (μ : σ → Nat) (val : σ → ρ)
    (hs : ∀ d s post, ok s → post (val s) → (∀ s' post', ok s' → μ s' < μ s → post' (val s') → W d post' s') → W (d + 1) post s) :
    ∀ d s post, ok s → μ s < d → post (val s) → W d post s := by
  intro d
  induction d with
  | zero => intro s post _ h; omega
  | succ d ih =>
    intro s post ho hm hp
    exact hs d s post ho hp (fun s' post' ho' hm' hp' => ih s' post' ho' (by omega) hp')
theorem rec_q {σ ρ : Type} (W : Nat → (ρ → Prop) → σ → Prop) (ok : σ → Prop) (μ : σ → Nat) (Q : σ → ρ → Prop)
    (hs : ∀ d s post, ok s → (∀ r, Q s r → post r) → (∀ s' post', ok s' → μ s' < μ s → (∀ r, Q s' r → post' r) → W d post' s') → W (d + 1) post s) :
    ∀ d s post, ok s → μ s < d → (∀ r, Q s r → post r) → W d post s := by
  intro d
  induction d with
  | zero => intro s post _ h; omega
  | succ d ih =>
    intro s post ho hm hp
    exact hs d s post ho hp (fun s' post' ho' hm' hp' => ih s' post' ho' (by omega) hp')
def bx_sum (f : Nat → Int32) : Nat → Int32
  | 0 => 0
  | n + 1 => bx_sum f n + f n
theorem ek_u {A : Prop} {B : Nat → Prop} {k N : Nat} (hk : k < N) (h : B k) : (some k = none → A) ∧ (∀ y : Nat, some k = some y → (y < N ∧ B y)) :=
  ⟨fun z => absurd z (Option.some_ne_none k), fun _ e => (by cases e; exact ⟨hk, h⟩)⟩
theorem ek_nu {A : Prop} {B : Nat → Prop} (h : A) : ((none : Option Nat) = none → A) ∧ (∀ y : Nat, (none : Option Nat) = some y → B y) :=
  ⟨fun _ => h, fun _ e => (by cases e)⟩
theorem ek_if {c d A B : Prop} (e : c ↔ d) (f : d → A) (g : ¬ d → B) : (c → A) ∧ (¬ c → B) :=
  ⟨fun z => f (e.mp z), fun z => g (fun y => z (e.mpr y))⟩
theorem ek_v {α : Sort _} {P : α → Prop} {a b : α} (e : a = b) (h : P b) : P a := e ▸ h
theorem co_some {x : Option Nat} {A : Prop} {B : Nat → Prop} (i : Nat) (h : B i) (hx : x = some i := by rfl) : (x = none → A) ∧ (∀ y : Nat, x = some y → B y) := by
  subst hx
  exact ⟨fun e => (nomatch e), fun y e => Option.some.inj e ▸ h⟩
theorem co_none {x : Option Nat} {A : Prop} {B : Nat → Prop} (h : A) (hx : x = none := by rfl) : (x = none → A) ∧ (∀ y : Nat, x = some y → B y) := by
  subst hx
  exact ⟨fun _ => h, fun y e => (nomatch e)⟩
theorem co_any {x : Option Nat} {A : Prop} {B : Nat → Prop} (hn : x = none → A) (hs : ∀ i : Nat, x = some i → B i) : (x = none → A) ∧ (∀ y : Nat, x = some y → B y) := ⟨hn, hs⟩
theorem co_2 {P : Nat → Prop} (h0 : P 0) (h1 : P 1) {i : Nat} (hi : i < 2) : P i :=
  match i, hi with
  | 0, _ => h0
  | 1, _ => h1
theorem co_3 {P : Nat → Prop} (h0 : P 0) (h1 : P 1) (h2 : P 2) {i : Nat} (hi : i < 3) : P i :=
  match i, hi with
  | 0, _ => h0
  | 1, _ => h1
  | 2, _ => h2
theorem co_4 {P : Nat → Prop} (h0 : P 0) (h1 : P 1) (h2 : P 2) (h3 : P 3) {i : Nat} (hi : i < 4) : P i :=
  match i, hi with
  | 0, _ => h0
  | 1, _ => h1
  | 2, _ => h2
  | 3, _ => h3
theorem co_dec {N : Nat} {P : Nat → Prop} [DecidablePred P] (h : (List.range N).all (fun i => decide (P i)) = true) {i : Nat} (hi : i < N) : P i := by
  have := List.all_eq_true.mp h i (List.mem_range.mpr hi)
  exact of_decide_eq_true this
theorem co_tab {α : Type} {l : List α} {d : α} {P : α → Prop} (h : ∀ a, a ∈ l → P a) {i : Nat} (hi : i < l.length) : P (l.getD i d) := by
  rw [List.getD_eq_getElem?_getD, List.getElem?_eq_getElem hi]
  exact h _ (List.getElem_mem hi)
theorem pk_mu {x : Int32} {L : Nat} (h0 : ¬ x < 0) (h : ¬ nI L ≤ x) (hL : L < 2 ^ 31) : ∃ j : Nat, j < L ∧ x = nI j ∧ x + 1 = nI (j + 1) ∧ x.toNatClampNeg = j ∧ L - (x + 1).toNatClampNeg < L - x.toNatClampNeg := by
  obtain ⟨j, hj, rfl⟩ := nI_of h0
  have hl : j < L := Nat.not_le.mp fun q => h (nI_le q hj)
  refine ⟨j, hl, rfl, nI_1 j, nI_clamp hj, ?_⟩
  rw [nI_1, nI_clamp (by omega), nI_clamp hj]
  omega
theorem op_s {α : Type} {r : Option α} {A : Prop} {B : α → Prop} {y : α} (h : r = some y) (b : B y) : (r = none → A) ∧ ∀ z, r = some z → B z :=
  ⟨fun e => (by rw [h] at e; cases e), fun z e => (by rw [h] at e; cases e; exact b)⟩
def l_holds {α : Type} (a : Nat → Option Nat) (LP : List Nat) (p : Nat → α) (c : Nat) (b : Nat → α) : Prop :=
  ∀ j, j < c → ∃ y, a j = some y ∧ y ∈ LP ∧ p y = b j
theorem l_holds_0 {α : Type} {a : Nat → Option Nat} {LP : List Nat} {p b : Nat → α} : l_holds a LP p 0 b := fun j h => absurd h (Nat.not_lt_zero j)
theorem l_in_new (LP : List Nat) (q : Nat) : q ∈ LP ++ [q] := List.mem_append.mpr (Or.inr (List.mem_singleton.mpr rfl))
def l_sum (b : Nat → Int32) : Nat → Int32
  | 0 => 0
  | k + 1 => l_sum b k + b k
theorem sb_shr0 (x : Int32) : x >>> ((0 : Int32) &&& 31) = x := by
  rw [show ((0 : Int32) &&& 31) = 0 by decide]
  simp
theorem sb_shl0 (x : Int32) : x <<< ((0 : Int32) &&& 31) = x := by
  rw [show ((0 : Int32) &&& 31) = 0 by decide]
  simp
theorem sb_cl0 : (0 : Int32).toNatClampNeg = 0 := by decide
theorem sb_m1 {p : Nat} (h : 0 < p) : nI p + (-1) = nI (p - 1) := by
  obtain ⟨q, rfl⟩ : ∃ q, p = q + 1 := ⟨p - 1, by omega⟩
  exact pk_m1 q
def sb_b (c : Nat) : Int32 := (nI c).toInt8.toInt32
theorem sb_byte : ∀ c, c < 256 → sb_b c &&& 255 = nI c ∧ ((nI c).toUInt32 % 65536).toInt32 = nI c ∧ nI c ≤ 255 := by decide +kernel
def sb_Fit (a : Nat → Int32) : Prop := ∀ j, fits .byte (.int (a j)) = true
def sb_Lat (t : Nat → Nat) (n : Nat) (a : Nat → Int32) : Prop := ∀ j, j < n → t j < 256 ∧ a j = sb_b (t j)
theorem sb_fitB (c : Nat) : fits .byte (.int (sb_b c)) = true := pk_fb _
theorem sb_fit0 : sb_Fit (fun _ => 0) := fun _ => by
  show fits .byte (.int 0) = true
  decide
theorem sb_fitU {a : Nat → Int32} {k : Nat} {x : Int32} (h : sb_Fit a) (hx : fits .byte (.int x) = true) : sb_Fit (upd a k x) := by
  intro j
  by_cases e : j = k
  · subst e
    rw [pk_us]
    exact hx
  · rw [pk_un e]
    exact h j
def sb_cat (t : Nat → Nat) (n : Nat) (s : Nat → Nat) : Nat → Nat := fun j => if j < n then t j else s (j - n)
theorem sb_cat_lo {t s : Nat → Nat} {n j : Nat} (h : j < n) : sb_cat t n s j = t j := if_pos h
theorem sb_cat_hi {t s : Nat → Nat} {n j : Nat} : sb_cat t n s (n + j) = s j := by
  show (if n + j < n then t (n + j) else s (n + j - n)) = s j
  rw [if_neg (by omega), Nat.add_sub_cancel_left]
theorem sb_latPut {t s : Nat → Nat} {n w : Nat} {a a' : Nat → Int32} (h : sb_Lat t n a) (hk : ∀ j, j < n → a' j = a j) (hs : ∀ i, i < w → s i < 256 ∧ a' (n + i) = sb_b (s i)) : sb_Lat (sb_cat t n s) (n + w) a' := by
  intro j hj
  by_cases e : j < n
  · rw [sb_cat_lo e, hk j e]
    exact h j e
  · obtain ⟨i, rfl⟩ : ∃ i, j = n + i := ⟨j - n, by omega⟩
    rw [sb_cat_hi]
    exact hs i (by omega)
theorem sb_latKeep {t : Nat → Nat} {n : Nat} {a a' : Nat → Int32} (h : sb_Lat t n a) (hk : ∀ j, j < n → a' j = a j) : sb_Lat t n a' := fun j hj => by
  rw [hk j hj]
  exact h j hj
def sb_cap (q m : Nat) : Nat := if q ≤ m then m else if 2 * m + 2 < q then q else 2 * m + 2
def sb_Room (q m mc ms : Nat) : Prop := q ≤ m ∨ (1 ≤ mc ∧ sb_cap q m ≤ ms ∧ sb_cap q m ≤ 65536)
theorem sb_cap_ge (q m : Nat) : q ≤ sb_cap q m := by
  unfold sb_cap
  split
  · omega
  · split <;> omega
theorem sb_cap_gem (q m : Nat) : m ≤ sb_cap q m := by
  unfold sb_cap
  split
  · omega
  · split <;> omega
theorem sb_cap_le {q m mc ms : Nat} (hm : m ≤ 65536) (hr : sb_Room q m mc ms) : sb_cap q m ≤ 65536 := by
  rcases hr with h | h
  · rw [sb_cap, if_pos h]
    exact hm
  · exact h.2.2
theorem sb_at {P : Int32 → Prop} {x y : Int32} (e : x = y) (h : P y) : P x := e ▸ h
def sb_dg (w : Nat) : Nat := if w < 10 then 1 else if w < 100 then 2 else if w < 1000 then 3 else if w < 10000 then 4 else if w < 100000 then 5 else if w < 1000000 then 6 else if w < 10000000 then 7 else if w < 100000000 then 8 else if w < 1000000000 then 9 else 10
def sb_dec (v : Nat) : Nat → Nat := fun i => 48 + v / 10 ^ (sb_dg v - 1 - i) % 10
theorem sb_dg_in (w : Nat) : 1 ≤ sb_dg w ∧ sb_dg w ≤ 10 := by
  unfold sb_dg
  constructor <;> (repeat' split) <;> omega
theorem sb_dg100 {w : Nat} (h : 100 ≤ w) (hw : w < 2 ^ 31) : sb_dg w = sb_dg (w / 100) + 2 := by
  rw [sb_dg, sb_dg, if_neg (show ¬ w < 10 by omega), if_neg (show ¬ w < 100 by omega)]
  by_cases h3 : w < 1000
  · rw [if_pos h3, if_pos (show w / 100 < 10 by omega)]
  rw [if_neg h3, if_neg (show ¬ w / 100 < 10 by omega)]
  by_cases h4 : w < 10000
  · rw [if_pos h4, if_pos (show w / 100 < 100 by omega)]
  rw [if_neg h4, if_neg (show ¬ w / 100 < 100 by omega)]
  by_cases h5 : w < 100000
  · rw [if_pos h5, if_pos (show w / 100 < 1000 by omega)]
  rw [if_neg h5, if_neg (show ¬ w / 100 < 1000 by omega)]
  by_cases h6 : w < 1000000
  · rw [if_pos h6, if_pos (show w / 100 < 10000 by omega)]
  rw [if_neg h6, if_neg (show ¬ w / 100 < 10000 by omega)]
  by_cases h7 : w < 10000000
  · rw [if_pos h7, if_pos (show w / 100 < 100000 by omega)]
  rw [if_neg h7, if_neg (show ¬ w / 100 < 100000 by omega)]
  by_cases h8 : w < 100000000
  · rw [if_pos h8, if_pos (show w / 100 < 1000000 by omega)]
  rw [if_neg h8, if_neg (show ¬ w / 100 < 1000000 by omega)]
  by_cases h9 : w < 1000000000
  · rw [if_pos h9, if_pos (show w / 100 < 10000000 by omega)]
  rw [if_neg h9, if_neg (show ¬ w / 100 < 10000000 by omega)]
  rw [if_pos (show w / 100 < 100000000 by omega)]
theorem sb_negT {w : Nat} (h : w < 2 ^ 31) : (-nI w).toInt = -(w : Int) := by
  rw [Int32.toInt_neg, nI_toInt h]
  exact Int.bmod_eq_of_le (by omega) (by omega)
theorem sb_nle {a b : Nat} (ha : a < 2 ^ 31) (hb : b < 2 ^ 31) : -nI a ≤ -nI b ↔ b ≤ a := by
  rw [Int32.le_iff_toInt_le, sb_negT ha, sb_negT hb]
  omega
theorem sb_nlt {a b : Nat} (ha : a < 2 ^ 31) (hb : b < 2 ^ 31) : -nI a < -nI b ↔ b < a := by
  rw [Int32.lt_iff_toInt_lt, sb_negT ha, sb_negT hb]
  omega
theorem sb_cmp {A B : Prop} {x : Int32} (v c : Nat) (f : c ≤ v → A) (g : v < c → B) (hv : v < 2 ^ 31) (hx : x = -nI c := by rfl) (hc : c < 2 ^ 31 := by omega) : (-nI v ≤ x → A) ∧ (¬ -nI v ≤ x → B) := by
  subst hx
  rw [sb_nle hv hc]
  exact ⟨f, fun z => g (by omega)⟩
theorem sb_ndiv {w : Nat} (hw : w < 2 ^ 31) : (-nI w) / 100 = -nI (w / 100) := by
  apply Int32.toInt_inj.mp
  have h100 : (100 : Int32).toInt = 100 := by decide
  rw [Int32.toInt_div, sb_negT hw, h100, sb_negT (by omega), Int.neg_tdiv, Int.tdiv_eq_ediv_of_nonneg (by omega), Int.bmod_eq_of_le (by omega) (by omega)]
  omega
theorem sb_nrem {w : Nat} (hw : w < 2 ^ 31) : (-nI (w / 100)) * 100 - (-nI w) = nI (w % 100) := by
  have h := pk_rem (a := w) (d := 100) hw (by decide) (by decide)
  rw [pk_div hw (by decide) (by decide)] at h
  rw [← h]
  show (-nI (w / 100)) * nI 100 - (-nI w) = nI w - nI (w / 100) * nI 100
  rw [Int32.neg_mul, Int32.sub_neg, Int32.add_comm, ← Int32.sub_eq_add_neg]
end
section
/-! rows on bits, shifts and unsigned numbers, to paste: each family out of a closed proof of our own, whole with what it rests on; each by itself clean at Lean in its own claim (generation 39, form 5). Take a family whole -/
/-! ===== Int32 by its bits: bt x i ===== -/
def bt (x : Int32) (i : Nat) : Bool := x.toBitVec.getLsbD i
theorem b_ext {x y : Int32} (h : ∀ i, i < 32 → bt x i = bt y i) : x = y := Int32.toBitVec_inj.mp (BitVec.eq_of_getLsbD_eq (fun i hi => h i hi))
theorem b_or (x y : Int32) (i : Nat) : bt (x ||| y) i = (bt x i || bt y i) := by unfold bt; rw [Int32.toBitVec_or, BitVec.getLsbD_or]
theorem b_and (x y : Int32) (i : Nat) : bt (x &&& y) i = (bt x i && bt y i) := by unfold bt; rw [Int32.toBitVec_and, BitVec.getLsbD_and]
theorem b_xor (x y : Int32) (i : Nat) : bt (x ^^^ y) i = (bt x i ^^ bt y i) := by unfold bt; rw [Int32.toBitVec_xor, BitVec.getLsbD_xor]
theorem b_big {x : Int32} {i : Nat} (h : 32 ≤ i) : bt x i = false := BitVec.getLsbD_of_ge _ _ h
theorem b_255 (i : Nat) : bt 255 i = decide (i < 8) := by
  rcases Nat.lt_or_ge i 32 with h | h
  · exact (by decide +kernel : ∀ i, i < 32 → bt 255 i = decide (i < 8)) i h
  · rw [b_big h, decide_eq_false (by omega)]
theorem b_65535 (i : Nat) : bt 65535 i = decide (i < 16) := by
  rcases Nat.lt_or_ge i 32 with h | h
  · exact (by decide +kernel : ∀ i, i < 32 → bt 65535 i = decide (i < 16)) i h
  · rw [b_big h, decide_eq_false (by omega)]
theorem b_m1 : ∀ i, i < 32 → bt (-1) i = true := by decide +kernel
theorem b_0 (i : Nat) : bt 0 i = false := BitVec.getLsbD_zero
theorem s_l : ∀ n, n < 32 → ((nI n &&& 31).toBitVec.smod 32).toNat = n := by decide +kernel
theorem s_u : ∀ n, n < 32 → (((nI n).toUInt32 &&& Int32.toUInt32 31).toBitVec % 32).toNat = n := by decide +kernel
theorem b_shl (n : Nat) (hn : n < 32) (x : Int32) {i : Nat} (hi : i < 32) : bt (x <<< (nI n &&& 31)) i = (decide (n ≤ i) && bt x (i - n)) := by
  unfold bt
  rw [Int32.toBitVec_shiftLeft]
  show (x.toBitVec <<< ((nI n &&& 31).toBitVec.smod 32).toNat).getLsbD i = _
  rw [s_l n hn, BitVec.getLsbD_shiftLeft]
  rcases Nat.lt_or_ge i n with h | h
  · simp [h, Nat.not_le.mpr h]
  · simp [hi, h, Nat.not_lt.mpr h]
theorem b_ushr (n : Nat) (hn : n < 32) (x : Int32) (i : Nat) : bt ((x.toUInt32 >>> ((nI n).toUInt32 &&& Int32.toUInt32 31)).toInt32) i = bt x (n + i) := by
  show (x.toUInt32 >>> ((nI n).toUInt32 &&& Int32.toUInt32 31)).toBitVec.getLsbD i = x.toUInt32.toBitVec.getLsbD (n + i)
  rw [UInt32.toBitVec_shiftRight]
  show (x.toUInt32.toBitVec >>> (((nI n).toUInt32 &&& Int32.toUInt32 31).toBitVec % 32).toNat).getLsbD i = _
  rw [s_u n hn, BitVec.getLsbD_ushiftRight]
theorem b_sshr (n : Nat) (hn : n < 32) (x : Int32) {i : Nat} (hi : i < 32) : bt (x >>> (nI n &&& 31)) i = if n + i < 32 then bt x (n + i) else bt x 31 := by
  unfold bt
  rw [Int32.toBitVec_shiftRight]
  show (x.toBitVec.sshiftRight ((nI n &&& 31).toBitVec.smod 32).toNat).getLsbD i = _
  rw [s_l n hn, BitVec.getLsbD_sshiftRight, BitVec.msb_eq_getLsbD_last]
  simp [hi]
theorem b_shl8 (x : Int32) {i : Nat} (hi : i < 32) : bt (x <<< ((8 : Int32) &&& 31)) i = (decide (8 ≤ i) && bt x (i - 8)) := b_shl 8 (by omega) x hi
theorem b_shl16 (x : Int32) {i : Nat} (hi : i < 32) : bt (x <<< ((16 : Int32) &&& 31)) i = (decide (16 ≤ i) && bt x (i - 16)) := b_shl 16 (by omega) x hi
theorem b_shl24 (x : Int32) {i : Nat} (hi : i < 32) : bt (x <<< ((24 : Int32) &&& 31)) i = (decide (24 ≤ i) && bt x (i - 24)) := b_shl 24 (by omega) x hi
theorem b_sshr8 (x : Int32) {i : Nat} (hi : i < 32) : bt (x >>> ((8 : Int32) &&& 31)) i = if 8 + i < 32 then bt x (8 + i) else bt x 31 := b_sshr 8 (by omega) x hi
/-! ===== nI under and, xor, >>>, one bit, 65535 ===== -/
theorem nx_and (a b : Nat) : nI a &&& nI b = nI (a &&& b) := by
  apply Int32.toBitVec_inj.1
  show BitVec.ofNat 32 a &&& BitVec.ofNat 32 b = BitVec.ofNat 32 (a &&& b)
  apply BitVec.eq_of_getLsbD_eq
  intro i hi
  simp [hi]
theorem nx_xor (a b : Nat) : nI a ^^^ nI b = nI (a ^^^ b) := by
  apply Int32.toBitVec_inj.1
  show BitVec.ofNat 32 a ^^^ BitVec.ofNat 32 b = BitVec.ofNat 32 (a ^^^ b)
  apply BitVec.eq_of_getLsbD_eq
  intro i hi
  simp [hi]
theorem nx_cnt : ∀ j : Fin 32, (UInt32.ofNat j.val &&& Int32.toUInt32 31).toNat % 32 = j.val := by decide +kernel
theorem nx_ush {k j : Nat} (hk : k < 65536) (hj : j < 32) : ((nI k).toUInt32 >>> ((nI j).toUInt32 &&& Int32.toUInt32 31)).toInt32 = nI (k >>> j) := by
  have hs : k >>> j ≤ k := by
    rw [Nat.shiftRight_eq_div_pow]
    exact Nat.div_le_self _ _
  have e2 : UInt32.ofNat k >>> (UInt32.ofNat j &&& Int32.toUInt32 31) = UInt32.ofNat (k >>> j) := by
    apply UInt32.toNat_inj.1
    have h1 : (UInt32.ofNat k).toNat = k := Nat.mod_eq_of_lt (by omega)
    have h2 : (UInt32.ofNat (k >>> j)).toNat = k >>> j := Nat.mod_eq_of_lt (by omega)
    rw [UInt32.toNat_shiftRight, nx_cnt ⟨j, hj⟩, h1, h2]
  show (UInt32.ofNat k >>> (UInt32.ofNat j &&& Int32.toUInt32 31)).toInt32 = _
  rw [e2]
  rfl
theorem nx_bit {k j : Nat} (hk : k < 65536) (hj : j < 16) : (((nI k).toUInt32 >>> ((nI j).toUInt32 &&& Int32.toUInt32 31)).toInt32 &&& 1) = 0 ↔ k.testBit j = false := by
  rw [nx_ush hk (by omega)]
  show nI (k >>> j) &&& nI 1 = 0 ↔ _
  rw [nx_and, Nat.and_one_is_mod, ← nI_0, nI_eq (by omega) (by omega), Nat.testBit_eq_decide_div_mod_eq, Nat.shiftRight_eq_div_pow, decide_eq_false_iff_not]
  generalize k / 2 ^ j = z
  omega
theorem nx_mod (k : Nat) : nI k &&& 65535 = nI (k % 65536) := by
  show nI k &&& nI 65535 = _
  rw [nx_and, show (65535 : Nat) = 2 ^ 16 - 1 from rfl, Nat.and_two_pow_sub_one_eq_mod]
theorem nx_m16 {k : Nat} (h : k < 65536) : nI k &&& 65535 = nI k := by rw [nx_mod, Nat.mod_eq_of_lt h]
theorem nx_mask (x : Int32) : ∃ k, k < 65536 ∧ x &&& 65535 = nI k := by
  have e : x = nI x.toBitVec.toNat := by
    apply Int32.toBitVec_inj.1
    show x.toBitVec = BitVec.ofNat 32 x.toBitVec.toNat
    simp
  refine ⟨x.toBitVec.toNat % 65536, Nat.mod_lt _ (by omega), ?_⟩
  rw [← nx_mod, ← e]
/-! ===== Int32 as a set of bits: test, set ===== -/
def nf_M (m : Int32) : Nat := 4294967296 - m.toBitVec.toNat
theorem nf_sh : ∀ l, l < 32 → ((1 : Int32) <<< (nI l &&& 31)).toBitVec = BitVec.twoPow 32 l := by decide +kernel
theorem nf_sl : ∀ l, l < 32 → (((nI l).toUInt32 &&& Int32.toUInt32 31).toBitVec % 32).toNat = l := by decide +kernel
theorem nf_tp : ∀ l, l < 32 → BitVec.twoPow 32 l ≠ 0#32 := by decide +kernel
theorem nf_bit (m : Int32) (l : Nat) (hl : l < 32) : ((m.toUInt32 >>> ((nI l).toUInt32 &&& Int32.toUInt32 31)).toInt32 &&& 1) = 0 ↔ (m &&& ((1 : Int32) <<< (nI l &&& 31))) = 0 := by
  have e : ((m.toUInt32 >>> ((nI l).toUInt32 &&& Int32.toUInt32 31)).toInt32).toBitVec = m.toBitVec >>> l := by
    show m.toBitVec >>> (((nI l).toUInt32 &&& Int32.toUInt32 31).toBitVec % 32) = m.toBitVec >>> l
    rw [BitVec.ushiftRight_eq', nf_sl l hl]
  rw [← Int32.toBitVec_inj, ← Int32.toBitVec_inj, Int32.toBitVec_and, Int32.toBitVec_and, nf_sh l hl, e, BitVec.and_twoPow]
  show (m.toBitVec >>> l &&& 1#32) = 0#32 ↔ _ = 0#32
  rw [BitVec.and_one_eq_setWidth_ofBool_getLsbD, BitVec.getLsbD_ushiftRight, Nat.add_zero]
  cases hb : m.toBitVec.getLsbD l
  · exact ⟨fun _ => by simp, fun _ => by decide⟩
  · exact ⟨fun z => absurd z (by decide), fun z => absurd ((if_pos rfl).symm.trans z) (nf_tp l hl)⟩
theorem nf_gr (m k : Int32) (h : m &&& k = 0) (hk : k ≠ 0) : nf_M (m ||| k) < nf_M m := by
  have hm := m.toBitVec.isLt
  have hm' := (m ||| k).toBitVec.isLt
  have h1 : m.toBitVec.toNat ≤ (m ||| k).toBitVec.toNat := by
    rw [Int32.toBitVec_or, BitVec.toNat_or]
    exact Nat.left_le_or
  have h2 : m.toBitVec.toNat ≠ (m ||| k).toBitVec.toNat := by
    intro e
    have e2 : m = m ||| k := Int32.toBitVec_inj.mp (BitVec.eq_of_toNat_eq e)
    apply hk
    apply Int32.toBitVec_inj.mp
    show k.toBitVec = 0#32
    apply BitVec.eq_of_getLsbD_eq
    intro i hi
    have a : m.toBitVec.getLsbD i = (m.toBitVec.getLsbD i || k.toBitVec.getLsbD i) := by rw [← BitVec.getLsbD_or, ← Int32.toBitVec_or, ← e2]
    have b : (m.toBitVec.getLsbD i && k.toBitVec.getLsbD i) = false := by
      rw [← BitVec.getLsbD_and, ← Int32.toBitVec_and, h]
      exact BitVec.getLsbD_zero
    rw [BitVec.getLsbD_zero]
    revert a b
    cases m.toBitVec.getLsbD i <;> cases k.toBitVec.getLsbD i <;> simp
  unfold nf_M
  omega
/-! ===== a byte read unsigned ===== -/
theorem bp_b (x : Int32) : x.toInt8.toInt32 &&& 255 = x &&& 255 := by
  apply Int32.toBitVec_inj.mp
  rw [Int32.toBitVec_and, Int32.toBitVec_and, Int8.toBitVec_toInt32, Int32.toBitVec_toInt8]
  apply BitVec.eq_of_getLsbD_eq
  intro i hi
  rw [BitVec.getLsbD_and, BitVec.getLsbD_and]
  have hm : ∀ i < 32, 8 ≤ i → (255 : Int32).toBitVec.getLsbD i = false := by decide
  rcases Nat.lt_or_ge i 8 with z | z
  · rw [BitVec.getLsbD_signExtend, BitVec.getLsbD_signExtend, if_pos z, if_pos hi]
    simp only [z, hi, decide_true, Bool.true_and]
  · rw [hm i hi z]; simp
/-! ===== the char cast and 65535 ===== -/
theorem em_w (v : Int32) : ∃ w : Nat, w < 65536 ∧ (v.toUInt32 % 65536).toInt32 = nI w ∧ v &&& 65535 = nI w := by
  have hr := lw_u16_r v
  have h0 : (0 : Int32).toInt = 0 := by decide
  obtain ⟨w, h1, h2⟩ := nI_of (x := lw_u16 v) (by rw [Int32.lt_iff_toInt_lt]; omega)
  have h3 : (v.toUInt32 % 65536).toInt32 = nI w := h2
  rw [h2, nI_toInt h1] at hr
  exact ⟨w, by omega, h3, by rw [← lg_i2c_mask, ← lg_i2c_nf, h3]⟩
/-! ===== Int64 as a set of bits: test, set, clear ===== -/
theorem ts_nf {x : Bool} (h : ¬ x = false) : x = true := by cases x <;> first | rfl | exact absurd rfl h
theorem ts_nt {x : Bool} (h : ¬ x = true) : x = false := by cases x <;> first | rfl | exact absurd rfl h
theorem ts_bit {w : Int64} {s : UInt64} {j : Nat} (hj : j < 64) (hs : s.toNat = j) : ((w.toUInt64 >>> s).toInt64 &&& 1) = 0 ↔ w.toBitVec.getLsbD j = false := by
  have e : (w.toUInt64 >>> s).toInt64.toBitVec = w.toBitVec >>> j := by
    apply BitVec.eq_of_toNat_eq
    show (w.toUInt64 >>> s).toNat = _
    rw [UInt64.toNat_shiftRight, hs, Nat.mod_eq_of_lt hj, BitVec.toNat_ushiftRight]
    rfl
  rw [← Int64.toBitVec_inj, Int64.toBitVec_and, e]
  show w.toBitVec >>> j &&& 1#64 = 0#64 ↔ _
  constructor
  · intro h
    have t := congrArg (fun x => x.getLsbD 0) h
    simpa using t
  · intro h
    apply BitVec.eq_of_getLsbD_eq
    intro i hi
    cases i with
    | zero => simp [h]
    | succ i => simp
theorem ts_or {w m : Int64} {j : Nat} (hj : j < 64) (hm : m.toBitVec = BitVec.twoPow 64 j) : (w ||| m) = w ↔ w.toBitVec.getLsbD j = true := by
  rw [← Int64.toBitVec_inj, Int64.toBitVec_or, hm]
  constructor
  · intro h
    have t := congrArg (fun x => x.getLsbD j) h
    simp only [BitVec.getLsbD_or, BitVec.getLsbD_twoPow] at t
    simpa [hj] using t.symm
  · intro h
    apply BitVec.eq_of_getLsbD_eq
    intro i hi
    rw [BitVec.getLsbD_or, BitVec.getLsbD_twoPow]
    by_cases e : j = i
    · subst e; rw [h, Bool.true_or]
    · simp [e]
theorem ts_and {w m : Int64} {j : Nat} (hj : j < 64) (hm : m.toBitVec = BitVec.twoPow 64 j) : (w &&& (m ^^^ (-1))) = w ↔ w.toBitVec.getLsbD j = false := by
  have ha : (-1 : Int64).toBitVec = BitVec.allOnes 64 := by decide
  rw [← Int64.toBitVec_inj, Int64.toBitVec_and, Int64.toBitVec_xor, hm, ha]
  constructor
  · intro h
    have t := congrArg (fun x => x.getLsbD j) h
    simp only [BitVec.getLsbD_and, BitVec.getLsbD_xor, BitVec.getLsbD_twoPow, BitVec.getLsbD_allOnes] at t
    simpa [hj] using t.symm
  · intro h
    apply BitVec.eq_of_getLsbD_eq
    intro i hi
    rw [BitVec.getLsbD_and, BitVec.getLsbD_xor, BitVec.getLsbD_twoPow, BitVec.getLsbD_allOnes]
    by_cases e : j = i
    · subst e; rw [h, Bool.false_and]
    · simp [e, hi]
/-! ===== lN n to 2^64: shifts, and, or, masks, one bit ===== -/
theorem wb_tb (n : Nat) : (lN n).toBitVec = BitVec.ofNat 64 n := rfl
theorem wb_inj {a b : Int64} (h : a.toBitVec = b.toBitVec) : a = b := Int64.toBitVec_inj.mp h
theorem wb_tn {n : Nat} (h : n < 2 ^ 64) : (lN n).toBitVec.toNat = n := by rw [wb_tb, BitVec.toNat_ofNat, Nat.mod_eq_of_lt h]
theorem wb_of (x : Int64) : ∃ n, n < 2 ^ 64 ∧ x = lN n := ⟨x.toBitVec.toNat, x.toBitVec.isLt, wb_inj (by rw [wb_tb]; simp)⟩
theorem wb_of32 (x : Int32) : ∃ n, n < 2 ^ 32 ∧ x = nI n := ⟨x.toBitVec.toNat, x.toBitVec.isLt, Int32.toBitVec_inj.mp (by show _ = BitVec.ofNat 32 _; simp)⟩
theorem wb_c : ∀ k, k < 64 → ((nI k).toInt64 &&& 63) = lN k := by decide +kernel
theorem wb_cu : ∀ k, k < 64 → ((nI k).toInt64.toUInt64 &&& Int64.toUInt64 63) = UInt64.ofNat k := by decide +kernel
theorem wb_sm : ∀ k, k < 64 → (BitVec.ofNat 64 k).smod 64 = BitVec.ofNat 64 k := by decide +kernel
theorem wb_pw {a b : Nat} (h : a ≤ b) : 2 ^ b = 2 ^ a * 2 ^ (b - a) := by rw [← Nat.pow_add]; congr 1; omega
theorem wb_lt2 {a b : Nat} (h : a < b) : 2 ^ a < 2 ^ b := Nat.pow_lt_pow_right (by decide) h
theorem wb_mod (n : Nat) : lN n = lN (n % 2 ^ 64) := wb_inj (by rw [wb_tb, wb_tb]; apply BitVec.eq_of_toNat_eq; rw [BitVec.toNat_ofNat, BitVec.toNat_ofNat, Nat.mod_mod])
theorem wb_shr {n k : Nat} (hn : n < 2 ^ 64) (hk : k < 64) : ((lN n).toUInt64 >>> ((nI k).toInt64.toUInt64 &&& Int64.toUInt64 63)).toInt64 = lN (n / 2 ^ k) := by
  rw [wb_cu k hk]
  apply wb_inj
  apply BitVec.eq_of_toNat_eq
  show ((lN n).toUInt64 >>> UInt64.ofNat k).toNat = (BitVec.ofNat 64 _).toNat
  have h1 : (UInt64.ofNat k).toNat = k := by
    show (BitVec.ofNat 64 k).toNat = k
    rw [BitVec.toNat_ofNat, Nat.mod_eq_of_lt (by omega)]
  have h2 : (lN n).toUInt64.toNat = n := wb_tn hn
  rw [UInt64.toNat_shiftRight, h1, h2, Nat.mod_eq_of_lt hk, Nat.shiftRight_eq_div_pow, BitVec.toNat_ofNat, Nat.mod_eq_of_lt (Nat.lt_of_le_of_lt (Nat.div_le_self _ _) hn)]
theorem wb_shl (n : Nat) {k : Nat} (hk : k < 64) : lN n <<< ((nI k).toInt64 &&& 63) = lN (n * 2 ^ k) := by
  rw [wb_c k hk]
  apply wb_inj
  rw [Int64.toBitVec_shiftLeft, wb_tb, wb_tb, wb_tb, wb_sm k hk]
  apply BitVec.eq_of_toNat_eq
  rw [BitVec.shiftLeft_eq', BitVec.toNat_shiftLeft, BitVec.toNat_ofNat, BitVec.toNat_ofNat, BitVec.toNat_ofNat, Nat.mod_eq_of_lt (show k < 2 ^ 64 by omega), Nat.shiftLeft_eq, Nat.mul_mod, Nat.mod_mod, ← Nat.mul_mod]
theorem wb_and {a b : Nat} (ha : a < 2 ^ 64) (hb : b < 2 ^ 64) : lN a &&& lN b = lN (a &&& b) := by
  apply wb_inj
  rw [Int64.toBitVec_and, wb_tb, wb_tb, wb_tb]
  apply BitVec.eq_of_toNat_eq
  rw [BitVec.toNat_and, BitVec.toNat_ofNat, BitVec.toNat_ofNat, BitVec.toNat_ofNat, Nat.mod_eq_of_lt ha, Nat.mod_eq_of_lt hb, Nat.mod_eq_of_lt (Nat.and_lt_two_pow _ hb)]
theorem wb_or {a b : Nat} (ha : a < 2 ^ 64) (hb : b < 2 ^ 64) : lN a ||| lN b = lN (a ||| b) := by
  apply wb_inj
  rw [Int64.toBitVec_or, wb_tb, wb_tb, wb_tb]
  apply BitVec.eq_of_toNat_eq
  rw [BitVec.toNat_or, BitVec.toNat_ofNat, BitVec.toNat_ofNat, BitVec.toNat_ofNat, Nat.mod_eq_of_lt ha, Nat.mod_eq_of_lt hb, Nat.mod_eq_of_lt (Nat.or_lt_two_pow ha hb)]
theorem wb_mask {n k : Nat} (hn : n < 2 ^ 64) (hk : k < 64) : lN n &&& lN (2 ^ k - 1) = lN (n % 2 ^ k) := by
  rw [wb_and hn (by have := wb_lt2 hk; omega), Nat.and_two_pow_sub_one_eq_mod]
theorem wb_a1 {n : Nat} (hn : n < 2 ^ 64) : lN n &&& 1 = lN (n % 2) := wb_mask (k := 1) hn (by decide)
theorem wb_bit {n k : Nat} (hn : n < 2 ^ 64) (hk : k < 64) : ((lN n).toUInt64 >>> ((nI k).toInt64.toUInt64 &&& Int64.toUInt64 63)).toInt64 &&& 1 = lN (n / 2 ^ k % 2) := by
  rw [wb_shr hn hk, wb_a1 (Nat.lt_of_le_of_lt (Nat.div_le_self _ _) hn)]
theorem wb_xor {q k : Nat} (hk : k < 63) (h : 2 ^ k ≤ q) (h2 : q < 2 ^ (k + 1)) : lN q ^^^ lN (2 ^ k) = lN (q - 2 ^ k) := by
  obtain ⟨r, rfl⟩ : ∃ r, q = 2 ^ k + r := ⟨q - 2 ^ k, by omega⟩
  have hr : r < 2 ^ k := by rw [Nat.pow_succ] at h2; omega
  have hx : (2 ^ k + r) ^^^ 2 ^ k = r := by
    apply Nat.eq_of_testBit_eq
    intro i
    rw [Nat.testBit_xor, Nat.testBit_two_pow]
    rcases Nat.lt_trichotomy i k with h | h | h
    · rw [Nat.testBit_two_pow_add_gt h]
      simp [show ¬ k = i by omega]
    · subst h
      rw [Nat.testBit_two_pow_add_eq]
      simp
    · have a1 : 2 ^ (k + 1) ≤ 2 ^ i := Nat.pow_le_pow_right (by decide) h
      rw [Nat.testBit_lt_two_pow (show 2 ^ k + r < 2 ^ i by omega), Nat.testBit_lt_two_pow (show r < 2 ^ i by omega)]
      simp [show ¬ k = i by omega]
  have b1 := wb_lt2 (show k + 1 < 64 by omega)
  have b2 := wb_lt2 (show k < 64 by omega)
  apply wb_inj
  rw [Int64.toBitVec_xor, wb_tb, wb_tb, wb_tb]
  apply BitVec.eq_of_toNat_eq
  rw [BitVec.toNat_xor, BitVec.toNat_ofNat, BitVec.toNat_ofNat, BitVec.toNat_ofNat, Nat.mod_eq_of_lt (by omega : 2 ^ k + r < 2 ^ 64), Nat.mod_eq_of_lt b2, hx, Nat.add_sub_cancel_left, Nat.mod_eq_of_lt (by omega)]
/-! ===== lN: masks, 'or' of parts that don't overlap is a sum ===== -/
theorem u_tn {n : Nat} (h : n < 2 ^ 64) : (UInt64.ofNat n).toNat = n := Nat.mod_eq_of_lt h
theorem g_and {a b c : Nat} (ha : a < 2 ^ 64) (hb : b < 2 ^ 64) (hc : a &&& b = c) : lN a &&& lN b = lN c := by
  subst hc
  have h : UInt64.ofNat a &&& UInt64.ofNat b = UInt64.ofNat (a &&& b) := UInt64.toNat_inj.mp (by rw [UInt64.toNat_and, u_tn ha, u_tn hb, u_tn (Nat.and_lt_two_pow a hb)])
  have h2 := congrArg UInt64.toInt64 h
  exact h2
theorem g_and1 {a : Nat} (ha : a < 2 ^ 64) : lN a &&& 1 = lN (a % 2) := g_and (b := 1) ha (by decide) (Nat.and_two_pow_sub_one_eq_mod a 1)
theorem g_mask {a s p : Nat} (hp : 2 ^ s = p) (hs : s < 64) (ha : a < 2 ^ 64) : lN a &&& lN (p - 1) = lN (a % p) := by
  subst hp
  have := Nat.pow_lt_pow_right (show 1 < 2 by decide) hs
  exact g_and ha (by omega) (Nat.and_two_pow_sub_one_eq_mod a s)
theorem g_or {k p a b : Nat} (hp : 2 ^ k = p) (ha : a < p) (h : b * p + a < 2 ^ 64) : lN (b * p) ||| lN a = lN (b * p + a) := by
  subst hp
  have h1 : b * 2 ^ k ||| a = b * 2 ^ k + a := by rw [← Nat.shiftLeft_eq, Nat.shiftLeft_add_eq_or_of_lt ha]
  have h3 : UInt64.ofNat (b * 2 ^ k) ||| UInt64.ofNat a = UInt64.ofNat (b * 2 ^ k + a) := UInt64.toNat_inj.mp (by rw [UInt64.toNat_or, u_tn (by omega), u_tn (by omega), u_tn h, h1])
  have h2 := congrArg UInt64.toInt64 h3
  exact h2
theorem g_or' {k p a b : Nat} (hp : 2 ^ k = p) (ha : a < p) (h : a + b * p < 2 ^ 64) : lN a ||| lN (b * p) = lN (a + b * p) := by
  rw [Int64.or_comm, g_or hp ha (by omega), Nat.add_comm]
theorem g_ushr {a k p : Nat} {y : UInt64} (hy : y = UInt64.ofNat k) (hk : k < 64) (hp : 2 ^ k = p) (ha : a < 2 ^ 64) : ((lN a).toUInt64 >>> y).toInt64 = lN (a / p) := by
  subst hy hp
  have h : UInt64.ofNat a >>> UInt64.ofNat k = UInt64.ofNat (a / 2 ^ k) := UInt64.toNat_inj.mp (by rw [UInt64.toNat_shiftRight, u_tn ha, u_tn (by omega), u_tn (Nat.lt_of_le_of_lt (Nat.div_le_self _ _) ha), Nat.mod_eq_of_lt hk, Nat.shiftRight_eq_div_pow])
  have h2 := congrArg UInt64.toInt64 h
  exact h2
theorem g_shl {a k p : Nat} {y : Int64} (hy : y.toBitVec.smod 64 = BitVec.ofNat 64 k) (hk : k < 64) (hp : 2 ^ k = p) (ha : a < 2 ^ 64) : lN a <<< y = lN (a * p) := by
  subst hp
  apply Int64.toBitVec_inj.mp
  rw [Int64.toBitVec_shiftLeft, hy]
  apply BitVec.eq_of_toNat_eq
  have hb : (lN a).toBitVec.toNat = a := Nat.mod_eq_of_lt ha
  have hk' : (BitVec.ofNat 64 k).toNat = k := Nat.mod_eq_of_lt (by omega)
  have h : ((lN a).toBitVec <<< BitVec.ofNat 64 k).toNat = (a * 2 ^ k) % 2 ^ 64 := by simp only [BitVec.shiftLeft_eq', BitVec.toNat_shiftLeft, hb, hk', Nat.shiftLeft_eq]
  exact h
/-! ===== lN to 2^62 under >> and >>> ===== -/
theorem pf_lI {a : Nat} (h : a < 2 ^ 63) : (lN a).toInt = (a : Int) := lg_ofNat_toInt h
theorem pf_shr {a d : Nat} {D : Int64} (hD : (D.toBitVec.smod 64).toNat = d) (h : a < 2 ^ 62) : lN a >>> D = lN (a / 2 ^ d) := by
  have hd : a / 2 ^ d ≤ a := Nat.div_le_self _ _
  apply Int64.toInt_inj.mp
  have e : (lN a >>> D).toInt = (lN a).toInt >>> d := by
    rw [← hD]
    exact BitVec.toInt_sshiftRight ..
  rw [e, Int.shiftRight_eq_div_pow, pf_lI (by omega), pf_lI (by omega)]
  rfl
theorem pf_ushr {a d : Nat} {D : UInt64} (hD : D.toNat % 64 = d) (h : a < 2 ^ 62) : ((lN a).toUInt64 >>> D).toInt64 = lN (a / 2 ^ d) := by
  have hd : a / 2 ^ d ≤ a := Nat.div_le_self _ _
  have e : (lN a).toUInt64 >>> D = UInt64.ofNat (a / 2 ^ d) := UInt64.toNat_inj.mp (by
    rw [UInt64.toNat_shiftRight, hD, Nat.shiftRight_eq_div_pow, UInt64.toNat_ofNat']
    show (UInt64.ofNat a).toNat / 2 ^ d = _
    rw [UInt64.toNat_ofNat', Nat.mod_eq_of_lt (by omega), Nat.mod_eq_of_lt (by omega)])
  rw [e]
  rfl
theorem pf_andw (x : Int64) : ∃ m, m < 2 ^ 32 ∧ x &&& 4294967295 = lN m := ⟨x.toBitVec.toNat % 2 ^ 32, Nat.mod_lt _ (by decide), Int64.toBitVec_inj.mp (BitVec.eq_of_toNat_eq (by
  show (x.toBitVec &&& 4294967295#64).toNat = (BitVec.ofNat 64 (x.toBitVec.toNat % 2 ^ 32)).toNat
  rw [BitVec.toNat_and, show (4294967295#64).toNat = 2 ^ 32 - 1 from by decide, Nat.and_two_pow_sub_one_eq_mod, BitVec.toNat_ofNat]
  omega))⟩
/-! ===== Int64 as an unsigned number: uN x ===== -/
def uN (x : Int64) : Nat := x.toUInt64.toNat
theorem uN_lt (x : Int64) : uN x < 18446744073709551616 := x.toUInt64.toNat_lt
theorem uN_inj {x y : Int64} (h : uN x = uN y) : x = y := congrArg UInt64.toInt64 (UInt64.toNat_inj.mp h)
theorem uN_add (x y : Int64) : uN (x + y) = (uN x + uN y) % 18446744073709551616 := by
  show (x.toUInt64 + y.toUInt64).toNat = _
  exact UInt64.toNat_add _ _
theorem uN_mul (x y : Int64) : uN (x * y) = (uN x * uN y) % 18446744073709551616 := by
  show (x.toUInt64 * y.toUInt64).toNat = _
  exact UInt64.toNat_mul _ _
theorem uN_shl (x : Int64) : uN (x <<< ((1 : Int32).toInt64 &&& 63)) = (2 * uN x) % 18446744073709551616 := by
  have h : (((1 : Int32).toInt64 &&& 63).toBitVec.smod 64).toNat = 1 := by decide
  show (x.toBitVec <<< (((1 : Int32).toInt64 &&& 63).toBitVec.smod 64).toNat).toNat = _
  rw [h, BitVec.toNat_shiftLeft, Nat.shiftLeft_eq, Nat.mul_comm]
  rfl
theorem uN_shr (x : Int64) (s : UInt64) : uN (x.toUInt64 >>> s).toInt64 = uN x / 2 ^ (s.toNat % 64) := by
  show (x.toUInt64 >>> s).toNat = _
  rw [UInt64.toNat_shiftRight, Nat.shiftRight_eq_div_pow]
  rfl
theorem uN_s32 (x : Int64) : uN (x.toUInt64 >>> ((32 : Int32).toInt64.toUInt64 &&& Int64.toUInt64 63)).toInt64 = uN x / 4294967296 := by
  have h : ((32 : Int32).toInt64.toUInt64 &&& Int64.toUInt64 63).toNat % 64 = 32 := by decide
  rw [uN_shr, h]
theorem uN_s63 (x : Int64) : uN (x.toUInt64 >>> ((63 : Int32).toInt64.toUInt64 &&& Int64.toUInt64 63)).toInt64 = uN x / 9223372036854775808 := by
  have h : ((63 : Int32).toInt64.toUInt64 &&& Int64.toUInt64 63).toNat % 64 = 63 := by decide
  rw [uN_shr, h]
theorem uN_lo (x : Int64) : uN (x &&& 4294967295) = uN x % 4294967296 := by
  show (x.toUInt64 &&& Int64.toUInt64 4294967295).toNat = _
  rw [UInt64.toNat_and]
  exact Nat.and_two_pow_sub_one_eq_mod _ 32
theorem uN_bit (x : Int64) : (x &&& 1) = 0 ↔ uN x % 2 = 0 := by
  have h : uN (x &&& 1) = uN x % 2 := by
    show (x.toUInt64 &&& Int64.toUInt64 1).toNat = _
    rw [UInt64.toNat_and]
    exact Nat.and_two_pow_sub_one_eq_mod _ 1
  rw [← h]
  exact ⟨fun z => by rw [z]; rfl, fun z => uN_inj (z.trans rfl)⟩
theorem uN_or {x y : Int64} (hy : uN y < 2) : uN ((x <<< ((1 : Int32).toInt64 &&& 63)) ||| y) = (2 * uN x) % 18446744073709551616 + uN y := by
  have h1 : uN ((x <<< ((1 : Int32).toInt64 &&& 63)) ||| y) = uN (x <<< ((1 : Int32).toInt64 &&& 63)) ||| uN y := UInt64.toNat_or _ _
  have h2 : (2 * uN x) % 18446744073709551616 = 2 ^ 1 * (uN x % 9223372036854775808) := by omega
  rw [h1, uN_shl, h2]
  exact (Nat.two_pow_add_eq_or_of_lt (i := 1) hy _).symm
theorem nat_xor {a : Nat} (h : a < 18446744073709551616) : a ^^^ 2 ^ 63 = (a + 9223372036854775808) % 18446744073709551616 := by
  have h1 : (a ^^^ 2 ^ 63) % 2 ^ 63 = a % 2 ^ 63 := by rw [Nat.xor_mod_two_pow, Nat.mod_self, Nat.xor_zero]
  have h2 : (a ^^^ 2 ^ 63) / 2 ^ 63 = (a / 2 ^ 63) ^^^ 1 := by rw [Nat.xor_div_two_pow, Nat.div_self (Nat.two_pow_pos 63)]
  have h3 : a / 2 ^ 63 = 0 ∨ a / 2 ^ 63 = 1 := by omega
  generalize a ^^^ 2 ^ 63 = t at h1 h2
  rcases h3 with h3 | h3
  · rw [h3] at h2
    have h2 : t / 2 ^ 63 = 1 := h2
    omega
  · rw [h3] at h2
    have h2 : t / 2 ^ 63 = 0 := h2
    omega
theorem uN_xor (x : Int64) : uN (x ^^^ (-9223372036854775808)) = (uN x + 9223372036854775808) % 18446744073709551616 := by
  rw [← nat_xor (uN_lt x)]
  exact UInt64.toNat_xor _ _
theorem uN_int (x : Int64) : x.toInt = if 2 * uN x < 18446744073709551616 then (uN x : Int) else (uN x : Int) - 18446744073709551616 := BitVec.toInt_eq_toNat_cond _
theorem uN_le (x y : Int64) : (x ^^^ (-9223372036854775808)) ≤ (y ^^^ (-9223372036854775808)) ↔ uN x ≤ uN y := by
  have hx := uN_lt x
  have hy := uN_lt y
  rw [Int64.le_iff_toInt_le, uN_int, uN_int, uN_xor, uN_xor]
  omega
theorem uN_sk (x : Int64) {k : Nat} (hk : k < 64) : uN (x.toUInt64 >>> ((nI k).toInt64.toUInt64 &&& Int64.toUInt64 63)).toInt64 = uN x / 2 ^ k := by
  have h : ((nI k).toInt64.toUInt64 &&& Int64.toUInt64 63).toNat % 64 = k := by
    rw [nI_l (by omega), UInt64.toNat_and]
    have e : (lN k).toUInt64.toNat = k % 2 ^ 64 := rfl
    have e2 : (Int64.toUInt64 63).toNat = 2 ^ 6 - 1 := by decide
    rw [e, e2, Nat.and_two_pow_sub_one_eq_mod]
    omega
  rw [uN_shr, h]
/-! ===== unsigned comparison by xor with the least ===== -/
theorem lN_bv (n : Nat) : (lN n).toBitVec = BitVec.ofNat 64 n := rfl
theorem lN_nat {n : Nat} (h : n < 2 ^ 64) : (lN n).toBitVec.toNat = n := by rw [lN_bv, BitVec.toNat_ofNat]; exact Nat.mod_eq_of_lt h
theorem lN_xor (a b : Nat) : lN a ^^^ lN b = lN (a ^^^ b) := by
  apply Int64.toBitVec_inj.mp; rw [Int64.toBitVec_xor, lN_bv, lN_bv, lN_bv]; apply BitVec.eq_of_getLsbD_eq; intro i hi; simp [BitVec.getLsbD_ofNat, Nat.testBit_xor, hi]
theorem lN_ti {m : Nat} (h : m < 2 ^ 64) : (lN m).toInt = if m < 2 ^ 63 then (m : Int) else (m : Int) - 2 ^ 64 := by
  have c := BitVec.toInt_eq_toNat_cond (lN m).toBitVec
  rw [lN_nat h] at c
  show (lN m).toBitVec.toInt = _
  rw [c]
  split <;> split <;> omega
theorem xor63 {x : Nat} (h : x < 2 ^ 63) : x ^^^ 2 ^ 63 = 2 ^ 63 + x := by
  apply Nat.eq_of_testBit_eq
  intro i
  rw [Nat.testBit_xor, Nat.testBit_two_pow]
  rcases Nat.lt_trichotomy i 63 with z | z | z
  · rw [Nat.testBit_two_pow_add_gt z, decide_eq_false (by omega)]; simp
  · subst z; rw [Nat.testBit_two_pow_add_eq]; simp
  · have hp : 2 ^ 64 ≤ 2 ^ i := Nat.pow_le_pow_right (by decide) z
    rw [Nat.testBit_lt_two_pow (show x < 2 ^ i by omega), Nat.testBit_lt_two_pow (show 2 ^ 63 + x < 2 ^ i by omega), decide_eq_false (by omega)]; rfl
theorem xorS {a : Nat} (h : a < 2 ^ 64) : (lN a ^^^ (-9223372036854775808)).toInt = (a : Int) - 2 ^ 63 := by
  rw [show (-9223372036854775808 : Int64) = lN (2 ^ 63) from by decide +kernel, lN_xor]
  rcases Nat.lt_or_ge a (2 ^ 63) with z | z
  · rw [xor63 z, lN_ti (by omega), if_neg (by omega)]; omega
  · obtain ⟨x, rfl⟩ : ∃ x, a = 2 ^ 63 + x := ⟨a - 2 ^ 63, by omega⟩
    rw [← xor63 (by omega), Nat.xor_assoc, Nat.xor_self, Nat.xor_zero, lN_ti (by omega), if_pos (by omega), xor63 (by omega)]; omega
theorem ultL {a b : Nat} (ha : a < 2 ^ 64) (hb : b < 2 ^ 64) : ((lN b ^^^ (-9223372036854775808)) ≤ (lN a ^^^ (-9223372036854775808))) ↔ b ≤ a := by
  rw [Int64.le_iff_toInt_le, xorS ha, xorS hb]; omega
/-! ===== Int64 masks of n low bits ===== -/
theorem cr_bits (W U M : BitVec 64) : ((W &&& U) &&& (U &&& (M ^^^ BitVec.allOnes 64))) = 0#64 ↔ (W &&& U) &&& M = W &&& U := by
  constructor
  · intro h
    apply BitVec.eq_of_getLsbD_eq
    intro i hi
    have e := congrArg (fun x => BitVec.getLsbD x i) h
    simp only [BitVec.getLsbD_and, BitVec.getLsbD_xor, BitVec.getLsbD_allOnes, BitVec.getLsbD_zero, hi, decide_true] at e ⊢
    revert e
    cases W.getLsbD i <;> cases U.getLsbD i <;> cases M.getLsbD i <;> decide
  · intro h
    apply BitVec.eq_of_getLsbD_eq
    intro i hi
    have e := congrArg (fun x => BitVec.getLsbD x i) h
    simp only [BitVec.getLsbD_and, BitVec.getLsbD_xor, BitVec.getLsbD_allOnes, BitVec.getLsbD_zero, hi, decide_true] at e ⊢
    revert e
    cases W.getLsbD i <;> cases U.getLsbD i <;> cases M.getLsbD i <;> decide
theorem cr_mask (w U m : Int64) (n : Nat) (hm : m.toBitVec.toNat = 2 ^ n - 1) : ((w &&& U) &&& (U &&& (m ^^^ (-1)))) = 0 ↔ (w &&& U).toBitVec.toNat < 2 ^ n := by
  have e0 : (-1 : Int64).toBitVec = BitVec.allOnes 64 := by decide
  have z0 : (0 : Int64).toBitVec = 0#64 := by decide
  rw [← Int64.toBitVec_inj, z0, Int64.toBitVec_and, Int64.toBitVec_and, Int64.toBitVec_and, Int64.toBitVec_xor, e0, cr_bits]
  generalize w.toBitVec &&& U.toBitVec = T
  rw [← BitVec.toNat_inj, BitVec.toNat_and, hm, Nat.and_two_pow_sub_one_eq_mod]
  constructor
  · intro h
    have t := Nat.mod_lt T.toNat (Nat.two_pow_pos n)
    rw [h] at t
    exact t
  · exact Nat.mod_eq_of_lt
theorem cr_shr (t : Int64) (x : UInt64) (n : Nat) (hx : x.toNat % 64 = n) : (t.toUInt64 >>> x).toInt64 = 0 ↔ t.toBitVec.toNat < 2 ^ n := by
  rw [← Int64.toBitVec_inj, ← BitVec.toNat_inj]
  show (t.toUInt64 >>> x).toNat = 0 ↔ t.toUInt64.toNat < 2 ^ n
  rw [UInt64.toNat_shiftRight, hx, Nat.shiftRight_eq_div_pow]
  constructor
  · intro h
    have d : t.toUInt64.toNat / 2 ^ n < 1 := by
      rw [h]
      decide
    have e := (Nat.div_lt_iff_lt_mul (Nat.two_pow_pos n)).mp d
    rw [Nat.one_mul] at e
    exact e
  · exact Nat.div_eq_of_lt
theorem cr_amt (s : Int64) : ∃ n, n < 64 ∧ s &&& 63 = lN n ∧ (s.toUInt64 &&& Int64.toUInt64 63).toNat % 64 = n := by
  have e : (s.toUInt64 &&& Int64.toUInt64 63).toNat = s.toUInt64.toNat % 2 ^ 6 := by
    rw [UInt64.toNat_and, show (Int64.toUInt64 63).toNat = 2 ^ 6 - 1 from by decide, Nat.and_two_pow_sub_one_eq_mod]
  refine ⟨s.toUInt64.toNat % 2 ^ 6, by omega, ?_, by omega⟩
  rw [← Int64.toBitVec_inj, ← BitVec.toNat_inj]
  show (s.toUInt64 &&& Int64.toUInt64 63).toNat = (BitVec.ofNat 64 (s.toUInt64.toNat % 2 ^ 6)).toNat
  rw [e, BitVec.toNat_ofNat]
  omega
end
section
/-! ===== numbers of this claim ===== -/
def ph_sv (b : Nat) : Int32 := (nI b).toInt8.toInt32
def ph_sb (b : Nat) : Int := if b < 128 then (b : Int) else (b : Int) - 256
theorem ph_sv_i : ∀ b, b < 256 → (ph_sv b).toInt = ph_sb b := by decide +kernel
theorem ph_sb_r (b : Nat) (h : b < 256) : -128 ≤ ph_sb b ∧ ph_sb b < 128 := by unfold ph_sb; split <;> omega
theorem ph_eqI {x : Int32} {n : Nat} (hn : n < 2 ^ 31) (h : x.toInt = (n : Int)) : x = nI n :=
  Int32.toInt_inj.mp (by rw [h, nI_toInt hn])
theorem ph_sv_lt {b : Nat} (h : b < 128) : ph_sv b = nI b :=
  ph_eqI (by omega) (by rw [ph_sv_i b (by omega), ph_sb, if_pos h])
theorem ph_nb {b : Nat} (h : b < 128) : vp_nar .byte (nI b) = nI b := ph_sv_lt h
theorem ph_nbb {b : Nat} (h : b < 128) : vp_nar .byte (nI b).toInt8.toInt32 = nI b := by rw [pk_vb]; exact ph_sv_lt h
theorem ph_nsv (b : Nat) : vp_nar .byte (nI b).toInt8.toInt32 = ph_sv b := pk_vb _
theorem ph_i16 {n : Nat} (h : n < 32768) : (nI n).toInt16.toInt32 = nI n :=
  lg_i2s_small (by rw [nI_toInt (by omega)]; omega) (by rw [nI_toInt (by omega)]; omega)
theorem ph_nss {n : Nat} (h : n < 32768) : vp_nar .short (nI n).toInt16.toInt32 = nI n := by rw [pk_vs]; exact ph_i16 h
theorem ph_ns {n : Nat} (h : n < 32768) : vp_nar .short (nI n) = nI n := by rw [vp_nar_short]; exact ph_i16 h
theorem ph_m1b : vp_nar .byte (-1) = (-1 : Int32) := by rw [vp_nar_byte]; decide
theorem ph_m1c : (-1 : Int32).toInt8.toInt32 = -1 := by decide
theorem ph_bo1 : vp_nar .boolean 1 = 1 := rfl
theorem ph_bo0 : vp_nar .boolean 0 = 0 := rfl
theorem ph_lt0 {x : Int32} : x < 0 ↔ x.toInt < 0 := by rw [Int32.lt_iff_toInt_lt, Int32.toInt_zero]
theorem ph_add_sv {a b : Nat} (ha : a < 2 ^ 30) (hb : b < 256) : (nI a + ph_sv b).toInt = (a : Int) + ph_sb b := by
  rw [Int32.toInt_add, nI_toInt (by omega), ph_sv_i b hb]
  have := ph_sb_r b hb
  exact Int.bmod_eq_of_le (by omega) (by omega)
theorem ph_inj32 {x y : Nat} (hx : x < 2 ^ 32) (hy : y < 2 ^ 32) (h : nI x = nI y) : x = y := by
  rw [← pk_tn hx, ← pk_tn hy, h]
theorem ph_char {b : Nat} (h : b < 256) : vp_nar .char ((nI b).toUInt32 % 65536).toInt32 = nI b := by
  rw [pk_vc, pk_char, pk_tn (by omega), Nat.mod_eq_of_lt (by omega)]
/-! masks -/
theorem ph_mk8 {n : Nat} (hn : n < 4294967296) : n &&& 4294967288 = 0 ↔ n < 8 := by
  constructor
  · intro h
    have h2 : (n &&& 4294967288) >>> 3 = 0 := by rw [h]; rfl
    rw [Nat.shiftRight_and_distrib, show 4294967288 >>> 3 = 2 ^ 29 - 1 from by decide, Nat.and_two_pow_sub_one_eq_mod, Nat.shiftRight_eq_div_pow] at h2
    omega
  · intro h
    have z : ∀ m, m < 8 → m &&& 4294967288 = 0 := by decide
    exact z n h
theorem ph_mk256 {n : Nat} (hn : n < 4294967296) : n &&& 4294967040 = 0 ↔ n < 256 := by
  constructor
  · intro h
    have h2 : (n &&& 4294967040) >>> 8 = 0 := by rw [h]; rfl
    rw [Nat.shiftRight_and_distrib, show 4294967040 >>> 8 = 2 ^ 24 - 1 from by decide, Nat.and_two_pow_sub_one_eq_mod, Nat.shiftRight_eq_div_pow] at h2
    omega
  · intro h
    have z : ∀ m, m < 256 → m &&& 4294967040 = 0 := by decide +kernel
    exact z n h
theorem ph_m8 (a : Int32) : (a &&& (-8)) = 0 ↔ ∃ j, j < 8 ∧ a = nI j := by
  obtain ⟨n, hn, rfl⟩ := wb_of32 a
  have hle : n &&& 4294967288 < 2 ^ 32 := Nat.lt_of_le_of_lt Nat.and_le_left hn
  rw [show (-8 : Int32) = nI 4294967288 from rfl, nx_and, ← nI_0]
  constructor
  · intro h
    exact ⟨n, (ph_mk8 (by omega)).mp (ph_inj32 hle (by omega) h), rfl⟩
  · rintro ⟨j, hj, e⟩
    have : n = j := ph_inj32 hn (by omega) e
    subst this
    rw [(ph_mk8 (by omega)).mpr hj]
theorem ph_m256 (a : Int32) : (a &&& (-256)) = 0 ↔ ∃ j, j < 256 ∧ a = nI j := by
  obtain ⟨n, hn, rfl⟩ := wb_of32 a
  have hle : n &&& 4294967040 < 2 ^ 32 := Nat.lt_of_le_of_lt Nat.and_le_left hn
  rw [show (-256 : Int32) = nI 4294967040 from rfl, nx_and, ← nI_0]
  constructor
  · intro h
    exact ⟨n, (ph_mk256 (by omega)).mp (ph_inj32 hle (by omega) h), rfl⟩
  · rintro ⟨j, hj, e⟩
    have : n = j := ph_inj32 hn (by omega) e
    subst this
    rw [(ph_mk256 (by omega)).mpr hj]
theorem ph_c8 (a : Int32) : (∃ j, j < 8 ∧ a = nI j ∧ (a &&& (-8)) = 0 ∧ ¬ a < 0 ∧ ¬ 7 < a ∧ a ≤ 7) ∨ (¬ (a &&& (-8)) = 0 ∧ (a < 0 ∨ (¬ a < 0 ∧ 7 < a ∧ ¬ a ≤ 7))) := by
  by_cases h : (a &&& (-8)) = 0
  · obtain ⟨j, hj, e⟩ := (ph_m8 a).mp h
    subst e
    exact Or.inl ⟨j, hj, rfl, h, nI_pos (by omega), nI_nlt (b := j) (a := 7) (by omega) (by omega), nI_le (a := j) (b := 7) (by omega) (by omega)⟩
  · refine Or.inr ⟨h, ?_⟩
    by_cases h0 : a < 0
    · exact Or.inl h0
    · obtain ⟨j, hj, rfl⟩ := nI_of h0
      have hj8 : 8 ≤ j := by
        rcases Nat.lt_or_ge j 8 with z | z
        · exact absurd ((ph_m8 _).mpr ⟨j, z, rfl⟩) h
        · exact z
      exact Or.inr ⟨h0, nI_lt (a := 7) (b := j) (by omega) hj, nI_ge (a := 7) (b := j) (by omega) hj⟩
theorem ph_c256 (a : Int32) : (∃ j, j < 256 ∧ a = nI j ∧ (a &&& (-256)) = 0 ∧ ¬ a < 0 ∧ ¬ 255 < a) ∨ (¬ (a &&& (-256)) = 0 ∧ (a < 0 ∨ (¬ a < 0 ∧ 255 < a))) := by
  by_cases h : (a &&& (-256)) = 0
  · obtain ⟨j, hj, e⟩ := (ph_m256 a).mp h
    subst e
    exact Or.inl ⟨j, hj, rfl, h, nI_pos (by omega), nI_nlt (b := j) (a := 255) (by omega) (by omega)⟩
  · refine Or.inr ⟨h, ?_⟩
    by_cases h0 : a < 0
    · exact Or.inl h0
    · obtain ⟨j, hj, rfl⟩ := nI_of h0
      have hj8 : 256 ≤ j := by
        rcases Nat.lt_or_ge j 256 with z | z
        · exact absurd ((ph_m256 _).mpr ⟨j, z, rfl⟩) h
        · exact z
      exact Or.inr ⟨h0, nI_lt (a := 255) (b := j) (by omega) hj⟩
theorem ph_or8 (a b c : Int32) : (((a ||| b) ||| c) &&& (-8)) = 0 ↔ (a &&& (-8)) = 0 ∧ (b &&& (-8)) = 0 ∧ (c &&& (-8)) = 0 := by
  constructor
  · intro h
    have hb : ∀ i, ((bt a i || bt b i || bt c i) && bt (-8) i) = false := fun i => by
      rw [← b_or, ← b_or, ← b_and, h, b_0]
    refine ⟨b_ext fun i _ => ?_, b_ext fun i _ => ?_, b_ext fun i _ => ?_⟩ <;>
    (rw [b_and, b_0]; have := hb i; revert this; cases bt a i <;> cases bt b i <;> cases bt c i <;> cases bt (-8) i <;> simp)
  · rintro ⟨ha, hb, hc⟩
    apply b_ext
    intro i _
    have ea : (bt a i && bt (-8) i) = false := by rw [← b_and, ha, b_0]
    have eb : (bt b i && bt (-8) i) = false := by rw [← b_and, hb, b_0]
    have ec : (bt c i && bt (-8) i) = false := by rw [← b_and, hc, b_0]
    rw [b_and, b_or, b_or, b_0]
    revert ea eb ec
    cases bt a i <;> cases bt b i <;> cases bt c i <;> cases bt (-8) i <;> simp
theorem ph_pk : ∀ a, a < 8 → ∀ b, b < 8 → ∀ c, c < 8 → (((nI a <<< ((6 : Int32) &&& 31)) ||| (nI b <<< ((3 : Int32) &&& 31))) ||| nI c) = nI (64 * a + 8 * b + c) := by decide +kernel
theorem ph_p3 : ∀ p, p < 64 → ∀ c, c < 8 → ((nI p <<< ((3 : Int32) &&& 31)) ||| nI c) = nI (8 * p + c) := by decide +kernel
theorem ph_d6 : ∀ p, p < 512 → nI p >>> ((6 : Int32) &&& 31) = nI (p / 64) := by decide +kernel
theorem ph_d3 : ∀ p, p < 512 → (nI p >>> ((3 * (1 : Int32)) &&& 31)) &&& 7 = nI (p / 8 % 8) := by decide +kernel
theorem ph_d0 : ∀ p, p < 512 → (nI p >>> ((3 * (0 : Int32)) &&& 31)) &&& 7 = nI (p % 8) := by decide +kernel
/-! bits of a long -/
def ph_bit (w : Int64) (k : Nat) : Bool := w.toBitVec.getLsbD k
theorem ph_bit_t (w : Int64) {k : Nat} (hk : k < 64) : ((w.toUInt64 >>> ((nI k).toInt64.toUInt64 &&& Int64.toUInt64 63)).toInt64 &&& 1) = 0 ↔ ph_bit w k = false := by
  rw [wb_cu k hk]; exact ts_bit hk (u_tn (by omega))
theorem ph_one {k : Nat} (hk : k < 64) : ((1 : Int64) <<< ((nI k).toInt64 &&& 63)).toBitVec = BitVec.twoPow 64 k := by
  have h := wb_shl 1 hk
  rw [show (1 : Int64) = lN 1 from rfl, h, wb_tb, Nat.one_mul]
  apply BitVec.eq_of_toNat_eq
  rw [BitVec.toNat_ofNat, BitVec.toNat_twoPow]
theorem ph_bit_or (w : Int64) {k j : Nat} (hk : k < 64) : ph_bit (w ||| ((1 : Int64) <<< ((nI k).toInt64 &&& 63))) j = (ph_bit w j || decide (j = k)) := by
  unfold ph_bit
  rw [Int64.toBitVec_or, BitVec.getLsbD_or, ph_one hk, BitVec.getLsbD_twoPow]
  simp [hk, eq_comm]
theorem ph_bit_clr (w : Int64) {k j : Nat} (hk : k < 64) (hj : j < 64) : ph_bit (w &&& (((1 : Int64) <<< ((nI k).toInt64 &&& 63)) ^^^ (-1))) j = (ph_bit w j && !decide (j = k)) := by
  unfold ph_bit
  rw [Int64.toBitVec_and, BitVec.getLsbD_and, Int64.toBitVec_xor, BitVec.getLsbD_xor, ph_one hk, BitVec.getLsbD_twoPow, show (-1 : Int64).toBitVec = BitVec.allOnes 64 from rfl, BitVec.getLsbD_allOnes]
  simp [hk, hj, eq_comm]
theorem ph_bit_0 (j : Nat) : ph_bit 0 j = false := by
  show (0#64).getLsbD j = false
  exact BitVec.getLsbD_zero
theorem ph_bit_1 (j : Nat) : ph_bit 1 j = decide (j = 0) := by
  show (1#64).getLsbD j = _
  rw [BitVec.getLsbD_one]; simp
theorem ph_bit_z {w : Int64} : w = 0 ↔ ∀ j, j < 64 → ph_bit w j = false := by
  constructor
  · rintro rfl j _; exact ph_bit_0 j
  · intro h
    apply wb_inj
    apply BitVec.eq_of_getLsbD_eq
    intro i hi
    exact (h i hi).trans (ph_bit_0 i).symm
/-! a truth as 0 or 1 -/
noncomputable def ph_b (p : Prop) : Nat := @ite Nat p (Classical.propDecidable p) 1 0
theorem ph_b_t {p : Prop} (h : p) : ph_b p = 1 := by unfold ph_b; exact if_pos h
theorem ph_b_f {p : Prop} (h : ¬ p) : ph_b p = 0 := by unfold ph_b; exact if_neg h
theorem ph_b_le (p : Prop) : ph_b p ≤ 1 := by
  rcases Classical.em p with h | h
  · rw [ph_b_t h]; omega
  · rw [ph_b_f h]; omega
theorem ph_b_1 {p : Prop} (h : ph_b p = 1) : p := by
  rcases Classical.em p with z | z
  · exact z
  · rw [ph_b_f z] at h; omega
theorem ph_b_0 {p : Prop} (h : ph_b p = 0) : ¬ p := fun z => by rw [ph_b_t z] at h; omega
theorem ph_b_c {p q : Prop} (h : p ↔ q) : ph_b p = ph_b q := by rw [propext h]
/-! counting -/
noncomputable def ph_cn (P : Nat → Prop) : Nat → Nat
  | 0 => 0
  | k + 1 => ph_cn P k + ph_b (P k)
theorem ph_cn_le (P : Nat → Prop) : ∀ n, ph_cn P n ≤ n
  | 0 => Nat.le_refl _
  | n + 1 => by have := ph_cn_le P n; have := ph_b_le (P n); simp only [ph_cn]; omega
theorem ph_cn_mono {P Q : Nat → Prop} : ∀ {n : Nat}, (∀ k, k < n → P k → Q k) → ph_cn P n ≤ ph_cn Q n
  | 0, _ => Nat.le_refl _
  | n + 1, h => by
    have a := ph_cn_mono (P := P) (Q := Q) (n := n) (fun k hk => h k (by omega))
    have b : ph_b (P n) ≤ ph_b (Q n) := by
      rcases Classical.em (P n) with z | z
      · rw [ph_b_t z, ph_b_t (h n (by omega) z)]; omega
      · rw [ph_b_f z]; omega
    simp only [ph_cn]; omega
theorem ph_cn_lt {P Q : Nat → Prop} {a : Nat} (hp : ¬ P a) (hq : Q a) : ∀ {n : Nat}, (∀ k, k < n → P k → Q k) → a < n → ph_cn P n + 1 ≤ ph_cn Q n
  | 0, _, h => by omega
  | n + 1, h, ha => by
    simp only [ph_cn]
    rcases Nat.lt_or_ge a n with z | z
    · have x := ph_cn_lt hp hq (n := n) (fun k hk => h k (by omega)) z
      have b : ph_b (P n) ≤ ph_b (Q n) := by
        rcases Classical.em (P n) with z | z
        · rw [ph_b_t z, ph_b_t (h n (by omega) z)]; omega
        · rw [ph_b_f z]; omega
      omega
    · have e : a = n := by omega
      subst e
      have x := ph_cn_mono (P := P) (Q := Q) (n := a) (fun k hk => h k (by omega))
      rw [ph_b_t hq, ph_b_f hp]; omega
theorem ph_cn_all {P : Nat → Prop} : ∀ {n : Nat}, n ≤ ph_cn P n → ∀ k, k < n → P k
  | 0, _, k, hk => by omega
  | n + 1, h, k, hk => by
    simp only [ph_cn] at h
    have a := ph_cn_le P n
    have b := ph_b_le (P n)
    rcases Nat.lt_or_ge k n with z | z
    · exact ph_cn_all (n := n) (by omega) k z
    · have e : k = n := by omega
      subst e
      exact ph_b_1 (by omega)
end
section
/-! ===== the policy, pure ===== -/
def ph_un (f : Nat → Nat) (k v : Nat) : Nat → Nat := fun j => if j = k then v else f j
theorem ph_un_s {f : Nat → Nat} {k v : Nat} : ph_un f k v k = v := if_pos rfl
theorem ph_un_n {f : Nat → Nat} {k v j : Nat} (h : j ≠ k) : ph_un f k v j = f j := if_neg h
def ph_V (rc ra : Nat → Nat) : Nat → Nat → Nat
  | 0, _ => 0
  | r + 1, q => if rc r = q then 1 + ra r else ph_V rc ra r q
theorem ph_V_le {rc ra : Nat → Nat} : ∀ {nr : Nat}, (∀ r, r < nr → ra r ≤ 1) → ∀ q, ph_V rc ra nr q ≤ 2
  | 0, _, _ => by simp only [ph_V]; omega
  | r + 1, h, q => by
    simp only [ph_V]
    have a := h r (by omega)
    have b := ph_V_le (rc := rc) (nr := r) (fun s hs => h s (by omega)) q
    split <;> omega
theorem ph_V_none {rc ra : Nat → Nat} {q : Nat} : ∀ {nr : Nat}, (∀ r, r < nr → rc r ≠ q) → ph_V rc ra nr q = 0
  | 0, _ => rfl
  | r + 1, h => by
    simp only [ph_V]
    rw [if_neg (h r (by omega))]
    exact ph_V_none fun s hs => h s (by omega)
theorem ph_V_un {rc ra : Nat → Nat} {k a b q : Nat} : ∀ {nr : Nat}, nr ≤ k → ph_V (ph_un rc k a) (ph_un ra k b) nr q = ph_V rc ra nr q
  | 0, _ => rfl
  | r + 1, h => by
    simp only [ph_V]
    rw [ph_un_n (by omega), ph_un_n (by omega), ph_V_un (by omega)]
def ph_up (b v : Nat) : Nat := if v = 0 then b else v
def ph_pv (rc ra : Nat → Nat) (nr p : Nat) : Nat :=
  ph_up (ph_up (ph_up (ph_V rc ra nr 1) (ph_V rc ra nr (8 + p / 64))) (ph_V rc ra nr (64 + p / 8))) (ph_V rc ra nr (512 + p))
def ph_al (rc ra : Nat → Nat) (nr p : Nat) : Nat := if ph_pv rc ra nr p = 2 then 1 else 0
theorem ph_al_le (rc ra : Nat → Nat) (nr p : Nat) : ph_al rc ra nr p ≤ 1 := by unfold ph_al; split <;> omega
theorem ph_up_le {b v : Nat} (hb : b ≤ 2) (hv : v ≤ 2) : ph_up b v ≤ 2 := by unfold ph_up; split <;> omega
theorem ph_up_0 (b : Nat) : ph_up b 0 = b := rfl
/-- the nodes of the trie: nm names a node by the code of its path; N nodes -/
def ph_TT (N : Nat) (nm : Nat → Nat) (child : Nat → Int32) : Prop :=
  nm 0 = 1 ∧ 1 ≤ N ∧ (∀ m n, m < N → n < N → nm m = nm n → m = n) ∧
  (∀ n, 0 < n → n < N → ∃ m a, m < n ∧ a < 8 ∧ nm n = 8 * nm m + a) ∧
  (∀ n a, n < N → a < 8 → (child (8 * n + a) = 0 ∧ ∀ m, m < N → nm m ≠ 8 * nm n + a) ∨ ∃ m, 0 < m ∧ m < N ∧ child (8 * n + a) = nI m ∧ nm m = 8 * nm n + a) ∧
  (∀ k, 8 * N ≤ k → k < 296 → child k = 0)
theorem ph_TT_pos {N : Nat} {nm : Nat → Nat} {child : Nat → Int32} (h : ph_TT N nm child) : ∀ n, n < N → 1 ≤ nm n := by
  obtain ⟨h0, hN, -, hp, -, -⟩ := h
  intro n
  induction n using Nat.strongRecOn with
  | _ n ih =>
    intro hn
    rcases Nat.eq_zero_or_pos n with z | z
    · subst z; omega
    · obtain ⟨m, a, hm, ha, e⟩ := hp n z hn
      have := ih m hm (by omega)
      omega
theorem ph_TT_up {N : Nat} {nm : Nat → Nat} {child : Nat → Int32} (h : ph_TT N nm child) {q a m : Nat} (hq : 1 ≤ q) (ha : a < 8) (hm : m < N) (e : nm m = 8 * q + a) : ∃ m', m' < m ∧ nm m' = q := by
  obtain ⟨h0, hN, -, hp, -, -⟩ := h
  have : 0 < m := by
    rcases Nat.eq_zero_or_pos m with z | z
    · subst z; omega
    · exact z
  obtain ⟨m', a', h1, h2, e'⟩ := hp m this hm
  exact ⟨m', h1, by omega⟩
theorem ph_TT_step {N n a : Nat} {nm : Nat → Nat} {child : Nat → Int32} (h : ph_TT N nm child) (hn : n < N) (ha : a < 8) (hN : N < 37) (hc : child (8 * n + a) = 0) :
    ph_TT (N + 1) (ph_un nm N (8 * nm n + a)) (upd child (8 * n + a) (nI N)) := by
  have hpos := ph_TT_pos h
  obtain ⟨h0, h1, hi, hp, hch, hz⟩ := h
  have hno : ∀ m, m < N → nm m ≠ 8 * nm n + a := by
    rcases hch n a hn ha with ⟨-, q⟩ | ⟨m, m0, mN, e, -⟩
    · exact q
    · rw [hc] at e
      exact absurd e.symm (nI_ne0 m0 (by omega))
  refine ⟨?_, by omega, ?_, ?_, ?_, ?_⟩
  · rw [ph_un_n (by omega)]; exact h0
  · intro m k hm hk e
    rcases Nat.lt_or_ge m N with z | z
    · rcases Nat.lt_or_ge k N with y | y
      · rw [ph_un_n (by omega), ph_un_n (by omega)] at e; exact hi m k z y e
      · have ek : k = N := by omega
        subst ek
        rw [ph_un_n (by omega), ph_un_s] at e
        exact absurd e (hno m z)
    · have em : m = N := by omega
      subst em
      rcases Nat.lt_or_ge k m with y | y
      · rw [ph_un_s, ph_un_n (by omega)] at e
        exact absurd e.symm (hno k y)
      · omega
  · intro k k0 hk
    rcases Nat.lt_or_ge k N with z | z
    · obtain ⟨m, b, hm, hb, e⟩ := hp k k0 z
      exact ⟨m, b, hm, hb, by rw [ph_un_n (by omega), ph_un_n (by omega)]; exact e⟩
    · have ek : k = N := by omega
      subst ek
      exact ⟨n, a, hn, ha, by rw [ph_un_s, ph_un_n (by omega)]⟩
  · intro k b hk hb
    rcases Nat.lt_or_ge k N with z | z
    · by_cases hkb : 8 * k + b = 8 * n + a
      · have e1 : k = n := by omega
        have e2 : b = a := by omega
        subst e1 e2
        refine Or.inr ⟨N, by omega, by omega, pk_us, ?_⟩
        rw [ph_un_s, ph_un_n (by omega)]
      · rcases hch k b z hb with ⟨q1, q2⟩ | ⟨m, m0, mN, e1, e2⟩
        · refine Or.inl ⟨by rw [pk_un hkb]; exact q1, fun m hm => ?_⟩
          rw [ph_un_n (j := k) (by omega)]
          rcases Nat.lt_or_ge m N with y | y
          · rw [ph_un_n (by omega)]; exact q2 m y
          · have em : m = N := by omega
            subst em
            rw [ph_un_s]
            intro e
            have e3 : nm n = nm k := by omega
            have := hi n k hn z e3
            omega
        · refine Or.inr ⟨m, m0, by omega, by rw [pk_un hkb]; exact e1, ?_⟩
          rw [ph_un_n (by omega), ph_un_n (by omega)]; exact e2
    · have ek : k = N := by omega
      subst ek
      refine Or.inl ⟨?_, fun m hm => ?_⟩
      · rw [pk_un (by omega)]; exact hz _ (by omega) (by omega)
      · rw [ph_un_s]
        rcases Nat.lt_or_ge m k with y | y
        · rw [ph_un_n (by omega)]
          intro e
          have p1 := hpos n hn
          obtain ⟨m', l, e'⟩ := ph_TT_up ⟨h0, h1, hi, hp, hch, hz⟩ (q := 8 * nm n + a) (by omega) hb y e
          exact hno m' (by omega) e'
        · have em : m = k := by omega
          subst em
          rw [ph_un_s]
          have p1 := hpos n hn
          omega
  · intro k hk1 hk2
    rw [pk_un (by omega)]
    exact hz k (by omega) hk2
/-- the trie after nr rules; Nr r: its nodes after r rules -/
def ph_TR (nr : Nat) (rc ra nm Nr : Nat → Nat) (child verdict ruleNode before nodesBefore : Nat → Int32) : Prop :=
  nr ≤ 12 ∧ (∀ r, r < nr → ra r ≤ 1) ∧ Nr 0 = 1 ∧ (∀ r, r < nr → Nr r ≤ Nr (r + 1) ∧ Nr (r + 1) ≤ Nr r + 3) ∧
  ph_TT (Nr nr) nm child ∧ (∀ n, n < Nr nr → verdict n = nI (ph_V rc ra nr (nm n))) ∧
  (∀ r, r < nr → nodesBefore r = nI (Nr r) ∧ before r = nI (ph_V rc ra r (rc r)) ∧ ∃ n, n < Nr (r + 1) ∧ nm n = rc r ∧ ruleNode r = nI n)
theorem ph_Nr_le {Nr : Nat → Nat} (h0 : Nr 0 = 1) : ∀ {nr : Nat}, (∀ r, r < nr → Nr r ≤ Nr (r + 1) ∧ Nr (r + 1) ≤ Nr r + 3) → ∀ r, r ≤ nr → 1 ≤ Nr r ∧ Nr r ≤ 1 + 3 * r
  | nr, h, 0, _ => by omega
  | nr, h, r + 1, hr => by
    have := ph_Nr_le h0 h r (by omega)
    have := h r (by omega)
    omega
theorem ph_Nr_mono {Nr : Nat → Nat} {nr : Nat} (h : ∀ r, r < nr → Nr r ≤ Nr (r + 1) ∧ Nr (r + 1) ≤ Nr r + 3) {r : Nat} : ∀ {s : Nat}, r ≤ s → s ≤ nr → Nr r ≤ Nr s
  | 0, h1, _ => by have : r = 0 := by omega
                   subst this; omega
  | s + 1, h1, h2 => by
    rcases Nat.lt_or_ge r (s + 1) with z | z
    · have := ph_Nr_mono h (r := r) (s := s) (by omega) (by omega)
      have := h s (by omega)
      omega
    · have : r = s + 1 := by omega
      subst this; omega
/-- what holds of the verdicts while new nodes are made -/
def ph_TV (N0 : Nat) (v0 : Nat → Int32) (N : Nat) (v : Nat → Int32) : Prop := N0 ≤ N ∧ (∀ j, j < N0 → v j = v0 j) ∧ (∀ j, N0 ≤ j → j < N → v j = 0)
theorem ph_TV_0 {N0 : Nat} {v0 : Nat → Int32} : ph_TV N0 v0 N0 v0 := ⟨Nat.le_refl _, fun _ _ => rfl, fun j h1 h2 => by omega⟩
theorem ph_TV_s {N0 N : Nat} {v0 v : Nat → Int32} (h : ph_TV N0 v0 N v) : ph_TV N0 v0 (N + 1) (upd v N 0) := by
  obtain ⟨h1, h2, h3⟩ := h
  refine ⟨by omega, fun j hj => by rw [pk_un (by omega)]; exact h2 j hj, fun j hj1 hj2 => ?_⟩
  rcases Nat.lt_or_ge j N with z | z
  · rw [pk_un (by omega)]; exact h3 j hj1 z
  · have : j = N := by omega
    subst this; exact pk_us
theorem ph_TR_rule {nr w q n N : Nat} {rc ra nm Nr nm' : Nat → Nat} {child verdict ruleNode before nodesBefore child' verdict' : Nat → Int32}
    (h : ph_TR nr rc ra nm Nr child verdict ruleNode before nodesBefore) (hnr : nr < 12) (hw : w ≤ 1) (hT : ph_TT N nm' child') (hv : ph_TV (Nr nr) verdict N verdict')
    (hnm : ∀ j, j < Nr nr → nm' j = nm j) (hN : N ≤ Nr nr + 3) (hn : n < N) (hq : nm' n = q) :
    ph_TR (nr + 1) (ph_un rc nr q) (ph_un ra nr w) nm' (ph_un Nr (nr + 1) N) child' (upd verdict' n (nI (1 + w))) (upd ruleNode nr (nI n)) (upd before nr (verdict' n)) (upd nodesBefore nr (nI (Nr nr))) := by
  obtain ⟨g1, g2, g3, g4, g5, g6, g7⟩ := h
  obtain ⟨v1, v2, v3⟩ := hv
  have hnew : ∀ j, Nr nr ≤ j → j < N → ph_V rc ra nr (nm' j) = 0 := by
    intro j hj1 hj2
    apply ph_V_none
    intro r hr e
    obtain ⟨-, -, m, hm, em, -⟩ := g7 r hr
    have l := ph_Nr_mono g4 (r := r + 1) (s := nr) (by omega) (by omega)
    have := hT.2.2.1 m j (by omega) hj2 (by rw [hnm m (by omega), em, e])
    omega
  have hV : ∀ j, j < N → verdict' j = nI (ph_V rc ra nr (nm' j)) := by
    intro j hj
    rcases Nat.lt_or_ge j (Nr nr) with z | z
    · rw [v2 j z, g6 j z, hnm j z]
    · rw [v3 j z hj, hnew j z hj]; rfl
  refine ⟨by omega, ?_, ?_, ?_, ?_, ?_, ?_⟩
  · intro r hr
    rcases Nat.lt_or_ge r nr with z | z
    · rw [ph_un_n (by omega)]; exact g2 r z
    · have : r = nr := by omega
      subst this; rw [ph_un_s]; exact hw
  · rw [ph_un_n (by omega)]; exact g3
  · intro r hr
    rcases Nat.lt_or_ge r nr with z | z
    · rw [ph_un_n (by omega), ph_un_n (by omega)]; exact g4 r z
    · have : r = nr := by omega
      subst this; rw [ph_un_s, ph_un_n (by omega)]; omega
  · rw [ph_un_s]; exact hT
  · rw [ph_un_s]
    intro j hj
    simp only [ph_V]
    rw [ph_un_s, ph_un_s, ph_V_un (Nat.le_refl _)]
    by_cases e : j = n
    · subst e; rw [pk_us, if_pos hq.symm]
    · rw [pk_un e, if_neg, hV j hj]
      intro z
      exact e (hT.2.2.1 j n hj hn (by rw [hq, z]))
  · intro r hr
    rcases Nat.lt_or_ge r nr with z | z
    · obtain ⟨a1, a2, m, a3, a4, a5⟩ := g7 r z
      have l := ph_Nr_mono g4 (r := r + 1) (s := nr) (by omega) (by omega)
      refine ⟨?_, ?_, m, ?_, ?_, ?_⟩
      · rw [pk_un (by omega), ph_un_n (by omega)]; exact a1
      · rw [pk_un (by omega), ph_V_un (by omega), ph_un_n (by omega)]; exact a2
      · rw [ph_un_n (by omega)]; exact a3
      · rw [hnm m (by omega), ph_un_n (by omega)]; exact a4
      · rw [pk_un (by omega)]; exact a5
    · have : r = nr := by omega
      subst this
      refine ⟨?_, ?_, n, ?_, ?_, pk_us⟩
      · rw [pk_us, ph_un_n (by omega)]
      · rw [pk_us, ph_V_un (Nat.le_refl _), ph_un_s, hV n hn, hq]
      · rw [ph_un_s]; exact hn
      · rw [ph_un_s]; exact hq
/-- the children that are at or behind a bound are taken out -/
def ph_cl (child : Nat → Int32) (nb : Int32) (k : Nat) : Nat → Int32 := fun j => if j < k ∧ ¬ child j < nb then 0 else child j
theorem ph_cl_0 (child : Nat → Int32) (nb : Int32) : ph_cl child nb 0 = child := by
  funext j; unfold ph_cl; rw [if_neg]; rintro ⟨h, -⟩; omega
theorem ph_cl_t {child : Nat → Int32} {nb : Int32} {k : Nat} (h : child k < nb) : ph_cl child nb (k + 1) = ph_cl child nb k := by
  funext j; unfold ph_cl
  by_cases e : j = k
  · subst e; rw [if_neg (fun z => z.2 h), if_neg (fun z => z.2 h)]
  · by_cases c : j < k ∧ ¬ child j < nb
    · rw [if_pos c, if_pos ⟨by omega, c.2⟩]
    · rw [if_neg c, if_neg (fun z => c ⟨by omega, z.2⟩)]
theorem ph_cl_f {child : Nat → Int32} {nb : Int32} {k : Nat} (h : ¬ child k < nb) : upd (ph_cl child nb k) k 0 = ph_cl child nb (k + 1) := by
  funext j
  by_cases e : j = k
  · subst e; rw [pk_us]; unfold ph_cl; rw [if_pos ⟨by omega, h⟩]
  · rw [pk_un e]; unfold ph_cl
    by_cases c : j < k ∧ ¬ child j < nb
    · rw [if_pos c, if_pos ⟨by omega, c.2⟩]
    · rw [if_neg c, if_neg (fun z => c ⟨by omega, z.2⟩)]
theorem ph_cl_k (child : Nat → Int32) (nb : Int32) (k : Nat) : ph_cl child nb k k = child k := by
  unfold ph_cl; rw [if_neg]; rintro ⟨h, -⟩; omega
theorem ph_TR_unrule {r n : Nat} {rc ra nm Nr : Nat → Nat} {child verdict ruleNode before nodesBefore : Nat → Int32}
    (h : ph_TR (r + 1) rc ra nm Nr child verdict ruleNode before nodesBefore) (hn : n < Nr (r + 1)) (hq : nm n = rc r) :
    ph_TR r rc ra nm Nr (ph_cl child (nI (Nr r)) (8 * Nr (r + 1))) (upd verdict n (before r)) ruleNode before nodesBefore := by
  obtain ⟨g1, g2, g3, g4, g5, g6, g7⟩ := h
  have hb := ph_Nr_le g3 g4
  have b0 := hb r (by omega)
  have b1 := hb (r + 1) (by omega)
  have b2 := g4 r (by omega)
  refine ⟨by omega, fun s hs => g2 s (by omega), g3, fun s hs => g4 s (by omega), ?_, ?_, fun s hs => g7 s (by omega)⟩
  · obtain ⟨t0, t1, ti, tp, tc, tz⟩ := g5
    refine ⟨t0, by omega, fun m k hm hk => ti m k (by omega) (by omega), fun k k0 hk => tp k k0 (by omega), ?_, ?_⟩
    · intro k a hk ha
      rcases tc k a (by omega) ha with ⟨q1, q2⟩ | ⟨m, m0, mN, q1, q2⟩
      · refine Or.inl ⟨?_, fun m hm => q2 m (by omega)⟩
        unfold ph_cl; split
        · rfl
        · exact q1
      · rcases Nat.lt_or_ge m (Nr r) with z | z
        · refine Or.inr ⟨m, m0, z, ?_, q2⟩
          unfold ph_cl
          rw [if_neg, q1]
          rintro ⟨-, c⟩
          exact c (by rw [q1]; exact nI_lt z (by omega))
        · refine Or.inl ⟨?_, fun m' hm' e => ?_⟩
          · unfold ph_cl
            rw [if_pos ⟨by omega, by rw [q1]; exact nI_nlt z (by omega)⟩]
          · have := ti m' m (by omega) mN (by rw [e, q2])
            omega
    · intro k hk1 hk2
      unfold ph_cl
      by_cases c : k < 8 * Nr (r + 1) ∧ ¬ child k < nI (Nr r)
      · rw [if_pos c]
      · rw [if_neg c]
        rcases Nat.lt_or_ge k (8 * Nr (r + 1)) with z | z
        · rcases tc (k / 8) (k % 8) (by omega) (by omega) with ⟨q1, -⟩ | ⟨m, m0, mN, q1, q2⟩
          · rw [Nat.div_add_mod] at q1; exact q1
          · exfalso
            rw [Nat.div_add_mod] at q1
            have p1 := ph_TT_pos ⟨t0, t1, ti, tp, tc, tz⟩ (k / 8) (by omega)
            obtain ⟨m', l1, l2⟩ := ph_TT_up ⟨t0, t1, ti, tp, tc, tz⟩ p1 (Nat.mod_lt k (by omega)) mN q2
            have := ti m' (k / 8) (by omega) (by omega) l2
            exact c ⟨z, by rw [q1]; exact nI_nlt (by omega) (by omega)⟩
        · exact tz k z hk2
  · intro j hj
    have e1 := g6 j (by omega)
    simp only [ph_V] at e1
    by_cases e : j = n
    · subst e
      rw [pk_us, (g7 r (by omega)).2.1, hq]
    · rw [pk_un e, e1, if_neg]
      intro z
      exact e (g5.2.2.1 j n (by omega) hn (by rw [hq, z]))
/-- what a walk down the trie meets -/
theorem ph_TR_walk {nr n a : Nat} {rc ra nm Nr : Nat → Nat} {child verdict ruleNode before nodesBefore : Nat → Int32}
    (h : ph_TR nr rc ra nm Nr child verdict ruleNode before nodesBefore) (hn : n < Nr nr) (ha : a < 8) :
    ∃ m, child (8 * n + a) = nI m ∧ ((m = 0 ∧ ∀ q, (q = 8 * nm n + a ∨ (∃ b, b < 8 ∧ q = 8 * (8 * nm n + a) + b) ∨ (∃ b c, b < 8 ∧ c < 8 ∧ q = 8 * (8 * (8 * nm n + a) + b) + c)) → ph_V rc ra nr q = 0) ∨ (0 < m ∧ m < Nr nr ∧ m < 37 ∧ nm m = 8 * nm n + a ∧ verdict m = nI (ph_V rc ra nr (8 * nm n + a)))) := by
  obtain ⟨g1, g2, g3, g4, g5, g6, g7⟩ := h
  have b1 := ph_Nr_le g3 g4 nr (Nat.le_refl _)
  have hpos := ph_TT_pos g5 n hn
  have hnode : ∀ q, (∀ m, m < Nr nr → nm m ≠ q) → ph_V rc ra nr q = 0 := by
    intro q hq
    apply ph_V_none
    intro r hr e
    obtain ⟨-, -, m, hm, em, -⟩ := g7 r hr
    have l := ph_Nr_mono g4 (r := r + 1) (s := nr) (by omega) (by omega)
    exact hq m (by omega) (by rw [em, e])
  rcases g5.2.2.2.2.1 n a hn ha with ⟨q1, q2⟩ | ⟨m, m0, mN, q1, q2⟩
  · refine ⟨0, q1, Or.inl ⟨rfl, ?_⟩⟩
    rintro q (rfl | ⟨b, hb, rfl⟩ | ⟨b, c, hb, hc, rfl⟩)
    · exact hnode _ q2
    · apply hnode
      intro m hm e
      obtain ⟨m', l1, l2⟩ := ph_TT_up g5 (by omega) hb hm e
      exact q2 m' (by omega) l2
    · apply hnode
      intro m hm e
      obtain ⟨m', l1, l2⟩ := ph_TT_up g5 (by omega) hc hm e
      obtain ⟨m2, l3, l4⟩ := ph_TT_up g5 (by omega) hb (by omega) l2
      exact q2 m2 (by omega) l4
  · exact ⟨m, q1, Or.inr ⟨m0, mN, by omega, q2, by rw [g6 m mN, q2]⟩⟩
end
section
/-! ===== the component's policy ===== -/
section
variable {f_nodes f_rules f_version f_count f_at f_place f_number f_imports f_functions f_fault f_frames f_box f_pc f_status f_result : Int32} {f_waiting f_memory : Int64} {a_child a_verdict a_ruleNode a_before a_nodesBefore a_bytes a_path a_pathAt a_params a_locals a_from a_size a_high a_loaded a_emitted a_entry a_pParams a_pFunctions a_pImports a_pPath a_judged a_fine a_newAt a_plugin a_quota a_statics a_slot a_back a_entries : Nat → Int32}
theorem ph_nb0 : vp_nar .byte 0 = (0 : Int32) := by rw [vp_nar_byte]; decide
theorem ph_mul8 (n a : Nat) : 8 * nI n + nI a = nI (8 * n + a) := by rw [show (8 : Int32) = nI 8 from rfl, pk_mul, nI_add]
theorem ph_xstep {post : Int32 → SX → Prop} {N n a N0 : Nat} {nm : Nat → Nat} {v0 : Nat → Int32} (hT : ph_TT N nm a_child) (hv : ph_TV N0 v0 N a_verdict) (hn : n < N) (ha : a < 8) (hN : N < 37)
    (k : ∀ N' nm' c' v' m, ph_TT N' nm' c' → ph_TV N0 v0 N' v' → N ≤ N' → N' ≤ N + 1 → m < N' → nm' m = 8 * nm n + a → (∀ j, j < N → nm' j = nm j) → post (nI m) (nI N', f_rules, f_version, f_count, f_at, f_place, f_number, f_imports, f_functions, f_waiting, f_fault, f_frames, f_box, f_pc, f_status, f_result, f_memory, c', v', a_ruleNode, a_before, a_nodesBefore, a_bytes, a_path, a_pathAt, a_params, a_locals, a_from, a_size, a_high, a_loaded, a_emitted, a_entry, a_pParams, a_pFunctions, a_pImports, a_pPath, a_judged, a_fine, a_newAt, a_plugin, a_quota, a_statics, a_slot, a_back, a_entries)) :
    wpX_step post (nI N, f_rules, f_version, f_count, f_at, f_place, f_number, f_imports, f_functions, f_waiting, f_fault, f_frames, f_box, f_pc, f_status, f_result, f_memory, a_child, a_verdict, a_ruleNode, a_before, a_nodesBefore, a_bytes, a_path, a_pathAt, a_params, a_locals, a_from, a_size, a_high, a_loaded, a_emitted, a_entry, a_pParams, a_pFunctions, a_pImports, a_pPath, a_judged, a_fine, a_newAt, a_plugin, a_quota, a_statics, a_slot, a_back, a_entries) (nI n) (nI a) := by
  have hin : vp_in (nI (8 * n + a)) 296 := vp_in_nI (by omega) (by omega)
  unfold wpX_step
  refine nm_r (ph_mul8 n a) ⟨hin, ?_⟩
  rw [nI_clamp (by omega)]
  by_cases hc : a_child (8 * n + a) = 0
  · refine br_t hc ⟨hin, ?_⟩
    refine nm_r (e' := upd a_child (8 * n + a) (nI N)) (by rw [ph_nbb (by omega)]) ?_
    refine nm_r (nI_1 N) ⟨vp_in_nI hN (by omega), ?_⟩
    refine nm_r (e' := upd a_verdict N 0) (by rw [nI_clamp (by omega), ph_nb0]) ⟨hin, ?_⟩
    rw [pk_us]
    exact k (N + 1) (ph_un nm N (8 * nm n + a)) _ _ N (ph_TT_step hT hn ha hN hc) (ph_TV_s hv) (by omega) (by omega) (by omega) ph_un_s (fun j hj => ph_un_n (by omega))
  · refine br_f hc ⟨hin, ?_⟩
    rcases hT.2.2.2.2.1 n a hn ha with ⟨z, -⟩ | ⟨m, m0, mN, e1, e2⟩
    · exact absurd z hc
    · rw [e1]
      exact k N nm a_child a_verdict m hT hv (Nat.le_refl _) (by omega) mN e2 (fun _ _ => rfl)
theorem ph_xrule88 {post : Int32 → SX → Prop} {x1 x2 x3 x4 : Int32} {P nr w N0 : Nat} {ac pd nm0 : Nat → Nat} {v0 : Nat → Int32} (hP : P ≤ 3) (hac : ∀ k, k < P → ac k < 8)
    (h2 : 0 < P → x2 = nI (ac 0)) (h3 : 1 < P → x3 = nI (ac 1)) (h4 : 2 < P → x4 = nI (ac 2)) (hp : ∀ k, k < P → pd (k + 1) = 8 * pd k + ac k)
    (hnr : nr < 12) (hw : x1 &&& 1 = nI w) (hw1 : w ≤ 1) (hN0 : N0 ≤ 1 + 3 * nr) (hv0 : ∀ j, j < N0 → ∃ z, z ≤ 2 ∧ v0 j = nI z)
    (K : ∀ n N nm c v, ph_TT N nm c → ph_TV N0 v0 N v → N ≤ N0 + 3 → (∀ j, j < N0 → nm j = nm0 j) → n < N → nm n = pd P →
      post 1 (nI N, nI (nr + 1), f_version + 1, f_count, f_at, f_place, f_number, f_imports, f_functions, f_waiting, f_fault, f_frames, f_box, f_pc, f_status, f_result, f_memory, c, upd v n (nI (1 + w)), upd a_ruleNode nr (nI n), upd a_before nr (v n), a_nodesBefore, a_bytes, a_path, a_pathAt, a_params, a_locals, a_from, a_size, a_high, a_loaded, a_emitted, a_entry, a_pParams, a_pFunctions, a_pImports, a_pPath, a_judged, a_fine, a_newAt, a_plugin, a_quota, a_statics, a_slot, a_back, a_entries)) :
    ∀ d k n N nm c v, k + d = P → ph_TT N nm c → ph_TV N0 v0 N v → N ≤ N0 + k → (∀ j, j < N0 → nm j = nm0 j) → n < N → nm n = pd k →
      wX_rule_88 post x1 x2 x3 x4 (nI P) (d + 1) (nI n) (nI k) (nI N) (nI nr) f_version f_count f_at f_place f_number f_imports f_functions f_waiting f_fault f_frames f_box f_pc f_status f_result f_memory c v a_ruleNode a_before a_nodesBefore a_bytes a_path a_pathAt a_params a_locals a_from a_size a_high a_loaded a_emitted a_entry a_pParams a_pFunctions a_pImports a_pPath a_judged a_fine a_newAt a_plugin a_quota a_statics a_slot a_back a_entries := by
  intro d
  induction d with
  | zero =>
    intro k n N nm c v hk hT hv hN hnm hn hq
    have ek : k = P := by omega
    subst ek
    have hvn : ∃ z, z ≤ 2 ∧ v n = nI z := by
      rcases Nat.lt_or_ge n N0 with z | z
      · rw [hv.2.1 n z]; exact hv0 n z
      · exact ⟨0, by omega, hv.2.2 n z hn⟩
    obtain ⟨z, hz, ez⟩ := hvn
    rw [wX_rule_88]
    refine br_t (nI_le (Nat.le_refl _) (by omega)) ⟨vp_in_nI hnr (by omega), ?_⟩
    refine nm_r (e' := upd a_ruleNode nr (nI n)) (by rw [nI_clamp (by omega), ph_nbb (by omega)]) ?_
    refine nm_r (nI_1 nr) ⟨vp_in_nI (by omega) (by omega), vp_in_nI hnr (by omega), ?_⟩
    refine nm_r (e' := upd a_before nr (v n)) (by rw [nI_clamp (by omega), nI_clamp (by omega), ez, ph_nb (by omega)]) ⟨vp_in_nI (by omega) (by omega), ?_⟩
    refine nm_r (e' := upd v n (nI (1 + w))) (by rw [nI_clamp (by omega), hw, show (1 : Int32) = nI 1 from rfl, nI_add, ph_nbb (by omega)]) ?_
    exact nm_e (K n N nm c v hT hv (by omega) hnm hn hq)
  | succ d ih =>
    intro k n N nm c v hk hT hv hN hnm hn hq
    rw [wX_rule_88]
    refine br_f (nI_ge (by omega) (by omega)) ?_
    have go : ∀ z : Int32, z = nI (ac k) → wX_rule_119 post (wX_rule_88 post x1 x2 x3 x4 (nI P) (d + 1)) x1 x2 x3 x4 (nI P) (nI k) z (nI n) (nI N) (nI nr) f_version f_count f_at f_place f_number f_imports f_functions f_waiting f_fault f_frames f_box f_pc f_status f_result f_memory c v a_ruleNode a_before a_nodesBefore a_bytes a_path a_pathAt a_params a_locals a_from a_size a_high a_loaded a_emitted a_entry a_pParams a_pFunctions a_pImports a_pPath a_judged a_fine a_newAt a_plugin a_quota a_statics a_slot a_back a_entries := by
      rintro z rfl
      unfold wX_rule_119
      refine ph_xstep hT hv hn (hac k (by omega)) (by omega) ?_
      intro N' nm' c' v' m t1 t2 t3 t4 t5 t6 t7
      refine nm_r (nI_1 k) ?_
      exact ih (k + 1) m N' nm' c' v' (by omega) t1 t2 (by omega) (fun j hj => by rw [t7 j (by have := hv.1; omega)]; exact hnm j hj) t5 (by rw [t6, hq, hp k (by omega)])
    rcases (by omega : k = 0 ∨ k = 1 ∨ k = 2) with e | e | e
    · subst e
      exact br_t rfl (go x2 (h2 (by omega)))
    · subst e
      exact br_f (by decide) (br_t rfl (go x3 (h3 (by omega))))
    · subst e
      exact br_f (by decide) (br_f (by decide) (go x4 (h4 (by omega))))
/-- a rule that is taken -/
def ph_cd (P a b c : Nat) : Nat := if P = 0 then 1 else if P = 1 then 8 + a else if P = 2 then 64 + 8 * a + b else 512 + 64 * a + 8 * b + c
def ph_Acc (packed v1 v2 v3 : Int32) (P a b c w : Nat) : Prop :=
  packed >>> ((1 : Int32) &&& 31) = nI P ∧ P ≤ 3 ∧ a < 8 ∧ b < 8 ∧ c < 8 ∧ (0 < P → v1 = nI a) ∧ (1 < P → v2 = nI b) ∧ (2 < P → v3 = nI c) ∧ packed &&& 1 = nI w ∧ w ≤ 1
theorem ph_m8' {a : Nat} (h : a < 8) : (nI a &&& (-8)) = 0 := (ph_m8 _).mpr ⟨a, h, rfl⟩
theorem ph_xrule {post : Int32 → SX → Prop} {packed v1 v2 v3 : Int32} {P a b c w nr : Nat} {rc ra nm Nr : Nat → Nat} (hA : ph_Acc packed v1 v2 v3 P a b c w)
    (hT : ph_TR nr rc ra nm Nr a_child a_verdict a_ruleNode a_before a_nodesBefore) (hnr : nr < 12)
    (K : ∀ nm' Nr' c' v' rn be nb, ph_TR (nr + 1) (ph_un rc nr (ph_cd P a b c)) (ph_un ra nr w) nm' Nr' c' v' rn be nb →
      post 1 (nI (Nr' (nr + 1)), nI (nr + 1), f_version + 1, f_count, f_at, f_place, f_number, f_imports, f_functions, f_waiting, f_fault, f_frames, f_box, f_pc, f_status, f_result, f_memory, c', v', rn, be, nb, a_bytes, a_path, a_pathAt, a_params, a_locals, a_from, a_size, a_high, a_loaded, a_emitted, a_entry, a_pParams, a_pFunctions, a_pImports, a_pPath, a_judged, a_fine, a_newAt, a_plugin, a_quota, a_statics, a_slot, a_back, a_entries)) :
    wpX_rule post (nI (Nr nr), nI nr, f_version, f_count, f_at, f_place, f_number, f_imports, f_functions, f_waiting, f_fault, f_frames, f_box, f_pc, f_status, f_result, f_memory, a_child, a_verdict, a_ruleNode, a_before, a_nodesBefore, a_bytes, a_path, a_pathAt, a_params, a_locals, a_from, a_size, a_high, a_loaded, a_emitted, a_entry, a_pParams, a_pFunctions, a_pImports, a_pPath, a_judged, a_fine, a_newAt, a_plugin, a_quota, a_statics, a_slot, a_back, a_entries) packed v1 v2 v3 := by
  obtain ⟨e1, hP, ha, hb, hc, e2, e3, e4, e5, hw⟩ := hA
  have hT' := hT
  obtain ⟨g1, g2, g3, g4, g5, g6, g7⟩ := hT'
  have bN := ph_Nr_le g3 g4 nr (Nat.le_refl _)
  have h68 : wX_rule_68 post packed v1 v2 v3 (nI P) (nI (Nr nr)) (nI nr) f_version f_count f_at f_place f_number f_imports f_functions f_waiting f_fault f_frames f_box f_pc f_status f_result f_memory a_child a_verdict a_ruleNode a_before a_nodesBefore a_bytes a_path a_pathAt a_params a_locals a_from a_size a_high a_loaded a_emitted a_entry a_pParams a_pFunctions a_pImports a_pPath a_judged a_fine a_newAt a_plugin a_quota a_statics a_slot a_back a_entries := by
    unfold wX_rule_68
    refine ⟨vp_in_nI hnr (by omega), ?_⟩
    refine nm_r (e' := upd a_nodesBefore nr (nI (Nr nr))) (by rw [nI_clamp (by omega), ph_nbb (by omega)]) ?_
    refine ⟨P + 1, ?_⟩
    refine ph_xrule88 (ac := fun k => if k = 0 then a else if k = 1 then b else c) (pd := fun k => if k = 0 then 1 else if k = 1 then 8 + a else if k = 2 then 64 + 8 * a + b else 512 + 64 * a + 8 * b + c) (nm0 := nm) (N0 := Nr nr) (v0 := a_verdict) hP ?_ e2 e3 e4 ?_ hnr e5 hw (by omega) ?_ ?_ P 0 0 (Nr nr) nm a_child a_verdict (by omega) g5 ph_TV_0 (by omega) (fun _ _ => rfl) (by omega) ?_
    · intro k hk
      split
      · exact ha
      · split
        · exact hb
        · exact hc
    · intro k hk
      rcases (by omega : k = 0 ∨ k = 1 ∨ k = 2) with e | e | e <;> subst e <;> simp <;> omega
    · intro j hj
      exact ⟨_, ph_V_le g2 _, g6 j hj⟩
    · intro n N nm' c' v' t1 t2 t3 t4 t5 t6
      have hR := ph_TR_rule hT hnr hw t1 t2 t4 t3 t5 t6
      have hk := K _ _ _ _ _ _ _ hR
      rw [ph_un_s] at hk
      exact hk
    · exact g5.1
  have h52 : wX_rule_52 post packed v1 v2 v3 (nI P) (nI (Nr nr)) (nI nr) f_version f_count f_at f_place f_number f_imports f_functions f_waiting f_fault f_frames f_box f_pc f_status f_result f_memory a_child a_verdict a_ruleNode a_before a_nodesBefore a_bytes a_path a_pathAt a_params a_locals a_from a_size a_high a_loaded a_emitted a_entry a_pParams a_pFunctions a_pImports a_pPath a_judged a_fine a_newAt a_plugin a_quota a_statics a_slot a_back a_entries :=
    pk_le P 2 (fun _ => h68) (fun z => br_t (by rw [e4 z]; exact ph_m8' hc) h68)
  have h39 : wX_rule_39 post packed v1 v2 v3 (nI P) (nI (Nr nr)) (nI nr) f_version f_count f_at f_place f_number f_imports f_functions f_waiting f_fault f_frames f_box f_pc f_status f_result f_memory a_child a_verdict a_ruleNode a_before a_nodesBefore a_bytes a_path a_pathAt a_params a_locals a_from a_size a_high a_loaded a_emitted a_entry a_pParams a_pFunctions a_pImports a_pPath a_judged a_fine a_newAt a_plugin a_quota a_statics a_slot a_back a_entries :=
    pk_le P 1 (fun _ => h52) (fun z => br_t (by rw [e3 z]; exact ph_m8' hb) h52)
  unfold wpX_rule
  refine nm_r e1 (br_f (nI_pos (by omega)) (br_f (nI_nlt (b := P) (a := 3) (by omega) (by omega)) (pk_eq nr 12 (fun z => by omega) (fun _ => ?_))))
  exact pk_le P 0 (fun _ => h39) (fun z => br_t (by rw [e2 z]; exact ph_m8' ha) h39)
theorem ph_and1 (x : Int32) : ∃ w, w ≤ 1 ∧ x &&& 1 = nI w := by
  obtain ⟨j, hj, e⟩ := pk_andE x (m := 1) 1 (by decide)
  exact ⟨j, by omega, e⟩
theorem ph_acc_ex {packed v1 v2 v3 : Int32} {P : Nat} (e : packed >>> ((1 : Int32) &&& 31) = nI P) (hP : P ≤ 3) (h1 : 0 < P → ∃ j, j < 8 ∧ v1 = nI j) (h2 : 1 < P → ∃ j, j < 8 ∧ v2 = nI j) (h3 : 2 < P → ∃ j, j < 8 ∧ v3 = nI j) :
    ∃ P a b c w, ph_Acc packed v1 v2 v3 P a b c w := by
  obtain ⟨w, hw, ew⟩ := ph_and1 packed
  have z1 : ∃ j, j < 8 ∧ (0 < P → v1 = nI j) := by
    by_cases h : 0 < P
    · obtain ⟨j, hj, e⟩ := h1 h; exact ⟨j, hj, fun _ => e⟩
    · exact ⟨0, by omega, fun z => absurd z h⟩
  have z2 : ∃ j, j < 8 ∧ (1 < P → v2 = nI j) := by
    by_cases h : 1 < P
    · obtain ⟨j, hj, e⟩ := h2 h; exact ⟨j, hj, fun _ => e⟩
    · exact ⟨0, by omega, fun z => absurd z h⟩
  have z3 : ∃ j, j < 8 ∧ (2 < P → v3 = nI j) := by
    by_cases h : 2 < P
    · obtain ⟨j, hj, e⟩ := h3 h; exact ⟨j, hj, fun _ => e⟩
    · exact ⟨0, by omega, fun z => absurd z h⟩
  obtain ⟨a, ha, ea⟩ := z1
  obtain ⟨b, hb, eb⟩ := z2
  obtain ⟨c, hc, ec⟩ := z3
  exact ⟨P, a, b, c, w, e, hP, ha, hb, hc, ea, eb, ec, ew, hw⟩
theorem ph_xrule_no {post : Int32 → SX → Prop} {packed v1 v2 v3 : Int32} {nr : Nat} (hnr : nr ≤ 12) (hA : nr = 12 ∨ ¬ ∃ P a b c w, ph_Acc packed v1 v2 v3 P a b c w) (K : post 0 (f_nodes, nI nr, f_version, f_count, f_at, f_place, f_number, f_imports, f_functions, f_waiting, f_fault, f_frames, f_box, f_pc, f_status, f_result, f_memory, a_child, a_verdict, a_ruleNode, a_before, a_nodesBefore, a_bytes, a_path, a_pathAt, a_params, a_locals, a_from, a_size, a_high, a_loaded, a_emitted, a_entry, a_pParams, a_pFunctions, a_pImports, a_pPath, a_judged, a_fine, a_newAt, a_plugin, a_quota, a_statics, a_slot, a_back, a_entries)) :
    wpX_rule post (f_nodes, nI nr, f_version, f_count, f_at, f_place, f_number, f_imports, f_functions, f_waiting, f_fault, f_frames, f_box, f_pc, f_status, f_result, f_memory, a_child, a_verdict, a_ruleNode, a_before, a_nodesBefore, a_bytes, a_path, a_pathAt, a_params, a_locals, a_from, a_size, a_high, a_loaded, a_emitted, a_entry, a_pParams, a_pFunctions, a_pImports, a_pPath, a_judged, a_fine, a_newAt, a_plugin, a_quota, a_statics, a_slot, a_back, a_entries) packed v1 v2 v3 := by
  unfold wpX_rule
  refine nm_e (br_c (fun _ => K) fun h0 => br_c (fun _ => K) fun h3 => br_c (fun _ => K) fun h12 => ?_)
  have hA' : ¬ ∃ P a b c w, ph_Acc packed v1 v2 v3 P a b c w := by
    rcases hA with z | z
    · subst z; exact absurd rfl h12
    · exact z
  obtain ⟨P, hP, eP⟩ := nI_of2 (M := 3) (n := 3) (by decide) h0 (Int32.not_lt.mp h3)
  rw [eP]
  have h52 : (0 < P → ∃ j, j < 8 ∧ v1 = nI j) → (1 < P → ∃ j, j < 8 ∧ v2 = nI j) → wX_rule_52 post packed v1 v2 v3 (nI P) f_nodes (nI nr) f_version f_count f_at f_place f_number f_imports f_functions f_waiting f_fault f_frames f_box f_pc f_status f_result f_memory a_child a_verdict a_ruleNode a_before a_nodesBefore a_bytes a_path a_pathAt a_params a_locals a_from a_size a_high a_loaded a_emitted a_entry a_pParams a_pFunctions a_pImports a_pPath a_judged a_fine a_newAt a_plugin a_quota a_statics a_slot a_back a_entries := fun q1 q2 =>
    pk_le P 2 (fun z => absurd (ph_acc_ex eP hP q1 q2 (fun y => by omega)) hA') (fun z => br_c (fun y => absurd (ph_acc_ex eP hP q1 q2 (fun _ => (ph_m8 _).mp y)) hA') (fun _ => K))
  have h39 : (0 < P → ∃ j, j < 8 ∧ v1 = nI j) → wX_rule_39 post packed v1 v2 v3 (nI P) f_nodes (nI nr) f_version f_count f_at f_place f_number f_imports f_functions f_waiting f_fault f_frames f_box f_pc f_status f_result f_memory a_child a_verdict a_ruleNode a_before a_nodesBefore a_bytes a_path a_pathAt a_params a_locals a_from a_size a_high a_loaded a_emitted a_entry a_pParams a_pFunctions a_pImports a_pPath a_judged a_fine a_newAt a_plugin a_quota a_statics a_slot a_back a_entries := fun q1 =>
    pk_le P 1 (fun z => h52 q1 (fun y => by omega)) (fun z => br_c (fun y => h52 q1 (fun _ => (ph_m8 _).mp y)) (fun _ => K))
  exact pk_le P 0 (fun z => h39 (fun y => by omega)) (fun z => br_c (fun y => h39 (fun _ => (ph_m8 _).mp y)) (fun _ => K))
theorem ph_xunrule41 {post : Int32 → SX → Prop} {r N nb : Nat} {child : Nat → Int32} (hr : r < 12) (hN : N ≤ 37) (hb : nb ≤ 37) (hnb : a_nodesBefore r = nI nb)
    (K : post 1 (nI nb, nI r, f_version + 1, f_count, f_at, f_place, f_number, f_imports, f_functions, f_waiting, f_fault, f_frames, f_box, f_pc, f_status, f_result, f_memory, ph_cl child (nI nb) (8 * N), a_verdict, a_ruleNode, a_before, a_nodesBefore, a_bytes, a_path, a_pathAt, a_params, a_locals, a_from, a_size, a_high, a_loaded, a_emitted, a_entry, a_pParams, a_pFunctions, a_pImports, a_pPath, a_judged, a_fine, a_newAt, a_plugin, a_quota, a_statics, a_slot, a_back, a_entries)) :
    ∀ d k, k + d = 8 * N → wX_unrule_41 post (nI N) (nI r) f_version f_count f_at f_place f_number f_imports f_functions f_waiting f_fault f_frames f_box f_pc f_status f_result f_memory (d + 1) (nI k) (ph_cl child (nI nb) k) a_verdict a_ruleNode a_before a_nodesBefore a_bytes a_path a_pathAt a_params a_locals a_from a_size a_high a_loaded a_emitted a_entry a_pParams a_pFunctions a_pImports a_pPath a_judged a_fine a_newAt a_plugin a_quota a_statics a_slot a_back a_entries := by
  intro d
  induction d with
  | zero =>
    intro k hk
    have ek : k = 8 * N := by omega
    rw [wX_unrule_41, ek]
    refine br_t (by rw [show (8 : Int32) = nI 8 from rfl, pk_mul]; exact nI_le (Nat.le_refl _) (by omega)) ⟨vp_in_nI hr (by omega), ?_⟩
    refine nm_r (e' := nI nb) (by rw [nI_clamp (by omega), hnb]) (nm_e ?_)
    exact K
  | succ d ih =>
    intro k hk
    rw [wX_unrule_41]
    refine br_f (by rw [show (8 : Int32) = nI 8 from rfl, pk_mul]; exact nI_ge (by omega) (by omega)) ⟨vp_in_nI (by omega) (by omega), vp_in_nI hr (by omega), ?_⟩
    rw [nI_clamp (by omega), nI_clamp (by omega), hnb, ph_cl_k]
    refine br_c (fun h => nm_r (nI_1 k) ?_) (fun h => ⟨vp_in_nI (by omega) (by omega), ?_⟩)
    · have := ih (k + 1) (by omega)
      rw [ph_cl_t h] at this
      exact this
    · refine nm_r (e' := ph_cl child (nI nb) (k + 1)) (by rw [ph_nb0, ph_cl_f h]) (nm_r (nI_1 k) (ih (k + 1) (by omega)))
theorem ph_xunrule {post : Int32 → SX → Prop} {r : Nat} {rc ra nm Nr : Nat → Nat}
    (hT : ph_TR (r + 1) rc ra nm Nr a_child a_verdict a_ruleNode a_before a_nodesBefore)
    (K : ∀ c v, ph_TR r rc ra nm Nr c v a_ruleNode a_before a_nodesBefore → post 1 (nI (Nr r), nI r, f_version + 1, f_count, f_at, f_place, f_number, f_imports, f_functions, f_waiting, f_fault, f_frames, f_box, f_pc, f_status, f_result, f_memory, c, v, a_ruleNode, a_before, a_nodesBefore, a_bytes, a_path, a_pathAt, a_params, a_locals, a_from, a_size, a_high, a_loaded, a_emitted, a_entry, a_pParams, a_pFunctions, a_pImports, a_pPath, a_judged, a_fine, a_newAt, a_plugin, a_quota, a_statics, a_slot, a_back, a_entries)) :
    wpX_unrule post (nI (Nr (r + 1)), nI (r + 1), f_version, f_count, f_at, f_place, f_number, f_imports, f_functions, f_waiting, f_fault, f_frames, f_box, f_pc, f_status, f_result, f_memory, a_child, a_verdict, a_ruleNode, a_before, a_nodesBefore, a_bytes, a_path, a_pathAt, a_params, a_locals, a_from, a_size, a_high, a_loaded, a_emitted, a_entry, a_pParams, a_pFunctions, a_pImports, a_pPath, a_judged, a_fine, a_newAt, a_plugin, a_quota, a_statics, a_slot, a_back, a_entries) := by
  have hT' := hT
  obtain ⟨g1, g2, g3, g4, g5, g6, g7⟩ := hT'
  have bN := ph_Nr_le g3 g4 (r + 1) (Nat.le_refl _)
  have bM := ph_Nr_le g3 g4 r (by omega)
  obtain ⟨a1, a2, n, hn, en, er⟩ := g7 r (by omega)
  unfold wpX_unrule
  refine br_f (nI_ne0 (by omega) (by omega)) ?_
  refine nm_r (nI_pred r) ?_
  rw [nI_pred, nI_clamp (by omega), er, nI_clamp (by omega)]
  refine ⟨vp_in_nI (by omega) (by omega), vp_in_nI (by omega) (by omega), vp_in_nI (by omega) (by omega), ?_⟩
  refine nm_r (e' := upd a_verdict n (a_before r)) (by rw [a2, ph_nb (by have := ph_V_le (rc := rc) (nr := r) (fun s hs => g2 s (by omega)) (rc r); omega)]) ?_
  refine ⟨8 * Nr (r + 1) + 1, ?_⟩
  have h := ph_xunrule41 (post := post) (child := a_child) (a_verdict := upd a_verdict n (a_before r)) (r := r) (N := Nr (r + 1)) (nb := Nr r) (by omega) (by omega) (by omega) a1 (K _ _ (ph_TR_unrule hT hn en)) (8 * Nr (r + 1)) 0 (by omega)
  rw [ph_cl_0] at h
  exact h
theorem ph_xunrule_no {post : Int32 → SX → Prop} (K : post 0 (f_nodes, nI 0, f_version, f_count, f_at, f_place, f_number, f_imports, f_functions, f_waiting, f_fault, f_frames, f_box, f_pc, f_status, f_result, f_memory, a_child, a_verdict, a_ruleNode, a_before, a_nodesBefore, a_bytes, a_path, a_pathAt, a_params, a_locals, a_from, a_size, a_high, a_loaded, a_emitted, a_entry, a_pParams, a_pFunctions, a_pImports, a_pPath, a_judged, a_fine, a_newAt, a_plugin, a_quota, a_statics, a_slot, a_back, a_entries)) : wpX_unrule post (f_nodes, nI 0, f_version, f_count, f_at, f_place, f_number, f_imports, f_functions, f_waiting, f_fault, f_frames, f_box, f_pc, f_status, f_result, f_memory, a_child, a_verdict, a_ruleNode, a_before, a_nodesBefore, a_bytes, a_path, a_pathAt, a_params, a_locals, a_from, a_size, a_high, a_loaded, a_emitted, a_entry, a_pParams, a_pFunctions, a_pImports, a_pPath, a_judged, a_fine, a_newAt, a_plugin, a_quota, a_statics, a_slot, a_back, a_entries) := by
  unfold wpX_unrule
  exact br_t rfl K
/-! permitted -/
theorem ph_xp81 {post : Int32 → Prop} {best : Nat} (hb : best ≤ 2) (k : post (nI (if best = 2 then 1 else 0))) : wX_permitted_81 post (nI best) f_nodes f_rules f_version f_count f_at f_place f_number f_imports f_functions f_waiting f_fault f_frames f_box f_pc f_status f_result f_memory a_child a_verdict a_ruleNode a_before a_nodesBefore a_bytes a_path a_pathAt a_params a_locals a_from a_size a_high a_loaded a_emitted a_entry a_pParams a_pFunctions a_pImports a_pPath a_judged a_fine a_newAt a_plugin a_quota a_statics a_slot a_back a_entries := by
  unfold wX_permitted_81
  refine pk_eq best 2 (fun h => ?_) (fun h => ?_)
  · rw [if_pos h] at k; exact k
  · rw [if_neg h] at k; exact k
theorem ph_xp0 {post : Int32 → Prop} {x1 x4 : Int32} {best n : Nat} (hb : best ≤ 2) (k : post (nI (if best = 2 then 1 else 0))) : wX_permitted_20 post x1 f_nodes f_rules f_version f_count f_at f_place f_number f_imports f_functions f_waiting f_fault f_frames f_box f_pc f_status f_result f_memory a_child a_verdict a_ruleNode a_before a_nodesBefore a_bytes a_path a_pathAt a_params a_locals a_from a_size a_high a_loaded a_emitted a_entry a_pParams a_pFunctions a_pImports a_pPath a_judged a_fine a_newAt a_plugin a_quota a_statics a_slot a_back a_entries (n + 1) (nI best) (nI 0) x4 := by
  rw [wX_permitted_20]
  exact br_c (fun _ => ph_xp81 hb k) (fun _ => br_t (by decide) (ph_xp81 hb k))
theorem ph_xp1 {post : Int32 → Prop} {x1 x4 : Int32} {best v m n : Nat} (hb : best ≤ 2) (hv : v ≤ 2) (hm : m < 37) (m0 : 0 < m) (ev : a_verdict m = nI v) (h4 : ¬ x4 < -1)
    (k : wX_permitted_46 post (wX_permitted_20 post x1 f_nodes f_rules f_version f_count f_at f_place f_number f_imports f_functions f_waiting f_fault f_frames f_box f_pc f_status f_result f_memory a_child a_verdict a_ruleNode a_before a_nodesBefore a_bytes a_path a_pathAt a_params a_locals a_from a_size a_high a_loaded a_emitted a_entry a_pParams a_pFunctions a_pImports a_pPath a_judged a_fine a_newAt a_plugin a_quota a_statics a_slot a_back a_entries n) x1 (nI (ph_up best v)) (nI m) x4 f_nodes f_rules f_version f_count f_at f_place f_number f_imports f_functions f_waiting f_fault f_frames f_box f_pc f_status f_result f_memory a_child a_verdict a_ruleNode a_before a_nodesBefore a_bytes a_path a_pathAt a_params a_locals a_from a_size a_high a_loaded a_emitted a_entry a_pParams a_pFunctions a_pImports a_pPath a_judged a_fine a_newAt a_plugin a_quota a_statics a_slot a_back a_entries) : wX_permitted_20 post x1 f_nodes f_rules f_version f_count f_at f_place f_number f_imports f_functions f_waiting f_fault f_frames f_box f_pc f_status f_result f_memory a_child a_verdict a_ruleNode a_before a_nodesBefore a_bytes a_path a_pathAt a_params a_locals a_from a_size a_high a_loaded a_emitted a_entry a_pParams a_pFunctions a_pImports a_pPath a_judged a_fine a_newAt a_plugin a_quota a_statics a_slot a_back a_entries (n + 1) (nI best) (nI m) x4 := by
  rw [wX_permitted_20]
  refine br_f h4 (br_f (nI_nle m0 (by omega)) ⟨vp_in_nI hm (by omega), ?_⟩)
  rw [nI_clamp (by omega), ev]
  rcases Nat.eq_zero_or_pos v with z | z
  · subst z
    exact br_t (by decide) k
  · refine br_f (nI_nle z (by omega)) ⟨vp_in_nI hm (by omega), nm_e ?_⟩
    unfold ph_up at k
    rw [if_neg (by omega)] at k
    exact k
theorem ph_xperm {post : Int32 → Prop} {nr p : Nat} {rc ra nm Nr : Nat → Nat} (hT : ph_TR nr rc ra nm Nr a_child a_verdict a_ruleNode a_before a_nodesBefore) (hp : p < 512)
    (k : post (nI (ph_al rc ra nr p))) : wpX_permitted post (f_nodes, f_rules, f_version, f_count, f_at, f_place, f_number, f_imports, f_functions, f_waiting, f_fault, f_frames, f_box, f_pc, f_status, f_result, f_memory, a_child, a_verdict, a_ruleNode, a_before, a_nodesBefore, a_bytes, a_path, a_pathAt, a_params, a_locals, a_from, a_size, a_high, a_loaded, a_emitted, a_entry, a_pParams, a_pFunctions, a_pImports, a_pPath, a_judged, a_fine, a_newAt, a_plugin, a_quota, a_statics, a_slot, a_back, a_entries) (nI p) := by
  have hV := ph_V_le (rc := rc) hT.2.1
  have bN := ph_Nr_le hT.2.2.1 hT.2.2.2.1 nr (Nat.le_refl _)
  have n0 : nm 0 = 1 := hT.2.2.2.2.1.1
  have v0 : a_verdict 0 = nI (ph_V rc ra nr 1) := by rw [hT.2.2.2.2.2.1 0 (by omega), n0]
  unfold ph_al ph_pv at k
  unfold wpX_permitted
  try dsimp only
  rw [ph_d6 p hp]
  refine nm_r v0 ⟨vp_in_nI (by omega) (by omega), ?_⟩
  rw [nI_clamp (by omega)]
  obtain ⟨m1, c1, d1⟩ := ph_TR_walk hT (n := 0) (a := p / 64) (by omega) (by omega)
  rw [n0] at d1
  rw [show 8 * 0 + p / 64 = p / 64 by omega] at c1
  refine nm_r c1 ⟨4, ?_⟩
  have q1 : 8 * 1 + p / 64 = 8 + p / 64 := by omega
  have q2 : 8 * (8 + p / 64) + p / 8 % 8 = 64 + p / 8 := by omega
  have q3 : 8 * (64 + p / 8) + p % 8 = 512 + p := by omega
  rw [q1] at d1
  rcases d1 with ⟨z, zz⟩ | ⟨z1, z2, z3, z4, z5⟩
  · subst z
    rw [zz (8 + p / 64) (Or.inl rfl), zz (64 + p / 8) (Or.inr (Or.inl ⟨p / 8 % 8, by omega, q2.symm⟩)), zz (512 + p) (Or.inr (Or.inr ⟨p / 8 % 8, p % 8, by omega, by omega, by rw [q2]; exact q3.symm⟩))] at k
    exact ph_xp0 (hV _) k
  · refine ph_xp1 (hV _) (hV _) z3 z1 z5 (by decide) ?_
    unfold wX_permitted_46
    refine br_t (by decide) ?_
    rw [ph_d3 p hp, ph_mul8]
    refine ⟨vp_in_nI (by omega) (by omega), ?_⟩
    rw [nI_clamp (by omega)]
    obtain ⟨m2, c2, d2⟩ := ph_TR_walk hT (n := m1) (a := p / 8 % 8) z2 (by omega)
    rw [z4, q2] at d2
    refine nm_r c2 (nm_r (show (1 : Int32) + (-1) = 0 from rfl) ?_)
    rcases d2 with ⟨z, zz⟩ | ⟨y1, y2, y3, y4, y5⟩
    · subst z
      rw [zz (64 + p / 8) (Or.inl rfl), zz (512 + p) (Or.inr (Or.inl ⟨p % 8, by omega, q3.symm⟩))] at k
      exact ph_xp0 (ph_up_le (hV _) (hV _)) k
    · refine ph_xp1 (ph_up_le (hV _) (hV _)) (hV _) y3 y1 y5 (by decide) ?_
      unfold wX_permitted_46
      refine br_t (by decide) ?_
      rw [ph_d0 p hp, ph_mul8]
      refine ⟨vp_in_nI (by omega) (by omega), ?_⟩
      rw [nI_clamp (by omega)]
      obtain ⟨m3, c3, d3⟩ := ph_TR_walk hT (n := m2) (a := p % 8) y2 (by omega)
      rw [y4, q3] at d3
      refine nm_r c3 (nm_r (show (0 : Int32) + (-1) = -1 from rfl) ?_)
      rcases d3 with ⟨z, zz⟩ | ⟨x1, x2, x3, x4, x5⟩
      · subst z
        rw [zz (512 + p) (Or.inl rfl)] at k
        exact ph_xp0 (ph_up_le (ph_up_le (hV _) (hV _)) (hV _)) k
      · refine ph_xp1 (ph_up_le (ph_up_le (hV _) (hV _)) (hV _)) (hV _) x3 x1 x5 (by decide) ?_
        unfold wX_permitted_46
        refine br_f (by decide) (nm_r (show (-1 : Int32) + (-1) = -2 from rfl) ?_)
        exact ph_xp0 (ph_up_le (ph_up_le (ph_up_le (hV _) (hV _)) (hV _)) (hV _)) k
theorem ph_xallows {post : Int32 → Prop} {nr a b c : Nat} {rc ra nm Nr : Nat → Nat} (hT : ph_TR nr rc ra nm Nr a_child a_verdict a_ruleNode a_before a_nodesBefore) (ha : a < 8) (hb : b < 8) (hc : c < 8)
    (k : post (nI (ph_al rc ra nr (64 * a + 8 * b + c)))) : wpX_allows post (f_nodes, f_rules, f_version, f_count, f_at, f_place, f_number, f_imports, f_functions, f_waiting, f_fault, f_frames, f_box, f_pc, f_status, f_result, f_memory, a_child, a_verdict, a_ruleNode, a_before, a_nodesBefore, a_bytes, a_path, a_pathAt, a_params, a_locals, a_from, a_size, a_high, a_loaded, a_emitted, a_entry, a_pParams, a_pFunctions, a_pImports, a_pPath, a_judged, a_fine, a_newAt, a_plugin, a_quota, a_statics, a_slot, a_back, a_entries) (nI a) (nI b) (nI c) := by
  unfold wpX_allows
  refine br_t ((ph_or8 _ _ _).mpr ⟨ph_m8' ha, ph_m8' hb, ph_m8' hc⟩) ?_
  rw [ph_pk a ha b hb c hc]
  refine ph_xperm hT (by omega) ?_
  have hle := ph_al_le rc ra nr (64 * a + 8 * b + c)
  refine pk_eq (ph_al rc ra nr (64 * a + 8 * b + c)) 0 (fun h => ?_) (fun h => ?_)
  · rw [h] at k; exact k
  · rw [show ph_al rc ra nr (64 * a + 8 * b + c) = 1 by omega] at k; exact k
theorem ph_xallows_no {post : Int32 → Prop} {v1 v2 v3 : Int32} (h : ¬ ((v1 &&& (-8)) = 0 ∧ (v2 &&& (-8)) = 0 ∧ (v3 &&& (-8)) = 0)) (k : post 0) : wpX_allows post (f_nodes, f_rules, f_version, f_count, f_at, f_place, f_number, f_imports, f_functions, f_waiting, f_fault, f_frames, f_box, f_pc, f_status, f_result, f_memory, a_child, a_verdict, a_ruleNode, a_before, a_nodesBefore, a_bytes, a_path, a_pathAt, a_params, a_locals, a_from, a_size, a_high, a_loaded, a_emitted, a_entry, a_pParams, a_pFunctions, a_pImports, a_pPath, a_judged, a_fine, a_newAt, a_plugin, a_quota, a_statics, a_slot, a_back, a_entries) v1 v2 v3 := by
  unfold wpX_allows
  exact br_f (fun z => h ((ph_or8 _ _ _).mp z)) k
end
end
section
/-! ===== the reference's policy ===== -/
section
variable {g_rules g_place g_number g_pos g_finding g_active g_result : Int32} {g_memory : Int64} {b_ruleParts b_rulePath b_ruleAllows b_bytes b_length b_present b_ways b_boxPlugin b_boxQuota b_boxOpen b_statics b_aFn b_aPos b_aHigh b_aLocal b_aEntry : Nat → Int32}
def ph_RY (rc ra : Nat → Nat) (i : Nat) (pa pt al : Nat → Int32) : Prop :=
  ∃ P a b c, P ≤ 3 ∧ a < 8 ∧ b < 8 ∧ c < 8 ∧ pa i = nI P ∧ (0 < P → pt (3 * i) = nI a) ∧ (1 < P → pt (3 * i + 1) = nI b) ∧ (2 < P → pt (3 * i + 2) = nI c) ∧ rc i = ph_cd P a b c ∧ ra i ≤ 1 ∧ al i = nI (ra i)
def ph_YP (nr : Nat) (rc ra : Nat → Nat) (pa pt al : Nat → Int32) : Prop := nr ≤ 12 ∧ ∀ i, i < nr → ph_RY rc ra i pa pt al
theorem ph_YP_rule {nr P a b c w : Nat} {rc ra : Nat → Nat} {pa pt al : Nat → Int32} {v1 v2 v3 : Int32} (h : ph_YP nr rc ra pa pt al) (hnr : nr < 12) (hP : P ≤ 3) (ha : a < 8) (hb : b < 8) (hc : c < 8)
    (e1 : 0 < P → v1 = nI a) (e2 : 1 < P → v2 = nI b) (e3 : 2 < P → v3 = nI c) (hw : w ≤ 1) :
    ph_YP (nr + 1) (ph_un rc nr (ph_cd P a b c)) (ph_un ra nr w) (upd pa nr (nI P)) (upd (upd (upd pt (3 * nr) v1) (3 * nr + 1) v2) (3 * nr + 2) v3) (upd al nr (nI w)) := by
  refine ⟨by omega, fun i hi => ?_⟩
  rcases Nat.lt_or_ge i nr with z | z
  · obtain ⟨P', a', b', c', t1, t2, t3, t4, t5, t6, t7, t8, t9, t10, t11⟩ := h.2 i z
    refine ⟨P', a', b', c', t1, t2, t3, t4, ?_, ?_, ?_, ?_, ?_, ?_, ?_⟩
    · rw [pk_un (by omega)]; exact t5
    · rw [pk_un (by omega), pk_un (by omega), pk_un (by omega)]; exact t6
    · rw [pk_un (by omega), pk_un (by omega), pk_un (by omega)]; exact t7
    · rw [pk_un (by omega), pk_un (by omega), pk_un (by omega)]; exact t8
    · rw [ph_un_n (by omega)]; exact t9
    · rw [ph_un_n (by omega)]; exact t10
    · rw [pk_un (by omega), ph_un_n (by omega)]; exact t11
  · have e : i = nr := by omega
    subst e
    refine ⟨P, a, b, c, hP, ha, hb, hc, pk_us, ?_, ?_, ?_, ph_un_s, ?_, ?_⟩
    · rw [pk_un (by omega), pk_un (by omega), pk_us]; exact e1
    · rw [pk_un (by omega), pk_us]; exact e2
    · rw [pk_us]; exact e3
    · rw [ph_un_s]; exact hw
    · rw [pk_us, ph_un_s]
theorem ph_r3 (n : Nat) : nI n * 3 = nI (3 * n) := by rw [show (3 : Int32) = nI 3 from rfl, pk_mul, Nat.mul_comm]
theorem ph_p2 (n : Nat) : nI n + 2 = nI (n + 2) := by rw [show (2 : Int32) = nI 2 from rfl, nI_add]
theorem ph_yrule {post : Int32 → SY → Prop} {packed v1 v2 v3 : Int32} {P a b c w nr : Nat} {rc ra : Nat → Nat} (hA : ph_Acc packed v1 v2 v3 P a b c w)
    (hT : ph_YP nr rc ra b_ruleParts b_rulePath b_ruleAllows) (hnr : nr < 12)
    (K : ∀ pa pt al, ph_YP (nr + 1) (ph_un rc nr (ph_cd P a b c)) (ph_un ra nr w) pa pt al →
      post 1 (nI (nr + 1), g_place, g_number, g_pos, g_finding, g_active, g_result, g_memory, pa, pt, al, b_bytes, b_length, b_present, b_ways, b_boxPlugin, b_boxQuota, b_boxOpen, b_statics, b_aFn, b_aPos, b_aHigh, b_aLocal, b_aEntry)) :
    wpY_rule post (nI nr, g_place, g_number, g_pos, g_finding, g_active, g_result, g_memory, b_ruleParts, b_rulePath, b_ruleAllows, b_bytes, b_length, b_present, b_ways, b_boxPlugin, b_boxQuota, b_boxOpen, b_statics, b_aFn, b_aPos, b_aHigh, b_aLocal, b_aEntry) packed v1 v2 v3 := by
  obtain ⟨e1, hP, ha, hb, hc, e2, e3, e4, e5, hw⟩ := hA
  have K' := K _ _ _ (ph_YP_rule hT hnr hP ha hb hc e2 e3 e4 hw)
  have h150 : ∀ z : Int32, z = nI w → wY_rule_150 post z (nI nr) (nI nr) g_place g_number g_pos g_finding g_active g_result g_memory (upd b_ruleParts nr (nI P)) (upd (upd (upd b_rulePath (3 * nr) v1) (3 * nr + 1) v2) (3 * nr + 2) v3) b_ruleAllows b_bytes b_length b_present b_ways b_boxPlugin b_boxQuota b_boxOpen b_statics b_aFn b_aPos b_aHigh b_aLocal b_aEntry := by
    rintro z rfl
    unfold wY_rule_150
    refine ⟨vp_in_nI hnr (by omega), nm_r (e' := upd b_ruleAllows nr (nI w)) ?_ (nm_r (nI_1 nr) K')⟩
    rw [nI_clamp (by omega)]
    rcases (by omega : w = 0 ∨ w = 1) with z | z <;> subst z <;> rfl
  have h78 : wY_rule_78 post packed v1 v2 v3 (nI P) (nI nr) g_place g_number g_pos g_finding g_active g_result g_memory b_ruleParts b_rulePath b_ruleAllows b_bytes b_length b_present b_ways b_boxPlugin b_boxQuota b_boxOpen b_statics b_aFn b_aPos b_aHigh b_aLocal b_aEntry := by
    unfold wY_rule_78
    rw [ph_r3, ph_p2, nI_1, nI_clamp (by omega), nI_clamp (by omega), nI_clamp (by omega), nI_clamp (by omega), e5]
    refine ⟨vp_in_nI hnr (by omega), nm_e ⟨vp_in_nI (by omega) (by omega), nm_e ⟨vp_in_nI (by omega) (by omega), nm_e ⟨vp_in_nI (by omega) (by omega), nm_e ?_⟩⟩⟩⟩
    exact pk_eq w 1 (fun z => h150 1 (by rw [z]; rfl)) (fun z => h150 0 (by rw [show w = 0 by omega]; rfl))
  have c8 : ∀ j, j < 8 → ¬ (7 : Int32) < nI j := fun j hj => nI_nlt (b := j) (a := 7) (by omega) (by omega)
  have h58 : wY_rule_58 post packed v1 v2 v3 (nI P) (nI nr) g_place g_number g_pos g_finding g_active g_result g_memory b_ruleParts b_rulePath b_ruleAllows b_bytes b_length b_present b_ways b_boxPlugin b_boxQuota b_boxOpen b_statics b_aFn b_aPos b_aHigh b_aLocal b_aEntry :=
    pk_le P 2 (fun _ => h78) (fun z => br_f (by rw [e4 z]; exact nI_pos (by omega)) (br_t (by rw [e4 z]; exact nI_le (a := c) (b := 7) (by omega) (by omega)) h78))
  have h42 : wY_rule_42 post packed v1 v2 v3 (nI P) (nI nr) g_place g_number g_pos g_finding g_active g_result g_memory b_ruleParts b_rulePath b_ruleAllows b_bytes b_length b_present b_ways b_boxPlugin b_boxQuota b_boxOpen b_statics b_aFn b_aPos b_aHigh b_aLocal b_aEntry :=
    pk_le P 1 (fun _ => h58) (fun z => br_f (by rw [e3 z]; exact nI_pos (by omega)) (br_f (by rw [e3 z]; exact c8 b hb) h58))
  unfold wpY_rule
  refine nm_r e1 (br_f (nI_pos (by omega)) (br_f (nI_nlt (b := P) (a := 3) (by omega) (by omega)) (pk_eq nr 12 (fun z => by omega) (fun _ => ?_))))
  exact pk_le P 0 (fun _ => h42) (fun z => br_f (by rw [e2 z]; exact nI_pos (by omega)) (br_f (by rw [e2 z]; exact c8 a ha) h42))
theorem ph_in8 {v : Int32} (h0 : ¬ v < 0) (h7 : ¬ 7 < v) : ∃ j, j < 8 ∧ v = nI j := by
  obtain ⟨j, hj, e⟩ := nI_of2 (M := 7) (n := 7) (by decide) h0 (Int32.not_lt.mp h7)
  exact ⟨j, by omega, e⟩
theorem ph_yrule_no {post : Int32 → SY → Prop} {packed v1 v2 v3 : Int32} {nr : Nat} (hnr : nr ≤ 12) (hA : nr = 12 ∨ ¬ ∃ P a b c w, ph_Acc packed v1 v2 v3 P a b c w) (K : post 0 (nI nr, g_place, g_number, g_pos, g_finding, g_active, g_result, g_memory, b_ruleParts, b_rulePath, b_ruleAllows, b_bytes, b_length, b_present, b_ways, b_boxPlugin, b_boxQuota, b_boxOpen, b_statics, b_aFn, b_aPos, b_aHigh, b_aLocal, b_aEntry)) :
    wpY_rule post (nI nr, g_place, g_number, g_pos, g_finding, g_active, g_result, g_memory, b_ruleParts, b_rulePath, b_ruleAllows, b_bytes, b_length, b_present, b_ways, b_boxPlugin, b_boxQuota, b_boxOpen, b_statics, b_aFn, b_aPos, b_aHigh, b_aLocal, b_aEntry) packed v1 v2 v3 := by
  unfold wpY_rule
  refine nm_e (br_c (fun _ => K) fun h0 => br_c (fun _ => K) fun h3 => br_c (fun _ => K) fun h12 => ?_)
  have hA' : ¬ ∃ P a b c w, ph_Acc packed v1 v2 v3 P a b c w := by
    rcases hA with z | z
    · subst z; exact absurd rfl h12
    · exact z
  obtain ⟨P, hP, eP⟩ := nI_of2 (M := 3) (n := 3) (by decide) h0 (Int32.not_lt.mp h3)
  rw [eP]
  have h58 : (0 < P → ∃ j, j < 8 ∧ v1 = nI j) → (1 < P → ∃ j, j < 8 ∧ v2 = nI j) → wY_rule_58 post packed v1 v2 v3 (nI P) (nI nr) g_place g_number g_pos g_finding g_active g_result g_memory b_ruleParts b_rulePath b_ruleAllows b_bytes b_length b_present b_ways b_boxPlugin b_boxQuota b_boxOpen b_statics b_aFn b_aPos b_aHigh b_aLocal b_aEntry := fun q1 q2 =>
    pk_le P 2 (fun z => absurd (ph_acc_ex eP hP q1 q2 (fun y => by omega)) hA') (fun z => br_c (fun _ => K) fun y0 => br_c (fun y => absurd (ph_acc_ex eP hP q1 q2 (fun _ => ph_in8 y0 (Int32.not_lt.mpr y))) hA') (fun _ => K))
  have h42 : (0 < P → ∃ j, j < 8 ∧ v1 = nI j) → wY_rule_42 post packed v1 v2 v3 (nI P) (nI nr) g_place g_number g_pos g_finding g_active g_result g_memory b_ruleParts b_rulePath b_ruleAllows b_bytes b_length b_present b_ways b_boxPlugin b_boxQuota b_boxOpen b_statics b_aFn b_aPos b_aHigh b_aLocal b_aEntry := fun q1 =>
    pk_le P 1 (fun z => h58 q1 (fun y => by omega)) (fun z => br_c (fun _ => K) fun y0 => br_c (fun _ => K) (fun y => h58 q1 (fun _ => ph_in8 y0 y)))
  exact pk_le P 0 (fun z => h42 (fun y => by omega)) (fun z => br_c (fun _ => K) fun y0 => br_c (fun _ => K) (fun y => h42 (fun _ => ph_in8 y0 y)))
theorem ph_yunrule {post : Int32 → SY → Prop} {r : Nat} (hr : r < 12) (K : post 1 (nI r, g_place, g_number, g_pos, g_finding, g_active, g_result, g_memory, b_ruleParts, b_rulePath, b_ruleAllows, b_bytes, b_length, b_present, b_ways, b_boxPlugin, b_boxQuota, b_boxOpen, b_statics, b_aFn, b_aPos, b_aHigh, b_aLocal, b_aEntry)) : wpY_unrule post (nI (r + 1), g_place, g_number, g_pos, g_finding, g_active, g_result, g_memory, b_ruleParts, b_rulePath, b_ruleAllows, b_bytes, b_length, b_present, b_ways, b_boxPlugin, b_boxQuota, b_boxOpen, b_statics, b_aFn, b_aPos, b_aHigh, b_aLocal, b_aEntry) := by
  unfold wpY_unrule
  exact br_f (nI_ne0 (by omega) (by omega)) (nm_r (nI_pred r) K)
theorem ph_yunrule_no {post : Int32 → SY → Prop} (K : post 0 (nI 0, g_place, g_number, g_pos, g_finding, g_active, g_result, g_memory, b_ruleParts, b_rulePath, b_ruleAllows, b_bytes, b_length, b_present, b_ways, b_boxPlugin, b_boxQuota, b_boxOpen, b_statics, b_aFn, b_aPos, b_aHigh, b_aLocal, b_aEntry)) : wpY_unrule post (nI 0, g_place, g_number, g_pos, g_finding, g_active, g_result, g_memory, b_ruleParts, b_rulePath, b_ruleAllows, b_bytes, b_length, b_present, b_ways, b_boxPlugin, b_boxQuota, b_boxOpen, b_statics, b_aFn, b_aPos, b_aHigh, b_aLocal, b_aEntry) := by
  unfold wpY_unrule
  exact br_t rfl K
/-! allows -/
def ph_A (A v : Nat) : Nat := if v = 0 then A else v - 1
theorem ph_A_le {A v : Nat} (h : A ≤ 1) (hv : v ≤ 2) : ph_A A v ≤ 1 := by unfold ph_A; split <;> omega
theorem ph_A_up {A b v : Nat} (h : A = if b = 2 then 1 else 0) (hv : v ≤ 2) : ph_A A v = if ph_up b v = 2 then 1 else 0 := by
  subst h
  rcases (by omega : v = 0 ∨ v = 1 ∨ v = 2) with z | z | z <;> subst z <;> simp [ph_A, ph_up]
theorem ph_up_z (v : Nat) : ph_up 0 v = v := by unfold ph_up; split <;> omega
theorem ph_cd_inj {P a b c x y z : Nat} (hP : P ≤ 3) (ha : a < 8) (hb : b < 8) (hc : c < 8) (hx : x < 8) (hy : y < 8) (hz : z < 8) :
    ph_cd P a b c = ph_cd P x y z ↔ (0 < P → a = x) ∧ (1 < P → b = y) ∧ (2 < P → c = z) := by
  rcases (by omega : P = 0 ∨ P = 1 ∨ P = 2 ∨ P = 3) with e | e | e | e <;> subst e <;> simp [ph_cd] <;> omega
theorem ph_cd_ne {P Q a b c x y z : Nat} (hP : P ≤ 3) (hQ : Q ≤ 3) (ha : a < 8) (hb : b < 8) (hc : c < 8) (hx : x < 8) (hy : y < 8) (hz : z < 8) (h : P ≠ Q) :
    ph_cd P a b c ≠ ph_cd Q x y z := by
  rcases (by omega : P = 0 ∨ P = 1 ∨ P = 2 ∨ P = 3) with e | e | e | e <;> rcases (by omega : Q = 0 ∨ Q = 1 ∨ Q = 2 ∨ Q = 3) with f | f | f | f <;> subst e <;> subst f <;> simp [ph_cd] <;> omega
theorem ph_yal47 {post : Int32 → Prop} {J38 : Int32 → Int32 → Prop} {nr P x y z A : Nat} {rc ra : Nat → Nat} (hT : ph_YP nr rc ra b_ruleParts b_rulePath b_ruleAllows) (hP : P ≤ 3) (hx : x < 8) (hy : y < 8) (hz : z < 8)
    (K : J38 (nI (ph_A A (ph_V rc ra nr (ph_cd P x y z)))) (nI (P + 1))) :
    ∀ d i, i + d = nr → wY_allows_47 post J38 (nI x) (nI y) (nI z) (nI P) (nI nr) g_place g_number g_pos g_finding g_active g_result g_memory b_ruleParts b_rulePath b_ruleAllows b_bytes b_length b_present b_ways b_boxPlugin b_boxQuota b_boxOpen b_statics b_aFn b_aPos b_aHigh b_aLocal b_aEntry (d + 1) (nI (ph_A A (ph_V rc ra i (ph_cd P x y z)))) (nI i) := by
  have hnr := hT.1
  intro d
  induction d with
  | zero =>
    intro i hi
    have e : i = nr := by omega
    subst e
    rw [wY_allows_47]
    exact br_t (nI_le (Nat.le_refl _) (by omega)) (nm_r (nI_1 P) K)
  | succ d ih =>
    intro i hi
    obtain ⟨P', a, b, c, t1, t2, t3, t4, t5, t6, t7, t8, t9, t10, t11⟩ := hT.2 i (by omega)
    have J := ih (i + 1) (by omega)
    simp only [ph_V] at J
    have yes : rc i = ph_cd P x y z → wY_allows_47 post J38 (nI x) (nI y) (nI z) (nI P) (nI nr) g_place g_number g_pos g_finding g_active g_result g_memory b_ruleParts b_rulePath b_ruleAllows b_bytes b_length b_present b_ways b_boxPlugin b_boxQuota b_boxOpen b_statics b_aFn b_aPos b_aHigh b_aLocal b_aEntry (d + 1) (nI (ra i)) (nI (i + 1)) := by
      intro q
      rw [if_pos q] at J
      have : ph_A A (1 + ra i) = ra i := by unfold ph_A; rw [if_neg (by omega)]; omega
      rw [this] at J
      exact J
    have no : rc i ≠ ph_cd P x y z → wY_allows_47 post J38 (nI x) (nI y) (nI z) (nI P) (nI nr) g_place g_number g_pos g_finding g_active g_result g_memory b_ruleParts b_rulePath b_ruleAllows b_bytes b_length b_present b_ways b_boxPlugin b_boxQuota b_boxOpen b_statics b_aFn b_aPos b_aHigh b_aLocal b_aEntry (d + 1) (nI (ph_A A (ph_V rc ra i (ph_cd P x y z)))) (nI (i + 1)) := by
      intro q
      rw [if_neg q] at J
      exact J
    rw [wY_allows_47]
    refine br_f (nI_ge (by omega) (by omega)) ⟨vp_in_nI (by omega) (by omega), ?_⟩
    rw [nI_clamp (by omega), t5]
    refine pk_eq P' P (fun eP => ?_) (fun eP => nm_r (nI_1 i) (no (by rw [t9]; exact ph_cd_ne t1 hP t2 t3 t4 hx hy hz eP)))
    subst eP
    have h110 : (0 < P' → a = x) → (1 < P' → b = y) → wY_allows_110 post J38 (wY_allows_47 post J38 (nI x) (nI y) (nI z) (nI P') (nI nr) g_place g_number g_pos g_finding g_active g_result g_memory b_ruleParts b_rulePath b_ruleAllows b_bytes b_length b_present b_ways b_boxPlugin b_boxQuota b_boxOpen b_statics b_aFn b_aPos b_aHigh b_aLocal b_aEntry (d + 1)) (nI x) (nI y) (nI z) (nI (ph_A A (ph_V rc ra i (ph_cd P' x y z)))) (nI P') (nI i) (nI nr) g_place g_number g_pos g_finding g_active g_result g_memory b_ruleParts b_rulePath b_ruleAllows b_bytes b_length b_present b_ways b_boxPlugin b_boxQuota b_boxOpen b_statics b_aFn b_aPos b_aHigh b_aLocal b_aEntry := by
      intro q1 q2
      unfold wY_allows_110
      rw [ph_r3, ph_p2, nI_clamp (by omega), nI_clamp (by omega)]
      refine pk_le P' 2 (fun h => ⟨vp_in_nI (by omega) (by omega), nm_r t11 (nm_r (nI_1 i) (yes ?_))⟩) (fun h => ⟨vp_in_nI (by omega) (by omega), ?_⟩)
      · rw [t9, ph_cd_inj t1 t2 t3 t4 hx hy hz]; exact ⟨q1, q2, fun q => by omega⟩
      · rw [t8 h]
        refine pk_eq c z (fun q => ⟨vp_in_nI (by omega) (by omega), nm_r t11 (nm_r (nI_1 i) (yes ?_))⟩) (fun q => nm_r (nI_1 i) (no ?_))
        · rw [t9, ph_cd_inj t1 t2 t3 t4 hx hy hz]; exact ⟨q1, q2, fun _ => q⟩
        · rw [t9]; intro w; exact q (((ph_cd_inj t1 t2 t3 t4 hx hy hz).mp w).2.2 h)
    have h89 : (0 < P' → a = x) → wY_allows_89 post J38 (wY_allows_47 post J38 (nI x) (nI y) (nI z) (nI P') (nI nr) g_place g_number g_pos g_finding g_active g_result g_memory b_ruleParts b_rulePath b_ruleAllows b_bytes b_length b_present b_ways b_boxPlugin b_boxQuota b_boxOpen b_statics b_aFn b_aPos b_aHigh b_aLocal b_aEntry (d + 1)) (nI x) (nI y) (nI z) (nI (ph_A A (ph_V rc ra i (ph_cd P' x y z)))) (nI P') (nI i) (nI nr) g_place g_number g_pos g_finding g_active g_result g_memory b_ruleParts b_rulePath b_ruleAllows b_bytes b_length b_present b_ways b_boxPlugin b_boxQuota b_boxOpen b_statics b_aFn b_aPos b_aHigh b_aLocal b_aEntry := by
      intro q1
      unfold wY_allows_89
      rw [ph_r3, nI_1, nI_clamp (by omega)]
      refine pk_le P' 1 (fun h => h110 q1 (fun q => by omega)) (fun h => ⟨vp_in_nI (by omega) (by omega), ?_⟩)
      rw [t7 h]
      refine pk_eq b y (fun q => h110 q1 (fun _ => q)) (fun q => nm_r (nI_1 i) (no ?_))
      rw [t9]; intro w; exact q (((ph_cd_inj t1 t2 t3 t4 hx hy hz).mp w).2.1 h)
    rw [ph_r3, nI_clamp (by omega)]
    refine pk_le P' 0 (fun h => h89 (fun q => by omega)) (fun h => ⟨vp_in_nI (by omega) (by omega), ?_⟩)
    rw [t6 h]
    refine pk_eq a x (fun q => h89 (fun _ => q)) (fun q => nm_r (nI_1 i) (no ?_))
    rw [t9]; intro w; exact q (((ph_cd_inj t1 t2 t3 t4 hx hy hz).mp w).1 h)
theorem ph_yal38 {post : Int32 → Prop} {nr P x y z A n : Nat} {rc ra : Nat → Nat} (hT : ph_YP nr rc ra b_ruleParts b_rulePath b_ruleAllows) (hP : P ≤ 3) (hx : x < 8) (hy : y < 8) (hz : z < 8)
    (K : wY_allows_38 post (nI x) (nI y) (nI z) (nI nr) g_place g_number g_pos g_finding g_active g_result g_memory b_ruleParts b_rulePath b_ruleAllows b_bytes b_length b_present b_ways b_boxPlugin b_boxQuota b_boxOpen b_statics b_aFn b_aPos b_aHigh b_aLocal b_aEntry n (nI (ph_A A (ph_V rc ra nr (ph_cd P x y z)))) (nI (P + 1))) :
    wY_allows_38 post (nI x) (nI y) (nI z) (nI nr) g_place g_number g_pos g_finding g_active g_result g_memory b_ruleParts b_rulePath b_ruleAllows b_bytes b_length b_present b_ways b_boxPlugin b_boxQuota b_boxOpen b_statics b_aFn b_aPos b_aHigh b_aLocal b_aEntry (n + 1) (nI A) (nI P) := by
  rw [wY_allows_38]
  exact br_f (nI_ge (a := P) (b := 4) (by omega) (by omega)) ⟨nr + 1, ph_yal47 (A := A) hT hP hx hy hz K nr 0 (by omega)⟩
theorem ph_yallows {post : Int32 → Prop} {nr x y z : Nat} {rc ra : Nat → Nat} (hT : ph_YP nr rc ra b_ruleParts b_rulePath b_ruleAllows) (hx : x < 8) (hy : y < 8) (hz : z < 8)
    (k : post (nI (ph_al rc ra nr (64 * x + 8 * y + z)))) : wpY_allows post (nI nr, g_place, g_number, g_pos, g_finding, g_active, g_result, g_memory, b_ruleParts, b_rulePath, b_ruleAllows, b_bytes, b_length, b_present, b_ways, b_boxPlugin, b_boxQuota, b_boxOpen, b_statics, b_aFn, b_aPos, b_aHigh, b_aLocal, b_aEntry) (nI x) (nI y) (nI z) := by
  have hra : ∀ r, r < nr → ra r ≤ 1 := fun r hr => by
    obtain ⟨P', a, b, c, t1, t2, t3, t4, t5, t6, t7, t8, t9, t10, t11⟩ := hT.2 r hr
    exact t10
  have hV := ph_V_le (rc := rc) hra
  have c8 : ∀ j, j < 8 → ¬ (7 : Int32) < nI j := fun j hj => nI_nlt (b := j) (a := 7) (by omega) (by omega)
  have e : ph_A (ph_A (ph_A (ph_A 0 (ph_V rc ra nr (ph_cd 0 x y z))) (ph_V rc ra nr (ph_cd 1 x y z))) (ph_V rc ra nr (ph_cd 2 x y z))) (ph_V rc ra nr (ph_cd 3 x y z)) = ph_al rc ra nr (64 * x + 8 * y + z) := by
    have c0 : ph_cd 0 x y z = 1 := rfl
    have c1 : ph_cd 1 x y z = 8 + (64 * x + 8 * y + z) / 64 := by show 8 + x = _; omega
    have c2 : ph_cd 2 x y z = 64 + (64 * x + 8 * y + z) / 8 := by show 64 + 8 * x + y = _; omega
    have c3 : ph_cd 3 x y z = 512 + (64 * x + 8 * y + z) := by show 512 + 64 * x + 8 * y + z = _; omega
    rw [c0, c1, c2, c3]
    unfold ph_al ph_pv
    refine ph_A_up (ph_A_up (ph_A_up ?_ (hV _)) (hV _)) (hV _)
    have q := ph_A_up (A := 0) (b := 0) (by decide) (hV 1)
    rw [ph_up_z] at q
    exact q
  unfold wpY_allows
  refine br_f (nI_pos (by omega)) (br_f (c8 x hx) (br_f (nI_pos (by omega)) (br_f (c8 y hy) (br_f (nI_pos (by omega)) (br_t (nI_le (a := z) (b := 7) (by omega) (by omega)) ⟨5, ?_⟩)))))
  refine ph_yal38 (A := 0) (P := 0) hT (by omega) hx hy hz (ph_yal38 (P := 1) hT (by omega) hx hy hz (ph_yal38 (P := 2) hT (by omega) hx hy hz (ph_yal38 (P := 3) hT (by omega) hx hy hz ?_)))
  rw [e, wY_allows_38]
  refine br_t (nI_le (a := 4) (b := 4) (by omega) (by omega)) ⟨?_, k⟩
  have hle := ph_al_le rc ra nr (64 * x + 8 * y + z)
  rcases (by omega : ph_al rc ra nr (64 * x + 8 * y + z) = 0 ∨ ph_al rc ra nr (64 * x + 8 * y + z) = 1) with w | w <;> rw [w] <;> rfl
theorem ph_yallows_no {post : Int32 → Prop} {v1 v2 v3 : Int32} (h : ¬ ((v1 &&& (-8)) = 0 ∧ (v2 &&& (-8)) = 0 ∧ (v3 &&& (-8)) = 0)) (k : post 0) : wpY_allows post (g_rules, g_place, g_number, g_pos, g_finding, g_active, g_result, g_memory, b_ruleParts, b_rulePath, b_ruleAllows, b_bytes, b_length, b_present, b_ways, b_boxPlugin, b_boxQuota, b_boxOpen, b_statics, b_aFn, b_aPos, b_aHigh, b_aLocal, b_aEntry) v1 v2 v3 := by
  unfold wpY_allows
  refine br_c (fun _ => k) fun a0 => br_c (fun _ => k) fun a7 => br_c (fun _ => k) fun b0 => br_c (fun _ => k) fun b7 => br_c (fun _ => k) fun c0 => br_c (fun c7 => ?_) (fun _ => k)
  exact absurd ⟨(ph_m8 _).mpr (ph_in8 a0 a7), (ph_m8 _).mpr (ph_in8 b0 b7), (ph_m8 _).mpr (ph_in8 c0 (Int32.not_lt.mpr c7))⟩ h
end
end
section
/-! ===== the format, pure ===== -/
def ph_hd (B : Nat → Nat) : Nat → Nat
  | 0 => 3 + 3 * B 1
  | f + 1 => ph_hd B f + 3 + B (ph_hd B f + 2)
def ph_nf (B : Nat → Nat) : Nat := B (2 + 3 * B 1)
def ph_er (L pos : Nat) : Nat × Nat := if L ≤ pos then (1, L) else (2, pos)
def ph_rd (B : Nat → Nat) (L pos lo hi : Nat) : Nat × Nat := if L ≤ pos then (1, L) else if B pos < lo ∨ hi < B pos then (2, pos) else (0, 0)
def ph_th (a b : Nat × Nat) : Nat × Nat := if a.1 = 0 then b else a
def ph_sq (g : Nat → Nat × Nat) : Nat → Nat → Nat × Nat
  | 0, _ => (0, 0)
  | d + 1, i => ph_th (g i) (ph_sq g d (i + 1))
def ph_fu (B : Nat → Nat) (L : Nat) : Nat → Nat → Nat × Nat
  | 0, pos => if pos = L then (0, 0) else (3, pos)
  | m + 1, pos => ph_th (ph_rd B L pos 0 2) (ph_th (ph_rd B L (pos + 1) 0 3) (ph_th (ph_rd B L (pos + 2) 1 40) (if L < pos + 3 + B (pos + 2) then (1, L) else ph_fu B L m (pos + 3 + B (pos + 2)))))
def ph_ri (B : Nat → Nat) (L i : Nat) : Nat × Nat := ph_rd B L (2 + i) 0 7
def ph_fm (B : Nat → Nat) (L : Nat) : Nat × Nat :=
  ph_th (ph_rd B L 0 80 80) (ph_th (ph_rd B L 1 0 4) (ph_th (ph_sq (ph_ri B L) (3 * B 1) 0) (ph_th (ph_rd B L (2 + 3 * B 1) 1 4) (ph_fu B L (ph_nf B) (3 + 3 * B 1)))))
theorem ph_er_ne (L pos : Nat) : (ph_er L pos).1 ≠ 0 := by unfold ph_er; split <;> simp
theorem ph_th_0 {a b : Nat × Nat} (h : a = (0, 0)) : ph_th a b = b := by rw [h]; rfl
theorem ph_th_n {a b : Nat × Nat} (h : a.1 ≠ 0) : ph_th a b = a := if_neg h
theorem ph_th_e {a b : Nat × Nat} {L pos : Nat} (h : a = ph_er L pos) : ph_th a b = ph_er L pos := by rw [ph_th_n (by rw [h]; exact ph_er_ne L pos), h]
theorem ph_rd_c (B : Nat → Nat) (L pos lo hi : Nat) : (ph_rd B L pos lo hi = (0, 0) ∧ pos < L ∧ lo ≤ B pos ∧ B pos ≤ hi) ∨ ph_rd B L pos lo hi = ph_er L pos := by
  unfold ph_rd ph_er
  by_cases h : L ≤ pos
  · rw [if_pos h, if_pos h]; exact Or.inr rfl
  · rw [if_neg h, if_neg h]
    by_cases h2 : B pos < lo ∨ hi < B pos
    · rw [if_pos h2]; exact Or.inr rfl
    · rw [if_neg h2]; exact Or.inl ⟨rfl, by omega, by omega, by omega⟩
theorem ph_rd_0 {B : Nat → Nat} {L pos lo hi : Nat} (h : ph_rd B L pos lo hi = (0, 0)) : pos < L ∧ lo ≤ B pos ∧ B pos ≤ hi := by
  rcases ph_rd_c B L pos lo hi with ⟨-, z⟩ | z
  · exact z
  · rw [h] at z; exact absurd (congrArg Prod.fst z).symm (ph_er_ne L pos)
theorem ph_th_z {a b : Nat × Nat} (h : ph_th a b = (0, 0)) (ha : a.1 = 0 → a = (0, 0)) : a = (0, 0) ∧ b = (0, 0) := by
  unfold ph_th at h
  by_cases z : a.1 = 0
  · rw [if_pos z] at h; exact ⟨ha z, h⟩
  · rw [if_neg z] at h; rw [h] at z; exact absurd rfl z
theorem ph_rd_z {B : Nat → Nat} {L pos lo hi : Nat} (h : (ph_rd B L pos lo hi).1 = 0) : ph_rd B L pos lo hi = (0, 0) := by
  rcases ph_rd_c B L pos lo hi with ⟨z, -⟩ | z
  · exact z
  · rw [z] at h; exact absurd h (ph_er_ne L pos)
theorem ph_sq_z {g : Nat → Nat × Nat} (hg : ∀ i, (g i).1 = 0 → g i = (0, 0)) : ∀ {d i : Nat}, (ph_sq g d i).1 = 0 → ph_sq g d i = (0, 0)
  | 0, _, _ => rfl
  | d + 1, i, h => by
    simp only [ph_sq] at h ⊢
    by_cases z : (g i).1 = 0
    · rw [ph_th_0 (hg i z)] at h ⊢; exact ph_sq_z hg h
    · rw [ph_th_n z] at h; exact absurd h z
theorem ph_sq_all {g : Nat → Nat × Nat} (hg : ∀ i, (g i).1 = 0 → g i = (0, 0)) : ∀ {d i : Nat}, ph_sq g d i = (0, 0) → ∀ j, i ≤ j → j < i + d → g j = (0, 0)
  | 0, _, _, j, h1, h2 => by omega
  | d + 1, i, h, j, h1, h2 => by
    simp only [ph_sq] at h
    obtain ⟨e1, e2⟩ := ph_th_z h (hg i)
    rcases Nat.lt_or_ge i j with z | z
    · exact ph_sq_all hg e2 j (by omega) (by omega)
    · have : j = i := by omega
      subst this; exact e1
/-- the bytes are those of a plugin that is well formed -/
def ph_WF (B : Nat → Nat) (L : Nat) : Prop :=
  L ≤ 120 ∧ B 1 ≤ 4 ∧ (∀ i, i < 3 * B 1 → B (2 + i) ≤ 7) ∧ 1 ≤ ph_nf B ∧ ph_nf B ≤ 4 ∧ ph_hd B (ph_nf B) = L ∧
  ∀ f, f < ph_nf B → B (ph_hd B f) ≤ 2 ∧ B (ph_hd B f + 1) ≤ 3 ∧ 1 ≤ B (ph_hd B f + 2) ∧ B (ph_hd B f + 2) ≤ 40
theorem ph_fu_wf {B : Nat → Nat} {L nf : Nat} : ∀ {m f : Nat}, f + m = nf → ph_fu B L m (ph_hd B f) = (0, 0) →
    ph_hd B nf = L ∧ ∀ g, f ≤ g → g < nf → B (ph_hd B g) ≤ 2 ∧ B (ph_hd B g + 1) ≤ 3 ∧ 1 ≤ B (ph_hd B g + 2) ∧ B (ph_hd B g + 2) ≤ 40
  | 0, f, hf, h => by
    simp only [ph_fu] at h
    have e : f = nf := by omega
    subst e
    refine ⟨?_, fun g h1 h2 => by omega⟩
    by_cases z : ph_hd B f = L
    · exact z
    · rw [if_neg z] at h; simp at h
  | m + 1, f, hf, h => by
    simp only [ph_fu] at h
    obtain ⟨a1, h⟩ := ph_th_z h ph_rd_z
    obtain ⟨a2, h⟩ := ph_th_z h ph_rd_z
    obtain ⟨a3, h⟩ := ph_th_z h ph_rd_z
    have b1 := ph_rd_0 a1
    have b2 := ph_rd_0 a2
    have b3 := ph_rd_0 a3
    by_cases z : L < ph_hd B f + 3 + B (ph_hd B f + 2)
    · rw [if_pos z] at h; simp at h
    · rw [if_neg z] at h
      obtain ⟨c1, c2⟩ := ph_fu_wf (B := B) (L := L) (nf := nf) (m := m) (f := f + 1) (by omega) h
      refine ⟨c1, fun g h1 h2 => ?_⟩
      rcases Nat.lt_or_ge f g with y | y
      · exact c2 g (by omega) h2
      · have : g = f := by omega
        subst this; omega
theorem ph_fm_wf {B : Nat → Nat} {L : Nat} (hL : L ≤ 120) (h : ph_fm B L = (0, 0)) : ph_WF B L := by
  unfold ph_fm at h
  obtain ⟨a1, h⟩ := ph_th_z h ph_rd_z
  obtain ⟨a2, h⟩ := ph_th_z h ph_rd_z
  obtain ⟨a3, h⟩ := ph_th_z h (ph_sq_z fun i => ph_rd_z)
  obtain ⟨a4, h⟩ := ph_th_z h ph_rd_z
  have b2 := ph_rd_0 a2
  have b4 := ph_rd_0 a4
  obtain ⟨c1, c2⟩ := ph_fu_wf (B := B) (L := L) (nf := ph_nf B) (m := ph_nf B) (f := 0) (by omega) h
  refine ⟨hL, b2.2.2, fun i hi => ?_, b4.2.1, b4.2.2, c1, fun f hf => c2 f (by omega) hf⟩
  exact (ph_rd_0 (ph_sq_all (fun i => ph_rd_z) a3 i (by omega) (by omega))).2.2
theorem ph_hd_mono {B : Nat → Nat} {f : Nat} : ∀ {g : Nat}, f < g → ph_hd B f + 3 + B (ph_hd B f + 2) ≤ ph_hd B g
  | 0, h => by omega
  | g + 1, h => by
    simp only [ph_hd]
    rcases Nat.lt_or_ge f g with z | z
    · have := ph_hd_mono (B := B) (f := f) (g := g) z; omega
    · have : f = g := by omega
      subst this; omega
theorem ph_hd_b {B : Nat → Nat} {L f : Nat} (h : ph_WF B L) (hf : f < ph_nf B) : 3 ≤ ph_hd B f ∧ ph_hd B f + 3 + B (ph_hd B f + 2) ≤ L ∧ L ≤ 120 := by
  obtain ⟨h1, h2, h3, h4, h5, h6, h7⟩ := h
  have := ph_hd_mono (B := B) hf
  refine ⟨?_, by omega, h1⟩
  cases f with
  | zero => simp only [ph_hd]; omega
  | succ g => simp only [ph_hd]; omega
/-! the code of a function: c i the byte at i -/
def ph_cdo (B : Nat → Nat) (f : Nat) : Nat → Nat := fun i => B (ph_hd B f + 3 + i)
def ph_sz (B : Nat → Nat) (f : Nat) : Nat := B (ph_hd B f + 2)
def ph_wd (op : Nat) : Nat := if op ≤ 2 ∨ (10 ≤ op ∧ op ≤ 15) then 2 else 1
theorem ph_wd_c (op : Nat) : ph_wd op = 1 ∨ ph_wd op = 2 := by unfold ph_wd; split <;> simp
theorem ph_wd_b (op : Nat) : 1 ≤ ph_wd op ∧ ph_wd op ≤ 2 := by rcases ph_wd_c op with h | h <;> omega
/-- the k-th instruction's place -/
def ph_pcs (c : Nat → Nat) : Nat → Nat
  | 0 => 0
  | k + 1 => ph_pcs c k + ph_wd (c (ph_pcs c k))
def ph_St (c : Nat → Nat) (i : Nat) : Prop := ∃ k, ph_pcs c k = i
theorem ph_St_0 (c : Nat → Nat) : ph_St c 0 := ⟨0, rfl⟩
theorem ph_St_s {c : Nat → Nat} {i : Nat} (h : ph_St c i) : ph_St c (i + ph_wd (c i)) := by
  obtain ⟨k, rfl⟩ := h; exact ⟨k + 1, rfl⟩
theorem ph_pcs_mono {c : Nat → Nat} {a : Nat} : ∀ {b : Nat}, a < b → ph_pcs c a + ph_wd (c (ph_pcs c a)) ≤ ph_pcs c b
  | 0, h => by omega
  | b + 1, h => by
    simp only [ph_pcs]
    rcases Nat.lt_or_ge a b with z | z
    · have := ph_pcs_mono (c := c) z; omega
    · have : a = b := by omega
      subst this; omega
theorem ph_St_gap {c : Nat → Nat} {i j : Nat} (hi : ph_St c i) (hj : ph_St c j) (h : i < j) : i + ph_wd (c i) ≤ j := by
  obtain ⟨a, rfl⟩ := hi
  obtain ⟨b, rfl⟩ := hj
  apply ph_pcs_mono
  rcases Nat.lt_trichotomy a b with z | z | z
  · exact z
  · subst z; omega
  · have := ph_pcs_mono (c := c) z; omega
/-- a start below the place behind a start -/
theorem ph_St_lt {c : Nat → Nat} {i j : Nat} (hi : ph_St c i) (hj : ph_St c j) (h : j < i + ph_wd (c i)) : j < i ∨ j = i := by
  rcases Nat.lt_trichotomy j i with z | z | z
  · exact Or.inl z
  · exact Or.inr z
  · have := ph_St_gap hi hj z; omega
/-- the operand's bound -/
def ph_lim (nf ni pl op : Nat) : Nat := if op = 1 ∨ op = 2 then pl else if op = 12 then nf else if op = 13 then ni else if op = 14 ∨ op = 15 then 4 else 256
def ph_bad (nf ni pl n : Nat) (c : Nat → Nat) (i : Nat) : Prop := 16 < c i ∨ n < i + ph_wd (c i) ∨ (ph_wd (c i) = 2 ∧ ph_lim nf ni pl (c i) ≤ c (i + 1))
def ph_isbad (nf ni pl n : Nat) (c : Nat → Nat) (i : Nat) : Bool := decide (16 < c i) || decide (n < i + ph_wd (c i)) || (decide (ph_wd (c i) = 2) && decide (ph_lim nf ni pl (c i) ≤ c (i + 1)))
/-- the first bad instruction's place, or n -/
def ph_cc (nf ni pl n : Nat) (c : Nat → Nat) : Nat → Nat → Nat
  | 0, _ => n
  | k + 1, i => if n ≤ i then n else if ph_isbad nf ni pl n c i = true then i else ph_cc nf ni pl n c k (i + ph_wd (c i))
def ph_ccr (B : Nat → Nat) (f : Nat) : Nat × Nat :=
  if ph_cc (ph_nf B) (B 1) (B (ph_hd B f) + B (ph_hd B f + 1)) (ph_sz B f) (ph_cdo B f) 41 0 = ph_sz B f then (0, 0) else (4, ph_hd B f + 3 + ph_cc (ph_nf B) (B 1) (B (ph_hd B f) + B (ph_hd B f + 1)) (ph_sz B f) (ph_cdo B f) 41 0)
/-- every instruction is fine -/
def ph_CO (nf ni pl n : Nat) (c : Nat → Nat) : Prop := ∀ i, ph_St c i → i < n → ph_isbad nf ni pl n c i = false
theorem ph_cc_ok {nf ni pl n : Nat} {c : Nat → Nat} : ∀ {k i : Nat}, ph_St c i → n < i + k → ph_cc nf ni pl n c k i = n → ∀ j, ph_St c j → i ≤ j → j < n → ph_isbad nf ni pl n c j = false
  | 0, i, _, hk, _, j, _, h1, h2 => by omega
  | k + 1, i, hi, hk, h, j, hj, h1, h2 => by
    simp only [ph_cc] at h
    rw [if_neg (by omega)] at h
    by_cases z : ph_isbad nf ni pl n c i = true
    · rw [if_pos z] at h; omega
    · rw [if_neg z] at h
      rcases Nat.lt_or_ge i j with y | y
      · exact ph_cc_ok (ph_St_s hi) (by have := ph_wd_b (c i); omega) h j hj (ph_St_gap hi hj y) h2
      · have : j = i := by omega
        subst this; exact Bool.eq_false_iff.mpr z
theorem ph_CO_of {B : Nat → Nat} {f : Nat} (hs : ph_sz B f ≤ 40) (h : ph_ccr B f = (0, 0)) : ph_CO (ph_nf B) (B 1) (B (ph_hd B f) + B (ph_hd B f + 1)) (ph_sz B f) (ph_cdo B f) := by
  unfold ph_ccr at h
  intro j hj hn
  by_cases z : ph_cc (ph_nf B) (B 1) (B (ph_hd B f) + B (ph_hd B f + 1)) (ph_sz B f) (ph_cdo B f) 41 0 = ph_sz B f
  · exact ph_cc_ok (ph_St_0 _) (by omega) z j hj (by omega) hn
  · rw [if_neg z] at h; simp at h
theorem ph_isbad_f {nf ni pl n i : Nat} {c : Nat → Nat} (h : ph_isbad nf ni pl n c i = false) : c i ≤ 16 ∧ i + ph_wd (c i) ≤ n ∧ (ph_wd (c i) = 2 → c (i + 1) < ph_lim nf ni pl (c i)) := by
  unfold ph_isbad at h
  simp only [Bool.or_eq_false_iff, Bool.and_eq_false_iff, decide_eq_false_iff_not] at h
  obtain ⟨⟨h1, h2⟩, h3⟩ := h
  refine ⟨by omega, by omega, fun e => ?_⟩
  rcases h3 with z | z
  · exact absurd e z
  · omega
/-- where a jump goes -/
def ph_tg (c : Nat → Nat) (i : Nat) : Int := (i : Int) + 2 + ph_sb (c (i + 1))
def ph_isj (op : Nat) : Bool := decide (op = 10) || decide (op = 11)
def ph_tok (n : Nat) (c : Nat → Nat) (i : Nat) : Prop := ∃ t, ph_St c t ∧ t < n ∧ ph_tg c i = (t : Int)
/-- the first jump that goes wrong, or n -/
noncomputable def ph_jj (n : Nat) (c : Nat → Nat) : Nat → Nat → Nat
  | 0, _ => n
  | k + 1, i => if n ≤ i then n else if ph_isj (c i) = true ∧ ph_b (ph_tok n c i) = 0 then i else ph_jj n c k (i + ph_wd (c i))
noncomputable def ph_jjr (B : Nat → Nat) (f : Nat) : Nat × Nat :=
  if ph_jj (ph_sz B f) (ph_cdo B f) 41 0 = ph_sz B f then (0, 0) else (5, ph_hd B f + 3 + ph_jj (ph_sz B f) (ph_cdo B f) 41 0)
def ph_JO (n : Nat) (c : Nat → Nat) : Prop := ∀ i, ph_St c i → i < n → ph_isj (c i) = true → ph_tok n c i
theorem ph_jj_ok {n : Nat} {c : Nat → Nat} : ∀ {k i : Nat}, ph_St c i → n < i + k → ph_jj n c k i = n → ∀ j, ph_St c j → i ≤ j → j < n → ph_isj (c j) = true → ph_tok n c j
  | 0, i, _, hk, _, j, _, h1, h2, _ => by omega
  | k + 1, i, hi, hk, h, j, hj, h1, h2, hJ => by
    simp only [ph_jj] at h
    rw [if_neg (by omega)] at h
    by_cases z : ph_isj (c i) = true ∧ ph_b (ph_tok n c i) = 0
    · rw [if_pos z] at h; omega
    · rw [if_neg z] at h
      rcases Nat.lt_or_ge i j with y | y
      · exact ph_jj_ok (ph_St_s hi) (by have := ph_wd_b (c i); omega) h j hj (ph_St_gap hi hj y) h2 hJ
      · have : j = i := by omega
        subst this
        exact Classical.byContradiction fun q => z ⟨hJ, ph_b_f q⟩
theorem ph_JO_of {B : Nat → Nat} {f : Nat} (hs : ph_sz B f ≤ 40) (h : ph_jjr B f = (0, 0)) : ph_JO (ph_sz B f) (ph_cdo B f) := by
  unfold ph_jjr at h
  intro j hj hn hJ
  by_cases z : ph_jj (ph_sz B f) (ph_cdo B f) 41 0 = ph_sz B f
  · exact ph_jj_ok (ph_St_0 _) (by omega) z j hj (by omega) hn hJ
  · rw [if_neg z] at h; simp at h
end
section
/-! ===== the component's reader ===== -/
def ph_BX (B : Nat → Nat) (a : Nat → Int32) : Prop := ∀ j, j < 120 → a j = nI (B j) ∧ B j < 256
def ph_FA (B : Nat → Nat) (m : Nat) (pa lo fr sz : Nat → Int32) : Prop :=
  ∀ g, g < m → pa g = nI (B (ph_hd B g)) ∧ lo g = nI (B (ph_hd B g + 1)) ∧ fr g = nI (ph_hd B g + 3) ∧ sz g = nI (B (ph_hd B g + 2))
def ph_pth (B : Nat → Nat) (i : Nat) : Nat := 64 * B (2 + 3 * i) + 8 * B (3 + 3 * i) + B (4 + 3 * i)
def ph_IA (B : Nat → Nat) (m : Nat) (pt pta : Nat → Int32) : Prop := ∀ i, i < m → pt i = nI (ph_pth B i) ∧ pta i = nI (2 + 3 * i)
section
variable {f_nodes f_rules f_version f_count f_at f_place f_number f_imports f_functions f_fault f_frames f_box f_pc f_status f_result : Int32} {f_waiting f_memory : Int64} {a_child a_verdict a_ruleNode a_before a_nodesBefore a_bytes a_path a_pathAt a_params a_locals a_from a_size a_high a_loaded a_emitted a_entry a_pParams a_pFunctions a_pImports a_pPath a_judged a_fine a_newAt a_plugin a_quota a_statics a_slot a_back a_entries : Nat → Int32}
variable {B : Nat → Nat} {L : Nat}
theorem ph_xnext {post : Int32 → SX → Prop} {pos lo hi : Nat} (hL : L ≤ 120) (hB : ph_BX B a_bytes) (hp : pos < 2000) (hlo : lo < 2000) (hhi : hi < 2000)
    (kb : ph_rd B L pos lo hi = ph_er L pos → post (-1) (f_nodes, f_rules, f_version, nI L, nI pos, f_place, f_number, f_imports, f_functions, f_waiting, f_fault, f_frames, f_box, f_pc, f_status, f_result, f_memory, a_child, a_verdict, a_ruleNode, a_before, a_nodesBefore, a_bytes, a_path, a_pathAt, a_params, a_locals, a_from, a_size, a_high, a_loaded, a_emitted, a_entry, a_pParams, a_pFunctions, a_pImports, a_pPath, a_judged, a_fine, a_newAt, a_plugin, a_quota, a_statics, a_slot, a_back, a_entries))
    (kg : ph_rd B L pos lo hi = (0, 0) → pos < L → lo ≤ B pos → B pos ≤ hi → post (nI (B pos)) (f_nodes, f_rules, f_version, nI L, nI (pos + 1), f_place, f_number, f_imports, f_functions, f_waiting, f_fault, f_frames, f_box, f_pc, f_status, f_result, f_memory, a_child, a_verdict, a_ruleNode, a_before, a_nodesBefore, a_bytes, a_path, a_pathAt, a_params, a_locals, a_from, a_size, a_high, a_loaded, a_emitted, a_entry, a_pParams, a_pFunctions, a_pImports, a_pPath, a_judged, a_fine, a_newAt, a_plugin, a_quota, a_statics, a_slot, a_back, a_entries)) :
    wpX_next post (f_nodes, f_rules, f_version, nI L, nI pos, f_place, f_number, f_imports, f_functions, f_waiting, f_fault, f_frames, f_box, f_pc, f_status, f_result, f_memory, a_child, a_verdict, a_ruleNode, a_before, a_nodesBefore, a_bytes, a_path, a_pathAt, a_params, a_locals, a_from, a_size, a_high, a_loaded, a_emitted, a_entry, a_pParams, a_pFunctions, a_pImports, a_pPath, a_judged, a_fine, a_newAt, a_plugin, a_quota, a_statics, a_slot, a_back, a_entries) (nI lo) (nI hi) := by
  unfold wpX_next
  refine pk_le L pos (fun h => kb (by unfold ph_rd ph_er; rw [if_pos h, if_pos h])) (fun h => ⟨vp_in_nI (by omega) (by omega), ?_⟩)
  obtain ⟨e, hb⟩ := hB pos (by omega)
  rw [nI_clamp (by omega), e]
  have bad : B pos < lo ∨ hi < B pos → ph_rd B L pos lo hi = ph_er L pos := fun z => by unfold ph_rd ph_er; rw [if_neg (by omega), if_pos z, if_neg (by omega)]
  refine pk_lt (B pos) lo (fun h1 => kb (bad (Or.inl h1))) (fun h1 => ⟨vp_in_nI (by omega) (by omega), ?_⟩)
  exact pk_le (B pos) hi (fun h2 => nm_r (nI_1 pos) ⟨vp_in_nI (by omega) (by omega), kg (by unfold ph_rd; rw [if_neg (by omega), if_neg (by omega)]) h h1 h2⟩) (fun h2 => kb (bad (Or.inr h2)))
theorem ph_x269b {post : Int32 → SX → Prop} {pos : Nat} (hL : L ≤ 120) (hp : pos < 2000) (k : post (nI (ph_er L pos).1) (f_nodes, f_rules, f_version, nI L, nI pos, nI (ph_er L pos).2, f_number, f_imports, f_functions, f_waiting, f_fault, f_frames, f_box, f_pc, f_status, f_result, f_memory, a_child, a_verdict, a_ruleNode, a_before, a_nodesBefore, a_bytes, a_path, a_pathAt, a_params, a_locals, a_from, a_size, a_high, a_loaded, a_emitted, a_entry, a_pParams, a_pFunctions, a_pImports, a_pPath, a_judged, a_fine, a_newAt, a_plugin, a_quota, a_statics, a_slot, a_back, a_entries)) :
    wX_readAll_269 post 0 f_nodes f_rules f_version (nI L) (nI pos) f_place f_number f_imports f_functions f_waiting f_fault f_frames f_box f_pc f_status f_result f_memory a_child a_verdict a_ruleNode a_before a_nodesBefore a_bytes a_path a_pathAt a_params a_locals a_from a_size a_high a_loaded a_emitted a_entry a_pParams a_pFunctions a_pImports a_pPath a_judged a_fine a_newAt a_plugin a_quota a_statics a_slot a_back a_entries := by
  unfold wX_readAll_269
  refine br_t rfl (pk_lt pos L (fun h => ?_) (fun h => ?_))
  · have e : ph_er L pos = (2, pos) := by unfold ph_er; rw [if_neg (by omega)]
    rw [e] at k; exact k
  · have e : ph_er L pos = (1, L) := by unfold ph_er; rw [if_pos h]
    rw [e] at k; exact k
theorem ph_x102b {post : Int32 → SX → Prop} {x3 : Int32} {n : Nat} (k : wX_readAll_269 post 0 f_nodes f_rules f_version f_count f_at f_place f_number f_imports f_functions f_waiting f_fault f_frames f_box f_pc f_status f_result f_memory a_child a_verdict a_ruleNode a_before a_nodesBefore a_bytes a_path a_pathAt a_params a_locals a_from a_size a_high a_loaded a_emitted a_entry a_pParams a_pFunctions a_pImports a_pPath a_judged a_fine a_newAt a_plugin a_quota a_statics a_slot a_back a_entries) : wX_readAll_102 post x3 (n + 1) 0 f_nodes f_rules f_version f_count f_at f_place f_number f_imports f_functions f_waiting f_fault f_frames f_box f_pc f_status f_result f_memory a_child a_verdict a_ruleNode a_before a_nodesBefore a_bytes a_path a_pathAt a_params a_locals a_from a_size a_high a_loaded a_emitted a_entry a_pParams a_pFunctions a_pImports a_pPath a_judged a_fine a_newAt a_plugin a_quota a_statics a_slot a_back a_entries := by
  rw [wX_readAll_102]; exact br_t rfl k
theorem ph_x77b {post : Int32 → SX → Prop} (k : wX_readAll_269 post 0 f_nodes f_rules f_version f_count f_at f_place f_number f_imports f_functions f_waiting f_fault f_frames f_box f_pc f_status f_result f_memory a_child a_verdict a_ruleNode a_before a_nodesBefore a_bytes a_path a_pathAt a_params a_locals a_from a_size a_high a_loaded a_emitted a_entry a_pParams a_pFunctions a_pImports a_pPath a_judged a_fine a_newAt a_plugin a_quota a_statics a_slot a_back a_entries) : wX_readAll_77 post 0 f_nodes f_rules f_version f_count f_at f_place f_number f_imports f_functions f_waiting f_fault f_frames f_box f_pc f_status f_result f_memory a_child a_verdict a_ruleNode a_before a_nodesBefore a_bytes a_path a_pathAt a_params a_locals a_from a_size a_high a_loaded a_emitted a_entry a_pParams a_pFunctions a_pImports a_pPath a_judged a_fine a_newAt a_plugin a_quota a_statics a_slot a_back a_entries := by
  unfold wX_readAll_77
  refine br_t rfl ?_
  unfold wX_readAll_91
  exact br_t (by decide) ⟨1, ph_x102b k⟩
theorem ph_x57b {post : Int32 → SX → Prop} {x2 : Int32} {n : Nat} (k : wX_readAll_269 post 0 f_nodes f_rules f_version f_count f_at f_place f_number f_imports f_functions f_waiting f_fault f_frames f_box f_pc f_status f_result f_memory a_child a_verdict a_ruleNode a_before a_nodesBefore a_bytes a_path a_pathAt a_params a_locals a_from a_size a_high a_loaded a_emitted a_entry a_pParams a_pFunctions a_pImports a_pPath a_judged a_fine a_newAt a_plugin a_quota a_statics a_slot a_back a_entries) : wX_readAll_57 post x2 (n + 1) 0 f_nodes f_rules f_version f_count f_at f_place f_number f_imports f_functions f_waiting f_fault f_frames f_box f_pc f_status f_result f_memory a_child a_verdict a_ruleNode a_before a_nodesBefore a_bytes a_path a_pathAt a_params a_locals a_from a_size a_high a_loaded a_emitted a_entry a_pParams a_pFunctions a_pImports a_pPath a_judged a_fine a_newAt a_plugin a_quota a_statics a_slot a_back a_entries := by
  rw [wX_readAll_57]; exact br_t rfl (ph_x77b k)
theorem ph_x57b' {post : Int32 → SX → Prop} {x2 : Int32} {n : Nat} (k : wX_readAll_77 post 0 f_nodes f_rules f_version f_count f_at f_place f_number f_imports f_functions f_waiting f_fault f_frames f_box f_pc f_status f_result f_memory a_child a_verdict a_ruleNode a_before a_nodesBefore a_bytes a_path a_pathAt a_params a_locals a_from a_size a_high a_loaded a_emitted a_entry a_pParams a_pFunctions a_pImports a_pPath a_judged a_fine a_newAt a_plugin a_quota a_statics a_slot a_back a_entries) : wX_readAll_57 post x2 (n + 1) 0 f_nodes f_rules f_version f_count f_at f_place f_number f_imports f_functions f_waiting f_fault f_frames f_box f_pc f_status f_result f_memory a_child a_verdict a_ruleNode a_before a_nodesBefore a_bytes a_path a_pathAt a_params a_locals a_from a_size a_high a_loaded a_emitted a_entry a_pParams a_pFunctions a_pImports a_pPath a_judged a_fine a_newAt a_plugin a_quota a_statics a_slot a_back a_entries := by
  rw [wX_readAll_57]; exact br_t rfl k
theorem ph_x46b {post : Int32 → SX → Prop} (k : wX_readAll_269 post 0 f_nodes f_rules f_version f_count f_at f_place f_number f_imports f_functions f_waiting f_fault f_frames f_box f_pc f_status f_result f_memory a_child a_verdict a_ruleNode a_before a_nodesBefore a_bytes a_path a_pathAt a_params a_locals a_from a_size a_high a_loaded a_emitted a_entry a_pParams a_pFunctions a_pImports a_pPath a_judged a_fine a_newAt a_plugin a_quota a_statics a_slot a_back a_entries) : wX_readAll_46 post (-1) f_nodes f_rules f_version f_count f_at f_place f_number f_imports f_functions f_waiting f_fault f_frames f_box f_pc f_status f_result f_memory a_child a_verdict a_ruleNode a_before a_nodesBefore a_bytes a_path a_pathAt a_params a_locals a_from a_size a_high a_loaded a_emitted a_entry a_pParams a_pFunctions a_pImports a_pPath a_judged a_fine a_newAt a_plugin a_quota a_statics a_slot a_back a_entries := by
  unfold wX_readAll_46
  exact br_t (by decide) ⟨1, ph_x57b k⟩
theorem ph_x206b {post : Int32 → SX → Prop} {J : Int32 → Int32 → Int32 → Int32 → Int32 → Int32 → Int32 → Int32 → Int32 → Int32 → Int64 → Int32 → Int32 → Int32 → Int32 → Int32 → Int32 → Int64 → (Nat → Int32) → (Nat → Int32) → (Nat → Int32) → (Nat → Int32) → (Nat → Int32) → (Nat → Int32) → (Nat → Int32) → (Nat → Int32) → (Nat → Int32) → (Nat → Int32) → (Nat → Int32) → (Nat → Int32) → (Nat → Int32) → (Nat → Int32) → (Nat → Int32) → (Nat → Int32) → (Nat → Int32) → (Nat → Int32) → (Nat → Int32) → (Nat → Int32) → (Nat → Int32) → (Nat → Int32) → (Nat → Int32) → (Nat → Int32) → (Nat → Int32) → (Nat → Int32) → (Nat → Int32) → (Nat → Int32) → (Nat → Int32) → Prop}
    {x3 : Int32} {f : Nat} (hf : f < 4) (k : ∀ z, J 0 f_nodes f_rules f_version f_count f_at f_place f_number f_imports f_functions f_waiting f_fault f_frames f_box f_pc f_status f_result f_memory a_child a_verdict a_ruleNode a_before a_nodesBefore a_bytes a_path a_pathAt a_params a_locals z a_size a_high a_loaded a_emitted a_entry a_pParams a_pFunctions a_pImports a_pPath a_judged a_fine a_newAt a_plugin a_quota a_statics a_slot a_back a_entries) : wX_readAll_206 post J x3 (nI f) 0 f_nodes f_rules f_version f_count f_at f_place f_number f_imports f_functions f_waiting f_fault f_frames f_box f_pc f_status f_result f_memory a_child a_verdict a_ruleNode a_before a_nodesBefore a_bytes a_path a_pathAt a_params a_locals a_from a_size a_high a_loaded a_emitted a_entry a_pParams a_pFunctions a_pImports a_pPath a_judged a_fine a_newAt a_plugin a_quota a_statics a_slot a_back a_entries := by
  unfold wX_readAll_206
  exact ⟨vp_in_nI hf (by omega), nm_e (br_t rfl (k _))⟩
theorem ph_x190b {post : Int32 → SX → Prop} {J : Int32 → Int32 → Int32 → Int32 → Int32 → Int32 → Int32 → Int32 → Int32 → Int32 → Int64 → Int32 → Int32 → Int32 → Int32 → Int32 → Int32 → Int64 → (Nat → Int32) → (Nat → Int32) → (Nat → Int32) → (Nat → Int32) → (Nat → Int32) → (Nat → Int32) → (Nat → Int32) → (Nat → Int32) → (Nat → Int32) → (Nat → Int32) → (Nat → Int32) → (Nat → Int32) → (Nat → Int32) → (Nat → Int32) → (Nat → Int32) → (Nat → Int32) → (Nat → Int32) → (Nat → Int32) → (Nat → Int32) → (Nat → Int32) → (Nat → Int32) → (Nat → Int32) → (Nat → Int32) → (Nat → Int32) → (Nat → Int32) → (Nat → Int32) → (Nat → Int32) → (Nat → Int32) → (Nat → Int32) → Prop}
    {x3 : Int32} {f : Nat} (hf : f < 4) (k : ∀ z y, J 0 f_nodes f_rules f_version f_count f_at f_place f_number f_imports f_functions f_waiting f_fault f_frames f_box f_pc f_status f_result f_memory a_child a_verdict a_ruleNode a_before a_nodesBefore a_bytes a_path a_pathAt a_params a_locals z y a_high a_loaded a_emitted a_entry a_pParams a_pFunctions a_pImports a_pPath a_judged a_fine a_newAt a_plugin a_quota a_statics a_slot a_back a_entries) : wX_readAll_190 post J x3 (nI f) (-1) (nI f) f_nodes f_rules f_version f_count f_at f_place f_number f_imports f_functions f_waiting f_fault f_frames f_box f_pc f_status f_result f_memory a_child a_verdict a_ruleNode a_before a_nodesBefore a_bytes a_path a_pathAt a_params a_locals a_from a_size a_high a_loaded a_emitted a_entry a_pParams a_pFunctions a_pImports a_pPath a_judged a_fine a_newAt a_plugin a_quota a_statics a_slot a_back a_entries := by
  unfold wX_readAll_190
  refine ⟨vp_in_nI hf (by omega), nm_r (e' := upd a_size f (-1)) (by rw [nI_clamp (by omega), ph_m1b]) ⟨vp_in_nI hf (by omega), ?_⟩⟩
  rw [nI_clamp (by omega), pk_us]
  exact br_t (by decide) (ph_x206b hf fun z => k z _)
theorem ph_x161b {post : Int32 → SX → Prop} {J : Int32 → Int32 → Int32 → Int32 → Int32 → Int32 → Int32 → Int32 → Int32 → Int32 → Int64 → Int32 → Int32 → Int32 → Int32 → Int32 → Int32 → Int64 → (Nat → Int32) → (Nat → Int32) → (Nat → Int32) → (Nat → Int32) → (Nat → Int32) → (Nat → Int32) → (Nat → Int32) → (Nat → Int32) → (Nat → Int32) → (Nat → Int32) → (Nat → Int32) → (Nat → Int32) → (Nat → Int32) → (Nat → Int32) → (Nat → Int32) → (Nat → Int32) → (Nat → Int32) → (Nat → Int32) → (Nat → Int32) → (Nat → Int32) → (Nat → Int32) → (Nat → Int32) → (Nat → Int32) → (Nat → Int32) → (Nat → Int32) → (Nat → Int32) → (Nat → Int32) → (Nat → Int32) → (Nat → Int32) → Prop}
    {x3 : Int32} {f : Nat} (hf : f < 4) (k : ∀ z y x, J 0 f_nodes f_rules f_version f_count f_at f_place f_number f_imports f_functions f_waiting f_fault f_frames f_box f_pc f_status f_result f_memory a_child a_verdict a_ruleNode a_before a_nodesBefore a_bytes a_path a_pathAt a_params x z y a_high a_loaded a_emitted a_entry a_pParams a_pFunctions a_pImports a_pPath a_judged a_fine a_newAt a_plugin a_quota a_statics a_slot a_back a_entries) : wX_readAll_161 post J x3 (nI f) (-1) (nI f) f_nodes f_rules f_version f_count f_at f_place f_number f_imports f_functions f_waiting f_fault f_frames f_box f_pc f_status f_result f_memory a_child a_verdict a_ruleNode a_before a_nodesBefore a_bytes a_path a_pathAt a_params a_locals a_from a_size a_high a_loaded a_emitted a_entry a_pParams a_pFunctions a_pImports a_pPath a_judged a_fine a_newAt a_plugin a_quota a_statics a_slot a_back a_entries := by
  unfold wX_readAll_161
  refine ⟨vp_in_nI hf (by omega), nm_r (e' := upd a_locals f (-1)) (by rw [nI_clamp (by omega), ph_m1b]) ⟨vp_in_nI hf (by omega), ?_⟩⟩
  rw [nI_clamp (by omega), pk_us]
  exact br_f (by decide) (ph_x190b hf fun z y => k z y _)
theorem ph_FA_s {f : Nat} {pa lo fr sz : Nat → Int32} (h : ph_FA B f pa lo fr sz) : ph_FA B (f + 1) (upd pa f (nI (B (ph_hd B f)))) (upd lo f (nI (B (ph_hd B f + 1)))) (upd fr f (nI (ph_hd B f + 3))) (upd sz f (nI (B (ph_hd B f + 2)))) := by
  intro g hg
  rcases Nat.lt_or_ge g f with z | z
  · rw [pk_un (by omega), pk_un (by omega), pk_un (by omega), pk_un (by omega)]; exact h g z
  · have : g = f := by omega
    subst this; rw [pk_us, pk_us, pk_us, pk_us]; exact ⟨rfl, rfl, rfl, rfl⟩
theorem ph_x102 {post : Int32 → SX → Prop} {m : Nat} (hL : L ≤ 120) (hB : ph_BX B a_bytes) (hm : m ≤ 4)
    (kb : ∀ c pl (at' fu : Int32) (pa lo fr sz : Nat → Int32), ph_fm B L = (c, pl) → c ≠ 0 → post (nI c) (f_nodes, f_rules, f_version, nI L, at', nI pl, f_number, f_imports, fu, f_waiting, f_fault, f_frames, f_box, f_pc, f_status, f_result, f_memory, a_child, a_verdict, a_ruleNode, a_before, a_nodesBefore, a_bytes, a_path, a_pathAt, pa, lo, fr, sz, a_high, a_loaded, a_emitted, a_entry, a_pParams, a_pFunctions, a_pImports, a_pPath, a_judged, a_fine, a_newAt, a_plugin, a_quota, a_statics, a_slot, a_back, a_entries))
    (kg : ∀ (at' : Int32) (pa lo fr sz : Nat → Int32), ph_fm B L = (0, 0) → ph_FA B m pa lo fr sz → post 0 (f_nodes, f_rules, f_version, nI L, at', f_place, f_number, f_imports, nI m, f_waiting, f_fault, f_frames, f_box, f_pc, f_status, f_result, f_memory, a_child, a_verdict, a_ruleNode, a_before, a_nodesBefore, a_bytes, a_path, a_pathAt, pa, lo, fr, sz, a_high, a_loaded, a_emitted, a_entry, a_pParams, a_pFunctions, a_pImports, a_pPath, a_judged, a_fine, a_newAt, a_plugin, a_quota, a_statics, a_slot, a_back, a_entries)) :
    ∀ d f (pa lo fr sz : Nat → Int32), f + d = m → ph_fm B L = ph_fu B L d (ph_hd B f) → ph_hd B f ≤ L → ph_FA B f pa lo fr sz →
      wX_readAll_102 post (nI m) (d + 1) 1 f_nodes f_rules f_version (nI L) (nI (ph_hd B f)) f_place f_number f_imports (nI f) f_waiting f_fault f_frames f_box f_pc f_status f_result f_memory a_child a_verdict a_ruleNode a_before a_nodesBefore a_bytes a_path a_pathAt pa lo fr sz a_high a_loaded a_emitted a_entry a_pParams a_pFunctions a_pImports a_pPath a_judged a_fine a_newAt a_plugin a_quota a_statics a_slot a_back a_entries := by
  intro d
  induction d with
  | zero =>
    intro f pa lo fr sz hf E hp hFA
    have e : f = m := by omega
    subst e
    rw [wX_readAll_102]
    refine br_f (by decide) (br_t (nI_le (Nat.le_refl _) (by omega)) ?_)
    unfold wX_readAll_269
    simp only [ph_fu] at E
    refine br_f (by decide) (pk_le L (ph_hd B f) (fun h => ?_) (fun h => ?_))
    · rw [if_pos (by omega)] at E
      exact kg _ _ _ _ _ E hFA
    · rw [if_neg (by omega)] at E
      exact kb 3 _ _ _ _ _ _ _ E (by decide)
  | succ d ih =>
    intro f pa lo fr sz hf E hp hFA
    have hf4 : f < 4 := by omega
    simp only [ph_fu] at E
    have bad : ∀ pos (fu : Int32) (pa lo fr sz : Nat → Int32), pos < 2000 → ph_fm B L = ph_er L pos → wX_readAll_102 post (nI m) (d + 1) 0 f_nodes f_rules f_version (nI L) (nI pos) f_place f_number f_imports fu f_waiting f_fault f_frames f_box f_pc f_status f_result f_memory a_child a_verdict a_ruleNode a_before a_nodesBefore a_bytes a_path a_pathAt pa lo fr sz a_high a_loaded a_emitted a_entry a_pParams a_pFunctions a_pImports a_pPath a_judged a_fine a_newAt a_plugin a_quota a_statics a_slot a_back a_entries :=
      fun pos fu pa lo fr sz hpos e => ph_x102b (ph_x269b hL hpos (kb _ _ _ _ _ _ _ _ e (ph_er_ne L pos)))
    rw [wX_readAll_102]
    refine br_f (by decide) (br_f (nI_ge (by omega) (by omega)) ?_)
    refine ph_xnext (lo := 0) (hi := 2) hL hB (by omega) (by omega) (by omega) (fun e1 => ?_) (fun e1 p1 q1 r1 => ?_)
    · rw [ph_th_e e1] at E
      refine ⟨vp_in_nI hf4 (by omega), nm_r (e' := upd pa f (-1)) (by rw [nI_clamp (by omega), ph_m1c, ph_m1b]) ⟨vp_in_nI hf4 (by omega), ?_⟩⟩
      rw [nI_clamp (by omega), pk_us]
      exact br_f (by decide) (ph_x161b hf4 fun z y x => bad _ _ _ _ _ _ (by omega) E)
    · rw [ph_th_0 e1] at E
      refine ⟨vp_in_nI hf4 (by omega), nm_r (e' := upd pa f (nI (B (ph_hd B f)))) (by rw [nI_clamp (by omega), ph_nbb (by omega)]) ⟨vp_in_nI hf4 (by omega), ?_⟩⟩
      rw [nI_clamp (by omega), pk_us]
      refine br_t (nI_pos' (by omega)) ?_
      refine ph_xnext (lo := 0) (hi := 3) hL hB (by omega) (by omega) (by omega) (fun e2 => ?_) (fun e2 p2 q2 r2 => ?_)
      · rw [ph_th_e e2] at E
        rw [ph_m1c]
        exact ph_x161b hf4 fun z y x => bad _ _ _ _ _ _ (by omega) E
      · rw [ph_th_0 e2] at E
        unfold wX_readAll_161
        refine ⟨vp_in_nI hf4 (by omega), nm_r (e' := upd lo f (nI (B (ph_hd B f + 1)))) (by rw [nI_clamp (by omega), ph_nbb (by omega)]) ⟨vp_in_nI hf4 (by omega), ?_⟩⟩
        rw [nI_clamp (by omega), pk_us]
        refine br_t (nI_pos' (by omega)) ?_
        refine ph_xnext (lo := 1) (hi := 40) hL hB (by omega) (by omega) (by omega) (fun e3 => ?_) (fun e3 p3 q3 r3 => ?_)
        · rw [show ph_hd B f + 1 + 1 = ph_hd B f + 2 from rfl] at e3
          rw [ph_th_e e3] at E
          rw [ph_m1c]
          exact ph_x190b hf4 fun z y => bad _ _ _ _ _ _ (by omega) E
        · rw [show ph_hd B f + 1 + 1 = ph_hd B f + 2 from rfl] at e3 p3 q3 r3 ⊢
          rw [ph_th_0 e3] at E
          unfold wX_readAll_190
          refine ⟨vp_in_nI hf4 (by omega), nm_r (e' := upd sz f (nI (B (ph_hd B f + 2)))) (by rw [nI_clamp (by omega), ph_nbb (by omega)]) ⟨vp_in_nI hf4 (by omega), ?_⟩⟩
          rw [nI_clamp (by omega), pk_us]
          refine br_f (nI_pos (by omega)) ?_
          unfold wX_readAll_206
          refine ⟨vp_in_nI hf4 (by omega), nm_r (e' := upd fr f (nI (ph_hd B f + 3))) (by rw [nI_clamp (by omega)]; rw [show ph_hd B f + 2 + 1 = ph_hd B f + 3 from rfl]; rw [ph_nbb (by omega)]) ?_⟩
          refine br_f (by decide) (nm_r (nI_1 f) ⟨vp_in_nI hf4 (by omega), ?_⟩)
          rw [nI_clamp (by omega), pk_us]
          refine nm_r (e' := nI (ph_hd B (f + 1))) (by rw [nI_add]; exact congrArg nI (by simp only [ph_hd])) ?_
          refine pk_lt L (ph_hd B (f + 1)) (fun h => ?_) (fun h => ?_) rfl rfl (by omega) (by simp only [ph_hd]; omega)
          · rw [if_pos (by simp only [ph_hd] at h; exact h)] at E
            exact bad _ _ _ _ _ _ (by simp only [ph_hd]; omega) (by rw [E]; unfold ph_er; rw [if_pos (by omega)])
          · rw [if_neg (by simp only [ph_hd] at h; omega)] at E
            exact ih (f + 1) _ _ _ _ (by omega) E (by omega) (ph_FA_s hFA)
theorem ph_sq_bad {g : Nat → Nat × Nat} {pos : Nat} : ∀ {k d i : Nat}, k < d → (∀ j, j < k → g (i + j) = (0, 0)) → g (i + k) = ph_er L pos → ph_sq g d i = ph_er L pos
  | k, 0, _, h, _, _ => by omega
  | 0, d + 1, i, _, _, e => by simp only [ph_sq]; exact ph_th_e e
  | k + 1, d + 1, i, h, hz, e => by
    simp only [ph_sq]
    rw [ph_th_0 (show g i = (0, 0) from hz 0 (by omega))]
    exact ph_sq_bad (k := k) (by omega) (fun j hj => by rw [show i + 1 + j = i + (j + 1) by omega]; exact hz (j + 1) (by omega)) (by rw [show i + 1 + k = i + (k + 1) by omega]; exact e)
theorem ph_sq_skip {g : Nat → Nat × Nat} : ∀ {k d i : Nat}, (∀ j, j < k → g (i + j) = (0, 0)) → ph_sq g (d + k) i = ph_sq g d (i + k)
  | 0, d, i, _ => rfl
  | k + 1, d, i, hz => by
    rw [show d + (k + 1) = (d + k) + 1 by omega]
    simp only [ph_sq]
    rw [ph_th_0 (show g i = (0, 0) from hz 0 (by omega)), ph_sq_skip (k := k) (fun j hj => by rw [show i + 1 + j = i + (j + 1) by omega]; exact hz (j + 1) (by omega)), show i + 1 + k = i + (k + 1) by omega]
theorem ph_xrImp {post : Int32 → SX → Prop} {im : Nat} (hL : L ≤ 120) (hB : ph_BX B a_bytes) (him : im < 4)
    (kb : ∀ k (z : Nat → Int32), k < 3 → (∀ j, j < k → ph_ri B L (3 * im + j) = (0, 0)) → ph_ri B L (3 * im + k) = ph_er L (2 + (3 * im + k)) → post 0 (f_nodes, f_rules, f_version, nI L, nI (2 + (3 * im + k)), f_place, f_number, nI im, f_functions, f_waiting, f_fault, f_frames, f_box, f_pc, f_status, f_result, f_memory, a_child, a_verdict, a_ruleNode, a_before, a_nodesBefore, a_bytes, a_path, z, a_params, a_locals, a_from, a_size, a_high, a_loaded, a_emitted, a_entry, a_pParams, a_pFunctions, a_pImports, a_pPath, a_judged, a_fine, a_newAt, a_plugin, a_quota, a_statics, a_slot, a_back, a_entries))
    (kg : (∀ j, j < 3 → ph_ri B L (3 * im + j) = (0, 0)) → post 1 (f_nodes, f_rules, f_version, nI L, nI (2 + 3 * (im + 1)), f_place, f_number, nI (im + 1), f_functions, f_waiting, f_fault, f_frames, f_box, f_pc, f_status, f_result, f_memory, a_child, a_verdict, a_ruleNode, a_before, a_nodesBefore, a_bytes, upd a_path im (nI (ph_pth B im)), upd a_pathAt im (nI (2 + 3 * im)), a_params, a_locals, a_from, a_size, a_high, a_loaded, a_emitted, a_entry, a_pParams, a_pFunctions, a_pImports, a_pPath, a_judged, a_fine, a_newAt, a_plugin, a_quota, a_statics, a_slot, a_back, a_entries)) :
    wpX_readImport post (f_nodes, f_rules, f_version, nI L, nI (2 + 3 * im), f_place, f_number, nI im, f_functions, f_waiting, f_fault, f_frames, f_box, f_pc, f_status, f_result, f_memory, a_child, a_verdict, a_ruleNode, a_before, a_nodesBefore, a_bytes, a_path, a_pathAt, a_params, a_locals, a_from, a_size, a_high, a_loaded, a_emitted, a_entry, a_pParams, a_pFunctions, a_pImports, a_pPath, a_judged, a_fine, a_newAt, a_plugin, a_quota, a_statics, a_slot, a_back, a_entries) := by
  unfold wpX_readImport
  refine ⟨vp_in_nI him (by omega), nm_r (e' := upd a_pathAt im (nI (2 + 3 * im))) (by rw [nI_clamp (by omega), ph_nbb (by omega)]) ⟨4, ?_⟩⟩
  rw [wX_readImport_18]
  refine br_f (by decide) ?_
  refine ph_xnext (lo := 0) (hi := 7) hL hB (by omega) (by omega) (by omega) (fun e1 => br_f (by decide) ?_) (fun e1 p1 q1 r1 => br_t (nI_pos' (by omega)) ?_)
  · exact kb 0 _ (by omega) (fun j hj => by omega) e1
  have z0 : ph_ri B L (3 * im + 0) = (0, 0) := e1
  refine nm_r (e' := nI (B (2 + 3 * im))) (by show (nI 0 <<< _) ||| _ = _; rw [ph_p3 0 (by omega) _ (by omega)]; exact congrArg nI (by omega)) (nm_r (show (0 : Int32) + 1 = 1 from rfl) ?_)
  rw [wX_readImport_18]
  refine br_f (by decide) ?_
  rw [show 2 + 3 * im + 1 = 2 + (3 * im + 1) by omega]
  refine ph_xnext (lo := 0) (hi := 7) hL hB (by omega) (by omega) (by omega) (fun e2 => br_f (by decide) ?_) (fun e2 p2 q2 r2 => br_t (nI_pos' (by omega)) ?_)
  · refine kb 1 _ (by omega) (fun j hj => ?_) e2
    have : j = 0 := by omega
    subst this; exact z0
  have z1 : ph_ri B L (3 * im + 1) = (0, 0) := e2
  refine nm_r (e' := nI (8 * B (2 + 3 * im) + B (3 + 3 * im))) (by rw [ph_p3 _ (by omega) _ (by omega), show 2 + (3 * im + 1) = 3 + 3 * im by omega]) (nm_r (show (1 : Int32) + 1 = 2 from rfl) ?_)
  rw [wX_readImport_18]
  refine br_f (by decide) ?_
  rw [show 2 + (3 * im + 1) + 1 = 2 + (3 * im + 2) by omega]
  refine ph_xnext (lo := 0) (hi := 7) hL hB (by omega) (by omega) (by omega) (fun e3 => br_f (by decide) ?_) (fun e3 p3 q3 r3 => br_t (nI_pos' (by omega)) ?_)
  · refine kb 2 _ (by omega) (fun j hj => ?_) e3
    rcases (by omega : j = 0 ∨ j = 1) with e | e <;> subst e
    · exact z0
    · exact z1
  have z2 : ph_ri B L (3 * im + 2) = (0, 0) := e3
  have q2' : B (3 + 3 * im) ≤ 7 := by rw [show 3 + 3 * im = 2 + (3 * im + 1) by omega]; exact r2
  refine nm_r (e' := nI (ph_pth B im)) (by rw [ph_p3 _ (by omega) _ (by omega), show 2 + (3 * im + 2) = 4 + 3 * im by omega]; exact congrArg nI (by unfold ph_pth; omega)) (nm_r (show (2 : Int32) + 1 = 3 from rfl) ?_)
  rw [wX_readImport_18]
  refine br_t (by decide) (nm_r (nI_1 im) ⟨vp_in_nI him (by omega), ?_⟩)
  have r3' : B (4 + 3 * im) ≤ 7 := by rw [show 4 + 3 * im = 2 + (3 * im + 2) by omega]; exact r3
  refine nm_r (e' := upd a_path im (nI (ph_pth B im))) (by rw [nI_clamp (by omega), ph_nss (by unfold ph_pth; omega)]) ?_
  rw [show 2 + (3 * im + 2) + 1 = 2 + 3 * (im + 1) by omega]
  refine kg (fun j hj => ?_)
  rcases (by omega : j = 0 ∨ j = 1 ∨ j = 2) with e | e | e <;> subst e
  · exact z0
  · exact z1
  · exact z2
theorem ph_IA_s {im : Nat} {pt pta : Nat → Int32} (h : ph_IA B im pt pta) : ph_IA B (im + 1) (upd pt im (nI (ph_pth B im))) (upd pta im (nI (2 + 3 * im))) := by
  intro g hg
  rcases Nat.lt_or_ge g im with z | z
  · rw [pk_un (by omega), pk_un (by omega)]; exact h g z
  · have : g = im := by omega
    subst this; rw [pk_us, pk_us]; exact ⟨rfl, rfl⟩
theorem ph_x57 {post : Int32 → SX → Prop} {n : Nat} {R : Nat × Nat} (hL : L ≤ 120) (hB : ph_BX B a_bytes) (hn : n ≤ 4)
    (kb : ∀ pos (im : Int32) (pt pta : Nat → Int32), pos < 2000 → ph_fm B L = ph_er L pos → wX_readAll_77 post 0 f_nodes f_rules f_version (nI L) (nI pos) f_place f_number im f_functions f_waiting f_fault f_frames f_box f_pc f_status f_result f_memory a_child a_verdict a_ruleNode a_before a_nodesBefore a_bytes pt pta a_params a_locals a_from a_size a_high a_loaded a_emitted a_entry a_pParams a_pFunctions a_pImports a_pPath a_judged a_fine a_newAt a_plugin a_quota a_statics a_slot a_back a_entries)
    (kg : ∀ (pt pta : Nat → Int32), ph_fm B L = R → ph_IA B n pt pta → wX_readAll_77 post 1 f_nodes f_rules f_version (nI L) (nI (2 + 3 * n)) f_place f_number (nI n) f_functions f_waiting f_fault f_frames f_box f_pc f_status f_result f_memory a_child a_verdict a_ruleNode a_before a_nodesBefore a_bytes pt pta a_params a_locals a_from a_size a_high a_loaded a_emitted a_entry a_pParams a_pFunctions a_pImports a_pPath a_judged a_fine a_newAt a_plugin a_quota a_statics a_slot a_back a_entries) :
    ∀ d im (pt pta : Nat → Int32), im + d = n → ph_fm B L = ph_th (ph_sq (ph_ri B L) (3 * d) (3 * im)) R → ph_IA B im pt pta →
      wX_readAll_57 post (nI n) (d + 1) 1 f_nodes f_rules f_version (nI L) (nI (2 + 3 * im)) f_place f_number (nI im) f_functions f_waiting f_fault f_frames f_box f_pc f_status f_result f_memory a_child a_verdict a_ruleNode a_before a_nodesBefore a_bytes pt pta a_params a_locals a_from a_size a_high a_loaded a_emitted a_entry a_pParams a_pFunctions a_pImports a_pPath a_judged a_fine a_newAt a_plugin a_quota a_statics a_slot a_back a_entries := by
  intro d
  induction d with
  | zero =>
    intro im pt pta h E hI
    have e : im = n := by omega
    subst e
    rw [wX_readAll_57]
    exact br_f (by decide) (br_t (nI_le (Nat.le_refl _) (by omega)) (kg pt pta E hI))
  | succ d ih =>
    intro im pt pta h E hI
    rw [wX_readAll_57]
    refine br_f (by decide) (br_f (nI_ge (by omega) (by omega)) ?_)
    refine ph_xrImp hL hB (by omega) (fun k z hk hz e => ?_) (fun hz => ?_)
    · rw [ph_sq_bad (L := L) (pos := 2 + (3 * im + k)) (k := k) (by omega) hz e, ph_th_e rfl] at E
      exact ph_x57b' (kb _ _ _ _ (by omega) E)
    · rw [show 3 * (d + 1) = 3 * d + 3 by omega, ph_sq_skip hz, show 3 * im + 3 = 3 * (im + 1) by omega] at E
      exact ih (im + 1) _ _ (by omega) E (ph_IA_s hI)
theorem ph_xreadAll {post : Int32 → SX → Prop} (hL : L ≤ 120) (hB : ph_BX B a_bytes)
    (kb : ∀ c pl (at' im fu : Int32) (pt pta pa lo fr sz : Nat → Int32), ph_fm B L = (c, pl) → c ≠ 0 → post (nI c) (f_nodes, f_rules, f_version, nI L, at', nI pl, f_number, im, fu, f_waiting, f_fault, f_frames, f_box, f_pc, f_status, f_result, f_memory, a_child, a_verdict, a_ruleNode, a_before, a_nodesBefore, a_bytes, pt, pta, pa, lo, fr, sz, a_high, a_loaded, a_emitted, a_entry, a_pParams, a_pFunctions, a_pImports, a_pPath, a_judged, a_fine, a_newAt, a_plugin, a_quota, a_statics, a_slot, a_back, a_entries))
    (kg : ∀ (at' : Int32) (pt pta pa lo fr sz : Nat → Int32), ph_fm B L = (0, 0) → ph_IA B (B 1) pt pta → ph_FA B (ph_nf B) pa lo fr sz → post 0 (f_nodes, f_rules, f_version, nI L, at', f_place, f_number, nI (B 1), nI (ph_nf B), f_waiting, f_fault, f_frames, f_box, f_pc, f_status, f_result, f_memory, a_child, a_verdict, a_ruleNode, a_before, a_nodesBefore, a_bytes, pt, pta, pa, lo, fr, sz, a_high, a_loaded, a_emitted, a_entry, a_pParams, a_pFunctions, a_pImports, a_pPath, a_judged, a_fine, a_newAt, a_plugin, a_quota, a_statics, a_slot, a_back, a_entries)) :
    wpX_readAll post (f_nodes, f_rules, f_version, nI L, f_at, f_place, f_number, f_imports, f_functions, f_waiting, f_fault, f_frames, f_box, f_pc, f_status, f_result, f_memory, a_child, a_verdict, a_ruleNode, a_before, a_nodesBefore, a_bytes, a_path, a_pathAt, a_params, a_locals, a_from, a_size, a_high, a_loaded, a_emitted, a_entry, a_pParams, a_pFunctions, a_pImports, a_pPath, a_judged, a_fine, a_newAt, a_plugin, a_quota, a_statics, a_slot, a_back, a_entries) := by
  have E : ph_fm B L = ph_th (ph_rd B L 0 80 80) (ph_th (ph_rd B L 1 0 4) (ph_th (ph_sq (ph_ri B L) (3 * B 1) 0) (ph_th (ph_rd B L (2 + 3 * B 1) 1 4) (ph_fu B L (ph_nf B) (3 + 3 * B 1))))) := rfl
  have bad : ∀ pos (im fu : Int32) (pt pta : Nat → Int32), pos < 2000 → ph_fm B L = ph_er L pos → wX_readAll_269 post 0 f_nodes f_rules f_version (nI L) (nI pos) f_place f_number im fu f_waiting f_fault f_frames f_box f_pc f_status f_result f_memory a_child a_verdict a_ruleNode a_before a_nodesBefore a_bytes pt pta a_params a_locals a_from a_size a_high a_loaded a_emitted a_entry a_pParams a_pFunctions a_pImports a_pPath a_judged a_fine a_newAt a_plugin a_quota a_statics a_slot a_back a_entries :=
    fun pos im fu pt pta hp e => ph_x269b hL hp (kb _ _ _ _ _ _ _ _ _ _ _ e (ph_er_ne L pos))
  unfold wpX_readAll
  refine ph_xnext (pos := 0) (lo := 80) (hi := 80) hL hB (by omega) (by omega) (by omega) (fun e1 => br_t (by decide) ?_) (fun e1 p1 q1 r1 => br_f (nI_pos (by omega)) ?_)
  · unfold wX_readAll_31
    exact br_t rfl (ph_x46b (bad 0 _ _ _ _ (by omega) (by rw [E, ph_th_e e1])))
  rw [ph_th_0 e1] at E
  unfold wX_readAll_31
  refine br_f (by decide) ?_
  refine ph_xnext (pos := 1) (lo := 0) (hi := 4) hL hB (by omega) (by omega) (by omega) (fun e2 => ph_x46b (bad 1 _ _ _ _ (by omega) (by rw [E, ph_th_e e2]))) (fun e2 p2 q2 r2 => ?_)
  rw [ph_th_0 e2] at E
  unfold wX_readAll_46
  refine br_f (nI_pos (by omega)) ⟨B 1 + 1, ?_⟩
  refine ph_x57 hL hB r2 (fun pos im pt pta hp e => ph_x77b (bad pos _ _ _ _ hp e)) (fun pt pta E2 hI => ?_) (B 1) 0 a_path a_pathAt (by omega) E (fun i hi => by omega)
  unfold wX_readAll_77
  refine br_f (by decide) ?_
  refine ph_xnext (lo := 1) (hi := 4) hL hB (by omega) (by omega) (by omega) (fun e3 => ?_) (fun e3 p3 q3 r3 => ?_)
  · unfold wX_readAll_91
    exact br_t (by decide) ⟨1, ph_x102b (bad _ _ _ _ _ (by omega) (by rw [E2, ph_th_e e3]))⟩
  rw [ph_th_0 e3] at E2
  unfold wX_readAll_91
  refine br_f (nI_pos (by omega)) ⟨ph_nf B + 1, ?_⟩
  rw [show 2 + 3 * B 1 + 1 = ph_hd B 0 by simp only [ph_hd]; omega]
  exact ph_x102 (m := ph_nf B) hL hB r3 (fun c pl at' fu pa lo fr sz e h => kb c pl at' _ fu pt pta pa lo fr sz e h) (fun at' pa lo fr sz e h => kg at' pt pta pa lo fr sz e hI h) (ph_nf B) 0 a_params a_locals a_from a_size (by omega) E2 (by simp only [ph_hd]; omega) (fun g hg => by omega)
end
end
section
/-! ===== the reference's reading ===== -/
def ph_BY (B : Nat → Nat) (L p : Nat) (b : Nat → Int32) : Prop := ∀ j, j < L → b (120 * p + j) = nI (B j) ∧ B j < 256
theorem ph_120 (p : Nat) : nI p * 120 = nI (120 * p) := by rw [show (120 : Int32) = nI 120 from rfl, pk_mul, Nat.mul_comm]
theorem ph_p3' (n : Nat) : nI n + 3 = nI (n + 3) := by rw [show (3 : Int32) = nI 3 from rfl, nI_add]
theorem ph_360 (n : Nat) : 360 + nI n = nI (360 + n) := by rw [show (360 : Int32) = nI 360 from rfl, nI_add]
theorem ph_m360 (n : Nat) : nI (360 + n) - 360 = nI n := by rw [show (360 : Int32) = nI 360 from rfl, pk_sub (by omega)]; exact congrArg nI (by omega)
theorem ph_3p (n : Nat) : 3 + nI n = nI (3 + n) := by rw [show (3 : Int32) = nI 3 from rfl, nI_add]
section
variable {g_rules g_place g_number g_pos g_finding g_active g_result : Int32} {g_memory : Int64} {b_ruleParts b_rulePath b_ruleAllows b_bytes b_length b_present b_ways b_boxPlugin b_boxQuota b_boxOpen b_statics b_aFn b_aPos b_aHigh b_aLocal b_aEntry : Nat → Int32}
variable {B : Nat → Nat} {L : Nat}
theorem ph_WF_L (h : ph_WF B L) : 5 + 3 * B 1 < L ∧ L ≤ 120 := by
  obtain ⟨h1, h2, h3, h4, h5, h6, h7⟩ := h
  have m := ph_hd_mono (B := B) (f := 0) (g := ph_nf B) (by omega)
  have e : ph_hd B 0 = 3 + 3 * B 1 := rfl
  have := h7 0 (by omega)
  omega
theorem ph_yimports {post : Int32 → Prop} {p : Nat} (hp : p < 4) (hB : ph_BY B L p b_bytes) (hL : 1 < L) (k : post (nI (B 1))) : wpY_imports post (g_rules, g_place, g_number, g_pos, g_finding, g_active, g_result, g_memory, b_ruleParts, b_rulePath, b_ruleAllows, b_bytes, b_length, b_present, b_ways, b_boxPlugin, b_boxQuota, b_boxOpen, b_statics, b_aFn, b_aPos, b_aHigh, b_aLocal, b_aEntry) (nI p) := by
  unfold wpY_imports
  try dsimp only
  rw [ph_120, nI_1, nI_clamp (by omega)]
  refine ⟨vp_in_nI (by omega) (by omega), ?_⟩
  rw [(hB 1 (by omega)).1]; exact k
theorem ph_yfunctions {post : Int32 → Prop} {p : Nat} (hp : p < 4) (hB : ph_BY B L p b_bytes) (h1 : B 1 ≤ 4) (h2 : 2 + 3 * B 1 < L) (hL : L ≤ 120) (k : post (nI (ph_nf B))) : wpY_functions post (g_rules, g_place, g_number, g_pos, g_finding, g_active, g_result, g_memory, b_ruleParts, b_rulePath, b_ruleAllows, b_bytes, b_length, b_present, b_ways, b_boxPlugin, b_boxQuota, b_boxOpen, b_statics, b_aFn, b_aPos, b_aHigh, b_aLocal, b_aEntry) (nI p) := by
  unfold wpY_functions
  try dsimp only
  rw [ph_120, nI_1, nI_clamp (by omega), (hB 1 (by omega)).1, ph_r3, ph_p2, nI_add, nI_clamp (by omega)]
  refine ⟨vp_in_nI (by omega) (by omega), vp_in_nI (by omega) (by omega), ?_⟩
  rw [show 120 * p + 2 + 3 * B 1 = 120 * p + (2 + 3 * B 1) by omega, (hB (2 + 3 * B 1) (by omega)).1]; exact k
theorem ph_yhead18 {post : Int32 → Prop} {p f : Nat} (hp : p < 4) (hB : ph_BY B L p b_bytes) (hW : ph_WF B L) (hf : f < ph_nf B) (k : post (nI (120 * p + ph_hd B f))) :
    ∀ d i, i + d = f → wY_head_18 post (nI f) g_rules g_place g_number g_pos g_finding g_active g_result g_memory b_ruleParts b_rulePath b_ruleAllows b_bytes b_length b_present b_ways b_boxPlugin b_boxQuota b_boxOpen b_statics b_aFn b_aPos b_aHigh b_aLocal b_aEntry (d + 1) (nI (120 * p + ph_hd B i)) (nI i) := by
  have hn := hW.2.2.2.2.1
  intro d
  induction d with
  | zero =>
    intro i hi
    have e : i = f := by omega
    subst e
    rw [wY_head_18]
    exact br_t (nI_le (Nat.le_refl _) (by omega)) k
  | succ d ih =>
    intro i hi
    have hb := ph_hd_b hW (f := i) (by omega)
    rw [wY_head_18]
    refine br_f (nI_ge (by omega) (by omega)) ?_
    rw [ph_p2, nI_clamp (by omega), show 120 * p + ph_hd B i + 2 = 120 * p + (ph_hd B i + 2) by omega, (hB (ph_hd B i + 2) (by omega)).1]
    refine ⟨vp_in_nI (by omega) (by omega), nm_r (e' := nI (120 * p + ph_hd B (i + 1))) ?_ (nm_r (nI_1 i) (ih (i + 1) (by omega)))⟩
    rw [ph_3p, nI_add]; exact congrArg nI (by simp only [ph_hd]; omega)
theorem ph_yhead {post : Int32 → Prop} {p f : Nat} (hp : p < 4) (hB : ph_BY B L p b_bytes) (hW : ph_WF B L) (hf : f < ph_nf B) (k : post (nI (120 * p + ph_hd B f))) : wpY_head post (g_rules, g_place, g_number, g_pos, g_finding, g_active, g_result, g_memory, b_ruleParts, b_rulePath, b_ruleAllows, b_bytes, b_length, b_present, b_ways, b_boxPlugin, b_boxQuota, b_boxOpen, b_statics, b_aFn, b_aPos, b_aHigh, b_aLocal, b_aEntry) (nI p) (nI f) := by
  have hWL := ph_WF_L hW
  unfold wpY_head
  refine ph_yimports hp hB (by omega) ?_
  refine nm_r (e' := nI (120 * p + ph_hd B 0)) ?_ ⟨f + 1, ph_yhead18 hp hB hW hf k f 0 (by omega)⟩
  rw [ph_120, ph_p3', ph_r3, nI_add]; exact congrArg nI (by simp only [ph_hd]; omega)
theorem ph_ycodeStart {post : Int32 → Prop} {p f : Nat} (hp : p < 4) (hB : ph_BY B L p b_bytes) (hW : ph_WF B L) (hf : f < ph_nf B) (k : post (nI (120 * p + ph_hd B f + 3))) : wpY_codeStart post (g_rules, g_place, g_number, g_pos, g_finding, g_active, g_result, g_memory, b_ruleParts, b_rulePath, b_ruleAllows, b_bytes, b_length, b_present, b_ways, b_boxPlugin, b_boxQuota, b_boxOpen, b_statics, b_aFn, b_aPos, b_aHigh, b_aLocal, b_aEntry) (nI p) (nI f) := by
  unfold wpY_codeStart
  refine ph_yhead hp hB hW hf ?_
  rw [ph_p3']; exact k
theorem ph_ycodeEnd {post : Int32 → Prop} {p f : Nat} (hp : p < 4) (hB : ph_BY B L p b_bytes) (hW : ph_WF B L) (hf : f < ph_nf B) (k : post (nI (120 * p + ph_hd B f + 3 + ph_sz B f))) : wpY_codeEnd post (g_rules, g_place, g_number, g_pos, g_finding, g_active, g_result, g_memory, b_ruleParts, b_rulePath, b_ruleAllows, b_bytes, b_length, b_present, b_ways, b_boxPlugin, b_boxQuota, b_boxOpen, b_statics, b_aFn, b_aPos, b_aHigh, b_aLocal, b_aEntry) (nI p) (nI f) := by
  have hb := ph_hd_b hW hf
  unfold wpY_codeEnd
  refine ph_yhead hp hB hW hf ?_
  rw [ph_p2, ph_p3', nI_clamp (by omega), show 120 * p + ph_hd B f + 2 = 120 * p + (ph_hd B f + 2) by omega, (hB (ph_hd B f + 2) (by omega)).1, nI_add]
  exact ⟨vp_in_nI (by omega) (by omega), k⟩
theorem ph_ywide {post : Int32 → Prop} {op : Nat} (ho : op < 256) (k1 : ph_wd op = 1 → post 0) (k2 : ph_wd op = 2 → post 1) : wpY_wide post (nI op) := by
  unfold wpY_wide
  refine pk_le op 2 (fun h => k2 (if_pos (Or.inl h))) (fun h => pk_lt op 10 (fun h2 => k1 (if_neg (by omega))) (fun h2 => pk_lt 15 op (fun h3 => k1 (if_neg (by omega))) (fun h3 => k2 (if_pos (by omega)))))
/-- the byte at i of function f's code, in plugin p -/
theorem ph_yb {p f i : Nat} (hB : ph_BY B L p b_bytes) (hW : ph_WF B L) (hf : f < ph_nf B) (hi : i < ph_sz B f) : b_bytes (120 * p + ph_hd B f + 3 + i) = nI (ph_cdo B f i) ∧ ph_cdo B f i < 256 := by
  have hb := ph_hd_b hW hf
  unfold ph_sz at hi
  rw [show 120 * p + ph_hd B f + 3 + i = 120 * p + (ph_hd B f + 3 + i) by omega]
  exact hB (ph_hd B f + 3 + i) (by omega)
theorem ph_yix {p f i : Nat} (hp : p < 4) (hW : ph_WF B L) (hf : f < ph_nf B) (hi : i ≤ ph_sz B f) : 120 * p + ph_hd B f + 3 + i ≤ 480 ∧ (p < 4 → 120 * p + ph_hd B f + 3 + i ≤ 120 * p + 120) := by
  have hb := ph_hd_b hW hf
  unfold ph_sz at hi
  omega
theorem ph_szb {f : Nat} (hW : ph_WF B L) (hf : f < ph_nf B) : 1 ≤ ph_sz B f ∧ ph_sz B f ≤ 40 := by
  have := hW.2.2.2.2.2.2 f hf
  unfold ph_sz; omega
theorem ph_ytarget {post : Int32 → Prop} {p f i : Nat} (hp : p < 4) (hB : ph_BY B L p b_bytes) (hW : ph_WF B L) (hf : f < ph_nf B) (hi : i + 1 < ph_sz B f)
    (k : post (nI (120 * p + ph_hd B f + 3 + i + 2) + ph_sv (ph_cdo B f (i + 1)))) : wpY_target post (g_rules, g_place, g_number, g_pos, g_finding, g_active, g_result, g_memory, b_ruleParts, b_rulePath, b_ruleAllows, b_bytes, b_length, b_present, b_ways, b_boxPlugin, b_boxQuota, b_boxOpen, b_statics, b_aFn, b_aPos, b_aHigh, b_aLocal, b_aEntry) (nI (120 * p + ph_hd B f + 3 + i)) := by
  have hx := ph_yix hp hW hf (i := i + 1) (by omega)
  have hy := ph_yb (p := p) (i := i + 1) hB hW hf hi
  have hb := ph_hd_b hW hf
  unfold ph_sz at hi
  unfold wpY_target
  try dsimp only
  rw [nI_1, ph_p2, nI_clamp (by omega), show 120 * p + ph_hd B f + 3 + i + 1 = 120 * p + ph_hd B f + 3 + (i + 1) by omega, hy.1]
  exact ⟨vp_in_nI (by omega) (by omega), k⟩
theorem ph_ybegins16 {post : Int32 → Prop} {p f : Nat} {t : Int32} (hp : p < 4) (hB : ph_BY B L p b_bytes) (hW : ph_WF B L) (hf : f < ph_nf B)
    (k1 : (∃ j, ph_St (ph_cdo B f) j ∧ j < ph_sz B f ∧ t = nI (120 * p + ph_hd B f + 3 + j)) → post 1) (k0 : (¬ ∃ j, ph_St (ph_cdo B f) j ∧ j < ph_sz B f ∧ t = nI (120 * p + ph_hd B f + 3 + j)) → post 0) :
    ∀ d i, ph_St (ph_cdo B f) i → ph_sz B f ≤ i + d → i ≤ ph_sz B f + 1 → (∀ j, ph_St (ph_cdo B f) j → j < i → j < ph_sz B f → t ≠ nI (120 * p + ph_hd B f + 3 + j)) →
      wY_begins_16 post t (nI (120 * p + ph_hd B f + 3 + ph_sz B f)) g_rules g_place g_number g_pos g_finding g_active g_result g_memory b_ruleParts b_rulePath b_ruleAllows b_bytes b_length b_present b_ways b_boxPlugin b_boxQuota b_boxOpen b_statics b_aFn b_aPos b_aHigh b_aLocal b_aEntry (d + 1) (nI (120 * p + ph_hd B f + 3 + i)) := by
  have hs := ph_szb hW hf
  have hb := ph_hd_b hW hf
  have hsz : B (ph_hd B f + 2) = ph_sz B f := rfl
  rw [hsz] at hb
  intro d
  induction d with
  | zero =>
    intro i hi h1 h2 hno
    rw [wY_begins_16]
    refine br_t (nI_le (by omega) (by omega)) (k0 ?_)
    rintro ⟨j, a, b, c⟩
    exact hno j a (by omega) b c
  | succ d ih =>
    intro i hi h1 h2 hno
    rw [wY_begins_16]
    refine pk_le (120 * p + ph_hd B f + 3 + ph_sz B f) (120 * p + ph_hd B f + 3 + i) (fun h => k0 ?_) (fun h => br_c (fun h3 => k1 ⟨i, hi, by omega, h3.symm⟩) (fun h3 => ?_))
    · rintro ⟨j, a, b, c⟩
      exact hno j a (by omega) b c
    · have hy := ph_yb (p := p) (i := i) hB hW hf (by omega)
      rw [nI_clamp (by omega), hy.1]
      refine ⟨vp_in_nI (by omega) (by omega), ?_⟩
      have hw := ph_wd_b (ph_cdo B f i)
      have J := ih (i + ph_wd (ph_cdo B f i)) (ph_St_s hi) (by omega) (by omega) (fun j a b c => by
        rcases ph_St_lt hi a b with z | z
        · exact hno j a z c
        · subst z; exact fun q => h3 q.symm)
      refine ph_ywide hy.2 (fun w => br_t rfl (nm_r (nI_1 _) ?_)) (fun w => br_f (by decide) (nm_r (ph_p2 _) ?_))
      · rw [w] at J; exact J
      · rw [w] at J; exact J
theorem ph_ybegins {post : Int32 → Prop} {p f : Nat} {t : Int32} (hp : p < 4) (hB : ph_BY B L p b_bytes) (hW : ph_WF B L) (hf : f < ph_nf B)
    (k1 : (∃ j, ph_St (ph_cdo B f) j ∧ j < ph_sz B f ∧ t = nI (120 * p + ph_hd B f + 3 + j)) → post 1) (k0 : (¬ ∃ j, ph_St (ph_cdo B f) j ∧ j < ph_sz B f ∧ t = nI (120 * p + ph_hd B f + 3 + j)) → post 0) :
    wpY_begins post (g_rules, g_place, g_number, g_pos, g_finding, g_active, g_result, g_memory, b_ruleParts, b_rulePath, b_ruleAllows, b_bytes, b_length, b_present, b_ways, b_boxPlugin, b_boxQuota, b_boxOpen, b_statics, b_aFn, b_aPos, b_aHigh, b_aLocal, b_aEntry) (nI p) (nI f) t := by
  unfold wpY_begins
  refine ph_ycodeEnd hp hB hW hf (ph_ycodeStart hp hB hW hf ⟨ph_sz B f + 1, ?_⟩)
  exact ph_ybegins16 hp hB hW hf k1 k0 (ph_sz B f) 0 (ph_St_0 _) (by omega) (by omega) (fun j _ h => by omega)
/-! the form -/
theorem ph_yreads {post : Int32 → SY → Prop} {pos lo hi : Nat} (hL : L ≤ 120) (hlen : b_length 3 = nI L) (hB : ph_BY B L 3 b_bytes) (hp : pos < 2000) (hlo : lo < 2000) (hhi : hi < 2000)
    (kb : ph_rd B L pos lo hi = ph_er L pos → post 0 (g_rules, nI (ph_er L pos).2, g_number, nI pos, nI (ph_er L pos).1, g_active, g_result, g_memory, b_ruleParts, b_rulePath, b_ruleAllows, b_bytes, b_length, b_present, b_ways, b_boxPlugin, b_boxQuota, b_boxOpen, b_statics, b_aFn, b_aPos, b_aHigh, b_aLocal, b_aEntry))
    (kg : ph_rd B L pos lo hi = (0, 0) → pos < L → lo ≤ B pos → B pos ≤ hi → post 1 (g_rules, g_place, g_number, nI (pos + 1), g_finding, g_active, g_result, g_memory, b_ruleParts, b_rulePath, b_ruleAllows, b_bytes, b_length, b_present, b_ways, b_boxPlugin, b_boxQuota, b_boxOpen, b_statics, b_aFn, b_aPos, b_aHigh, b_aLocal, b_aEntry)) :
    wpY_reads post (g_rules, g_place, g_number, nI pos, g_finding, g_active, g_result, g_memory, b_ruleParts, b_rulePath, b_ruleAllows, b_bytes, b_length, b_present, b_ways, b_boxPlugin, b_boxQuota, b_boxOpen, b_statics, b_aFn, b_aPos, b_aHigh, b_aLocal, b_aEntry) (nI lo) (nI hi) := by
  unfold wpY_reads
  try dsimp only
  rw [hlen, ph_360]
  refine pk_lt pos L (fun h => ⟨vp_in_nI (by omega) (by omega), ?_⟩) (fun h => ?_)
  · obtain ⟨e, hb⟩ := hB pos (by omega)
    rw [nI_clamp (by omega), show 360 + pos = 120 * 3 + pos by omega]
    refine nm_r e ?_
    have bad : B pos < lo ∨ hi < B pos → wY_reads_49 post g_rules g_place g_number (nI pos) g_finding g_active g_result g_memory b_ruleParts b_rulePath b_ruleAllows b_bytes b_length b_present b_ways b_boxPlugin b_boxQuota b_boxOpen b_statics b_aFn b_aPos b_aHigh b_aLocal b_aEntry := fun z => by
      have e1 : ph_er L pos = (2, pos) := by unfold ph_er; rw [if_neg (by omega)]
      have k := kb (by rw [e1]; unfold ph_rd; rw [if_neg (by omega), if_pos z])
      rw [e1] at k
      unfold wY_reads_49
      exact ⟨rfl, k⟩
    refine pk_lt (B pos) lo (fun h1 => bad (Or.inl h1)) (fun h1 => pk_le (B pos) hi (fun h2 => nm_r (nI_1 pos) ?_) (fun h2 => bad (Or.inr h2)))
    exact kg (by unfold ph_rd; rw [if_neg (by omega), if_neg (by omega)]) h h1 h2
  · have e1 : ph_er L pos = (1, L) := by unfold ph_er; rw [if_pos h]
    have k := kb (by rw [e1]; unfold ph_rd; rw [if_pos h])
    rw [e1] at k
    exact ⟨rfl, k⟩
theorem ph_y79 {post : Int32 → SY → Prop} {m : Nat} (hL : L ≤ 120) (hlen : b_length 3 = nI L) (hB : ph_BY B L 3 b_bytes) (hm : m ≤ 4)
    (kb : ∀ c pl (po : Int32), ph_fm B L = (c, pl) → c ≠ 0 → post 0 (g_rules, nI pl, g_number, po, nI c, g_active, g_result, g_memory, b_ruleParts, b_rulePath, b_ruleAllows, b_bytes, b_length, b_present, b_ways, b_boxPlugin, b_boxQuota, b_boxOpen, b_statics, b_aFn, b_aPos, b_aHigh, b_aLocal, b_aEntry))
    (kg : ∀ (po : Int32), ph_fm B L = (0, 0) → post 1 (g_rules, g_place, g_number, po, g_finding, g_active, g_result, g_memory, b_ruleParts, b_rulePath, b_ruleAllows, b_bytes, b_length, b_present, b_ways, b_boxPlugin, b_boxQuota, b_boxOpen, b_statics, b_aFn, b_aPos, b_aHigh, b_aLocal, b_aEntry)) :
    ∀ d f, f + d = m → ph_fm B L = ph_fu B L d (ph_hd B f) → ph_hd B f ≤ L → wY_format_79 post (nI m) (d + 1) (nI f) g_rules g_place g_number (nI (ph_hd B f)) g_finding g_active g_result g_memory b_ruleParts b_rulePath b_ruleAllows b_bytes b_length b_present b_ways b_boxPlugin b_boxQuota b_boxOpen b_statics b_aFn b_aPos b_aHigh b_aLocal b_aEntry := by
  intro d
  induction d with
  | zero =>
    intro f hf E hp
    have e : f = m := by omega
    subst e
    rw [wY_format_79]
    dsimp only
    rw [hlen]
    simp only [ph_fu] at E
    refine br_t (nI_le (Nat.le_refl _) (by omega)) (pk_eq (ph_hd B f) L (fun h => ?_) (fun h => ?_))
    · rw [if_pos h] at E; exact kg _ E
    · rw [if_neg h] at E; exact br_t rfl (kb _ _ _ E (by decide))
  | succ d ih =>
    intro f hf E hp
    simp only [ph_fu] at E
    rw [wY_format_79]
    refine br_f (nI_ge (by omega) (by omega)) ?_
    refine ph_yreads (lo := 0) (hi := 2) hL hlen hB (by omega) (by omega) (by omega) (fun e1 => br_t rfl ?_) (fun e1 p1 q1 r1 => br_f (by decide) ?_)
    · rw [ph_th_e e1] at E; exact kb _ _ _ E (ph_er_ne _ _)
    rw [ph_th_0 e1] at E
    refine ph_yreads (lo := 0) (hi := 3) hL hlen hB (by omega) (by omega) (by omega) (fun e2 => br_t rfl ?_) (fun e2 p2 q2 r2 => br_f (by decide) ?_)
    · rw [ph_th_e e2] at E; exact kb _ _ _ E (ph_er_ne _ _)
    rw [ph_th_0 e2] at E
    refine ph_yreads (lo := 1) (hi := 40) hL hlen hB (by omega) (by omega) (by omega) (fun e3 => br_t rfl ?_) (fun e3 p3 q3 r3 => br_f (by decide) ?_)
    · rw [show ph_hd B f + 1 + 1 = ph_hd B f + 2 from rfl] at e3
      rw [ph_th_e e3] at E; exact kb _ _ _ E (ph_er_ne _ _)
    rw [show ph_hd B f + 1 + 1 = ph_hd B f + 2 from rfl] at e3 p3 q3 r3
    rw [ph_th_0 e3] at E
    rw [hlen, ph_360, show 360 + (ph_hd B f + 1 + 1 + 1) = 360 + (ph_hd B f + 2) + 1 by omega, nI_pred, nI_clamp (by omega), show 360 + (ph_hd B f + 2) = 120 * 3 + (ph_hd B f + 2) by omega, (hB (ph_hd B f + 2) (by omega)).1]
    refine ⟨vp_in_nI (by omega) (by omega), nm_r (e' := nI (ph_hd B (f + 1))) (by rw [nI_add]; exact congrArg nI (by simp only [ph_hd] <;> omega)) ?_⟩
    refine pk_le (ph_hd B (f + 1)) L (fun h => nm_r (nI_1 f) ?_) (fun h => ?_) rfl rfl (by simp only [ph_hd]; omega) (by omega)
    · rw [if_neg (by simp only [ph_hd] at h; omega)] at E
      exact ih (f + 1) (by omega) E h
    · rw [if_pos (by simp only [ph_hd] at h; exact h)] at E
      exact ⟨rfl, kb 1 L _ E (by decide)⟩
theorem ph_y37 {post : Int32 → SY → Prop} {n : Nat} {R : Nat × Nat} (hL : L ≤ 120) (hlen : b_length 3 = nI L) (hB : ph_BY B L 3 b_bytes) (hn : n ≤ 12)
    (kb : ∀ pos, pos < 2000 → ph_fm B L = ph_er L pos → post 0 (g_rules, nI (ph_er L pos).2, g_number, nI pos, nI (ph_er L pos).1, g_active, g_result, g_memory, b_ruleParts, b_rulePath, b_ruleAllows, b_bytes, b_length, b_present, b_ways, b_boxPlugin, b_boxQuota, b_boxOpen, b_statics, b_aFn, b_aPos, b_aHigh, b_aLocal, b_aEntry))
    (kg : ph_fm B L = R → wY_format_37 post (nI n) 1 (nI n) g_rules g_place g_number (nI (2 + n)) g_finding g_active g_result g_memory b_ruleParts b_rulePath b_ruleAllows b_bytes b_length b_present b_ways b_boxPlugin b_boxQuota b_boxOpen b_statics b_aFn b_aPos b_aHigh b_aLocal b_aEntry) :
    ∀ d i, i + d = n → ph_fm B L = ph_th (ph_sq (ph_ri B L) d i) R → wY_format_37 post (nI n) (d + 1) (nI i) g_rules g_place g_number (nI (2 + i)) g_finding g_active g_result g_memory b_ruleParts b_rulePath b_ruleAllows b_bytes b_length b_present b_ways b_boxPlugin b_boxQuota b_boxOpen b_statics b_aFn b_aPos b_aHigh b_aLocal b_aEntry := by
  intro d
  induction d with
  | zero =>
    intro i hi E
    have e : i = n := by omega
    subst e
    exact kg E
  | succ d ih =>
    intro i hi E
    simp only [ph_sq] at E
    rw [wY_format_37]
    refine br_f (nI_ge (by omega) (by omega)) ?_
    refine ph_yreads (lo := 0) (hi := 7) hL hlen hB (by omega) (by omega) (by omega) (fun e1 => br_t rfl (kb _ (by omega) ?_)) (fun e1 p1 q1 r1 => br_f (by decide) (nm_r (nI_1 i) (ih (i + 1) (by omega) ?_)))
    · rw [E]
      have e2 : ph_ri B L i = ph_er L (2 + i) := e1
      rw [ph_th_e e2, ph_th_e rfl]
    · have e2 : ph_ri B L i = (0, 0) := e1
      rw [ph_th_0 e2] at E; exact E
theorem ph_yformat {post : Int32 → SY → Prop} (hL : L ≤ 120) (hlen : b_length 3 = nI L) (hB : ph_BY B L 3 b_bytes)
    (kb : ∀ c pl (po : Int32), ph_fm B L = (c, pl) → c ≠ 0 → post 0 (g_rules, nI pl, g_number, po, nI c, g_active, g_result, g_memory, b_ruleParts, b_rulePath, b_ruleAllows, b_bytes, b_length, b_present, b_ways, b_boxPlugin, b_boxQuota, b_boxOpen, b_statics, b_aFn, b_aPos, b_aHigh, b_aLocal, b_aEntry))
    (kg : ∀ (po : Int32), ph_fm B L = (0, 0) → post 1 (g_rules, g_place, g_number, po, g_finding, g_active, g_result, g_memory, b_ruleParts, b_rulePath, b_ruleAllows, b_bytes, b_length, b_present, b_ways, b_boxPlugin, b_boxQuota, b_boxOpen, b_statics, b_aFn, b_aPos, b_aHigh, b_aLocal, b_aEntry)) : wpY_format post (g_rules, g_place, g_number, g_pos, g_finding, g_active, g_result, g_memory, b_ruleParts, b_rulePath, b_ruleAllows, b_bytes, b_length, b_present, b_ways, b_boxPlugin, b_boxQuota, b_boxOpen, b_statics, b_aFn, b_aPos, b_aHigh, b_aLocal, b_aEntry) := by
  have E : ph_fm B L = ph_th (ph_rd B L 0 80 80) (ph_th (ph_rd B L 1 0 4) (ph_th (ph_sq (ph_ri B L) (3 * B 1) 0) (ph_th (ph_rd B L (2 + 3 * B 1) 1 4) (ph_fu B L (ph_nf B) (3 + 3 * B 1))))) := rfl
  unfold wpY_format
  refine ph_yreads (pos := 0) (lo := 80) (hi := 80) hL hlen hB (by omega) (by omega) (by omega) (fun e1 => br_t rfl ?_) (fun e1 p1 q1 r1 => br_f (by decide) ?_)
  · rw [ph_th_e e1] at E; exact kb _ _ _ E (ph_er_ne _ _)
  rw [ph_th_0 e1] at E
  refine ph_yreads (pos := 1) (lo := 0) (hi := 4) hL hlen hB (by omega) (by omega) (by omega) (fun e2 => br_t rfl ?_) (fun e2 p2 q2 r2 => br_f (by decide) ?_)
  · rw [ph_th_e e2] at E; exact kb _ _ _ E (ph_er_ne _ _)
  rw [ph_th_0 e2] at E
  refine ph_yimports (p := 3) (by omega) hB p2 ?_
  refine nm_r (ph_r3 (B 1)) ⟨3 * B 1 + 1, ?_⟩
  refine ph_y37 hL hlen hB (by omega) (fun pos hp e => kb _ _ _ e (ph_er_ne _ _)) (fun E2 => ?_) (3 * B 1) 0 (by omega) E
  rw [wY_format_37]
  refine br_t (nI_le (Nat.le_refl _) (by omega)) ?_
  refine ph_yreads (lo := 1) (hi := 4) hL hlen hB (by omega) (by omega) (by omega) (fun e3 => br_t rfl ?_) (fun e3 p3 q3 r3 => br_f (by decide) ?_)
  · rw [ph_th_e e3] at E2; exact kb _ _ _ E2 (ph_er_ne _ _)
  rw [ph_th_0 e3] at E2
  refine ph_yfunctions (p := 3) (by omega) hB r2 p3 hL ⟨ph_nf B + 1, ?_⟩
  rw [show 2 + 3 * B 1 + 1 = ph_hd B 0 by simp only [ph_hd]; omega]
  exact ph_y79 (m := ph_nf B) hL hlen hB r3 kb kg (ph_nf B) 0 (by omega) E2 (by simp only [ph_hd]; omega)
end
end
section
/-! ===== the component's checks of the code ===== -/
section
variable {f_nodes f_rules f_version f_count f_at f_place f_number f_imports f_functions f_fault f_frames f_box f_pc f_status f_result : Int32} {f_waiting f_memory : Int64} {a_child a_verdict a_ruleNode a_before a_nodesBefore a_bytes a_path a_pathAt a_params a_locals a_from a_size a_high a_loaded a_emitted a_entry a_pParams a_pFunctions a_pImports a_pPath a_judged a_fine a_newAt a_plugin a_quota a_statics a_slot a_back a_entries : Nat → Int32}
variable {B : Nat → Nat} {L : Nat}
theorem ph_xix {f i : Nat} (hW : ph_WF B L) (hf : f < ph_nf B) (hi : i < ph_sz B f) : ph_hd B f + 3 + i < 120 ∧ f < 4 := by
  have hb := ph_hd_b hW hf
  have hn := hW.2.2.2.2.1
  unfold ph_sz at hi
  omega
theorem ph_xcode {post : Int32 → Prop} {f i : Nat} (hW : ph_WF B L) (hB : ph_BX B a_bytes) (hF : ph_FA B (ph_nf B) a_params a_locals a_from a_size) (hf : f < ph_nf B) (hi : i < ph_sz B f)
    (k : post (nI (ph_cdo B f i))) : wpX_code post (f_nodes, f_rules, f_version, f_count, f_at, f_place, f_number, f_imports, f_functions, f_waiting, f_fault, f_frames, f_box, f_pc, f_status, f_result, f_memory, a_child, a_verdict, a_ruleNode, a_before, a_nodesBefore, a_bytes, a_path, a_pathAt, a_params, a_locals, a_from, a_size, a_high, a_loaded, a_emitted, a_entry, a_pParams, a_pFunctions, a_pImports, a_pPath, a_judged, a_fine, a_newAt, a_plugin, a_quota, a_statics, a_slot, a_back, a_entries) (nI f) (nI i) := by
  have hx := ph_xix hW hf hi
  unfold wpX_code
  try dsimp only
  rw [nI_clamp (by omega), (hF f hf).2.2.1, nI_add, nI_clamp (by omega), (hB _ hx.1).1]
  exact ⟨vp_in_nI hx.2 (by omega), vp_in_nI hx.1 (by omega), k⟩
theorem ph_xcl {f i : Nat} (hW : ph_WF B L) (hB : ph_BX B a_bytes) (hf : f < ph_nf B) (hi : i < ph_sz B f) : ph_cdo B f i < 256 := (hB _ (ph_xix hW hf hi).1).2
theorem ph_xwidth {post : Int32 → Prop} {op : Nat} (ho : op < 256) (k : post (nI (ph_wd op))) : wpX_width post (nI op) := by
  unfold wpX_width
  rcases Nat.lt_or_ge 15 op with h | h
  · refine br_f (nI_pos (by omega)) (br_t (nI_lt (a := 15) (b := op) h (by omega)) ?_)
    have e : ph_wd op = 1 := if_neg (by omega)
    rw [e] at k; exact k
  · rcases (by omega : op = 0 ∨ op = 1 ∨ op = 2 ∨ op = 3 ∨ op = 4 ∨ op = 5 ∨ op = 6 ∨ op = 7 ∨ op = 8 ∨ op = 9 ∨ op = 10 ∨ op = 11 ∨ op = 12 ∨ op = 13 ∨ op = 14 ∨ op = 15) with e | e | e | e | e | e | e | e | e | e | e | e | e | e | e | e <;> subst e <;>
    (repeat (first | refine br_t (by decide) ?_ | refine br_f (by decide) ?_)) <;> exact k
theorem ph_xwidthAt {post : Int32 → Prop} {f i : Nat} (hW : ph_WF B L) (hB : ph_BX B a_bytes) (hF : ph_FA B (ph_nf B) a_params a_locals a_from a_size) (hf : f < ph_nf B) (hi : i < ph_sz B f)
    (k : post (nI (ph_wd (ph_cdo B f i)))) : wpX_widthAt post (f_nodes, f_rules, f_version, f_count, f_at, f_place, f_number, f_imports, f_functions, f_waiting, f_fault, f_frames, f_box, f_pc, f_status, f_result, f_memory, a_child, a_verdict, a_ruleNode, a_before, a_nodesBefore, a_bytes, a_path, a_pathAt, a_params, a_locals, a_from, a_size, a_high, a_loaded, a_emitted, a_entry, a_pParams, a_pFunctions, a_pImports, a_pPath, a_judged, a_fine, a_newAt, a_plugin, a_quota, a_statics, a_slot, a_back, a_entries) (nI f) (nI i) := by
  unfold wpX_widthAt
  exact ph_xcode hW hB hF hf hi (ph_xwidth (ph_xcl hW hB hf hi) k)
theorem ph_xtarget {post : Int32 → Prop} {f i : Nat} (hW : ph_WF B L) (hB : ph_BX B a_bytes) (hF : ph_FA B (ph_nf B) a_params a_locals a_from a_size) (hf : f < ph_nf B) (hi : i + 1 < ph_sz B f)
    (k : post (nI (i + 2) + ph_sv (ph_cdo B f (i + 1)))) : wpX_target post (f_nodes, f_rules, f_version, f_count, f_at, f_place, f_number, f_imports, f_functions, f_waiting, f_fault, f_frames, f_box, f_pc, f_status, f_result, f_memory, a_child, a_verdict, a_ruleNode, a_before, a_nodesBefore, a_bytes, a_path, a_pathAt, a_params, a_locals, a_from, a_size, a_high, a_loaded, a_emitted, a_entry, a_pParams, a_pFunctions, a_pImports, a_pPath, a_judged, a_fine, a_newAt, a_plugin, a_quota, a_statics, a_slot, a_back, a_entries) (nI f) (nI i) := by
  unfold wpX_target
  try dsimp only
  rw [nI_1, ph_p2]
  exact ph_xcode hW hB hF hf hi k
theorem ph_xfits {post : Int32 → Prop} {f op b : Nat} (hW : ph_WF B L) (hF : ph_FA B (ph_nf B) a_params a_locals a_from a_size) (hf : f < ph_nf B) (ho : op ≤ 16) (hw : ph_wd op = 2) (hb : b < 256)
    (k1 : b < ph_lim (ph_nf B) (B 1) (B (ph_hd B f) + B (ph_hd B f + 1)) op → post 1) (k0 : ph_lim (ph_nf B) (B 1) (B (ph_hd B f) + B (ph_hd B f + 1)) op ≤ b → post 0) :
    wpX_operandFits post (f_nodes, f_rules, f_version, f_count, f_at, f_place, f_number, nI (B 1), nI (ph_nf B), f_waiting, f_fault, f_frames, f_box, f_pc, f_status, f_result, f_memory, a_child, a_verdict, a_ruleNode, a_before, a_nodesBefore, a_bytes, a_path, a_pathAt, a_params, a_locals, a_from, a_size, a_high, a_loaded, a_emitted, a_entry, a_pParams, a_pFunctions, a_pImports, a_pPath, a_judged, a_fine, a_newAt, a_plugin, a_quota, a_statics, a_slot, a_back, a_entries) (nI f) (nI op) (nI b) := by
  have hn := hW.2.2.2.2.1
  have hi := hW.2.1
  have hff := hW.2.2.2.2.2.2 f hf
  have h76 : (op = 1 ∨ op = 2) → wX_operandFits_76 post (nI f) (nI b) f_nodes f_rules f_version f_count f_at f_place f_number (nI (B 1)) (nI (ph_nf B)) f_waiting f_fault f_frames f_box f_pc f_status f_result f_memory a_child a_verdict a_ruleNode a_before a_nodesBefore a_bytes a_path a_pathAt a_params a_locals a_from a_size a_high a_loaded a_emitted a_entry a_pParams a_pFunctions a_pImports a_pPath a_judged a_fine a_newAt a_plugin a_quota a_statics a_slot a_back a_entries := by
    intro h
    unfold wX_operandFits_76
    rw [nI_clamp (by omega), (hF f hf).1, (hF f hf).2.1, nI_add]
    have e : ph_lim (ph_nf B) (B 1) (B (ph_hd B f) + B (ph_hd B f + 1)) op = B (ph_hd B f) + B (ph_hd B f + 1) := if_pos h
    rw [e] at k1 k0
    exact ⟨vp_in_nI (by omega) (by omega), vp_in_nI (by omega) (by omega), pk_le _ b (fun h => k0 h) (fun h => k1 h)⟩
  have h127 : (op = 14 ∨ op = 15) → wX_operandFits_127 post (nI b) f_nodes f_rules f_version f_count f_at f_place f_number (nI (B 1)) (nI (ph_nf B)) f_waiting f_fault f_frames f_box f_pc f_status f_result f_memory a_child a_verdict a_ruleNode a_before a_nodesBefore a_bytes a_path a_pathAt a_params a_locals a_from a_size a_high a_loaded a_emitted a_entry a_pParams a_pFunctions a_pImports a_pPath a_judged a_fine a_newAt a_plugin a_quota a_statics a_slot a_back a_entries := by
    intro h
    unfold wX_operandFits_127
    have e : ph_lim (ph_nf B) (B 1) (B (ph_hd B f) + B (ph_hd B f + 1)) op = 4 := by
      unfold ph_lim; rw [if_neg (by omega), if_neg (by omega), if_neg (by omega), if_pos h]
    rw [e] at k1 k0
    exact pk_le 4 b (fun h => k0 h) (fun h => k1 h)
  have h256 : (op = 0 ∨ op = 10 ∨ op = 11) → post 1 := by
    intro h
    have e : ph_lim (ph_nf B) (B 1) (B (ph_hd B f) + B (ph_hd B f + 1)) op = 256 := by
      unfold ph_lim; rw [if_neg (by omega), if_neg (by omega), if_neg (by omega), if_neg (by omega)]
    rw [e] at k1
    exact k1 hb
  have hop : op = 0 ∨ op = 1 ∨ op = 2 ∨ op = 10 ∨ op = 11 ∨ op = 12 ∨ op = 13 ∨ op = 14 ∨ op = 15 := by
    unfold ph_wd at hw
    by_cases z : op ≤ 2 ∨ (10 ≤ op ∧ op ≤ 15)
    · omega
    · rw [if_neg z] at hw; omega
  unfold wpX_operandFits
  rcases hop with e | e | e | e | e | e | e | e | e
  · subst e; exact br_t (by decide) (h256 (by omega))
  · subst e; exact br_f (by decide) (br_f (by decide) (br_t rfl (h76 (by omega))))
  · subst e; exact br_f (by decide) (br_f (by decide) (br_f (by decide) (br_t rfl (h76 (by omega)))))
  · subst e
    refine br_f (by decide) (br_f (by decide) (br_f (by decide) (br_f (by decide) (br_f (by decide) (br_f (by decide) (br_f (by decide) (br_f (by decide) (br_f (by decide) (br_f (by decide) (br_f (by decide) (br_t rfl ?_)))))))))))
    exact h256 (by omega)
  · subst e
    refine br_f (by decide) (br_f (by decide) (br_f (by decide) (br_f (by decide) (br_f (by decide) (br_f (by decide) (br_f (by decide) (br_f (by decide) (br_f (by decide) (br_f (by decide) (br_f (by decide) (br_f (by decide) (br_t rfl ?_))))))))))))
    exact h256 (by omega)
  · subst e
    refine br_f (by decide) (br_f (by decide) (br_f (by decide) (br_f (by decide) (br_f (by decide) (br_f (by decide) (br_f (by decide) (br_f (by decide) (br_f (by decide) (br_f (by decide) (br_f (by decide) (br_f (by decide) (br_f (by decide) (br_t rfl ?_)))))))))))))
    have e : ph_lim (ph_nf B) (B 1) (B (ph_hd B f) + B (ph_hd B f + 1)) 12 = ph_nf B := rfl
    rw [e] at k1 k0
    exact pk_le _ b (fun h => k0 h) (fun h => k1 h)
  · subst e
    refine br_f (by decide) (br_f (by decide) (br_f (by decide) (br_f (by decide) (br_f (by decide) (br_f (by decide) (br_f (by decide) (br_f (by decide) (br_f (by decide) (br_f (by decide) (br_f (by decide) (br_f (by decide) (br_f (by decide) (br_f (by decide) (br_t rfl ?_))))))))))))))
    have e : ph_lim (ph_nf B) (B 1) (B (ph_hd B f) + B (ph_hd B f + 1)) 13 = B 1 := rfl
    rw [e] at k1 k0
    exact pk_le _ b (fun h => k0 h) (fun h => k1 h)
  · subst e
    refine br_f (by decide) (br_f (by decide) (br_f (by decide) (br_f (by decide) (br_f (by decide) (br_f (by decide) (br_f (by decide) (br_f (by decide) (br_f (by decide) (br_f (by decide) (br_f (by decide) (br_f (by decide) (br_f (by decide) (br_f (by decide) (br_f (by decide) (br_t rfl ?_)))))))))))))))
    exact h127 (by omega)
  · subst e
    refine br_f (by decide) (br_f (by decide) (br_f (by decide) (br_f (by decide) (br_f (by decide) (br_f (by decide) (br_f (by decide) (br_f (by decide) (br_f (by decide) (br_f (by decide) (br_f (by decide) (br_f (by decide) (br_f (by decide) (br_f (by decide) (br_f (by decide) (br_f (by decide) (br_t rfl ?_))))))))))))))))
    exact h127 (by omega)
theorem ph_xcc {post : Int32 → SX → Prop} {f : Nat} (hW : ph_WF B L) (hB : ph_BX B a_bytes) (hF : ph_FA B (ph_nf B) a_params a_locals a_from a_size) (hf : f < ph_nf B) :
    ∀ d i, i ≤ ph_sz B f → ph_sz B f < i + d →
      (ph_cc (ph_nf B) (B 1) (B (ph_hd B f) + B (ph_hd B f + 1)) (ph_sz B f) (ph_cdo B f) d i = ph_sz B f → post 0 (f_nodes, f_rules, f_version, f_count, f_at, f_place, f_number, nI (B 1), nI (ph_nf B), f_waiting, f_fault, f_frames, f_box, f_pc, f_status, f_result, f_memory, a_child, a_verdict, a_ruleNode, a_before, a_nodesBefore, a_bytes, a_path, a_pathAt, a_params, a_locals, a_from, a_size, a_high, a_loaded, a_emitted, a_entry, a_pParams, a_pFunctions, a_pImports, a_pPath, a_judged, a_fine, a_newAt, a_plugin, a_quota, a_statics, a_slot, a_back, a_entries)) →
      (∀ r, ph_cc (ph_nf B) (B 1) (B (ph_hd B f) + B (ph_hd B f + 1)) (ph_sz B f) (ph_cdo B f) d i = r → r < ph_sz B f → post 4 (f_nodes, f_rules, f_version, f_count, f_at, nI (ph_hd B f + 3 + r), f_number, nI (B 1), nI (ph_nf B), f_waiting, f_fault, f_frames, f_box, f_pc, f_status, f_result, f_memory, a_child, a_verdict, a_ruleNode, a_before, a_nodesBefore, a_bytes, a_path, a_pathAt, a_params, a_locals, a_from, a_size, a_high, a_loaded, a_emitted, a_entry, a_pParams, a_pFunctions, a_pImports, a_pPath, a_judged, a_fine, a_newAt, a_plugin, a_quota, a_statics, a_slot, a_back, a_entries)) →
      wX_checkCode_9 post (nI f) (nI (ph_sz B f)) f_nodes f_rules f_version f_count f_at f_place f_number (nI (B 1)) (nI (ph_nf B)) f_waiting f_fault f_frames f_box f_pc f_status f_result f_memory a_child a_verdict a_ruleNode a_before a_nodesBefore a_bytes a_path a_pathAt a_params a_locals a_from a_size a_high a_loaded a_emitted a_entry a_pParams a_pFunctions a_pImports a_pPath a_judged a_fine a_newAt a_plugin a_quota a_statics a_slot a_back a_entries d (nI i) := by
  have hs := ph_szb hW hf
  intro d
  induction d with
  | zero => intro i h1 h2; omega
  | succ d ih =>
    intro i h1 h2 k0 k4
    rw [wX_checkCode_9]
    refine pk_le (ph_sz B f) i (fun h => k0 (by simp only [ph_cc]; rw [if_pos h])) (fun h => ?_)
    have hx := ph_xix hW hf h
    have hc := ph_xcl hW hB hf h
    have hwd := ph_wd_b (ph_cdo B f i)
    simp only [ph_cc] at k0 k4
    rw [if_neg (by omega)] at k0 k4
    have bad : ph_isbad (ph_nf B) (B 1) (B (ph_hd B f) + B (ph_hd B f + 1)) (ph_sz B f) (ph_cdo B f) i = true → post 4 (f_nodes, f_rules, f_version, f_count, f_at, nI (ph_hd B f + 3 + i), f_number, nI (B 1), nI (ph_nf B), f_waiting, f_fault, f_frames, f_box, f_pc, f_status, f_result, f_memory, a_child, a_verdict, a_ruleNode, a_before, a_nodesBefore, a_bytes, a_path, a_pathAt, a_params, a_locals, a_from, a_size, a_high, a_loaded, a_emitted, a_entry, a_pParams, a_pFunctions, a_pImports, a_pPath, a_judged, a_fine, a_newAt, a_plugin, a_quota, a_statics, a_slot, a_back, a_entries) :=
      fun z => k4 i (by rw [if_pos z]) h
    have h40 : ph_isbad (ph_nf B) (B 1) (B (ph_hd B f) + B (ph_hd B f + 1)) (ph_sz B f) (ph_cdo B f) i = true → wX_checkCode_40 post (nI f) (nI i) f_nodes f_rules f_version f_count f_at f_place f_number (nI (B 1)) (nI (ph_nf B)) f_waiting f_fault f_frames f_box f_pc f_status f_result f_memory a_child a_verdict a_ruleNode a_before a_nodesBefore a_bytes a_path a_pathAt a_params a_locals a_from a_size a_high a_loaded a_emitted a_entry a_pParams a_pFunctions a_pImports a_pPath a_judged a_fine a_newAt a_plugin a_quota a_statics a_slot a_back a_entries := by
      intro z
      unfold wX_checkCode_40
      rw [nI_clamp (by omega), (hF f hf).2.2.1, nI_add]
      exact ⟨vp_in_nI hx.2 (by omega), bad z⟩
    have h99 : ph_isbad (ph_nf B) (B 1) (B (ph_hd B f) + B (ph_hd B f + 1)) (ph_sz B f) (ph_cdo B f) i = false → wX_checkCode_99 post (wX_checkCode_9 post (nI f) (nI (ph_sz B f)) f_nodes f_rules f_version f_count f_at f_place f_number (nI (B 1)) (nI (ph_nf B)) f_waiting f_fault f_frames f_box f_pc f_status f_result f_memory a_child a_verdict a_ruleNode a_before a_nodesBefore a_bytes a_path a_pathAt a_params a_locals a_from a_size a_high a_loaded a_emitted a_entry a_pParams a_pFunctions a_pImports a_pPath a_judged a_fine a_newAt a_plugin a_quota a_statics a_slot a_back a_entries d) (nI f) (nI (ph_sz B f)) (nI i) f_nodes f_rules f_version f_count f_at f_place f_number (nI (B 1)) (nI (ph_nf B)) f_waiting f_fault f_frames f_box f_pc f_status f_result f_memory a_child a_verdict a_ruleNode a_before a_nodesBefore a_bytes a_path a_pathAt a_params a_locals a_from a_size a_high a_loaded a_emitted a_entry a_pParams a_pFunctions a_pImports a_pPath a_judged a_fine a_newAt a_plugin a_quota a_statics a_slot a_back a_entries := by
      intro z
      have hg := ph_isbad_f z
      rw [if_neg (by rw [z]; decide)] at k0 k4
      unfold wX_checkCode_99
      refine ph_xwidthAt hW hB hF hf h (nm_r (nI_add _ _) ?_)
      exact ih _ (by omega) (by omega) k0 k4
    refine ph_xcode hW hB hF hf h ?_
    refine pk_lt 16 (ph_cdo B f i) (fun h3 => h40 (by unfold ph_isbad; simp [h3])) (fun h3 => ?_)
    refine ph_xwidth hc ?_
    rw [nI_add]
    refine pk_le (i + ph_wd (ph_cdo B f i)) (ph_sz B f) (fun h4 => ?_) (fun h4 => h40 (by unfold ph_isbad; simp [h4]))
    refine ph_xwidth hc ?_
    refine pk_eq (ph_wd (ph_cdo B f i)) 2 (fun h5 => ?_) (fun h5 => h99 (by unfold ph_isbad; simp [h5]; omega))
    have h1' : i + 1 < ph_sz B f := by omega
    rw [nI_1]
    refine ph_xcode hW hB hF hf h1' ?_
    refine ph_xfits hW hF hf (by omega) h5 (ph_xcl hW hB hf h1') (fun h6 => br_f (by decide) (h99 (by unfold ph_isbad; simp [h5]; omega))) (fun h6 => br_t rfl ?_)
    rw [nI_clamp (by omega), (hF f hf).2.2.1, nI_add]
    exact ⟨vp_in_nI hx.2 (by omega), bad (by unfold ph_isbad; simp [h5, h6])⟩
theorem ph_xcheckCode {post : Int32 → SX → Prop} {f : Nat} (hW : ph_WF B L) (hB : ph_BX B a_bytes) (hF : ph_FA B (ph_nf B) a_params a_locals a_from a_size) (hf : f < ph_nf B)
    (k0 : ph_ccr B f = (0, 0) → post 0 (f_nodes, f_rules, f_version, f_count, f_at, f_place, f_number, nI (B 1), nI (ph_nf B), f_waiting, f_fault, f_frames, f_box, f_pc, f_status, f_result, f_memory, a_child, a_verdict, a_ruleNode, a_before, a_nodesBefore, a_bytes, a_path, a_pathAt, a_params, a_locals, a_from, a_size, a_high, a_loaded, a_emitted, a_entry, a_pParams, a_pFunctions, a_pImports, a_pPath, a_judged, a_fine, a_newAt, a_plugin, a_quota, a_statics, a_slot, a_back, a_entries))
    (k1 : ∀ pl, ph_ccr B f = (4, pl) → post 4 (f_nodes, f_rules, f_version, f_count, f_at, nI pl, f_number, nI (B 1), nI (ph_nf B), f_waiting, f_fault, f_frames, f_box, f_pc, f_status, f_result, f_memory, a_child, a_verdict, a_ruleNode, a_before, a_nodesBefore, a_bytes, a_path, a_pathAt, a_params, a_locals, a_from, a_size, a_high, a_loaded, a_emitted, a_entry, a_pParams, a_pFunctions, a_pImports, a_pPath, a_judged, a_fine, a_newAt, a_plugin, a_quota, a_statics, a_slot, a_back, a_entries)) :
    wpX_checkCode post (f_nodes, f_rules, f_version, f_count, f_at, f_place, f_number, nI (B 1), nI (ph_nf B), f_waiting, f_fault, f_frames, f_box, f_pc, f_status, f_result, f_memory, a_child, a_verdict, a_ruleNode, a_before, a_nodesBefore, a_bytes, a_path, a_pathAt, a_params, a_locals, a_from, a_size, a_high, a_loaded, a_emitted, a_entry, a_pParams, a_pFunctions, a_pImports, a_pPath, a_judged, a_fine, a_newAt, a_plugin, a_quota, a_statics, a_slot, a_back, a_entries) (nI f) := by
  have hs := ph_szb hW hf
  have hn := hW.2.2.2.2.1
  unfold wpX_checkCode
  try dsimp only
  rw [nI_clamp (by omega)]
  refine ⟨vp_in_nI (by omega) (by omega), nm_r (hF f hf).2.2.2 ⟨41, ?_⟩⟩
  refine ph_xcc hW hB hF hf 41 0 (by omega) (by omega) (fun h => k0 (if_pos h)) (fun r h hr => k1 _ ?_)
  unfold ph_ccr
  rw [if_neg (by omega), h]
/-! jumps -/
theorem ph_xcj13 {post : Int32 → SX → Prop} {f : Nat} (hW : ph_WF B L) (hB : ph_BX B a_bytes) (hF : ph_FA B (ph_nf B) a_params a_locals a_from a_size) (hf : f < ph_nf B)
    (hC : ph_CO (ph_nf B) (B 1) (B (ph_hd B f) + B (ph_hd B f + 1)) (ph_sz B f) (ph_cdo B f))
    (K : ∀ w, (∀ j, j < 64 → (ph_bit w j = true ↔ ph_St (ph_cdo B f) j ∧ j < ph_sz B f)) → ∃ n45 : Nat, wX_checkJumps_45 post (nI f) w (nI (ph_sz B f)) f_nodes f_rules f_version f_count f_at f_place f_number f_imports f_functions f_waiting f_fault f_frames f_box f_pc f_status f_result f_memory a_child a_verdict a_ruleNode a_before a_nodesBefore a_bytes a_path a_pathAt a_params a_locals a_from a_size a_high a_loaded a_emitted a_entry a_pParams a_pFunctions a_pImports a_pPath a_judged a_fine a_newAt a_plugin a_quota a_statics a_slot a_back a_entries n45 0) :
    ∀ d i w, ph_St (ph_cdo B f) i → i ≤ ph_sz B f → ph_sz B f ≤ i + d → (∀ j, j < 64 → (ph_bit w j = true ↔ ph_St (ph_cdo B f) j ∧ j < i)) →
      wX_checkJumps_13 post (nI f) (nI (ph_sz B f)) f_nodes f_rules f_version f_count f_at f_place f_number f_imports f_functions f_waiting f_fault f_frames f_box f_pc f_status f_result f_memory a_child a_verdict a_ruleNode a_before a_nodesBefore a_bytes a_path a_pathAt a_params a_locals a_from a_size a_high a_loaded a_emitted a_entry a_pParams a_pFunctions a_pImports a_pPath a_judged a_fine a_newAt a_plugin a_quota a_statics a_slot a_back a_entries (d + 1) w (nI i) := by
  have hs := ph_szb hW hf
  have fin : ∀ i w, i = ph_sz B f → (∀ j, j < 64 → (ph_bit w j = true ↔ ph_St (ph_cdo B f) j ∧ j < i)) → ∃ n45 : Nat, wX_checkJumps_45 post (nI f) w (nI (ph_sz B f)) f_nodes f_rules f_version f_count f_at f_place f_number f_imports f_functions f_waiting f_fault f_frames f_box f_pc f_status f_result f_memory a_child a_verdict a_ruleNode a_before a_nodesBefore a_bytes a_path a_pathAt a_params a_locals a_from a_size a_high a_loaded a_emitted a_entry a_pParams a_pFunctions a_pImports a_pPath a_judged a_fine a_newAt a_plugin a_quota a_statics a_slot a_back a_entries n45 0 := by
    intro i w e h
    subst e
    exact K w h
  intro d
  induction d with
  | zero =>
    intro i w hi h1 h2 hw
    rw [wX_checkJumps_13]
    exact br_t (nI_le (by omega) (by omega)) (fin i w (by omega) hw)
  | succ d ih =>
    intro i w hi h1 h2 hw
    rw [wX_checkJumps_13]
    refine pk_le (ph_sz B f) i (fun h => fin i w (by omega) hw) (fun h => nm_e ?_)
    have hg := ph_isbad_f (hC i hi h)
    have hwd := ph_wd_b (ph_cdo B f i)
    refine ph_xwidthAt hW hB hF hf h (nm_r (nI_add _ _) ?_)
    refine ih _ _ (ph_St_s hi) (by omega) (by omega) (fun j hj => ?_)
    rw [ph_bit_or w (by omega : i < 64), Bool.or_eq_true, decide_eq_true_eq, hw j hj]
    constructor
    · rintro (⟨a, b⟩ | e)
      · exact ⟨a, by omega⟩
      · subst e; exact ⟨hi, by omega⟩
    · rintro ⟨a, b⟩
      rcases ph_St_lt hi a b with z | z
      · exact Or.inl ⟨a, z⟩
      · exact Or.inr z
theorem ph_tgI {i b : Nat} (hi : i < 200) (hb : b < 256) : (nI (i + 2) + ph_sv b).toInt = (i : Int) + 2 + ph_sb b := by
  rw [ph_add_sv (by omega) hb]; omega
theorem ph_xcj45 {post : Int32 → SX → Prop} {f : Nat} {w : Int64} (hW : ph_WF B L) (hB : ph_BX B a_bytes) (hF : ph_FA B (ph_nf B) a_params a_locals a_from a_size) (hf : f < ph_nf B)
    (hC : ph_CO (ph_nf B) (B 1) (B (ph_hd B f) + B (ph_hd B f + 1)) (ph_sz B f) (ph_cdo B f))
    (hw : ∀ j, j < 64 → (ph_bit w j = true ↔ ph_St (ph_cdo B f) j ∧ j < ph_sz B f)) :
    ∀ d i, ph_St (ph_cdo B f) i → i ≤ ph_sz B f → ph_sz B f < i + d → (ph_jj (ph_sz B f) (ph_cdo B f) d i = ph_sz B f → post 0 (f_nodes, f_rules, f_version, f_count, f_at, f_place, f_number, f_imports, f_functions, f_waiting, f_fault, f_frames, f_box, f_pc, f_status, f_result, f_memory, a_child, a_verdict, a_ruleNode, a_before, a_nodesBefore, a_bytes, a_path, a_pathAt, a_params, a_locals, a_from, a_size, a_high, a_loaded, a_emitted, a_entry, a_pParams, a_pFunctions, a_pImports, a_pPath, a_judged, a_fine, a_newAt, a_plugin, a_quota, a_statics, a_slot, a_back, a_entries)) →
      (∀ r, ph_jj (ph_sz B f) (ph_cdo B f) d i = r → r < ph_sz B f → post 5 (f_nodes, f_rules, f_version, f_count, f_at, nI (ph_hd B f + 3 + r), f_number, f_imports, f_functions, f_waiting, f_fault, f_frames, f_box, f_pc, f_status, f_result, f_memory, a_child, a_verdict, a_ruleNode, a_before, a_nodesBefore, a_bytes, a_path, a_pathAt, a_params, a_locals, a_from, a_size, a_high, a_loaded, a_emitted, a_entry, a_pParams, a_pFunctions, a_pImports, a_pPath, a_judged, a_fine, a_newAt, a_plugin, a_quota, a_statics, a_slot, a_back, a_entries)) → wX_checkJumps_45 post (nI f) w (nI (ph_sz B f)) f_nodes f_rules f_version f_count f_at f_place f_number f_imports f_functions f_waiting f_fault f_frames f_box f_pc f_status f_result f_memory a_child a_verdict a_ruleNode a_before a_nodesBefore a_bytes a_path a_pathAt a_params a_locals a_from a_size a_high a_loaded a_emitted a_entry a_pParams a_pFunctions a_pImports a_pPath a_judged a_fine a_newAt a_plugin a_quota a_statics a_slot a_back a_entries d (nI i) := by
  have hs := ph_szb hW hf
  intro d
  induction d with
  | zero => intro i _ h1 h2; omega
  | succ d ih =>
    intro i hi h1 h2 k0 k5
    rw [wX_checkJumps_45]
    refine pk_le (ph_sz B f) i (fun h => k0 (by simp only [ph_jj]; rw [if_pos h])) (fun h => ?_)
    have hx := ph_xix hW hf h
    have hg := ph_isbad_f (hC i hi h)
    have hwd := ph_wd_b (ph_cdo B f i)
    simp only [ph_jj] at k0 k5
    rw [if_neg (by omega)] at k0 k5
    have h125 : ¬ (ph_isj (ph_cdo B f i) = true ∧ ph_b (ph_tok (ph_sz B f) (ph_cdo B f) i) = 0) → wX_checkJumps_125 post (wX_checkJumps_45 post (nI f) w (nI (ph_sz B f)) f_nodes f_rules f_version f_count f_at f_place f_number f_imports f_functions f_waiting f_fault f_frames f_box f_pc f_status f_result f_memory a_child a_verdict a_ruleNode a_before a_nodesBefore a_bytes a_path a_pathAt a_params a_locals a_from a_size a_high a_loaded a_emitted a_entry a_pParams a_pFunctions a_pImports a_pPath a_judged a_fine a_newAt a_plugin a_quota a_statics a_slot a_back a_entries d) (nI f) w (nI (ph_sz B f)) (nI i) f_nodes f_rules f_version f_count f_at f_place f_number f_imports f_functions f_waiting f_fault f_frames f_box f_pc f_status f_result f_memory a_child a_verdict a_ruleNode a_before a_nodesBefore a_bytes a_path a_pathAt a_params a_locals a_from a_size a_high a_loaded a_emitted a_entry a_pParams a_pFunctions a_pImports a_pPath a_judged a_fine a_newAt a_plugin a_quota a_statics a_slot a_back a_entries := by
      intro z
      rw [if_neg z] at k0 k5
      unfold wX_checkJumps_125
      exact ph_xwidthAt hW hB hF hf h (nm_r (nI_add _ _) (ih _ (ph_St_s hi) (by omega) (by omega) k0 k5))
    have h110 : ph_isj (ph_cdo B f i) = true → ¬ ph_tok (ph_sz B f) (ph_cdo B f) i → wX_checkJumps_110 post (nI f) (nI i) f_nodes f_rules f_version f_count f_at f_place f_number f_imports f_functions f_waiting f_fault f_frames f_box f_pc f_status f_result f_memory a_child a_verdict a_ruleNode a_before a_nodesBefore a_bytes a_path a_pathAt a_params a_locals a_from a_size a_high a_loaded a_emitted a_entry a_pParams a_pFunctions a_pImports a_pPath a_judged a_fine a_newAt a_plugin a_quota a_statics a_slot a_back a_entries := by
      intro z1 z2
      unfold wX_checkJumps_110
      rw [nI_clamp (by omega), (hF f hf).2.2.1, nI_add]
      exact ⟨vp_in_nI hx.2 (by omega), k5 i (if_pos ⟨z1, ph_b_f z2⟩) h⟩
    have h78 : ph_isj (ph_cdo B f i) = true → ph_wd (ph_cdo B f i) = 2 → wX_checkJumps_78 post (wX_checkJumps_45 post (nI f) w (nI (ph_sz B f)) f_nodes f_rules f_version f_count f_at f_place f_number f_imports f_functions f_waiting f_fault f_frames f_box f_pc f_status f_result f_memory a_child a_verdict a_ruleNode a_before a_nodesBefore a_bytes a_path a_pathAt a_params a_locals a_from a_size a_high a_loaded a_emitted a_entry a_pParams a_pFunctions a_pImports a_pPath a_judged a_fine a_newAt a_plugin a_quota a_statics a_slot a_back a_entries d) (nI f) w (nI (ph_sz B f)) (nI i) f_nodes f_rules f_version f_count f_at f_place f_number f_imports f_functions f_waiting f_fault f_frames f_box f_pc f_status f_result f_memory a_child a_verdict a_ruleNode a_before a_nodesBefore a_bytes a_path a_pathAt a_params a_locals a_from a_size a_high a_loaded a_emitted a_entry a_pParams a_pFunctions a_pImports a_pPath a_judged a_fine a_newAt a_plugin a_quota a_statics a_slot a_back a_entries := by
      intro z1 z2
      have h1' : i + 1 < ph_sz B f := by omega
      have hcb := ph_xcl hW hB hf h1'
      have ht := ph_tgI (i := i) (b := ph_cdo B f (i + 1)) (by omega) hcb
      unfold wX_checkJumps_78
      refine ph_xtarget hW hB hF hf h1' ?_
      refine br_c (fun q => h110 z1 ?_) (fun q => ?_)
      · rintro ⟨t, t1, t2, t3⟩
        rw [ph_lt0, ht] at q
        unfold ph_tg at t3; omega
      · obtain ⟨t, ht2, et⟩ := nI_of q
        rw [et, nI_toInt ht2] at ht
        rw [et]
        refine pk_le (ph_sz B f) t (fun q2 => h110 z1 ?_) (fun q2 => ?_)
        · rintro ⟨t', t1, t2, t3⟩
          unfold ph_tg at t3; omega
        · rw [ph_bit_t w (by omega : t < 64)]
          refine br_c (fun q3 => h110 z1 ?_) (fun q3 => h125 ?_)
          · rintro ⟨t', t1, t2, t3⟩
            have : t' = t := by unfold ph_tg at t3; omega
            subst this
            rw [(hw t' (by omega)).mpr ⟨t1, t2⟩] at q3
            exact absurd q3 (by decide)
          · rintro ⟨-, c⟩
            have hq : ph_bit w t = true := by
              cases hh : ph_bit w t with
              | false => exact absurd hh q3
              | true => rfl
            obtain ⟨s1, s2⟩ := (hw t (by omega)).mp hq
            exact ph_b_0 c ⟨t, s1, s2, by unfold ph_tg; omega⟩
    have hwj : ph_cdo B f i = 10 ∨ ph_cdo B f i = 11 → ph_wd (ph_cdo B f i) = 2 := fun z => if_pos (by omega)
    refine ph_xcode hW hB hF hf h ?_
    have hc := ph_xcl hW hB hf h
    refine pk_eq (ph_cdo B f i) 10 (fun h3 => h78 (by rw [h3]; rfl) (hwj (Or.inl h3))) (fun h3 => pk_eq (ph_cdo B f i) 11 (fun h4 => h78 (by rw [h4]; rfl) (hwj (Or.inr h4))) (fun h4 => h125 ?_))
    rintro ⟨z, -⟩
    unfold ph_isj at z
    simp [h3, h4] at z
theorem ph_xcheckJumps {post : Int32 → SX → Prop} {f : Nat} (hW : ph_WF B L) (hB : ph_BX B a_bytes) (hF : ph_FA B (ph_nf B) a_params a_locals a_from a_size) (hf : f < ph_nf B)
    (hC : ph_CO (ph_nf B) (B 1) (B (ph_hd B f) + B (ph_hd B f + 1)) (ph_sz B f) (ph_cdo B f))
    (k0 : ph_jjr B f = (0, 0) → post 0 (f_nodes, f_rules, f_version, f_count, f_at, f_place, f_number, f_imports, f_functions, f_waiting, f_fault, f_frames, f_box, f_pc, f_status, f_result, f_memory, a_child, a_verdict, a_ruleNode, a_before, a_nodesBefore, a_bytes, a_path, a_pathAt, a_params, a_locals, a_from, a_size, a_high, a_loaded, a_emitted, a_entry, a_pParams, a_pFunctions, a_pImports, a_pPath, a_judged, a_fine, a_newAt, a_plugin, a_quota, a_statics, a_slot, a_back, a_entries)) (k1 : ∀ pl, ph_jjr B f = (5, pl) → post 5 (f_nodes, f_rules, f_version, f_count, f_at, nI pl, f_number, f_imports, f_functions, f_waiting, f_fault, f_frames, f_box, f_pc, f_status, f_result, f_memory, a_child, a_verdict, a_ruleNode, a_before, a_nodesBefore, a_bytes, a_path, a_pathAt, a_params, a_locals, a_from, a_size, a_high, a_loaded, a_emitted, a_entry, a_pParams, a_pFunctions, a_pImports, a_pPath, a_judged, a_fine, a_newAt, a_plugin, a_quota, a_statics, a_slot, a_back, a_entries)) : wpX_checkJumps post (f_nodes, f_rules, f_version, f_count, f_at, f_place, f_number, f_imports, f_functions, f_waiting, f_fault, f_frames, f_box, f_pc, f_status, f_result, f_memory, a_child, a_verdict, a_ruleNode, a_before, a_nodesBefore, a_bytes, a_path, a_pathAt, a_params, a_locals, a_from, a_size, a_high, a_loaded, a_emitted, a_entry, a_pParams, a_pFunctions, a_pImports, a_pPath, a_judged, a_fine, a_newAt, a_plugin, a_quota, a_statics, a_slot, a_back, a_entries) (nI f) := by
  have hs := ph_szb hW hf
  have hn := hW.2.2.2.2.1
  unfold wpX_checkJumps
  try dsimp only
  rw [nI_clamp (by omega)]
  refine ⟨vp_in_nI (by omega) (by omega), nm_r (hF f hf).2.2.2 ⟨ph_sz B f + 1, ?_⟩⟩
  refine ph_xcj13 hW hB hF hf hC (fun w hw => ⟨41, ?_⟩) (ph_sz B f) 0 0 (ph_St_0 _) (by omega) (by omega) (fun j hj => ?_)
  · refine ph_xcj45 hW hB hF hf hC hw 41 0 (ph_St_0 _) (by omega) (by omega) (fun h => k0 (if_pos h)) (fun r h hr => k1 _ ?_)
    unfold ph_jjr
    rw [if_neg (by omega), h]
  · rw [ph_bit_0]
    constructor
    · intro z; exact absurd z (by decide)
    · rintro ⟨-, z⟩; omega
end
end
section
/-! ===== the reference's checks of the code ===== -/
section
variable {g_rules g_place g_number g_pos g_finding g_active g_result : Int32} {g_memory : Int64} {b_ruleParts b_rulePath b_ruleAllows b_bytes b_length b_present b_ways b_boxPlugin b_boxQuota b_boxOpen b_statics b_aFn b_aPos b_aHigh b_aLocal b_aEntry : Nat → Int32}
variable {B : Nat → Nat} {L : Nat}
theorem ph_y117 {post : Int32 → SY → Prop} {J : Int32 → Prop} {x2 x3 x6 : Int32} {op v l nf ni : Nat} (ho : op < 256) (hl : l = if op = 12 then nf else if op = 13 then ni else if op = 14 ∨ op = 15 then 4 else v)
    (k : wY_codes_156 post J x2 x3 (nI nf) (nI ni) x6 (nI op) (nI l) g_rules g_place g_number g_pos g_finding g_active g_result g_memory b_ruleParts b_rulePath b_ruleAllows b_bytes b_length b_present b_ways b_boxPlugin b_boxQuota b_boxOpen b_statics b_aFn b_aPos b_aHigh b_aLocal b_aEntry) : wY_codes_117 post J x2 x3 (nI nf) (nI ni) x6 (nI op) (nI v) g_rules g_place g_number g_pos g_finding g_active g_result g_memory b_ruleParts b_rulePath b_ruleAllows b_bytes b_length b_present b_ways b_boxPlugin b_boxQuota b_boxOpen b_statics b_aFn b_aPos b_aHigh b_aLocal b_aEntry := by
  have h153 : l = 4 → wY_codes_153 post J x2 x3 (nI nf) (nI ni) x6 (nI op) g_rules g_place g_number g_pos g_finding g_active g_result g_memory b_ruleParts b_rulePath b_ruleAllows b_bytes b_length b_present b_ways b_boxPlugin b_boxQuota b_boxOpen b_statics b_aFn b_aPos b_aHigh b_aLocal b_aEntry := by
    intro e; subst e; unfold wY_codes_153; exact k
  have h139 : ∀ u, (op ≠ 14 → op ≠ 15 → l = u) → (op = 14 ∨ op = 15 → l = 4) → wY_codes_139 post J x2 x3 (nI nf) (nI ni) x6 (nI op) (nI u) g_rules g_place g_number g_pos g_finding g_active g_result g_memory b_ruleParts b_rulePath b_ruleAllows b_bytes b_length b_present b_ways b_boxPlugin b_boxQuota b_boxOpen b_statics b_aFn b_aPos b_aHigh b_aLocal b_aEntry := by
    intro u e1 e2
    unfold wY_codes_139
    refine pk_eq op 14 (fun h => h153 (e2 (Or.inl h))) (fun h => pk_eq op 15 (fun h' => h153 (e2 (Or.inr h'))) (fun h' => ?_))
    rw [← e1 h h']; exact k
  have h128 : ∀ u, (op ≠ 13 → op ≠ 14 → op ≠ 15 → l = u) → (op = 13 → l = ni) → (op = 14 ∨ op = 15 → l = 4) → wY_codes_128 post J x2 x3 (nI nf) (nI ni) x6 (nI op) (nI u) g_rules g_place g_number g_pos g_finding g_active g_result g_memory b_ruleParts b_rulePath b_ruleAllows b_bytes b_length b_present b_ways b_boxPlugin b_boxQuota b_boxOpen b_statics b_aFn b_aPos b_aHigh b_aLocal b_aEntry := by
    intro u e1 e2 e3
    unfold wY_codes_128
    exact pk_eq op 13 (fun h => h139 ni (fun _ _ => e2 h) e3) (fun h => h139 u (e1 h) e3)
  unfold wY_codes_117
  refine pk_eq op 12 (fun h => h128 nf (fun _ _ _ => by rw [hl, if_pos h]) (fun h' => by omega) (fun h' => by omega)) (fun h => h128 v (fun a b c => ?_) (fun a => ?_) (fun a => ?_))
  · rw [hl, if_neg h, if_neg a, if_neg (by omega)]
  · rw [hl, if_neg h, if_pos a]
  · rw [hl, if_neg h, if_neg (by omega), if_pos a]
theorem ph_y88 {post : Int32 → SY → Prop} {J : Int32 → Prop} {x3 x6 : Int32} {f op : Nat} (hB : ph_BY B L 3 b_bytes) (hW : ph_WF B L) (hf : f < ph_nf B) (ho : op < 256)
    (k : wY_codes_156 post J (nI (120 * 3 + ph_hd B f)) x3 (nI (ph_nf B)) (nI (B 1)) x6 (nI op) (nI (ph_lim (ph_nf B) (B 1) (B (ph_hd B f) + B (ph_hd B f + 1)) op)) g_rules g_place g_number g_pos g_finding g_active g_result g_memory b_ruleParts b_rulePath b_ruleAllows b_bytes b_length b_present b_ways b_boxPlugin b_boxQuota b_boxOpen b_statics b_aFn b_aPos b_aHigh b_aLocal b_aEntry) :
    wY_codes_88 post J (nI (120 * 3 + ph_hd B f)) x3 (nI (ph_nf B)) (nI (B 1)) x6 (nI op) 256 g_rules g_place g_number g_pos g_finding g_active g_result g_memory b_ruleParts b_rulePath b_ruleAllows b_bytes b_length b_present b_ways b_boxPlugin b_boxQuota b_boxOpen b_statics b_aFn b_aPos b_aHigh b_aLocal b_aEntry := by
  have hb := ph_hd_b hW hf
  have h100 : (op = 1 ∨ op = 2) → wY_codes_100 post J (nI (120 * 3 + ph_hd B f)) x3 (nI (ph_nf B)) (nI (B 1)) x6 (nI op) g_rules g_place g_number g_pos g_finding g_active g_result g_memory b_ruleParts b_rulePath b_ruleAllows b_bytes b_length b_present b_ways b_boxPlugin b_boxQuota b_boxOpen b_statics b_aFn b_aPos b_aHigh b_aLocal b_aEntry := by
    intro h
    unfold wY_codes_100
    rw [nI_1, nI_clamp (by omega), nI_clamp (by omega), (hB (ph_hd B f) (by omega)).1, show 120 * 3 + ph_hd B f + 1 = 120 * 3 + (ph_hd B f + 1) by omega, (hB (ph_hd B f + 1) (by omega)).1]
    refine ⟨vp_in_nI (by omega) (by omega), vp_in_nI (by omega) (by omega), nm_r (nI_add _ _) (ph_y117 ho ?_ k)⟩
    unfold ph_lim
    rw [if_pos h, if_neg (by omega), if_neg (by omega), if_neg (by omega)]
  unfold wY_codes_88
  refine pk_eq op 1 (fun h => h100 (Or.inl h)) (fun h => pk_eq op 2 (fun h' => h100 (Or.inr h')) (fun h' => ?_))
  refine ph_y117 (v := 256) ho ?_ k
  unfold ph_lim
  rw [if_neg (by omega)]
theorem ph_ycc {post : Int32 → SY → Prop} {f : Nat} (hB : ph_BY B L 3 b_bytes) (hW : ph_WF B L) (hf : f < ph_nf B) :
    ∀ d i, i ≤ ph_sz B f → ph_sz B f < i + d →
      (ph_cc (ph_nf B) (B 1) (B (ph_hd B f) + B (ph_hd B f + 1)) (ph_sz B f) (ph_cdo B f) d i = ph_sz B f → post 1 (g_rules, g_place, g_number, g_pos, g_finding, g_active, g_result, g_memory, b_ruleParts, b_rulePath, b_ruleAllows, b_bytes, b_length, b_present, b_ways, b_boxPlugin, b_boxQuota, b_boxOpen, b_statics, b_aFn, b_aPos, b_aHigh, b_aLocal, b_aEntry)) →
      (∀ r, ph_cc (ph_nf B) (B 1) (B (ph_hd B f) + B (ph_hd B f + 1)) (ph_sz B f) (ph_cdo B f) d i = r → r < ph_sz B f → post 0 (g_rules, nI (ph_hd B f + 3 + r), g_number, g_pos, 4, g_active, g_result, g_memory, b_ruleParts, b_rulePath, b_ruleAllows, b_bytes, b_length, b_present, b_ways, b_boxPlugin, b_boxQuota, b_boxOpen, b_statics, b_aFn, b_aPos, b_aHigh, b_aLocal, b_aEntry)) →
      wY_codes_33 post (nI (120 * 3 + ph_hd B f)) (nI (120 * 3 + ph_hd B f + 3 + ph_sz B f)) (nI (ph_nf B)) (nI (B 1)) g_rules g_place g_number g_pos g_finding g_active g_result g_memory b_ruleParts b_rulePath b_ruleAllows b_bytes b_length b_present b_ways b_boxPlugin b_boxQuota b_boxOpen b_statics b_aFn b_aPos b_aHigh b_aLocal b_aEntry d (nI (120 * 3 + ph_hd B f + 3 + i)) := by
  have hs := ph_szb hW hf
  have hb := ph_hd_b hW hf
  have hsz : B (ph_hd B f + 2) = ph_sz B f := rfl
  rw [hsz] at hb
  intro d
  induction d with
  | zero => intro i h1 h2; omega
  | succ d ih =>
    intro i h1 h2 k1 k0
    rw [wY_codes_33]
    refine pk_le (120 * 3 + ph_hd B f + 3 + ph_sz B f) (120 * 3 + ph_hd B f + 3 + i) (fun h => k1 (by simp only [ph_cc]; rw [if_pos (by omega)])) (fun h => ?_)
    have hi : i < ph_sz B f := by omega
    obtain ⟨ey, hc⟩ := ph_yb (p := 3) (i := i) hB hW hf hi
    have hwd := ph_wd_b (ph_cdo B f i)
    simp only [ph_cc] at k1 k0
    rw [if_neg (by omega)] at k1 k0
    have bad : ph_isbad (ph_nf B) (B 1) (B (ph_hd B f) + B (ph_hd B f + 1)) (ph_sz B f) (ph_cdo B f) i = true → post 0 (g_rules, nI (120 * 3 + ph_hd B f + 3 + i) - 360, g_number, g_pos, 4, g_active, g_result, g_memory, b_ruleParts, b_rulePath, b_ruleAllows, b_bytes, b_length, b_present, b_ways, b_boxPlugin, b_boxQuota, b_boxOpen, b_statics, b_aFn, b_aPos, b_aHigh, b_aLocal, b_aEntry) := fun z => by
      rw [show 120 * 3 + ph_hd B f + 3 + i = 360 + (ph_hd B f + 3 + i) by omega, ph_m360]
      exact k0 i (by rw [if_pos z]) hi
    have h76 : ph_isbad (ph_nf B) (B 1) (B (ph_hd B f) + B (ph_hd B f + 1)) (ph_sz B f) (ph_cdo B f) i = true → wY_codes_76 post (nI (120 * 3 + ph_hd B f + 3 + i)) g_rules g_place g_number g_pos g_finding g_active g_result g_memory b_ruleParts b_rulePath b_ruleAllows b_bytes b_length b_present b_ways b_boxPlugin b_boxQuota b_boxOpen b_statics b_aFn b_aPos b_aHigh b_aLocal b_aEntry := by
      intro z
      unfold wY_codes_76
      exact ⟨rfl, bad z⟩
    have h190 : ph_isbad (ph_nf B) (B 1) (B (ph_hd B f) + B (ph_hd B f + 1)) (ph_sz B f) (ph_cdo B f) i = false →
        wY_codes_190 post (wY_codes_33 post (nI (120 * 3 + ph_hd B f)) (nI (120 * 3 + ph_hd B f + 3 + ph_sz B f)) (nI (ph_nf B)) (nI (B 1)) g_rules g_place g_number g_pos g_finding g_active g_result g_memory b_ruleParts b_rulePath b_ruleAllows b_bytes b_length b_present b_ways b_boxPlugin b_boxQuota b_boxOpen b_statics b_aFn b_aPos b_aHigh b_aLocal b_aEntry d) (nI (120 * 3 + ph_hd B f)) (nI (120 * 3 + ph_hd B f + 3 + ph_sz B f)) (nI (ph_nf B)) (nI (B 1)) (nI (120 * 3 + ph_hd B f + 3 + i)) (nI (ph_cdo B f i)) g_rules g_place g_number g_pos g_finding g_active g_result g_memory b_ruleParts b_rulePath b_ruleAllows b_bytes b_length b_present b_ways b_boxPlugin b_boxQuota b_boxOpen b_statics b_aFn b_aPos b_aHigh b_aLocal b_aEntry := by
      intro z
      have hg := ph_isbad_f z
      rw [if_neg (by rw [z]; decide)] at k1 k0
      have J := ih (i + ph_wd (ph_cdo B f i)) (by omega) (by omega) k1 k0
      unfold wY_codes_190
      refine ph_ywide hc (fun w => br_t rfl (nm_r (nI_1 _) ?_)) (fun w => br_f (by decide) (nm_r (ph_p2 _) ?_))
      · rw [w] at J; exact J
      · rw [w] at J; exact J
    have h88 : i + ph_wd (ph_cdo B f i) ≤ ph_sz B f → ph_cdo B f i ≤ 16 →
        wY_codes_88 post (wY_codes_33 post (nI (120 * 3 + ph_hd B f)) (nI (120 * 3 + ph_hd B f + 3 + ph_sz B f)) (nI (ph_nf B)) (nI (B 1)) g_rules g_place g_number g_pos g_finding g_active g_result g_memory b_ruleParts b_rulePath b_ruleAllows b_bytes b_length b_present b_ways b_boxPlugin b_boxQuota b_boxOpen b_statics b_aFn b_aPos b_aHigh b_aLocal b_aEntry d) (nI (120 * 3 + ph_hd B f)) (nI (120 * 3 + ph_hd B f + 3 + ph_sz B f)) (nI (ph_nf B)) (nI (B 1)) (nI (120 * 3 + ph_hd B f + 3 + i)) (nI (ph_cdo B f i)) 256 g_rules g_place g_number g_pos g_finding g_active g_result g_memory b_ruleParts b_rulePath b_ruleAllows b_bytes b_length b_present b_ways b_boxPlugin b_boxQuota b_boxOpen b_statics b_aFn b_aPos b_aHigh b_aLocal b_aEntry := by
      intro z1 z2
      refine ph_y88 hB hW hf hc ?_
      unfold wY_codes_156
      refine ph_ywide hc (fun w => br_t rfl (h190 (by unfold ph_isbad; simp [w]; omega))) (fun w => br_f (by decide) ?_)
      have hi' : i + 1 < ph_sz B f := by omega
      obtain ⟨ey', hc'⟩ := ph_yb (p := 3) (i := i + 1) hB hW hf hi'
      rw [nI_1, nI_clamp (by omega), show 120 * 3 + ph_hd B f + 3 + i + 1 = 120 * 3 + ph_hd B f + 3 + (i + 1) by omega, ey']
      have hlim : ph_lim (ph_nf B) (B 1) (B (ph_hd B f) + B (ph_hd B f + 1)) (ph_cdo B f i) < 2000 := by
        have q1 := hW.2.2.2.2.2.2 f hf
        have q2 := hW.2.1
        have q3 := hW.2.2.2.2.1
        unfold ph_lim
        split
        · omega
        · split
          · omega
          · split
            · omega
            · split <;> omega
      refine ⟨vp_in_nI (by omega) (by omega), pk_lt (ph_cdo B f (i + 1)) (ph_lim (ph_nf B) (B 1) (B (ph_hd B f) + B (ph_hd B f + 1)) (ph_cdo B f i)) (fun q => h190 (by unfold ph_isbad; simp [w]; omega)) (fun q => ⟨rfl, bad (by unfold ph_isbad; simp [w, q])⟩)⟩
    rw [nI_clamp (by omega)]
    refine ⟨vp_in_nI (by omega) (by omega), nm_r ey ?_⟩
    refine pk_lt 16 (ph_cdo B f i) (fun h3 => h76 (by unfold ph_isbad; simp [h3])) (fun h3 => ?_)
    refine ph_ywide hc (fun w => br_t rfl (h88 (by omega) h3)) (fun w => br_f (by decide) ?_)
    rw [nI_1]
    refine pk_eq (120 * 3 + ph_hd B f + 3 + i + 1) (120 * 3 + ph_hd B f + 3 + ph_sz B f) (fun h4 => h76 (by unfold ph_isbad; simp [w]; omega)) (fun h4 => h88 (by omega) h3)
theorem ph_ycodes {post : Int32 → SY → Prop} {f : Nat} (hB : ph_BY B L 3 b_bytes) (hW : ph_WF B L) (hf : f < ph_nf B)
    (k1 : ph_ccr B f = (0, 0) → post 1 (g_rules, g_place, g_number, g_pos, g_finding, g_active, g_result, g_memory, b_ruleParts, b_rulePath, b_ruleAllows, b_bytes, b_length, b_present, b_ways, b_boxPlugin, b_boxQuota, b_boxOpen, b_statics, b_aFn, b_aPos, b_aHigh, b_aLocal, b_aEntry)) (k0 : ∀ pl, ph_ccr B f = (4, pl) → post 0 (g_rules, nI pl, g_number, g_pos, 4, g_active, g_result, g_memory, b_ruleParts, b_rulePath, b_ruleAllows, b_bytes, b_length, b_present, b_ways, b_boxPlugin, b_boxQuota, b_boxOpen, b_statics, b_aFn, b_aPos, b_aHigh, b_aLocal, b_aEntry)) : wpY_codes post (g_rules, g_place, g_number, g_pos, g_finding, g_active, g_result, g_memory, b_ruleParts, b_rulePath, b_ruleAllows, b_bytes, b_length, b_present, b_ways, b_boxPlugin, b_boxQuota, b_boxOpen, b_statics, b_aFn, b_aPos, b_aHigh, b_aLocal, b_aEntry) (nI f) := by
  have hs := ph_szb hW hf
  unfold wpY_codes
  refine ph_yhead (p := 3) (by omega) hB hW hf (ph_ycodeEnd (p := 3) (by omega) hB hW hf (ph_yfunctions (p := 3) (by omega) hB hW.2.1 (by have := ph_WF_L hW; omega) hW.1 (ph_yimports (p := 3) (by omega) hB (by have := ph_WF_L hW; omega) (nm_r (ph_p3' _) ⟨41, ?_⟩))))
  refine ph_ycc hB hW hf 41 0 (by omega) (by omega) (fun h => k1 (if_pos h)) (fun r h hr => k0 _ ?_)
  unfold ph_ccr
  rw [if_neg (by omega), h]
theorem ph_yjj {post : Int32 → SY → Prop} {f : Nat} (hB : ph_BY B L 3 b_bytes) (hW : ph_WF B L) (hf : f < ph_nf B)
    (hC : ph_CO (ph_nf B) (B 1) (B (ph_hd B f) + B (ph_hd B f + 1)) (ph_sz B f) (ph_cdo B f)) :
    ∀ d i, ph_St (ph_cdo B f) i → i ≤ ph_sz B f → ph_sz B f < i + d → (ph_jj (ph_sz B f) (ph_cdo B f) d i = ph_sz B f → post 1 (g_rules, g_place, g_number, g_pos, g_finding, g_active, g_result, g_memory, b_ruleParts, b_rulePath, b_ruleAllows, b_bytes, b_length, b_present, b_ways, b_boxPlugin, b_boxQuota, b_boxOpen, b_statics, b_aFn, b_aPos, b_aHigh, b_aLocal, b_aEntry)) →
      (∀ r, ph_jj (ph_sz B f) (ph_cdo B f) d i = r → r < ph_sz B f → post 0 (g_rules, nI (ph_hd B f + 3 + r), g_number, g_pos, 5, g_active, g_result, g_memory, b_ruleParts, b_rulePath, b_ruleAllows, b_bytes, b_length, b_present, b_ways, b_boxPlugin, b_boxQuota, b_boxOpen, b_statics, b_aFn, b_aPos, b_aHigh, b_aLocal, b_aEntry)) →
      wY_jumps_14 post (nI f) (nI (120 * 3 + ph_hd B f + 3 + ph_sz B f)) g_rules g_place g_number g_pos g_finding g_active g_result g_memory b_ruleParts b_rulePath b_ruleAllows b_bytes b_length b_present b_ways b_boxPlugin b_boxQuota b_boxOpen b_statics b_aFn b_aPos b_aHigh b_aLocal b_aEntry d (nI (120 * 3 + ph_hd B f + 3 + i)) := by
  have hs := ph_szb hW hf
  have hb := ph_hd_b hW hf
  have hsz : B (ph_hd B f + 2) = ph_sz B f := rfl
  rw [hsz] at hb
  intro d
  induction d with
  | zero => intro i _ h1 h2; omega
  | succ d ih =>
    intro i hi h1 h2 k1 k0
    rw [wY_jumps_14]
    refine pk_le (120 * 3 + ph_hd B f + 3 + ph_sz B f) (120 * 3 + ph_hd B f + 3 + i) (fun h => k1 (by simp only [ph_jj]; rw [if_pos (by omega)])) (fun h => ?_)
    have hin : i < ph_sz B f := by omega
    obtain ⟨ey, hc⟩ := ph_yb (p := 3) (i := i) hB hW hf hin
    have hg := ph_isbad_f (hC i hi hin)
    have hwd := ph_wd_b (ph_cdo B f i)
    simp only [ph_jj] at k1 k0
    rw [if_neg (by omega)] at k1 k0
    have h73 : ¬ (ph_isj (ph_cdo B f i) = true ∧ ph_b (ph_tok (ph_sz B f) (ph_cdo B f) i) = 0) →
        wY_jumps_73 post (wY_jumps_14 post (nI f) (nI (120 * 3 + ph_hd B f + 3 + ph_sz B f)) g_rules g_place g_number g_pos g_finding g_active g_result g_memory b_ruleParts b_rulePath b_ruleAllows b_bytes b_length b_present b_ways b_boxPlugin b_boxQuota b_boxOpen b_statics b_aFn b_aPos b_aHigh b_aLocal b_aEntry d) (nI f) (nI (120 * 3 + ph_hd B f + 3 + ph_sz B f)) (nI (120 * 3 + ph_hd B f + 3 + i)) g_rules g_place g_number g_pos g_finding g_active g_result g_memory b_ruleParts b_rulePath b_ruleAllows b_bytes b_length b_present b_ways b_boxPlugin b_boxQuota b_boxOpen b_statics b_aFn b_aPos b_aHigh b_aLocal b_aEntry := by
      intro z
      rw [if_neg z] at k1 k0
      have J := ih (i + ph_wd (ph_cdo B f i)) (ph_St_s hi) (by omega) (by omega) k1 k0
      unfold wY_jumps_73
      rw [nI_clamp (by omega), ey]
      refine ⟨vp_in_nI (by omega) (by omega), ph_ywide hc (fun w => br_t rfl (nm_r (nI_1 _) ?_)) (fun w => br_f (by decide) (nm_r (ph_p2 _) ?_))⟩
      · rw [w] at J; exact J
      · rw [w] at J; exact J
    have h44 : ph_isj (ph_cdo B f i) = true → ph_wd (ph_cdo B f i) = 2 →
        wY_jumps_44 post (wY_jumps_14 post (nI f) (nI (120 * 3 + ph_hd B f + 3 + ph_sz B f)) g_rules g_place g_number g_pos g_finding g_active g_result g_memory b_ruleParts b_rulePath b_ruleAllows b_bytes b_length b_present b_ways b_boxPlugin b_boxQuota b_boxOpen b_statics b_aFn b_aPos b_aHigh b_aLocal b_aEntry d) (nI f) (nI (120 * 3 + ph_hd B f + 3 + ph_sz B f)) (nI (120 * 3 + ph_hd B f + 3 + i)) g_rules g_place g_number g_pos g_finding g_active g_result g_memory b_ruleParts b_rulePath b_ruleAllows b_bytes b_length b_present b_ways b_boxPlugin b_boxQuota b_boxOpen b_statics b_aFn b_aPos b_aHigh b_aLocal b_aEntry := by
      intro z1 z2
      have h1' : i + 1 < ph_sz B f := by omega
      obtain ⟨ey', hcb⟩ := ph_yb (p := 3) (i := i + 1) hB hW hf h1'
      have ht : (nI (120 * 3 + ph_hd B f + 3 + i + 2) + ph_sv (ph_cdo B f (i + 1))).toInt = ((120 * 3 + ph_hd B f + 3 : Nat) : Int) + ph_tg (ph_cdo B f) i := by
        rw [ph_add_sv (by omega) hcb]; unfold ph_tg; omega
      have hiff : (∃ j, ph_St (ph_cdo B f) j ∧ j < ph_sz B f ∧ nI (120 * 3 + ph_hd B f + 3 + i + 2) + ph_sv (ph_cdo B f (i + 1)) = nI (120 * 3 + ph_hd B f + 3 + j)) ↔ ph_tok (ph_sz B f) (ph_cdo B f) i := by
        constructor
        · rintro ⟨j, a, b, c⟩
          refine ⟨j, a, b, ?_⟩
          rw [c, nI_toInt (by omega)] at ht
          omega
        · rintro ⟨j, a, b, c⟩
          refine ⟨j, a, b, ph_eqI (by omega) ?_⟩
          rw [ht, c]; omega
      unfold wY_jumps_44
      refine ph_ytarget (p := 3) (by omega) hB hW hf h1' ?_
      refine ph_ybegins (p := 3) (by omega) hB hW hf (fun q => br_f (by decide) (h73 ?_)) (fun q => br_t rfl ⟨rfl, ?_⟩)
      · rintro ⟨-, c⟩; exact ph_b_0 c (hiff.mp q)
      · rw [show 120 * 3 + ph_hd B f + 3 + i = 360 + (ph_hd B f + 3 + i) by omega, ph_m360]
        exact k0 i (if_pos ⟨z1, ph_b_f (fun y => q (hiff.mpr y))⟩) hin
    have hwj : ph_cdo B f i = 10 ∨ ph_cdo B f i = 11 → ph_wd (ph_cdo B f i) = 2 := fun z => if_pos (by omega)
    rw [nI_clamp (by omega), ey]
    refine ⟨vp_in_nI (by omega) (by omega), pk_eq (ph_cdo B f i) 10 (fun h3 => h44 (by rw [h3]; rfl) (hwj (Or.inl h3))) (fun h3 => ⟨vp_in_nI (by omega) (by omega), pk_eq (ph_cdo B f i) 11 (fun h4 => h44 (by rw [h4]; rfl) (hwj (Or.inr h4))) (fun h4 => h73 ?_)⟩)⟩
    rintro ⟨z, -⟩
    unfold ph_isj at z
    simp [h3, h4] at z
theorem ph_yjumps {post : Int32 → SY → Prop} {f : Nat} (hB : ph_BY B L 3 b_bytes) (hW : ph_WF B L) (hf : f < ph_nf B)
    (hC : ph_CO (ph_nf B) (B 1) (B (ph_hd B f) + B (ph_hd B f + 1)) (ph_sz B f) (ph_cdo B f))
    (k1 : ph_jjr B f = (0, 0) → post 1 (g_rules, g_place, g_number, g_pos, g_finding, g_active, g_result, g_memory, b_ruleParts, b_rulePath, b_ruleAllows, b_bytes, b_length, b_present, b_ways, b_boxPlugin, b_boxQuota, b_boxOpen, b_statics, b_aFn, b_aPos, b_aHigh, b_aLocal, b_aEntry)) (k0 : ∀ pl, ph_jjr B f = (5, pl) → post 0 (g_rules, nI pl, g_number, g_pos, 5, g_active, g_result, g_memory, b_ruleParts, b_rulePath, b_ruleAllows, b_bytes, b_length, b_present, b_ways, b_boxPlugin, b_boxQuota, b_boxOpen, b_statics, b_aFn, b_aPos, b_aHigh, b_aLocal, b_aEntry)) : wpY_jumps post (g_rules, g_place, g_number, g_pos, g_finding, g_active, g_result, g_memory, b_ruleParts, b_rulePath, b_ruleAllows, b_bytes, b_length, b_present, b_ways, b_boxPlugin, b_boxQuota, b_boxOpen, b_statics, b_aFn, b_aPos, b_aHigh, b_aLocal, b_aEntry) (nI f) := by
  have hs := ph_szb hW hf
  unfold wpY_jumps
  refine ph_ycodeEnd (p := 3) (by omega) hB hW hf (ph_ycodeStart (p := 3) (by omega) hB hW hf ⟨41, ?_⟩)
  refine ph_yjj hB hW hf hC 41 0 (ph_St_0 _) (by omega) (by omega) (fun h => k1 (if_pos h)) (fun r h hr => k0 _ ?_)
  unfold ph_jjr
  rw [if_neg (by omega), h]
end
end
section
/-! ===== flow, pure ===== -/
def ph_tk (B c : Nat → Nat) (i : Nat) : Nat :=
  if c i = 12 then B (ph_hd B (c (i + 1))) else if 3 ≤ c i ∧ c i ≤ 7 then 2 else if c i = 2 ∨ c i = 8 ∨ c i = 9 ∨ c i = 11 ∨ c i = 13 ∨ c i = 15 ∨ c i = 16 then 1 else 0
def ph_gv (op : Nat) : Nat := if op = 8 then 2 else if op ≤ 1 ∨ (3 ≤ op ∧ op ≤ 7) ∨ (12 ≤ op ∧ op ≤ 14) then 1 else 0
def ph_af (B c : Nat → Nat) (i h : Nat) : Nat := h - ph_tk B c i + ph_gv (c i)
def ph_ok (B : Nat → Nat) (n : Nat) (c : Nat → Nat) (i h : Nat) : Prop := ph_tk B c i ≤ h ∧ ph_af B c i h ≤ 6 ∧ (c i ≠ 10 → c i ≠ 16 → i + ph_wd (c i) < n)
/-- a set of (place, entries) that is closed under the ways and nowhere breaks -/
def ph_Good (B : Nat → Nat) (n : Nat) (c : Nat → Nat) (R : Nat → Nat → Prop) : Prop :=
  R 0 0 ∧ (∀ i h h', R i h → R i h' → h = h') ∧
  ∀ i h, R i h → ph_St c i ∧ i < n ∧ h ≤ 6 ∧ ph_ok B n c i h ∧ (c i ≠ 10 → c i ≠ 16 → R (i + ph_wd (c i)) (ph_af B c i h)) ∧ (ph_isj (c i) = true → ∀ t : Nat, ph_tg c i = (t : Int) → R t (ph_af B c i h))
def ph_FO (B : Nat → Nat) (n : Nat) (c : Nat → Nat) : Prop := ∃ R, ph_Good B n c R
theorem ph_nIm1 {h : Nat} (hh : h < 2 ^ 31) : nI h ≠ -1 := by
  intro e
  have a := nI_pos (n := h) hh
  rw [e] at a
  exact a (by decide)
/-- the component's flow: W waiting, hi the entries, fa the fault, x the rounds, ex a place that is taken and not yet closed -/
def ph_XI (B : Nat → Nat) (n : Nat) (c : Nat → Nat) (W : Int64) (hi : Nat → Int32) (fa : Int32) (x ex : Nat) : Prop :=
  (∀ i, i < 40 → hi i = -1 ∨ ∃ h, h ≤ 6 ∧ hi i = nI h ∧ ph_St c i ∧ i < n) ∧
  (∀ i, i < 64 → ph_bit W i = true → i < n ∧ i < 40 ∧ hi i ≠ -1) ∧
  hi 0 = nI 0 ∧
  (fa = 0 → ∀ i h, i < n → i ≠ ex → h ≤ 6 → hi i = nI h → ph_bit W i = false → ph_ok B n c i h ∧ (c i ≠ 10 → c i ≠ 16 → hi (i + ph_wd (c i)) = nI (ph_af B c i h)) ∧ (ph_isj (c i) = true → ∀ t : Nat, ph_tg c i = (t : Int) → hi t = nI (ph_af B c i h))) ∧
  (∀ R, ph_Good B n c R → ∀ i h, i < n → h ≤ 6 → hi i = nI h → R i h) ∧
  (fa = 0 ∨ (fa = 1 ∧ ¬ ph_FO B n c)) ∧
  x ≤ ph_cn (fun i => hi i ≠ -1 ∧ ph_bit W i = false) 40
/-- what an arrival does -/
def ph_AR (n t h : Nat) (W : Int64) (hi : Nat → Int32) (fa : Int32) (W' : Int64) (hi' : Nat → Int32) (fa' : Int32) : Prop :=
  (n ≤ t ∧ W' = W ∧ hi' = hi ∧ fa' = 1) ∨ (t < n ∧ hi t ≠ -1 ∧ hi t ≠ nI h ∧ W' = W ∧ hi' = hi ∧ fa' = 1) ∨ (t < n ∧ hi t = nI h ∧ W' = W ∧ hi' = hi ∧ fa' = fa) ∨
  (t < n ∧ hi t = -1 ∧ W' = (W ||| ((1 : Int64) <<< ((nI t).toInt64 &&& 63))) ∧ hi' = upd hi t (nI h) ∧ fa' = fa)
theorem ph_XI_take {B c : Nat → Nat} {n x i : Nat} {W : Int64} {hi : Nat → Int32} {fa : Int32} (hn : n ≤ 40) (h : ph_XI B n c W hi fa x 1000) (hi40 : i < 40) (hb : ph_bit W i = true) :
    ph_XI B n c (W &&& (((1 : Int64) <<< ((nI i).toInt64 &&& 63)) ^^^ (-1))) hi fa (x + 1) i := by
  obtain ⟨h1, h2, h3, h4, h5, h6, h7⟩ := h
  have bit : ∀ j, j < 64 → ph_bit (W &&& (((1 : Int64) <<< ((nI i).toInt64 &&& 63)) ^^^ (-1))) j = (ph_bit W j && !decide (j = i)) := fun j hj => ph_bit_clr W (by omega) hj
  refine ⟨h1, fun j hj hbj => ?_, h3, fun e j hh hj hx hh6 ej hbj => ?_, h5, h6, ?_⟩
  · rw [bit j hj, Bool.and_eq_true] at hbj
    exact h2 j hj hbj.1
  · rw [bit j (by omega), decide_eq_false hx] at hbj
    exact h4 e j hh hj (by omega) hh6 ej (by simpa using hbj)
  · have q := ph_cn_lt (P := fun j => hi j ≠ -1 ∧ ph_bit W j = false) (Q := fun j => hi j ≠ -1 ∧ ph_bit (W &&& (((1 : Int64) <<< ((nI i).toInt64 &&& 63)) ^^^ (-1))) j = false) (a := i) (n := 40)
      (fun z => by rw [hb] at z; exact absurd z.2 (by decide)) ⟨(h2 i (by omega) hb).2.2, by rw [bit i (by omega)]; simp⟩
      (fun j hj z => ⟨z.1, by rw [bit j (by omega), z.2]; rfl⟩) hi40
    omega
theorem ph_XI_ar {B c : Nat → Nat} {n x ex t h : Nat} {W W' : Int64} {hi hi' : Nat → Int32} {fa fa' : Int32} (hn : n ≤ 40) (I : ph_XI B n c W hi fa x ex) (hs : ∀ R, ph_Good B n c R → t < n ∧ R t h) (hst : ph_St c t) (hh : h ≤ 6)
    (A : ph_AR n t h W hi fa W' hi' fa') :
    ph_XI B n c W' hi' fa' x ex ∧ (fa' = 0 → fa = 0 ∧ t < n ∧ hi' t = nI h) ∧ (∀ j, hi j ≠ -1 → hi' j = hi j) := by
  obtain ⟨h1, h2, h3, h4, h5, h6, h7⟩ := I
  have one0 : (1 : Int32) ≠ 0 := by decide
  rcases A with ⟨a1, rfl, rfl, rfl⟩ | ⟨a1, a2, a3, rfl, rfl, rfl⟩ | ⟨a1, a2, rfl, rfl, rfl⟩ | ⟨a1, a2, rfl, rfl, rfl⟩
  · refine ⟨⟨h1, h2, h3, fun e => absurd e one0, h5, Or.inr ⟨rfl, ?_⟩, h7⟩, fun e => absurd e one0, fun j _ => rfl⟩
    rintro ⟨R, g⟩
    have := (hs R g).1
    omega
  · refine ⟨⟨h1, h2, h3, fun e => absurd e one0, h5, Or.inr ⟨rfl, ?_⟩, h7⟩, fun e => absurd e one0, fun j _ => rfl⟩
    rintro ⟨R, g⟩
    rcases h1 t (by omega) with z | ⟨h', b1, b2, -, -⟩
    · exact a2 z
    · have q1 := h5 R g t h' a1 b1 b2
      have q2 := g.2.1 t h h' (hs R g).2 q1
      rw [b2, ← q2] at a3
      exact a3 rfl
  · exact ⟨⟨h1, h2, h3, h4, h5, h6, h7⟩, fun e => ⟨e, a1, a2⟩, fun j _ => rfl⟩
  · have keep : ∀ j, hi j ≠ -1 → upd hi t (nI h) j = hi j := fun j hj => pk_un (fun e => hj (by rw [e]; exact a2))
    have bit : ∀ j, ph_bit (W ||| ((1 : Int64) <<< ((nI t).toInt64 &&& 63))) j = (ph_bit W j || decide (j = t)) := fun j => ph_bit_or W (by omega)
    refine ⟨⟨fun i hi40 => ?_, fun i hi64 hb => ?_, ?_, fun e i hh' hi1 hi2 hi3 hi4 hb => ?_, fun R g i h' hi1 hi2 hi3 => ?_, h6, ?_⟩, fun e => ⟨e, a1, pk_us⟩, keep⟩
    · by_cases z : i = t
      · subst z; exact Or.inr ⟨h, hh, pk_us, hst, a1⟩
      · rw [pk_un z]; exact h1 i hi40
    · rw [bit i, Bool.or_eq_true, decide_eq_true_eq] at hb
      by_cases z : i = t
      · subst z; exact ⟨a1, by omega, by rw [pk_us]; exact ph_nIm1 (by omega)⟩
      · rw [pk_un z]
        rcases hb with y | y
        · exact h2 i hi64 y
        · exact absurd y z
    · rw [keep 0 (by rw [h3]; exact ph_nIm1 (by omega))]; exact h3
    · rw [bit i, Bool.or_eq_false_iff, decide_eq_false_iff_not] at hb
      rw [pk_un hb.2] at hi4
      obtain ⟨q1, q2, q3⟩ := h4 e i hh' hi1 hi2 hi3 hi4 hb.1
      have haf : ph_af B c i hh' < 2 ^ 31 := by have := q1.2.1; omega
      refine ⟨q1, fun z1 z2 => ?_, fun z1 t' z2 => ?_⟩
      · have := q2 z1 z2
        rw [keep _ (by rw [this]; exact ph_nIm1 haf)]; exact this
      · have := q3 z1 t' z2
        rw [keep _ (by rw [this]; exact ph_nIm1 haf)]; exact this
    · by_cases z : i = t
      · subst z
        rw [pk_us] at hi3
        have : h = h' := (nI_eq (by omega) (by omega)).mp hi3
        subst this; exact (hs R g).2
      · rw [pk_un z] at hi3; exact h5 R g i h' hi1 hi2 hi3
    · refine Nat.le_trans h7 (ph_cn_mono fun j hj z => ?_)
      refine ⟨by rw [keep j z.1]; exact z.1, ?_⟩
      rw [bit j, z.2, decide_eq_false (fun e => z.1 (by rw [e]; exact a2))]; rfl
theorem ph_XI_close {B c : Nat → Nat} {n x ex h : Nat} {W : Int64} {hi : Nat → Int32} {fa : Int32} (I : ph_XI B n c W hi fa x ex) (hex : hi ex = nI h) (hh : h ≤ 6)
    (hc : fa = 0 → ph_ok B n c ex h ∧ (c ex ≠ 10 → c ex ≠ 16 → hi (ex + ph_wd (c ex)) = nI (ph_af B c ex h)) ∧ (ph_isj (c ex) = true → ∀ t : Nat, ph_tg c ex = (t : Int) → hi t = nI (ph_af B c ex h))) :
    ph_XI B n c W hi fa x 1000 := by
  obtain ⟨h1, h2, h3, h4, h5, h6, h7⟩ := I
  refine ⟨h1, h2, h3, fun e i h' hi1 hi2 hi3 hi4 hb => ?_, h5, h6, h7⟩
  by_cases z : i = ex
  · subst z
    rw [hex] at hi4
    have : h = h' := (nI_eq (by omega) (by omega)).mp hi4
    subst this; exact hc e
  · exact h4 e i h' hi1 z hi3 hi4 hb
/-- the entries as a set -/
def ph_RH (n : Nat) (hi : Nat → Int32) : Nat → Nat → Prop := fun i h => i < n ∧ h ≤ 6 ∧ hi i = nI h
theorem ph_XI_end {B c : Nat → Nat} {n x : Nat} {W : Int64} {hi : Nat → Int32} (hn : n ≤ 40) (hn0 : 0 < n) (I : ph_XI B n c W hi 0 x 1000) (hW : ∀ j, j < 40 → ph_bit W j = false)
    (hJ : ph_JO n c) : ph_Good B n c (ph_RH n hi) := by
  obtain ⟨h1, h2, h3, h4, h5, h6, h7⟩ := I
  refine ⟨⟨hn0, by omega, h3⟩, ?_, ?_⟩
  · rintro i h h' ⟨a1, a2, a3⟩ ⟨b1, b2, b3⟩
    rw [a3] at b3
    exact (nI_eq (by omega) (by omega)).mp b3
  · rintro i h ⟨a1, a2, a3⟩
    have hst : ph_St c i := by
      rcases h1 i (by omega) with z | ⟨h', -, -, z, -⟩
      · rw [a3] at z; exact absurd z (ph_nIm1 (by omega))
      · exact z
    obtain ⟨q1, q2, q3⟩ := h4 rfl i h a1 (by omega) a2 a3 (hW i (by omega))
    refine ⟨hst, a1, a2, q1, fun z1 z2 => ⟨q1.2.2 z1 z2, q1.2.1, q2 z1 z2⟩, fun z1 t z2 => ?_⟩
    obtain ⟨t', s1, s2, s3⟩ := hJ i hst a1 z1
    have : t' = t := by omega
    subst this
    exact ⟨s2, q1.2.1, q3 z1 t' z2⟩
theorem ph_XI_0 {B c : Nat → Nat} {n : Nat} (hn : n ≤ 40) (hn0 : 0 < n) {hi : Nat → Int32} (h : ∀ i, i < 40 → hi i = if i = 0 then nI 0 else -1) : ph_XI B n c (0 ||| ((1 : Int64) <<< ((nI 0).toInt64 &&& 63))) hi 0 0 1000 := by
  have bit : ∀ j, ph_bit ((0 : Int64) ||| ((1 : Int64) <<< ((nI 0).toInt64 &&& 63))) j = decide (j = 0) := fun j => by rw [ph_bit_or 0 (by omega), ph_bit_0]; rfl
  have h0 : hi 0 = nI 0 := by rw [h 0 (by omega), if_pos rfl]
  have only : ∀ i h', i < 40 → h' ≤ 6 → hi i = nI h' → i = 0 ∧ h' = 0 := by
    intro i h' hi1 hi2 hi3
    rw [h i hi1] at hi3
    by_cases z : i = 0
    · rw [if_pos z] at hi3; exact ⟨z, ((nI_eq (by omega) (by omega)).mp hi3).symm⟩
    · rw [if_neg z] at hi3; exact absurd hi3.symm (ph_nIm1 (by omega))
  refine ⟨fun i hi40 => ?_, fun i hi64 hb => ?_, h0, fun _ i h' hi1 hi2 hi3 hi4 hb => ?_, fun R g i h' hi1 hi2 hi3 => ?_, Or.inl rfl, Nat.zero_le _⟩
  · by_cases z : i = 0
    · subst z; exact Or.inr ⟨0, by omega, h0, ph_St_0 c, hn0⟩
    · rw [h i hi40, if_neg z]; exact Or.inl rfl
  · rw [bit i, decide_eq_true_eq] at hb
    subst hb; exact ⟨hn0, by omega, by rw [h0]; exact ph_nIm1 (by omega)⟩
  · obtain ⟨rfl, rfl⟩ := only i h' (by omega) hi3 hi4
    rw [bit 0] at hb; exact absurd hb (by decide)
  · obtain ⟨rfl, rfl⟩ := only i h' (by omega) hi2 hi3
    exact g.1
end
section
/-! ===== the component's flow ===== -/
def ph_nd (op : Nat) : Nat := if 3 ≤ op ∧ op ≤ 7 then 2 else if op = 2 ∨ op = 8 ∨ op = 9 ∨ op = 11 ∨ op = 13 ∨ op = 15 ∨ op = 16 then 1 else 0
def ph_gr (op : Nat) : Int32 := if op = 0 ∨ op = 1 ∨ op = 8 ∨ op = 12 ∨ op = 14 then 1 else if op = 10 ∨ op = 13 then 0 else -1
theorem ph_17 {op : Nat} (ho : op ≤ 16) : op = 0 ∨ op = 1 ∨ op = 2 ∨ op = 3 ∨ op = 4 ∨ op = 5 ∨ op = 6 ∨ op = 7 ∨ op = 8 ∨ op = 9 ∨ op = 10 ∨ op = 11 ∨ op = 12 ∨ op = 13 ∨ op = 14 ∨ op = 15 ∨ op = 16 := by omega
theorem ph_xneeds {post : Int32 → Prop} {op : Nat} (ho : op ≤ 16) (k : post (nI (ph_nd op))) : wpX_needs post (nI op) := by
  unfold wpX_needs
  rcases ph_17 ho with e | e | e | e | e | e | e | e | e | e | e | e | e | e | e | e | e <;> subst e <;>
    (repeat (first | refine br_t (by decide) ?_ | refine br_f (by decide) ?_)) <;> exact k
theorem ph_xgrows {post : Int32 → Prop} {op : Nat} (ho : op ≤ 16) (k : post (ph_gr op)) : wpX_grows post (nI op) := by
  unfold wpX_grows
  rcases ph_17 ho with e | e | e | e | e | e | e | e | e | e | e | e | e | e | e | e | e <;> subst e <;>
    (repeat (first | refine br_t (by decide) ?_ | refine br_f (by decide) ?_)) <;> exact k
theorem ph_tk_n {B c : Nat → Nat} {i : Nat} (h : c i ≠ 12) : ph_tk B c i = ph_nd (c i) := by unfold ph_tk ph_nd; rw [if_neg h]
theorem ph_tk_c {B c : Nat → Nat} {i : Nat} (h : c i = 12) : ph_tk B c i = B (ph_hd B (c (i + 1))) := by unfold ph_tk; rw [if_pos h]
theorem ph_then0 : ∀ op, op < 17 → op ≠ 12 → ∀ h, h < 7 → ph_nd op ≤ h → nI h + ph_gr op - 0 = nI (h - ph_nd op + ph_gv op) := by decide +kernel
theorem ph_then {B c : Nat → Nat} {i h : Nat} (ho : c i ≤ 16) (h6 : h ≤ 6) (ht : ph_tk B c i ≤ h) : (c i = 12 → nI h + ph_gr (c i) - nI (ph_tk B c i) = nI (ph_af B c i h)) ∧ (c i ≠ 12 → nI h + ph_gr (c i) - 0 = nI (ph_af B c i h)) := by
  constructor
  · intro e
    unfold ph_af
    rw [e, show ph_gr 12 = nI 1 from rfl, show ph_gv 12 = 1 from rfl, nI_add, pk_sub (by omega)]
    exact congrArg nI (by omega)
  · intro e
    unfold ph_af
    rw [ph_tk_n e] at ht ⊢
    exact ph_then0 (c i) (by omega) e h (by omega) ht
section
variable {f_nodes f_rules f_version f_count f_at f_place f_number f_imports f_functions f_fault f_frames f_box f_pc f_status f_result : Int32} {f_waiting f_memory : Int64} {a_child a_verdict a_ruleNode a_before a_nodesBefore a_bytes a_path a_pathAt a_params a_locals a_from a_size a_high a_loaded a_emitted a_entry a_pParams a_pFunctions a_pImports a_pPath a_judged a_fine a_newAt a_plugin a_quota a_statics a_slot a_back a_entries : Nat → Int32}
variable {B : Nat → Nat} {L : Nat}
theorem ph_xarrive {post : SX → Prop} {f n t h : Nat} (hf : f < 4) (hn : n ≤ 40) (es : a_size f = nI n) (ht : t < 2000) (hh : h ≤ 6) (hr : ∀ i, i < 40 → a_high i = -1 ∨ ∃ h, h ≤ 6 ∧ a_high i = nI h)
    (K : ∀ W' hi' fa', ph_AR n t h f_waiting a_high f_fault W' hi' fa' → post (f_nodes, f_rules, f_version, f_count, f_at, f_place, f_number, f_imports, f_functions, W', fa', f_frames, f_box, f_pc, f_status, f_result, f_memory, a_child, a_verdict, a_ruleNode, a_before, a_nodesBefore, a_bytes, a_path, a_pathAt, a_params, a_locals, a_from, a_size, hi', a_loaded, a_emitted, a_entry, a_pParams, a_pFunctions, a_pImports, a_pPath, a_judged, a_fine, a_newAt, a_plugin, a_quota, a_statics, a_slot, a_back, a_entries)) : wpX_arrive post (f_nodes, f_rules, f_version, f_count, f_at, f_place, f_number, f_imports, f_functions, f_waiting, f_fault, f_frames, f_box, f_pc, f_status, f_result, f_memory, a_child, a_verdict, a_ruleNode, a_before, a_nodesBefore, a_bytes, a_path, a_pathAt, a_params, a_locals, a_from, a_size, a_high, a_loaded, a_emitted, a_entry, a_pParams, a_pFunctions, a_pImports, a_pPath, a_judged, a_fine, a_newAt, a_plugin, a_quota, a_statics, a_slot, a_back, a_entries) (nI f) (nI t) (nI h) := by
  unfold wpX_arrive
  try dsimp only
  rw [nI_clamp (by omega), es]
  refine ⟨vp_in_nI hf (by omega), pk_le n t (fun z => K _ _ _ (Or.inl ⟨z, rfl, rfl, rfl⟩)) (fun z => ?_)⟩
  have hin : vp_in (nI t) 40 := vp_in_nI (by omega) (by omega)
  rw [nI_clamp (by omega)]
  refine ⟨hin, ?_⟩
  rcases hr t (by omega) with e | ⟨h', b1, e⟩
  · refine br_t (by rw [e]; decide) ?_
    unfold wX_arrive_37
    rw [nI_clamp (by omega)]
    refine ⟨hin, br_f (by rw [e]; decide) ⟨hin, ?_⟩⟩
    refine nm_r (e' := upd a_high t (nI h)) (by rw [ph_nbb (by omega)]) (nm_e ?_)
    exact K _ _ _ (Or.inr (Or.inr (Or.inr ⟨z, e, rfl, rfl, rfl⟩)))
  · refine br_f (by rw [e]; exact nI_pos (by omega)) ⟨hin, br_c (fun y => ?_) (fun y => ?_)⟩
    · unfold wX_arrive_37
      rw [nI_clamp (by omega)]
      refine ⟨hin, br_t (by rw [e]; exact nI_pos' (by omega)) ?_⟩
      exact K _ _ _ (Or.inr (Or.inr (Or.inl ⟨z, y, rfl, rfl, rfl⟩)))
    · exact K _ _ _ (Or.inr (Or.inl ⟨z, by rw [e]; exact ph_nIm1 (by omega), y, rfl, rfl, rfl⟩))
theorem ph_x64 {post : Int32 → SX → Prop} {J : Int32 → Int32 → Int32 → Int32 → Int32 → Int32 → Int32 → Int32 → Int32 → Int32 → Int64 → Int32 → Int32 → Int32 → Int32 → Int32 → Int32 → Int64 → (Nat → Int32) → (Nat → Int32) → (Nat → Int32) → (Nat → Int32) → (Nat → Int32) → (Nat → Int32) → (Nat → Int32) → (Nat → Int32) → (Nat → Int32) → (Nat → Int32) → (Nat → Int32) → (Nat → Int32) → (Nat → Int32) → (Nat → Int32) → (Nat → Int32) → (Nat → Int32) → (Nat → Int32) → (Nat → Int32) → (Nat → Int32) → (Nat → Int32) → (Nat → Int32) → (Nat → Int32) → (Nat → Int32) → (Nat → Int32) → (Nat → Int32) → (Nat → Int32) → (Nat → Int32) → (Nat → Int32) → (Nat → Int32) → Prop} {x1 x2 : Int32}
    (K : ∀ i m, i < 40 → ph_bit f_waiting i = true → wX_flow_64 post J x1 x2 f_nodes f_rules f_version f_count f_at f_place f_number f_imports f_functions f_waiting f_fault f_frames f_box f_pc f_status f_result f_memory a_child a_verdict a_ruleNode a_before a_nodesBefore a_bytes a_path a_pathAt a_params a_locals a_from a_size a_high a_loaded a_emitted a_entry a_pParams a_pFunctions a_pImports a_pPath a_judged a_fine a_newAt a_plugin a_quota a_statics a_slot a_back a_entries (m + 1) (nI i)) :
    ∀ d i, (∃ j, i ≤ j ∧ j < 40 ∧ j < i + d ∧ ph_bit f_waiting j = true) → wX_flow_64 post J x1 x2 f_nodes f_rules f_version f_count f_at f_place f_number f_imports f_functions f_waiting f_fault f_frames f_box f_pc f_status f_result f_memory a_child a_verdict a_ruleNode a_before a_nodesBefore a_bytes a_path a_pathAt a_params a_locals a_from a_size a_high a_loaded a_emitted a_entry a_pParams a_pFunctions a_pImports a_pPath a_judged a_fine a_newAt a_plugin a_quota a_statics a_slot a_back a_entries d (nI i) := by
  intro d
  induction d with
  | zero => rintro i ⟨j, h1, h2, h3, -⟩; omega
  | succ d ih =>
    rintro i ⟨j, h1, h2, h3, h4⟩
    cases hb : ph_bit f_waiting i with
    | true => exact K i d (by omega) hb
    | false =>
      rw [wX_flow_64]
      dsimp only
      rw [ph_bit_t f_waiting (by omega : i < 64)]
      refine br_t hb (nm_r (nI_1 i) (ih (i + 1) ⟨j, ?_, h2, by omega, h4⟩))
      rcases Nat.lt_or_ge i j with z | z
      · omega
      · have : j = i := by omega
        subst this; rw [hb] at h4; exact absurd h4 (by decide)
theorem ph_xbody {post : Int32 → SX → Prop} {J : Int32 → Int32 → Int32 → Int32 → Int32 → Int32 → Int32 → Int32 → Int32 → Int32 → Int64 → Int32 → Int32 → Int32 → Int32 → Int32 → Int32 → Int64 → (Nat → Int32) → (Nat → Int32) → (Nat → Int32) → (Nat → Int32) → (Nat → Int32) → (Nat → Int32) → (Nat → Int32) → (Nat → Int32) → (Nat → Int32) → (Nat → Int32) → (Nat → Int32) → (Nat → Int32) → (Nat → Int32) → (Nat → Int32) → (Nat → Int32) → (Nat → Int32) → (Nat → Int32) → (Nat → Int32) → (Nat → Int32) → (Nat → Int32) → (Nat → Int32) → (Nat → Int32) → (Nat → Int32) → (Nat → Int32) → (Nat → Int32) → (Nat → Int32) → (Nat → Int32) → (Nat → Int32) → (Nat → Int32) → Prop} {f x i m : Nat} (hW : ph_WF B L) (hB : ph_BX B a_bytes) (hF : ph_FA B (ph_nf B) a_params a_locals a_from a_size) (hf : f < ph_nf B)
    (hC : ph_CO (ph_nf B) (B 1) (B (ph_hd B f) + B (ph_hd B f + 1)) (ph_sz B f) (ph_cdo B f)) (hJ : ph_JO (ph_sz B f) (ph_cdo B f))
    (I : ph_XI B (ph_sz B f) (ph_cdo B f) f_waiting a_high 0 x 1000) (hi : i < 40) (hb : ph_bit f_waiting i = true)
    (K0 : ∀ W', ¬ ph_FO B (ph_sz B f) (ph_cdo B f) → post 0 (f_nodes, f_rules, f_version, f_count, f_at, f_place, f_number, f_imports, f_functions, W', 0, f_frames, f_box, f_pc, f_status, f_result, f_memory, a_child, a_verdict, a_ruleNode, a_before, a_nodesBefore, a_bytes, a_path, a_pathAt, a_params, a_locals, a_from, a_size, a_high, a_loaded, a_emitted, a_entry, a_pParams, a_pFunctions, a_pImports, a_pPath, a_judged, a_fine, a_newAt, a_plugin, a_quota, a_statics, a_slot, a_back, a_entries))
    (KJ : ∀ W' hi' fa', ph_XI B (ph_sz B f) (ph_cdo B f) W' hi' fa' (x + 1) 1000 → J (nI (x + 1)) f_nodes f_rules f_version f_count f_at f_place f_number f_imports f_functions W' fa' f_frames f_box f_pc f_status f_result f_memory a_child a_verdict a_ruleNode a_before a_nodesBefore a_bytes a_path a_pathAt a_params a_locals a_from a_size hi' a_loaded a_emitted a_entry a_pParams a_pFunctions a_pImports a_pPath a_judged a_fine a_newAt a_plugin a_quota a_statics a_slot a_back a_entries) :
    wX_flow_64 post J (nI f) (nI x) f_nodes f_rules f_version f_count f_at f_place f_number f_imports f_functions f_waiting 0 f_frames f_box f_pc f_status f_result f_memory a_child a_verdict a_ruleNode a_before a_nodesBefore a_bytes a_path a_pathAt a_params a_locals a_from a_size a_high a_loaded a_emitted a_entry a_pParams a_pFunctions a_pImports a_pPath a_judged a_fine a_newAt a_plugin a_quota a_statics a_slot a_back a_entries (m + 1) (nI i) := by
  have hs := ph_szb hW hf
  have hn4 := hW.2.2.2.2.1
  obtain ⟨in1, -, in3⟩ := I.2.1 i (by omega) hb
  have hx : ∃ h, h ≤ 6 ∧ a_high i = nI h ∧ ph_St (ph_cdo B f) i ∧ i < ph_sz B f := by
    rcases I.1 i hi with z | z
    · exact absurd z in3
    · exact z
  obtain ⟨h, h6, eh, hst, -⟩ := hx
  obtain ⟨g1, g2, g3⟩ := ph_isbad_f (hC i hst in1)
  have hwd := ph_wd_b (ph_cdo B f i)
  have It := ph_XI_take hs.2 I hi hb
  have hrange : ∀ (hi' : Nat → Int32) (W' : Int64) (fa' : Int32) (x' ex : Nat), ph_XI B (ph_sz B f) (ph_cdo B f) W' hi' fa' x' ex → ∀ i, i < 40 → hi' i = -1 ∨ ∃ h, h ≤ 6 ∧ hi' i = nI h := fun hi' W' fa' x' ex I' j hj => by
    rcases I'.1 j hj with z | ⟨h', z1, z2, -, -⟩
    · exact Or.inl z
    · exact Or.inr ⟨h', z1, z2⟩
  -- the entries taken
  have h135 : wX_flow_135 post J (nI f) (nI x) (nI i) (nI (ph_cdo B f i)) (nI (ph_tk B (ph_cdo B f) i)) f_nodes f_rules f_version f_count f_at f_place f_number f_imports f_functions (f_waiting &&& (((1 : Int64) <<< ((nI i).toInt64 &&& 63)) ^^^ (-1))) 0 f_frames f_box f_pc f_status f_result f_memory a_child a_verdict a_ruleNode a_before a_nodesBefore a_bytes a_path a_pathAt a_params a_locals a_from a_size a_high a_loaded a_emitted a_entry a_pParams a_pFunctions a_pImports a_pPath a_judged a_fine a_newAt a_plugin a_quota a_statics a_slot a_back a_entries := by
    have htk : ph_tk B (ph_cdo B f) i < 2000 := by
      by_cases e12 : ph_cdo B f i = 12
      · rw [ph_tk_c e12]
        have := g3 (by rw [e12]; rfl)
        rw [e12] at this
        have := (hW.2.2.2.2.2.2 _ (show ph_cdo B f (i + 1) < ph_nf B from this)).1
        omega
      · rw [ph_tk_n e12]; unfold ph_nd; split
        · omega
        · split <;> omega
    have h166 : ∀ z0 : Int32, (ph_tk B (ph_cdo B f) i ≤ h → nI h + ph_gr (ph_cdo B f i) - z0 = nI (ph_af B (ph_cdo B f) i h)) →
        wX_flow_166 post J (nI f) (nI x) (nI i) (nI (ph_cdo B f i)) (nI (ph_tk B (ph_cdo B f) i)) (nI h) z0 (nI h + ph_gr (ph_cdo B f i)) f_nodes f_rules f_version f_count f_at f_place f_number f_imports f_functions (f_waiting &&& (((1 : Int64) <<< ((nI i).toInt64 &&& 63)) ^^^ (-1))) 0 f_frames f_box f_pc f_status f_result f_memory a_child a_verdict a_ruleNode a_before a_nodesBefore a_bytes a_path a_pathAt a_params a_locals a_from a_size a_high a_loaded a_emitted a_entry a_pParams a_pFunctions a_pImports a_pPath a_judged a_fine a_newAt a_plugin a_quota a_statics a_slot a_back a_entries := by
      intro z0 ez
      unfold wX_flow_166
      refine nm_e (pk_lt h (ph_tk B (ph_cdo B f) i) (fun q => K0 _ ?_) (fun q => ?_))
      · rintro ⟨R, g⟩
        have := (g.2.2 i h (I.2.2.2.2.1 R g i h in1 h6 eh)).2.2.2.1.1
        omega
      rw [ez q]
      have haf0 : ph_af B (ph_cdo B f) i h ≤ 8 := by
        unfold ph_af ph_gv
        have : ∀ y, h - y ≤ 6 := fun y => by omega
        have := this (ph_tk B (ph_cdo B f) i)
        split
        · omega
        · split <;> omega
      refine pk_le (ph_af B (ph_cdo B f) i h) 6 (fun q2 => ?_) (fun q2 => K0 _ ?_)
      rotate_left
      · rintro ⟨R, g⟩
        have := (g.2.2 i h (I.2.2.2.2.1 R g i h in1 h6 eh)).2.2.2.1.2.1
        omega
      refine ph_xwidth (ph_xcl hW hB hf in1) (nm_r (nI_add _ _) ?_)
      -- the second arrival and the end of the round
      have h244 : ∀ W1 hi1 fa1, ph_XI B (ph_sz B f) (ph_cdo B f) W1 hi1 fa1 (x + 1) i → hi1 i = nI h → (fa1 = 0 → ph_isj (ph_cdo B f i) = true → ∀ t : Nat, ph_tg (ph_cdo B f) i = (t : Int) → hi1 t = nI (ph_af B (ph_cdo B f) i h)) →
          wX_flow_244 post J (nI f) (nI x) (nI (ph_cdo B f i)) (nI (ph_af B (ph_cdo B f) i h)) (nI (i + ph_wd (ph_cdo B f i))) f_nodes f_rules f_version f_count f_at f_place f_number f_imports f_functions W1 fa1 f_frames f_box f_pc f_status f_result f_memory a_child a_verdict a_ruleNode a_before a_nodesBefore a_bytes a_path a_pathAt a_params a_locals a_from a_size hi1 a_loaded a_emitted a_entry a_pParams a_pFunctions a_pImports a_pPath a_judged a_fine a_newAt a_plugin a_quota a_statics a_slot a_back a_entries := by
        intro W1 hi1 fa1 I1 e1 c1
        unfold wX_flow_244
        refine pk_eq (ph_cdo B f i) 10 (fun q3 => nm_r (nI_1 x) (KJ _ _ _ (ph_XI_close I1 e1 h6 fun e => ⟨⟨q, q2, fun z => absurd q3 z⟩, fun z => absurd q3 z, c1 e⟩))) (fun q3 => ?_)
        refine pk_eq (ph_cdo B f i) 16 (fun q4 => nm_r (nI_1 x) (KJ _ _ _ (ph_XI_close I1 e1 h6 fun e => ⟨⟨q, q2, fun _ z => absurd q4 z⟩, fun _ z => absurd q4 z, c1 e⟩))) (fun q4 => ?_)
        refine ph_xarrive (by omega) hs.2 (hF f hf).2.2.2 (by omega) q2 (hrange _ _ _ _ _ I1) (fun W2 hi2 fa2 A => nm_r (nI_1 x) ?_)
        obtain ⟨I2, z1, z2⟩ := ph_XI_ar hs.2 I1 (t := i + ph_wd (ph_cdo B f i)) (h := ph_af B (ph_cdo B f) i h) (fun R g => by
          have gg := g.2.2 i h (I1.2.2.2.2.1 R g i h in1 h6 e1)
          exact ⟨gg.2.2.2.1.2.2 q3 q4, gg.2.2.2.2.1 q3 q4⟩) (ph_St_s hst) q2 A
        refine KJ _ _ _ (ph_XI_close I2 (by rw [z2 i (by rw [e1]; exact ph_nIm1 (by omega))]; exact e1) h6 fun e => ?_)
        obtain ⟨y1, y2, y3⟩ := z1 e
        refine ⟨⟨q, q2, fun _ _ => y2⟩, fun _ _ => y3, fun j1 t j2 => ?_⟩
        have := c1 y1 j1 t j2
        rw [z2 t (by rw [this]; exact ph_nIm1 (by omega))]; exact this
      have hj : (ph_cdo B f i = 10 ∨ ph_cdo B f i = 11) → wX_flow_208 post J (nI f) (nI x) (nI i) (nI (ph_cdo B f i)) (nI (ph_af B (ph_cdo B f) i h)) (nI (i + ph_wd (ph_cdo B f i))) f_nodes f_rules f_version f_count f_at f_place f_number f_imports f_functions (f_waiting &&& (((1 : Int64) <<< ((nI i).toInt64 &&& 63)) ^^^ (-1))) 0 f_frames f_box f_pc f_status f_result f_memory a_child a_verdict a_ruleNode a_before a_nodesBefore a_bytes a_path a_pathAt a_params a_locals a_from a_size a_high a_loaded a_emitted a_entry a_pParams a_pFunctions a_pImports a_pPath a_judged a_fine a_newAt a_plugin a_quota a_statics a_slot a_back a_entries := by
        intro q3
        have hw2 : ph_wd (ph_cdo B f i) = 2 := if_pos (by omega)
        have hisj : ph_isj (ph_cdo B f i) = true := by unfold ph_isj; simp; exact q3
        have h1' : i + 1 < ph_sz B f := by omega
        obtain ⟨t, t1, t2, t3⟩ := hJ i hst in1 hisj
        have et : nI (i + 2) + ph_sv (ph_cdo B f (i + 1)) = nI t := ph_eqI (by omega) (by rw [ph_tgI (by omega) (ph_xcl hW hB hf h1')]; unfold ph_tg at t3; omega)
        unfold wX_flow_208
        refine ph_xtarget hW hB hF hf h1' ?_
        rw [et]
        have h235 : wX_flow_235 post J (nI f) (nI x) (nI (ph_cdo B f i)) (nI (ph_af B (ph_cdo B f) i h)) (nI (i + ph_wd (ph_cdo B f i))) (nI t) f_nodes f_rules f_version f_count f_at f_place f_number f_imports f_functions (f_waiting &&& (((1 : Int64) <<< ((nI i).toInt64 &&& 63)) ^^^ (-1))) 0 f_frames f_box f_pc f_status f_result f_memory a_child a_verdict a_ruleNode a_before a_nodesBefore a_bytes a_path a_pathAt a_params a_locals a_from a_size a_high a_loaded a_emitted a_entry a_pParams a_pFunctions a_pImports a_pPath a_judged a_fine a_newAt a_plugin a_quota a_statics a_slot a_back a_entries := by
          unfold wX_flow_235
          refine ph_xarrive (by omega) hs.2 (hF f hf).2.2.2 (by omega) q2 (hrange _ _ _ _ _ It) (fun W2 hi2 fa2 A => ?_)
          obtain ⟨I2, z1, z2⟩ := ph_XI_ar hs.2 It (t := t) (h := ph_af B (ph_cdo B f) i h) (fun R g => by
            have gg := g.2.2 i h (I.2.2.2.2.1 R g i h in1 h6 eh)
            exact ⟨t2, gg.2.2.2.2.2 hisj t t3⟩) t1 q2 A
          refine h244 _ _ _ I2 (by rw [z2 i (by rw [eh]; exact ph_nIm1 (by omega))]; exact eh) (fun e _ t' e' => ?_)
          have : t' = t := by omega
          subst this
          exact (z1 e).2.2
        unfold wX_flow_219
        rcases q3 with q3 | q3
        · exact br_t (by rw [q3]; rfl) h235
        · exact br_f (by rw [q3]; decide) (br_t (by rw [q3]; rfl) h235)
      have hc8 := ph_xcl hW hB hf in1
      refine pk_eq (ph_cdo B f i) 10 (fun q3 => hj (Or.inl q3)) (fun q3 => pk_eq (ph_cdo B f i) 11 (fun q4 => hj (Or.inr q4)) (fun q4 => ?_))
      unfold wX_flow_219
      refine br_f (fun z => q3 ((nI_eq (b := 10) (by omega) (by omega)).mp z)) (br_f (fun z => q4 ((nI_eq (b := 11) (by omega) (by omega)).mp z)) ?_)
      refine h244 _ _ _ It eh (fun _ z => ?_)
      unfold ph_isj at z
      simp [q3, q4] at z
    unfold wX_flow_135
    rw [nI_clamp (by omega)]
    refine ⟨vp_in_nI hi (by omega), nm_r eh (ph_xgrows g1 ?_)⟩
    refine pk_eq (ph_cdo B f i) 12 (fun q => h166 _ fun z => (ph_then g1 h6 z).1 q) (fun q => h166 _ fun z => (ph_then g1 h6 z).2 q)
  rw [wX_flow_64]
  dsimp only
  rw [ph_bit_t f_waiting (by omega : i < 64)]
  refine br_f (by rw [hb]; decide) (nm_e (ph_xcode hW hB hF hf in1 ?_))
  refine pk_eq (ph_cdo B f i) 12 (fun q => ?_) (fun q => ?_)
  · have hw2 : ph_wd (ph_cdo B f i) = 2 := by rw [q]; rfl
    have h1' : i + 1 < ph_sz B f := by omega
    have hg : ph_cdo B f (i + 1) < ph_nf B := by
      have := g3 hw2
      rw [q] at this
      exact this
    rw [nI_1]
    refine ph_xcode hW hB hF hf h1' ⟨vp_in_nI (by omega) (by omega), ?_⟩
    rw [nI_clamp (by omega), (hF _ hg).1]
    rw [ph_tk_c q] at h135
    exact h135
  · refine ph_xneeds g1 ?_
    rw [ph_tk_n q] at h135
    exact h135
theorem ph_x273 {post : Int32 → SX → Prop} {f x : Nat} (hW : ph_WF B L) (hf : f < ph_nf B) (hJ : ph_JO (ph_sz B f) (ph_cdo B f))
    (I : ph_XI B (ph_sz B f) (ph_cdo B f) f_waiting a_high f_fault x 1000) (hz : f_fault = 0 → ∀ j, j < 40 → ph_bit f_waiting j = false)
    (k1 : ∀ W hi, ph_Good B (ph_sz B f) (ph_cdo B f) (ph_RH (ph_sz B f) hi) → (∀ i, i < 40 → hi i = -1 ∨ ∃ h, h ≤ 6 ∧ hi i = nI h) → post 1 (f_nodes, f_rules, f_version, f_count, f_at, f_place, f_number, f_imports, f_functions, W, 0, f_frames, f_box, f_pc, f_status, f_result, f_memory, a_child, a_verdict, a_ruleNode, a_before, a_nodesBefore, a_bytes, a_path, a_pathAt, a_params, a_locals, a_from, a_size, hi, a_loaded, a_emitted, a_entry, a_pParams, a_pFunctions, a_pImports, a_pPath, a_judged, a_fine, a_newAt, a_plugin, a_quota, a_statics, a_slot, a_back, a_entries))
    (k0 : ∀ W hi fa, ¬ ph_FO B (ph_sz B f) (ph_cdo B f) → post 0 (f_nodes, f_rules, f_version, f_count, f_at, f_place, f_number, f_imports, f_functions, W, fa, f_frames, f_box, f_pc, f_status, f_result, f_memory, a_child, a_verdict, a_ruleNode, a_before, a_nodesBefore, a_bytes, a_path, a_pathAt, a_params, a_locals, a_from, a_size, hi, a_loaded, a_emitted, a_entry, a_pParams, a_pFunctions, a_pImports, a_pPath, a_judged, a_fine, a_newAt, a_plugin, a_quota, a_statics, a_slot, a_back, a_entries)) : wX_flow_273 post f_nodes f_rules f_version f_count f_at f_place f_number f_imports f_functions f_waiting f_fault f_frames f_box f_pc f_status f_result f_memory a_child a_verdict a_ruleNode a_before a_nodesBefore a_bytes a_path a_pathAt a_params a_locals a_from a_size a_high a_loaded a_emitted a_entry a_pParams a_pFunctions a_pImports a_pPath a_judged a_fine a_newAt a_plugin a_quota a_statics a_slot a_back a_entries := by
  have hs := ph_szb hW hf
  unfold wX_flow_273
  refine br_c (fun e => ?_) (fun e => ?_)
  · subst e
    refine k1 _ _ (ph_XI_end hs.2 (by omega) I (hz rfl) hJ) (fun j hj => ?_)
    rcases I.1 j hj with z | ⟨h', z1, z2, -, -⟩
    · exact Or.inl z
    · exact Or.inr ⟨h', z1, z2⟩
  · rcases I.2.2.2.2.2.1 with z | z
    · exact absurd z e
    · exact k0 _ _ _ z.2
theorem ph_x40 {post : Int32 → SX → Prop} {f : Nat} (hW : ph_WF B L) (hB : ph_BX B a_bytes) (hF : ph_FA B (ph_nf B) a_params a_locals a_from a_size) (hf : f < ph_nf B)
    (hC : ph_CO (ph_nf B) (B 1) (B (ph_hd B f) + B (ph_hd B f + 1)) (ph_sz B f) (ph_cdo B f)) (hJ : ph_JO (ph_sz B f) (ph_cdo B f))
    (k1 : ∀ W hi, ph_Good B (ph_sz B f) (ph_cdo B f) (ph_RH (ph_sz B f) hi) → (∀ i, i < 40 → hi i = -1 ∨ ∃ h, h ≤ 6 ∧ hi i = nI h) → post 1 (f_nodes, f_rules, f_version, f_count, f_at, f_place, f_number, f_imports, f_functions, W, 0, f_frames, f_box, f_pc, f_status, f_result, f_memory, a_child, a_verdict, a_ruleNode, a_before, a_nodesBefore, a_bytes, a_path, a_pathAt, a_params, a_locals, a_from, a_size, hi, a_loaded, a_emitted, a_entry, a_pParams, a_pFunctions, a_pImports, a_pPath, a_judged, a_fine, a_newAt, a_plugin, a_quota, a_statics, a_slot, a_back, a_entries))
    (k0 : ∀ W hi fa, ¬ ph_FO B (ph_sz B f) (ph_cdo B f) → post 0 (f_nodes, f_rules, f_version, f_count, f_at, f_place, f_number, f_imports, f_functions, W, fa, f_frames, f_box, f_pc, f_status, f_result, f_memory, a_child, a_verdict, a_ruleNode, a_before, a_nodesBefore, a_bytes, a_path, a_pathAt, a_params, a_locals, a_from, a_size, hi, a_loaded, a_emitted, a_entry, a_pParams, a_pFunctions, a_pImports, a_pPath, a_judged, a_fine, a_newAt, a_plugin, a_quota, a_statics, a_slot, a_back, a_entries)) :
    ∀ d x W hi fa, x + d = 40 → ph_XI B (ph_sz B f) (ph_cdo B f) W hi fa x 1000 → wX_flow_40 post (nI f) (d + 1) (nI x) f_nodes f_rules f_version f_count f_at f_place f_number f_imports f_functions W fa f_frames f_box f_pc f_status f_result f_memory a_child a_verdict a_ruleNode a_before a_nodesBefore a_bytes a_path a_pathAt a_params a_locals a_from a_size hi a_loaded a_emitted a_entry a_pParams a_pFunctions a_pImports a_pPath a_judged a_fine a_newAt a_plugin a_quota a_statics a_slot a_back a_entries := by
  have hs := ph_szb hW hf
  intro d
  induction d with
  | zero =>
    intro x W hi fa hx I
    rw [wX_flow_40]
    refine br_t (nI_le (a := 40) (b := x) (by omega) (by omega)) (ph_x273 hW hf hJ I (fun _ j hj => ?_) k1 k0)
    exact (ph_cn_all (P := fun i => hi i ≠ -1 ∧ ph_bit W i = false) (n := 40) (by have := I.2.2.2.2.2.2; omega) j hj).2
  | succ d ih =>
    intro x W hi fa hx I
    rw [wX_flow_40]
    refine br_f (nI_ge (a := x) (b := 40) (by omega) (by omega)) (br_c (fun e => ?_) (fun e => br_c (fun e2 => ?_) (fun e2 => ?_)))
    · refine ph_x273 hW hf hJ I (fun _ j hj => ?_) k1 k0
      rw [e, ph_bit_0]
    · subst e2
      have hex : ∃ j, 0 ≤ j ∧ j < 40 ∧ j < 0 + 40 ∧ ph_bit W j = true := by
        refine Classical.byContradiction fun z => e (ph_bit_z.mpr fun j hj => ?_)
        cases hb : ph_bit W j with
        | false => rfl
        | true =>
          have := (I.2.1 j hj hb).2.1
          exact absurd ⟨j, by omega, this, by omega, hb⟩ z
      refine ⟨40, ph_x64 (fun i m hi40 hb => ?_) 40 0 hex⟩
      refine ph_xbody hW hB hF hf hC hJ I hi40 hb (fun W' z => k0 _ _ _ z) (fun W' hi' fa' I' => ?_)
      exact ih (x + 1) W' hi' fa' (by omega) I'
    · exact ph_x273 hW hf hJ I (fun z => absurd z e2) k1 k0
theorem ph_x2 {post : Int32 → SX → Prop} {f : Nat} (hW : ph_WF B L) (hB : ph_BX B a_bytes) (hF : ph_FA B (ph_nf B) a_params a_locals a_from a_size) (hf : f < ph_nf B)
    (hC : ph_CO (ph_nf B) (B 1) (B (ph_hd B f) + B (ph_hd B f + 1)) (ph_sz B f) (ph_cdo B f)) (hJ : ph_JO (ph_sz B f) (ph_cdo B f))
    (k1 : ∀ W hi, ph_Good B (ph_sz B f) (ph_cdo B f) (ph_RH (ph_sz B f) hi) → (∀ i, i < 40 → hi i = -1 ∨ ∃ h, h ≤ 6 ∧ hi i = nI h) → post 1 (f_nodes, f_rules, f_version, f_count, f_at, f_place, f_number, f_imports, f_functions, W, 0, f_frames, f_box, f_pc, f_status, f_result, f_memory, a_child, a_verdict, a_ruleNode, a_before, a_nodesBefore, a_bytes, a_path, a_pathAt, a_params, a_locals, a_from, a_size, hi, a_loaded, a_emitted, a_entry, a_pParams, a_pFunctions, a_pImports, a_pPath, a_judged, a_fine, a_newAt, a_plugin, a_quota, a_statics, a_slot, a_back, a_entries))
    (k0 : ∀ W hi fa, ¬ ph_FO B (ph_sz B f) (ph_cdo B f) → post 0 (f_nodes, f_rules, f_version, f_count, f_at, f_place, f_number, f_imports, f_functions, W, fa, f_frames, f_box, f_pc, f_status, f_result, f_memory, a_child, a_verdict, a_ruleNode, a_before, a_nodesBefore, a_bytes, a_path, a_pathAt, a_params, a_locals, a_from, a_size, hi, a_loaded, a_emitted, a_entry, a_pParams, a_pFunctions, a_pImports, a_pPath, a_judged, a_fine, a_newAt, a_plugin, a_quota, a_statics, a_slot, a_back, a_entries)) :
    ∀ d x hi, x + d = 40 → (∀ i, i < x → hi i = -1) → wX_flow_2 post (nI f) f_nodes f_rules f_version f_count f_at f_place f_number f_imports f_functions f_waiting f_fault f_frames f_box f_pc f_status f_result f_memory (d + 1) (nI x) a_child a_verdict a_ruleNode a_before a_nodesBefore a_bytes a_path a_pathAt a_params a_locals a_from a_size hi a_loaded a_emitted a_entry a_pParams a_pFunctions a_pImports a_pPath a_judged a_fine a_newAt a_plugin a_quota a_statics a_slot a_back a_entries := by
  have hs := ph_szb hW hf
  have hn4 := hW.2.2.2.2.1
  intro d
  induction d with
  | zero =>
    intro x hi hx hm
    have e : x = 40 := by omega
    subst e
    rw [wX_flow_2]
    refine br_t (nI_le (a := 40) (b := 40) (by omega) (by omega)) ?_
    refine ph_xarrive (t := 0) (h := 0) (n := ph_sz B f) (by omega) hs.2 (hF f hf).2.2.2 (by omega) (by omega) (fun i hi' => Or.inl (hm i hi')) (fun W' hi' fa' A => ⟨41, ?_⟩)
    have h0 := hm 0 (by omega)
    rcases A with ⟨a, -⟩ | ⟨-, a, -⟩ | ⟨-, a, -⟩ | ⟨-, -, rfl, rfl, rfl⟩
    · omega
    · exact absurd h0 a
    · rw [h0] at a; exact absurd a.symm (ph_nIm1 (by omega))
    · refine ph_x40 hW hB hF hf hC hJ k1 k0 40 0 _ _ _ (by omega) (ph_XI_0 hs.2 (by omega) fun i hi' => ?_)
      by_cases z : i = 0
      · subst z; rw [pk_us, if_pos rfl]
      · rw [pk_un z, if_neg z]; exact hm i hi'
  | succ d ih =>
    intro x hi hx hm
    rw [wX_flow_2]
    refine br_f (nI_ge (a := x) (b := 40) (by omega) (by omega)) ⟨vp_in_nI (by omega) (by omega), ?_⟩
    refine nm_r (e' := upd hi x (-1)) (by rw [nI_clamp (by omega), ph_m1b]) (nm_r (nI_1 x) (ih (x + 1) _ (by omega) fun i hi' => ?_))
    by_cases z : i = x
    · subst z; exact pk_us
    · rw [pk_un z]; exact hm i (by omega)
theorem ph_xflow {post : Int32 → SX → Prop} {f : Nat} (hW : ph_WF B L) (hB : ph_BX B a_bytes) (hF : ph_FA B (ph_nf B) a_params a_locals a_from a_size) (hf : f < ph_nf B)
    (hC : ph_CO (ph_nf B) (B 1) (B (ph_hd B f) + B (ph_hd B f + 1)) (ph_sz B f) (ph_cdo B f)) (hJ : ph_JO (ph_sz B f) (ph_cdo B f))
    (k1 : ∀ W hi, ph_Good B (ph_sz B f) (ph_cdo B f) (ph_RH (ph_sz B f) hi) → (∀ i, i < 40 → hi i = -1 ∨ ∃ h, h ≤ 6 ∧ hi i = nI h) → post 1 (f_nodes, f_rules, f_version, f_count, f_at, f_place, f_number, f_imports, f_functions, W, 0, f_frames, f_box, f_pc, f_status, f_result, f_memory, a_child, a_verdict, a_ruleNode, a_before, a_nodesBefore, a_bytes, a_path, a_pathAt, a_params, a_locals, a_from, a_size, hi, a_loaded, a_emitted, a_entry, a_pParams, a_pFunctions, a_pImports, a_pPath, a_judged, a_fine, a_newAt, a_plugin, a_quota, a_statics, a_slot, a_back, a_entries))
    (k0 : ∀ W hi fa, ¬ ph_FO B (ph_sz B f) (ph_cdo B f) → post 0 (f_nodes, f_rules, f_version, f_count, f_at, f_place, f_number, f_imports, f_functions, W, fa, f_frames, f_box, f_pc, f_status, f_result, f_memory, a_child, a_verdict, a_ruleNode, a_before, a_nodesBefore, a_bytes, a_path, a_pathAt, a_params, a_locals, a_from, a_size, hi, a_loaded, a_emitted, a_entry, a_pParams, a_pFunctions, a_pImports, a_pPath, a_judged, a_fine, a_newAt, a_plugin, a_quota, a_statics, a_slot, a_back, a_entries)) : wpX_flow post (f_nodes, f_rules, f_version, f_count, f_at, f_place, f_number, f_imports, f_functions, f_waiting, f_fault, f_frames, f_box, f_pc, f_status, f_result, f_memory, a_child, a_verdict, a_ruleNode, a_before, a_nodesBefore, a_bytes, a_path, a_pathAt, a_params, a_locals, a_from, a_size, a_high, a_loaded, a_emitted, a_entry, a_pParams, a_pFunctions, a_pImports, a_pPath, a_judged, a_fine, a_newAt, a_plugin, a_quota, a_statics, a_slot, a_back, a_entries) (nI f) := by
  unfold wpX_flow
  exact ⟨41, ph_x2 hW hB hF hf hC hJ k1 k0 40 0 a_high (by omega) (fun i hi => by omega)⟩
end
end
section
/-! ===== the reference's flow ===== -/
def ph_YI (B : Nat → Nat) (n : Nat) (c : Nat → Nat) (w : Nat → Int32) : Prop :=
  w 0 = 1 ∧ (∀ k, k < 280 → w k = 0 ∨ w k = 1) ∧ (∀ k, k < 280 → w k = 1 → k / 7 < n ∧ ph_St c (k / 7)) ∧ (∀ R, ph_Good B n c R → ∀ k, k < 280 → w k = 1 → R (k / 7) (k % 7))
def ph_YC (B : Nat → Nat) (n : Nat) (c : Nat → Nat) (w : Nat → Int32) (i h : Nat) : Prop :=
  (∀ o, o < 7 → o ≠ h → w (7 * i + o) = 0) ∧ ph_ok B n c i h ∧ (c i ≠ 10 → c i ≠ 16 → w (7 * (i + ph_wd (c i)) + ph_af B c i h) = 1) ∧ (ph_isj (c i) = true → ∀ t : Nat, ph_tg c i = (t : Int) → w (7 * t + ph_af B c i h) = 1)
noncomputable def ph_cw (w : Nat → Int32) : Nat := ph_cn (fun k => w k = 1) 280
def ph_NW (w0 w : Nat → Int32) (x : Nat) : Prop := (x = 0 ∧ w = w0) ∨ (x = 1 ∧ ph_cw w0 + 1 ≤ ph_cw w)
theorem ph_cw_add {w : Nat → Int32} {k : Nat} (hk : k < 280) (h : w k = 0) : ph_cw w + 1 ≤ ph_cw (upd w k 1) := by
  refine ph_cn_lt (a := k) (fun z => ?_) pk_us (fun j hj z => ?_) hk
  · rw [h] at z; exact absurd z (by decide)
  · by_cases e : j = k
    · subst e; exact pk_us
    · rw [pk_un e]; exact z
theorem ph_YI_add {B c : Nat → Nat} {n i h : Nat} {w : Nat → Int32} (I : ph_YI B n c w) (hn : n ≤ 40) (hi : i < n) (hh : h ≤ 6) (hst : ph_St c i) (hR : ∀ R, ph_Good B n c R → R i h) : ph_YI B n c (upd w (7 * i + h) 1) := by
  obtain ⟨h1, h2, h3, h4⟩ := I
  have e1 : (7 * i + h) / 7 = i := by omega
  have e2 : (7 * i + h) % 7 = h := by omega
  refine ⟨?_, fun k hk => ?_, fun k hk e => ?_, fun R g k hk e => ?_⟩
  · by_cases z : 0 = 7 * i + h
    · rw [← z]; exact pk_us
    · rw [pk_un z]; exact h1
  · by_cases z : k = 7 * i + h
    · subst z; exact Or.inr pk_us
    · rw [pk_un z]; exact h2 k hk
  · by_cases z : k = 7 * i + h
    · subst z; rw [e1]; exact ⟨hi, hst⟩
    · rw [pk_un z] at e; exact h3 k hk e
  · by_cases z : k = 7 * i + h
    · subst z; rw [e1, e2]; exact hR R g
    · rw [pk_un z] at e; exact h4 R g k hk e
theorem ph_YI_good {B c : Nat → Nat} {n : Nat} {w : Nat → Int32} (I : ph_YI B n c w) (hn : n ≤ 40) (hn0 : 0 < n) (hJ : ph_JO n c) (hC : ∀ i h, i < n → h ≤ 6 → w (7 * i + h) = 1 → ph_YC B n c w i h) : ph_FO B n c := by
  obtain ⟨h1, h2, h3, h4⟩ := I
  refine ⟨fun i h => i < n ∧ h ≤ 6 ∧ w (7 * i + h) = 1, ⟨hn0, by omega, h1⟩, ?_, ?_⟩
  · rintro i h h' ⟨a1, a2, a3⟩ ⟨b1, b2, b3⟩
    obtain ⟨q1, -, -, -⟩ := hC i h a1 a2 a3
    refine Classical.byContradiction fun z => ?_
    have := q1 h' (by omega) (fun e => z e.symm)
    rw [b3] at this; exact absurd this (by decide)
  · rintro i h ⟨a1, a2, a3⟩
    obtain ⟨q1, q2, q3, q4⟩ := hC i h a1 a2 a3
    have e1 : (7 * i + h) / 7 = i := by omega
    have hst := (h3 (7 * i + h) (by omega) a3).2
    rw [e1] at hst
    refine ⟨hst, a1, a2, q2, fun z1 z2 => ⟨q2.2.2 z1 z2, q2.2.1, q3 z1 z2⟩, fun z1 t z2 => ?_⟩
    obtain ⟨t', s1, s2, s3⟩ := hJ i hst a1 z1
    have : t' = t := by omega
    subst this
    exact ⟨s2, q2.2.1, q4 z1 t' z2⟩
theorem ph_7 (a : Nat) : nI a * 7 = nI (7 * a) := by rw [show (7 : Int32) = nI 7 from rfl, pk_mul, Nat.mul_comm]
theorem ph_or01 {x : Nat} (hx : x ≤ 1) : nI x ||| 1 = nI 1 ∧ nI x ||| 0 = nI x := by
  rcases (by omega : x = 0 ∨ x = 1) with e | e <;> subst e <;> decide
section
variable {g_rules g_place g_number g_pos g_finding g_active g_result : Int32} {g_memory : Int64} {b_ruleParts b_rulePath b_ruleAllows b_bytes b_length b_present b_ways b_boxPlugin b_boxQuota b_boxOpen b_statics b_aFn b_aPos b_aHigh b_aLocal b_aEntry : Nat → Int32}
variable {B : Nat → Nat} {L : Nat}
theorem ph_ygives {post : Int32 → Prop} {op : Nat} (ho : op ≤ 16) (k : post (nI (ph_gv op))) : wpY_gives post (nI op) := by
  unfold wpY_gives
  rcases ph_17 ho with e | e | e | e | e | e | e | e | e | e | e | e | e | e | e | e | e <;> subst e <;>
    (repeat (first | refine br_t (by decide) ?_ | refine br_f (by decide) ?_ | unfold wY_gives_26)) <;> exact k
theorem ph_ytakes {post : Int32 → Prop} {p f i : Nat} (hp : p < 4) (hB : ph_BY B L p b_bytes) (hW : ph_WF B L) (hf : f < ph_nf B)
    (hC : ph_isbad (ph_nf B) (B 1) (B (ph_hd B f) + B (ph_hd B f + 1)) (ph_sz B f) (ph_cdo B f) i = false) (hi : i < ph_sz B f) (k : post (nI (ph_tk B (ph_cdo B f) i))) :
    wpY_takes post (g_rules, g_place, g_number, g_pos, g_finding, g_active, g_result, g_memory, b_ruleParts, b_rulePath, b_ruleAllows, b_bytes, b_length, b_present, b_ways, b_boxPlugin, b_boxQuota, b_boxOpen, b_statics, b_aFn, b_aPos, b_aHigh, b_aLocal, b_aEntry) (nI p) (nI (120 * p + ph_hd B f + 3 + i)) := by
  have hb := ph_hd_b hW hf
  have hsz : B (ph_hd B f + 2) = ph_sz B f := rfl
  rw [hsz] at hb
  obtain ⟨g1, g2, g3⟩ := ph_isbad_f hC
  obtain ⟨ey, hc⟩ := ph_yb (p := p) (i := i) hB hW hf hi
  unfold wpY_takes
  try dsimp only
  rw [nI_clamp (by omega)]
  refine ⟨vp_in_nI (by omega) (by omega), nm_r ey ?_⟩
  refine pk_eq (ph_cdo B f i) 12 (fun q => ?_) (fun q => ?_)
  · have hw2 : ph_wd (ph_cdo B f i) = 2 := by rw [q]; rfl
    have h1' : i + 1 < ph_sz B f := by omega
    have hg : ph_cdo B f (i + 1) < ph_nf B := by
      have := g3 hw2
      rw [q] at this
      exact this
    obtain ⟨ey', -⟩ := ph_yb (p := p) (i := i + 1) hB hW hf h1'
    have hb' := ph_hd_b hW hg
    rw [nI_1, nI_clamp (by omega), show 120 * p + ph_hd B f + 3 + i + 1 = 120 * p + ph_hd B f + 3 + (i + 1) by omega, ey']
    refine ⟨vp_in_nI (by omega) (by omega), ph_yhead hp hB hW hg ⟨vp_in_nI (by omega) (by omega), ?_⟩⟩
    rw [nI_clamp (by omega), (hB (ph_hd B (ph_cdo B f (i + 1))) (by omega)).1]
    rw [ph_tk_c q] at k
    exact k
  · rw [ph_tk_n q] at k
    generalize ph_cdo B f i = op at g1 q k
    rcases ph_17 g1 with e | e | e | e | e | e | e | e | e | e | e | e | e | e | e | e | e <;> subst e <;> (first | exact absurd rfl q | skip) <;>
      (repeat (first | refine br_t (by decide) ?_ | refine br_f (by decide) ?_ | unfold wY_takes_51)) <;> exact k
theorem ph_yway {post : Int32 → SY → Prop} {k : Nat} (hk : k < 280) (hr : b_ways k = 0 ∨ b_ways k = 1) (k1 : b_ways k = 0 → post 1 (g_rules, g_place, g_number, g_pos, g_finding, g_active, g_result, g_memory, b_ruleParts, b_rulePath, b_ruleAllows, b_bytes, b_length, b_present, upd b_ways k 1, b_boxPlugin, b_boxQuota, b_boxOpen, b_statics, b_aFn, b_aPos, b_aHigh, b_aLocal, b_aEntry)) (k0 : b_ways k = 1 → post 0 (g_rules, g_place, g_number, g_pos, g_finding, g_active, g_result, g_memory, b_ruleParts, b_rulePath, b_ruleAllows, b_bytes, b_length, b_present, b_ways, b_boxPlugin, b_boxQuota, b_boxOpen, b_statics, b_aFn, b_aPos, b_aHigh, b_aLocal, b_aEntry)) : wpY_way post (g_rules, g_place, g_number, g_pos, g_finding, g_active, g_result, g_memory, b_ruleParts, b_rulePath, b_ruleAllows, b_bytes, b_length, b_present, b_ways, b_boxPlugin, b_boxQuota, b_boxOpen, b_statics, b_aFn, b_aPos, b_aHigh, b_aLocal, b_aEntry) (nI k) := by
  unfold wpY_way
  try dsimp only
  rw [nI_clamp (by omega)]
  refine ⟨vp_in_nI hk (by omega), br_c (fun e => ⟨vp_in_nI hk (by omega), nm_r (e' := upd b_ways k 1) (by rw [ph_bo1]) (k1 e)⟩) (fun e => k0 ?_)⟩
  rcases hr with z | z
  · exact absurd z e
  · exact z
theorem ph_y85 {post : Int32 → SY → Prop} {J : Int32 → Int32 → Int32 → Int32 → Int32 → Int32 → Int32 → Int32 → Int32 → Int64 → (Nat → Int32) → (Nat → Int32) → (Nat → Int32) → (Nat → Int32) → (Nat → Int32) → (Nat → Int32) → (Nat → Int32) → (Nat → Int32) → (Nat → Int32) → (Nat → Int32) → (Nat → Int32) → (Nat → Int32) → (Nat → Int32) → (Nat → Int32) → (Nat → Int32) → (Nat → Int32) → Prop} {x2 x3 x4 x6 x8 x9 x10 : Int32} {i h : Nat} (hi : i < 40) (h6 : h ≤ 6) (hr : ∀ k, k < 280 → b_ways k = 0 ∨ b_ways k = 1)
    (Kc : ∀ o, o < 7 → o ≠ h → b_ways (7 * i + o) = 1 → post (-1) (g_rules, g_place, g_number, g_pos, g_finding, g_active, g_result, g_memory, b_ruleParts, b_rulePath, b_ruleAllows, b_bytes, b_length, b_present, b_ways, b_boxPlugin, b_boxQuota, b_boxOpen, b_statics, b_aFn, b_aPos, b_aHigh, b_aLocal, b_aEntry)) (K : (∀ o, o < 7 → o ≠ h → b_ways (7 * i + o) = 0) → wY_walk_85 post J x2 x3 x4 (nI (7 * i + h)) x6 (nI h) x8 x9 x10 g_rules g_place g_number g_pos g_finding g_active g_result g_memory b_ruleParts b_rulePath b_ruleAllows b_bytes b_length b_present b_ways b_boxPlugin b_boxQuota b_boxOpen b_statics b_aFn b_aPos b_aHigh b_aLocal b_aEntry 1 (nI 7)) :
    ∀ d o, o + d = 7 → (∀ o', o' < o → o' ≠ h → b_ways (7 * i + o') = 0) → wY_walk_85 post J x2 x3 x4 (nI (7 * i + h)) x6 (nI h) x8 x9 x10 g_rules g_place g_number g_pos g_finding g_active g_result g_memory b_ruleParts b_rulePath b_ruleAllows b_bytes b_length b_present b_ways b_boxPlugin b_boxQuota b_boxOpen b_statics b_aFn b_aPos b_aHigh b_aLocal b_aEntry (d + 1) (nI o) := by
  intro d
  induction d with
  | zero =>
    intro o ho hz
    have e : o = 7 := by omega
    subst e
    exact K hz
  | succ d ih =>
    intro o ho hz
    rw [wY_walk_85]
    refine br_f (nI_ge (a := o) (b := 7) (by omega) (by omega)) (pk_eq o h (fun e => nm_r (nI_1 o) (ih (o + 1) (by omega) fun o' h1 h2 => hz o' (by omega) h2)) (fun e => ?_))
    rw [pk_sub (by omega), nI_add, show 7 * i + h - h + o = 7 * i + o by omega, nI_clamp (by omega)]
    refine ⟨vp_in_nI (by omega) (by omega), br_c (fun q => nm_r (nI_1 o) (ih (o + 1) (by omega) fun o' h1 h2 => ?_)) (fun q => ?_)⟩
    · by_cases z : o' = o
      · subst z; exact q
      · exact hz o' (by omega) h2
    · rcases hr (7 * i + o) (by omega) with z | z
      · exact absurd z q
      · exact Kc o (by omega) e z
theorem ph_ybody {post : Int32 → SY → Prop} {J : Int32 → Int32 → Int32 → Int32 → Int32 → Int32 → Int32 → Int32 → Int32 → Int64 → (Nat → Int32) → (Nat → Int32) → (Nat → Int32) → (Nat → Int32) → (Nat → Int32) → (Nat → Int32) → (Nat → Int32) → (Nat → Int32) → (Nat → Int32) → (Nat → Int32) → (Nat → Int32) → (Nat → Int32) → (Nat → Int32) → (Nat → Int32) → (Nat → Int32) → (Nat → Int32) → Prop} {f i h x : Nat} {w0 : Nat → Int32} (hB : ph_BY B L 3 b_bytes) (hW : ph_WF B L) (hf : f < ph_nf B)
    (hC : ph_CO (ph_nf B) (B 1) (B (ph_hd B f) + B (ph_hd B f + 1)) (ph_sz B f) (ph_cdo B f)) (hJ : ph_JO (ph_sz B f) (ph_cdo B f))
    (I : ph_YI B (ph_sz B f) (ph_cdo B f) b_ways) (N : ph_NW w0 b_ways x) (hi : i < ph_sz B f) (h6 : h ≤ 6) (hw : b_ways (7 * i + h) = 1)
    (Kb : ∀ w, ¬ ph_FO B (ph_sz B f) (ph_cdo B f) → post (-1) (g_rules, g_place, g_number, g_pos, g_finding, g_active, g_result, g_memory, b_ruleParts, b_rulePath, b_ruleAllows, b_bytes, b_length, b_present, w, b_boxPlugin, b_boxQuota, b_boxOpen, b_statics, b_aFn, b_aPos, b_aHigh, b_aLocal, b_aEntry))
    (KJ : ∀ w' x', ph_YI B (ph_sz B f) (ph_cdo B f) w' → ph_NW w0 w' x' → (x' = 0 → x = 0 ∧ ph_YC B (ph_sz B f) (ph_cdo B f) w0 i h) → J (nI x') (nI (7 * i + h + 1)) g_rules g_place g_number g_pos g_finding g_active g_result g_memory b_ruleParts b_rulePath b_ruleAllows b_bytes b_length b_present w' b_boxPlugin b_boxQuota b_boxOpen b_statics b_aFn b_aPos b_aHigh b_aLocal b_aEntry)
    (hcl : ∀ o, o < 7 → o ≠ h → b_ways (7 * i + o) = 0) :
    wY_walk_85 post J (nI (120 * 3 + ph_hd B f + 3)) (nI (120 * 3 + ph_hd B f + 3 + ph_sz B f)) (nI x) (nI (7 * i + h)) (nI (120 * 3 + ph_hd B f + 3 + i)) (nI h) (nI (ph_cdo B f i)) (nI (ph_tk B (ph_cdo B f) i)) (nI (ph_gv (ph_cdo B f i))) g_rules g_place g_number g_pos g_finding g_active g_result g_memory b_ruleParts b_rulePath b_ruleAllows b_bytes b_length b_present b_ways b_boxPlugin b_boxQuota b_boxOpen b_statics b_aFn b_aPos b_aHigh b_aLocal b_aEntry 1 (nI 7) := by
  have hs := ph_szb hW hf
  have hb := ph_hd_b hW hf
  have hsz : B (ph_hd B f + 2) = ph_sz B f := rfl
  rw [hsz] at hb
  have hst : ph_St (ph_cdo B f) i := by
    have := (I.2.2.1 (7 * i + h) (by omega) hw).2
    rwa [show (7 * i + h) / 7 = i by omega] at this
  have hR : ∀ R, ph_Good B (ph_sz B f) (ph_cdo B f) R → R i h := fun R g => by
    have := I.2.2.2 R g (7 * i + h) (by omega) hw
    rwa [show (7 * i + h) / 7 = i by omega, show (7 * i + h) % 7 = h by omega] at this
  obtain ⟨g1, g2, g3⟩ := ph_isbad_f (hC i hst hi)
  have hwd := ph_wd_b (ph_cdo B f i)
  have htk : ph_tk B (ph_cdo B f) i < 2000 := by
    by_cases e12 : ph_cdo B f i = 12
    · rw [ph_tk_c e12]
      have := g3 (by rw [e12]; rfl)
      rw [e12] at this
      have := (hW.2.2.2.2.2.2 _ (show ph_cdo B f (i + 1) < ph_nf B from this)).1
      omega
    · rw [ph_tk_n e12]; unfold ph_nd; split
      · omega
      · split <;> omega
  have hgv : ph_gv (ph_cdo B f i) ≤ 2 := by unfold ph_gv; split
                                            · omega
                                            · split <;> omega
  have hx1 : x ≤ 1 := by rcases N with ⟨z, -⟩ | ⟨z, -⟩ <;> omega
  -- a way: what it does to the set
  have way : ∀ (w : Nat → Int32) (y t h' : Nat), ph_YI B (ph_sz B f) (ph_cdo B f) w → ph_NW w0 w y → t < ph_sz B f → h' ≤ 6 → ph_St (ph_cdo B f) t → (∀ R, ph_Good B (ph_sz B f) (ph_cdo B f) R → R t h') →
      ∀ Q : Int32 → SY → Prop, (∀ w' (y' : Nat) (r : Int32), nI y ||| r = nI y' → y' ≤ 1 → ph_YI B (ph_sz B f) (ph_cdo B f) w' → ph_NW w0 w' y' → (y' = 0 → y = 0 ∧ w0 (7 * t + h') = 1) → Q r (g_rules, g_place, g_number, g_pos, g_finding, g_active, g_result, g_memory, b_ruleParts, b_rulePath, b_ruleAllows, b_bytes, b_length, b_present, w', b_boxPlugin, b_boxQuota, b_boxOpen, b_statics, b_aFn, b_aPos, b_aHigh, b_aLocal, b_aEntry)) → wpY_way Q (g_rules, g_place, g_number, g_pos, g_finding, g_active, g_result, g_memory, b_ruleParts, b_rulePath, b_ruleAllows, b_bytes, b_length, b_present, w, b_boxPlugin, b_boxQuota, b_boxOpen, b_statics, b_aFn, b_aPos, b_aHigh, b_aLocal, b_aEntry) (nI (7 * t + h')) := by
    intro w y t h' Iw Nw ht hh' hst' hR' Q KQ
    have hy1 : y ≤ 1 := by rcases Nw with ⟨z, -⟩ | ⟨z, -⟩ <;> omega
    refine ph_yway (by omega) (Iw.2.1 _ (by omega)) (fun e => ?_) (fun e => ?_)
    · refine KQ _ 1 1 (ph_or01 hy1).1 (by omega) (ph_YI_add Iw hs.2 ht hh' hst' hR') (Or.inr ⟨rfl, ?_⟩) (fun z => by omega)
      have q := ph_cw_add (w := w) (k := 7 * t + h') (by omega) e
      rcases Nw with ⟨-, z⟩ | ⟨-, z⟩
      · subst z; exact q
      · omega
    · refine KQ w y 0 (ph_or01 hy1).2 hy1 Iw Nw (fun z => ⟨z, ?_⟩)
      rcases Nw with ⟨-, z'⟩ | ⟨z', -⟩
      · subst z'; exact e
      · omega
  rw [wY_walk_85]
  refine br_t (nI_le (a := 7) (b := 7) (by omega) (by omega)) (pk_lt h (ph_tk B (ph_cdo B f) i) (fun q => Kb _ ?_) (fun q => ?_))
  · rintro ⟨R, g⟩
    have := (g.2.2 i h (hR R g)).2.2.2.1.1
    omega
  rw [pk_sub q, nI_add]
  have haf : ph_af B (ph_cdo B f) i h = h - ph_tk B (ph_cdo B f) i + ph_gv (ph_cdo B f i) := rfl
  rw [← haf]
  refine pk_le (ph_af B (ph_cdo B f) i h) 6 (fun q2 => nm_e ?_) (fun q2 => Kb _ ?_)
  rotate_left
  · rintro ⟨R, g⟩
    have := (g.2.2 i h (hR R g)).2.2.2.1.2.1
    omega
  have e00 : x = 0 → b_ways = w0 := fun z => by
    rcases N with ⟨-, z'⟩ | ⟨z', -⟩
    · exact z'
    · omega
  -- the end of the round
  have hend : ∀ (w : Nat → Int32) (y : Nat), ph_YI B (ph_sz B f) (ph_cdo B f) w → ph_NW w0 w y → (y = 0 → x = 0) →
      (y = 0 → ph_cdo B f i ≠ 10 → ph_cdo B f i ≠ 16 → i + ph_wd (ph_cdo B f i) < ph_sz B f ∧ w0 (7 * (i + ph_wd (ph_cdo B f i)) + ph_af B (ph_cdo B f) i h) = 1) →
      (y = 0 → ph_isj (ph_cdo B f i) = true → ∀ t : Nat, ph_tg (ph_cdo B f) i = (t : Int) → w0 (7 * t + ph_af B (ph_cdo B f) i h) = 1) → J (nI y) (nI (7 * i + h + 1)) g_rules g_place g_number g_pos g_finding g_active g_result g_memory b_ruleParts b_rulePath b_ruleAllows b_bytes b_length b_present w b_boxPlugin b_boxQuota b_boxOpen b_statics b_aFn b_aPos b_aHigh b_aLocal b_aEntry := by
    intro w y Iw Nw e0 e1 e2
    refine KJ w y Iw Nw fun z => ⟨e0 z, fun o ho1 ho2 => ?_, ⟨q, q2, fun z1 z2 => (e1 z z1 z2).1⟩, fun z1 z2 => (e1 z z1 z2).2, e2 z⟩
    rw [← e00 (e0 z)]; exact hcl o ho1 ho2
  -- the jump's way
  have h242 : ∀ (w : Nat → Int32) (y : Nat), ph_YI B (ph_sz B f) (ph_cdo B f) w → ph_NW w0 w y → (y = 0 → x = 0) → (ph_cdo B f i = 10 ∨ ph_cdo B f i = 11) →
      (y = 0 → ph_cdo B f i ≠ 10 → ph_cdo B f i ≠ 16 → i + ph_wd (ph_cdo B f i) < ph_sz B f ∧ w0 (7 * (i + ph_wd (ph_cdo B f i)) + ph_af B (ph_cdo B f) i h) = 1) →
      wY_walk_242 post J (nI (120 * 3 + ph_hd B f + 3)) (nI (120 * 3 + ph_hd B f + 3 + ph_sz B f)) (nI y) (nI (7 * i + h)) (nI (120 * 3 + ph_hd B f + 3 + i)) (nI (ph_af B (ph_cdo B f) i h)) g_rules g_place g_number g_pos g_finding g_active g_result g_memory b_ruleParts b_rulePath b_ruleAllows b_bytes b_length b_present w b_boxPlugin b_boxQuota b_boxOpen b_statics b_aFn b_aPos b_aHigh b_aLocal b_aEntry := by
    intro w y Iw Nw e0 q3 q4
    have hw2 : ph_wd (ph_cdo B f i) = 2 := if_pos (by omega)
    have hisj : ph_isj (ph_cdo B f i) = true := by unfold ph_isj; simp; exact q3
    have h1' : i + 1 < ph_sz B f := by omega
    obtain ⟨t, t1, t2, t3⟩ := hJ i hst hi hisj
    obtain ⟨-, hcb⟩ := ph_yb (p := 3) (i := i + 1) hB hW hf h1'
    have et : nI (120 * 3 + ph_hd B f + 3 + i + 2) + ph_sv (ph_cdo B f (i + 1)) = nI (120 * 3 + ph_hd B f + 3 + t) := ph_eqI (by omega) (by rw [ph_add_sv (by omega) hcb]; unfold ph_tg at t3; omega)
    unfold wY_walk_242
    refine ph_ytarget (p := 3) (by omega) hB hW hf h1' ?_
    rw [et, pk_sub (by omega), show 120 * 3 + ph_hd B f + 3 + t - (120 * 3 + ph_hd B f + 3) = t by omega, ph_7, nI_add]
    refine way w y t _ Iw Nw t2 q2 t1 (fun R g => (g.2.2 i h (hR R g)).2.2.2.2.2 hisj t t3) _ (fun w' y' r e hy' I' N' c' => ?_)
    refine nm_r e (nm_r (nI_1 _) (hend w' y' I' N' (fun z => e0 (c' z).1) (fun z => q4 (c' z).1) (fun z _ t' e' => ?_)))
    have : t' = t := by omega
    subst this; exact (c' z).2
  have h228 : ∀ (w : Nat → Int32) (y : Nat), ph_YI B (ph_sz B f) (ph_cdo B f) w → ph_NW w0 w y → (y = 0 → x = 0) →
      (y = 0 → ph_cdo B f i ≠ 10 → ph_cdo B f i ≠ 16 → i + ph_wd (ph_cdo B f i) < ph_sz B f ∧ w0 (7 * (i + ph_wd (ph_cdo B f i)) + ph_af B (ph_cdo B f) i h) = 1) →
      wY_walk_228 post J (nI (120 * 3 + ph_hd B f + 3)) (nI (120 * 3 + ph_hd B f + 3 + ph_sz B f)) (nI y) (nI (7 * i + h)) (nI (120 * 3 + ph_hd B f + 3 + i)) (nI (ph_cdo B f i)) (nI (ph_af B (ph_cdo B f) i h)) g_rules g_place g_number g_pos g_finding g_active g_result g_memory b_ruleParts b_rulePath b_ruleAllows b_bytes b_length b_present w b_boxPlugin b_boxQuota b_boxOpen b_statics b_aFn b_aPos b_aHigh b_aLocal b_aEntry := by
    intro w y Iw Nw e0 q4
    unfold wY_walk_228
    refine pk_eq (ph_cdo B f i) 10 (fun q5 => h242 w y Iw Nw e0 (Or.inl q5) q4) (fun q5 => pk_eq (ph_cdo B f i) 11 (fun q6 => h242 w y Iw Nw e0 (Or.inr q6) q4) (fun q6 => nm_r (nI_1 _) (hend w y Iw Nw e0 q4 (fun _ z => ?_))))
    unfold ph_isj at z
    simp [q5, q6] at z
  have h195 : (ph_cdo B f i ≠ 10 → ph_cdo B f i ≠ 16 → i + ph_wd (ph_cdo B f i) < ph_sz B f) →
      wY_walk_195 post J (nI (120 * 3 + ph_hd B f + 3)) (nI (120 * 3 + ph_hd B f + 3 + ph_sz B f)) (nI x) (nI (7 * i + h)) (nI (120 * 3 + ph_hd B f + 3 + i)) (nI (ph_cdo B f i)) (nI (ph_af B (ph_cdo B f) i h)) (nI (120 * 3 + ph_hd B f + 3 + (i + ph_wd (ph_cdo B f i)))) g_rules g_place g_number g_pos g_finding g_active g_result g_memory b_ruleParts b_rulePath b_ruleAllows b_bytes b_length b_present b_ways b_boxPlugin b_boxQuota b_boxOpen b_statics b_aFn b_aPos b_aHigh b_aLocal b_aEntry := by
    intro q3
    unfold wY_walk_195
    refine pk_eq (ph_cdo B f i) 10 (fun q5 => h228 _ _ I N (fun z => z) (fun _ z => absurd q5 z)) (fun q5 => pk_eq (ph_cdo B f i) 16 (fun q6 => h228 _ _ I N (fun z => z) (fun _ _ z => absurd q6 z)) (fun q6 => ?_))
    rw [pk_sub (by omega), show 120 * 3 + ph_hd B f + 3 + (i + ph_wd (ph_cdo B f i)) - (120 * 3 + ph_hd B f + 3) = i + ph_wd (ph_cdo B f i) by omega, ph_7, nI_add]
    refine way b_ways x (i + ph_wd (ph_cdo B f i)) _ I N (q3 q5 q6) q2 (ph_St_s hst) (fun R g => (g.2.2 i h (hR R g)).2.2.2.2.1 q5 q6) _ (fun w' y' r e hy' I' N' c' => nm_r e (h228 w' y' I' N' (fun z => (c' z).1) (fun z _ _ => ⟨q3 q5 q6, (c' z).2⟩)))
  have h170 : ∀ z0 : Nat, z0 = ph_wd (ph_cdo B f i) →
      wY_walk_170 post J (nI (120 * 3 + ph_hd B f + 3)) (nI (120 * 3 + ph_hd B f + 3 + ph_sz B f)) (nI x) (nI (7 * i + h)) (nI (120 * 3 + ph_hd B f + 3 + i)) (nI (ph_cdo B f i)) (nI (ph_af B (ph_cdo B f) i h)) (nI z0) (nI (120 * 3 + ph_hd B f + 3 + i)) g_rules g_place g_number g_pos g_finding g_active g_result g_memory b_ruleParts b_rulePath b_ruleAllows b_bytes b_length b_present b_ways b_boxPlugin b_boxQuota b_boxOpen b_statics b_aFn b_aPos b_aHigh b_aLocal b_aEntry := by
    rintro z0 rfl
    unfold wY_walk_170
    refine nm_r (e' := nI (120 * 3 + ph_hd B f + 3 + (i + ph_wd (ph_cdo B f i)))) (by rw [nI_add]; exact congrArg nI (by omega)) ?_
    refine pk_eq (ph_cdo B f i) 10 (fun q5 => h195 (fun z => absurd q5 z)) (fun q5 => pk_eq (ph_cdo B f i) 16 (fun q6 => h195 (fun _ z => absurd q6 z)) (fun q6 => ?_))
    refine pk_lt (120 * 3 + ph_hd B f + 3 + (i + ph_wd (ph_cdo B f i))) (120 * 3 + ph_hd B f + 3 + ph_sz B f) (fun q7 => h195 (fun _ _ => by omega)) (fun q7 => Kb _ ?_)
    rintro ⟨R, g⟩
    have := (g.2.2 i h (hR R g)).2.2.2.1.2.2 q5 q6
    omega
  exact ph_ywide (by omega) (fun w => br_t rfl (h170 1 w.symm)) (fun w => br_f (by decide) (h170 2 w.symm))
theorem ph_ywalk20 {post : Int32 → SY → Prop} {f : Nat} {w0 : Nat → Int32} (hB : ph_BY B L 3 b_bytes) (hW : ph_WF B L) (hf : f < ph_nf B)
    (hC : ph_CO (ph_nf B) (B 1) (B (ph_hd B f) + B (ph_hd B f + 1)) (ph_sz B f) (ph_cdo B f)) (hJ : ph_JO (ph_sz B f) (ph_cdo B f))
    (Kb : ∀ w, ¬ ph_FO B (ph_sz B f) (ph_cdo B f) → post (-1) (g_rules, g_place, g_number, g_pos, g_finding, g_active, g_result, g_memory, b_ruleParts, b_rulePath, b_ruleAllows, b_bytes, b_length, b_present, w, b_boxPlugin, b_boxQuota, b_boxOpen, b_statics, b_aFn, b_aPos, b_aHigh, b_aLocal, b_aEntry))
    (K0 : ph_FO B (ph_sz B f) (ph_cdo B f) → post 0 (g_rules, g_place, g_number, g_pos, g_finding, g_active, g_result, g_memory, b_ruleParts, b_rulePath, b_ruleAllows, b_bytes, b_length, b_present, w0, b_boxPlugin, b_boxQuota, b_boxOpen, b_statics, b_aFn, b_aPos, b_aHigh, b_aLocal, b_aEntry))
    (K1 : ∀ w, ph_YI B (ph_sz B f) (ph_cdo B f) w → ph_cw w0 + 1 ≤ ph_cw w → post 1 (g_rules, g_place, g_number, g_pos, g_finding, g_active, g_result, g_memory, b_ruleParts, b_rulePath, b_ruleAllows, b_bytes, b_length, b_present, w, b_boxPlugin, b_boxQuota, b_boxOpen, b_statics, b_aFn, b_aPos, b_aHigh, b_aLocal, b_aEntry)) :
    ∀ d k x w, k + d = 280 → ph_YI B (ph_sz B f) (ph_cdo B f) w → ph_NW w0 w x → (x = 0 → ∀ i h, i < ph_sz B f → h ≤ 6 → 7 * i + h < k → w0 (7 * i + h) = 1 → ph_YC B (ph_sz B f) (ph_cdo B f) w0 i h) →
      wY_walk_20 post (nI (120 * 3 + ph_hd B f + 3)) (nI (120 * 3 + ph_hd B f + 3 + ph_sz B f)) (d + 1) (nI x) (nI k) g_rules g_place g_number g_pos g_finding g_active g_result g_memory b_ruleParts b_rulePath b_ruleAllows b_bytes b_length b_present w b_boxPlugin b_boxQuota b_boxOpen b_statics b_aFn b_aPos b_aHigh b_aLocal b_aEntry := by
  have hs := ph_szb hW hf
  have hb := ph_hd_b hW hf
  have hsz : B (ph_hd B f + 2) = ph_sz B f := rfl
  rw [hsz] at hb
  intro d
  induction d with
  | zero =>
    intro k x w hk I N hcl
    rw [wY_walk_20]
    refine br_t (nI_le (a := 280) (b := k) (by omega) (by omega)) ?_
    rcases N with ⟨z, rfl⟩ | ⟨z, z2⟩
    · subst z
      exact K0 (ph_YI_good I hs.2 (by omega) hJ fun i h h1 h2 h3 => hcl rfl i h h1 h2 (by omega) h3)
    · subst z
      exact K1 w I z2
  | succ d ih =>
    intro k x w hk I N hcl
    rw [wY_walk_20]
    refine br_f (nI_ge (a := k) (b := 280) (by omega) (by omega)) ?_
    rw [nI_clamp (by omega)]
    refine ⟨vp_in_nI (by omega) (by omega), br_c (fun e => ?_) (fun e => ?_)⟩
    · refine nm_r (nI_1 k) (ih (k + 1) x w (by omega) I N fun z i h h1 h2 h3 h4 => ?_)
      by_cases y : 7 * i + h = k
      · exfalso
        rcases N with ⟨-, y'⟩ | ⟨y', -⟩
        · rw [← y', y, e] at h4; exact absurd h4 (by decide)
        · omega
      · exact hcl z i h h1 h2 (by omega) h4
    · have hw : w k = 1 := by
        rcases I.2.1 k (by omega) with z | z
        · exact absurd z e
        · exact z
      obtain ⟨in1, hst⟩ := I.2.2.1 k (by omega) hw
      have hx1 : x ≤ 1 := by rcases N with ⟨z, -⟩ | ⟨z, -⟩ <;> omega
      obtain ⟨i, h, rfl, h6⟩ : ∃ i h, k = 7 * i + h ∧ h ≤ 6 := ⟨k / 7, k % 7, by omega, by omega⟩
      rw [show (7 * i + h) / 7 = i by omega] at in1 hst
      obtain ⟨ey, hc⟩ := ph_yb (p := 3) (i := i) hB hW hf in1
      obtain ⟨g1, g2, g3⟩ := ph_isbad_f (hC i hst in1)
      have e7 : nI (7 * i + h) / 7 = nI i := by rw [show (7 : Int32) = nI 7 from rfl, pk_div (by omega) (by omega) (by omega)]; exact congrArg nI (by omega)
      rw [e7, nI_add, ph_7, pk_sub (by omega), show 7 * i + h - 7 * i = h by omega]
      refine ⟨by decide, nm_e ⟨by decide, nm_e ⟨vp_in_nI (by omega) (by omega), ?_⟩⟩⟩
      rw [nI_clamp (by omega)]
      refine nm_r ey (ph_ytakes (p := 3) (by omega) hB hW hf (hC i hst in1) in1 (ph_ygives g1 ⟨8, ?_⟩))
      refine ph_y85 (by omega) h6 I.2.1 (fun o ho1 ho2 ho3 => Kb _ ?_) (fun hno => ?_) 7 0 (by omega) (fun o' h1 => by omega)
      · rintro ⟨R, g⟩
        have q1 := I.2.2.2 R g (7 * i + h) (by omega) hw
        have q2 := I.2.2.2 R g (7 * i + o) (by omega) ho3
        rw [show (7 * i + h) / 7 = i by omega, show (7 * i + h) % 7 = h by omega] at q1
        rw [show (7 * i + o) / 7 = i by omega, show (7 * i + o) % 7 = o by omega] at q2
        exact ho2 (g.2.1 i o h q2 q1)
      · refine ph_ybody hB hW hf hC hJ I N in1 h6 hw Kb (fun w' x' I' N' c' => ?_) hno
        refine ih (7 * i + h + 1) x' w' (by omega) I' N' fun z i' h' h1 h2 h3 h4 => ?_
        by_cases y : 7 * i' + h' = 7 * i + h
        · have y1 : i' = i := by omega
          have y2 : h' = h := by omega
          subst y1 y2; exact (c' z).2
        · exact hcl (c' z).1 i' h' h1 h2 (by omega) h4
theorem ph_ywalk {post : Int32 → SY → Prop} {f : Nat} (hB : ph_BY B L 3 b_bytes) (hW : ph_WF B L) (hf : f < ph_nf B)
    (hC : ph_CO (ph_nf B) (B 1) (B (ph_hd B f) + B (ph_hd B f + 1)) (ph_sz B f) (ph_cdo B f)) (hJ : ph_JO (ph_sz B f) (ph_cdo B f)) (I : ph_YI B (ph_sz B f) (ph_cdo B f) b_ways)
    (Kb : ∀ w, ¬ ph_FO B (ph_sz B f) (ph_cdo B f) → post (-1) (g_rules, g_place, g_number, g_pos, g_finding, g_active, g_result, g_memory, b_ruleParts, b_rulePath, b_ruleAllows, b_bytes, b_length, b_present, w, b_boxPlugin, b_boxQuota, b_boxOpen, b_statics, b_aFn, b_aPos, b_aHigh, b_aLocal, b_aEntry))
    (K0 : ph_FO B (ph_sz B f) (ph_cdo B f) → post 0 (g_rules, g_place, g_number, g_pos, g_finding, g_active, g_result, g_memory, b_ruleParts, b_rulePath, b_ruleAllows, b_bytes, b_length, b_present, b_ways, b_boxPlugin, b_boxQuota, b_boxOpen, b_statics, b_aFn, b_aPos, b_aHigh, b_aLocal, b_aEntry))
    (K1 : ∀ w, ph_YI B (ph_sz B f) (ph_cdo B f) w → ph_cw b_ways + 1 ≤ ph_cw w → post 1 (g_rules, g_place, g_number, g_pos, g_finding, g_active, g_result, g_memory, b_ruleParts, b_rulePath, b_ruleAllows, b_bytes, b_length, b_present, w, b_boxPlugin, b_boxQuota, b_boxOpen, b_statics, b_aFn, b_aPos, b_aHigh, b_aLocal, b_aEntry)) : wpY_walk post (g_rules, g_place, g_number, g_pos, g_finding, g_active, g_result, g_memory, b_ruleParts, b_rulePath, b_ruleAllows, b_bytes, b_length, b_present, b_ways, b_boxPlugin, b_boxQuota, b_boxOpen, b_statics, b_aFn, b_aPos, b_aHigh, b_aLocal, b_aEntry) (nI f) := by
  unfold wpY_walk
  refine ph_ycodeStart (p := 3) (by omega) hB hW hf (ph_ycodeEnd (p := 3) (by omega) hB hW hf ⟨281, ?_⟩)
  exact ph_ywalk20 hB hW hf hC hJ Kb K0 K1 280 0 0 b_ways (by omega) I (Or.inl ⟨rfl, rfl⟩) (fun _ i h _ _ h3 => by omega)
theorem ph_y57f {post : Int32 → SY → Prop} {f : Nat} {r : Int32} (hB : ph_BY B L 3 b_bytes) (hW : ph_WF B L) (hf : f < ph_nf B)
    (k1 : 0 ≤ r → post 1 (g_rules, g_place, g_number, g_pos, g_finding, g_active, g_result, g_memory, b_ruleParts, b_rulePath, b_ruleAllows, b_bytes, b_length, b_present, b_ways, b_boxPlugin, b_boxQuota, b_boxOpen, b_statics, b_aFn, b_aPos, b_aHigh, b_aLocal, b_aEntry)) (k0 : ¬ 0 ≤ r → post 0 (g_rules, nI (ph_hd B f + 3), g_number, g_pos, 6, g_active, g_result, g_memory, b_ruleParts, b_rulePath, b_ruleAllows, b_bytes, b_length, b_present, b_ways, b_boxPlugin, b_boxQuota, b_boxOpen, b_statics, b_aFn, b_aPos, b_aHigh, b_aLocal, b_aEntry)) : wY_flows_57 post (nI f) r g_rules g_place g_number g_pos g_finding g_active g_result g_memory b_ruleParts b_rulePath b_ruleAllows b_bytes b_length b_present b_ways b_boxPlugin b_boxQuota b_boxOpen b_statics b_aFn b_aPos b_aHigh b_aLocal b_aEntry := by
  unfold wY_flows_57
  refine ph_ycodeStart (p := 3) (by omega) hB hW hf (br_c k1 (fun z => br_t rfl ?_))
  rw [show 120 * 3 + ph_hd B f + 3 = 360 + (ph_hd B f + 3) by omega, ph_m360]
  exact k0 z
theorem ph_y34 {post : Int32 → SY → Prop} {f : Nat} (hB : ph_BY B L 3 b_bytes) (hW : ph_WF B L) (hf : f < ph_nf B)
    (hC : ph_CO (ph_nf B) (B 1) (B (ph_hd B f) + B (ph_hd B f + 1)) (ph_sz B f) (ph_cdo B f)) (hJ : ph_JO (ph_sz B f) (ph_cdo B f))
    (k1 : ∀ w, ph_FO B (ph_sz B f) (ph_cdo B f) → post 1 (g_rules, g_place, g_number, g_pos, g_finding, g_active, g_result, g_memory, b_ruleParts, b_rulePath, b_ruleAllows, b_bytes, b_length, b_present, w, b_boxPlugin, b_boxQuota, b_boxOpen, b_statics, b_aFn, b_aPos, b_aHigh, b_aLocal, b_aEntry)) (k0 : ∀ w, ¬ ph_FO B (ph_sz B f) (ph_cdo B f) → post 0 (g_rules, nI (ph_hd B f + 3), g_number, g_pos, 6, g_active, g_result, g_memory, b_ruleParts, b_rulePath, b_ruleAllows, b_bytes, b_length, b_present, w, b_boxPlugin, b_boxQuota, b_boxOpen, b_statics, b_aFn, b_aPos, b_aHigh, b_aLocal, b_aEntry)) :
    ∀ d m w, m + d = 290 → ph_YI B (ph_sz B f) (ph_cdo B f) w → m + 1 ≤ ph_cw w → wY_flows_34 post (nI f) (d + 1) 1 (nI m) g_rules g_place g_number g_pos g_finding g_active g_result g_memory b_ruleParts b_rulePath b_ruleAllows b_bytes b_length b_present w b_boxPlugin b_boxQuota b_boxOpen b_statics b_aFn b_aPos b_aHigh b_aLocal b_aEntry := by
  intro d
  induction d with
  | zero =>
    intro m w hm I hc
    have := ph_cn_le (fun k => w k = 1) 280
    unfold ph_cw at hc
    omega
  | succ d ih =>
    intro m w hm I hc
    rw [wY_flows_34]
    refine br_f (nI_ge (a := m) (b := 300) (by omega) (by omega)) (br_f (by decide) ?_)
    have hc2 := ph_cn_le (fun k => w k = 1) 280
    have hd : ∃ d', d = d' + 1 := by
      refine ⟨d - 1, ?_⟩
      unfold ph_cw at hc
      omega
    obtain ⟨d', rfl⟩ := hd
    refine ph_ywalk hB hW hf hC hJ I (fun w' z => nm_r (nI_1 m) ?_) (fun z => nm_r (nI_1 m) ?_) (fun w' I' z => nm_r (nI_1 m) (ih (m + 1) w' (by omega) I' (by omega)))
    · rw [wY_flows_34]
      refine br_f (nI_ge (a := m + 1) (b := 300) (by omega) (by omega)) (br_t (by decide) ?_)
      exact ph_y57f hB hW hf (fun z2 => absurd z2 (by decide)) (fun _ => k0 _ z)
    · rw [wY_flows_34]
      refine br_f (nI_ge (a := m + 1) (b := 300) (by omega) (by omega)) (br_t (by decide) ?_)
      exact ph_y57f hB hW hf (fun _ => k1 _ z) (fun z2 => absurd (by decide) z2)
theorem ph_YI_0 {f : Nat} (hs : 1 ≤ ph_sz B f) {w : Nat → Int32} (h : ∀ k, k < 280 → w k = if k = 0 then 1 else 0) : ph_YI B (ph_sz B f) (ph_cdo B f) w ∧ 0 + 1 ≤ ph_cw w := by
  have h0 : w 0 = 1 := by rw [h 0 (by omega), if_pos rfl]
  have only : ∀ k, k < 280 → w k = 1 → k = 0 := by
    intro k hk e
    rw [h k hk] at e
    by_cases z : k = 0
    · exact z
    · rw [if_neg z] at e; exact absurd e (by decide)
  refine ⟨⟨h0, fun k hk => ?_, fun k hk e => ?_, fun R g k hk e => ?_⟩, ?_⟩
  · rw [h k hk]; split
    · exact Or.inr rfl
    · exact Or.inl rfl
  · have := only k hk e
    subst this
    exact ⟨by omega, ph_St_0 _⟩
  · have := only k hk e
    subst this
    exact g.1
  · have q := ph_cn_lt (P := fun _ => False) (Q := fun k => w k = 1) (a := 0) (n := 280) (fun z => z) h0 (fun k _ z => z.elim) (by omega)
    unfold ph_cw
    omega
theorem ph_yf2 {post : Int32 → SY → Prop} {f : Nat} (hB : ph_BY B L 3 b_bytes) (hW : ph_WF B L) (hf : f < ph_nf B)
    (hC : ph_CO (ph_nf B) (B 1) (B (ph_hd B f) + B (ph_hd B f + 1)) (ph_sz B f) (ph_cdo B f)) (hJ : ph_JO (ph_sz B f) (ph_cdo B f))
    (k1 : ∀ w, ph_FO B (ph_sz B f) (ph_cdo B f) → post 1 (g_rules, g_place, g_number, g_pos, g_finding, g_active, g_result, g_memory, b_ruleParts, b_rulePath, b_ruleAllows, b_bytes, b_length, b_present, w, b_boxPlugin, b_boxQuota, b_boxOpen, b_statics, b_aFn, b_aPos, b_aHigh, b_aLocal, b_aEntry)) (k0 : ∀ w, ¬ ph_FO B (ph_sz B f) (ph_cdo B f) → post 0 (g_rules, nI (ph_hd B f + 3), g_number, g_pos, 6, g_active, g_result, g_memory, b_ruleParts, b_rulePath, b_ruleAllows, b_bytes, b_length, b_present, w, b_boxPlugin, b_boxQuota, b_boxOpen, b_statics, b_aFn, b_aPos, b_aHigh, b_aLocal, b_aEntry)) :
    ∀ d m w, m + d = 280 → (∀ k, k < m → w k = if k = 0 then 1 else 0) → wY_flows_2 post (nI f) g_rules g_place g_number g_pos g_finding g_active g_result g_memory (d + 1) (nI m) b_ruleParts b_rulePath b_ruleAllows b_bytes b_length b_present w b_boxPlugin b_boxQuota b_boxOpen b_statics b_aFn b_aPos b_aHigh b_aLocal b_aEntry := by
  have hs := ph_szb hW hf
  intro d
  induction d with
  | zero =>
    intro m w hm hz
    have e : m = 280 := by omega
    subst e
    rw [wY_flows_2]
    obtain ⟨i1, i2⟩ := ph_YI_0 hs.1 hz
    exact br_t (nI_le (a := 280) (b := 280) (by omega) (by omega)) ⟨291, ph_y34 hB hW hf hC hJ k1 k0 290 0 w (by omega) i1 i2⟩
  | succ d ih =>
    intro m w hm hz
    have step : ∀ v : Int32, v = (if m = 0 then 1 else 0) → ∀ k, k < m + 1 → upd w m v k = if k = 0 then 1 else 0 := by
      intro v hv k hk
      by_cases z : k = m
      · subst z; rw [pk_us]; exact hv
      · rw [pk_un z]; exact hz k (by omega)
    rw [wY_flows_2]
    refine br_f (nI_ge (a := m) (b := 280) (by omega) (by omega)) (pk_eq m 0 (fun e => ?_) (fun e => ?_))
    · refine ⟨vp_in_nI (by omega) (by omega), nm_r (e' := upd w m 1) (by rw [nI_clamp (by omega), ph_bo1]) (nm_r (nI_1 m) (ih (m + 1) _ (by omega) (step 1 (by rw [if_pos e]))))⟩
    · refine ⟨vp_in_nI (by omega) (by omega), nm_r (e' := upd w m 0) (by rw [nI_clamp (by omega), ph_bo0]) (nm_r (nI_1 m) (ih (m + 1) _ (by omega) (step 0 (by rw [if_neg e]))))⟩
theorem ph_yflows {post : Int32 → SY → Prop} {f : Nat} (hB : ph_BY B L 3 b_bytes) (hW : ph_WF B L) (hf : f < ph_nf B)
    (hC : ph_CO (ph_nf B) (B 1) (B (ph_hd B f) + B (ph_hd B f + 1)) (ph_sz B f) (ph_cdo B f)) (hJ : ph_JO (ph_sz B f) (ph_cdo B f))
    (k1 : ∀ w, ph_FO B (ph_sz B f) (ph_cdo B f) → post 1 (g_rules, g_place, g_number, g_pos, g_finding, g_active, g_result, g_memory, b_ruleParts, b_rulePath, b_ruleAllows, b_bytes, b_length, b_present, w, b_boxPlugin, b_boxQuota, b_boxOpen, b_statics, b_aFn, b_aPos, b_aHigh, b_aLocal, b_aEntry)) (k0 : ∀ w, ¬ ph_FO B (ph_sz B f) (ph_cdo B f) → post 0 (g_rules, nI (ph_hd B f + 3), g_number, g_pos, 6, g_active, g_result, g_memory, b_ruleParts, b_rulePath, b_ruleAllows, b_bytes, b_length, b_present, w, b_boxPlugin, b_boxQuota, b_boxOpen, b_statics, b_aFn, b_aPos, b_aHigh, b_aLocal, b_aEntry)) : wpY_flows post (g_rules, g_place, g_number, g_pos, g_finding, g_active, g_result, g_memory, b_ruleParts, b_rulePath, b_ruleAllows, b_bytes, b_length, b_present, b_ways, b_boxPlugin, b_boxQuota, b_boxOpen, b_statics, b_aFn, b_aPos, b_aHigh, b_aLocal, b_aEntry) (nI f) := by
  unfold wpY_flows
  exact ⟨281, ph_yf2 hB hW hf hC hJ k1 k0 280 0 b_ways (by omega) (fun k hk => by omega)⟩
end
end
section
/-! ===== leaders, costs and the emitted code, pure ===== -/
def ph_lc (c : Nat → Nat) (j i : Nat) : Prop := (ph_isj (c j) = true ∧ ph_tg c j = (i : Int)) ∨ (10 ≤ c j ∧ c j ≤ 13 ∧ j + 2 = i) ∨ (c j = 16 ∧ j + 1 = i)
def ph_ld (n : Nat) (c : Nat → Nat) (i : Nat) : Prop := i = 0 ∨ ∃ j, ph_St c j ∧ j < n ∧ ph_lc c j i
noncomputable def ph_cs (n : Nat) (c : Nat → Nat) : Nat → Nat → Nat
  | 0, _ => 0
  | d + 1, k => (if c k = 13 then 5 else 1) + (if k + ph_wd (c k) < n ∧ ph_b (ph_ld n c (k + ph_wd (c k))) = 0 then ph_cs n c d (k + ph_wd (c k)) else 0)
theorem ph_cs_fuel {n : Nat} {c : Nat → Nat} : ∀ {d d' k : Nat}, n ≤ k + d → n ≤ k + d' → k < n → ph_cs n c d k = ph_cs n c d' k
  | 0, _, k, h, _, hk => by omega
  | _ + 1, 0, k, _, h, hk => by omega
  | d + 1, d' + 1, k, h1, h2, hk => by
    simp only [ph_cs]
    by_cases z : k + ph_wd (c k) < n ∧ ph_b (ph_ld n c (k + ph_wd (c k))) = 0
    · have hw := ph_wd_b (c k)
      rw [if_pos z, if_pos z, ph_cs_fuel (d := d) (d' := d') (by omega) (by omega) z.1]
    · rw [if_neg z, if_neg z]
noncomputable def ph_cost (n : Nat) (c : Nat → Nat) (k : Nat) : Nat := ph_cs n c 41 k
theorem ph_cost_s {n : Nat} {c : Nat → Nat} {k : Nat} (hn : n ≤ 40) : ph_cost n c k = (if c k = 13 then 5 else 1) + (if k + ph_wd (c k) < n ∧ ph_b (ph_ld n c (k + ph_wd (c k))) = 0 then ph_cost n c (k + ph_wd (c k)) else 0) := by
  unfold ph_cost
  rw [show ph_cs n c 41 k = (if c k = 13 then 5 else 1) + (if k + ph_wd (c k) < n ∧ ph_b (ph_ld n c (k + ph_wd (c k))) = 0 then ph_cs n c 40 (k + ph_wd (c k)) else 0) from rfl]
  by_cases z : k + ph_wd (c k) < n ∧ ph_b (ph_ld n c (k + ph_wd (c k))) = 0
  · rw [if_pos z, if_pos z, ph_cs_fuel (d := 40) (d' := 41) (by omega) (by omega) z.1]
  · rw [if_neg z, if_neg z]
theorem ph_cs_le {n : Nat} {c : Nat → Nat} : ∀ {d k : Nat}, ph_St c k → k < n → ph_cs n c d k ≤ (n - k) + 4
  | 0, k, _, _ => by simp only [ph_cs]; omega
  | d + 1, k, hst, hk => by
    simp only [ph_cs]
    have hw := ph_wd_b (c k)
    by_cases e : c k = 13
    · have h2 : ph_wd (c k) = 2 := by rw [e]; rfl
      have hl : ph_ld n c (k + ph_wd (c k)) := Or.inr ⟨k, hst, hk, Or.inr (Or.inl ⟨by omega, by omega, by omega⟩)⟩
      rw [if_pos e, if_neg (fun z => by rw [ph_b_t hl] at z; omega)]
      omega
    · rw [if_neg e]
      by_cases z : k + ph_wd (c k) < n ∧ ph_b (ph_ld n c (k + ph_wd (c k))) = 0
      · rw [if_pos z]
        have := ph_cs_le (n := n) (d := d) (ph_St_s hst) z.1
        omega
      · rw [if_neg z]; omega
/-- an instruction that is reached -/
def ph_re (n : Nat) (c : Nat → Nat) (hi : Nat → Int32) (i : Nat) : Prop := ph_St c i ∧ i < n ∧ hi i ≠ -1
/-- where the code of the place i begins -/
noncomputable def ph_T (n : Nat) (c : Nat → Nat) (hi : Nat → Int32) (e : Nat) : Nat → Nat
  | 0 => e
  | i + 1 => ph_T n c hi e i + ph_b (ph_re n c hi i) * (2 * ph_b (ph_ld n c i) + ph_wd (c i))
noncomputable def ph_ow (n : Nat) (c : Nat → Nat) (hi : Nat → Int32) (e i : Nat) : Nat := ph_T n c hi e i + 2 * ph_b (ph_ld n c i)
theorem ph_T_mono {n e : Nat} {c : Nat → Nat} {hi : Nat → Int32} {i : Nat} : ∀ {j : Nat}, i ≤ j → ph_T n c hi e i ≤ ph_T n c hi e j
  | 0, h => by have : i = 0 := by omega
               subst this; omega
  | j + 1, h => by
    rcases Nat.lt_or_ge i (j + 1) with z | z
    · have := ph_T_mono (n := n) (e := e) (c := c) (hi := hi) (i := i) (j := j) (by omega)
      simp only [ph_T]; omega
    · have : i = j + 1 := by omega
      subst this; omega
theorem ph_T_s {n e i : Nat} {c : Nat → Nat} {hi : Nat → Int32} (h : ph_St c i) : ph_T n c hi e (i + ph_wd (c i)) = ph_T n c hi e i + ph_b (ph_re n c hi i) * (2 * ph_b (ph_ld n c i) + ph_wd (c i)) := by
  rcases ph_wd_c (c i) with w | w
  · rw [w]; simp only [ph_T]; rw [w]
  · have hno : ¬ ph_re n c hi (i + 1) := by
      rintro ⟨z, -, -⟩
      have := ph_St_gap h z (by omega)
      omega
    rw [w, show i + 2 = (i + 1) + 1 from rfl]
    simp only [ph_T]
    rw [ph_b_f hno, w]; omega
theorem ph_T_r {n e i : Nat} {c : Nat → Nat} {hi : Nat → Int32} (h : ph_re n c hi i) : ph_T n c hi e (i + ph_wd (c i)) = ph_ow n c hi e i + ph_wd (c i) := by
  rw [ph_T_s h.1, ph_b_t h]; unfold ph_ow; omega
theorem ph_T_n {n e i : Nat} {c : Nat → Nat} {hi : Nat → Int32} (hst : ph_St c i) (h : ¬ ph_re n c hi i) : ph_T n c hi e (i + ph_wd (c i)) = ph_T n c hi e i := by
  rw [ph_T_s hst, ph_b_f h]; omega
theorem ph_T_b {n e : Nat} {c : Nat → Nat} {hi : Nat → Int32} (h0 : ph_wd (c 0) = 2) : ∀ k, ph_T n c hi e (ph_pcs c (k + 1)) + 2 ≤ e + 3 * ph_pcs c (k + 1)
  | 0 => by
    have q := ph_T_s (n := n) (e := e) (hi := hi) (ph_St_0 c)
    rw [h0] at q
    have p1 : ph_pcs c 1 = 2 := by show 0 + ph_wd (c 0) = 2; omega
    rw [p1]
    have b1 := ph_b_le (ph_re n c hi 0)
    have b2 := ph_b_le (ph_ld n c 0)
    rw [show (0 : Nat) + 2 = 2 from rfl] at q
    rw [q]
    have : ph_T n c hi e 0 = e := rfl
    have : ph_b (ph_re n c hi 0) * (2 * ph_b (ph_ld n c 0) + 2) ≤ 1 * (2 * ph_b (ph_ld n c 0) + 2) := Nat.mul_le_mul_right _ b1
    omega
  | k + 1 => by
    have ih := ph_T_b (n := n) (e := e) (hi := hi) h0 k
    have q := ph_T_s (n := n) (e := e) (hi := hi) (⟨k + 1, rfl⟩ : ph_St c (ph_pcs c (k + 1)))
    have hw := ph_wd_b (c (ph_pcs c (k + 1)))
    have b1 := ph_b_le (ph_re n c hi (ph_pcs c (k + 1)))
    have b2 := ph_b_le (ph_ld n c (ph_pcs c (k + 1)))
    have : ph_b (ph_re n c hi (ph_pcs c (k + 1))) * (2 * ph_b (ph_ld n c (ph_pcs c (k + 1))) + ph_wd (c (ph_pcs c (k + 1)))) ≤ 1 * (2 * ph_b (ph_ld n c (ph_pcs c (k + 1))) + ph_wd (c (ph_pcs c (k + 1)))) := Nat.mul_le_mul_right _ b1
    show ph_T n c hi e (ph_pcs c (k + 1) + ph_wd (c (ph_pcs c (k + 1)))) + 2 ≤ e + 3 * (ph_pcs c (k + 1) + ph_wd (c (ph_pcs c (k + 1))))
    omega
theorem ph_T_b' {n e i : Nat} {c : Nat → Nat} {hi : Nat → Int32} (h0 : ph_wd (c 0) = 2) (hst : ph_St c i) : ph_T n c hi e i ≤ e + 3 * i ∧ (0 < i → ph_T n c hi e i + 2 ≤ e + 3 * i) := by
  obtain ⟨k, rfl⟩ := hst
  cases k with
  | zero => exact ⟨Nat.le_refl _, fun h => absurd h (Nat.lt_irrefl _)⟩
  | succ k => have := ph_T_b (n := n) (e := e) (hi := hi) h0 k; exact ⟨by omega, fun _ => this⟩
theorem ph_wd0 {B c : Nat → Nat} {n : Nat} {R : Nat → Nat → Prop} (g : ph_Good B n c R) (h16 : c 0 ≤ 16) : ph_wd (c 0) = 2 := by
  have q := (g.2.2 0 0 g.1).2.2.2.1.1
  by_cases e : c 0 = 12
  · rw [e]; rfl
  · rw [ph_tk_n e] at q
    generalize c 0 = op at q h16
    rcases ph_17 h16 with e | e | e | e | e | e | e | e | e | e | e | e | e | e | e | e | e <;> subst e <;> first | rfl | exact absurd q (by decide)
/-- the code of the instruction j as it stands before the jumps are turned -/
def ph_E1 (n : Nat) (c : Nat → Nat) (hi : Nat → Int32) (e : Nat) (em : Nat → Int32) (j : Nat) : Prop :=
  (ph_ld n c j → em (ph_T n c hi e j) = 17 ∧ em (ph_T n c hi e j + 1) = nI (ph_cost n c j)) ∧ em (ph_ow n c hi e j) = nI (c j) ∧ (ph_wd (c j) = 2 → em (ph_ow n c hi e j + 1) = ph_sv (c (j + 1)))
/-- the code of the instruction j as it runs -/
def ph_E2 (n : Nat) (c : Nat → Nat) (hi : Nat → Int32) (e : Nat) (em : Nat → Int32) (j : Nat) : Prop :=
  (ph_ld n c j → em (ph_T n c hi e j) = 17 ∧ em (ph_T n c hi e j + 1) = nI (ph_cost n c j)) ∧ em (ph_ow n c hi e j) = nI (c j) ∧ (ph_wd (c j) = 2 → ph_isj (c j) = false → em (ph_ow n c hi e j + 1) = ph_sv (c (j + 1))) ∧
  (ph_isj (c j) = true → ∀ t : Nat, ph_tg c j = (t : Int) → nI (ph_ow n c hi e j + 2) + em (ph_ow n c hi e j + 1) = nI (ph_T n c hi e t))
theorem ph_ow_lt {n e j i : Nat} {c : Nat → Nat} {hi : Nat → Int32} (h : ph_re n c hi j) (hi' : ph_St c i) (hj : j < i) : ph_T n c hi e j ≤ ph_ow n c hi e j ∧ ph_ow n c hi e j + ph_wd (c j) ≤ ph_T n c hi e i ∧ (ph_ld n c j → ph_T n c hi e j + 2 = ph_ow n c hi e j) := by
  have q := ph_T_r (e := e) h
  have m := ph_T_mono (n := n) (e := e) (c := c) (hi := hi) (ph_St_gap h.1 hi' hj)
  refine ⟨by unfold ph_ow; omega, by omega, fun z => by unfold ph_ow; rw [ph_b_t z]⟩
theorem ph_E1_keep {n e j i : Nat} {c : Nat → Nat} {hi : Nat → Int32} {em em' : Nat → Int32} (h : ph_re n c hi j) (hi' : ph_St c i) (hj : j < i) (hk : ∀ k, k < ph_T n c hi e i → em' k = em k) (E : ph_E1 n c hi e em j) : ph_E1 n c hi e em' j := by
  obtain ⟨a1, a2, a3⟩ := ph_ow_lt (e := e) h hi' hj
  have hw := ph_wd_b (c j)
  obtain ⟨e1, e2, e3⟩ := E
  refine ⟨fun z => ?_, by rw [hk _ (by omega)]; exact e2, fun z => by rw [hk _ (by omega)]; exact e3 z⟩
  have := a3 z
  rw [hk _ (by omega), hk _ (by omega)]; exact e1 z
end
section
/-! ===== the component's leaders, cost and emit ===== -/
section
variable {f_nodes f_rules f_version f_count f_at f_place f_number f_imports f_functions f_fault f_frames f_box f_pc f_status f_result : Int32} {f_waiting f_memory : Int64} {a_child a_verdict a_ruleNode a_before a_nodesBefore a_bytes a_path a_pathAt a_params a_locals a_from a_size a_high a_loaded a_emitted a_entry a_pParams a_pFunctions a_pImports a_pPath a_judged a_fine a_newAt a_plugin a_quota a_statics a_slot a_back a_entries : Nat → Int32}
variable {B : Nat → Nat} {L : Nat}
theorem ph_xlead5 {post : Int64 → Prop} {f : Nat} (hW : ph_WF B L) (hB : ph_BX B a_bytes) (hF : ph_FA B (ph_nf B) a_params a_locals a_from a_size) (hf : f < ph_nf B)
    (hC : ph_CO (ph_nf B) (B 1) (B (ph_hd B f) + B (ph_hd B f + 1)) (ph_sz B f) (ph_cdo B f)) (hJ : ph_JO (ph_sz B f) (ph_cdo B f))
    (K : ∀ w, (∀ k, k < 64 → (ph_bit w k = true ↔ ph_ld (ph_sz B f) (ph_cdo B f) k)) → post w) :
    ∀ d i w, ph_St (ph_cdo B f) i → i ≤ ph_sz B f → ph_sz B f ≤ i + d → (∀ k, k < 64 → (ph_bit w k = true ↔ (k = 0 ∨ ∃ j, ph_St (ph_cdo B f) j ∧ j < ph_sz B f ∧ j < i ∧ ph_lc (ph_cdo B f) j k))) →
      wX_leaders_5 post (nI f) f_nodes f_rules f_version f_count f_at f_place f_number f_imports f_functions f_waiting f_fault f_frames f_box f_pc f_status f_result f_memory a_child a_verdict a_ruleNode a_before a_nodesBefore a_bytes a_path a_pathAt a_params a_locals a_from a_size a_high a_loaded a_emitted a_entry a_pParams a_pFunctions a_pImports a_pPath a_judged a_fine a_newAt a_plugin a_quota a_statics a_slot a_back a_entries (d + 1) w (nI i) := by
  have hs := ph_szb hW hf
  have hn4 := hW.2.2.2.2.1
  have fin : ∀ i w, i = ph_sz B f → (∀ k, k < 64 → (ph_bit w k = true ↔ (k = 0 ∨ ∃ j, ph_St (ph_cdo B f) j ∧ j < ph_sz B f ∧ j < i ∧ ph_lc (ph_cdo B f) j k))) → post w := by
    intro i w e h
    subst e
    refine K w fun k hk => (h k hk).trans ⟨fun z => ?_, fun z => ?_⟩
    · rcases z with z | ⟨j, a, b, -, c⟩
      · exact Or.inl z
      · exact Or.inr ⟨j, a, b, c⟩
    · rcases z with z | ⟨j, a, b, c⟩
      · exact Or.inl z
      · exact Or.inr ⟨j, a, b, b, c⟩
  intro d
  induction d with
  | zero =>
    intro i w hst h1 h2 hw
    rw [wX_leaders_5]
    dsimp only
    rw [nI_clamp (by omega), (hF f hf).2.2.2]
    exact ⟨vp_in_nI (by omega) (by omega), br_t (nI_le (a := ph_sz B f) (b := i) (by omega) (by omega)) (fin i w (by omega) hw)⟩
  | succ d ih =>
    intro i w hst h1 h2 hw
    rw [wX_leaders_5]
    dsimp only
    rw [nI_clamp (by omega), (hF f hf).2.2.2]
    refine ⟨vp_in_nI (by omega) (by omega), pk_le (ph_sz B f) i (fun h => fin i w (by omega) hw) (fun h => ?_)⟩
    obtain ⟨g1, g2, g3⟩ := ph_isbad_f (hC i hst h)
    have hwd := ph_wd_b (ph_cdo B f i)
    have hc8 := ph_xcl hW hB hf h
    have h85 : ∀ w', (∀ k, k < 64 → (ph_bit w' k = true ↔ ph_bit w k = true ∨ ph_lc (ph_cdo B f) i k)) → wX_leaders_85 post (wX_leaders_5 post (nI f) f_nodes f_rules f_version f_count f_at f_place f_number f_imports f_functions f_waiting f_fault f_frames f_box f_pc f_status f_result f_memory a_child a_verdict a_ruleNode a_before a_nodesBefore a_bytes a_path a_pathAt a_params a_locals a_from a_size a_high a_loaded a_emitted a_entry a_pParams a_pFunctions a_pImports a_pPath a_judged a_fine a_newAt a_plugin a_quota a_statics a_slot a_back a_entries (d + 1)) (nI f) w' (nI i) f_nodes f_rules f_version f_count f_at f_place f_number f_imports f_functions f_waiting f_fault f_frames f_box f_pc f_status f_result f_memory a_child a_verdict a_ruleNode a_before a_nodesBefore a_bytes a_path a_pathAt a_params a_locals a_from a_size a_high a_loaded a_emitted a_entry a_pParams a_pFunctions a_pImports a_pPath a_judged a_fine a_newAt a_plugin a_quota a_statics a_slot a_back a_entries := by
      intro w' hw'
      unfold wX_leaders_85
      refine ph_xwidthAt hW hB hF hf h (nm_r (nI_add _ _) (ih _ w' (ph_St_s hst) (by omega) (by omega) fun k hk => ?_))
      rw [hw' k hk, hw k hk]
      constructor
      · rintro ((z | ⟨j, a, b, c, e⟩) | z)
        · exact Or.inl z
        · exact Or.inr ⟨j, a, b, by omega, e⟩
        · exact Or.inr ⟨i, hst, h, by omega, z⟩
      · rintro (z | ⟨j, a, b, c, e⟩)
        · exact Or.inl (Or.inl z)
        · rcases ph_St_lt hst a c with y | y
          · exact Or.inl (Or.inr ⟨j, a, b, y, e⟩)
          · subst y; exact Or.inr e
    have h72 : ∀ w', (10 ≤ ph_cdo B f i ∧ ph_cdo B f i ≤ 13) ∨ ph_cdo B f i = 16 → (∀ k, k < 64 → (ph_bit w' k = true ↔ ph_bit w k = true ∨ (ph_isj (ph_cdo B f i) = true ∧ ph_tg (ph_cdo B f) i = (k : Int)))) →
        wX_leaders_72 post (wX_leaders_5 post (nI f) f_nodes f_rules f_version f_count f_at f_place f_number f_imports f_functions f_waiting f_fault f_frames f_box f_pc f_status f_result f_memory a_child a_verdict a_ruleNode a_before a_nodesBefore a_bytes a_path a_pathAt a_params a_locals a_from a_size a_high a_loaded a_emitted a_entry a_pParams a_pFunctions a_pImports a_pPath a_judged a_fine a_newAt a_plugin a_quota a_statics a_slot a_back a_entries (d + 1)) (nI f) w' (nI i) (nI (ph_cdo B f i)) f_nodes f_rules f_version f_count f_at f_place f_number f_imports f_functions f_waiting f_fault f_frames f_box f_pc f_status f_result f_memory a_child a_verdict a_ruleNode a_before a_nodesBefore a_bytes a_path a_pathAt a_params a_locals a_from a_size a_high a_loaded a_emitted a_entry a_pParams a_pFunctions a_pImports a_pPath a_judged a_fine a_newAt a_plugin a_quota a_statics a_slot a_back a_entries := by
      intro w' ho hw'
      unfold wX_leaders_72
      refine ph_xwidth hc8 ?_
      rw [nI_add]
      refine nm_e (h85 _ fun k hk => ?_)
      rw [ph_bit_or w' (by omega : i + ph_wd (ph_cdo B f i) < 64), Bool.or_eq_true, decide_eq_true_eq, hw' k hk]
      have hwo : (10 ≤ ph_cdo B f i ∧ ph_cdo B f i ≤ 13 → ph_wd (ph_cdo B f i) = 2) ∧ (ph_cdo B f i = 16 → ph_wd (ph_cdo B f i) = 1) := ⟨fun z => if_pos (by omega), fun z => if_neg (by omega)⟩
      unfold ph_lc
      constructor
      · rintro ((z | z) | z)
        · exact Or.inl z
        · exact Or.inr (Or.inl z)
        · rcases ho with y | y
          · have := hwo.1 y
            exact Or.inr (Or.inr (Or.inl ⟨y.1, y.2, by omega⟩))
          · have := hwo.2 y
            exact Or.inr (Or.inr (Or.inr ⟨y, by omega⟩))
      · rintro (z | z | ⟨a, b, c⟩ | ⟨a, b⟩)
        · exact Or.inl (Or.inl z)
        · exact Or.inl (Or.inr z)
        · have := hwo.1 ⟨a, b⟩
          exact Or.inr (by omega)
        · have := hwo.2 a
          exact Or.inr (by omega)
    have h51 : ∀ w', (∀ k, k < 64 → (ph_bit w' k = true ↔ ph_bit w k = true ∨ (ph_isj (ph_cdo B f i) = true ∧ ph_tg (ph_cdo B f) i = (k : Int)))) →
        wX_leaders_51 post (wX_leaders_5 post (nI f) f_nodes f_rules f_version f_count f_at f_place f_number f_imports f_functions f_waiting f_fault f_frames f_box f_pc f_status f_result f_memory a_child a_verdict a_ruleNode a_before a_nodesBefore a_bytes a_path a_pathAt a_params a_locals a_from a_size a_high a_loaded a_emitted a_entry a_pParams a_pFunctions a_pImports a_pPath a_judged a_fine a_newAt a_plugin a_quota a_statics a_slot a_back a_entries (d + 1)) (nI f) w' (nI i) (nI (ph_cdo B f i)) f_nodes f_rules f_version f_count f_at f_place f_number f_imports f_functions f_waiting f_fault f_frames f_box f_pc f_status f_result f_memory a_child a_verdict a_ruleNode a_before a_nodesBefore a_bytes a_path a_pathAt a_params a_locals a_from a_size a_high a_loaded a_emitted a_entry a_pParams a_pFunctions a_pImports a_pPath a_judged a_fine a_newAt a_plugin a_quota a_statics a_slot a_back a_entries := by
      intro w' hw'
      have h65 : (ph_cdo B f i < 10 ∨ 13 < ph_cdo B f i) → wX_leaders_65 post (wX_leaders_5 post (nI f) f_nodes f_rules f_version f_count f_at f_place f_number f_imports f_functions f_waiting f_fault f_frames f_box f_pc f_status f_result f_memory a_child a_verdict a_ruleNode a_before a_nodesBefore a_bytes a_path a_pathAt a_params a_locals a_from a_size a_high a_loaded a_emitted a_entry a_pParams a_pFunctions a_pImports a_pPath a_judged a_fine a_newAt a_plugin a_quota a_statics a_slot a_back a_entries (d + 1)) (nI f) w' (nI i) (nI (ph_cdo B f i)) f_nodes f_rules f_version f_count f_at f_place f_number f_imports f_functions f_waiting f_fault f_frames f_box f_pc f_status f_result f_memory a_child a_verdict a_ruleNode a_before a_nodesBefore a_bytes a_path a_pathAt a_params a_locals a_from a_size a_high a_loaded a_emitted a_entry a_pParams a_pFunctions a_pImports a_pPath a_judged a_fine a_newAt a_plugin a_quota a_statics a_slot a_back a_entries := by
        intro ho
        unfold wX_leaders_65
        refine pk_eq (ph_cdo B f i) 16 (fun z => h72 w' (Or.inr z) hw') (fun z => h85 w' fun k hk => ?_)
        rw [hw' k hk]
        unfold ph_lc
        constructor
        · rintro (y | y)
          · exact Or.inl y
          · exact Or.inr (Or.inl y)
        · rintro (y | y | ⟨a, b, c⟩ | ⟨a, b⟩)
          · exact Or.inl y
          · exact Or.inr y
          · omega
          · exact absurd a z
      unfold wX_leaders_51
      exact pk_lt (ph_cdo B f i) 10 (fun z => h65 (Or.inl z)) (fun z => pk_le (ph_cdo B f i) 13 (fun y => h72 w' (Or.inl ⟨z, y⟩) hw') (fun y => h65 (Or.inr y)))
    have h39 : (ph_cdo B f i = 10 ∨ ph_cdo B f i = 11) → wX_leaders_39 post (wX_leaders_5 post (nI f) f_nodes f_rules f_version f_count f_at f_place f_number f_imports f_functions f_waiting f_fault f_frames f_box f_pc f_status f_result f_memory a_child a_verdict a_ruleNode a_before a_nodesBefore a_bytes a_path a_pathAt a_params a_locals a_from a_size a_high a_loaded a_emitted a_entry a_pParams a_pFunctions a_pImports a_pPath a_judged a_fine a_newAt a_plugin a_quota a_statics a_slot a_back a_entries (d + 1)) (nI f) w (nI i) (nI (ph_cdo B f i)) f_nodes f_rules f_version f_count f_at f_place f_number f_imports f_functions f_waiting f_fault f_frames f_box f_pc f_status f_result f_memory a_child a_verdict a_ruleNode a_before a_nodesBefore a_bytes a_path a_pathAt a_params a_locals a_from a_size a_high a_loaded a_emitted a_entry a_pParams a_pFunctions a_pImports a_pPath a_judged a_fine a_newAt a_plugin a_quota a_statics a_slot a_back a_entries := by
      intro q3
      have hw2 : ph_wd (ph_cdo B f i) = 2 := if_pos (by omega)
      have hisj : ph_isj (ph_cdo B f i) = true := by unfold ph_isj; simp; exact q3
      have h1' : i + 1 < ph_sz B f := by omega
      obtain ⟨t, t1, t2, t3⟩ := hJ i hst h hisj
      have et : nI (i + 2) + ph_sv (ph_cdo B f (i + 1)) = nI t := ph_eqI (by omega) (by rw [ph_tgI (by omega) (ph_xcl hW hB hf h1')]; unfold ph_tg at t3; omega)
      unfold wX_leaders_39
      refine ph_xtarget hW hB hF hf h1' ?_
      rw [et]
      refine nm_e (h51 _ fun k hk => ?_)
      rw [ph_bit_or w (by omega : t < 64), Bool.or_eq_true, decide_eq_true_eq]
      constructor
      · rintro (z | z)
        · exact Or.inl z
        · exact Or.inr ⟨hisj, by omega⟩
      · rintro (z | ⟨-, z⟩)
        · exact Or.inl z
        · exact Or.inr (by omega)
    refine ph_xcode hW hB hF hf h (pk_eq (ph_cdo B f i) 10 (fun z => h39 (Or.inl z)) (fun z => pk_eq (ph_cdo B f i) 11 (fun y => h39 (Or.inr y)) (fun y => h51 w fun k hk => ⟨Or.inl, fun q => ?_⟩)))
    rcases q with q | ⟨q, -⟩
    · exact q
    · unfold ph_isj at q
      simp [z, y] at q
theorem ph_xleaders {post : Int64 → Prop} {f : Nat} (hW : ph_WF B L) (hB : ph_BX B a_bytes) (hF : ph_FA B (ph_nf B) a_params a_locals a_from a_size) (hf : f < ph_nf B)
    (hC : ph_CO (ph_nf B) (B 1) (B (ph_hd B f) + B (ph_hd B f + 1)) (ph_sz B f) (ph_cdo B f)) (hJ : ph_JO (ph_sz B f) (ph_cdo B f))
    (K : ∀ w, (∀ k, k < 64 → (ph_bit w k = true ↔ ph_ld (ph_sz B f) (ph_cdo B f) k)) → post w) : wpX_leaders post (f_nodes, f_rules, f_version, f_count, f_at, f_place, f_number, f_imports, f_functions, f_waiting, f_fault, f_frames, f_box, f_pc, f_status, f_result, f_memory, a_child, a_verdict, a_ruleNode, a_before, a_nodesBefore, a_bytes, a_path, a_pathAt, a_params, a_locals, a_from, a_size, a_high, a_loaded, a_emitted, a_entry, a_pParams, a_pFunctions, a_pImports, a_pPath, a_judged, a_fine, a_newAt, a_plugin, a_quota, a_statics, a_slot, a_back, a_entries) (nI f) := by
  unfold wpX_leaders
  refine ⟨ph_sz B f + 1, ph_xlead5 hW hB hF hf hC hJ K (ph_sz B f) 0 1 (ph_St_0 _) (by omega) (by omega) fun k hk => ?_⟩
  rw [ph_bit_1, decide_eq_true_eq]
  constructor
  · exact Or.inl
  · rintro (z | ⟨j, a, b, c, -⟩)
    · exact z
    · omega
theorem ph_xcost6 {post : Int32 → Prop} {f : Nat} {w : Int64} (hW : ph_WF B L) (hB : ph_BX B a_bytes) (hF : ph_FA B (ph_nf B) a_params a_locals a_from a_size) (hf : f < ph_nf B)
    (hC : ph_CO (ph_nf B) (B 1) (B (ph_hd B f) + B (ph_hd B f + 1)) (ph_sz B f) (ph_cdo B f)) (hw : ∀ k, k < 64 → (ph_bit w k = true ↔ ph_ld (ph_sz B f) (ph_cdo B f) k)) :
    ∀ d k acc, ph_St (ph_cdo B f) k → k < ph_sz B f → ph_sz B f ≤ k + d → post (nI (acc + ph_cs (ph_sz B f) (ph_cdo B f) d k)) → wX_cost_6 post (nI f) w f_nodes f_rules f_version f_count f_at f_place f_number f_imports f_functions f_waiting f_fault f_frames f_box f_pc f_status f_result f_memory a_child a_verdict a_ruleNode a_before a_nodesBefore a_bytes a_path a_pathAt a_params a_locals a_from a_size a_high a_loaded a_emitted a_entry a_pParams a_pFunctions a_pImports a_pPath a_judged a_fine a_newAt a_plugin a_quota a_statics a_slot a_back a_entries d (nI acc) (nI k) := by
  have hs := ph_szb hW hf
  have hn4 := hW.2.2.2.2.1
  intro d
  induction d with
  | zero => intro k acc _ h1 h2; omega
  | succ d ih =>
    intro k acc hst h1 h2 K
    obtain ⟨g1, g2, g3⟩ := ph_isbad_f (hC k hst h1)
    have hwd := ph_wd_b (ph_cdo B f k)
    have h21 : ∀ a, a + 1 = acc + (if ph_cdo B f k = 13 then 5 else 1) → wX_cost_21 post (wX_cost_6 post (nI f) w f_nodes f_rules f_version f_count f_at f_place f_number f_imports f_functions f_waiting f_fault f_frames f_box f_pc f_status f_result f_memory a_child a_verdict a_ruleNode a_before a_nodesBefore a_bytes a_path a_pathAt a_params a_locals a_from a_size a_high a_loaded a_emitted a_entry a_pParams a_pFunctions a_pImports a_pPath a_judged a_fine a_newAt a_plugin a_quota a_statics a_slot a_back a_entries d) (nI f) w (nI a) (nI k) f_nodes f_rules f_version f_count f_at f_place f_number f_imports f_functions f_waiting f_fault f_frames f_box f_pc f_status f_result f_memory a_child a_verdict a_ruleNode a_before a_nodesBefore a_bytes a_path a_pathAt a_params a_locals a_from a_size a_high a_loaded a_emitted a_entry a_pParams a_pFunctions a_pImports a_pPath a_judged a_fine a_newAt a_plugin a_quota a_statics a_slot a_back a_entries := by
      intro a ea
      simp only [ph_cs] at K
      rw [← Nat.add_assoc, ← ea] at K
      unfold wX_cost_21
      refine nm_r (nI_1 a) (ph_xwidthAt hW hB hF hf h1 (nm_r (nI_add _ _) ?_))
      rw [nI_clamp (by omega), (hF f hf).2.2.2]
      refine ⟨vp_in_nI (by omega) (by omega), pk_le (ph_sz B f) (k + ph_wd (ph_cdo B f k)) (fun z => ?_) (fun z => ?_)⟩
      · rw [if_neg (by omega)] at K; exact K
      · rw [ph_bit_t w (by omega : k + ph_wd (ph_cdo B f k) < 64)]
        refine br_c (fun q => ?_) (fun q => ?_)
        · have hnl : ¬ ph_ld (ph_sz B f) (ph_cdo B f) (k + ph_wd (ph_cdo B f k)) := fun y => by
            rw [(hw _ (by omega)).mpr y] at q; exact absurd q (by decide)
          rw [if_pos ⟨z, ph_b_f hnl⟩] at K
          exact ih _ _ (ph_St_s hst) z (by omega) K
        · have hl : ph_ld (ph_sz B f) (ph_cdo B f) (k + ph_wd (ph_cdo B f k)) := (hw _ (by omega)).mp (by
            cases hh : ph_bit w (k + ph_wd (ph_cdo B f k)) with
            | false => exact absurd hh q
            | true => rfl)
          rw [if_neg (fun y => by rw [ph_b_t hl] at y; omega)] at K
          exact K
    have hc8 := ph_xcl hW hB hf h1
    rw [wX_cost_6]
    refine ph_xcode hW hB hF hf h1 (pk_eq (ph_cdo B f k) 13 (fun z => ?_) (fun z => h21 acc (by rw [if_neg z])))
    exact nm_r (show nI acc + 4 = nI (acc + 4) by rw [show (4 : Int32) = nI 4 from rfl, nI_add]) (h21 (acc + 4) (by rw [if_pos z]))
theorem ph_xcost {post : Int32 → Prop} {f k : Nat} {w : Int64} (hW : ph_WF B L) (hB : ph_BX B a_bytes) (hF : ph_FA B (ph_nf B) a_params a_locals a_from a_size) (hf : f < ph_nf B)
    (hC : ph_CO (ph_nf B) (B 1) (B (ph_hd B f) + B (ph_hd B f + 1)) (ph_sz B f) (ph_cdo B f)) (hw : ∀ k, k < 64 → (ph_bit w k = true ↔ ph_ld (ph_sz B f) (ph_cdo B f) k)) (hst : ph_St (ph_cdo B f) k) (hk : k < ph_sz B f)
    (K : post (nI (ph_cost (ph_sz B f) (ph_cdo B f) k))) : wpX_cost post (f_nodes, f_rules, f_version, f_count, f_at, f_place, f_number, f_imports, f_functions, f_waiting, f_fault, f_frames, f_box, f_pc, f_status, f_result, f_memory, a_child, a_verdict, a_ruleNode, a_before, a_nodesBefore, a_bytes, a_path, a_pathAt, a_params, a_locals, a_from, a_size, a_high, a_loaded, a_emitted, a_entry, a_pParams, a_pFunctions, a_pImports, a_pPath, a_judged, a_fine, a_newAt, a_plugin, a_quota, a_statics, a_slot, a_back, a_entries) (nI f) (nI k) w := by
  have hs := ph_szb hW hf
  unfold wpX_cost
  refine ⟨41, ph_xcost6 hW hB hF hf hC hw 41 k 0 hst hk (by omega) ?_⟩
  rw [Nat.zero_add]; exact K
/-! emit, the first pass -/
theorem ph_em1 {post : Int32 → SX → Prop} {f e : Nat} {w : Int64} {em0 : Nat → Int32} (hW : ph_WF B L) (hB : ph_BX B a_bytes) (hF : ph_FA B (ph_nf B) a_params a_locals a_from a_size) (hf : f < ph_nf B)
    (hC : ph_CO (ph_nf B) (B 1) (B (ph_hd B f) + B (ph_hd B f + 1)) (ph_sz B f) (ph_cdo B f)) (hw : ∀ k, k < 64 → (ph_bit w k = true ↔ ph_ld (ph_sz B f) (ph_cdo B f) k))
    (hr : ∀ i, i < 40 → a_high i = -1 ∨ ∃ h, h ≤ 6 ∧ a_high i = nI h) (h0 : ph_wd (ph_cdo B f 0) = 2) (he : e + 3 * ph_sz B f ≤ 962)
    (K : ∀ em na, (∀ k, (k < e ∨ ph_T (ph_sz B f) (ph_cdo B f) a_high e (ph_sz B f) ≤ k) → em k = em0 k) → (∀ j, ph_re (ph_sz B f) (ph_cdo B f) a_high j → ph_E1 (ph_sz B f) (ph_cdo B f) a_high e em j ∧ na j = nI (ph_T (ph_sz B f) (ph_cdo B f) a_high e j)) → ph_St (ph_cdo B f) (ph_sz B f) →
      ∃ n155 : Nat, wX_emit_155 post (nI f) w (nI (ph_T (ph_sz B f) (ph_cdo B f) a_high e (ph_sz B f))) f_nodes f_rules f_version f_count f_at f_place f_number f_imports f_functions f_waiting f_fault f_frames f_box f_pc f_status f_result f_memory n155 0 a_child a_verdict a_ruleNode a_before a_nodesBefore a_bytes a_path a_pathAt a_params a_locals a_from a_size a_high a_loaded em a_entry a_pParams a_pFunctions a_pImports a_pPath a_judged a_fine na a_plugin a_quota a_statics a_slot a_back a_entries) :
    ∀ d i em na, ph_St (ph_cdo B f) i → i ≤ ph_sz B f → ph_sz B f ≤ i + d → (∀ k, (k < e ∨ ph_T (ph_sz B f) (ph_cdo B f) a_high e i ≤ k) → em k = em0 k) →
      (∀ j, ph_re (ph_sz B f) (ph_cdo B f) a_high j → j < i → ph_E1 (ph_sz B f) (ph_cdo B f) a_high e em j ∧ na j = nI (ph_T (ph_sz B f) (ph_cdo B f) a_high e j)) →
      wX_emit_12 post (nI f) w f_nodes f_rules f_version f_count f_at f_place f_number f_imports f_functions f_waiting f_fault f_frames f_box f_pc f_status f_result f_memory (d + 1) (nI (ph_T (ph_sz B f) (ph_cdo B f) a_high e i)) (nI i) a_child a_verdict a_ruleNode a_before a_nodesBefore a_bytes a_path a_pathAt a_params a_locals a_from a_size a_high a_loaded em a_entry a_pParams a_pFunctions a_pImports a_pPath a_judged a_fine na a_plugin a_quota a_statics a_slot a_back a_entries := by
  have hs := ph_szb hW hf
  have hn4 := hW.2.2.2.2.1
  have fin : ∀ i em na, i = ph_sz B f → ph_St (ph_cdo B f) i → (∀ k, (k < e ∨ ph_T (ph_sz B f) (ph_cdo B f) a_high e i ≤ k) → em k = em0 k) →
      (∀ j, ph_re (ph_sz B f) (ph_cdo B f) a_high j → j < i → ph_E1 (ph_sz B f) (ph_cdo B f) a_high e em j ∧ na j = nI (ph_T (ph_sz B f) (ph_cdo B f) a_high e j)) →
      ∃ n155 : Nat, wX_emit_155 post (nI f) w (nI (ph_T (ph_sz B f) (ph_cdo B f) a_high e i)) f_nodes f_rules f_version f_count f_at f_place f_number f_imports f_functions f_waiting f_fault f_frames f_box f_pc f_status f_result f_memory n155 0 a_child a_verdict a_ruleNode a_before a_nodesBefore a_bytes a_path a_pathAt a_params a_locals a_from a_size a_high a_loaded em a_entry a_pParams a_pFunctions a_pImports a_pPath a_judged a_fine na a_plugin a_quota a_statics a_slot a_back a_entries := by
    intro i em na ei hst q1 q2
    subst ei
    exact K em na q1 (fun j hj => q2 j hj hj.2.1) hst
  intro d
  induction d with
  | zero =>
    intro i em na hst h1 h2 q1 q2
    rw [wX_emit_12]
    dsimp only
    rw [nI_clamp (by omega), (hF f hf).2.2.2]
    exact ⟨vp_in_nI (by omega) (by omega), br_t (nI_le (a := ph_sz B f) (b := i) (by omega) (by omega)) (fin i em na (by omega) hst q1 q2)⟩
  | succ d ih =>
    intro i em na hst h1 h2 q1 q2
    rw [wX_emit_12]
    dsimp only
    rw [nI_clamp (by omega : f < 2 ^ 31), (hF f hf).2.2.2]
    refine ⟨vp_in_nI (by omega) (by omega), pk_le (ph_sz B f) i (fun h => fin i em na (by omega) hst q1 q2) (fun h => ⟨vp_in_nI (by omega) (by omega), ?_⟩)⟩
    obtain ⟨g1, g2, g3⟩ := ph_isbad_f (hC i hst h)
    have hwd := ph_wd_b (ph_cdo B f i)
    have hTb := ph_T_b' (n := ph_sz B f) (e := e) (hi := a_high) h0 (ph_St_s hst)
    have hTi := ph_T_b' (n := ph_sz B f) (e := e) (hi := a_high) h0 hst
    have hTe := ph_T_mono (n := ph_sz B f) (e := e) (c := ph_cdo B f) (hi := a_high) (i := 0) (j := i) (by omega)
    rw [show ph_T (ph_sz B f) (ph_cdo B f) a_high e 0 = e from rfl] at hTe
    -- the step to the next instruction
    have h137 : ∀ em' na', (∀ k, (k < ph_T (ph_sz B f) (ph_cdo B f) a_high e i ∨ ph_T (ph_sz B f) (ph_cdo B f) a_high e (i + ph_wd (ph_cdo B f i)) ≤ k) → em' k = em k) → (∀ j, j < i → na' j = na j) →
        (ph_re (ph_sz B f) (ph_cdo B f) a_high i → ph_E1 (ph_sz B f) (ph_cdo B f) a_high e em' i ∧ na' i = nI (ph_T (ph_sz B f) (ph_cdo B f) a_high e i)) →
        wX_emit_137 post (wX_emit_12 post (nI f) w f_nodes f_rules f_version f_count f_at f_place f_number f_imports f_functions f_waiting f_fault f_frames f_box f_pc f_status f_result f_memory (d + 1)) (nI f) w (nI (ph_T (ph_sz B f) (ph_cdo B f) a_high e (i + ph_wd (ph_cdo B f i)))) (nI i) f_nodes f_rules f_version f_count f_at f_place f_number f_imports f_functions f_waiting f_fault f_frames f_box f_pc f_status f_result f_memory a_child a_verdict a_ruleNode a_before a_nodesBefore a_bytes a_path a_pathAt a_params a_locals a_from a_size a_high a_loaded em' a_entry a_pParams a_pFunctions a_pImports a_pPath a_judged a_fine na' a_plugin a_quota a_statics a_slot a_back a_entries := by
      intro em' na' r1 r2 r3
      have hm := ph_T_mono (n := ph_sz B f) (e := e) (c := ph_cdo B f) (hi := a_high) (i := i) (j := i + ph_wd (ph_cdo B f i)) (by omega)
      unfold wX_emit_137
      refine ph_xwidthAt hW hB hF hf h (nm_r (nI_add _ _) (ih _ em' na' (ph_St_s hst) (by omega) (by omega) (fun k hk => ?_) (fun j hj hjl => ?_)))
      · rw [r1 k (by omega)]; exact q1 k (by omega)
      · rcases ph_St_lt hst hj.1 hjl with y | y
        · obtain ⟨s1, s2⟩ := q2 j hj y
          exact ⟨ph_E1_keep hj hst y (fun k hk => r1 k (Or.inl hk)) s1, by rw [r2 j y]; exact s2⟩
        · subst y; exact r3 hj
    rw [nI_clamp (by omega : i < 2 ^ 31)]
    rcases hr i (by omega) with eh | ⟨h', b1, eh⟩
    · refine br_f (by rw [eh]; decide) ?_
      have hnr : ¬ ph_re (ph_sz B f) (ph_cdo B f) a_high i := fun z => z.2.2 eh
      have J := h137 em na (fun k _ => rfl) (fun _ _ => rfl) (fun z => absurd z hnr)
      rw [ph_T_n hst hnr] at J
      exact J
    · have hre : ph_re (ph_sz B f) (ph_cdo B f) a_high i := ⟨hst, h, by rw [eh]; exact ph_nIm1 (by omega)⟩
      have hTr := ph_T_r (e := e) hre
      rw [hTr] at hTb
      refine br_t (by rw [eh]; exact nI_pos' (by omega)) ⟨vp_in_nI (by omega) (by omega), ?_⟩
      refine nm_r (e' := upd na i (nI (ph_T (ph_sz B f) (ph_cdo B f) a_high e i))) (by rw [ph_nss (by omega)]) ?_
      have h88 : ∀ em2, (∀ k, (k < ph_T (ph_sz B f) (ph_cdo B f) a_high e i ∨ ph_ow (ph_sz B f) (ph_cdo B f) a_high e i ≤ k) → em2 k = em k) →
          (ph_ld (ph_sz B f) (ph_cdo B f) i → em2 (ph_T (ph_sz B f) (ph_cdo B f) a_high e i) = 17 ∧ em2 (ph_T (ph_sz B f) (ph_cdo B f) a_high e i + 1) = nI (ph_cost (ph_sz B f) (ph_cdo B f) i)) →
          wX_emit_88 post (wX_emit_12 post (nI f) w f_nodes f_rules f_version f_count f_at f_place f_number f_imports f_functions f_waiting f_fault f_frames f_box f_pc f_status f_result f_memory (d + 1)) (nI f) w (nI (ph_ow (ph_sz B f) (ph_cdo B f) a_high e i)) (nI i) f_nodes f_rules f_version f_count f_at f_place f_number f_imports f_functions f_waiting f_fault f_frames f_box f_pc f_status f_result f_memory a_child a_verdict a_ruleNode a_before a_nodesBefore a_bytes a_path a_pathAt a_params a_locals a_from a_size a_high a_loaded em2 a_entry a_pParams a_pFunctions a_pImports a_pPath a_judged a_fine (upd na i (nI (ph_T (ph_sz B f) (ph_cdo B f) a_high e i))) a_plugin a_quota a_statics a_slot a_back a_entries := by
        intro em2 r1 r2
        have hTO : ph_T (ph_sz B f) (ph_cdo B f) a_high e i ≤ ph_ow (ph_sz B f) (ph_cdo B f) a_high e i := by unfold ph_ow; omega
        have hTO2 : ph_ld (ph_sz B f) (ph_cdo B f) i → ph_T (ph_sz B f) (ph_cdo B f) a_high e i + 2 = ph_ow (ph_sz B f) (ph_cdo B f) a_high e i := fun z => by unfold ph_ow; rw [ph_b_t z]
        unfold wX_emit_88
        refine nm_r (nI_1 _) (ph_xcode hW hB hF hf h ⟨vp_in_nI (by omega) (by omega), ?_⟩)
        refine nm_r (e' := upd em2 (ph_ow (ph_sz B f) (ph_cdo B f) a_high e i) (nI (ph_cdo B f i))) (by rw [nI_clamp (by omega), ph_nbb (by omega)]) ?_
        refine ph_xwidthAt hW hB hF hf h (pk_eq (ph_wd (ph_cdo B f i)) 2 (fun z => ?_) (fun z => ?_))
        · have h1' : i + 1 < ph_sz B f := by omega
          refine nm_r (nI_1 _) ?_
          rw [nI_1 i]
          refine ph_xcode hW hB hF hf h1' ⟨vp_in_nI (by omega) (by omega), ?_⟩
          refine nm_r (e' := upd (upd em2 (ph_ow (ph_sz B f) (ph_cdo B f) a_high e i) (nI (ph_cdo B f i))) (ph_ow (ph_sz B f) (ph_cdo B f) a_high e i + 1) (ph_sv (ph_cdo B f (i + 1)))) (by rw [nI_clamp (by omega), ph_nsv]) ?_
          have J := h137 (upd (upd em2 (ph_ow (ph_sz B f) (ph_cdo B f) a_high e i) (nI (ph_cdo B f i))) (ph_ow (ph_sz B f) (ph_cdo B f) a_high e i + 1) (ph_sv (ph_cdo B f (i + 1)))) (upd na i (nI (ph_T (ph_sz B f) (ph_cdo B f) a_high e i))) (fun k hk => by
            rw [pk_un (by omega), pk_un (by omega)]; exact r1 k (by omega)) (fun j hj => pk_un (by omega)) (fun _ => ⟨⟨fun q => by
              have := hTO2 q
              rw [pk_un (by omega), pk_un (by omega), pk_un (by omega), pk_un (by omega)]
              exact r2 q, by rw [pk_un (by omega), pk_us], fun _ => pk_us⟩, pk_us⟩)
          rw [hTr, z] at J
          exact J
        · have J := h137 (upd em2 (ph_ow (ph_sz B f) (ph_cdo B f) a_high e i) (nI (ph_cdo B f i))) (upd na i (nI (ph_T (ph_sz B f) (ph_cdo B f) a_high e i))) (fun k hk => by
            rw [pk_un (by omega)]; exact r1 k (by omega)) (fun j hj => pk_un (by omega)) (fun _ => ⟨⟨fun q => by
              have := hTO2 q
              rw [pk_un (by omega), pk_un (by omega)]
              exact r2 q, pk_us, fun y => absurd y z⟩, pk_us⟩)
          rw [hTr, show ph_wd (ph_cdo B f i) = 1 by omega] at J
          exact J
      rw [ph_bit_t w (by omega : i < 64)]
      refine br_c (fun q => ?_) (fun q => ?_)
      · have hnl : ¬ ph_ld (ph_sz B f) (ph_cdo B f) i := fun y => by
          rw [(hw _ (by omega)).mpr y] at q; exact absurd q (by decide)
        have eO : ph_ow (ph_sz B f) (ph_cdo B f) a_high e i = ph_T (ph_sz B f) (ph_cdo B f) a_high e i := by unfold ph_ow; rw [ph_b_f hnl]; omega
        have J := h88 em (fun k _ => rfl) (fun y => absurd y hnl)
        rw [eO] at J
        exact J
      · have hl : ph_ld (ph_sz B f) (ph_cdo B f) i := (hw _ (by omega)).mp (by
          cases hh : ph_bit w i with
          | false => exact absurd hh q
          | true => rfl)
        have eO : ph_ow (ph_sz B f) (ph_cdo B f) a_high e i = ph_T (ph_sz B f) (ph_cdo B f) a_high e i + 2 := by unfold ph_ow; rw [ph_b_t hl]
        have hcb := ph_cs_le (n := ph_sz B f) (c := ph_cdo B f) (d := 41) hst h
        have hcb' : ph_cost (ph_sz B f) (ph_cdo B f) i < 128 := by unfold ph_cost; omega
        refine nm_r (nI_1 _) ⟨vp_in_nI (by omega) (by omega), ?_⟩
        refine nm_r (e' := upd em (ph_T (ph_sz B f) (ph_cdo B f) a_high e i) 17) (by rw [nI_clamp (by omega)]; rfl) (nm_r (nI_1 _) ?_)
        refine ph_xcost hW hB hF hf hC hw hst h ⟨vp_in_nI (by omega) (by omega), ?_⟩
        refine nm_r (e' := upd (upd em (ph_T (ph_sz B f) (ph_cdo B f) a_high e i) 17) (ph_T (ph_sz B f) (ph_cdo B f) a_high e i + 1) (nI (ph_cost (ph_sz B f) (ph_cdo B f) i))) (by rw [nI_clamp (by omega), ph_nbb hcb']) ?_
        have J := h88 (upd (upd em (ph_T (ph_sz B f) (ph_cdo B f) a_high e i) 17) (ph_T (ph_sz B f) (ph_cdo B f) a_high e i + 1) (nI (ph_cost (ph_sz B f) (ph_cdo B f) i))) (fun k hk => by rw [pk_un (by omega), pk_un (by omega)]) (fun _ => ⟨by rw [pk_un (by omega), pk_us], pk_us⟩)
        rw [eO] at J
        exact J
end
end
section
/-! ===== emit, the second pass, and install ===== -/
theorem ph_subI {a b : Nat} (ha : a < 2 ^ 20) (hb : b < 2 ^ 20) : (nI a - nI b - 2).toInt = (a : Int) - b - 2 := by
  rw [Int32.toInt_sub, pk_sub_toInt (by omega) (by omega), show (2 : Int32).toInt = 2 from by decide]
  exact Int.bmod_eq_of_le (by omega) (by omega)
theorem ph_off1 {a b : Nat} (ha : a < 2 ^ 20) (hb : b < 2 ^ 20) (h1 : b ≤ a + 120) (h2 : a ≤ b + 120) : vp_nar .byte ((nI a - nI b - 2).toInt8.toInt32) = nI a - nI b - 2 := by
  rw [pk_vb]
  exact lg_i2b_small (by rw [ph_subI ha hb]; omega) (by rw [ph_subI ha hb]; omega)
theorem ph_off2 (a b : Nat) : nI (b + 2) + (nI a - nI b - 2) = nI a := by
  rw [← ph_p2]
  generalize nI a = x
  generalize nI b = y
  grind
theorem ph_St_n {nf ni pl n : Nat} {c : Nat → Nat} (hC : ph_CO nf ni pl n c) : ∀ d i, ph_St c i → i ≤ n → n ≤ i + d → ph_St c n
  | 0, i, hst, h1, h2 => by
    have : i = n := by omega
    subst this; exact hst
  | d + 1, i, hst, h1, h2 => by
    rcases Nat.lt_or_ge i n with z | z
    · have g := ph_isbad_f (hC i hst z)
      have hw := ph_wd_b (c i)
      exact ph_St_n hC d _ (ph_St_s hst) g.2.1 (by omega)
    · have : i = n := by omega
      subst this; exact hst
theorem ph_ow_ne {n e i j : Nat} {c : Nat → Nat} {hi : Nat → Int32} (hi' : ph_re n c hi i) (hj : ph_re n c hi j) (hne : j ≠ i) (h2 : ph_wd (c i) = 2) :
    (ph_ld n c j → ph_T n c hi e j ≠ ph_ow n c hi e i + 1 ∧ ph_T n c hi e j + 1 ≠ ph_ow n c hi e i + 1) ∧ ph_ow n c hi e j ≠ ph_ow n c hi e i + 1 ∧ (ph_wd (c j) = 2 → ph_ow n c hi e j + 1 ≠ ph_ow n c hi e i + 1) := by
  have hw := ph_wd_b (c j)
  rcases Nat.lt_or_ge j i with z | z
  · obtain ⟨a1, a2, a3⟩ := ph_ow_lt (e := e) hj hi'.1 z
    have b1 : ph_T n c hi e i ≤ ph_ow n c hi e i := by unfold ph_ow; omega
    exact ⟨fun q => by have := a3 q; omega, by omega, fun q => by omega⟩
  · obtain ⟨a1, a2, a3⟩ := ph_ow_lt (e := e) hi' hj.1 (by omega)
    have b1 : ph_T n c hi e j ≤ ph_ow n c hi e j := by unfold ph_ow; omega
    exact ⟨fun q => by omega, by omega, fun q => by omega⟩
theorem ph_E1_upd {n e i j : Nat} {c : Nat → Nat} {hi : Nat → Int32} {em : Nat → Int32} {v : Int32} (hi' : ph_re n c hi i) (hj : ph_re n c hi j) (hne : j ≠ i) (h2 : ph_wd (c i) = 2) (E : ph_E1 n c hi e em j) :
    ph_E1 n c hi e (upd em (ph_ow n c hi e i + 1) v) j := by
  obtain ⟨a1, a2, a3⟩ := ph_ow_ne (e := e) hi' hj hne h2
  obtain ⟨e1, e2, e3⟩ := E
  refine ⟨fun z => ?_, by rw [pk_un a2]; exact e2, fun z => by rw [pk_un (a3 z)]; exact e3 z⟩
  rw [pk_un (a1 z).1, pk_un (a1 z).2]; exact e1 z
theorem ph_isj_w {op : Nat} (h : ph_isj op = true) : ph_wd op = 2 := by
  unfold ph_isj at h
  simp at h
  rcases h with h | h <;> rw [h] <;> rfl
theorem ph_E2_upd {n e i j : Nat} {c : Nat → Nat} {hi : Nat → Int32} {em : Nat → Int32} {v : Int32} (hi' : ph_re n c hi i) (hj : ph_re n c hi j) (hne : j ≠ i) (h2 : ph_wd (c i) = 2) (E : ph_E2 n c hi e em j) :
    ph_E2 n c hi e (upd em (ph_ow n c hi e i + 1) v) j := by
  obtain ⟨a1, a2, a3⟩ := ph_ow_ne (e := e) hi' hj hne h2
  obtain ⟨e1, e2, e3, e4⟩ := E
  refine ⟨fun z => ?_, by rw [pk_un a2]; exact e2, fun z y => by rw [pk_un (a3 z)]; exact e3 z y, fun z t y => by rw [pk_un (a3 (ph_isj_w z))]; exact e4 z t y⟩
  rw [pk_un (a1 z).1, pk_un (a1 z).2]; exact e1 z
theorem ph_E2_keep {n e j : Nat} {c : Nat → Nat} {hi : Nat → Int32} {em em' : Nat → Int32} (h : ph_re n c hi j) (hn : ph_St c n) (hk : ∀ k, e ≤ k → k < ph_T n c hi e n → em' k = em k) (E : ph_E2 n c hi e em j) : ph_E2 n c hi e em' j := by
  obtain ⟨a1, a2, a3⟩ := ph_ow_lt (e := e) h hn h.2.1
  have hw := ph_wd_b (c j)
  have hT := ph_T_mono (n := n) (e := e) (c := c) (hi := hi) (i := 0) (j := j) (by omega)
  rw [show ph_T n c hi e 0 = e from rfl] at hT
  obtain ⟨e1, e2, e3, e4⟩ := E
  refine ⟨fun z => ?_, by rw [hk _ (by omega) (by omega)]; exact e2, fun z y => by rw [hk _ (by omega) (by omega)]; exact e3 z y, fun z t y => ?_⟩
  · have := a3 z
    rw [hk _ (by omega) (by omega), hk _ (by omega) (by omega)]; exact e1 z
  · have := ph_isj_w z
    rw [hk _ (by omega) (by omega)]; exact e4 z t y
section
variable {f_nodes f_rules f_version f_count f_at f_place f_number f_imports f_functions f_fault f_frames f_box f_pc f_status f_result : Int32} {f_waiting f_memory : Int64} {a_child a_verdict a_ruleNode a_before a_nodesBefore a_bytes a_path a_pathAt a_params a_locals a_from a_size a_high a_loaded a_emitted a_entry a_pParams a_pFunctions a_pImports a_pPath a_judged a_fine a_newAt a_plugin a_quota a_statics a_slot a_back a_entries : Nat → Int32}
variable {B : Nat → Nat} {L : Nat}
theorem ph_em2 {post : Int32 → SX → Prop} {f e : Nat} {w : Int64} {em0 : Nat → Int32} (hW : ph_WF B L) (hB : ph_BX B a_bytes) (hF : ph_FA B (ph_nf B) a_params a_locals a_from a_size) (hf : f < ph_nf B)
    (hC : ph_CO (ph_nf B) (B 1) (B (ph_hd B f) + B (ph_hd B f + 1)) (ph_sz B f) (ph_cdo B f)) (hJ : ph_JO (ph_sz B f) (ph_cdo B f)) (hw : ∀ k, k < 64 → (ph_bit w k = true ↔ ph_ld (ph_sz B f) (ph_cdo B f) k))
    (hr : ∀ i, i < 40 → a_high i = -1 ∨ ∃ h, h ≤ 6 ∧ a_high i = nI h) (h0 : ph_wd (ph_cdo B f 0) = 2) (he : e + 3 * ph_sz B f ≤ 962) (hG : ph_Good B (ph_sz B f) (ph_cdo B f) (ph_RH (ph_sz B f) a_high))
    (hna : ∀ j, ph_re (ph_sz B f) (ph_cdo B f) a_high j → a_newAt j = nI (ph_T (ph_sz B f) (ph_cdo B f) a_high e j)) (hstn : ph_St (ph_cdo B f) (ph_sz B f))
    (K : ∀ em, (∀ k, (k < e ∨ ph_T (ph_sz B f) (ph_cdo B f) a_high e (ph_sz B f) ≤ k) → em k = em0 k) → (∀ j, ph_re (ph_sz B f) (ph_cdo B f) a_high j → ph_E2 (ph_sz B f) (ph_cdo B f) a_high e em j) →
      post (nI (ph_T (ph_sz B f) (ph_cdo B f) a_high e (ph_sz B f))) (f_nodes, f_rules, f_version, f_count, f_at, f_place, f_number, f_imports, f_functions, f_waiting, f_fault, f_frames, f_box, f_pc, f_status, f_result, f_memory, a_child, a_verdict, a_ruleNode, a_before, a_nodesBefore, a_bytes, a_path, a_pathAt, a_params, a_locals, a_from, a_size, a_high, a_loaded, em, a_entry, a_pParams, a_pFunctions, a_pImports, a_pPath, a_judged, a_fine, a_newAt, a_plugin, a_quota, a_statics, a_slot, a_back, a_entries)) :
    ∀ d i em, ph_St (ph_cdo B f) i → i ≤ ph_sz B f → ph_sz B f ≤ i + d → (∀ k, (k < e ∨ ph_T (ph_sz B f) (ph_cdo B f) a_high e (ph_sz B f) ≤ k) → em k = em0 k) →
      (∀ j, ph_re (ph_sz B f) (ph_cdo B f) a_high j → j < i → ph_E2 (ph_sz B f) (ph_cdo B f) a_high e em j) → (∀ j, ph_re (ph_sz B f) (ph_cdo B f) a_high j → i ≤ j → ph_E1 (ph_sz B f) (ph_cdo B f) a_high e em j) →
      wX_emit_155 post (nI f) w (nI (ph_T (ph_sz B f) (ph_cdo B f) a_high e (ph_sz B f))) f_nodes f_rules f_version f_count f_at f_place f_number f_imports f_functions f_waiting f_fault f_frames f_box f_pc f_status f_result f_memory (d + 1) (nI i) a_child a_verdict a_ruleNode a_before a_nodesBefore a_bytes a_path a_pathAt a_params a_locals a_from a_size a_high a_loaded em a_entry a_pParams a_pFunctions a_pImports a_pPath a_judged a_fine a_newAt a_plugin a_quota a_statics a_slot a_back a_entries := by
  have hs := ph_szb hW hf
  have hn4 := hW.2.2.2.2.1
  have hTn := ph_T_b' (n := ph_sz B f) (e := e) (hi := a_high) h0 hstn
  intro d
  induction d with
  | zero =>
    intro i em hst h1 h2 q1 q2 q3
    rw [wX_emit_155]
    dsimp only
    rw [nI_clamp (by omega), (hF f hf).2.2.2]
    exact ⟨vp_in_nI (by omega) (by omega), br_t (nI_le (a := ph_sz B f) (b := i) (by omega) (by omega)) (K em q1 fun j hj => q2 j hj (by have := hj.2.1; omega))⟩
  | succ d ih =>
    intro i em hst h1 h2 q1 q2 q3
    rw [wX_emit_155]
    dsimp only
    rw [nI_clamp (by omega : f < 2 ^ 31), (hF f hf).2.2.2]
    refine ⟨vp_in_nI (by omega) (by omega), pk_le (ph_sz B f) i (fun h => K em q1 fun j hj => q2 j hj (by have := hj.2.1; omega)) (fun h => ?_)⟩
    obtain ⟨g1, g2, g3⟩ := ph_isbad_f (hC i hst h)
    have hwd := ph_wd_b (ph_cdo B f i)
    have h255 : ∀ em', (∀ k, (k < e ∨ ph_T (ph_sz B f) (ph_cdo B f) a_high e (ph_sz B f) ≤ k) → em' k = em k) → (∀ j, ph_re (ph_sz B f) (ph_cdo B f) a_high j → j < i → ph_E2 (ph_sz B f) (ph_cdo B f) a_high e em' j) →
        (∀ j, ph_re (ph_sz B f) (ph_cdo B f) a_high j → i < j → ph_E1 (ph_sz B f) (ph_cdo B f) a_high e em' j) → (ph_re (ph_sz B f) (ph_cdo B f) a_high i → ph_E2 (ph_sz B f) (ph_cdo B f) a_high e em' i) →
        wX_emit_255 post (wX_emit_155 post (nI f) w (nI (ph_T (ph_sz B f) (ph_cdo B f) a_high e (ph_sz B f))) f_nodes f_rules f_version f_count f_at f_place f_number f_imports f_functions f_waiting f_fault f_frames f_box f_pc f_status f_result f_memory (d + 1)) (nI f) w (nI (ph_T (ph_sz B f) (ph_cdo B f) a_high e (ph_sz B f))) (nI i) f_nodes f_rules f_version f_count f_at f_place f_number f_imports f_functions f_waiting f_fault f_frames f_box f_pc f_status f_result f_memory a_child a_verdict a_ruleNode a_before a_nodesBefore a_bytes a_path a_pathAt a_params a_locals a_from a_size a_high a_loaded em' a_entry a_pParams a_pFunctions a_pImports a_pPath a_judged a_fine a_newAt a_plugin a_quota a_statics a_slot a_back a_entries := by
      intro em' r1 r2 r3 r4
      unfold wX_emit_255
      refine ph_xwidthAt hW hB hF hf h (nm_r (nI_add _ _) (ih _ em' (ph_St_s hst) (by omega) (by omega) (fun k hk => by rw [r1 k hk]; exact q1 k hk) (fun j hj hjl => ?_) (fun j hj hjl => r3 j hj (by omega))))
      rcases ph_St_lt hst hj.1 hjl with y | y
      · exact r2 j hj y
      · subst y; exact r4 hj
    have hskip : (ph_re (ph_sz B f) (ph_cdo B f) a_high i → ph_isj (ph_cdo B f i) = false) → wX_emit_255 post (wX_emit_155 post (nI f) w (nI (ph_T (ph_sz B f) (ph_cdo B f) a_high e (ph_sz B f))) f_nodes f_rules f_version f_count f_at f_place f_number f_imports f_functions f_waiting f_fault f_frames f_box f_pc f_status f_result f_memory (d + 1)) (nI f) w (nI (ph_T (ph_sz B f) (ph_cdo B f) a_high e (ph_sz B f))) (nI i) f_nodes f_rules f_version f_count f_at f_place f_number f_imports f_functions f_waiting f_fault f_frames f_box f_pc f_status f_result f_memory a_child a_verdict a_ruleNode a_before a_nodesBefore a_bytes a_path a_pathAt a_params a_locals a_from a_size a_high a_loaded em a_entry a_pParams a_pFunctions a_pImports a_pPath a_judged a_fine a_newAt a_plugin a_quota a_statics a_slot a_back a_entries := by
      intro z
      refine h255 em (fun _ _ => rfl) q2 (fun j hj hjl => q3 j hj (by omega)) (fun hj => ?_)
      obtain ⟨e1, e2, e3⟩ := q3 i hj (Nat.le_refl _)
      exact ⟨e1, e2, fun y _ => e3 y, fun y => by rw [z hj] at y; exact absurd y (by decide)⟩
    have hc8 := ph_xcl hW hB hf h
    refine ph_xcode hW hB hF hf h ⟨vp_in_nI (by omega) (by omega), ?_⟩
    rw [nI_clamp (by omega : i < 2 ^ 31)]
    rcases hr i (by omega) with eh | ⟨h', b1, eh⟩
    · exact br_t (by rw [eh]; decide) (hskip fun z => absurd eh z.2.2)
    · have hre : ph_re (ph_sz B f) (ph_cdo B f) a_high i := ⟨hst, h, by rw [eh]; exact ph_nIm1 (by omega)⟩
      have h202 : (ph_cdo B f i = 10 ∨ ph_cdo B f i = 11) → wX_emit_202 post (wX_emit_155 post (nI f) w (nI (ph_T (ph_sz B f) (ph_cdo B f) a_high e (ph_sz B f))) f_nodes f_rules f_version f_count f_at f_place f_number f_imports f_functions f_waiting f_fault f_frames f_box f_pc f_status f_result f_memory (d + 1)) (nI f) w (nI (ph_T (ph_sz B f) (ph_cdo B f) a_high e (ph_sz B f))) (nI i) f_nodes f_rules f_version f_count f_at f_place f_number f_imports f_functions f_waiting f_fault f_frames f_box f_pc f_status f_result f_memory a_child a_verdict a_ruleNode a_before a_nodesBefore a_bytes a_path a_pathAt a_params a_locals a_from a_size a_high a_loaded em a_entry a_pParams a_pFunctions a_pImports a_pPath a_judged a_fine a_newAt a_plugin a_quota a_statics a_slot a_back a_entries := by
        intro q
        have hisj : ph_isj (ph_cdo B f i) = true := by unfold ph_isj; simp; exact q
        have hw2 := ph_isj_w hisj
        have h1' : i + 1 < ph_sz B f := by omega
        obtain ⟨t, t1, t2, t3⟩ := hJ i hst h hisj
        have et : nI (i + 2) + ph_sv (ph_cdo B f (i + 1)) = nI t := ph_eqI (by omega) (by rw [ph_tgI (by omega) (ph_xcl hW hB hf h1')]; unfold ph_tg at t3; omega)
        have hret : ph_re (ph_sz B f) (ph_cdo B f) a_high t := by
          have g := (hG.2.2 i h' ⟨h, b1, eh⟩).2.2.2.2.2 hisj t t3
          exact ⟨t1, t2, by rw [g.2.2]; exact ph_nIm1 (by have := g.2.1; omega)⟩
        obtain ⟨a1, a2, a3⟩ := ph_ow_lt (e := e) hre hstn h
        obtain ⟨c1, c2, c3⟩ := ph_ow_lt (e := e) hret hstn t2
        have hTe := ph_T_mono (n := ph_sz B f) (e := e) (c := ph_cdo B f) (hi := a_high) (i := 0) (j := i) (by omega)
        have hTt := ph_T_mono (n := ph_sz B f) (e := e) (c := ph_cdo B f) (hi := a_high) (i := 0) (j := t) (by omega)
        rw [show ph_T (ph_sz B f) (ph_cdo B f) a_high e 0 = e from rfl] at hTe hTt
        have h225 : ∀ z : Nat, ph_T (ph_sz B f) (ph_cdo B f) a_high e i + z = ph_ow (ph_sz B f) (ph_cdo B f) a_high e i → wX_emit_225 post (wX_emit_155 post (nI f) w (nI (ph_T (ph_sz B f) (ph_cdo B f) a_high e (ph_sz B f))) f_nodes f_rules f_version f_count f_at f_place f_number f_imports f_functions f_waiting f_fault f_frames f_box f_pc f_status f_result f_memory (d + 1)) (nI f) w (nI (ph_T (ph_sz B f) (ph_cdo B f) a_high e (ph_sz B f))) (nI i) (nI z) (nI (ph_T (ph_sz B f) (ph_cdo B f) a_high e i)) f_nodes f_rules f_version f_count f_at f_place f_number f_imports f_functions f_waiting f_fault f_frames f_box f_pc f_status f_result f_memory a_child a_verdict a_ruleNode a_before a_nodesBefore a_bytes a_path a_pathAt a_params a_locals a_from a_size a_high a_loaded em a_entry a_pParams a_pFunctions a_pImports a_pPath a_judged a_fine a_newAt a_plugin a_quota a_statics a_slot a_back a_entries := by
          intro z ez
          unfold wX_emit_225
          refine nm_r (e' := nI (ph_ow (ph_sz B f) (ph_cdo B f) a_high e i)) (by rw [nI_add, ez]) (ph_xtarget hW hB hF hf h1' ?_)
          rw [et, nI_1, nI_clamp (by omega), nI_clamp (by omega), hna t hret]
          refine ⟨vp_in_nI (by omega) (by omega), vp_in_nI (by omega) (by omega), nm_r (e' := upd em (ph_ow (ph_sz B f) (ph_cdo B f) a_high e i + 1) (nI (ph_T (ph_sz B f) (ph_cdo B f) a_high e t) - nI (ph_ow (ph_sz B f) (ph_cdo B f) a_high e i) - 2)) (by rw [ph_off1 (by omega) (by omega) (by omega) (by omega)]) ?_⟩
          refine h255 _ (fun k hk => pk_un (by omega)) (fun j hj hjl => ph_E2_upd hre hj (by omega) hw2 (q2 j hj hjl)) (fun j hj hjl => ph_E1_upd hre hj (by omega) hw2 (q3 j hj (by omega))) (fun _ => ?_)
          obtain ⟨e1, e2, e3⟩ := q3 i hre (Nat.le_refl _)
          refine ⟨fun y => ?_, by rw [pk_un (by omega)]; exact e2, fun _ y => by rw [hisj] at y; exact absurd y (by decide), fun _ t' y => ?_⟩
          · have := a3 y
            rw [pk_un (by omega), pk_un (by omega)]; exact e1 y
          · have : t' = t := by omega
            subst this
            rw [pk_us]; exact ph_off2 _ _
        unfold wX_emit_202
        rw [nI_clamp (by omega : i < 2 ^ 31), hna i hre, ph_bit_t w (by omega : i < 64)]
        refine ⟨vp_in_nI (by omega) (by omega), br_c (fun y => h225 0 ?_) (fun y => h225 2 ?_)⟩
        · have hnl : ¬ ph_ld (ph_sz B f) (ph_cdo B f) i := fun z => by
            rw [(hw _ (by omega)).mpr z] at y; exact absurd y (by decide)
          unfold ph_ow; rw [ph_b_f hnl]
        · have hl : ph_ld (ph_sz B f) (ph_cdo B f) i := (hw _ (by omega)).mp (by
            cases hh : ph_bit w i with
            | false => exact absurd hh y
            | true => rfl)
          unfold ph_ow; rw [ph_b_t hl]
      refine br_f (by rw [eh]; exact nI_pos (by omega)) (pk_eq (ph_cdo B f i) 10 (fun z => h202 (Or.inl z)) (fun z => pk_eq (ph_cdo B f i) 11 (fun y => h202 (Or.inr y)) (fun y => hskip fun _ => ?_)))
      unfold ph_isj
      simp [z, y]
theorem ph_xemit {post : Int32 → SX → Prop} {f e : Nat} (hW : ph_WF B L) (hB : ph_BX B a_bytes) (hF : ph_FA B (ph_nf B) a_params a_locals a_from a_size) (hf : f < ph_nf B)
    (hC : ph_CO (ph_nf B) (B 1) (B (ph_hd B f) + B (ph_hd B f + 1)) (ph_sz B f) (ph_cdo B f)) (hJ : ph_JO (ph_sz B f) (ph_cdo B f))
    (hr : ∀ i, i < 40 → a_high i = -1 ∨ ∃ h, h ≤ 6 ∧ a_high i = nI h) (h0 : ph_wd (ph_cdo B f 0) = 2) (he : e + 3 * ph_sz B f ≤ 962) (hG : ph_Good B (ph_sz B f) (ph_cdo B f) (ph_RH (ph_sz B f) a_high))
    (K : ∀ em na, (∀ k, (k < e ∨ ph_T (ph_sz B f) (ph_cdo B f) a_high e (ph_sz B f) ≤ k) → em k = a_emitted k) → (∀ j, ph_re (ph_sz B f) (ph_cdo B f) a_high j → ph_E2 (ph_sz B f) (ph_cdo B f) a_high e em j) →
      post (nI (ph_T (ph_sz B f) (ph_cdo B f) a_high e (ph_sz B f))) (f_nodes, f_rules, f_version, f_count, f_at, f_place, f_number, f_imports, f_functions, f_waiting, f_fault, f_frames, f_box, f_pc, f_status, f_result, f_memory, a_child, a_verdict, a_ruleNode, a_before, a_nodesBefore, a_bytes, a_path, a_pathAt, a_params, a_locals, a_from, a_size, a_high, a_loaded, em, a_entry, a_pParams, a_pFunctions, a_pImports, a_pPath, a_judged, a_fine, na, a_plugin, a_quota, a_statics, a_slot, a_back, a_entries)) : wpX_emit post (f_nodes, f_rules, f_version, f_count, f_at, f_place, f_number, f_imports, f_functions, f_waiting, f_fault, f_frames, f_box, f_pc, f_status, f_result, f_memory, a_child, a_verdict, a_ruleNode, a_before, a_nodesBefore, a_bytes, a_path, a_pathAt, a_params, a_locals, a_from, a_size, a_high, a_loaded, a_emitted, a_entry, a_pParams, a_pFunctions, a_pImports, a_pPath, a_judged, a_fine, a_newAt, a_plugin, a_quota, a_statics, a_slot, a_back, a_entries) (nI f) (nI e) := by
  unfold wpX_emit
  refine ph_xleaders hW hB hF hf hC hJ (fun w hw => ⟨ph_sz B f + 1, ?_⟩)
  refine ph_em1 (e := e) (em0 := a_emitted) hW hB hF hf hC hw hr h0 he (fun em na q1 q2 hstn => ⟨ph_sz B f + 1, ?_⟩) (ph_sz B f) 0 a_emitted a_newAt (ph_St_0 _) (by omega) (by omega) (fun k _ => rfl) (fun j _ hj => by omega)
  exact ph_em2 (em0 := a_emitted) hW hB hF hf hC hJ hw hr h0 he hG (fun j hj => (q2 j hj).2) hstn (fun em' r1 r2 => K em' na r1 r2) (ph_sz B f) 0 em (ph_St_0 _) (by omega) (by omega) q1 (fun j _ hj => by omega) (fun j hj _ => (q2 j hj).1)
end
end
section
/-! ===== install and submit of the component ===== -/
def ph_PF (B : Nat → Nat) (p g lim : Nat) (em en pp : Nat → Int32) : Prop :=
  ∃ (hi : Nat → Int32) (e : Nat), ph_Good B (ph_sz B g) (ph_cdo B g) (ph_RH (ph_sz B g) hi) ∧ ph_St (ph_cdo B g) (ph_sz B g) ∧ en (4 * p + g) = nI e ∧ pp (4 * p + g) = nI (B (ph_hd B g)) ∧ 320 * p ≤ e ∧ ph_T (ph_sz B g) (ph_cdo B g) hi e (ph_sz B g) ≤ lim ∧
    ∀ j, ph_re (ph_sz B g) (ph_cdo B g) hi j → ph_E2 (ph_sz B g) (ph_cdo B g) hi e em j
theorem ph_PF_keep {B : Nat → Nat} {p g lim lim' : Nat} {em en pp em' en' pp' : Nat → Int32} (h1 : ∀ k, 320 * p ≤ k → k < lim → em' k = em k) (h2 : en' (4 * p + g) = en (4 * p + g)) (h3 : pp' (4 * p + g) = pp (4 * p + g)) (hl : lim ≤ lim')
    (h : ph_PF B p g lim em en pp) : ph_PF B p g lim' em' en' pp' := by
  obtain ⟨hi, e, a1, a2, a3, a4, a5, a6, a7⟩ := h
  exact ⟨hi, e, a1, a2, by rw [h2]; exact a3, by rw [h3]; exact a4, a5, by omega, fun j hj => ph_E2_keep hj a2 (fun k hk1 hk2 => h1 k (by omega) (by omega)) (a7 j hj)⟩
theorem ph_mul4 (p f : Nat) : 4 * nI p + nI f = nI (4 * p + f) := by rw [show (4 : Int32) = nI 4 from rfl, pk_mul, nI_add]
noncomputable def ph_flr (B : Nat → Nat) (f : Nat) : Nat × Nat := if ph_b (ph_FO B (ph_sz B f) (ph_cdo B f)) = 1 then (0, 0) else (6, ph_hd B f + 3)
def ph_dnr (B rc ra : Nat → Nat) (nr i : Nat) : Nat × Nat := if ph_al rc ra nr (ph_pth B i) = 1 then (0, 0) else (7, 2 + 3 * i)
noncomputable def ph_chk (B : Nat → Nat) (L : Nat) (rc ra : Nat → Nat) (nr : Nat) : Nat × Nat :=
  ph_th (ph_fm B L) (ph_th (ph_sq (ph_ccr B) (ph_nf B) 0) (ph_th (ph_sq (ph_jjr B) (ph_nf B) 0) (ph_th (ph_sq (ph_flr B) (ph_nf B) 0) (ph_sq (ph_dnr B rc ra nr) (B 1) 0))))
/-- the first free place -/
def ph_fp (l : Nat → Int32) : Nat := if l 0 = 0 then 0 else if l 1 = 0 then 1 else if l 2 = 0 then 2 else 3
/-- all checks of the code are passed -/
def ph_OK (B : Nat → Nat) (L : Nat) : Prop :=
  ph_WF B L ∧ (∀ f, f < ph_nf B → ph_CO (ph_nf B) (B 1) (B (ph_hd B f) + B (ph_hd B f + 1)) (ph_sz B f) (ph_cdo B f) ∧ ph_JO (ph_sz B f) (ph_cdo B f))
theorem ph_pth_lt {B : Nat → Nat} {L i : Nat} (hW : ph_WF B L) (hi : i < B 1) : ph_pth B i < 512 := by
  have h := hW.2.2.1
  have a := h (3 * i) (by omega)
  have b := h (3 * i + 1) (by omega)
  have c := h (3 * i + 2) (by omega)
  rw [show 2 + (3 * i + 1) = 3 + 3 * i by omega] at b
  rw [show 2 + (3 * i + 2) = 4 + 3 * i by omega] at c
  unfold ph_pth
  omega
section
variable {f_nodes f_rules f_version f_count f_at f_place f_number f_imports f_functions f_fault f_frames f_box f_pc f_status f_result : Int32} {f_waiting f_memory : Int64} {a_child a_verdict a_ruleNode a_before a_nodesBefore a_bytes a_path a_pathAt a_params a_locals a_from a_size a_high a_loaded a_emitted a_entry a_pParams a_pFunctions a_pImports a_pPath a_judged a_fine a_newAt a_plugin a_quota a_statics a_slot a_back a_entries : Nat → Int32}
variable {B : Nat → Nat} {L : Nat}
theorem ph_x86 {post : SX → Prop} {p : Nat} {em0 en0 pp0 : Nat → Int32} (hO : ph_OK B L) (hB : ph_BX B a_bytes) (hF : ph_FA B (ph_nf B) a_params a_locals a_from a_size) (hFO : ∀ f, f < ph_nf B → ph_FO B (ph_sz B f) (ph_cdo B f)) (hp : p < 3)
    (K : ∀ W fa hi em na en pp, (∀ g, g < ph_nf B → ph_PF B p g (320 * p + 320) em en pp) → (∀ k, (k < 320 * p ∨ 320 * p + 320 ≤ k) → em k = em0 k) → (∀ k, (k < 4 * p ∨ 4 * p + 4 ≤ k) → en k = en0 k ∧ pp k = pp0 k) →
      post (f_nodes, f_rules, f_version, f_count, f_at, f_place, f_number, f_imports, nI (ph_nf B), W, fa, f_frames, f_box, f_pc, f_status, f_result, f_memory, a_child, a_verdict, a_ruleNode, a_before, a_nodesBefore, a_bytes, a_path, a_pathAt, a_params, a_locals, a_from, a_size, hi, a_loaded, em, en, pp, a_pFunctions, a_pImports, a_pPath, a_judged, a_fine, na, a_plugin, a_quota, a_statics, a_slot, a_back, a_entries)) :
    ∀ d f e W fa hi em na en pp, f + d = ph_nf B → e ≤ 320 * p + 118 * f → e + 11 * f + 3 * ph_hd B 0 ≤ 320 * p + 3 * ph_hd B f → 320 * p ≤ e → (∀ g, g < f → ph_PF B p g e em en pp) →
      (∀ k, (k < 320 * p ∨ 320 * p + 320 ≤ k) → em k = em0 k) → (∀ k, (k < 4 * p ∨ 4 * p + 4 ≤ k) → en k = en0 k ∧ pp k = pp0 k) →
      wX_install_86 post (nI p) (d + 1) (nI e) (nI f) f_nodes f_rules f_version f_count f_at f_place f_number f_imports (nI (ph_nf B)) W fa f_frames f_box f_pc f_status f_result f_memory a_child a_verdict a_ruleNode a_before a_nodesBefore a_bytes a_path a_pathAt a_params a_locals a_from a_size hi a_loaded em en pp a_pFunctions a_pImports a_pPath a_judged a_fine na a_plugin a_quota a_statics a_slot a_back a_entries := by
  have hW := hO.1
  have hn4 := hW.2.2.2.2.1
  have hd0 : 3 ≤ ph_hd B 0 := by simp only [ph_hd]; omega
  have hdn := hW.2.2.2.2.2.1
  have hL := hW.1
  intro d
  induction d with
  | zero =>
    intro f e W fa hi em na en pp hf b1 b2 b3 q1 q2 q3
    have ef : f = ph_nf B := by omega
    rw [wX_install_86]
    refine br_t (nI_le (by omega) (by omega)) (K W fa hi em na en pp (fun g hg => ph_PF_keep (fun _ _ _ => rfl) rfl rfl (lim := e) ?_ (q1 g (by omega))) q2 q3)
    rw [ef, hdn] at b2
    rw [ef] at b1
    omega
  | succ d ih =>
    intro f e W fa hi em na en pp hf b1 b2 b3 q1 q2 q3
    have hf' : f < ph_nf B := by omega
    obtain ⟨hC, hJ⟩ := hO.2 f hf'
    have hs := ph_szb hW hf'
    have hb := ph_hd_b hW hf'
    have hds : ph_hd B (f + 1) = ph_hd B f + 3 + ph_sz B f := rfl
    have hds' : ph_hd B f + 3 + ph_sz B f ≤ L := hb.2.1
    have hff := hW.2.2.2.2.2.2 f hf'
    have he : e + 3 * ph_sz B f ≤ 320 * p + 322 := by omega
    rw [wX_install_86]
    refine br_f (nI_ge (by omega) (by omega)) ?_
    rw [ph_mul4, nI_clamp (by omega : f < 2 ^ 31), nI_clamp (by omega), (hF f hf').1]
    refine ⟨vp_in_nI (by omega) (by omega), vp_in_nI (by omega) (by omega), ?_⟩
    refine nm_r (e' := upd pp (4 * p + f) (nI (B (ph_hd B f)))) (by rw [ph_nb (by omega)]) ⟨vp_in_nI (by omega) (by omega), ?_⟩
    refine nm_r (e' := upd en (4 * p + f) (nI e)) (by rw [ph_nss (by omega)]) ?_
    refine ph_xflow hW hB hF hf' hC hJ (fun W' hi' hG hr => ?_) (fun W' hi' fa' hno => absurd (hFO f hf') hno)
    have h0 := ph_wd0 hG (ph_isbad_f (hC 0 (ph_St_0 _) (by omega))).1
    have hstn := ph_St_n hC (ph_sz B f) 0 (ph_St_0 _) (by omega) (by omega)
    have hTn := (ph_T_b' (n := ph_sz B f) (e := e) (hi := hi') h0 hstn).2 (by omega)
    have hTe := ph_T_mono (n := ph_sz B f) (e := e) (c := ph_cdo B f) (hi := hi') (i := 0) (j := ph_sz B f) (by omega)
    rw [show ph_T (ph_sz B f) (ph_cdo B f) hi' e 0 = e from rfl] at hTe
    refine ph_xemit hW hB hF hf' hC hJ hr h0 (by omega) hG (fun em' na' r1 r2 => nm_r (nI_1 f) ?_)
    refine ih (f + 1) _ W' 0 hi' em' na' _ _ (by omega) (by omega) (by omega) (by omega) (fun g hg => ?_) (fun k hk => by rw [r1 k (by omega)]; exact q2 k hk) (fun k hk => by rw [pk_un (by omega), pk_un (by omega)]; exact q3 k hk)
    rcases Nat.lt_or_ge g f with z | z
    · exact ph_PF_keep (fun k hk1 hk2 => r1 k (by omega)) (pk_un (by omega)) (pk_un (by omega)) (by omega) (q1 g z)
    · have eg : g = f := by omega
      subst eg
      exact ⟨hi', e, hG, hstn, pk_us, pk_us, b3, Nat.le_refl _, r2⟩
theorem ph_xinstall {post : SX → Prop} {p : Nat} (hO : ph_OK B L) (hB : ph_BX B a_bytes) (hF : ph_FA B (ph_nf B) a_params a_locals a_from a_size) (hI : ph_IA B (B 1) a_path a_pathAt) (hFO : ∀ f, f < ph_nf B → ph_FO B (ph_sz B f) (ph_cdo B f)) (hp : p < 3)
    (K : ∀ W fa hi em na en pp pt, (∀ g, g < ph_nf B → ph_PF B p g (320 * p + 320) em en pp) → (∀ k, (k < 320 * p ∨ 320 * p + 320 ≤ k) → em k = a_emitted k) → (∀ k, (k < 4 * p ∨ 4 * p + 4 ≤ k) → en k = a_entry k ∧ pp k = a_pParams k) →
      (∀ i, i < B 1 → pt (4 * p + i) = nI (ph_pth B i)) → (∀ k, (k < 4 * p ∨ 4 * p + 4 ≤ k) → pt k = a_pPath k) →
      post (f_nodes, f_rules, f_version, f_count, f_at, f_place, f_number, nI (B 1), nI (ph_nf B), W, fa, f_frames, f_box, f_pc, f_status, f_result, f_memory, a_child, a_verdict, a_ruleNode, a_before, a_nodesBefore, a_bytes, a_path, a_pathAt, a_params, a_locals, a_from, a_size, hi, upd a_loaded p 1, em, en, pp, upd a_pFunctions p (nI (ph_nf B)), upd a_pImports p (nI (B 1)), pt, upd a_judged p f_version, upd a_fine p 1, na, a_plugin, a_quota, a_statics, a_slot, a_back, a_entries)) :
    wpX_install post (f_nodes, f_rules, f_version, f_count, f_at, f_place, f_number, nI (B 1), nI (ph_nf B), f_waiting, f_fault, f_frames, f_box, f_pc, f_status, f_result, f_memory, a_child, a_verdict, a_ruleNode, a_before, a_nodesBefore, a_bytes, a_path, a_pathAt, a_params, a_locals, a_from, a_size, a_high, a_loaded, a_emitted, a_entry, a_pParams, a_pFunctions, a_pImports, a_pPath, a_judged, a_fine, a_newAt, a_plugin, a_quota, a_statics, a_slot, a_back, a_entries) (nI p) := by
  have hW := hO.1
  have hn4 := hW.2.2.2.2.1
  have h14 := hW.2.1
  have hin : vp_in (nI p) 3 := vp_in_nI hp (by omega)
  have h48 : ∀ d i pt, i + d = B 1 → (∀ i', i' < i → pt (4 * p + i') = nI (ph_pth B i')) → (∀ k, (k < 4 * p ∨ 4 * p + 4 ≤ k) → pt k = a_pPath k) →
      wX_install_48 post (nI p) f_nodes f_rules f_version f_count f_at f_place f_number (nI (B 1)) (nI (ph_nf B)) f_waiting f_fault f_frames f_box f_pc f_status f_result f_memory (d + 1) (nI i) a_child a_verdict a_ruleNode a_before a_nodesBefore a_bytes a_path a_pathAt a_params a_locals a_from a_size a_high (upd a_loaded p 1) a_emitted a_entry a_pParams (upd a_pFunctions p (nI (ph_nf B))) (upd a_pImports p (nI (B 1))) pt (upd a_judged p f_version) (upd a_fine p 1) a_newAt a_plugin a_quota a_statics a_slot a_back a_entries := by
    intro d
    induction d with
    | zero =>
      intro i pt hi q1 q2
      rw [wX_install_48]
      refine br_t (nI_le (by omega) (by omega)) (nm_r (e' := nI (320 * p)) (by rw [show (320 : Int32) = nI 320 from rfl, pk_mul]) ⟨ph_nf B + 1, ?_⟩)
      exact ph_x86 (em0 := a_emitted) (en0 := a_entry) (pp0 := a_pParams) hO hB hF hFO hp (fun W fa hi' em na en pp r1 r2 r3 => K W fa hi' em na en pp pt r1 r2 r3 (fun i' hi' => q1 i' (by omega)) q2) (ph_nf B) 0 (320 * p) _ _ _ _ _ _ _ (by omega) (by omega) (by omega) (by omega) (fun g hg => by omega) (fun _ _ => rfl) (fun _ _ => ⟨rfl, rfl⟩)
    | succ d ih =>
      intro i pt hi q1 q2
      have hpl := ph_pth_lt hW (i := i) (by omega)
      rw [wX_install_48]
      refine br_f (nI_ge (by omega) (by omega)) ?_
      rw [ph_mul4, nI_clamp (by omega : i < 2 ^ 31), nI_clamp (by omega), (hI i (by omega)).1]
      refine ⟨vp_in_nI (by omega) (by omega), vp_in_nI (by omega) (by omega), nm_r (e' := upd pt (4 * p + i) (nI (ph_pth B i))) (by rw [ph_ns (by omega)]) (nm_r (nI_1 i) ?_)⟩
      refine ih (i + 1) _ (by omega) (fun i' hi' => ?_) (fun k hk => by rw [pk_un (by omega)]; exact q2 k hk)
      by_cases z : i' = i
      · subst z; exact pk_us
      · rw [pk_un (by omega)]; exact q1 i' (by omega)
  unfold wpX_install
  try dsimp only
  rw [nI_clamp (by omega : p < 2 ^ 31)]
  refine ⟨hin, nm_r (e' := upd a_loaded p 1) (by rw [ph_bo1]) ⟨hin, nm_e ⟨hin, nm_r (e' := upd a_fine p 1) (by rw [ph_bo1]) ⟨hin, nm_r (e' := upd a_pFunctions p (nI (ph_nf B))) (by rw [ph_nbb (by omega)]) ⟨hin, nm_r (e' := upd a_pImports p (nI (B 1))) (by rw [ph_nbb (by omega)]) ⟨B 1 + 1, ?_⟩⟩⟩⟩⟩⟩
  exact h48 (B 1) 0 a_pPath (by omega) (fun i' hi' => by omega) (fun _ _ => rfl)
/-! the end of submit -/
theorem ph_xs154b {post : Int32 → SX → Prop} {x1 : Int32} (h : ¬ x1 = 0) (k : post x1 (f_nodes, f_rules, f_version, f_count, f_at, f_place, f_number, f_imports, f_functions, f_waiting, f_fault, f_frames, f_box, f_pc, f_status, f_result, f_memory, a_child, a_verdict, a_ruleNode, a_before, a_nodesBefore, a_bytes, a_path, a_pathAt, a_params, a_locals, a_from, a_size, a_high, a_loaded, a_emitted, a_entry, a_pParams, a_pFunctions, a_pImports, a_pPath, a_judged, a_fine, a_newAt, a_plugin, a_quota, a_statics, a_slot, a_back, a_entries)) : wX_submit_154 post x1 f_nodes f_rules f_version f_count f_at f_place f_number f_imports f_functions f_waiting f_fault f_frames f_box f_pc f_status f_result f_memory a_child a_verdict a_ruleNode a_before a_nodesBefore a_bytes a_path a_pathAt a_params a_locals a_from a_size a_high a_loaded a_emitted a_entry a_pParams a_pFunctions a_pImports a_pPath a_judged a_fine a_newAt a_plugin a_quota a_statics a_slot a_back a_entries := by
  unfold wX_submit_154; exact br_f h k
theorem ph_xs110b {post : Int32 → SX → Prop} {x1 x2 : Int32} {n : Nat} (h : ¬ x1 = 0) (k : post x1 (f_nodes, f_rules, f_version, f_count, f_at, f_place, f_number, f_imports, f_functions, f_waiting, f_fault, f_frames, f_box, f_pc, f_status, f_result, f_memory, a_child, a_verdict, a_ruleNode, a_before, a_nodesBefore, a_bytes, a_path, a_pathAt, a_params, a_locals, a_from, a_size, a_high, a_loaded, a_emitted, a_entry, a_pParams, a_pFunctions, a_pImports, a_pPath, a_judged, a_fine, a_newAt, a_plugin, a_quota, a_statics, a_slot, a_back, a_entries)) : wX_submit_110 post (n + 1) x1 x2 f_nodes f_rules f_version f_count f_at f_place f_number f_imports f_functions f_waiting f_fault f_frames f_box f_pc f_status f_result f_memory a_child a_verdict a_ruleNode a_before a_nodesBefore a_bytes a_path a_pathAt a_params a_locals a_from a_size a_high a_loaded a_emitted a_entry a_pParams a_pFunctions a_pImports a_pPath a_judged a_fine a_newAt a_plugin a_quota a_statics a_slot a_back a_entries := by
  rw [wX_submit_110]; exact br_c (fun _ => ph_xs154b h k) (fun _ => br_f h (ph_xs154b h k))
theorem ph_xs69b {post : Int32 → SX → Prop} {x1 x2 : Int32} {n : Nat} (h : ¬ x1 = 0) (k : post x1 (f_nodes, f_rules, f_version, f_count, f_at, f_place, f_number, f_imports, f_functions, f_waiting, f_fault, f_frames, f_box, f_pc, f_status, f_result, f_memory, a_child, a_verdict, a_ruleNode, a_before, a_nodesBefore, a_bytes, a_path, a_pathAt, a_params, a_locals, a_from, a_size, a_high, a_loaded, a_emitted, a_entry, a_pParams, a_pFunctions, a_pImports, a_pPath, a_judged, a_fine, a_newAt, a_plugin, a_quota, a_statics, a_slot, a_back, a_entries)) : wX_submit_69 post (n + 1) x1 x2 f_nodes f_rules f_version f_count f_at f_place f_number f_imports f_functions f_waiting f_fault f_frames f_box f_pc f_status f_result f_memory a_child a_verdict a_ruleNode a_before a_nodesBefore a_bytes a_path a_pathAt a_params a_locals a_from a_size a_high a_loaded a_emitted a_entry a_pParams a_pFunctions a_pImports a_pPath a_judged a_fine a_newAt a_plugin a_quota a_statics a_slot a_back a_entries := by
  rw [wX_submit_69]; exact br_c (fun _ => ⟨1, ph_xs110b h k⟩) (fun _ => br_f h ⟨1, ph_xs110b h k⟩)
theorem ph_xs43b {post : Int32 → SX → Prop} {x1 x2 : Int32} {n : Nat} (h : ¬ x1 = 0) (k : post x1 (f_nodes, f_rules, f_version, f_count, f_at, f_place, f_number, f_imports, f_functions, f_waiting, f_fault, f_frames, f_box, f_pc, f_status, f_result, f_memory, a_child, a_verdict, a_ruleNode, a_before, a_nodesBefore, a_bytes, a_path, a_pathAt, a_params, a_locals, a_from, a_size, a_high, a_loaded, a_emitted, a_entry, a_pParams, a_pFunctions, a_pImports, a_pPath, a_judged, a_fine, a_newAt, a_plugin, a_quota, a_statics, a_slot, a_back, a_entries)) : wX_submit_43 post (n + 1) x1 x2 f_nodes f_rules f_version f_count f_at f_place f_number f_imports f_functions f_waiting f_fault f_frames f_box f_pc f_status f_result f_memory a_child a_verdict a_ruleNode a_before a_nodesBefore a_bytes a_path a_pathAt a_params a_locals a_from a_size a_high a_loaded a_emitted a_entry a_pParams a_pFunctions a_pImports a_pPath a_judged a_fine a_newAt a_plugin a_quota a_statics a_slot a_back a_entries := by
  rw [wX_submit_43]; exact br_c (fun _ => ⟨1, ph_xs69b h k⟩) (fun _ => br_f h ⟨1, ph_xs69b h k⟩)
theorem ph_xs17b {post : Int32 → SX → Prop} {x1 x2 : Int32} {n : Nat} (h : ¬ x1 = 0) (k : post x1 (f_nodes, f_rules, f_version, f_count, f_at, f_place, f_number, f_imports, f_functions, f_waiting, f_fault, f_frames, f_box, f_pc, f_status, f_result, f_memory, a_child, a_verdict, a_ruleNode, a_before, a_nodesBefore, a_bytes, a_path, a_pathAt, a_params, a_locals, a_from, a_size, a_high, a_loaded, a_emitted, a_entry, a_pParams, a_pFunctions, a_pImports, a_pPath, a_judged, a_fine, a_newAt, a_plugin, a_quota, a_statics, a_slot, a_back, a_entries)) : wX_submit_17 post (n + 1) x1 x2 f_nodes f_rules f_version f_count f_at f_place f_number f_imports f_functions f_waiting f_fault f_frames f_box f_pc f_status f_result f_memory a_child a_verdict a_ruleNode a_before a_nodesBefore a_bytes a_path a_pathAt a_params a_locals a_from a_size a_high a_loaded a_emitted a_entry a_pParams a_pFunctions a_pImports a_pPath a_judged a_fine a_newAt a_plugin a_quota a_statics a_slot a_back a_entries := by
  rw [wX_submit_17]; exact br_c (fun _ => ⟨1, ph_xs43b h k⟩) (fun _ => br_f h ⟨1, ph_xs43b h k⟩)
theorem ph_xs162 {post : Int32 → SX → Prop} (hl : ∀ p, p < 3 → a_loaded p = 0 ∨ a_loaded p = 1) (kn : ph_fp a_loaded = 3 → post 8 (f_nodes, f_rules, f_version, f_count, f_at, f_place, f_number, f_imports, f_functions, f_waiting, f_fault, f_frames, f_box, f_pc, f_status, f_result, f_memory, a_child, a_verdict, a_ruleNode, a_before, a_nodesBefore, a_bytes, a_path, a_pathAt, a_params, a_locals, a_from, a_size, a_high, a_loaded, a_emitted, a_entry, a_pParams, a_pFunctions, a_pImports, a_pPath, a_judged, a_fine, a_newAt, a_plugin, a_quota, a_statics, a_slot, a_back, a_entries))
    (kg : ∀ p, p < 3 → ph_fp a_loaded = p → wpX_install (fun u => match u with | (f_nodes_1, f_rules_1, f_version_1, f_count_1, f_at_1, f_place_1, f_number_1, f_imports_1, f_functions_1, f_waiting_1, f_fault_1, f_frames_1, f_box_1, f_pc_1, f_status_1, f_result_1, f_memory_1, a_child_1, a_verdict_1, a_ruleNode_1, a_before_1, a_nodesBefore_1, a_bytes_1, a_path_1, a_pathAt_1, a_params_1, a_locals_1, a_from_1, a_size_1, a_high_1, a_loaded_1, a_emitted_1, a_entry_1, a_pParams_1, a_pFunctions_1, a_pImports_1, a_pPath_1, a_judged_1, a_fine_1, a_newAt_1, a_plugin_1, a_quota_1, a_statics_1, a_slot_1, a_back_1, a_entries_1) => post 0 (f_nodes_1, f_rules_1, f_version_1, 0, f_at_1, f_place_1, nI p, f_imports_1, f_functions_1, f_waiting_1, f_fault_1, f_frames_1, f_box_1, f_pc_1, f_status_1, f_result_1, f_memory_1, a_child_1, a_verdict_1, a_ruleNode_1, a_before_1, a_nodesBefore_1, a_bytes_1, a_path_1, a_pathAt_1, a_params_1, a_locals_1, a_from_1, a_size_1, a_high_1, a_loaded_1, a_emitted_1, a_entry_1, a_pParams_1, a_pFunctions_1, a_pImports_1, a_pPath_1, a_judged_1, a_fine_1, a_newAt_1, a_plugin_1, a_quota_1, a_statics_1, a_slot_1, a_back_1, a_entries_1)) (f_nodes, f_rules, f_version, f_count, f_at, f_place, f_number, f_imports, f_functions, f_waiting, f_fault, f_frames, f_box, f_pc, f_status, f_result, f_memory, a_child, a_verdict, a_ruleNode, a_before, a_nodesBefore, a_bytes, a_path, a_pathAt, a_params, a_locals, a_from, a_size, a_high, a_loaded, a_emitted, a_entry, a_pParams, a_pFunctions, a_pImports, a_pPath, a_judged, a_fine, a_newAt, a_plugin, a_quota, a_statics, a_slot, a_back, a_entries) (nI p)) : ∃ n162 : Nat, wX_submit_162 post f_nodes f_rules f_version f_count f_at f_place f_number f_imports f_functions f_waiting f_fault f_frames f_box f_pc f_status f_result f_memory a_child a_verdict a_ruleNode a_before a_nodesBefore a_bytes a_path a_pathAt a_params a_locals a_from a_size a_high a_loaded a_emitted a_entry a_pParams a_pFunctions a_pImports a_pPath a_judged a_fine a_newAt a_plugin a_quota a_statics a_slot a_back a_entries n162 0 := by
  have h182 : ∀ p, p < 3 → ph_fp a_loaded = p → wX_submit_182 post (nI p) f_nodes f_rules f_version f_count f_at f_place f_number f_imports f_functions f_waiting f_fault f_frames f_box f_pc f_status f_result f_memory a_child a_verdict a_ruleNode a_before a_nodesBefore a_bytes a_path a_pathAt a_params a_locals a_from a_size a_high a_loaded a_emitted a_entry a_pParams a_pFunctions a_pImports a_pPath a_judged a_fine a_newAt a_plugin a_quota a_statics a_slot a_back a_entries := by
    intro p hp e
    unfold wX_submit_182
    refine br_f (fun z => ?_) (kg p hp e)
    have := (nI_eq (a := p) (b := 3) (by omega) (by omega)).mp z
    omega
  have c : ∀ p, p < 3 → ¬ (3 : Int32) ≤ nI p := fun p hp => nI_ge (a := p) (b := 3) hp (by omega)
  refine ⟨4, ?_⟩
  rw [wX_submit_162]
  refine br_f (c 0 (by omega)) ⟨vp_in_nI (n := 0) (by omega) (by omega), br_c (fun z => h182 0 (by omega) (by unfold ph_fp; rw [if_pos (show a_loaded 0 = 0 from z)])) (fun z => nm_r (nI_1 0) ?_)⟩
  rw [wX_submit_162]
  refine br_f (c 1 (by omega)) ⟨vp_in_nI (n := 1) (by omega) (by omega), br_c (fun y => h182 1 (by omega) (by unfold ph_fp; rw [if_neg (show ¬ a_loaded 0 = 0 from z), if_pos (show a_loaded 1 = 0 from y)])) (fun y => nm_r (nI_1 1) ?_)⟩
  rw [wX_submit_162]
  refine br_f (c 2 (by omega)) ⟨vp_in_nI (n := 2) (by omega) (by omega), br_c (fun x => h182 2 (by omega) (by unfold ph_fp; rw [if_neg (show ¬ a_loaded 0 = 0 from z), if_neg (show ¬ a_loaded 1 = 0 from y), if_pos (show a_loaded 2 = 0 from x)])) (fun x => nm_r (nI_1 2) ?_)⟩
  rw [wX_submit_162]
  refine br_t (by decide) ?_
  unfold wX_submit_182
  exact br_t rfl (kn (by unfold ph_fp; rw [if_neg (show ¬ a_loaded 0 = 0 from z), if_neg (show ¬ a_loaded 1 = 0 from y), if_neg (show ¬ a_loaded 2 = 0 from x)]))
end
end
section
/-! ===== submit of the component ===== -/
theorem ph_dnr_ne {B rc ra : Nat → Nat} {nr i : Nat} (h : ph_al rc ra nr (ph_pth B i) = 0) : ph_dnr B rc ra nr i = (7, 2 + 3 * i) := if_neg (by omega)
theorem ph_th_c {a b : Nat × Nat} {c pl : Nat} (h : a = (c, pl)) (hc : c ≠ 0) : ph_th a b = (c, pl) := by rw [ph_th_n (by rw [h]; exact hc), h]
theorem ph_th_le {a b : Nat × Nat} (ha : a.1 ≤ 3) (hb : b.1 ≤ 3) : (ph_th a b).1 ≤ 3 := by unfold ph_th; split <;> assumption
theorem ph_rd_le (B : Nat → Nat) (L pos lo hi : Nat) : (ph_rd B L pos lo hi).1 ≤ 3 := by
  unfold ph_rd
  split
  · simp
  · split <;> simp
theorem ph_sq_le {g : Nat → Nat × Nat} (h : ∀ i, (g i).1 ≤ 3) : ∀ d i, (ph_sq g d i).1 ≤ 3
  | 0, _ => by simp [ph_sq]
  | d + 1, i => by simp only [ph_sq]; exact ph_th_le (h i) (ph_sq_le h d (i + 1))
theorem ph_fu_le (B : Nat → Nat) (L : Nat) : ∀ m pos, (ph_fu B L m pos).1 ≤ 3
  | 0, pos => by
    simp only [ph_fu]
    split <;> simp
  | m + 1, pos => by
    simp only [ph_fu]
    refine ph_th_le (ph_rd_le _ _ _ _ _) (ph_th_le (ph_rd_le _ _ _ _ _) (ph_th_le (ph_rd_le _ _ _ _ _) ?_))
    split
    · simp
    · exact ph_fu_le B L m _
theorem ph_fm_le (B : Nat → Nat) (L : Nat) : (ph_fm B L).1 ≤ 3 :=
  ph_th_le (ph_rd_le _ _ _ _ _) (ph_th_le (ph_rd_le _ _ _ _ _) (ph_th_le (ph_sq_le (fun _ => ph_rd_le _ _ _ _ _) _ _) (ph_th_le (ph_rd_le _ _ _ _ _) (ph_fu_le _ _ _ _))))
section
variable {f_nodes f_rules f_version f_count f_at f_place f_number f_imports f_functions f_fault f_frames f_box f_pc f_status f_result : Int32} {f_waiting f_memory : Int64} {a_child a_verdict a_ruleNode a_before a_nodesBefore a_bytes a_path a_pathAt a_params a_locals a_from a_size a_high a_loaded a_emitted a_entry a_pParams a_pFunctions a_pImports a_pPath a_judged a_fine a_newAt a_plugin a_quota a_statics a_slot a_back a_entries : Nat → Int32}
variable {B : Nat → Nat} {L : Nat}
theorem ph_xs110 {post : Int32 → SX → Prop} {C : Nat × Nat} {rc ra nm Nr : Nat → Nat} {nr : Nat} (hW : ph_WF B L) (hI : ph_IA B (B 1) a_path a_pathAt) (hT : ph_TR nr rc ra nm Nr a_child a_verdict a_ruleNode a_before a_nodesBefore)
    (kb : ∀ c pl, C = (c, pl) → c ≠ 0 → post (nI c) (f_nodes, f_rules, f_version, f_count, f_at, nI pl, f_number, nI (B 1), f_functions, f_waiting, f_fault, f_frames, f_box, f_pc, f_status, f_result, f_memory, a_child, a_verdict, a_ruleNode, a_before, a_nodesBefore, a_bytes, a_path, a_pathAt, a_params, a_locals, a_from, a_size, a_high, a_loaded, a_emitted, a_entry, a_pParams, a_pFunctions, a_pImports, a_pPath, a_judged, a_fine, a_newAt, a_plugin, a_quota, a_statics, a_slot, a_back, a_entries)) (kg : C = (0, 0) → wX_submit_154 post 0 f_nodes f_rules f_version f_count f_at f_place f_number (nI (B 1)) f_functions f_waiting f_fault f_frames f_box f_pc f_status f_result f_memory a_child a_verdict a_ruleNode a_before a_nodesBefore a_bytes a_path a_pathAt a_params a_locals a_from a_size a_high a_loaded a_emitted a_entry a_pParams a_pFunctions a_pImports a_pPath a_judged a_fine a_newAt a_plugin a_quota a_statics a_slot a_back a_entries) :
    ∀ d i, i + d = B 1 → C = ph_sq (ph_dnr B rc ra nr) d i → wX_submit_110 post (d + 1) 0 (nI i) f_nodes f_rules f_version f_count f_at f_place f_number (nI (B 1)) f_functions f_waiting f_fault f_frames f_box f_pc f_status f_result f_memory a_child a_verdict a_ruleNode a_before a_nodesBefore a_bytes a_path a_pathAt a_params a_locals a_from a_size a_high a_loaded a_emitted a_entry a_pParams a_pFunctions a_pImports a_pPath a_judged a_fine a_newAt a_plugin a_quota a_statics a_slot a_back a_entries := by
  have h14 := hW.2.1
  intro d
  induction d with
  | zero =>
    intro i hi E
    rw [wX_submit_110]
    exact br_t (nI_le (by omega) (by omega)) (kg E)
  | succ d ih =>
    intro i hi E
    obtain ⟨e1, e2⟩ := hI i (by omega)
    simp only [ph_sq] at E
    rw [wX_submit_110]
    refine br_f (nI_ge (by omega) (by omega)) (br_t rfl ?_)
    rw [nI_clamp (by omega), e1, e2]
    refine ⟨vp_in_nI (by omega) (by omega), ph_xperm hT (ph_pth_lt hW (by omega)) ?_⟩
    have hle := ph_al_le rc ra nr (ph_pth B i)
    refine pk_eq (ph_al rc ra nr (ph_pth B i)) 0 (fun z => ⟨vp_in_nI (by omega) (by omega), ?_⟩) (fun z => nm_r (nI_1 i) (ih (i + 1) (by omega) ?_))
    · refine nm_e (ph_xs110b (by decide) ?_)
      exact kb 7 _ (by rw [E]; exact ph_th_c (ph_dnr_ne z) (by decide)) (by decide)
    · rw [ph_th_0 (show ph_dnr B rc ra nr i = (0, 0) from if_pos (by omega))] at E; exact E
theorem ph_xs69 {post : Int32 → SX → Prop} {C R : Nat × Nat} (hO : ph_OK B L) (hB : ph_BX B a_bytes) (hF : ph_FA B (ph_nf B) a_params a_locals a_from a_size)
    (kb : ∀ c pl W fa hi, C = (c, pl) → c ≠ 0 → post (nI c) (f_nodes, f_rules, f_version, f_count, f_at, nI pl, f_number, f_imports, nI (ph_nf B), W, fa, f_frames, f_box, f_pc, f_status, f_result, f_memory, a_child, a_verdict, a_ruleNode, a_before, a_nodesBefore, a_bytes, a_path, a_pathAt, a_params, a_locals, a_from, a_size, hi, a_loaded, a_emitted, a_entry, a_pParams, a_pFunctions, a_pImports, a_pPath, a_judged, a_fine, a_newAt, a_plugin, a_quota, a_statics, a_slot, a_back, a_entries))
    (kg : ∀ W fa hi, C = R → (∀ g, g < ph_nf B → ph_FO B (ph_sz B g) (ph_cdo B g)) → ∃ n110 : Nat, wX_submit_110 post n110 0 0 f_nodes f_rules f_version f_count f_at f_place f_number f_imports (nI (ph_nf B)) W fa f_frames f_box f_pc f_status f_result f_memory a_child a_verdict a_ruleNode a_before a_nodesBefore a_bytes a_path a_pathAt a_params a_locals a_from a_size hi a_loaded a_emitted a_entry a_pParams a_pFunctions a_pImports a_pPath a_judged a_fine a_newAt a_plugin a_quota a_statics a_slot a_back a_entries) :
    ∀ d f W fa hi, f + d = ph_nf B → C = ph_th (ph_sq (ph_flr B) d f) R → (∀ g, g < f → ph_FO B (ph_sz B g) (ph_cdo B g)) → wX_submit_69 post (d + 1) 0 (nI f) f_nodes f_rules f_version f_count f_at f_place f_number f_imports (nI (ph_nf B)) W fa f_frames f_box f_pc f_status f_result f_memory a_child a_verdict a_ruleNode a_before a_nodesBefore a_bytes a_path a_pathAt a_params a_locals a_from a_size hi a_loaded a_emitted a_entry a_pParams a_pFunctions a_pImports a_pPath a_judged a_fine a_newAt a_plugin a_quota a_statics a_slot a_back a_entries := by
  have hW := hO.1
  have hn4 := hW.2.2.2.2.1
  intro d
  induction d with
  | zero =>
    intro f W fa hi hf E q
    rw [wX_submit_69]
    exact br_t (nI_le (by omega) (by omega)) (kg W fa hi E fun g hg => q g (by omega))
  | succ d ih =>
    intro f W fa hi hf E q
    have hf' : f < ph_nf B := by omega
    obtain ⟨hC, hJ⟩ := hO.2 f hf'
    simp only [ph_sq] at E
    rw [wX_submit_69]
    refine br_f (nI_ge (by omega) (by omega)) (br_t rfl ?_)
    refine ph_xflow hW hB hF hf' hC hJ (fun W' hi' hG hr => br_f (by decide) (nm_r (nI_1 f) (ih (f + 1) W' 0 hi' (by omega) ?_ fun g hg => ?_))) (fun W' hi' fa' hno => br_t rfl ?_)
    · rw [ph_th_0 (show ph_flr B f = (0, 0) from if_pos (ph_b_t ⟨_, hG⟩))] at E; exact E
    · by_cases z : g = f
      · subst z; exact ⟨_, hG⟩
      · exact q g (by omega)
    · rw [nI_clamp (by omega), (hF f hf').2.2.1]
      refine ⟨vp_in_nI (by omega) (by omega), nm_e (ph_xs69b (by decide) ?_)⟩
      refine kb 6 _ _ _ _ ?_ (by decide)
      have e1 : ph_flr B f = (6, ph_hd B f + 3) := if_neg (by rw [ph_b_f hno]; decide)
      rw [E, ph_th_c (ph_th_c e1 (by decide)) (by decide)]
theorem ph_xs43 {post : Int32 → SX → Prop} {C R : Nat × Nat} (hW : ph_WF B L) (hB : ph_BX B a_bytes) (hF : ph_FA B (ph_nf B) a_params a_locals a_from a_size)
    (hC : ∀ f, f < ph_nf B → ph_CO (ph_nf B) (B 1) (B (ph_hd B f) + B (ph_hd B f + 1)) (ph_sz B f) (ph_cdo B f))
    (kb : ∀ c pl, C = (c, pl) → c ≠ 0 → post (nI c) (f_nodes, f_rules, f_version, f_count, f_at, nI pl, f_number, f_imports, nI (ph_nf B), f_waiting, f_fault, f_frames, f_box, f_pc, f_status, f_result, f_memory, a_child, a_verdict, a_ruleNode, a_before, a_nodesBefore, a_bytes, a_path, a_pathAt, a_params, a_locals, a_from, a_size, a_high, a_loaded, a_emitted, a_entry, a_pParams, a_pFunctions, a_pImports, a_pPath, a_judged, a_fine, a_newAt, a_plugin, a_quota, a_statics, a_slot, a_back, a_entries))
    (kg : C = R → (∀ g, g < ph_nf B → ph_JO (ph_sz B g) (ph_cdo B g)) → ∃ n69 : Nat, wX_submit_69 post n69 0 0 f_nodes f_rules f_version f_count f_at f_place f_number f_imports (nI (ph_nf B)) f_waiting f_fault f_frames f_box f_pc f_status f_result f_memory a_child a_verdict a_ruleNode a_before a_nodesBefore a_bytes a_path a_pathAt a_params a_locals a_from a_size a_high a_loaded a_emitted a_entry a_pParams a_pFunctions a_pImports a_pPath a_judged a_fine a_newAt a_plugin a_quota a_statics a_slot a_back a_entries) :
    ∀ d f, f + d = ph_nf B → C = ph_th (ph_sq (ph_jjr B) d f) R → (∀ g, g < f → ph_JO (ph_sz B g) (ph_cdo B g)) → wX_submit_43 post (d + 1) 0 (nI f) f_nodes f_rules f_version f_count f_at f_place f_number f_imports (nI (ph_nf B)) f_waiting f_fault f_frames f_box f_pc f_status f_result f_memory a_child a_verdict a_ruleNode a_before a_nodesBefore a_bytes a_path a_pathAt a_params a_locals a_from a_size a_high a_loaded a_emitted a_entry a_pParams a_pFunctions a_pImports a_pPath a_judged a_fine a_newAt a_plugin a_quota a_statics a_slot a_back a_entries := by
  have hn4 := hW.2.2.2.2.1
  intro d
  induction d with
  | zero =>
    intro f hf E q
    rw [wX_submit_43]
    exact br_t (nI_le (by omega) (by omega)) (kg E fun g hg => q g (by omega))
  | succ d ih =>
    intro f hf E q
    have hf' : f < ph_nf B := by omega
    simp only [ph_sq] at E
    rw [wX_submit_43]
    refine br_f (nI_ge (by omega) (by omega)) (br_t rfl ?_)
    refine ph_xcheckJumps hW hB hF hf' (hC f hf') (fun z => nm_r (nI_1 f) (ih (f + 1) (by omega) ?_ fun g hg => ?_)) (fun pl z => nm_e (ph_xs43b (by decide) ?_))
    · rw [ph_th_0 z] at E; exact E
    · by_cases y : g = f
      · subst y; exact ph_JO_of (ph_szb hW hf').2 z
      · exact q g (by omega)
    · refine kb 5 _ ?_ (by decide)
      rw [E, ph_th_c (ph_th_c z (by decide)) (by decide)]
theorem ph_xs17 {post : Int32 → SX → Prop} {C R : Nat × Nat} (hW : ph_WF B L) (hB : ph_BX B a_bytes) (hF : ph_FA B (ph_nf B) a_params a_locals a_from a_size)
    (kb : ∀ c pl, C = (c, pl) → c ≠ 0 → post (nI c) (f_nodes, f_rules, f_version, f_count, f_at, nI pl, f_number, nI (B 1), nI (ph_nf B), f_waiting, f_fault, f_frames, f_box, f_pc, f_status, f_result, f_memory, a_child, a_verdict, a_ruleNode, a_before, a_nodesBefore, a_bytes, a_path, a_pathAt, a_params, a_locals, a_from, a_size, a_high, a_loaded, a_emitted, a_entry, a_pParams, a_pFunctions, a_pImports, a_pPath, a_judged, a_fine, a_newAt, a_plugin, a_quota, a_statics, a_slot, a_back, a_entries))
    (kg : C = R → (∀ f, f < ph_nf B → ph_CO (ph_nf B) (B 1) (B (ph_hd B f) + B (ph_hd B f + 1)) (ph_sz B f) (ph_cdo B f)) → ∃ n43 : Nat, wX_submit_43 post n43 0 0 f_nodes f_rules f_version f_count f_at f_place f_number (nI (B 1)) (nI (ph_nf B)) f_waiting f_fault f_frames f_box f_pc f_status f_result f_memory a_child a_verdict a_ruleNode a_before a_nodesBefore a_bytes a_path a_pathAt a_params a_locals a_from a_size a_high a_loaded a_emitted a_entry a_pParams a_pFunctions a_pImports a_pPath a_judged a_fine a_newAt a_plugin a_quota a_statics a_slot a_back a_entries) :
    ∀ d f, f + d = ph_nf B → C = ph_th (ph_sq (ph_ccr B) d f) R → (∀ g, g < f → ph_CO (ph_nf B) (B 1) (B (ph_hd B g) + B (ph_hd B g + 1)) (ph_sz B g) (ph_cdo B g)) →
      wX_submit_17 post (d + 1) 0 (nI f) f_nodes f_rules f_version f_count f_at f_place f_number (nI (B 1)) (nI (ph_nf B)) f_waiting f_fault f_frames f_box f_pc f_status f_result f_memory a_child a_verdict a_ruleNode a_before a_nodesBefore a_bytes a_path a_pathAt a_params a_locals a_from a_size a_high a_loaded a_emitted a_entry a_pParams a_pFunctions a_pImports a_pPath a_judged a_fine a_newAt a_plugin a_quota a_statics a_slot a_back a_entries := by
  have hn4 := hW.2.2.2.2.1
  intro d
  induction d with
  | zero =>
    intro f hf E q
    rw [wX_submit_17]
    exact br_t (nI_le (by omega) (by omega)) (kg E fun g hg => q g (by omega))
  | succ d ih =>
    intro f hf E q
    have hf' : f < ph_nf B := by omega
    simp only [ph_sq] at E
    rw [wX_submit_17]
    refine br_f (nI_ge (by omega) (by omega)) (br_t rfl ?_)
    refine ph_xcheckCode hW hB hF hf' (fun z => nm_r (nI_1 f) (ih (f + 1) (by omega) ?_ fun g hg => ?_)) (fun pl z => nm_e (ph_xs17b (by decide) ?_))
    · rw [ph_th_0 z] at E; exact E
    · by_cases y : g = f
      · subst y; exact ph_CO_of (ph_szb hW hf').2 z
      · exact q g (by omega)
    · refine kb 4 _ ?_ (by decide)
      rw [E, ph_th_c (ph_th_c z (by decide)) (by decide)]
theorem ph_xsubmit {post : Int32 → SX → Prop} {rc ra nm Nr : Nat → Nat} {nr : Nat} (hL : L ≤ 120) (hB : ph_BX B a_bytes) (hT : ph_TR nr rc ra nm Nr a_child a_verdict a_ruleNode a_before a_nodesBefore) (hl : ∀ p, p < 3 → a_loaded p = 0 ∨ a_loaded p = 1)
    (kb : ∀ c pl at' im fu W fa pt pta pa lo fr sz hi, ph_chk B L rc ra nr = (c, pl) → c ≠ 0 →
      post (nI c) (f_nodes, f_rules, f_version, nI L, at', nI pl, -1, im, fu, W, fa, f_frames, f_box, f_pc, f_status, f_result, f_memory, a_child, a_verdict, a_ruleNode, a_before, a_nodesBefore, a_bytes, pt, pta, pa, lo, fr, sz, hi, a_loaded, a_emitted, a_entry, a_pParams, a_pFunctions, a_pImports, a_pPath, a_judged, a_fine, a_newAt, a_plugin, a_quota, a_statics, a_slot, a_back, a_entries))
    (kn : ∀ at' im fu W fa pt pta pa lo fr sz hi, ph_chk B L rc ra nr = (0, 0) → ph_fp a_loaded = 3 →
      post 8 (f_nodes, f_rules, f_version, nI L, at', -1, -1, im, fu, W, fa, f_frames, f_box, f_pc, f_status, f_result, f_memory, a_child, a_verdict, a_ruleNode, a_before, a_nodesBefore, a_bytes, pt, pta, pa, lo, fr, sz, hi, a_loaded, a_emitted, a_entry, a_pParams, a_pFunctions, a_pImports, a_pPath, a_judged, a_fine, a_newAt, a_plugin, a_quota, a_statics, a_slot, a_back, a_entries))
    (kg : ∀ p at' im fu W fa pt pta pa lo fr sz hi em na en pp pp2, p < 3 → ph_chk B L rc ra nr = (0, 0) → ph_fp a_loaded = p → ph_OK B L → (∀ i, i < B 1 → ph_al rc ra nr (ph_pth B i) = 1) →
      (∀ g, g < ph_nf B → ph_PF B p g (320 * p + 320) em en pp) → (∀ k, (k < 320 * p ∨ 320 * p + 320 ≤ k) → em k = a_emitted k) → (∀ k, (k < 4 * p ∨ 4 * p + 4 ≤ k) → en k = a_entry k ∧ pp k = a_pParams k) →
      (∀ i, i < B 1 → pp2 (4 * p + i) = nI (ph_pth B i)) → (∀ k, (k < 4 * p ∨ 4 * p + 4 ≤ k) → pp2 k = a_pPath k) →
      post 0 (f_nodes, f_rules, f_version, 0, at', -1, nI p, im, fu, W, fa, f_frames, f_box, f_pc, f_status, f_result, f_memory, a_child, a_verdict, a_ruleNode, a_before, a_nodesBefore, a_bytes, pt, pta, pa, lo, fr, sz, hi, upd a_loaded p 1, em, en, pp, upd a_pFunctions p (nI (ph_nf B)), upd a_pImports p (nI (B 1)), pp2, upd a_judged p f_version, upd a_fine p 1, na, a_plugin, a_quota, a_statics, a_slot, a_back, a_entries)) :
    wpX_submit post (f_nodes, f_rules, f_version, nI L, f_at, f_place, f_number, f_imports, f_functions, f_waiting, f_fault, f_frames, f_box, f_pc, f_status, f_result, f_memory, a_child, a_verdict, a_ruleNode, a_before, a_nodesBefore, a_bytes, a_path, a_pathAt, a_params, a_locals, a_from, a_size, a_high, a_loaded, a_emitted, a_entry, a_pParams, a_pFunctions, a_pImports, a_pPath, a_judged, a_fine, a_newAt, a_plugin, a_quota, a_statics, a_slot, a_back, a_entries) := by
  have E : ph_chk B L rc ra nr = ph_th (ph_fm B L) (ph_th (ph_sq (ph_ccr B) (ph_nf B) 0) (ph_th (ph_sq (ph_jjr B) (ph_nf B) 0) (ph_th (ph_sq (ph_flr B) (ph_nf B) 0) (ph_sq (ph_dnr B rc ra nr) (B 1) 0)))) := rfl
  unfold wpX_submit
  refine ph_xreadAll hL hB (fun c pl at' im fu pt pta pa lo fr sz e hc => ⟨1, ph_xs17b ?_ ?_⟩) (fun at' pt pta pa lo fr sz e hI hF => ⟨ph_nf B + 1, ?_⟩)
  · have : c < 4 := by
      have := ph_fm_le B L
      rw [e] at this
      exact Nat.lt_succ_of_le this
    exact fun z => hc ((nI_eq (b := 0) (by omega) (by omega)).mp z)
  · exact kb c pl _ _ _ _ _ _ _ _ _ _ _ _ (by rw [E, ph_th_c e hc]) hc
  rw [ph_th_0 e] at E
  have hW := ph_fm_wf hL e
  refine ph_xs17 hW hB hF (C := ph_chk B L rc ra nr) (fun c pl e hc => kb c pl _ _ _ _ _ _ _ _ _ _ _ _ e hc) (fun E2 hC => ⟨ph_nf B + 1, ?_⟩) (ph_nf B) 0 (by omega) E (fun g hg => by omega)
  refine ph_xs43 hW hB hF hC (C := ph_chk B L rc ra nr) (fun c pl e hc => kb c pl _ _ _ _ _ _ _ _ _ _ _ _ e hc) (fun E3 hJ => ⟨ph_nf B + 1, ?_⟩) (ph_nf B) 0 (by omega) E2 (fun g hg => by omega)
  have hO : ph_OK B L := ⟨hW, fun f hf => ⟨hC f hf, hJ f hf⟩⟩
  refine ph_xs69 hO hB hF (C := ph_chk B L rc ra nr) (fun c pl W fa hi e hc => kb c pl _ _ _ _ _ _ _ _ _ _ _ _ e hc) (fun W fa hi E4 hFO => ⟨B 1 + 1, ?_⟩) (ph_nf B) 0 f_waiting f_fault a_high (by omega) E3 (fun g hg => by omega)
  refine ph_xs110 hW hI hT (C := ph_chk B L rc ra nr) (fun c pl e hc => kb c pl _ _ _ _ _ _ _ _ _ _ _ _ e hc) (fun E5 => ?_) (B 1) 0 (by omega) E4
  have hal : ∀ i, i < B 1 → ph_al rc ra nr (ph_pth B i) = 1 := by
    intro i hi
    rw [E5] at E4
    have := ph_sq_all (fun i h => ?_) E4.symm i (by omega) (by omega)
    · unfold ph_dnr at this
      by_cases z : ph_al rc ra nr (ph_pth B i) = 1
      · exact z
      · rw [if_neg z] at this; simp at this
    · unfold ph_dnr at h ⊢
      by_cases z : ph_al rc ra nr (ph_pth B i) = 1
      · rw [if_pos z]
      · rw [if_neg z] at h; simp at h
  unfold wX_submit_154
  refine br_t rfl (ph_xs162 hl (fun z => kn _ _ _ _ _ _ _ _ _ _ _ _ E5 z) (fun p hp z => ?_))
  refine ph_xinstall hO hB hF hI hFO hp (fun W fa hi em na en pp pp2 r1 r2 r3 r4 r5 => ?_)
  exact kg p _ _ _ _ _ _ _ _ _ _ _ _ em na en pp pp2 hp E5 z hO hal r1 r2 r3 r4 r5
end
end
section
/-! ===== submit of the reference ===== -/
theorem ph_sq_c {g : Nat → Nat × Nat} {c pl : Nat} : ∀ {k d i : Nat}, k < d → (∀ j, j < k → g (i + j) = (0, 0)) → g (i + k) = (c, pl) → c ≠ 0 → ph_sq g d i = (c, pl)
  | k, 0, _, h, _, _, _ => by omega
  | 0, d + 1, i, _, _, e, hc => by simp only [ph_sq]; exact ph_th_c e hc
  | k + 1, d + 1, i, h, hz, e, hc => by
    simp only [ph_sq]
    rw [ph_th_0 (show g i = (0, 0) from hz 0 (by omega))]
    exact ph_sq_c (k := k) (by omega) (fun j hj => by rw [show i + 1 + j = i + (j + 1) by omega]; exact hz (j + 1) (by omega)) (by rw [show i + 1 + k = i + (k + 1) by omega]; exact e) hc
theorem ph_sq_ok {g : Nat → Nat × Nat} {d i : Nat} (h : ∀ j, j < d → g (i + j) = (0, 0)) : ph_sq g d i = (0, 0) := by
  have := ph_sq_skip (g := g) (k := d) (d := 0) (i := i) h
  rw [Nat.zero_add] at this
  exact this
section
variable {g_rules g_place g_number g_pos g_finding g_active g_result : Int32} {g_memory : Int64} {b_ruleParts b_rulePath b_ruleAllows b_bytes b_length b_present b_ways b_boxPlugin b_boxQuota b_boxOpen b_statics b_aFn b_aPos b_aHigh b_aLocal b_aEntry : Nat → Int32}
variable {B : Nat → Nat} {L : Nat}
theorem ph_ydenied {post : Int32 → Prop} {rc ra : Nat → Nat} {nr p : Nat} (hp : p < 4) (hB : ph_BY B L p b_bytes) (hW : ph_WF B L) (hT : ph_YP nr rc ra b_ruleParts b_rulePath b_ruleAllows)
    (k1 : (∀ i, i < B 1 → ph_al rc ra nr (ph_pth B i) = 1) → post (-1)) (k0 : ∀ i, i < B 1 → (∀ j, j < i → ph_al rc ra nr (ph_pth B j) = 1) → ph_al rc ra nr (ph_pth B i) = 0 → post (nI i)) :
    wpY_denied post (nI nr, g_place, g_number, g_pos, g_finding, g_active, g_result, g_memory, b_ruleParts, b_rulePath, b_ruleAllows, b_bytes, b_length, b_present, b_ways, b_boxPlugin, b_boxQuota, b_boxOpen, b_statics, b_aFn, b_aPos, b_aHigh, b_aLocal, b_aEntry) (nI p) := by
  have hWL := ph_WF_L hW
  have h14 := hW.2.1
  have h16 : ∀ d i, i + d = B 1 → (∀ j, j < i → ph_al rc ra nr (ph_pth B j) = 1) → wY_denied_16 post (nI (B 1)) (nI (120 * p + 2)) (nI nr) g_place g_number g_pos g_finding g_active g_result g_memory b_ruleParts b_rulePath b_ruleAllows b_bytes b_length b_present b_ways b_boxPlugin b_boxQuota b_boxOpen b_statics b_aFn b_aPos b_aHigh b_aLocal b_aEntry (d + 1) (nI i) := by
    intro d
    induction d with
    | zero =>
      intro i hi q
      rw [wY_denied_16]
      exact br_t (nI_le (by omega) (by omega)) (k1 fun j hj => q j (by omega))
    | succ d ih =>
      intro i hi q
      have b0 := hW.2.2.1 (3 * i) (by omega)
      have b1 := hW.2.2.1 (3 * i + 1) (by omega)
      have b2 := hW.2.2.1 (3 * i + 2) (by omega)
      rw [wY_denied_16]
      dsimp only
      rw [ph_r3, nI_add, nI_1, ph_p2, nI_clamp (by omega), nI_clamp (by omega), nI_clamp (by omega)]
      rw [show 120 * p + 2 + 3 * i + 1 = 120 * p + (2 + (3 * i + 1)) by omega, show 120 * p + 2 + 3 * i + 2 = 120 * p + (2 + (3 * i + 2)) by omega, show 120 * p + 2 + 3 * i = 120 * p + (2 + 3 * i) by omega]
      rw [(hB (2 + 3 * i) (by omega)).1, (hB (2 + (3 * i + 1)) (by omega)).1, (hB (2 + (3 * i + 2)) (by omega)).1]
      refine br_f (nI_ge (by omega) (by omega)) ⟨vp_in_nI (by omega) (by omega), vp_in_nI (by omega) (by omega), vp_in_nI (by omega) (by omega), ?_⟩
      refine ph_yallows hT (by omega) (by omega) (by omega) ?_
      rw [show 64 * B (2 + 3 * i) + 8 * B (2 + (3 * i + 1)) + B (2 + (3 * i + 2)) = ph_pth B i by unfold ph_pth; rw [show 2 + (3 * i + 1) = 3 + 3 * i by omega, show 2 + (3 * i + 2) = 4 + 3 * i by omega]]
      have hle := ph_al_le rc ra nr (ph_pth B i)
      refine pk_eq (ph_al rc ra nr (ph_pth B i)) 0 (fun z => k0 i (by omega) q z) (fun z => nm_r (nI_1 i) (ih (i + 1) (by omega) fun j hj => ?_))
      by_cases y : j = i
      · subst y; omega
      · exact q j (by omega)
  unfold wpY_denied
  refine ph_yimports hp hB (by omega) (nm_r (e' := nI (120 * p + 2)) (by rw [ph_120, ph_p2]) ⟨B 1 + 1, h16 (B 1) 0 (by omega) (fun j hj => by omega)⟩)
theorem ph_yc63 {post : Int32 → SY → Prop} {rc ra : Nat → Nat} {nr : Nat} {C : Nat × Nat} (hO : ph_OK B L) (hB : ph_BY B L 3 b_bytes) (hT : ph_YP nr rc ra b_ruleParts b_rulePath b_ruleAllows)
    (kb : ∀ c pl w, C = (c, pl) → c ≠ 0 → post 0 (nI nr, nI pl, g_number, g_pos, nI c, g_active, g_result, g_memory, b_ruleParts, b_rulePath, b_ruleAllows, b_bytes, b_length, b_present, w, b_boxPlugin, b_boxQuota, b_boxOpen, b_statics, b_aFn, b_aPos, b_aHigh, b_aLocal, b_aEntry)) (kg : ∀ w, C = (0, 0) → post 1 (nI nr, g_place, g_number, g_pos, g_finding, g_active, g_result, g_memory, b_ruleParts, b_rulePath, b_ruleAllows, b_bytes, b_length, b_present, w, b_boxPlugin, b_boxQuota, b_boxOpen, b_statics, b_aFn, b_aPos, b_aHigh, b_aLocal, b_aEntry)) :
    ∀ d f w, f + d = ph_nf B → C = ph_th (ph_sq (ph_flr B) d f) (ph_sq (ph_dnr B rc ra nr) (B 1) 0) → wY_checked_63 post (nI (ph_nf B)) (d + 1) (nI f) (nI nr) g_place g_number g_pos g_finding g_active g_result g_memory b_ruleParts b_rulePath b_ruleAllows b_bytes b_length b_present w b_boxPlugin b_boxQuota b_boxOpen b_statics b_aFn b_aPos b_aHigh b_aLocal b_aEntry := by
  have hW := hO.1
  have hn4 := hW.2.2.2.2.1
  have h14 := hW.2.1
  intro d
  induction d with
  | zero =>
    intro f w hf E
    rw [wY_checked_63]
    refine br_t (nI_le (by omega) (by omega)) ?_
    refine ph_ydenied (p := 3) (by omega) hB hW hT (fun z => br_t (by decide) (kg _ ?_)) (fun i hi z1 z2 => br_f (nI_pos (by omega)) (br_t rfl ?_))
    · rw [E]
      exact ph_sq_ok fun j hj => if_pos (by rw [Nat.zero_add]; exact z j hj)
    · rw [ph_r3, show (2 : Int32) = nI 2 from rfl, nI_add]
      refine kb 7 _ _ ?_ (by decide)
      rw [E]
      exact ph_sq_c (k := i) hi (fun j hj => if_pos (by rw [Nat.zero_add]; exact z1 j hj)) (by rw [Nat.zero_add]; exact ph_dnr_ne z2) (by decide)
  | succ d ih =>
    intro f w hf E
    have hf' : f < ph_nf B := by omega
    obtain ⟨hC, hJ⟩ := hO.2 f hf'
    simp only [ph_sq] at E
    rw [wY_checked_63]
    refine br_f (nI_ge (by omega) (by omega)) ?_
    refine ph_yflows hB hW hf' hC hJ (fun w' z => br_f (by decide) (nm_r (nI_1 f) (ih (f + 1) w' (by omega) ?_))) (fun w' z => br_t rfl (kb 6 _ _ ?_ (by decide)))
    · rw [ph_th_0 (show ph_flr B f = (0, 0) from if_pos (ph_b_t z))] at E; exact E
    · have e1 : ph_flr B f = (6, ph_hd B f + 3) := if_neg (by rw [ph_b_f z]; decide)
      rw [E, ph_th_c (ph_th_c e1 (by decide)) (by decide)]
theorem ph_yc40 {post : Int32 → SY → Prop} {C R : Nat × Nat} (hW : ph_WF B L) (hB : ph_BY B L 3 b_bytes)
    (hC : ∀ f, f < ph_nf B → ph_CO (ph_nf B) (B 1) (B (ph_hd B f) + B (ph_hd B f + 1)) (ph_sz B f) (ph_cdo B f))
    (kb : ∀ c pl, C = (c, pl) → c ≠ 0 → post 0 (g_rules, nI pl, g_number, g_pos, nI c, g_active, g_result, g_memory, b_ruleParts, b_rulePath, b_ruleAllows, b_bytes, b_length, b_present, b_ways, b_boxPlugin, b_boxQuota, b_boxOpen, b_statics, b_aFn, b_aPos, b_aHigh, b_aLocal, b_aEntry)) (kg : C = R → (∀ g, g < ph_nf B → ph_JO (ph_sz B g) (ph_cdo B g)) → ∃ n63 : Nat, wY_checked_63 post (nI (ph_nf B)) n63 0 g_rules g_place g_number g_pos g_finding g_active g_result g_memory b_ruleParts b_rulePath b_ruleAllows b_bytes b_length b_present b_ways b_boxPlugin b_boxQuota b_boxOpen b_statics b_aFn b_aPos b_aHigh b_aLocal b_aEntry) :
    ∀ d f, f + d = ph_nf B → C = ph_th (ph_sq (ph_jjr B) d f) R → (∀ g, g < f → ph_JO (ph_sz B g) (ph_cdo B g)) → wY_checked_40 post (nI (ph_nf B)) (d + 1) (nI f) g_rules g_place g_number g_pos g_finding g_active g_result g_memory b_ruleParts b_rulePath b_ruleAllows b_bytes b_length b_present b_ways b_boxPlugin b_boxQuota b_boxOpen b_statics b_aFn b_aPos b_aHigh b_aLocal b_aEntry := by
  have hn4 := hW.2.2.2.2.1
  intro d
  induction d with
  | zero =>
    intro f hf E q
    rw [wY_checked_40]
    exact br_t (nI_le (by omega) (by omega)) (kg E fun g hg => q g (by omega))
  | succ d ih =>
    intro f hf E q
    have hf' : f < ph_nf B := by omega
    simp only [ph_sq] at E
    rw [wY_checked_40]
    refine br_f (nI_ge (by omega) (by omega)) ?_
    refine ph_yjumps hB hW hf' (hC f hf') (fun z => br_f (by decide) (nm_r (nI_1 f) (ih (f + 1) (by omega) ?_ fun g hg => ?_))) (fun pl z => br_t rfl (kb 5 _ ?_ (by decide)))
    · rw [ph_th_0 z] at E; exact E
    · by_cases y : g = f
      · subst y; exact ph_JO_of (ph_szb hW hf').2 z
      · exact q g (by omega)
    · rw [E, ph_th_c (ph_th_c z (by decide)) (by decide)]
theorem ph_yc17 {post : Int32 → SY → Prop} {C R : Nat × Nat} (hW : ph_WF B L) (hB : ph_BY B L 3 b_bytes)
    (kb : ∀ c pl, C = (c, pl) → c ≠ 0 → post 0 (g_rules, nI pl, g_number, g_pos, nI c, g_active, g_result, g_memory, b_ruleParts, b_rulePath, b_ruleAllows, b_bytes, b_length, b_present, b_ways, b_boxPlugin, b_boxQuota, b_boxOpen, b_statics, b_aFn, b_aPos, b_aHigh, b_aLocal, b_aEntry))
    (kg : C = R → (∀ f, f < ph_nf B → ph_CO (ph_nf B) (B 1) (B (ph_hd B f) + B (ph_hd B f + 1)) (ph_sz B f) (ph_cdo B f)) → ∃ n40 : Nat, wY_checked_40 post (nI (ph_nf B)) n40 0 g_rules g_place g_number g_pos g_finding g_active g_result g_memory b_ruleParts b_rulePath b_ruleAllows b_bytes b_length b_present b_ways b_boxPlugin b_boxQuota b_boxOpen b_statics b_aFn b_aPos b_aHigh b_aLocal b_aEntry) :
    ∀ d f, f + d = ph_nf B → C = ph_th (ph_sq (ph_ccr B) d f) R → (∀ g, g < f → ph_CO (ph_nf B) (B 1) (B (ph_hd B g) + B (ph_hd B g + 1)) (ph_sz B g) (ph_cdo B g)) → wY_checked_17 post (nI (ph_nf B)) (d + 1) (nI f) g_rules g_place g_number g_pos g_finding g_active g_result g_memory b_ruleParts b_rulePath b_ruleAllows b_bytes b_length b_present b_ways b_boxPlugin b_boxQuota b_boxOpen b_statics b_aFn b_aPos b_aHigh b_aLocal b_aEntry := by
  have hn4 := hW.2.2.2.2.1
  intro d
  induction d with
  | zero =>
    intro f hf E q
    rw [wY_checked_17]
    exact br_t (nI_le (by omega) (by omega)) (kg E fun g hg => q g (by omega))
  | succ d ih =>
    intro f hf E q
    have hf' : f < ph_nf B := by omega
    simp only [ph_sq] at E
    rw [wY_checked_17]
    refine br_f (nI_ge (by omega) (by omega)) ?_
    refine ph_ycodes hB hW hf' (fun z => br_f (by decide) (nm_r (nI_1 f) (ih (f + 1) (by omega) ?_ fun g hg => ?_))) (fun pl z => br_t rfl (kb 4 _ ?_ (by decide)))
    · rw [ph_th_0 z] at E; exact E
    · by_cases y : g = f
      · subst y; exact ph_CO_of (ph_szb hW hf').2 z
      · exact q g (by omega)
    · rw [E, ph_th_c (ph_th_c z (by decide)) (by decide)]
theorem ph_ychecked {post : Int32 → SY → Prop} {rc ra : Nat → Nat} {nr : Nat} (hL : L ≤ 120) (hlen : b_length 3 = nI L) (hB : ph_BY B L 3 b_bytes) (hT : ph_YP nr rc ra b_ruleParts b_rulePath b_ruleAllows)
    (kb : ∀ c pl po w, ph_chk B L rc ra nr = (c, pl) → c ≠ 0 → post 0 (nI nr, nI pl, g_number, po, nI c, g_active, g_result, g_memory, b_ruleParts, b_rulePath, b_ruleAllows, b_bytes, b_length, b_present, w, b_boxPlugin, b_boxQuota, b_boxOpen, b_statics, b_aFn, b_aPos, b_aHigh, b_aLocal, b_aEntry))
    (kg : ∀ po w, ph_chk B L rc ra nr = (0, 0) → post 1 (nI nr, g_place, g_number, po, g_finding, g_active, g_result, g_memory, b_ruleParts, b_rulePath, b_ruleAllows, b_bytes, b_length, b_present, w, b_boxPlugin, b_boxQuota, b_boxOpen, b_statics, b_aFn, b_aPos, b_aHigh, b_aLocal, b_aEntry)) : wpY_checked post (nI nr, g_place, g_number, g_pos, g_finding, g_active, g_result, g_memory, b_ruleParts, b_rulePath, b_ruleAllows, b_bytes, b_length, b_present, b_ways, b_boxPlugin, b_boxQuota, b_boxOpen, b_statics, b_aFn, b_aPos, b_aHigh, b_aLocal, b_aEntry) := by
  have E : ph_chk B L rc ra nr = ph_th (ph_fm B L) (ph_th (ph_sq (ph_ccr B) (ph_nf B) 0) (ph_th (ph_sq (ph_jjr B) (ph_nf B) 0) (ph_th (ph_sq (ph_flr B) (ph_nf B) 0) (ph_sq (ph_dnr B rc ra nr) (B 1) 0)))) := rfl
  unfold wpY_checked
  refine ph_yformat hL hlen hB (fun c pl po e hc => br_t rfl (kb c pl _ _ (by rw [E, ph_th_c e hc]) hc)) (fun po e => br_f (by decide) ?_)
  rw [ph_th_0 e] at E
  have hW := ph_fm_wf hL e
  have hWL := ph_WF_L hW
  refine ph_yfunctions (p := 3) (by omega) hB hW.2.1 (by omega) hL ⟨ph_nf B + 1, ?_⟩
  refine ph_yc17 hW hB (C := ph_chk B L rc ra nr) (fun c pl e hc => kb c pl _ _ e hc) (fun E2 hC => ⟨ph_nf B + 1, ?_⟩) (ph_nf B) 0 (by omega) E (fun g hg => by omega)
  refine ph_yc40 hW hB hC (C := ph_chk B L rc ra nr) (fun c pl e hc => kb c pl _ _ e hc) (fun E3 hJ => ⟨ph_nf B + 1, ?_⟩) (ph_nf B) 0 (by omega) E2 (fun g hg => by omega)
  exact ph_yc63 ⟨hW, fun f hf => ⟨hC f hf, hJ f hf⟩⟩ hB hT (C := ph_chk B L rc ra nr) (fun c pl w e hc => kb c pl _ w e hc) (fun w e => kg _ w e) (ph_nf B) 0 b_ways (by omega) E3
theorem ph_ys54 {post : Int32 → SY → Prop} {p : Nat} (hL : L ≤ 120) (hlen : b_length 3 = nI L) (hB : ph_BY B L 3 b_bytes) (hp : p < 3)
    (K : ∀ by', (∀ j, j < L → by' (120 * p + j) = nI (B j)) → (∀ k, (k < 120 * p ∨ 120 * p + 120 ≤ k) → by' k = b_bytes k) → post 0 (g_rules, g_place, nI p, g_pos, g_finding, g_active, g_result, g_memory, b_ruleParts, b_rulePath, b_ruleAllows, by', upd b_length 3 0, upd b_present p 1, b_ways, b_boxPlugin, b_boxQuota, b_boxOpen, b_statics, b_aFn, b_aPos, b_aHigh, b_aLocal, b_aEntry)) :
    ∀ d i by', i + d = L → (∀ j, j < i → by' (120 * p + j) = nI (B j)) → (∀ k, (k < 120 * p ∨ 120 * p + 120 ≤ k) → by' k = b_bytes k) → wY_submit_54 post (nI p) g_rules g_place g_number g_pos g_finding g_active g_result g_memory (d + 1) (nI i) b_ruleParts b_rulePath b_ruleAllows by' b_length b_present b_ways b_boxPlugin b_boxQuota b_boxOpen b_statics b_aFn b_aPos b_aHigh b_aLocal b_aEntry := by
  intro d
  induction d with
  | zero =>
    intro i by' hi q1 q2
    rw [wY_submit_54]
    dsimp only
    rw [hlen, nI_clamp (by omega)]
    exact br_t (nI_le (by omega) (by omega)) ⟨vp_in_nI (by omega) (by omega), nm_r (e' := upd b_present p 1) (by rw [ph_bo1]) (nm_e (K by' (fun j hj => q1 j (by omega)) q2))⟩
  | succ d ih =>
    intro i by' hi q1 q2
    rw [wY_submit_54]
    dsimp only
    rw [hlen, ph_120, nI_add, ph_360, nI_clamp (by omega), nI_clamp (by omega)]
    refine br_f (nI_ge (by omega) (by omega)) ⟨vp_in_nI (by omega) (by omega), vp_in_nI (by omega) (by omega), nm_r (e' := upd by' (120 * p + i) (nI (B i))) ?_ (nm_r (nI_1 i) (ih (i + 1) _ (by omega) (fun j hj => ?_) (fun k hk => by rw [pk_un (by omega)]; exact q2 k hk)))⟩
    · rw [nI_clamp (by omega : 360 + i < 2 ^ 31), q2 (360 + i) (by omega), show 360 + i = 120 * 3 + i by omega, (hB i (by omega)).1]
    · by_cases y : j = i
      · subst y; exact pk_us
      · rw [pk_un (by omega)]; exact q1 j (by omega)
theorem ph_ysubmit {post : Int32 → SY → Prop} {rc ra : Nat → Nat} {nr : Nat} (hL : L ≤ 120) (hlen : b_length 3 = nI L) (hB : ph_BY B L 3 b_bytes) (hT : ph_YP nr rc ra b_ruleParts b_rulePath b_ruleAllows)
    (kb : ∀ c pl po w, ph_chk B L rc ra nr = (c, pl) → c ≠ 0 → post (nI c) (nI nr, nI pl, -1, po, nI c, g_active, g_result, g_memory, b_ruleParts, b_rulePath, b_ruleAllows, b_bytes, b_length, b_present, w, b_boxPlugin, b_boxQuota, b_boxOpen, b_statics, b_aFn, b_aPos, b_aHigh, b_aLocal, b_aEntry))
    (kn : ∀ po w, ph_chk B L rc ra nr = (0, 0) → ph_fp b_present = 3 → post 8 (nI nr, -1, -1, po, g_finding, g_active, g_result, g_memory, b_ruleParts, b_rulePath, b_ruleAllows, b_bytes, b_length, b_present, w, b_boxPlugin, b_boxQuota, b_boxOpen, b_statics, b_aFn, b_aPos, b_aHigh, b_aLocal, b_aEntry))
    (kg : ∀ p po w by', p < 3 → ph_chk B L rc ra nr = (0, 0) → ph_fp b_present = p → (∀ j, j < L → by' (120 * p + j) = nI (B j)) → (∀ k, (k < 120 * p ∨ 120 * p + 120 ≤ k) → by' k = b_bytes k) →
      post 0 (nI nr, -1, nI p, po, g_finding, g_active, g_result, g_memory, b_ruleParts, b_rulePath, b_ruleAllows, by', upd b_length 3 0, upd b_present p 1, w, b_boxPlugin, b_boxQuota, b_boxOpen, b_statics, b_aFn, b_aPos, b_aHigh, b_aLocal, b_aEntry)) : wpY_submit post (nI nr, g_place, g_number, g_pos, g_finding, g_active, g_result, g_memory, b_ruleParts, b_rulePath, b_ruleAllows, b_bytes, b_length, b_present, b_ways, b_boxPlugin, b_boxQuota, b_boxOpen, b_statics, b_aFn, b_aPos, b_aHigh, b_aLocal, b_aEntry) := by
  unfold wpY_submit
  refine ph_ychecked hL hlen hB hT (fun c pl po w e hc => br_t rfl (kb c pl po w e hc)) (fun po w e => br_f (by decide) ?_)
  have h44 : ∀ p, p < 3 → ph_fp b_present = p → wY_submit_44 post (nI p) (nI nr) (-1) (-1) po g_finding g_active g_result g_memory b_ruleParts b_rulePath b_ruleAllows b_bytes b_length b_present w b_boxPlugin b_boxQuota b_boxOpen b_statics b_aFn b_aPos b_aHigh b_aLocal b_aEntry := by
    intro p hp ep
    unfold wY_submit_44
    refine br_f (fun z => ?_) ⟨L + 1, ph_ys54 hL hlen hB hp (fun by' r1 r2 => kg p po w by' hp e ep r1 r2) L 0 b_bytes (by omega) (fun j hj => by omega) (fun _ _ => rfl)⟩
    have := (nI_eq (a := p) (b := 3) (by omega) (by omega)).mp z
    omega
  have c : ∀ p, p < 3 → ¬ (3 : Int32) ≤ nI p := fun p hp => nI_ge (a := p) (b := 3) hp (by omega)
  refine ⟨4, ?_⟩
  rw [wY_submit_24]
  refine br_f (c 0 (by omega)) ⟨vp_in_nI (n := 0) (by omega) (by omega), br_c (fun z => h44 0 (by omega) (by unfold ph_fp; rw [if_pos (show b_present 0 = 0 from z)])) (fun z => nm_r (nI_1 0) ?_)⟩
  rw [wY_submit_24]
  refine br_f (c 1 (by omega)) ⟨vp_in_nI (n := 1) (by omega) (by omega), br_c (fun y => h44 1 (by omega) (by unfold ph_fp; rw [if_neg (show ¬ b_present 0 = 0 from z), if_pos (show b_present 1 = 0 from y)])) (fun y => nm_r (nI_1 1) ?_)⟩
  rw [wY_submit_24]
  refine br_f (c 2 (by omega)) ⟨vp_in_nI (n := 2) (by omega) (by omega), br_c (fun x => h44 2 (by omega) (by unfold ph_fp; rw [if_neg (show ¬ b_present 0 = 0 from z), if_neg (show ¬ b_present 1 = 0 from y), if_pos (show b_present 2 = 0 from x)])) (fun x => nm_r (nI_1 2) ?_)⟩
  rw [wY_submit_24]
  refine br_t (by decide) ?_
  unfold wY_submit_44
  exact br_t rfl (kn po w e (by unfold ph_fp; rw [if_neg (show ¬ b_present 0 = 0 from z), if_neg (show ¬ b_present 1 = 0 from y), if_neg (show ¬ b_present 2 = 0 from x)]))
end
end
section
/-! ===== the reference's blocks: leads and cost ===== -/
section
variable {g_rules g_place g_number g_pos g_finding g_active g_result : Int32} {g_memory : Int64} {b_ruleParts b_rulePath b_ruleAllows b_bytes b_length b_present b_ways b_boxPlugin b_boxQuota b_boxOpen b_statics b_aFn b_aPos b_aHigh b_aLocal b_aEntry : Nat → Int32}
variable {B : Nat → Nat} {L : Nat}
theorem ph_yleads {post : Int32 → Prop} {p f i : Nat} (hp : p < 4) (hB : ph_BY B L p b_bytes) (hW : ph_WF B L) (hf : f < ph_nf B)
    (hC : ph_CO (ph_nf B) (B 1) (B (ph_hd B f) + B (ph_hd B f + 1)) (ph_sz B f) (ph_cdo B f)) (hi : i ≤ ph_sz B f)
    (k1 : ph_ld (ph_sz B f) (ph_cdo B f) i → post 1) (k0 : ¬ ph_ld (ph_sz B f) (ph_cdo B f) i → post 0) :
    wpY_leads post (g_rules, g_place, g_number, g_pos, g_finding, g_active, g_result, g_memory, b_ruleParts, b_rulePath, b_ruleAllows, b_bytes, b_length, b_present, b_ways, b_boxPlugin, b_boxQuota, b_boxOpen, b_statics, b_aFn, b_aPos, b_aHigh, b_aLocal, b_aEntry) (nI p) (nI f) (nI (120 * p + ph_hd B f + 3 + i)) := by
  have hs := ph_szb hW hf
  have hb := ph_hd_b hW hf
  have hsz : B (ph_hd B f + 2) = ph_sz B f := rfl
  rw [hsz] at hb
  have h28 : i ≠ 0 → ∀ d j, ph_St (ph_cdo B f) j → j ≤ ph_sz B f → ph_sz B f ≤ j + d → (∀ j', ph_St (ph_cdo B f) j' → j' < ph_sz B f → j' < j → ¬ ph_lc (ph_cdo B f) j' i) →
      wY_leads_28 post (nI (120 * p + ph_hd B f + 3 + i)) (nI (120 * p + ph_hd B f + 3 + ph_sz B f)) g_rules g_place g_number g_pos g_finding g_active g_result g_memory b_ruleParts b_rulePath b_ruleAllows b_bytes b_length b_present b_ways b_boxPlugin b_boxQuota b_boxOpen b_statics b_aFn b_aPos b_aHigh b_aLocal b_aEntry (d + 1) (nI (120 * p + ph_hd B f + 3 + j)) := by
    intro hi0
    have fin : ∀ j, j = ph_sz B f → (∀ j', ph_St (ph_cdo B f) j' → j' < ph_sz B f → j' < j → ¬ ph_lc (ph_cdo B f) j' i) → post 0 := by
      intro j ej q
      refine k0 ?_
      rintro (z | ⟨j', a, b, c⟩)
      · exact hi0 z
      · exact q j' a b (by omega) c
    intro d
    induction d with
    | zero =>
      intro j hst h1 h2 q
      rw [wY_leads_28]
      exact br_t (nI_le (by omega) (by omega)) (fin j (by omega) q)
    | succ d ih =>
      intro j hst h1 h2 q
      rw [wY_leads_28]
      refine pk_le (120 * p + ph_hd B f + 3 + ph_sz B f) (120 * p + ph_hd B f + 3 + j) (fun z => fin j (by omega) q) (fun z => ?_)
      have hj : j < ph_sz B f := by omega
      obtain ⟨ey, hc⟩ := ph_yb (p := p) (i := j) hB hW hf hj
      obtain ⟨g1, g2, g3⟩ := ph_isbad_f (hC j hst hj)
      have hwd := ph_wd_b (ph_cdo B f j)
      have yes : ph_lc (ph_cdo B f) j i → post 1 := fun y => k1 (Or.inr ⟨j, hst, hj, y⟩)
      have h109 : ¬ ph_lc (ph_cdo B f) j i → wY_leads_109 post (wY_leads_28 post (nI (120 * p + ph_hd B f + 3 + i)) (nI (120 * p + ph_hd B f + 3 + ph_sz B f)) g_rules g_place g_number g_pos g_finding g_active g_result g_memory b_ruleParts b_rulePath b_ruleAllows b_bytes b_length b_present b_ways b_boxPlugin b_boxQuota b_boxOpen b_statics b_aFn b_aPos b_aHigh b_aLocal b_aEntry (d + 1)) (nI (120 * p + ph_hd B f + 3 + i)) (nI (120 * p + ph_hd B f + 3 + ph_sz B f)) (nI (120 * p + ph_hd B f + 3 + j)) g_rules g_place g_number g_pos g_finding g_active g_result g_memory b_ruleParts b_rulePath b_ruleAllows b_bytes b_length b_present b_ways b_boxPlugin b_boxQuota b_boxOpen b_statics b_aFn b_aPos b_aHigh b_aLocal b_aEntry := by
        intro y
        have J := ih (j + ph_wd (ph_cdo B f j)) (ph_St_s hst) (by omega) (by omega) (fun j' a b c => by
          rcases ph_St_lt hst a c with w | w
          · exact q j' a b w
          · subst w; exact y)
        unfold wY_leads_109
        rw [nI_clamp (by omega), ey]
        refine ⟨vp_in_nI (by omega) (by omega), ph_ywide hc (fun w => br_t rfl (nm_r (nI_1 _) ?_)) (fun w => br_f (by decide) (nm_r (ph_p2 _) ?_))⟩
        · rw [w] at J; exact J
        · rw [w] at J; exact J
      have h92 : ¬ (ph_isj (ph_cdo B f j) = true ∧ ph_tg (ph_cdo B f) j = (i : Int)) → ¬ (10 ≤ ph_cdo B f j ∧ ph_cdo B f j ≤ 13 ∧ j + 2 = i) → wY_leads_92 post (wY_leads_28 post (nI (120 * p + ph_hd B f + 3 + i)) (nI (120 * p + ph_hd B f + 3 + ph_sz B f)) g_rules g_place g_number g_pos g_finding g_active g_result g_memory b_ruleParts b_rulePath b_ruleAllows b_bytes b_length b_present b_ways b_boxPlugin b_boxQuota b_boxOpen b_statics b_aFn b_aPos b_aHigh b_aLocal b_aEntry (d + 1)) (nI (120 * p + ph_hd B f + 3 + i)) (nI (120 * p + ph_hd B f + 3 + ph_sz B f)) (nI (120 * p + ph_hd B f + 3 + j)) (nI (ph_cdo B f j)) g_rules g_place g_number g_pos g_finding g_active g_result g_memory b_ruleParts b_rulePath b_ruleAllows b_bytes b_length b_present b_ways b_boxPlugin b_boxQuota b_boxOpen b_statics b_aFn b_aPos b_aHigh b_aLocal b_aEntry := by
        intro y1 y2
        unfold wY_leads_92
        rw [nI_1]
        refine pk_eq (ph_cdo B f j) 16 (fun w => pk_eq (120 * p + ph_hd B f + 3 + j + 1) (120 * p + ph_hd B f + 3 + i) (fun w2 => yes (Or.inr (Or.inr ⟨w, by omega⟩))) (fun w2 => h109 ?_)) (fun w => h109 ?_)
        · rintro (c | c | ⟨c1, c2⟩)
          · exact y1 c
          · exact y2 c
          · omega
        · rintro (c | c | ⟨c1, c2⟩)
          · exact y1 c
          · exact y2 c
          · exact w c1
      have h70 : ¬ (ph_isj (ph_cdo B f j) = true ∧ ph_tg (ph_cdo B f) j = (i : Int)) → wY_leads_70 post (wY_leads_28 post (nI (120 * p + ph_hd B f + 3 + i)) (nI (120 * p + ph_hd B f + 3 + ph_sz B f)) g_rules g_place g_number g_pos g_finding g_active g_result g_memory b_ruleParts b_rulePath b_ruleAllows b_bytes b_length b_present b_ways b_boxPlugin b_boxQuota b_boxOpen b_statics b_aFn b_aPos b_aHigh b_aLocal b_aEntry (d + 1)) (nI (120 * p + ph_hd B f + 3 + i)) (nI (120 * p + ph_hd B f + 3 + ph_sz B f)) (nI (120 * p + ph_hd B f + 3 + j)) (nI (ph_cdo B f j)) g_rules g_place g_number g_pos g_finding g_active g_result g_memory b_ruleParts b_rulePath b_ruleAllows b_bytes b_length b_present b_ways b_boxPlugin b_boxQuota b_boxOpen b_statics b_aFn b_aPos b_aHigh b_aLocal b_aEntry := by
        intro y1
        unfold wY_leads_70
        rw [ph_p2]
        refine pk_lt (ph_cdo B f j) 10 (fun w => h92 y1 (by omega)) (fun w => pk_lt 13 (ph_cdo B f j) (fun w2 => h92 y1 (by omega)) (fun w2 => pk_eq (120 * p + ph_hd B f + 3 + j + 2) (120 * p + ph_hd B f + 3 + i) (fun w3 => yes (Or.inr (Or.inl ⟨w, w2, by omega⟩))) (fun w3 => h92 y1 (by omega))))
      have h58 : (ph_cdo B f j = 10 ∨ ph_cdo B f j = 11) → wY_leads_58 post (wY_leads_28 post (nI (120 * p + ph_hd B f + 3 + i)) (nI (120 * p + ph_hd B f + 3 + ph_sz B f)) g_rules g_place g_number g_pos g_finding g_active g_result g_memory b_ruleParts b_rulePath b_ruleAllows b_bytes b_length b_present b_ways b_boxPlugin b_boxQuota b_boxOpen b_statics b_aFn b_aPos b_aHigh b_aLocal b_aEntry (d + 1)) (nI (120 * p + ph_hd B f + 3 + i)) (nI (120 * p + ph_hd B f + 3 + ph_sz B f)) (nI (120 * p + ph_hd B f + 3 + j)) (nI (ph_cdo B f j)) g_rules g_place g_number g_pos g_finding g_active g_result g_memory b_ruleParts b_rulePath b_ruleAllows b_bytes b_length b_present b_ways b_boxPlugin b_boxQuota b_boxOpen b_statics b_aFn b_aPos b_aHigh b_aLocal b_aEntry := by
        intro y
        have hisj : ph_isj (ph_cdo B f j) = true := by unfold ph_isj; simp; exact y
        have hw2 := ph_isj_w hisj
        have h1' : j + 1 < ph_sz B f := by omega
        obtain ⟨ey', hcb⟩ := ph_yb (p := p) (i := j + 1) hB hW hf h1'
        have ht : (nI (120 * p + ph_hd B f + 3 + j + 2) + ph_sv (ph_cdo B f (j + 1))).toInt = ((120 * p + ph_hd B f + 3 : Nat) : Int) + ph_tg (ph_cdo B f) j := by
          rw [ph_add_sv (by omega) hcb]; unfold ph_tg; omega
        unfold wY_leads_58
        refine ph_ytarget hp hB hW hf h1' (br_c (fun w => yes (Or.inl ⟨hisj, ?_⟩)) (fun w => h70 ?_))
        · rw [w, nI_toInt (by omega)] at ht; omega
        · rintro ⟨-, c⟩
          exact w (ph_eqI (by omega) (by rw [ht, c]; omega))
      rw [nI_clamp (by omega)]
      refine ⟨vp_in_nI (by omega) (by omega), nm_r ey (pk_eq (ph_cdo B f j) 10 (fun w => h58 (Or.inl w)) (fun w => pk_eq (ph_cdo B f j) 11 (fun w2 => h58 (Or.inr w2)) (fun w2 => h70 ?_)))⟩
      rintro ⟨c, -⟩
      unfold ph_isj at c
      simp [w, w2] at c
  unfold wpY_leads
  refine ph_ycodeStart hp hB hW hf (ph_ycodeEnd hp hB hW hf ?_)
  refine pk_eq (120 * p + ph_hd B f + 3 + i) (120 * p + ph_hd B f + 3) (fun z => k1 (Or.inl (by omega))) (fun z => ⟨ph_sz B f + 1, ?_⟩)
  exact h28 (by omega) (ph_sz B f) 0 (ph_St_0 _) (by omega) (by omega) (fun j' _ _ h => by omega)
theorem ph_ycost {post : Int32 → Prop} {p f i : Nat} (hp : p < 4) (hB : ph_BY B L p b_bytes) (hW : ph_WF B L) (hf : f < ph_nf B)
    (hC : ph_CO (ph_nf B) (B 1) (B (ph_hd B f) + B (ph_hd B f + 1)) (ph_sz B f) (ph_cdo B f)) (hst : ph_St (ph_cdo B f) i) (hi : i < ph_sz B f)
    (k : post (nI (ph_cost (ph_sz B f) (ph_cdo B f) i))) : wpY_cost post (g_rules, g_place, g_number, g_pos, g_finding, g_active, g_result, g_memory, b_ruleParts, b_rulePath, b_ruleAllows, b_bytes, b_length, b_present, b_ways, b_boxPlugin, b_boxQuota, b_boxOpen, b_statics, b_aFn, b_aPos, b_aHigh, b_aLocal, b_aEntry) (nI p) (nI f) (nI (120 * p + ph_hd B f + 3 + i)) := by
  have hs := ph_szb hW hf
  have hb := ph_hd_b hW hf
  have hsz : B (ph_hd B f + 2) = ph_sz B f := rfl
  rw [hsz] at hb
  have h41 : ∀ (J : Int32 → Int32 → Prop) (j acc : Nat), ph_St (ph_cdo B f) j → j < ph_sz B f → J (nI (acc + (if ph_cdo B f j = 13 then 5 else 1))) (nI (120 * p + ph_hd B f + 3 + (j + ph_wd (ph_cdo B f j)))) →
      wY_cost_41 post J (nI p) (nI f) (nI (120 * p + ph_hd B f + 3 + i)) (nI (120 * p + ph_hd B f + 3 + ph_sz B f)) (nI acc) (nI (120 * p + ph_hd B f + 3 + j)) g_rules g_place g_number g_pos g_finding g_active g_result g_memory b_ruleParts b_rulePath b_ruleAllows b_bytes b_length b_present b_ways b_boxPlugin b_boxQuota b_boxOpen b_statics b_aFn b_aPos b_aHigh b_aLocal b_aEntry := by
    intro J j acc hsj hj KJ
    obtain ⟨ey, hc⟩ := ph_yb (p := p) (i := j) hB hW hf hj
    have h60 : ∀ z : Nat, z = (if ph_cdo B f j = 13 then 5 else 1) → wY_cost_60 post J (nI p) (nI f) (nI (120 * p + ph_hd B f + 3 + i)) (nI (120 * p + ph_hd B f + 3 + ph_sz B f)) (nI (120 * p + ph_hd B f + 3 + j)) (nI z) (nI acc) g_rules g_place g_number g_pos g_finding g_active g_result g_memory b_ruleParts b_rulePath b_ruleAllows b_bytes b_length b_present b_ways b_boxPlugin b_boxQuota b_boxOpen b_statics b_aFn b_aPos b_aHigh b_aLocal b_aEntry := by
      intro z ez
      rw [← ez] at KJ
      unfold wY_cost_60
      rw [nI_clamp (by omega), ey]
      refine nm_r (nI_add _ _) ⟨vp_in_nI (by omega) (by omega), ph_ywide hc (fun w => br_t rfl (nm_r (nI_1 _) ?_)) (fun w => br_f (by decide) (nm_r (ph_p2 _) ?_))⟩
      · rw [w] at KJ; exact KJ
      · rw [w] at KJ; exact KJ
    unfold wY_cost_41
    rw [nI_clamp (by omega), ey]
    exact ⟨vp_in_nI (by omega) (by omega), pk_eq (ph_cdo B f j) 13 (fun z => h60 5 (by rw [if_pos z])) (fun z => h60 1 (by rw [if_neg z]))⟩
  have h14 : ∀ d j acc, ph_St (ph_cdo B f) j → i < j → j ≤ ph_sz B f → ph_sz B f ≤ j + d → post (nI (acc + (if j < ph_sz B f ∧ ph_b (ph_ld (ph_sz B f) (ph_cdo B f) j) = 0 then ph_cost (ph_sz B f) (ph_cdo B f) j else 0))) →
      wY_cost_14 post (nI p) (nI f) (nI (120 * p + ph_hd B f + 3 + i)) (nI (120 * p + ph_hd B f + 3 + ph_sz B f)) g_rules g_place g_number g_pos g_finding g_active g_result g_memory b_ruleParts b_rulePath b_ruleAllows b_bytes b_length b_present b_ways b_boxPlugin b_boxQuota b_boxOpen b_statics b_aFn b_aPos b_aHigh b_aLocal b_aEntry (d + 1) (nI acc) (nI (120 * p + ph_hd B f + 3 + j)) := by
    intro d
    induction d with
    | zero =>
      intro j acc hsj h1 h2 h3 K
      rw [wY_cost_14]
      rw [if_neg (by omega)] at K
      exact br_t (nI_le (by omega) (by omega)) K
    | succ d ih =>
      intro j acc hsj h1 h2 h3 K
      rw [wY_cost_14]
      refine pk_le (120 * p + ph_hd B f + 3 + ph_sz B f) (120 * p + ph_hd B f + 3 + j) (fun z => ?_) (fun z => pk_le (120 * p + ph_hd B f + 3 + j) (120 * p + ph_hd B f + 3 + i) (fun y => by omega) (fun y => ?_))
      · rw [if_neg (by omega)] at K; exact K
      · have hj : j < ph_sz B f := by omega
        have g := ph_isbad_f (hC j hsj hj)
        have hwd := ph_wd_b (ph_cdo B f j)
        refine ph_yleads hp hB hW hf hC (by omega) (fun w => br_f (by decide) ?_) (fun w => br_t rfl ?_)
        · rw [if_neg (fun q => by rw [ph_b_t w] at q; omega)] at K; exact K
        · rw [if_pos ⟨hj, ph_b_f w⟩, ph_cost_s hs.2, ← Nat.add_assoc] at K
          exact h41 _ j acc hsj hj (ih _ _ (ph_St_s hsj) (by omega) (by omega) (by omega) K)
  have g := ph_isbad_f (hC i hst hi)
  have hwd := ph_wd_b (ph_cdo B f i)
  unfold wpY_cost
  refine ph_ycodeEnd hp hB hW hf ⟨ph_sz B f + 2, ?_⟩
  rw [wY_cost_14]
  refine br_f (nI_ge (by omega) (by omega)) (br_t (nI_le (Nat.le_refl _) (by omega)) ?_)
  refine h41 _ i 0 hst hi (h14 (ph_sz B f) _ _ (ph_St_s hst) (by omega) (by omega) (by omega) ?_)
  rw [ph_cost_s hs.2] at k
  rw [Nat.zero_add]; exact k
end
end
section
/-! ===== the component's single steps ===== -/
theorem ph_uu {f : Nat → Int32} {k : Nat} {a b : Int32} : upd (upd f k a) k b = upd f k b := by
  funext j
  by_cases e : j = k
  · subst e; rw [pk_us, pk_us]
  · rw [pk_un e, pk_un e, pk_un e]
theorem ph_fr1 (n : Nat) : nI (n + 1) - 1 = nI n := nI_pred n
theorem ph_fr5 (n : Nat) : 11 * nI (n + 1) - 6 = nI (11 * n + 5) := by
  rw [show (11 : Int32) = nI 11 from rfl, pk_mul, show (6 : Int32) = nI 6 from rfl, pk_sub (by omega)]; exact congrArg nI (by omega)
theorem ph_fr11 (n : Nat) : 11 * nI (n + 1) - 11 = nI (11 * n) := by
  rw [show (11 : Int32) = nI 11 from rfl, pk_mul, pk_sub (by omega)]; exact congrArg nI (by omega)
theorem ph_fr10 (n : Nat) : 11 * nI (n + 1) - 10 = nI (11 * n + 1) := by
  rw [show (11 : Int32) = nI 11 from rfl, pk_mul, show (10 : Int32) = nI 10 from rfl, pk_sub (by omega)]; exact congrArg nI (by omega)
section
variable {f_nodes f_rules f_version f_count f_at f_place f_number f_imports f_functions f_fault f_frames f_box f_pc f_status f_result : Int32} {f_waiting f_memory : Int64} {a_child a_verdict a_ruleNode a_before a_nodesBefore a_bytes a_path a_pathAt a_params a_locals a_from a_size a_high a_loaded a_emitted a_entry a_pParams a_pFunctions a_pImports a_pPath a_judged a_fine a_newAt a_plugin a_quota a_statics a_slot a_back a_entries : Nat → Int32}
variable {n h : Nat}
theorem ph_xpush {post : SX → Prop} {v : Int32} (hn : n < 6) (hh : h < 6) (he : a_entries n = nI h)
    (k : post (f_nodes, f_rules, f_version, f_count, f_at, f_place, f_number, f_imports, f_functions, f_waiting, f_fault, nI (n + 1), f_box, f_pc, f_status, f_result, f_memory, a_child, a_verdict, a_ruleNode, a_before, a_nodesBefore, a_bytes, a_path, a_pathAt, a_params, a_locals, a_from, a_size, a_high, a_loaded, a_emitted, a_entry, a_pParams, a_pFunctions, a_pImports, a_pPath, a_judged, a_fine, a_newAt, a_plugin, a_quota, a_statics, upd a_slot (11 * n + 5 + h) v, a_back, upd a_entries n (nI (h + 1)))) : wpX_push post (f_nodes, f_rules, f_version, f_count, f_at, f_place, f_number, f_imports, f_functions, f_waiting, f_fault, nI (n + 1), f_box, f_pc, f_status, f_result, f_memory, a_child, a_verdict, a_ruleNode, a_before, a_nodesBefore, a_bytes, a_path, a_pathAt, a_params, a_locals, a_from, a_size, a_high, a_loaded, a_emitted, a_entry, a_pParams, a_pFunctions, a_pImports, a_pPath, a_judged, a_fine, a_newAt, a_plugin, a_quota, a_statics, a_slot, a_back, a_entries) v := by
  unfold wpX_push
  try dsimp only
  rw [ph_fr1, ph_fr5, nI_clamp (by omega), he, nI_add, nI_clamp (by omega)]
  exact ⟨vp_in_nI hn (by omega), vp_in_nI hn (by omega), nm_r (e' := upd a_entries n (nI (h + 1))) (by rw [nI_1, ph_nbb (by omega)]) ⟨vp_in_nI (by omega) (by omega), nm_e k⟩⟩
theorem ph_xpop {post : Int32 → SX → Prop} (hn : n < 6) (hh : h < 6) (he : a_entries n = nI (h + 1))
    (k : post (a_slot (11 * n + 5 + h)) (f_nodes, f_rules, f_version, f_count, f_at, f_place, f_number, f_imports, f_functions, f_waiting, f_fault, nI (n + 1), f_box, f_pc, f_status, f_result, f_memory, a_child, a_verdict, a_ruleNode, a_before, a_nodesBefore, a_bytes, a_path, a_pathAt, a_params, a_locals, a_from, a_size, a_high, a_loaded, a_emitted, a_entry, a_pParams, a_pFunctions, a_pImports, a_pPath, a_judged, a_fine, a_newAt, a_plugin, a_quota, a_statics, a_slot, a_back, upd a_entries n (nI h))) : wpX_pop post (f_nodes, f_rules, f_version, f_count, f_at, f_place, f_number, f_imports, f_functions, f_waiting, f_fault, nI (n + 1), f_box, f_pc, f_status, f_result, f_memory, a_child, a_verdict, a_ruleNode, a_before, a_nodesBefore, a_bytes, a_path, a_pathAt, a_params, a_locals, a_from, a_size, a_high, a_loaded, a_emitted, a_entry, a_pParams, a_pFunctions, a_pImports, a_pPath, a_judged, a_fine, a_newAt, a_plugin, a_quota, a_statics, a_slot, a_back, a_entries) := by
  have e1 : (nI h).toInt8.toInt32 = nI h := ph_sv_lt (by omega)
  unfold wpX_pop
  try dsimp only
  rw [ph_fr1, ph_fr5, nI_clamp (by omega), he, nI_pred, e1, nI_add, nI_clamp (by omega)]
  exact ⟨vp_in_nI hn (by omega), vp_in_nI hn (by omega), nm_r (e' := upd a_entries n (nI h)) (by rw [ph_nb (by omega)]) ⟨vp_in_nI (by omega) (by omega), k⟩⟩
theorem ph_xexec {post : SX → Prop} {op O : Nat} (ho : op ≤ 16) (eo : a_emitted O = nI op) (hO : O + ph_wd op ≤ 960)
    (K : ∀ b : Int32, (ph_wd op = 2 → b = a_emitted (O + 1)) → wX_execute_70 post (nI op) b (nI (11 * n)) (nI (ph_wd op)) (nI O) f_nodes f_rules f_version f_count f_at f_place f_number f_imports f_functions f_waiting f_fault (nI (n + 1)) f_box (nI O) f_status f_result f_memory a_child a_verdict a_ruleNode a_before a_nodesBefore a_bytes a_path a_pathAt a_params a_locals a_from a_size a_high a_loaded a_emitted a_entry a_pParams a_pFunctions a_pImports a_pPath a_judged a_fine a_newAt a_plugin a_quota a_statics a_slot a_back a_entries) : wpX_execute post (f_nodes, f_rules, f_version, f_count, f_at, f_place, f_number, f_imports, f_functions, f_waiting, f_fault, nI (n + 1), f_box, nI O, f_status, f_result, f_memory, a_child, a_verdict, a_ruleNode, a_before, a_nodesBefore, a_bytes, a_path, a_pathAt, a_params, a_locals, a_from, a_size, a_high, a_loaded, a_emitted, a_entry, a_pParams, a_pFunctions, a_pImports, a_pPath, a_judged, a_fine, a_newAt, a_plugin, a_quota, a_statics, a_slot, a_back, a_entries) := by
  have hw := ph_wd_b op
  have h39 : ∀ b : Int32, (ph_wd op = 2 → b = a_emitted (O + 1)) → wX_execute_39 post (nI op) b f_nodes f_rules f_version f_count f_at f_place f_number f_imports f_functions f_waiting f_fault (nI (n + 1)) f_box (nI O) f_status f_result f_memory a_child a_verdict a_ruleNode a_before a_nodesBefore a_bytes a_path a_pathAt a_params a_locals a_from a_size a_high a_loaded a_emitted a_entry a_pParams a_pFunctions a_pImports a_pPath a_judged a_fine a_newAt a_plugin a_quota a_statics a_slot a_back a_entries := by
    intro b eb
    unfold wX_execute_39
    refine nm_r (ph_fr11 n) (br_f (fun z => ?_) (ph_xwidth (by omega) (K b eb)))
    have := (nI_eq (a := op) (b := 17) (by omega) (by omega)).mp z
    omega
  unfold wpX_execute
  try dsimp only
  rw [nI_clamp (by omega)]
  refine ⟨vp_in_nI (by omega) (by omega), nm_r eo (ph_xwidth (by omega) ?_)⟩
  refine pk_eq (ph_wd op) 2 (fun z => ?_) (fun z => br_f (fun y => ?_) (h39 0 fun y => absurd y z))
  · unfold wX_execute_24
    rw [nI_1, nI_clamp (by omega)]
    exact ⟨vp_in_nI (by omega) (by omega), h39 _ fun _ => rfl⟩
  · have := (nI_eq (a := op) (b := 17) (by omega) (by omega)).mp y
    omega
theorem ph_xmeter {post : SX → Prop} {T c q x : Nat} (e1 : a_emitted T = 17) (e2 : a_emitted (T + 1) = nI c) (hT : T + 2 ≤ 960) (hx : x < 4) (eb : f_box = nI x) (eq : a_quota x = nI q) (hq : q < 5000) (hc : c < 5000)
    (k1 : c ≤ q → post (f_nodes, f_rules, f_version, f_count, f_at, f_place, f_number, f_imports, f_functions, f_waiting, f_fault, f_frames, f_box, nI (T + 2), f_status, f_result, f_memory, a_child, a_verdict, a_ruleNode, a_before, a_nodesBefore, a_bytes, a_path, a_pathAt, a_params, a_locals, a_from, a_size, a_high, a_loaded, a_emitted, a_entry, a_pParams, a_pFunctions, a_pImports, a_pPath, a_judged, a_fine, a_newAt, a_plugin, upd a_quota x (nI (q - c)), a_statics, a_slot, a_back, a_entries)) (k0 : q < c → post (f_nodes, f_rules, f_version, f_count, f_at, f_place, f_number, f_imports, f_functions, f_waiting, f_fault, 0, f_box, nI (T + 2), 1, f_result, f_memory, a_child, a_verdict, a_ruleNode, a_before, a_nodesBefore, a_bytes, a_path, a_pathAt, a_params, a_locals, a_from, a_size, a_high, a_loaded, a_emitted, a_entry, a_pParams, a_pFunctions, a_pImports, a_pPath, a_judged, a_fine, a_newAt, a_plugin, a_quota, a_statics, a_slot, a_back, a_entries)) : wpX_execute post (f_nodes, f_rules, f_version, f_count, f_at, f_place, f_number, f_imports, f_functions, f_waiting, f_fault, f_frames, f_box, nI T, f_status, f_result, f_memory, a_child, a_verdict, a_ruleNode, a_before, a_nodesBefore, a_bytes, a_path, a_pathAt, a_params, a_locals, a_from, a_size, a_high, a_loaded, a_emitted, a_entry, a_pParams, a_pFunctions, a_pImports, a_pPath, a_judged, a_fine, a_newAt, a_plugin, a_quota, a_statics, a_slot, a_back, a_entries) := by
  subst eb
  unfold wpX_execute
  try dsimp only
  rw [nI_clamp (by omega : T < 2 ^ 31)]
  refine ⟨vp_in_nI (by omega) (by omega), nm_r (e' := nI 17) (by rw [e1]; rfl) (ph_xwidth (by omega) ?_)⟩
  refine br_f (by decide) (br_t rfl ?_)
  unfold wX_execute_24
  rw [nI_1, nI_clamp (by omega), e2]
  refine ⟨vp_in_nI (by omega) (by omega), ?_⟩
  unfold wX_execute_39
  refine nm_e (br_t rfl ?_)
  unfold wX_execute_70
  refine nm_r (ph_p2 T) ?_
  repeat (first | refine br_t (by decide) ?_ | refine br_f (by decide) ?_)
  rw [nI_clamp (by omega), eq]
  have hin : vp_in (nI x) 4 := vp_in_nI hx (by omega)
  refine ⟨hin, pk_le c q (fun z => ⟨hin, hin, nm_r (e' := upd a_quota x (nI (q - c))) (by rw [pk_sub z]) (k1 z)⟩) (fun z => k0 z)⟩
/-! one lemma an instruction: O its place in the emitted code -/
theorem ph_xe0 {post : SX → Prop} {O : Nat} (hn : n < 6) (hh : h < 6) (he : a_entries n = nI h) (eo : a_emitted O = nI 0) (hO : O + 2 ≤ 960)
    (k : post (f_nodes, f_rules, f_version, f_count, f_at, f_place, f_number, f_imports, f_functions, f_waiting, f_fault, nI (n + 1), f_box, nI (O + 2), f_status, f_result, f_memory, a_child, a_verdict, a_ruleNode, a_before, a_nodesBefore, a_bytes, a_path, a_pathAt, a_params, a_locals, a_from, a_size, a_high, a_loaded, a_emitted, a_entry, a_pParams, a_pFunctions, a_pImports, a_pPath, a_judged, a_fine, a_newAt, a_plugin, a_quota, a_statics, upd a_slot (11 * n + 5 + h) (a_emitted (O + 1)), a_back, upd a_entries n (nI (h + 1)))) : wpX_execute post (f_nodes, f_rules, f_version, f_count, f_at, f_place, f_number, f_imports, f_functions, f_waiting, f_fault, nI (n + 1), f_box, nI O, f_status, f_result, f_memory, a_child, a_verdict, a_ruleNode, a_before, a_nodesBefore, a_bytes, a_path, a_pathAt, a_params, a_locals, a_from, a_size, a_high, a_loaded, a_emitted, a_entry, a_pParams, a_pFunctions, a_pImports, a_pPath, a_judged, a_fine, a_newAt, a_plugin, a_quota, a_statics, a_slot, a_back, a_entries) := by
  refine ph_xexec (op := 0) (by omega) eo hO (fun b eb => ?_)
  rw [eb rfl]
  unfold wX_execute_70
  refine nm_r (nI_add O 2) ?_
  repeat (first | refine br_t (by decide) ?_ | refine br_f (by decide) ?_)
  exact ph_xpush hn hh he k
theorem ph_xe1 {post : SX → Prop} {O b : Nat} (hn : n < 6) (hh : h < 6) (he : a_entries n = nI h) (eo : a_emitted O = nI 1) (eb : a_emitted (O + 1) = nI b) (hb : b < 5) (hO : O + 2 ≤ 960)
    (k : post (f_nodes, f_rules, f_version, f_count, f_at, f_place, f_number, f_imports, f_functions, f_waiting, f_fault, nI (n + 1), f_box, nI (O + 2), f_status, f_result, f_memory, a_child, a_verdict, a_ruleNode, a_before, a_nodesBefore, a_bytes, a_path, a_pathAt, a_params, a_locals, a_from, a_size, a_high, a_loaded, a_emitted, a_entry, a_pParams, a_pFunctions, a_pImports, a_pPath, a_judged, a_fine, a_newAt, a_plugin, a_quota, a_statics, upd a_slot (11 * n + 5 + h) (a_slot (11 * n + b)), a_back, upd a_entries n (nI (h + 1)))) : wpX_execute post (f_nodes, f_rules, f_version, f_count, f_at, f_place, f_number, f_imports, f_functions, f_waiting, f_fault, nI (n + 1), f_box, nI O, f_status, f_result, f_memory, a_child, a_verdict, a_ruleNode, a_before, a_nodesBefore, a_bytes, a_path, a_pathAt, a_params, a_locals, a_from, a_size, a_high, a_loaded, a_emitted, a_entry, a_pParams, a_pFunctions, a_pImports, a_pPath, a_judged, a_fine, a_newAt, a_plugin, a_quota, a_statics, a_slot, a_back, a_entries) := by
  refine ph_xexec (op := 1) (by omega) eo hO (fun b' eb' => ?_)
  rw [eb' rfl, eb]
  unfold wX_execute_70
  refine nm_r (nI_add O 2) ?_
  repeat (first | refine br_t (by decide) ?_ | refine br_f (by decide) ?_)
  rw [nI_add, nI_clamp (by omega)]
  exact ⟨vp_in_nI (by omega) (by omega), ph_xpush hn hh he k⟩
theorem ph_xe2 {post : SX → Prop} {O b : Nat} (hn : n < 6) (hh : h < 6) (he : a_entries n = nI (h + 1)) (eo : a_emitted O = nI 2) (eb : a_emitted (O + 1) = nI b) (hb : b < 5) (hO : O + 2 ≤ 960)
    (k : post (f_nodes, f_rules, f_version, f_count, f_at, f_place, f_number, f_imports, f_functions, f_waiting, f_fault, nI (n + 1), f_box, nI (O + 2), f_status, f_result, f_memory, a_child, a_verdict, a_ruleNode, a_before, a_nodesBefore, a_bytes, a_path, a_pathAt, a_params, a_locals, a_from, a_size, a_high, a_loaded, a_emitted, a_entry, a_pParams, a_pFunctions, a_pImports, a_pPath, a_judged, a_fine, a_newAt, a_plugin, a_quota, a_statics, upd a_slot (11 * n + b) (a_slot (11 * n + 5 + h)), a_back, upd a_entries n (nI h))) : wpX_execute post (f_nodes, f_rules, f_version, f_count, f_at, f_place, f_number, f_imports, f_functions, f_waiting, f_fault, nI (n + 1), f_box, nI O, f_status, f_result, f_memory, a_child, a_verdict, a_ruleNode, a_before, a_nodesBefore, a_bytes, a_path, a_pathAt, a_params, a_locals, a_from, a_size, a_high, a_loaded, a_emitted, a_entry, a_pParams, a_pFunctions, a_pImports, a_pPath, a_judged, a_fine, a_newAt, a_plugin, a_quota, a_statics, a_slot, a_back, a_entries) := by
  refine ph_xexec (op := 2) (by omega) eo hO (fun b' eb' => ?_)
  rw [eb' rfl, eb]
  unfold wX_execute_70
  refine nm_r (nI_add O 2) ?_
  repeat (first | refine br_t (by decide) ?_ | refine br_f (by decide) ?_)
  refine ph_xpop hn hh he ?_
  rw [nI_add, nI_clamp (by omega)]
  exact ⟨vp_in_nI (by omega) (by omega), nm_e k⟩
/-- what a calculation gives -/
def ph_ca (op : Nat) (x y : Int32) : Int32 := if op = 3 then x + y else if op = 4 then x - y else if op = 5 then x * y else if op = 6 then x / y else if y ≤ x then 0 else 1
theorem ph_xe37 {post : SX → Prop} {O op : Nat} (ho : 3 ≤ op ∧ op ≤ 7) (hn : n < 6) (hh : h < 5) (he : a_entries n = nI (h + 2)) (eo : a_emitted O = nI op) (hO : O + 1 ≤ 960)
    (k : (op = 6 → a_slot (11 * n + 5 + (h + 1)) ≠ 0) → post (f_nodes, f_rules, f_version, f_count, f_at, f_place, f_number, f_imports, f_functions, f_waiting, f_fault, nI (n + 1), f_box, nI (O + 1), f_status, f_result, f_memory, a_child, a_verdict, a_ruleNode, a_before, a_nodesBefore, a_bytes, a_path, a_pathAt, a_params, a_locals, a_from, a_size, a_high, a_loaded, a_emitted, a_entry, a_pParams, a_pFunctions, a_pImports, a_pPath, a_judged, a_fine, a_newAt, a_plugin, a_quota, a_statics, upd a_slot (11 * n + 5 + h) (ph_ca op (a_slot (11 * n + 5 + h)) (a_slot (11 * n + 5 + (h + 1)))), a_back, upd a_entries n (nI (h + 1))))
    (k0 : op = 6 → a_slot (11 * n + 5 + (h + 1)) = 0 → post (f_nodes, f_rules, f_version, f_count, f_at, f_place, f_number, f_imports, f_functions, f_waiting, f_fault, 0, f_box, nI (O + 1), 2, f_result, f_memory, a_child, a_verdict, a_ruleNode, a_before, a_nodesBefore, a_bytes, a_path, a_pathAt, a_params, a_locals, a_from, a_size, a_high, a_loaded, a_emitted, a_entry, a_pParams, a_pFunctions, a_pImports, a_pPath, a_judged, a_fine, a_newAt, a_plugin, a_quota, a_statics, a_slot, a_back, upd a_entries n (nI h))) : wpX_execute post (f_nodes, f_rules, f_version, f_count, f_at, f_place, f_number, f_imports, f_functions, f_waiting, f_fault, nI (n + 1), f_box, nI O, f_status, f_result, f_memory, a_child, a_verdict, a_ruleNode, a_before, a_nodesBefore, a_bytes, a_path, a_pathAt, a_params, a_locals, a_from, a_size, a_high, a_loaded, a_emitted, a_entry, a_pParams, a_pFunctions, a_pImports, a_pPath, a_judged, a_fine, a_newAt, a_plugin, a_quota, a_statics, a_slot, a_back, a_entries) := by
  have hw : ph_wd op = 1 := if_neg (by omega)
  refine ph_xexec (op := op) (by omega) eo (by omega) (fun b' eb' => ?_)
  rw [hw]
  have h388 : wX_execute_388 post (nI op) f_nodes f_rules f_version f_count f_at f_place f_number f_imports f_functions f_waiting f_fault (nI (n + 1)) f_box (nI (O + 1)) f_status f_result f_memory a_child a_verdict a_ruleNode a_before a_nodesBefore a_bytes a_path a_pathAt a_params a_locals a_from a_size a_high a_loaded a_emitted a_entry a_pParams a_pFunctions a_pImports a_pPath a_judged a_fine a_newAt a_plugin a_quota a_statics a_slot a_back a_entries := by
    unfold wX_execute_388
    unfold wpX_calculate
    refine ph_xpop (h := h + 1) hn (by omega) he ?_
    refine ph_xpop (h := h) hn (by omega) pk_us ?_
    rw [ph_uu]
    have push : ∀ z : Int32, z = ph_ca op (a_slot (11 * n + 5 + h)) (a_slot (11 * n + 5 + (h + 1))) → (op = 6 → a_slot (11 * n + 5 + (h + 1)) ≠ 0) →
        wpX_push (fun u => match u with | (f_nodes_1, f_rules_1, f_version_1, f_count_1, f_at_1, f_place_1, f_number_1, f_imports_1, f_functions_1, f_waiting_1, f_fault_1, f_frames_1, f_box_1, f_pc_1, f_status_1, f_result_1, f_memory_1, a_child_1, a_verdict_1, a_ruleNode_1, a_before_1, a_nodesBefore_1, a_bytes_1, a_path_1, a_pathAt_1, a_params_1, a_locals_1, a_from_1, a_size_1, a_high_1, a_loaded_1, a_emitted_1, a_entry_1, a_pParams_1, a_pFunctions_1, a_pImports_1, a_pPath_1, a_judged_1, a_fine_1, a_newAt_1, a_plugin_1, a_quota_1, a_statics_1, a_slot_1, a_back_1, a_entries_1) => post (f_nodes_1, f_rules_1, f_version_1, f_count_1, f_at_1, f_place_1, f_number_1, f_imports_1, f_functions_1, f_waiting_1, f_fault_1, f_frames_1, f_box_1, f_pc_1, f_status_1, f_result_1, f_memory_1, a_child_1, a_verdict_1, a_ruleNode_1, a_before_1, a_nodesBefore_1, a_bytes_1, a_path_1, a_pathAt_1, a_params_1, a_locals_1, a_from_1, a_size_1, a_high_1, a_loaded_1, a_emitted_1, a_entry_1, a_pParams_1, a_pFunctions_1, a_pImports_1, a_pPath_1, a_judged_1, a_fine_1, a_newAt_1, a_plugin_1, a_quota_1, a_statics_1, a_slot_1, a_back_1, a_entries_1)) (f_nodes, f_rules, f_version, f_count, f_at, f_place, f_number, f_imports, f_functions, f_waiting, f_fault, nI (n + 1), f_box, nI (O + 1), f_status, f_result, f_memory, a_child, a_verdict, a_ruleNode, a_before, a_nodesBefore, a_bytes, a_path, a_pathAt, a_params, a_locals, a_from, a_size, a_high, a_loaded, a_emitted, a_entry, a_pParams, a_pFunctions, a_pImports, a_pPath, a_judged, a_fine, a_newAt, a_plugin, a_quota, a_statics, a_slot, a_back, upd a_entries n (nI h)) z := by
      rintro z rfl q
      refine ph_xpush hn (by omega) pk_us ?_
      rw [ph_uu]
      exact k q
    have hdiv : op = 6 → wX_calculate_91 (fun u => match u with | (f_nodes_1, f_rules_1, f_version_1, f_count_1, f_at_1, f_place_1, f_number_1, f_imports_1, f_functions_1, f_waiting_1, f_fault_1, f_frames_1, f_box_1, f_pc_1, f_status_1, f_result_1, f_memory_1, a_child_1, a_verdict_1, a_ruleNode_1, a_before_1, a_nodesBefore_1, a_bytes_1, a_path_1, a_pathAt_1, a_params_1, a_locals_1, a_from_1, a_size_1, a_high_1, a_loaded_1, a_emitted_1, a_entry_1, a_pParams_1, a_pFunctions_1, a_pImports_1, a_pPath_1, a_judged_1, a_fine_1, a_newAt_1, a_plugin_1, a_quota_1, a_statics_1, a_slot_1, a_back_1, a_entries_1) => post (f_nodes_1, f_rules_1, f_version_1, f_count_1, f_at_1, f_place_1, f_number_1, f_imports_1, f_functions_1, f_waiting_1, f_fault_1, f_frames_1, f_box_1, f_pc_1, f_status_1, f_result_1, f_memory_1, a_child_1, a_verdict_1, a_ruleNode_1, a_before_1, a_nodesBefore_1, a_bytes_1, a_path_1, a_pathAt_1, a_params_1, a_locals_1, a_from_1, a_size_1, a_high_1, a_loaded_1, a_emitted_1, a_entry_1, a_pParams_1, a_pFunctions_1, a_pImports_1, a_pPath_1, a_judged_1, a_fine_1, a_newAt_1, a_plugin_1, a_quota_1, a_statics_1, a_slot_1, a_back_1, a_entries_1)) (a_slot (11 * n + 5 + (h + 1))) (a_slot (11 * n + 5 + h)) f_nodes f_rules f_version f_count f_at f_place f_number f_imports f_functions f_waiting f_fault (nI (n + 1)) f_box (nI (O + 1)) f_status f_result f_memory a_child a_verdict a_ruleNode a_before a_nodesBefore a_bytes a_path a_pathAt a_params a_locals a_from a_size a_high a_loaded a_emitted a_entry a_pParams a_pFunctions a_pImports a_pPath a_judged a_fine a_newAt a_plugin a_quota a_statics a_slot a_back (upd a_entries n (nI h)) := by
      intro e
      unfold wX_calculate_91
      refine br_c (fun z => k0 e z) (fun z => ⟨z, push _ (by rw [e]; rfl) (fun _ => z)⟩)
    rcases (by omega : op = 3 ∨ op = 4 ∨ op = 5 ∨ op = 6 ∨ op = 7) with e | e | e | e | e
    · subst e
      exact br_f (by decide) (br_f (by decide) (br_t rfl (push _ rfl (fun z => absurd z (by decide)))))
    · subst e
      exact br_f (by decide) (br_f (by decide) (br_f (by decide) (br_t rfl (push _ rfl (fun z => absurd z (by decide))))))
    · subst e
      exact br_f (by decide) (br_f (by decide) (br_f (by decide) (br_f (by decide) (br_t rfl (push _ rfl (fun z => absurd z (by decide)))))))
    · have hd := hdiv e
      subst e
      exact br_f (by decide) (br_f (by decide) (br_f (by decide) (br_f (by decide) (br_f (by decide) (br_t rfl hd)))))
    · subst e
      refine br_f (by decide) (br_f (by decide) (br_f (by decide) (br_f (by decide) (br_f (by decide) (br_f (by decide) (br_t rfl ?_))))))
      refine br_c (fun z => ?_) (fun z => ?_)
      · unfold wX_calculate_85
        exact push _ (by show (0 : Int32) = if _ then 0 else 1; rw [if_pos z]) (fun z => absurd z (by decide))
      · unfold wX_calculate_85
        exact push _ (by show (1 : Int32) = if _ then 0 else 1; rw [if_neg z]) (fun z => absurd z (by decide))
  unfold wX_execute_70
  refine nm_r (nI_1 O) ?_
  rcases (by omega : op = 3 ∨ op = 4 ∨ op = 5 ∨ op = 6 ∨ op = 7) with e | e | e | e | e <;> subst e <;>
    (repeat (first | refine br_t (by decide) ?_ | refine br_f (by decide) ?_)) <;> exact h388
theorem ph_xe8 {post : SX → Prop} {O : Nat} (hn : n < 6) (hh : h < 5) (he : a_entries n = nI (h + 1)) (eo : a_emitted O = nI 8) (hO : O + 1 ≤ 960)
    (k : post (f_nodes, f_rules, f_version, f_count, f_at, f_place, f_number, f_imports, f_functions, f_waiting, f_fault, nI (n + 1), f_box, nI (O + 1), f_status, f_result, f_memory, a_child, a_verdict, a_ruleNode, a_before, a_nodesBefore, a_bytes, a_path, a_pathAt, a_params, a_locals, a_from, a_size, a_high, a_loaded, a_emitted, a_entry, a_pParams, a_pFunctions, a_pImports, a_pPath, a_judged, a_fine, a_newAt, a_plugin, a_quota, a_statics, upd (upd a_slot (11 * n + 5 + h) (a_slot (11 * n + 5 + h))) (11 * n + 5 + (h + 1)) (a_slot (11 * n + 5 + h)), a_back, upd a_entries n (nI (h + 2)))) : wpX_execute post (f_nodes, f_rules, f_version, f_count, f_at, f_place, f_number, f_imports, f_functions, f_waiting, f_fault, nI (n + 1), f_box, nI O, f_status, f_result, f_memory, a_child, a_verdict, a_ruleNode, a_before, a_nodesBefore, a_bytes, a_path, a_pathAt, a_params, a_locals, a_from, a_size, a_high, a_loaded, a_emitted, a_entry, a_pParams, a_pFunctions, a_pImports, a_pPath, a_judged, a_fine, a_newAt, a_plugin, a_quota, a_statics, a_slot, a_back, a_entries) := by
  refine ph_xexec (op := 8) (by omega) eo hO (fun b' eb' => ?_)
  unfold wX_execute_70
  refine nm_r (nI_1 O) ?_
  repeat (first | refine br_t (by decide) ?_ | refine br_f (by decide) ?_)
  refine ph_xpop hn (by omega) he ?_
  refine ph_xpush hn (by omega) pk_us ?_
  rw [ph_uu]
  refine ph_xpush (h := h + 1) hn (by omega) pk_us ?_
  rw [ph_uu]
  exact k
theorem ph_xe9 {post : SX → Prop} {O : Nat} (hn : n < 6) (hh : h < 6) (he : a_entries n = nI (h + 1)) (eo : a_emitted O = nI 9) (hO : O + 1 ≤ 960)
    (k : post (f_nodes, f_rules, f_version, f_count, f_at, f_place, f_number, f_imports, f_functions, f_waiting, f_fault, nI (n + 1), f_box, nI (O + 1), f_status, f_result, f_memory, a_child, a_verdict, a_ruleNode, a_before, a_nodesBefore, a_bytes, a_path, a_pathAt, a_params, a_locals, a_from, a_size, a_high, a_loaded, a_emitted, a_entry, a_pParams, a_pFunctions, a_pImports, a_pPath, a_judged, a_fine, a_newAt, a_plugin, a_quota, a_statics, a_slot, a_back, upd a_entries n (nI h))) : wpX_execute post (f_nodes, f_rules, f_version, f_count, f_at, f_place, f_number, f_imports, f_functions, f_waiting, f_fault, nI (n + 1), f_box, nI O, f_status, f_result, f_memory, a_child, a_verdict, a_ruleNode, a_before, a_nodesBefore, a_bytes, a_path, a_pathAt, a_params, a_locals, a_from, a_size, a_high, a_loaded, a_emitted, a_entry, a_pParams, a_pFunctions, a_pImports, a_pPath, a_judged, a_fine, a_newAt, a_plugin, a_quota, a_statics, a_slot, a_back, a_entries) := by
  refine ph_xexec (op := 9) (by omega) eo hO (fun b' eb' => ?_)
  unfold wX_execute_70
  refine nm_r (nI_1 O) ?_
  repeat (first | refine br_t (by decide) ?_ | refine br_f (by decide) ?_)
  rw [ph_fr1, nI_clamp (by omega), he, nI_pred]
  exact ⟨vp_in_nI hn (by omega), vp_in_nI hn (by omega), nm_r (e' := upd a_entries n (nI h)) (by rw [ph_nbb (by omega)]) k⟩
theorem ph_xe10 {post : SX → Prop} {O t : Nat} (eo : a_emitted O = nI 10) (hO : O + 2 ≤ 960) (et : nI (O + 2) + a_emitted (O + 1) = nI t)
    (k : post (f_nodes, f_rules, f_version, f_count, f_at, f_place, f_number, f_imports, f_functions, f_waiting, f_fault, nI (n + 1), f_box, nI t, f_status, f_result, f_memory, a_child, a_verdict, a_ruleNode, a_before, a_nodesBefore, a_bytes, a_path, a_pathAt, a_params, a_locals, a_from, a_size, a_high, a_loaded, a_emitted, a_entry, a_pParams, a_pFunctions, a_pImports, a_pPath, a_judged, a_fine, a_newAt, a_plugin, a_quota, a_statics, a_slot, a_back, a_entries)) : wpX_execute post (f_nodes, f_rules, f_version, f_count, f_at, f_place, f_number, f_imports, f_functions, f_waiting, f_fault, nI (n + 1), f_box, nI O, f_status, f_result, f_memory, a_child, a_verdict, a_ruleNode, a_before, a_nodesBefore, a_bytes, a_path, a_pathAt, a_params, a_locals, a_from, a_size, a_high, a_loaded, a_emitted, a_entry, a_pParams, a_pFunctions, a_pImports, a_pPath, a_judged, a_fine, a_newAt, a_plugin, a_quota, a_statics, a_slot, a_back, a_entries) := by
  refine ph_xexec (op := 10) (by omega) eo hO (fun b' eb' => ?_)
  rw [eb' rfl]
  unfold wX_execute_70
  refine nm_r (nI_add O 2) ?_
  repeat (first | refine br_t (by decide) ?_ | refine br_f (by decide) ?_)
  exact nm_r et k
theorem ph_xe11 {post : SX → Prop} {O t : Nat} (hn : n < 6) (hh : h < 6) (he : a_entries n = nI (h + 1)) (eo : a_emitted O = nI 11) (hO : O + 2 ≤ 960) (et : nI (O + 2) + a_emitted (O + 1) = nI t)
    (k1 : a_slot (11 * n + 5 + h) = 0 → post (f_nodes, f_rules, f_version, f_count, f_at, f_place, f_number, f_imports, f_functions, f_waiting, f_fault, nI (n + 1), f_box, nI t, f_status, f_result, f_memory, a_child, a_verdict, a_ruleNode, a_before, a_nodesBefore, a_bytes, a_path, a_pathAt, a_params, a_locals, a_from, a_size, a_high, a_loaded, a_emitted, a_entry, a_pParams, a_pFunctions, a_pImports, a_pPath, a_judged, a_fine, a_newAt, a_plugin, a_quota, a_statics, a_slot, a_back, upd a_entries n (nI h))) (k0 : ¬ a_slot (11 * n + 5 + h) = 0 → post (f_nodes, f_rules, f_version, f_count, f_at, f_place, f_number, f_imports, f_functions, f_waiting, f_fault, nI (n + 1), f_box, nI (O + 2), f_status, f_result, f_memory, a_child, a_verdict, a_ruleNode, a_before, a_nodesBefore, a_bytes, a_path, a_pathAt, a_params, a_locals, a_from, a_size, a_high, a_loaded, a_emitted, a_entry, a_pParams, a_pFunctions, a_pImports, a_pPath, a_judged, a_fine, a_newAt, a_plugin, a_quota, a_statics, a_slot, a_back, upd a_entries n (nI h))) :
    wpX_execute post (f_nodes, f_rules, f_version, f_count, f_at, f_place, f_number, f_imports, f_functions, f_waiting, f_fault, nI (n + 1), f_box, nI O, f_status, f_result, f_memory, a_child, a_verdict, a_ruleNode, a_before, a_nodesBefore, a_bytes, a_path, a_pathAt, a_params, a_locals, a_from, a_size, a_high, a_loaded, a_emitted, a_entry, a_pParams, a_pFunctions, a_pImports, a_pPath, a_judged, a_fine, a_newAt, a_plugin, a_quota, a_statics, a_slot, a_back, a_entries) := by
  refine ph_xexec (op := 11) (by omega) eo hO (fun b' eb' => ?_)
  rw [eb' rfl]
  unfold wX_execute_70
  refine nm_r (nI_add O 2) ?_
  repeat (first | refine br_t (by decide) ?_ | refine br_f (by decide) ?_)
  refine ph_xpop hn hh he ?_
  exact br_c (fun z => nm_r et (k1 z)) (fun z => k0 z)
theorem ph_xe13 {post : SX → Prop} {O b x p pa : Nat} (hn : n < 6) (hh : h < 6) (he : a_entries n = nI (h + 1)) (eo : a_emitted O = nI 13) (eb : a_emitted (O + 1) = nI b) (hb : b < 4) (hO : O + 2 ≤ 960)
    (hx : x < 4) (ex : f_box = nI x) (hp : p < 3) (ep : a_plugin x = nI p) (epa : a_pPath (4 * p + b) = nI pa)
    (k : post (f_nodes, f_rules, f_version, f_count, f_at, f_place, f_number, f_imports, f_functions, f_waiting, f_fault, nI (n + 1), f_box, nI (O + 2), f_status, f_result, f_memory * 33 + (a_slot (11 * n + 5 + h)).toInt64 * 512 + (nI pa).toInt64, a_child, a_verdict, a_ruleNode, a_before, a_nodesBefore, a_bytes, a_path, a_pathAt, a_params, a_locals, a_from, a_size, a_high, a_loaded, a_emitted, a_entry, a_pParams, a_pFunctions, a_pImports, a_pPath, a_judged, a_fine, a_newAt, a_plugin, a_quota, a_statics, upd a_slot (11 * n + 5 + h) (((f_memory * 33 + (a_slot (11 * n + 5 + h)).toInt64 * 512 + (nI pa).toInt64).toUInt64 >>> ((20 : Int32).toInt64.toUInt64 &&& Int64.toUInt64 63)).toInt64).toInt32, a_back, upd a_entries n (nI (h + 1)))) :
    wpX_execute post (f_nodes, f_rules, f_version, f_count, f_at, f_place, f_number, f_imports, f_functions, f_waiting, f_fault, nI (n + 1), f_box, nI O, f_status, f_result, f_memory, a_child, a_verdict, a_ruleNode, a_before, a_nodesBefore, a_bytes, a_path, a_pathAt, a_params, a_locals, a_from, a_size, a_high, a_loaded, a_emitted, a_entry, a_pParams, a_pFunctions, a_pImports, a_pPath, a_judged, a_fine, a_newAt, a_plugin, a_quota, a_statics, a_slot, a_back, a_entries) := by
  subst ex
  refine ph_xexec (op := 13) (by omega) eo hO (fun b' eb' => ?_)
  rw [eb' rfl, eb]
  unfold wX_execute_70
  refine nm_r (nI_add O 2) ?_
  repeat (first | refine br_t (by decide) ?_ | refine br_f (by decide) ?_)
  rw [nI_clamp (by omega : x < 2 ^ 31), ep, ph_mul4, nI_clamp (by omega), epa]
  refine ⟨vp_in_nI hx (by omega), vp_in_nI (by omega) (by omega), ?_⟩
  unfold wpX_host
  refine ph_xpop hn hh he (nm_e ?_)
  refine ph_xpush hn hh pk_us ?_
  rw [ph_uu]
  exact k
theorem ph_xe14 {post : SX → Prop} {O b x : Nat} (hn : n < 6) (hh : h < 6) (he : a_entries n = nI h) (eo : a_emitted O = nI 14) (eb : a_emitted (O + 1) = nI b) (hb : b < 4) (hO : O + 2 ≤ 960) (hx : x < 4) (ex : f_box = nI x)
    (k : post (f_nodes, f_rules, f_version, f_count, f_at, f_place, f_number, f_imports, f_functions, f_waiting, f_fault, nI (n + 1), f_box, nI (O + 2), f_status, f_result, f_memory, a_child, a_verdict, a_ruleNode, a_before, a_nodesBefore, a_bytes, a_path, a_pathAt, a_params, a_locals, a_from, a_size, a_high, a_loaded, a_emitted, a_entry, a_pParams, a_pFunctions, a_pImports, a_pPath, a_judged, a_fine, a_newAt, a_plugin, a_quota, a_statics, upd a_slot (11 * n + 5 + h) (a_statics (4 * x + b)), a_back, upd a_entries n (nI (h + 1)))) : wpX_execute post (f_nodes, f_rules, f_version, f_count, f_at, f_place, f_number, f_imports, f_functions, f_waiting, f_fault, nI (n + 1), f_box, nI O, f_status, f_result, f_memory, a_child, a_verdict, a_ruleNode, a_before, a_nodesBefore, a_bytes, a_path, a_pathAt, a_params, a_locals, a_from, a_size, a_high, a_loaded, a_emitted, a_entry, a_pParams, a_pFunctions, a_pImports, a_pPath, a_judged, a_fine, a_newAt, a_plugin, a_quota, a_statics, a_slot, a_back, a_entries) := by
  subst ex
  refine ph_xexec (op := 14) (by omega) eo hO (fun b' eb' => ?_)
  rw [eb' rfl, eb]
  unfold wX_execute_70
  refine nm_r (nI_add O 2) ?_
  repeat (first | refine br_t (by decide) ?_ | refine br_f (by decide) ?_)
  rw [ph_mul4, nI_clamp (by omega)]
  exact ⟨vp_in_nI (by omega) (by omega), ph_xpush hn hh he k⟩
theorem ph_xe15 {post : SX → Prop} {O b x : Nat} (hn : n < 6) (hh : h < 6) (he : a_entries n = nI (h + 1)) (eo : a_emitted O = nI 15) (eb : a_emitted (O + 1) = nI b) (hb : b < 4) (hO : O + 2 ≤ 960) (hx : x < 4) (ex : f_box = nI x)
    (k : post (f_nodes, f_rules, f_version, f_count, f_at, f_place, f_number, f_imports, f_functions, f_waiting, f_fault, nI (n + 1), f_box, nI (O + 2), f_status, f_result, f_memory, a_child, a_verdict, a_ruleNode, a_before, a_nodesBefore, a_bytes, a_path, a_pathAt, a_params, a_locals, a_from, a_size, a_high, a_loaded, a_emitted, a_entry, a_pParams, a_pFunctions, a_pImports, a_pPath, a_judged, a_fine, a_newAt, a_plugin, a_quota, upd a_statics (4 * x + b) (a_slot (11 * n + 5 + h)), a_slot, a_back, upd a_entries n (nI h))) : wpX_execute post (f_nodes, f_rules, f_version, f_count, f_at, f_place, f_number, f_imports, f_functions, f_waiting, f_fault, nI (n + 1), f_box, nI O, f_status, f_result, f_memory, a_child, a_verdict, a_ruleNode, a_before, a_nodesBefore, a_bytes, a_path, a_pathAt, a_params, a_locals, a_from, a_size, a_high, a_loaded, a_emitted, a_entry, a_pParams, a_pFunctions, a_pImports, a_pPath, a_judged, a_fine, a_newAt, a_plugin, a_quota, a_statics, a_slot, a_back, a_entries) := by
  subst ex
  refine ph_xexec (op := 15) (by omega) eo hO (fun b' eb' => ?_)
  rw [eb' rfl, eb]
  unfold wX_execute_70
  refine nm_r (nI_add O 2) ?_
  repeat (first | refine br_t (by decide) ?_ | refine br_f (by decide) ?_)
  refine ph_xpop hn hh he ?_
  rw [ph_mul4, nI_clamp (by omega)]
  exact ⟨vp_in_nI (by omega) (by omega), nm_e k⟩
theorem ph_xe16 {post : SX → Prop} {O : Nat} (hn : n < 6) (hh : h < 6) (he : a_entries n = nI (h + 1)) (eo : a_emitted O = nI 16) (hO : O + 1 ≤ 960)
    (k0 : n = 0 → post (f_nodes, f_rules, f_version, f_count, f_at, f_place, f_number, f_imports, f_functions, f_waiting, f_fault, 0, f_box, nI (O + 1), f_status, a_slot (11 * n + 5 + h), f_memory, a_child, a_verdict, a_ruleNode, a_before, a_nodesBefore, a_bytes, a_path, a_pathAt, a_params, a_locals, a_from, a_size, a_high, a_loaded, a_emitted, a_entry, a_pParams, a_pFunctions, a_pImports, a_pPath, a_judged, a_fine, a_newAt, a_plugin, a_quota, a_statics, a_slot, a_back, upd a_entries n (nI h)))
    (k1 : ∀ m, n = m + 1 → ∃ h1, h1 < 6 ∧ a_entries m = nI h1 ∧ post (f_nodes, f_rules, f_version, f_count, f_at, f_place, f_number, f_imports, f_functions, f_waiting, f_fault, nI (m + 1), f_box, a_back m, f_status, f_result, f_memory, a_child, a_verdict, a_ruleNode, a_before, a_nodesBefore, a_bytes, a_path, a_pathAt, a_params, a_locals, a_from, a_size, a_high, a_loaded, a_emitted, a_entry, a_pParams, a_pFunctions, a_pImports, a_pPath, a_judged, a_fine, a_newAt, a_plugin, a_quota, a_statics, upd a_slot (11 * m + 5 + h1) (a_slot (11 * n + 5 + h)), a_back, upd (upd a_entries n (nI h)) m (nI (h1 + 1)))) :
    wpX_execute post (f_nodes, f_rules, f_version, f_count, f_at, f_place, f_number, f_imports, f_functions, f_waiting, f_fault, nI (n + 1), f_box, nI O, f_status, f_result, f_memory, a_child, a_verdict, a_ruleNode, a_before, a_nodesBefore, a_bytes, a_path, a_pathAt, a_params, a_locals, a_from, a_size, a_high, a_loaded, a_emitted, a_entry, a_pParams, a_pFunctions, a_pImports, a_pPath, a_judged, a_fine, a_newAt, a_plugin, a_quota, a_statics, a_slot, a_back, a_entries) := by
  refine ph_xexec (op := 16) (by omega) eo hO (fun b' eb' => ?_)
  unfold wX_execute_70
  refine nm_r (nI_1 O) ?_
  repeat (first | refine br_t (by decide) ?_ | refine br_f (by decide) ?_)
  unfold wpX_leave
  refine ph_xpop hn hh he (nm_r (nI_pred n) ?_)
  cases n with
  | zero => exact br_t rfl (k0 rfl)
  | succ m =>
    obtain ⟨h1, a1, a2, a3⟩ := k1 m rfl
    refine br_f (nI_ne0 (by omega) (by omega)) ?_
    rw [nI_pred, nI_clamp (by omega)]
    refine ⟨vp_in_nI (by omega) (by omega), nm_e ?_⟩
    exact ph_xpush (n := m) (by omega) a1 (by rw [pk_un (by omega)]; exact a2) a3
/-! the call -/
def ph_zr (s : Nat → Int32) (a k : Nat) : Nat → Int32 := fun j => if a ≤ j ∧ j < a + k then 0 else s j
theorem ph_zr_0 (s : Nat → Int32) (a : Nat) : ph_zr s a 0 = s := by
  funext j; unfold ph_zr; rw [if_neg (by omega)]
theorem ph_zr_s (s : Nat → Int32) (a k : Nat) : upd (ph_zr s a k) (a + k) 0 = ph_zr s a (k + 1) := by
  funext j
  by_cases e : j = a + k
  · subst e; rw [pk_us]; unfold ph_zr; rw [if_pos (by omega)]
  · rw [pk_un e]; unfold ph_zr
    by_cases c : a ≤ j ∧ j < a + k
    · rw [if_pos c, if_pos (by omega)]
    · rw [if_neg c, if_neg (by omega)]
theorem ph_xenter25 {post : SX → Prop} {m g x p e : Nat} {s : Nat → Int32} (hm : m < 6) (hx : x < 4) (hp : p < 3) (ep : a_plugin x = nI p) (hg : g < 4) (ee : a_entry (4 * p + g) = nI e)
    (k : post (f_nodes, f_rules, f_version, f_count, f_at, f_place, f_number, f_imports, f_functions, f_waiting, f_fault, nI (m + 1), nI x, nI e, f_status, f_result, f_memory, a_child, a_verdict, a_ruleNode, a_before, a_nodesBefore, a_bytes, a_path, a_pathAt, a_params, a_locals, a_from, a_size, a_high, a_loaded, a_emitted, a_entry, a_pParams, a_pFunctions, a_pImports, a_pPath, a_judged, a_fine, a_newAt, a_plugin, a_quota, a_statics, ph_zr s (11 * m) 5, a_back, upd a_entries m (nI 0))) :
    ∀ d j, j + d = 5 → wX_enter_25 post (nI g) f_nodes f_rules f_version f_count f_at f_place f_number f_imports f_functions f_waiting f_fault (nI m) (nI x) f_pc f_status f_result f_memory (d + 1) (nI j) a_child a_verdict a_ruleNode a_before a_nodesBefore a_bytes a_path a_pathAt a_params a_locals a_from a_size a_high a_loaded a_emitted a_entry a_pParams a_pFunctions a_pImports a_pPath a_judged a_fine a_newAt a_plugin a_quota a_statics (ph_zr s (11 * m) j) a_back a_entries := by
  intro d
  induction d with
  | zero =>
    intro j hj
    have ej : j = 5 := by omega
    subst ej
    rw [wX_enter_25]
    dsimp only
    rw [nI_clamp (by omega : x < 2 ^ 31), ep, ph_mul4, nI_clamp (by omega : m < 2 ^ 31), nI_clamp (by omega)]
    exact br_t (nI_le (a := 5) (b := 5) (by omega) (by omega)) (nm_r (nI_1 m) ⟨vp_in_nI hm (by omega), nm_r (e' := upd a_entries m (nI 0)) (by rw [ph_nb0]; rfl) ⟨vp_in_nI hx (by omega), vp_in_nI (by omega) (by omega), nm_r ee k⟩⟩)
  | succ d ih =>
    intro j hj
    rw [wX_enter_25]
    dsimp only
    rw [show 11 * nI m + nI j = nI (11 * m + j) by rw [show (11 : Int32) = nI 11 from rfl, pk_mul, nI_add], nI_clamp (by omega : 11 * m + j < 2 ^ 31)]
    exact br_f (nI_ge (a := j) (b := 5) (by omega) (by omega)) ⟨vp_in_nI (by omega) (by omega), nm_r (ph_zr_s s (11 * m) j) (nm_r (nI_1 j) (ih (j + 1) (by omega)))⟩
theorem ph_xenter {post : SX → Prop} {m g x p e P : Nat} (hm : m < 6) (hx : x < 4) (hp : p < 3) (ep : a_plugin x = nI p) (hg : g < 4) (ee : a_entry (4 * p + g) = nI e) (hP : P < 32768)
    (k0 : m = 0 → post (f_nodes, f_rules, f_version, f_count, f_at, f_place, f_number, f_imports, f_functions, f_waiting, f_fault, nI 1, nI x, nI e, f_status, f_result, f_memory, a_child, a_verdict, a_ruleNode, a_before, a_nodesBefore, a_bytes, a_path, a_pathAt, a_params, a_locals, a_from, a_size, a_high, a_loaded, a_emitted, a_entry, a_pParams, a_pFunctions, a_pImports, a_pPath, a_judged, a_fine, a_newAt, a_plugin, a_quota, a_statics, ph_zr a_slot 0 5, a_back, upd a_entries 0 (nI 0)))
    (k1 : ∀ n, m = n + 1 → post (f_nodes, f_rules, f_version, f_count, f_at, f_place, f_number, f_imports, f_functions, f_waiting, f_fault, nI (m + 1), nI x, nI e, f_status, f_result, f_memory, a_child, a_verdict, a_ruleNode, a_before, a_nodesBefore, a_bytes, a_path, a_pathAt, a_params, a_locals, a_from, a_size, a_high, a_loaded, a_emitted, a_entry, a_pParams, a_pFunctions, a_pImports, a_pPath, a_judged, a_fine, a_newAt, a_plugin, a_quota, a_statics, ph_zr a_slot (11 * m) 5, upd a_back n (nI P), upd a_entries m (nI 0))) :
    wpX_enter post (f_nodes, f_rules, f_version, f_count, f_at, f_place, f_number, f_imports, f_functions, f_waiting, f_fault, nI m, nI x, nI P, f_status, f_result, f_memory, a_child, a_verdict, a_ruleNode, a_before, a_nodesBefore, a_bytes, a_path, a_pathAt, a_params, a_locals, a_from, a_size, a_high, a_loaded, a_emitted, a_entry, a_pParams, a_pFunctions, a_pImports, a_pPath, a_judged, a_fine, a_newAt, a_plugin, a_quota, a_statics, a_slot, a_back, a_entries) (nI g) := by
  unfold wpX_enter
  cases m with
  | zero =>
    refine br_t (by decide) ⟨6, ?_⟩
    have J := ph_xenter25 (post := post) (m := 0) (s := a_slot) (f_pc := nI P) (by omega) hx hp ep hg ee (k0 rfl) 5 0 (by omega)
    rw [ph_zr_0] at J
    exact J
  | succ n =>
    refine br_f (nI_nle (by omega) (by omega)) ?_
    rw [nI_pred, nI_clamp (by omega)]
    refine ⟨vp_in_nI (by omega) (by omega), nm_r (e' := upd a_back n (nI P)) (by rw [ph_nss hP]) ⟨6, ?_⟩⟩
    have J := ph_xenter25 (post := post) (m := n + 1) (s := a_slot) (f_pc := nI P) (a_back := upd a_back n (nI P)) (by omega) hx hp ep hg ee (k1 n rfl) 5 0 (by omega)
    rw [ph_zr_0] at J
    exact J
/-- the slots with a new frame behind frame n: its first np locals are the entries from h on -/
def ph_nsl (s : Nat → Int32) (n h np : Nat) : Nat → Int32 :=
  upd (upd (ph_zr s (11 * (n + 1)) 5) (11 * (n + 1)) (if 0 < np then s (11 * n + 5 + h) else 0)) (11 * (n + 1) + 1) (if 1 < np then s (11 * n + 5 + h + 1) else 0)
theorem ph_nsl_lo {s : Nat → Int32} {n h np j : Nat} (hj : j < 11 * (n + 1)) : ph_nsl s n h np j = s j := by
  unfold ph_nsl
  rw [pk_un (by omega), pk_un (by omega)]
  unfold ph_zr; rw [if_neg (by omega)]
theorem ph_nsl_hi {s : Nat → Int32} {n h np j : Nat} (hnp : np ≤ 2) (hj : j < 5) : ph_nsl s n h np (11 * (n + 1) + j) = if j < np then s (11 * n + 5 + h + j) else 0 := by
  unfold ph_nsl
  rcases (by omega : j = 0 ∨ j = 1 ∨ 2 ≤ j) with y | y | y
  · subst y
    rw [pk_un (by omega)]
    exact pk_us (k := 11 * (n + 1))
  · subst y
    rw [pk_us]
  · rw [pk_un (by omega), pk_un (by omega), if_neg (by omega)]
    unfold ph_zr; rw [if_pos (by omega)]
theorem ph_xe12 {post : SX → Prop} {O g x p e np : Nat} (hn : n < 6) (hh : h + np ≤ 6) (hnp : np ≤ 2) (he : a_entries n = nI (h + np)) (eo : a_emitted O = nI 12) (eb : a_emitted (O + 1) = nI g) (hg : g < 4) (hO : O + 2 ≤ 960)
    (hx : x < 4) (ex : f_box = nI x) (hp : p < 3) (ep : a_plugin x = nI p) (ee : a_entry (4 * p + g) = nI e) (epp : a_pParams (4 * p + g) = nI np)
    (k0 : n = 5 → post (f_nodes, f_rules, f_version, f_count, f_at, f_place, f_number, f_imports, f_functions, f_waiting, f_fault, 0, f_box, nI (O + 2), 3, f_result, f_memory, a_child, a_verdict, a_ruleNode, a_before, a_nodesBefore, a_bytes, a_path, a_pathAt, a_params, a_locals, a_from, a_size, a_high, a_loaded, a_emitted, a_entry, a_pParams, a_pFunctions, a_pImports, a_pPath, a_judged, a_fine, a_newAt, a_plugin, a_quota, a_statics, a_slot, a_back, a_entries))
    (k1 : n < 5 → post (f_nodes, f_rules, f_version, f_count, f_at, f_place, f_number, f_imports, f_functions, f_waiting, f_fault, nI (n + 2), f_box, nI e, f_status, f_result, f_memory, a_child, a_verdict, a_ruleNode, a_before, a_nodesBefore, a_bytes, a_path, a_pathAt, a_params, a_locals, a_from, a_size, a_high, a_loaded, a_emitted, a_entry, a_pParams, a_pFunctions, a_pImports, a_pPath, a_judged, a_fine, a_newAt, a_plugin, a_quota, a_statics, ph_nsl a_slot n h np, upd a_back n (nI (O + 2)), upd (upd a_entries n (nI h)) (n + 1) (nI 0))) : wpX_execute post (f_nodes, f_rules, f_version, f_count, f_at, f_place, f_number, f_imports, f_functions, f_waiting, f_fault, nI (n + 1), f_box, nI O, f_status, f_result, f_memory, a_child, a_verdict, a_ruleNode, a_before, a_nodesBefore, a_bytes, a_path, a_pathAt, a_params, a_locals, a_from, a_size, a_high, a_loaded, a_emitted, a_entry, a_pParams, a_pFunctions, a_pImports, a_pPath, a_judged, a_fine, a_newAt, a_plugin, a_quota, a_statics, a_slot, a_back, a_entries) := by
  subst ex
  refine ph_xexec (op := 12) (by omega) eo hO (fun b' eb' => ?_)
  rw [eb' rfl, eb]
  unfold wX_execute_70
  refine nm_r (nI_add O 2) ?_
  repeat (first | refine br_t (by decide) ?_ | refine br_f (by decide) ?_)
  unfold wpX_callFunction
  refine pk_eq (n + 1) 6 (fun z => k0 (by omega)) (fun z => ?_)
  rw [nI_clamp (by omega : x < 2 ^ 31), ep, ph_mul4, nI_clamp (by omega)]
  refine ⟨vp_in_nI hx (by omega), vp_in_nI (by omega) (by omega), nm_r epp ?_⟩
  have h60 : ∀ (v1 v2 : Int32), (v1 = if 0 < np then a_slot (11 * n + 5 + h) else 0) → (v2 = if 1 < np then a_slot (11 * n + 5 + h + 1) else 0) →
      wX_callFunction_60 (fun u => match u with | (f_nodes_1, f_rules_1, f_version_1, f_count_1, f_at_1, f_place_1, f_number_1, f_imports_1, f_functions_1, f_waiting_1, f_fault_1, f_frames_1, f_box_1, f_pc_1, f_status_1, f_result_1, f_memory_1, a_child_1, a_verdict_1, a_ruleNode_1, a_before_1, a_nodesBefore_1, a_bytes_1, a_path_1, a_pathAt_1, a_params_1, a_locals_1, a_from_1, a_size_1, a_high_1, a_loaded_1, a_emitted_1, a_entry_1, a_pParams_1, a_pFunctions_1, a_pImports_1, a_pPath_1, a_judged_1, a_fine_1, a_newAt_1, a_plugin_1, a_quota_1, a_statics_1, a_slot_1, a_back_1, a_entries_1) => post (f_nodes_1, f_rules_1, f_version_1, f_count_1, f_at_1, f_place_1, f_number_1, f_imports_1, f_functions_1, f_waiting_1, f_fault_1, f_frames_1, f_box_1, f_pc_1, f_status_1, f_result_1, f_memory_1, a_child_1, a_verdict_1, a_ruleNode_1, a_before_1, a_nodesBefore_1, a_bytes_1, a_path_1, a_pathAt_1, a_params_1, a_locals_1, a_from_1, a_size_1, a_high_1, a_loaded_1, a_emitted_1, a_entry_1, a_pParams_1, a_pFunctions_1, a_pImports_1, a_pPath_1, a_judged_1, a_fine_1, a_newAt_1, a_plugin_1, a_quota_1, a_statics_1, a_slot_1, a_back_1, a_entries_1)) (nI g) v2 v1 f_nodes f_rules f_version f_count f_at f_place f_number f_imports f_functions f_waiting f_fault (nI (n + 1)) (nI x) (nI (O + 2)) f_status f_result f_memory a_child a_verdict a_ruleNode a_before a_nodesBefore a_bytes a_path a_pathAt a_params a_locals a_from a_size a_high a_loaded a_emitted a_entry a_pParams a_pFunctions a_pImports a_pPath a_judged a_fine a_newAt a_plugin a_quota a_statics a_slot a_back (upd a_entries n (nI h)) := by
    intro v1 v2 e1 e2
    unfold wX_callFunction_60
    refine ph_xenter (m := n + 1) (by omega) hx hp ep hg ee (by omega) (fun z => by omega) (fun n' z => ?_)
    have en : n' = n := by omega
    subst en
    dsimp only
    rw [ph_fr11, ph_fr10, nI_clamp (by omega), nI_clamp (by omega)]
    rw [e1, e2]
    exact ⟨vp_in_nI (by omega) (by omega), nm_e ⟨vp_in_nI (by omega) (by omega), nm_e (k1 (by omega))⟩⟩
  rcases (by omega : np = 0 ∨ np = 1 ∨ np = 2) with y | y | y
  · subst y
    refine br_t (by decide) ?_
    unfold wX_callFunction_47
    have J := h60 0 0 rfl rfl
    have ee2 : upd a_entries n (nI h) = a_entries := by
      funext j
      by_cases c : j = n
      · subst c; rw [pk_us]; exact he.symm
      · rw [pk_un c]
    rw [ee2] at J
    exact br_t (by decide) J
  · subst y
    refine br_t (by decide) ?_
    unfold wX_callFunction_47
    refine br_f (by decide) (ph_xpop hn (by omega) he (h60 _ _ rfl rfl))
  · subst y
    refine br_f (by decide) (ph_xpop (h := h + 1) hn (by omega) he ?_)
    unfold wX_callFunction_47
    refine br_f (by decide) (ph_xpop (h := h) hn (by omega) pk_us ?_)
    rw [ph_uu]
    exact h60 _ _ rfl rfl
end
end
section
/-! ===== the reference's single steps ===== -/
theorem ph_5 (n k : Nat) : nI n * 5 + nI k = nI (5 * n + k) := by rw [show (5 : Int32) = nI 5 from rfl, pk_mul, nI_add, Nat.mul_comm]
theorem ph_4' (n k : Nat) : nI n * 4 + nI k = nI (4 * n + k) := by rw [show (4 : Int32) = nI 4 from rfl, pk_mul, nI_add, Nat.mul_comm]
section
variable {g_rules g_place g_number g_pos g_finding g_active g_result : Int32} {g_memory : Int64} {b_ruleParts b_rulePath b_ruleAllows b_bytes b_length b_present b_ways b_boxPlugin b_boxQuota b_boxOpen b_statics b_aFn b_aPos b_aHigh b_aLocal b_aEntry : Nat → Int32}
variable {B : Nat → Nat} {L p f i n h x : Nat}
theorem ph_ygive {post : SY → Prop} {v : Int32} (hn : n < 6) (hh : h < 7) (he : b_aHigh n = nI h)
    (k : post (g_rules, g_place, g_number, g_pos, g_finding, nI (n + 1), g_result, g_memory, b_ruleParts, b_rulePath, b_ruleAllows, b_bytes, b_length, b_present, b_ways, b_boxPlugin, b_boxQuota, b_boxOpen, b_statics, b_aFn, b_aPos, upd b_aHigh n (nI (h + 1)), b_aLocal, upd b_aEntry (7 * n + h) v)) : wpY_give post (g_rules, g_place, g_number, g_pos, g_finding, nI (n + 1), g_result, g_memory, b_ruleParts, b_rulePath, b_ruleAllows, b_bytes, b_length, b_present, b_ways, b_boxPlugin, b_boxQuota, b_boxOpen, b_statics, b_aFn, b_aPos, b_aHigh, b_aLocal, b_aEntry) v := by
  have hin : vp_in (nI n) 6 := vp_in_nI hn (by omega)
  unfold wpY_give
  refine nm_r (nI_pred n) ?_
  rw [nI_clamp (by omega), he, ph_7, nI_add, nI_clamp (by omega), nI_1]
  exact ⟨hin, vp_in_nI (by omega) (by omega), nm_e ⟨hin, hin, nm_e k⟩⟩
theorem ph_yenter37 {post : SY → Prop} {m : Nat} {s : Nat → Int32} (hm : m < 6) (k : post (g_rules, g_place, g_number, g_pos, g_finding, nI (m + 1), g_result, g_memory, b_ruleParts, b_rulePath, b_ruleAllows, b_bytes, b_length, b_present, b_ways, b_boxPlugin, b_boxQuota, b_boxOpen, b_statics, b_aFn, b_aPos, b_aHigh, ph_zr s (5 * m) 5, b_aEntry)) :
    ∀ d j, j + d = 5 → wY_enter_37 post g_rules g_place g_number g_pos g_finding (nI m) g_result g_memory (d + 1) (nI j) b_ruleParts b_rulePath b_ruleAllows b_bytes b_length b_present b_ways b_boxPlugin b_boxQuota b_boxOpen b_statics b_aFn b_aPos b_aHigh (ph_zr s (5 * m) j) b_aEntry := by
  intro d
  induction d with
  | zero =>
    intro j hj
    have ej : j = 5 := by omega
    subst ej
    rw [wY_enter_37]
    exact br_t (nI_le (a := 5) (b := 5) (by omega) (by omega)) (nm_r (nI_1 m) k)
  | succ d ih =>
    intro j hj
    rw [wY_enter_37]
    dsimp only
    rw [ph_5, nI_clamp (by omega)]
    exact br_f (nI_ge (a := j) (b := 5) (by omega) (by omega)) ⟨vp_in_nI (by omega) (by omega), nm_r (ph_zr_s s (5 * m) j) (nm_r (nI_1 j) (ih (j + 1) (by omega)))⟩
theorem ph_yenter {post : SY → Prop} {m g : Nat} (hp : p < 4) (hB : ph_BY B L p b_bytes) (hW : ph_WF B L) (hg : g < ph_nf B) (hm : m < 6)
    (k : post (g_rules, g_place, g_number, g_pos, g_finding, nI (m + 1), g_result, g_memory, b_ruleParts, b_rulePath, b_ruleAllows, b_bytes, b_length, b_present, b_ways, b_boxPlugin, b_boxQuota, b_boxOpen, b_statics, upd b_aFn m (nI g), upd b_aPos m (nI (120 * p + ph_hd B g + 3)), upd b_aHigh m (nI 0), ph_zr b_aLocal (5 * m) 5, b_aEntry)) : wpY_enter post (g_rules, g_place, g_number, g_pos, g_finding, nI m, g_result, g_memory, b_ruleParts, b_rulePath, b_ruleAllows, b_bytes, b_length, b_present, b_ways, b_boxPlugin, b_boxQuota, b_boxOpen, b_statics, b_aFn, b_aPos, b_aHigh, b_aLocal, b_aEntry) (nI p) (nI g) := by
  have hin : vp_in (nI m) 6 := vp_in_nI hm (by omega)
  unfold wpY_enter
  try dsimp only
  rw [nI_clamp (by omega)]
  refine ⟨hin, nm_e (ph_ycodeStart hp hB hW hg ⟨hin, nm_e ⟨hin, nm_e ⟨6, ?_⟩⟩⟩)⟩
  have J := ph_yenter37 (post := post) (m := m) (s := b_aLocal) (b_aFn := upd b_aFn m (nI g)) (b_aPos := upd b_aPos m (nI (120 * p + ph_hd B g + 3))) (b_aHigh := upd b_aHigh m (nI 0)) hm k 5 0 (by omega)
  rw [ph_zr_0] at J
  exact J
/-! from the start of the instruction to its work: op the code, b the operand, v and u the two upper entries -/
theorem ph_ys79 {post : Int32 → SY → Prop} (hp : p < 4) (hB : ph_BY B L p b_bytes) (hW : ph_WF B L) (hf : f < ph_nf B) (hi : i + ph_wd (ph_cdo B f i) ≤ ph_sz B f) (hn : n < 6) (h6 : h ≤ 6) (he : b_aHigh n = nI h)
    (K : ∀ (b : Nat) (v u : Int32), (ph_wd (ph_cdo B f i) = 2 → b = ph_cdo B f (i + 1)) → (∀ h', h = h' + 1 → v = b_aEntry (7 * n + h')) → (∀ h', h = h' + 2 → u = b_aEntry (7 * n + h')) →
      wY_step_159 post (nI p) (nI x) (nI n) (nI (120 * p + ph_hd B f + 3 + i)) (nI (ph_cdo B f i)) (nI b) (nI h) v u g_rules g_place g_number g_pos g_finding g_active g_result g_memory b_ruleParts b_rulePath b_ruleAllows b_bytes b_length b_present b_ways b_boxPlugin b_boxQuota b_boxOpen b_statics b_aFn b_aPos b_aHigh b_aLocal b_aEntry) :
    wY_step_79 post (nI p) (nI x) (nI n) (nI (120 * p + ph_hd B f + 3 + i)) (nI (ph_cdo B f i)) g_rules g_place g_number g_pos g_finding g_active g_result g_memory b_ruleParts b_rulePath b_ruleAllows b_bytes b_length b_present b_ways b_boxPlugin b_boxQuota b_boxOpen b_statics b_aFn b_aPos b_aHigh b_aLocal b_aEntry := by
  have hwd := ph_wd_b (ph_cdo B f i)
  have hb := ph_hd_b hW hf
  have hsz : B (ph_hd B f + 2) = ph_sz B f := rfl
  rw [hsz] at hb
  obtain ⟨ey, hc⟩ := ph_yb (p := p) (i := i) hB hW hf (by omega)
  have h100 : ∀ b : Nat, (ph_wd (ph_cdo B f i) = 2 → b = ph_cdo B f (i + 1)) → wY_step_100 post (nI p) (nI x) (nI n) (nI (120 * p + ph_hd B f + 3 + i)) (nI (ph_cdo B f i)) (nI b) g_rules g_place g_number g_pos g_finding g_active g_result g_memory b_ruleParts b_rulePath b_ruleAllows b_bytes b_length b_present b_ways b_boxPlugin b_boxQuota b_boxOpen b_statics b_aFn b_aPos b_aHigh b_aLocal b_aEntry := by
    intro b eb
    unfold wY_step_100
    rw [nI_clamp (by omega)]
    refine ⟨vp_in_nI hn (by omega), nm_r he ?_⟩
    have h133 : ∀ v : Int32, (∀ h', h = h' + 1 → v = b_aEntry (7 * n + h')) → wY_step_133 post (nI p) (nI x) (nI n) (nI (120 * p + ph_hd B f + 3 + i)) (nI (ph_cdo B f i)) (nI b) (nI h) v g_rules g_place g_number g_pos g_finding g_active g_result g_memory b_ruleParts b_rulePath b_ruleAllows b_bytes b_length b_present b_ways b_boxPlugin b_boxQuota b_boxOpen b_statics b_aFn b_aPos b_aHigh b_aLocal b_aEntry := by
      intro v ev
      unfold wY_step_133
      refine pk_le h 1 (fun z => K b v 0 eb ev (fun h' e => by omega)) (fun z => ?_)
      obtain ⟨h', eh⟩ : ∃ h', h = h' + 2 := ⟨h - 2, by omega⟩
      rw [ph_7, nI_add, show (2 : Int32) = nI 2 from rfl, pk_sub (by omega), show 7 * n + h - 2 = 7 * n + h' by omega, nI_clamp (by omega)]
      exact ⟨vp_in_nI (by omega) (by omega), K b v _ eb ev (fun h'' e => by rw [show h'' = h' by omega])⟩
    refine pk_le h 0 (fun z => h133 0 (fun h' e => by omega)) (fun z => ?_)
    obtain ⟨h', eh⟩ : ∃ h', h = h' + 1 := ⟨h - 1, by omega⟩
    rw [ph_7, nI_add, eh, show 7 * n + (h' + 1) = 7 * n + h' + 1 from rfl, nI_pred, nI_clamp (by omega)]
    rw [eh] at h133
    exact ⟨vp_in_nI (by omega) (by omega), h133 _ (fun h'' e => by rw [show h'' = h' by omega])⟩
  unfold wY_step_79
  refine ph_ywide hc (fun w => br_t rfl (h100 0 (fun z => by omega))) (fun w => br_f (by decide) ?_)
  obtain ⟨ey', hc'⟩ := ph_yb (p := p) (i := i + 1) hB hW hf (by omega)
  rw [nI_1, nI_clamp (by omega), show 120 * p + ph_hd B f + 3 + i + 1 = 120 * p + ph_hd B f + 3 + (i + 1) by omega, ey']
  exact ⟨vp_in_nI (by omega) (by omega), h100 _ (fun _ => rfl)⟩
theorem ph_y237 {post : Int32 → SY → Prop} {x2 x3 x4' x6 x7 x8 x9 z0 : Int32} {at' op : Nat} (ho : op < 256) (k : wY_step_256 post x2 x3 x4' (nI at') (nI op) x6 x7 x8 x9 (nI (at' + ph_wd op)) z0 g_rules g_place g_number g_pos g_finding g_active g_result g_memory b_ruleParts b_rulePath b_ruleAllows b_bytes b_length b_present b_ways b_boxPlugin b_boxQuota b_boxOpen b_statics b_aFn b_aPos b_aHigh b_aLocal b_aEntry) :
    wY_step_237 post x2 x3 x4' (nI at') (nI op) x6 x7 x8 x9 z0 g_rules g_place g_number g_pos g_finding g_active g_result g_memory b_ruleParts b_rulePath b_ruleAllows b_bytes b_length b_present b_ways b_boxPlugin b_boxQuota b_boxOpen b_statics b_aFn b_aPos b_aHigh b_aLocal b_aEntry := by
  unfold wY_step_237
  refine ph_ywide ho (fun w => br_t rfl ?_) (fun w => br_f (by decide) ?_)
  · rw [w] at k; rw [nI_1]; exact k
  · rw [w] at k; rw [ph_p2]; exact k
theorem ph_y256 {post : Int32 → SY → Prop} {x6 x8 x9 np : Int32} (hp : p < 4) (hB : ph_BY B L p b_bytes) (hW : ph_WF B L) (hf : f < ph_nf B)
    (hC : ph_isbad (ph_nf B) (B 1) (B (ph_hd B f) + B (ph_hd B f + 1)) (ph_sz B f) (ph_cdo B f) i = false) (hi : i < ph_sz B f) (hn : n < 6) (ht : ph_tk B (ph_cdo B f) i ≤ h) (h2 : ph_cdo B f i ≠ 2)
    (k : wY_step_292 post (nI p) (nI x) (nI n) (nI (ph_cdo B f i)) x6 x8 x9 g_rules g_place g_number g_pos g_finding g_active g_result g_memory b_ruleParts b_rulePath b_ruleAllows b_bytes b_length b_present b_ways b_boxPlugin b_boxQuota b_boxOpen b_statics b_aFn (upd b_aPos n np) (upd b_aHigh n (nI (h - ph_tk B (ph_cdo B f) i))) b_aLocal b_aEntry) :
    wY_step_256 post (nI p) (nI x) (nI n) (nI (120 * p + ph_hd B f + 3 + i)) (nI (ph_cdo B f i)) x6 (nI h) x8 x9 np (nI n) g_rules g_place g_number g_pos g_finding g_active g_result g_memory b_ruleParts b_rulePath b_ruleAllows b_bytes b_length b_present b_ways b_boxPlugin b_boxQuota b_boxOpen b_statics b_aFn b_aPos b_aHigh b_aLocal b_aEntry := by
  obtain ⟨g1, g2, g3⟩ := ph_isbad_f hC
  unfold wY_step_256
  rw [nI_clamp (by omega)]
  refine ⟨vp_in_nI hn (by omega), nm_e (ph_ytakes hp hB hW hf hC hi ⟨vp_in_nI hn (by omega), nm_r (e' := upd b_aHigh n (nI (h - ph_tk B (ph_cdo B f) i))) (by rw [pk_sub ht]) ?_⟩)⟩
  exact br_f (fun z => h2 ((nI_eq (b := 2) (by omega) (by omega)).mp z)) k
/-- the calculations, loads and pushes -/
theorem ph_y433 {post : Int32 → SY → Prop} {v : Int32} (hn : n < 6) (hh : h < 7) (he : b_aHigh n = nI h)
    (k : post (-1) (g_rules, g_place, g_number, g_pos, g_finding, nI (n + 1), g_result, g_memory, b_ruleParts, b_rulePath, b_ruleAllows, b_bytes, b_length, b_present, b_ways, b_boxPlugin, b_boxQuota, b_boxOpen, b_statics, b_aFn, b_aPos, upd b_aHigh n (nI (h + 1)), b_aLocal, upd b_aEntry (7 * n + h) v)) : wY_step_433 post v g_rules g_place g_number g_pos g_finding (nI (n + 1)) g_result g_memory b_ruleParts b_rulePath b_ruleAllows b_bytes b_length b_present b_ways b_boxPlugin b_boxQuota b_boxOpen b_statics b_aFn b_aPos b_aHigh b_aLocal b_aEntry := by
  unfold wY_step_433
  exact ph_ygive hn hh he k
theorem ph_yo0 {post : Int32 → SY → Prop} (hp : p < 4) (hB : ph_BY B L p b_bytes) (hW : ph_WF B L) (hf : f < ph_nf B)
    (hC : ph_isbad (ph_nf B) (B 1) (B (ph_hd B f) + B (ph_hd B f + 1)) (ph_sz B f) (ph_cdo B f) i = false) (hi : i < ph_sz B f) (hn : n < 6) (h6 : h < 6) (he : b_aHigh n = nI h) (hx : x < 4) (v : Int32)
    (ho : (ph_cdo B f i = 0 ∧ v = ph_sv (ph_cdo B f (i + 1))) ∨ (ph_cdo B f i = 1 ∧ ph_cdo B f (i + 1) < 5 ∧ v = b_aLocal (5 * n + ph_cdo B f (i + 1))) ∨ (ph_cdo B f i = 14 ∧ ph_cdo B f (i + 1) < 4 ∧ v = b_statics (4 * x + ph_cdo B f (i + 1))))
    (k : post (-1) (g_rules, g_place, g_number, g_pos, g_finding, nI (n + 1), g_result, g_memory, b_ruleParts, b_rulePath, b_ruleAllows, b_bytes, b_length, b_present, b_ways, b_boxPlugin, b_boxQuota, b_boxOpen, b_statics, b_aFn, upd b_aPos n (nI (120 * p + ph_hd B f + 3 + i + 2)), upd b_aHigh n (nI (h + 1)), b_aLocal, upd b_aEntry (7 * n + h) v)) :
    wY_step_79 post (nI p) (nI x) (nI n) (nI (120 * p + ph_hd B f + 3 + i)) (nI (ph_cdo B f i)) g_rules g_place g_number g_pos g_finding (nI (n + 1)) g_result g_memory b_ruleParts b_rulePath b_ruleAllows b_bytes b_length b_present b_ways b_boxPlugin b_boxQuota b_boxOpen b_statics b_aFn b_aPos b_aHigh b_aLocal b_aEntry := by
  have hg := ph_isbad_f hC
  have hw : ph_wd (ph_cdo B f i) = 2 := if_pos (by omega)
  have htk : ph_tk B (ph_cdo B f) i = 0 := by
    rw [ph_tk_n (by omega)]
    rcases ho with z | z | z <;> rw [z.1] <;> rfl
  refine ph_ys79 hp hB hW hf hg.2.1 hn (by omega) he (fun b v' u' eb _ _ => ?_)
  rw [eb hw]
  have h256 : wY_step_256 post (nI p) (nI x) (nI n) (nI (120 * p + ph_hd B f + 3 + i)) (nI (ph_cdo B f i)) (nI (ph_cdo B f (i + 1))) (nI h) v' u' (nI (120 * p + ph_hd B f + 3 + i + ph_wd (ph_cdo B f i))) (nI n) g_rules g_place g_number g_pos g_finding (nI (n + 1)) g_result g_memory b_ruleParts b_rulePath b_ruleAllows b_bytes b_length b_present b_ways b_boxPlugin b_boxQuota b_boxOpen b_statics b_aFn b_aPos b_aHigh b_aLocal b_aEntry := by
    refine ph_y256 hp hB hW hf hC hi hn (by omega) (by omega) ?_
    rw [htk, hw]
    have h433 : wY_step_433 post v g_rules g_place g_number g_pos g_finding (nI (n + 1)) g_result g_memory b_ruleParts b_rulePath b_ruleAllows b_bytes b_length b_present b_ways b_boxPlugin b_boxQuota b_boxOpen b_statics b_aFn (upd b_aPos n (nI (120 * p + ph_hd B f + 3 + i + 2))) (upd b_aHigh n (nI (h - 0))) b_aLocal b_aEntry := by
      refine ph_y433 (h := h) hn (by omega) pk_us ?_
      rw [ph_uu]; exact k
    unfold wY_step_292
    rcases ho with ⟨z, e⟩ | ⟨z, q, e⟩ | ⟨z, q, e⟩
    · rw [z]
      refine br_f (by decide) ?_
      unfold wY_step_312
      refine br_f (by decide) ?_
      unfold wY_step_325
      refine br_f (by decide) (ph_ygives (by omega) (br_f (by decide) (br_t rfl ?_)))
      rw [e] at h433
      exact h433
    · rw [z]
      refine br_f (by decide) ?_
      unfold wY_step_312
      refine br_f (by decide) ?_
      unfold wY_step_325
      rw [ph_5, nI_clamp (by omega)]
      rw [e] at h433
      exact br_f (by decide) (ph_ygives (by omega) (br_f (by decide) (br_f (by decide) (br_t rfl ⟨vp_in_nI (by omega) (by omega), h433⟩))))
    · rw [z]
      refine br_f (by decide) ?_
      unfold wY_step_312
      refine br_f (by decide) ?_
      unfold wY_step_325
      rw [ph_4', nI_clamp (by omega)]
      rw [e] at h433
      exact br_f (by decide) (ph_ygives (by omega) (br_f (by decide) (br_f (by decide) (br_f (by decide) (br_f (by decide) (br_t rfl ⟨vp_in_nI (by omega) (by omega), h433⟩))))))
  have h237 := ph_y237 (by omega) h256
  unfold wY_step_159
  unfold wY_step_175
  rcases ho with ⟨z, -⟩ | ⟨z, -, -⟩ | ⟨z, -, -⟩ <;> rw [z] at h237 ⊢ <;>
    exact br_f (by decide) (br_f (by decide) (br_f (by decide) (br_f (by decide) (br_f (by decide) h237))))
theorem ph_yo2 {post : Int32 → SY → Prop} (hp : p < 4) (hB : ph_BY B L p b_bytes) (hW : ph_WF B L) (hf : f < ph_nf B)
    (hC : ph_isbad (ph_nf B) (B 1) (B (ph_hd B f) + B (ph_hd B f + 1)) (ph_sz B f) (ph_cdo B f) i = false) (hi : i < ph_sz B f) (hn : n < 6) (h6 : h < 6) (he : b_aHigh n = nI (h + 1)) (ho : ph_cdo B f i = 2) (hb : ph_cdo B f (i + 1) < 5)
    (k : post (-1) (g_rules, g_place, g_number, g_pos, g_finding, nI (n + 1), g_result, g_memory, b_ruleParts, b_rulePath, b_ruleAllows, b_bytes, b_length, b_present, b_ways, b_boxPlugin, b_boxQuota, b_boxOpen, b_statics, b_aFn, upd b_aPos n (nI (120 * p + ph_hd B f + 3 + i + 2)), upd b_aHigh n (nI h), upd b_aLocal (5 * n + ph_cdo B f (i + 1)) (b_aEntry (7 * n + h)), b_aEntry)) :
    wY_step_79 post (nI p) (nI x) (nI n) (nI (120 * p + ph_hd B f + 3 + i)) (nI (ph_cdo B f i)) g_rules g_place g_number g_pos g_finding (nI (n + 1)) g_result g_memory b_ruleParts b_rulePath b_ruleAllows b_bytes b_length b_present b_ways b_boxPlugin b_boxQuota b_boxOpen b_statics b_aFn b_aPos b_aHigh b_aLocal b_aEntry := by
  have hg := ph_isbad_f hC
  have hw : ph_wd (ph_cdo B f i) = 2 := if_pos (by omega)
  have htk : ph_tk B (ph_cdo B f) i = 1 := by rw [ph_tk_n (by omega), ho]; rfl
  refine ph_ys79 hp hB hW hf hg.2.1 hn (by omega) he (fun b v' u' eb ev _ => ?_)
  rw [eb hw, ev h rfl]
  have h256 : wY_step_256 post (nI p) (nI x) (nI n) (nI (120 * p + ph_hd B f + 3 + i)) (nI (ph_cdo B f i)) (nI (ph_cdo B f (i + 1))) (nI (h + 1)) (b_aEntry (7 * n + h)) u' (nI (120 * p + ph_hd B f + 3 + i + ph_wd (ph_cdo B f i))) (nI n) g_rules g_place g_number g_pos g_finding (nI (n + 1)) g_result g_memory b_ruleParts b_rulePath b_ruleAllows b_bytes b_length b_present b_ways b_boxPlugin b_boxQuota b_boxOpen b_statics b_aFn b_aPos b_aHigh b_aLocal b_aEntry := by
    unfold wY_step_256
    rw [nI_clamp (by omega), ph_5, nI_clamp (by omega), hw]
    refine ⟨vp_in_nI hn (by omega), nm_e (ph_ytakes hp hB hW hf hC hi ⟨vp_in_nI hn (by omega), nm_r (e' := upd b_aHigh n (nI h)) (by rw [htk, pk_sub (by omega)]; rfl) ?_⟩)⟩
    rw [ho]
    refine br_t rfl ⟨vp_in_nI (by omega) (by omega), nm_e ?_⟩
    unfold wY_step_292
    refine br_f (by decide) ?_
    unfold wY_step_312
    refine br_f (by decide) ?_
    unfold wY_step_325
    exact br_f (by decide) (ph_ygives (by omega) (br_t (by decide) k))
  have h237 := ph_y237 (by omega) h256
  unfold wY_step_159
  unfold wY_step_175
  rw [ho] at h237 ⊢
  exact br_f (by decide) (br_f (by decide) (br_f (by decide) (br_f (by decide) (br_f (by decide) h237))))
theorem ph_yo37 {post : Int32 → SY → Prop} (hp : p < 4) (hB : ph_BY B L p b_bytes) (hW : ph_WF B L) (hf : f < ph_nf B)
    (hC : ph_isbad (ph_nf B) (B 1) (B (ph_hd B f) + B (ph_hd B f + 1)) (ph_sz B f) (ph_cdo B f) i = false) (hi : i < ph_sz B f) (hn : n < 6) (h6 : h < 5) (he : b_aHigh n = nI (h + 2)) (ho : 3 ≤ ph_cdo B f i ∧ ph_cdo B f i ≤ 7)
    (k : (ph_cdo B f i = 6 → b_aEntry (7 * n + (h + 1)) ≠ 0) → post (-1) (g_rules, g_place, g_number, g_pos, g_finding, nI (n + 1), g_result, g_memory, b_ruleParts, b_rulePath, b_ruleAllows, b_bytes, b_length, b_present, b_ways, b_boxPlugin, b_boxQuota, b_boxOpen, b_statics, b_aFn, upd b_aPos n (nI (120 * p + ph_hd B f + 3 + i + 1)), upd b_aHigh n (nI (h + 1)), b_aLocal, upd b_aEntry (7 * n + h) (ph_ca (ph_cdo B f i) (b_aEntry (7 * n + h)) (b_aEntry (7 * n + (h + 1))))))
    (k0 : ph_cdo B f i = 6 → b_aEntry (7 * n + (h + 1)) = 0 → post 2 (g_rules, g_place, g_number, g_pos, g_finding, nI (n + 1), g_result, g_memory, b_ruleParts, b_rulePath, b_ruleAllows, b_bytes, b_length, b_present, b_ways, b_boxPlugin, b_boxQuota, b_boxOpen, b_statics, b_aFn, b_aPos, b_aHigh, b_aLocal, b_aEntry)) :
    wY_step_79 post (nI p) (nI x) (nI n) (nI (120 * p + ph_hd B f + 3 + i)) (nI (ph_cdo B f i)) g_rules g_place g_number g_pos g_finding (nI (n + 1)) g_result g_memory b_ruleParts b_rulePath b_ruleAllows b_bytes b_length b_present b_ways b_boxPlugin b_boxQuota b_boxOpen b_statics b_aFn b_aPos b_aHigh b_aLocal b_aEntry := by
  have hg := ph_isbad_f hC
  have hw : ph_wd (ph_cdo B f i) = 1 := if_neg (by omega)
  have htk : ph_tk B (ph_cdo B f) i = 2 := by
    rw [ph_tk_n (by omega)]; unfold ph_nd; rw [if_pos ho]
  refine ph_ys79 hp hB hW hf hg.2.1 hn (by omega) he (fun b v' u' eb ev eu => ?_)
  rw [ev (h + 1) rfl, eu h rfl]
  have h256 : (ph_cdo B f i = 6 → b_aEntry (7 * n + (h + 1)) ≠ 0) → wY_step_256 post (nI p) (nI x) (nI n) (nI (120 * p + ph_hd B f + 3 + i)) (nI (ph_cdo B f i)) (nI b) (nI (h + 2)) (b_aEntry (7 * n + (h + 1))) (b_aEntry (7 * n + h)) (nI (120 * p + ph_hd B f + 3 + i + ph_wd (ph_cdo B f i))) (nI n) g_rules g_place g_number g_pos g_finding (nI (n + 1)) g_result g_memory b_ruleParts b_rulePath b_ruleAllows b_bytes b_length b_present b_ways b_boxPlugin b_boxQuota b_boxOpen b_statics b_aFn b_aPos b_aHigh b_aLocal b_aEntry := by
    intro q
    refine ph_y256 hp hB hW hf hC hi hn (by omega) (by omega) ?_
    rw [htk, hw]
    have h433 : ∀ v : Int32, v = ph_ca (ph_cdo B f i) (b_aEntry (7 * n + h)) (b_aEntry (7 * n + (h + 1))) → wY_step_433 post v g_rules g_place g_number g_pos g_finding (nI (n + 1)) g_result g_memory b_ruleParts b_rulePath b_ruleAllows b_bytes b_length b_present b_ways b_boxPlugin b_boxQuota b_boxOpen b_statics b_aFn (upd b_aPos n (nI (120 * p + ph_hd B f + 3 + i + 1))) (upd b_aHigh n (nI (h + 2 - 2))) b_aLocal b_aEntry := by
      rintro v rfl
      refine ph_y433 (h := h) hn (by omega) pk_us ?_
      rw [ph_uu]; exact k q
    generalize ph_cdo B f i = op at ho h433 q
    unfold wY_step_292
    rcases (by omega : op = 3 ∨ op = 4 ∨ op = 5 ∨ op = 6 ∨ op = 7) with e | e | e | e | e
    · subst e
      refine br_f (by decide) ?_
      unfold wY_step_312
      refine br_f (by decide) ?_
      unfold wY_step_325
      refine br_f (by decide) (ph_ygives (by omega) (br_f (by decide) (br_f (by decide) (br_f (by decide) (br_f (by decide) (br_f (by decide) ?_))))))
      unfold wpY_compute
      exact br_t rfl (h433 _ rfl)
    · subst e
      refine br_f (by decide) ?_
      unfold wY_step_312
      refine br_f (by decide) ?_
      unfold wY_step_325
      refine br_f (by decide) (ph_ygives (by omega) (br_f (by decide) (br_f (by decide) (br_f (by decide) (br_f (by decide) (br_f (by decide) ?_))))))
      unfold wpY_compute
      exact br_f (by decide) (br_t rfl (h433 _ rfl))
    · subst e
      refine br_f (by decide) ?_
      unfold wY_step_312
      refine br_f (by decide) ?_
      unfold wY_step_325
      refine br_f (by decide) (ph_ygives (by omega) (br_f (by decide) (br_f (by decide) (br_f (by decide) (br_f (by decide) (br_f (by decide) ?_))))))
      unfold wpY_compute
      exact br_f (by decide) (br_f (by decide) (br_t rfl (h433 _ rfl)))
    · subst e
      refine br_f (by decide) ?_
      unfold wY_step_312
      refine br_f (by decide) ?_
      unfold wY_step_325
      refine br_f (by decide) (ph_ygives (by omega) (br_f (by decide) (br_f (by decide) (br_f (by decide) (br_f (by decide) (br_f (by decide) ?_))))))
      unfold wpY_compute
      exact br_f (by decide) (br_f (by decide) (br_f (by decide) (br_t rfl (br_f (q rfl) ⟨q rfl, h433 _ rfl⟩))))
    · subst e
      refine br_f (by decide) ?_
      unfold wY_step_312
      refine br_f (by decide) ?_
      unfold wY_step_325
      refine br_f (by decide) (ph_ygives (by omega) (br_f (by decide) (br_f (by decide) (br_f (by decide) (br_f (by decide) (br_f (by decide) ?_))))))
      unfold wpY_compute
      refine br_f (by decide) (br_f (by decide) (br_f (by decide) (br_f (by decide) (br_c (fun z => h433 _ ?_) (fun z => h433 _ ?_)))))
      · show (0 : Int32) = if _ then 0 else 1
        rw [if_pos z]
      · show (1 : Int32) = if _ then 0 else 1
        rw [if_neg z]
  have h175 : (ph_cdo B f i = 6 → b_aEntry (7 * n + (h + 1)) ≠ 0) → wY_step_175 post (nI p) (nI x) (nI n) (nI (120 * p + ph_hd B f + 3 + i)) (nI (ph_cdo B f i)) (nI b) (nI (h + 2)) (b_aEntry (7 * n + (h + 1))) (b_aEntry (7 * n + h)) g_rules g_place g_number g_pos g_finding (nI (n + 1)) g_result g_memory b_ruleParts b_rulePath b_ruleAllows b_bytes b_length b_present b_ways b_boxPlugin b_boxQuota b_boxOpen b_statics b_aFn b_aPos b_aHigh b_aLocal b_aEntry := by
    intro q
    have h237 := ph_y237 (by omega) (h256 q)
    have ne : ∀ m, 8 ≤ m → m < 20 → ¬ nI (ph_cdo B f i) = nI m := fun m h1 h2 z => by
      have := (nI_eq (by omega) (by omega)).mp z
      omega
    unfold wY_step_175
    exact br_f (ne 12 (by omega) (by omega)) (br_f (ne 16 (by omega) (by omega)) (br_f (ne 10 (by omega) (by omega)) (br_f (ne 11 (by omega) (by omega)) h237)))
  unfold wY_step_159
  refine pk_eq (ph_cdo B f i) 6 (fun z => br_c (fun y => k0 z y) (fun y => h175 fun _ => y)) (fun z => h175 fun y => absurd y z)
theorem ph_yo8 {post : Int32 → SY → Prop} (hp : p < 4) (hB : ph_BY B L p b_bytes) (hW : ph_WF B L) (hf : f < ph_nf B)
    (hC : ph_isbad (ph_nf B) (B 1) (B (ph_hd B f) + B (ph_hd B f + 1)) (ph_sz B f) (ph_cdo B f) i = false) (hi : i < ph_sz B f) (hn : n < 6) (h6 : h < 5) (he : b_aHigh n = nI (h + 1)) (ho : ph_cdo B f i = 8)
    (k : post (-1) (g_rules, g_place, g_number, g_pos, g_finding, nI (n + 1), g_result, g_memory, b_ruleParts, b_rulePath, b_ruleAllows, b_bytes, b_length, b_present, b_ways, b_boxPlugin, b_boxQuota, b_boxOpen, b_statics, b_aFn, upd b_aPos n (nI (120 * p + ph_hd B f + 3 + i + 1)), upd b_aHigh n (nI (h + 2)), b_aLocal, upd (upd b_aEntry (7 * n + h) (b_aEntry (7 * n + h))) (7 * n + (h + 1)) (b_aEntry (7 * n + h)))) :
    wY_step_79 post (nI p) (nI x) (nI n) (nI (120 * p + ph_hd B f + 3 + i)) (nI (ph_cdo B f i)) g_rules g_place g_number g_pos g_finding (nI (n + 1)) g_result g_memory b_ruleParts b_rulePath b_ruleAllows b_bytes b_length b_present b_ways b_boxPlugin b_boxQuota b_boxOpen b_statics b_aFn b_aPos b_aHigh b_aLocal b_aEntry := by
  have hg := ph_isbad_f hC
  have hw : ph_wd (ph_cdo B f i) = 1 := if_neg (by omega)
  have htk : ph_tk B (ph_cdo B f) i = 1 := by rw [ph_tk_n (by omega), ho]; rfl
  refine ph_ys79 hp hB hW hf hg.2.1 hn (by omega) he (fun b v' u' eb ev _ => ?_)
  rw [ev h rfl]
  have h256 : wY_step_256 post (nI p) (nI x) (nI n) (nI (120 * p + ph_hd B f + 3 + i)) (nI (ph_cdo B f i)) (nI b) (nI (h + 1)) (b_aEntry (7 * n + h)) u' (nI (120 * p + ph_hd B f + 3 + i + ph_wd (ph_cdo B f i))) (nI n) g_rules g_place g_number g_pos g_finding (nI (n + 1)) g_result g_memory b_ruleParts b_rulePath b_ruleAllows b_bytes b_length b_present b_ways b_boxPlugin b_boxQuota b_boxOpen b_statics b_aFn b_aPos b_aHigh b_aLocal b_aEntry := by
    refine ph_y256 hp hB hW hf hC hi hn (by omega) (by omega) ?_
    rw [htk, hw, ho]
    unfold wY_step_292
    refine br_f (by decide) ?_
    unfold wY_step_312
    refine br_t rfl (ph_ygive (h := h) hn (by omega) pk_us ?_)
    rw [ph_uu]
    unfold wY_step_325
    refine br_f (by decide) (ph_ygives (by omega) (br_f (by decide) (br_f (by decide) (br_f (by decide) (br_t rfl ?_)))))
    refine ph_y433 (h := h + 1) hn (by omega) pk_us ?_
    rw [ph_uu]
    exact k
  have h237 := ph_y237 (by omega) h256
  unfold wY_step_159
  unfold wY_step_175
  rw [ho] at h237 ⊢
  exact br_f (by decide) (br_f (by decide) (br_f (by decide) (br_f (by decide) (br_f (by decide) h237))))
theorem ph_yo9 {post : Int32 → SY → Prop} (hp : p < 4) (hB : ph_BY B L p b_bytes) (hW : ph_WF B L) (hf : f < ph_nf B)
    (hC : ph_isbad (ph_nf B) (B 1) (B (ph_hd B f) + B (ph_hd B f + 1)) (ph_sz B f) (ph_cdo B f) i = false) (hi : i < ph_sz B f) (hn : n < 6) (h6 : h < 6) (he : b_aHigh n = nI (h + 1)) (ho : ph_cdo B f i = 9)
    (k : post (-1) (g_rules, g_place, g_number, g_pos, g_finding, nI (n + 1), g_result, g_memory, b_ruleParts, b_rulePath, b_ruleAllows, b_bytes, b_length, b_present, b_ways, b_boxPlugin, b_boxQuota, b_boxOpen, b_statics, b_aFn, upd b_aPos n (nI (120 * p + ph_hd B f + 3 + i + 1)), upd b_aHigh n (nI h), b_aLocal, b_aEntry)) :
    wY_step_79 post (nI p) (nI x) (nI n) (nI (120 * p + ph_hd B f + 3 + i)) (nI (ph_cdo B f i)) g_rules g_place g_number g_pos g_finding (nI (n + 1)) g_result g_memory b_ruleParts b_rulePath b_ruleAllows b_bytes b_length b_present b_ways b_boxPlugin b_boxQuota b_boxOpen b_statics b_aFn b_aPos b_aHigh b_aLocal b_aEntry := by
  have hg := ph_isbad_f hC
  have hw : ph_wd (ph_cdo B f i) = 1 := if_neg (by omega)
  have htk : ph_tk B (ph_cdo B f) i = 1 := by rw [ph_tk_n (by omega), ho]; rfl
  refine ph_ys79 hp hB hW hf hg.2.1 hn (by omega) he (fun b v' u' eb ev _ => ?_)
  have h256 : wY_step_256 post (nI p) (nI x) (nI n) (nI (120 * p + ph_hd B f + 3 + i)) (nI (ph_cdo B f i)) (nI b) (nI (h + 1)) v' u' (nI (120 * p + ph_hd B f + 3 + i + ph_wd (ph_cdo B f i))) (nI n) g_rules g_place g_number g_pos g_finding (nI (n + 1)) g_result g_memory b_ruleParts b_rulePath b_ruleAllows b_bytes b_length b_present b_ways b_boxPlugin b_boxQuota b_boxOpen b_statics b_aFn b_aPos b_aHigh b_aLocal b_aEntry := by
    refine ph_y256 hp hB hW hf hC hi hn (by omega) (by omega) ?_
    rw [htk, hw, ho]
    unfold wY_step_292
    refine br_f (by decide) ?_
    unfold wY_step_312
    refine br_f (by decide) ?_
    unfold wY_step_325
    exact br_f (by decide) (ph_ygives (by omega) (br_t (by decide) k))
  have h237 := ph_y237 (by omega) h256
  unfold wY_step_159
  unfold wY_step_175
  rw [ho] at h237 ⊢
  exact br_f (by decide) (br_f (by decide) (br_f (by decide) (br_f (by decide) (br_f (by decide) h237))))
theorem ph_yo15 {post : Int32 → SY → Prop} (hp : p < 4) (hB : ph_BY B L p b_bytes) (hW : ph_WF B L) (hf : f < ph_nf B)
    (hC : ph_isbad (ph_nf B) (B 1) (B (ph_hd B f) + B (ph_hd B f + 1)) (ph_sz B f) (ph_cdo B f) i = false) (hi : i < ph_sz B f) (hn : n < 6) (h6 : h < 6) (he : b_aHigh n = nI (h + 1)) (hx : x < 4) (ho : ph_cdo B f i = 15) (hb : ph_cdo B f (i + 1) < 4)
    (k : post (-1) (g_rules, g_place, g_number, g_pos, g_finding, nI (n + 1), g_result, g_memory, b_ruleParts, b_rulePath, b_ruleAllows, b_bytes, b_length, b_present, b_ways, b_boxPlugin, b_boxQuota, b_boxOpen, upd b_statics (4 * x + ph_cdo B f (i + 1)) (b_aEntry (7 * n + h)), b_aFn, upd b_aPos n (nI (120 * p + ph_hd B f + 3 + i + 2)), upd b_aHigh n (nI h), b_aLocal, b_aEntry)) :
    wY_step_79 post (nI p) (nI x) (nI n) (nI (120 * p + ph_hd B f + 3 + i)) (nI (ph_cdo B f i)) g_rules g_place g_number g_pos g_finding (nI (n + 1)) g_result g_memory b_ruleParts b_rulePath b_ruleAllows b_bytes b_length b_present b_ways b_boxPlugin b_boxQuota b_boxOpen b_statics b_aFn b_aPos b_aHigh b_aLocal b_aEntry := by
  have hg := ph_isbad_f hC
  have hw : ph_wd (ph_cdo B f i) = 2 := if_pos (by omega)
  have htk : ph_tk B (ph_cdo B f) i = 1 := by rw [ph_tk_n (by omega), ho]; rfl
  refine ph_ys79 hp hB hW hf hg.2.1 hn (by omega) he (fun b v' u' eb ev _ => ?_)
  rw [eb hw, ev h rfl]
  have h256 : wY_step_256 post (nI p) (nI x) (nI n) (nI (120 * p + ph_hd B f + 3 + i)) (nI (ph_cdo B f i)) (nI (ph_cdo B f (i + 1))) (nI (h + 1)) (b_aEntry (7 * n + h)) u' (nI (120 * p + ph_hd B f + 3 + i + ph_wd (ph_cdo B f i))) (nI n) g_rules g_place g_number g_pos g_finding (nI (n + 1)) g_result g_memory b_ruleParts b_rulePath b_ruleAllows b_bytes b_length b_present b_ways b_boxPlugin b_boxQuota b_boxOpen b_statics b_aFn b_aPos b_aHigh b_aLocal b_aEntry := by
    refine ph_y256 hp hB hW hf hC hi hn (by omega) (by omega) ?_
    rw [htk, hw, ho]
    unfold wY_step_292
    rw [ph_4', nI_clamp (by omega)]
    refine br_t rfl ⟨vp_in_nI (by omega) (by omega), nm_e ?_⟩
    unfold wY_step_312
    refine br_f (by decide) ?_
    unfold wY_step_325
    exact br_f (by decide) (ph_ygives (by omega) (br_t (by decide) k))
  have h237 := ph_y237 (by omega) h256
  unfold wY_step_159
  unfold wY_step_175
  rw [ho] at h237 ⊢
  exact br_f (by decide) (br_f (by decide) (br_f (by decide) (br_f (by decide) (br_f (by decide) h237))))
end
end
section
/-! ===== the reference's jumps, calls, host and return ===== -/
section
variable {g_rules g_place g_number g_pos g_finding g_active g_result : Int32} {g_memory : Int64} {b_ruleParts b_rulePath b_ruleAllows b_bytes b_length b_present b_ways b_boxPlugin b_boxQuota b_boxOpen b_statics b_aFn b_aPos b_aHigh b_aLocal b_aEntry : Nat → Int32}
variable {B : Nat → Nat} {L p f i n h x : Nat}
theorem ph_y228 {post : Int32 → SY → Prop} {x2 x6 x7 x8 x9 z0 : Int32} {t : Nat} (hp : p < 4) (hB : ph_BY B L p b_bytes) (hW : ph_WF B L) (hf : f < ph_nf B) (hi : i + 1 < ph_sz B f) (ht : ph_tg (ph_cdo B f) i = (t : Int)) (htn : t < ph_sz B f)
    (k : wY_step_256 post (nI p) x2 (nI n) (nI (120 * p + ph_hd B f + 3 + i)) (nI (ph_cdo B f i)) x6 x7 x8 x9 (nI (120 * p + ph_hd B f + 3 + t)) z0 g_rules g_place g_number g_pos g_finding g_active g_result g_memory b_ruleParts b_rulePath b_ruleAllows b_bytes b_length b_present b_ways b_boxPlugin b_boxQuota b_boxOpen b_statics b_aFn b_aPos b_aHigh b_aLocal b_aEntry) :
    wY_step_228 post (nI p) x2 (nI n) (nI (120 * p + ph_hd B f + 3 + i)) (nI (ph_cdo B f i)) x6 x7 x8 x9 z0 g_rules g_place g_number g_pos g_finding g_active g_result g_memory b_ruleParts b_rulePath b_ruleAllows b_bytes b_length b_present b_ways b_boxPlugin b_boxQuota b_boxOpen b_statics b_aFn b_aPos b_aHigh b_aLocal b_aEntry := by
  have hb := ph_hd_b hW hf
  have hsz : B (ph_hd B f + 2) = ph_sz B f := rfl
  rw [hsz] at hb
  obtain ⟨-, hcb⟩ := ph_yb (p := p) (i := i + 1) hB hW hf hi
  have et : nI (120 * p + ph_hd B f + 3 + i + 2) + ph_sv (ph_cdo B f (i + 1)) = nI (120 * p + ph_hd B f + 3 + t) := ph_eqI (by omega) (by rw [ph_add_sv (by omega) hcb]; unfold ph_tg at ht; omega)
  unfold wY_step_228
  refine ph_ytarget hp hB hW hf hi ?_
  rw [et]; exact k
theorem ph_yo10 {post : Int32 → SY → Prop} {t : Nat} (hp : p < 4) (hB : ph_BY B L p b_bytes) (hW : ph_WF B L) (hf : f < ph_nf B)
    (hC : ph_isbad (ph_nf B) (B 1) (B (ph_hd B f) + B (ph_hd B f + 1)) (ph_sz B f) (ph_cdo B f) i = false) (hi : i < ph_sz B f) (hn : n < 6) (h6 : h ≤ 6) (he : b_aHigh n = nI h) (ho : ph_cdo B f i = 10) (ht : ph_tg (ph_cdo B f) i = (t : Int)) (htn : t < ph_sz B f)
    (k : post (-1) (g_rules, g_place, g_number, g_pos, g_finding, nI (n + 1), g_result, g_memory, b_ruleParts, b_rulePath, b_ruleAllows, b_bytes, b_length, b_present, b_ways, b_boxPlugin, b_boxQuota, b_boxOpen, b_statics, b_aFn, upd b_aPos n (nI (120 * p + ph_hd B f + 3 + t)), upd b_aHigh n (nI h), b_aLocal, b_aEntry)) :
    wY_step_79 post (nI p) (nI x) (nI n) (nI (120 * p + ph_hd B f + 3 + i)) (nI (ph_cdo B f i)) g_rules g_place g_number g_pos g_finding (nI (n + 1)) g_result g_memory b_ruleParts b_rulePath b_ruleAllows b_bytes b_length b_present b_ways b_boxPlugin b_boxQuota b_boxOpen b_statics b_aFn b_aPos b_aHigh b_aLocal b_aEntry := by
  have hg := ph_isbad_f hC
  have hw : ph_wd (ph_cdo B f i) = 2 := if_pos (by omega)
  have htk : ph_tk B (ph_cdo B f) i = 0 := by rw [ph_tk_n (by omega), ho]; rfl
  refine ph_ys79 hp hB hW hf hg.2.1 hn (by omega) he (fun b v' u' eb ev _ => ?_)
  have h256 : wY_step_256 post (nI p) (nI x) (nI n) (nI (120 * p + ph_hd B f + 3 + i)) (nI (ph_cdo B f i)) (nI b) (nI h) v' u' (nI (120 * p + ph_hd B f + 3 + t)) (nI n) g_rules g_place g_number g_pos g_finding (nI (n + 1)) g_result g_memory b_ruleParts b_rulePath b_ruleAllows b_bytes b_length b_present b_ways b_boxPlugin b_boxQuota b_boxOpen b_statics b_aFn b_aPos b_aHigh b_aLocal b_aEntry := by
    refine ph_y256 hp hB hW hf hC hi hn (by omega) (by omega) ?_
    rw [htk, ho]
    unfold wY_step_292
    refine br_f (by decide) ?_
    unfold wY_step_312
    refine br_f (by decide) ?_
    unfold wY_step_325
    exact br_f (by decide) (ph_ygives (by omega) (br_t (by decide) k))
  have h228 := ph_y228 hp hB hW hf (by omega) ht htn h256
  unfold wY_step_159
  unfold wY_step_175
  rw [ho] at h228 ⊢
  exact br_f (by decide) (br_f (by decide) (br_f (by decide) (br_t rfl h228)))
theorem ph_yo11 {post : Int32 → SY → Prop} {t : Nat} (hp : p < 4) (hB : ph_BY B L p b_bytes) (hW : ph_WF B L) (hf : f < ph_nf B)
    (hC : ph_isbad (ph_nf B) (B 1) (B (ph_hd B f) + B (ph_hd B f + 1)) (ph_sz B f) (ph_cdo B f) i = false) (hi : i < ph_sz B f) (hn : n < 6) (h6 : h < 6) (he : b_aHigh n = nI (h + 1)) (ho : ph_cdo B f i = 11) (ht : ph_tg (ph_cdo B f) i = (t : Int)) (htn : t < ph_sz B f)
    (k1 : b_aEntry (7 * n + h) = 0 → post (-1) (g_rules, g_place, g_number, g_pos, g_finding, nI (n + 1), g_result, g_memory, b_ruleParts, b_rulePath, b_ruleAllows, b_bytes, b_length, b_present, b_ways, b_boxPlugin, b_boxQuota, b_boxOpen, b_statics, b_aFn, upd b_aPos n (nI (120 * p + ph_hd B f + 3 + t)), upd b_aHigh n (nI h), b_aLocal, b_aEntry))
    (k0 : ¬ b_aEntry (7 * n + h) = 0 → post (-1) (g_rules, g_place, g_number, g_pos, g_finding, nI (n + 1), g_result, g_memory, b_ruleParts, b_rulePath, b_ruleAllows, b_bytes, b_length, b_present, b_ways, b_boxPlugin, b_boxQuota, b_boxOpen, b_statics, b_aFn, upd b_aPos n (nI (120 * p + ph_hd B f + 3 + i + 2)), upd b_aHigh n (nI h), b_aLocal, b_aEntry)) :
    wY_step_79 post (nI p) (nI x) (nI n) (nI (120 * p + ph_hd B f + 3 + i)) (nI (ph_cdo B f i)) g_rules g_place g_number g_pos g_finding (nI (n + 1)) g_result g_memory b_ruleParts b_rulePath b_ruleAllows b_bytes b_length b_present b_ways b_boxPlugin b_boxQuota b_boxOpen b_statics b_aFn b_aPos b_aHigh b_aLocal b_aEntry := by
  have hg := ph_isbad_f hC
  have hw : ph_wd (ph_cdo B f i) = 2 := if_pos (by omega)
  have htk : ph_tk B (ph_cdo B f) i = 1 := by rw [ph_tk_n (by omega), ho]; rfl
  refine ph_ys79 hp hB hW hf hg.2.1 hn (by omega) he (fun b v' u' eb ev _ => ?_)
  rw [ev h rfl]
  have h256 : ∀ np : Nat, post (-1) (g_rules, g_place, g_number, g_pos, g_finding, nI (n + 1), g_result, g_memory, b_ruleParts, b_rulePath, b_ruleAllows, b_bytes, b_length, b_present, b_ways, b_boxPlugin, b_boxQuota, b_boxOpen, b_statics, b_aFn, upd b_aPos n (nI np), upd b_aHigh n (nI h), b_aLocal, b_aEntry) →
      wY_step_256 post (nI p) (nI x) (nI n) (nI (120 * p + ph_hd B f + 3 + i)) (nI (ph_cdo B f i)) (nI b) (nI (h + 1)) (b_aEntry (7 * n + h)) u' (nI np) (nI n) g_rules g_place g_number g_pos g_finding (nI (n + 1)) g_result g_memory b_ruleParts b_rulePath b_ruleAllows b_bytes b_length b_present b_ways b_boxPlugin b_boxQuota b_boxOpen b_statics b_aFn b_aPos b_aHigh b_aLocal b_aEntry := by
    intro np k
    refine ph_y256 hp hB hW hf hC hi hn (by omega) (by omega) ?_
    rw [htk, ho]
    unfold wY_step_292
    refine br_f (by decide) ?_
    unfold wY_step_312
    refine br_f (by decide) ?_
    unfold wY_step_325
    exact br_f (by decide) (ph_ygives (by omega) (br_t (by decide) k))
  unfold wY_step_159
  refine br_f (by rw [ho]; decide) ?_
  unfold wY_step_175
  refine br_f (by rw [ho]; decide) (br_f (by rw [ho]; decide) (br_f (by rw [ho]; decide) (br_t (by rw [ho]; rfl) (br_c (fun z => ?_) (fun z => ?_)))))
  · exact ph_y228 hp hB hW hf (by omega) ht htn (h256 _ (k1 z))
  · refine ph_y237 (by omega) (h256 _ ?_)
    rw [hw]; exact k0 z
theorem ph_yo13 {post : Int32 → SY → Prop} (hp : p < 4) (hB : ph_BY B L p b_bytes) (hW : ph_WF B L) (hf : f < ph_nf B)
    (hC : ph_isbad (ph_nf B) (B 1) (B (ph_hd B f) + B (ph_hd B f + 1)) (ph_sz B f) (ph_cdo B f) i = false) (hi : i < ph_sz B f) (hn : n < 6) (h6 : h < 6) (he : b_aHigh n = nI (h + 1)) (ho : ph_cdo B f i = 13) (hb : ph_cdo B f (i + 1) < B 1)
    (k : post (-1) (g_rules, g_place, g_number, g_pos, g_finding, nI (n + 1), g_result, g_memory * 33 + (b_aEntry (7 * n + h)).toInt64 * 512 + (nI (ph_pth B (ph_cdo B f (i + 1)))).toInt64, b_ruleParts, b_rulePath, b_ruleAllows, b_bytes, b_length, b_present, b_ways, b_boxPlugin, b_boxQuota, b_boxOpen, b_statics, b_aFn, upd b_aPos n (nI (120 * p + ph_hd B f + 3 + i + 2)), upd b_aHigh n (nI (h + 1)), b_aLocal, upd b_aEntry (7 * n + h) (((g_memory * 33 + (b_aEntry (7 * n + h)).toInt64 * 512 + (nI (ph_pth B (ph_cdo B f (i + 1)))).toInt64).toUInt64 >>> ((20 : Int32).toInt64.toUInt64 &&& Int64.toUInt64 63)).toInt64).toInt32)) :
    wY_step_79 post (nI p) (nI x) (nI n) (nI (120 * p + ph_hd B f + 3 + i)) (nI (ph_cdo B f i)) g_rules g_place g_number g_pos g_finding (nI (n + 1)) g_result g_memory b_ruleParts b_rulePath b_ruleAllows b_bytes b_length b_present b_ways b_boxPlugin b_boxQuota b_boxOpen b_statics b_aFn b_aPos b_aHigh b_aLocal b_aEntry := by
  have hg := ph_isbad_f hC
  have hWL := ph_WF_L hW
  have h14 := hW.2.1
  have hw : ph_wd (ph_cdo B f i) = 2 := if_pos (by omega)
  have htk : ph_tk B (ph_cdo B f) i = 1 := by rw [ph_tk_n (by omega), ho]; rfl
  refine ph_ys79 hp hB hW hf hg.2.1 hn (by omega) he (fun b v' u' eb ev _ => ?_)
  rw [eb hw, ev h rfl]
  generalize hbb : ph_cdo B f (i + 1) = b2 at hb k
  have h256 : wY_step_256 post (nI p) (nI x) (nI n) (nI (120 * p + ph_hd B f + 3 + i)) (nI (ph_cdo B f i)) (nI b2) (nI (h + 1)) (b_aEntry (7 * n + h)) u' (nI (120 * p + ph_hd B f + 3 + i + ph_wd (ph_cdo B f i))) (nI n) g_rules g_place g_number g_pos g_finding (nI (n + 1)) g_result g_memory b_ruleParts b_rulePath b_ruleAllows b_bytes b_length b_present b_ways b_boxPlugin b_boxQuota b_boxOpen b_statics b_aFn b_aPos b_aHigh b_aLocal b_aEntry := by
    refine ph_y256 hp hB hW hf hC hi hn (by omega) (by omega) ?_
    rw [htk, hw, ho]
    unfold wY_step_292
    refine br_f (by decide) ?_
    unfold wY_step_312
    refine br_f (by decide) ?_
    unfold wY_step_325
    refine br_t rfl ?_
    rw [ph_120, ph_p2, ph_r3, nI_add]
    unfold wpY_host
    try dsimp only
    rw [nI_1, ph_p2, nI_clamp (by omega), nI_clamp (by omega), nI_clamp (by omega)]
    rw [show 120 * p + 2 + 3 * b2 + 1 = 120 * p + (3 + 3 * b2) by omega, show 120 * p + 2 + 3 * b2 + 2 = 120 * p + (4 + 3 * b2) by omega, show 120 * p + 2 + 3 * b2 = 120 * p + (2 + 3 * b2) by omega]
    rw [(hB (2 + 3 * b2) (by omega)).1, (hB (3 + 3 * b2) (by omega)).1, (hB (4 + 3 * b2) (by omega)).1]
    have e1 : 64 * nI (B (2 + 3 * b2)) + 8 * nI (B (3 + 3 * b2)) + nI (B (4 + 3 * b2)) = nI (ph_pth B b2) := by
      rw [show (64 : Int32) = nI 64 from rfl, show (8 : Int32) = nI 8 from rfl, pk_mul, pk_mul, nI_add, nI_add]; rfl
    rw [e1]
    refine ⟨vp_in_nI (by omega) (by omega), vp_in_nI (by omega) (by omega), vp_in_nI (by omega) (by omega), nm_e ?_⟩
    refine ph_ygive (h := h) hn (by omega) pk_us ?_
    rw [ph_uu]
    exact k
  have h237 := ph_y237 (by omega) h256
  unfold wY_step_159
  unfold wY_step_175
  rw [ho] at h237 ⊢
  exact br_f (by decide) (br_f (by decide) (br_f (by decide) (br_f (by decide) (br_f (by decide) h237))))
theorem ph_yo16 {post : Int32 → SY → Prop} (hp : p < 4) (hB : ph_BY B L p b_bytes) (hW : ph_WF B L) (hf : f < ph_nf B)
    (hC : ph_isbad (ph_nf B) (B 1) (B (ph_hd B f) + B (ph_hd B f + 1)) (ph_sz B f) (ph_cdo B f) i = false) (hi : i < ph_sz B f) (hn : n < 6) (h6 : h < 6) (he : b_aHigh n = nI (h + 1)) (ho : ph_cdo B f i = 16)
    (k0 : n = 0 → post 0 (g_rules, g_place, g_number, g_pos, g_finding, nI 0, b_aEntry (7 * n + h), g_memory, b_ruleParts, b_rulePath, b_ruleAllows, b_bytes, b_length, b_present, b_ways, b_boxPlugin, b_boxQuota, b_boxOpen, b_statics, b_aFn, b_aPos, b_aHigh, b_aLocal, b_aEntry))
    (k1 : ∀ m, n = m + 1 → ∃ h1, h1 < 6 ∧ b_aHigh m = nI h1 ∧ post (-1) (g_rules, g_place, g_number, g_pos, g_finding, nI (m + 1), g_result, g_memory, b_ruleParts, b_rulePath, b_ruleAllows, b_bytes, b_length, b_present, b_ways, b_boxPlugin, b_boxQuota, b_boxOpen, b_statics, b_aFn, b_aPos, upd b_aHigh m (nI (h1 + 1)), b_aLocal, upd b_aEntry (7 * m + h1) (b_aEntry (7 * n + h)))) :
    wY_step_79 post (nI p) (nI x) (nI n) (nI (120 * p + ph_hd B f + 3 + i)) (nI (ph_cdo B f i)) g_rules g_place g_number g_pos g_finding (nI (n + 1)) g_result g_memory b_ruleParts b_rulePath b_ruleAllows b_bytes b_length b_present b_ways b_boxPlugin b_boxQuota b_boxOpen b_statics b_aFn b_aPos b_aHigh b_aLocal b_aEntry := by
  have hg := ph_isbad_f hC
  refine ph_ys79 hp hB hW hf hg.2.1 hn (by omega) he (fun b v' u' eb ev _ => ?_)
  rw [ev h rfl]
  unfold wY_step_159
  refine br_f (by rw [ho]; decide) ?_
  unfold wY_step_175
  refine br_f (by rw [ho]; decide) (br_t (by rw [ho]; rfl) ?_)
  unfold wpY_giveBack
  refine nm_r (nI_pred n) ?_
  cases n with
  | zero => exact br_t rfl (k0 rfl)
  | succ m =>
    obtain ⟨h1, a1, a2, a3⟩ := k1 m rfl
    exact br_f (nI_ne0 (by omega) (by omega)) (ph_ygive (n := m) (by omega) (by omega) a2 a3)
/-- the locals with a new frame behind frame n: its first j locals are the entries from h on -/
def ph_nlo (lo ent : Nat → Int32) (n h j : Nat) : Nat → Int32 := fun k => if 5 * (n + 1) ≤ k ∧ k < 5 * (n + 1) + j then ent (7 * n + h + (k - 5 * (n + 1))) else ph_zr lo (5 * (n + 1)) 5 k
theorem ph_nlo_0 {lo ent : Nat → Int32} {n h : Nat} : ph_nlo lo ent n h 0 = ph_zr lo (5 * (n + 1)) 5 := by
  funext k; unfold ph_nlo; rw [if_neg (by omega)]
theorem ph_nlo_s {lo ent : Nat → Int32} {n h j : Nat} : upd (ph_nlo lo ent n h j) (5 * (n + 1) + j) (ent (7 * n + h + j)) = ph_nlo lo ent n h (j + 1) := by
  funext k
  by_cases e : k = 5 * (n + 1) + j
  · subst e
    rw [pk_us]; unfold ph_nlo; rw [if_pos (by omega), show 5 * (n + 1) + j - 5 * (n + 1) = j by omega]
  · rw [pk_un e]; unfold ph_nlo
    by_cases c : 5 * (n + 1) ≤ k ∧ k < 5 * (n + 1) + j
    · rw [if_pos c, if_pos (by omega)]
    · rw [if_neg c, if_neg (by omega)]
theorem ph_nlo_lo {lo ent : Nat → Int32} {n h np j : Nat} (hj : j < 5 * (n + 1)) : ph_nlo lo ent n h np j = lo j := by
  unfold ph_nlo; rw [if_neg (by omega)]; unfold ph_zr; rw [if_neg (by omega)]
theorem ph_nlo_hi {lo ent : Nat → Int32} {n h np j : Nat} (hj : j < 5) : ph_nlo lo ent n h np (5 * (n + 1) + j) = if j < np then ent (7 * n + h + j) else 0 := by
  unfold ph_nlo
  by_cases c : j < np
  · rw [if_pos (by omega), if_pos c, show 5 * (n + 1) + j - 5 * (n + 1) = j by omega]
  · rw [if_neg (by omega), if_neg c]; unfold ph_zr; rw [if_pos (by omega)]
theorem ph_yinv66 {post : Int32 → SY → Prop} {np : Nat} {lo0 : Nat → Int32} (hn : n < 5) (hnp : np ≤ 2) (hh : h + np ≤ 6) (he : b_aHigh n = nI h)
    (k : post (-1) (g_rules, g_place, g_number, g_pos, g_finding, nI (n + 2), g_result, g_memory, b_ruleParts, b_rulePath, b_ruleAllows, b_bytes, b_length, b_present, b_ways, b_boxPlugin, b_boxQuota, b_boxOpen, b_statics, b_aFn, b_aPos, b_aHigh, ph_nlo lo0 b_aEntry n h np, b_aEntry)) :
    ∀ d j, j + d = np → wY_invoke_66 post (nI np) (nI n) g_rules g_place g_number g_pos g_finding (nI (n + 2)) g_result g_memory (d + 1) (nI j) b_ruleParts b_rulePath b_ruleAllows b_bytes b_length b_present b_ways b_boxPlugin b_boxQuota b_boxOpen b_statics b_aFn b_aPos b_aHigh (ph_nlo lo0 b_aEntry n h j) b_aEntry := by
  intro d
  induction d with
  | zero =>
    intro j hj
    have ej : j = np := by omega
    subst ej
    rw [wY_invoke_66]
    exact br_t (nI_le (Nat.le_refl _) (by omega)) k
  | succ d ih =>
    intro j hj
    rw [wY_invoke_66]
    dsimp only
    have e5 : nI (n + 2) * 5 - 5 + nI j = nI (5 * (n + 1) + j) := by
      rw [show (5 : Int32) = nI 5 from rfl, pk_mul, pk_sub (by omega), nI_add]; exact congrArg nI (by omega)
    rw [e5, nI_clamp (by omega : n < 2 ^ 31), he, ph_7, nI_add, nI_add, nI_clamp (by omega), nI_clamp (by omega)]
    exact br_f (nI_ge (by omega) (by omega)) ⟨vp_in_nI (by omega) (by omega), vp_in_nI (by omega) (by omega), vp_in_nI (by omega) (by omega), nm_r ph_nlo_s (nm_r (nI_1 j) (ih (j + 1) (by omega)))⟩
theorem ph_yo12 {post : Int32 → SY → Prop} {g np : Nat} (hp : p < 4) (hB : ph_BY B L p b_bytes) (hW : ph_WF B L) (hf : f < ph_nf B)
    (hC : ph_isbad (ph_nf B) (B 1) (B (ph_hd B f) + B (ph_hd B f + 1)) (ph_sz B f) (ph_cdo B f) i = false) (hi : i < ph_sz B f) (hn : n < 6) (hh : h + np ≤ 6) (he : b_aHigh n = nI (h + np)) (ho : ph_cdo B f i = 12) (eg : ph_cdo B f (i + 1) = g) (hg : g < ph_nf B) (enp : B (ph_hd B g) = np) (hnp : np ≤ 2)
    (epos : b_aPos n = nI (120 * p + ph_hd B f + 3 + i))
    (k0 : n = 5 → post 3 (g_rules, g_place, g_number, g_pos, g_finding, nI (n + 1), g_result, g_memory, b_ruleParts, b_rulePath, b_ruleAllows, b_bytes, b_length, b_present, b_ways, b_boxPlugin, b_boxQuota, b_boxOpen, b_statics, b_aFn, b_aPos, b_aHigh, b_aLocal, b_aEntry))
    (k1 : n < 5 → post (-1) (g_rules, g_place, g_number, g_pos, g_finding, nI (n + 2), g_result, g_memory, b_ruleParts, b_rulePath, b_ruleAllows, b_bytes, b_length, b_present, b_ways, b_boxPlugin, b_boxQuota, b_boxOpen, b_statics, upd b_aFn (n + 1) (nI g), upd (upd b_aPos n (nI (120 * p + ph_hd B f + 3 + i + 2))) (n + 1) (nI (120 * p + ph_hd B g + 3)), upd (upd b_aHigh n (nI h)) (n + 1) (nI 0), ph_nlo b_aLocal b_aEntry n h np, b_aEntry)) :
    wY_step_79 post (nI p) (nI x) (nI n) (nI (120 * p + ph_hd B f + 3 + i)) (nI (ph_cdo B f i)) g_rules g_place g_number g_pos g_finding (nI (n + 1)) g_result g_memory b_ruleParts b_rulePath b_ruleAllows b_bytes b_length b_present b_ways b_boxPlugin b_boxQuota b_boxOpen b_statics b_aFn b_aPos b_aHigh b_aLocal b_aEntry := by
  have hgg := ph_isbad_f hC
  have hw : ph_wd (ph_cdo B f i) = 2 := if_pos (by omega)
  have hbg := ph_hd_b hW hg
  refine ph_ys79 hp hB hW hf hgg.2.1 hn (by omega) he (fun b v' u' eb ev _ => ?_)
  rw [eb hw, eg]
  unfold wY_step_159
  refine br_f (by rw [ho]; decide) ?_
  unfold wY_step_175
  refine br_t (by rw [ho]; rfl) ?_
  unfold wpY_invoke
  refine pk_eq (n + 1) 6 (fun z => k0 (by omega)) (fun z => ?_)
  refine ph_yhead hp hB hW hg ⟨vp_in_nI (by omega) (by omega), ?_⟩
  rw [nI_clamp (by omega), (hB (ph_hd B g) (by omega)).1, enp]
  have hin : vp_in (nI n) 6 := vp_in_nI hn (by omega)
  refine nm_e (nm_r (nI_pred n) ⟨hin, hin, ?_⟩)
  rw [nI_clamp (by omega), epos, he]
  refine nm_r (e' := upd b_aPos n (nI (120 * p + ph_hd B f + 3 + i + 2))) (by rw [ph_p2]) ⟨hin, hin, nm_r (e' := upd b_aHigh n (nI h)) (by rw [pk_sub (by omega)]; exact congrArg (fun q => upd b_aHigh n (nI q)) (by omega)) ?_⟩
  refine ph_yenter (m := n + 1) hp hB hW hg (by omega) ⟨np + 1, ?_⟩
  have J := ph_yinv66 (post := post) (lo0 := b_aLocal) (b_aHigh := upd (upd b_aHigh n (nI h)) (n + 1) (nI 0)) (b_aFn := upd b_aFn (n + 1) (nI g)) (b_aPos := upd (upd b_aPos n (nI (120 * p + ph_hd B f + 3 + i + 2))) (n + 1) (nI (120 * p + ph_hd B g + 3))) (by omega) hnp hh (by rw [pk_un (by omega), pk_us]) (k1 (by omega)) np 0 (by omega)
  rw [ph_nlo_0] at J
  exact J
end
end
section
/-! ===== the relation of the two runs ===== -/
noncomputable def ph_TA (B : Nat → Nat) (HI : Nat → Nat → Int32) (ee : Nat → Nat) (g i : Nat) : Nat := ph_T (ph_sz B g) (ph_cdo B g) (HI g) (ee g) i
noncomputable def ph_OA (B : Nat → Nat) (HI : Nat → Nat → Int32) (ee : Nat → Nat) (g i : Nat) : Nat := ph_ow (ph_sz B g) (ph_cdo B g) (HI g) (ee g) i
def ph_RR (B : Nat → Nat) (HI : Nat → Nat → Int32) (g i h : Nat) : Prop := ph_RH (ph_sz B g) (HI g) i h
def ph_LD (B : Nat → Nat) (g i : Nat) : Prop := ph_ld (ph_sz B g) (ph_cdo B g) i
/-- what stands still while a plugin runs -/
def ph_RS (B : Nat → Nat) (L p : Nat) (HI : Nat → Nat → Int32) (ee : Nat → Nat) (em en pp pt : Nat → Int32) : Prop :=
  ph_OK B L ∧ p < 3 ∧ (∀ i, i < B 1 → pt (4 * p + i) = nI (ph_pth B i)) ∧
  ∀ g, g < ph_nf B → ph_Good B (ph_sz B g) (ph_cdo B g) (ph_RH (ph_sz B g) (HI g)) ∧ ph_St (ph_cdo B g) (ph_sz B g) ∧ en (4 * p + g) = nI (ee g) ∧ pp (4 * p + g) = nI (B (ph_hd B g)) ∧ ph_T (ph_sz B g) (ph_cdo B g) (HI g) (ee g) (ph_sz B g) ≤ 960 ∧
    ∀ j, ph_re (ph_sz B g) (ph_cdo B g) (HI g) j → ph_E2 (ph_sz B g) (ph_cdo B g) (HI g) (ee g) em j
/-- the entries and locals of the frames 0 .. n -/
def ph_SK (n : Nat) (hg : Nat → Nat) (slot ents lo ent high : Nat → Int32) : Prop :=
  ∀ j, j ≤ n → hg j ≤ 6 ∧ ents j = nI (hg j) ∧ high j = nI (hg j) ∧ (∀ k, k < 5 → slot (11 * j + k) = lo (5 * j + k)) ∧ (∀ k, k < hg j → slot (11 * j + 5 + k) = ent (7 * j + k))
def ph_RD (B : Nat → Nat) (p : Nat) (HI : Nat → Nat → Int32) (ee : Nat → Nat) (n : Nat) (fn ps hg : Nat → Nat) (slot back ents aF aP aH aL aE : Nat → Int32) : Prop :=
  n < 6 ∧ ph_SK n hg slot ents aL aE aH ∧ (∀ j, j ≤ n → fn j < ph_nf B ∧ aF j = nI (fn j) ∧ aP j = nI (120 * p + ph_hd B (fn j) + 3 + ps j)) ∧ ph_RR B HI (fn n) (ps n) (hg n) ∧
  (∀ j, j < n → ph_RR B HI (fn j) (ps j) (hg j + 1) ∧ ph_LD B (fn j) (ps j) ∧ back j = nI (ph_TA B HI ee (fn j) (ps j)))
theorem ph_unun {f : Nat → Nat} {k a b : Nat} : ph_un (ph_un f k a) k b = ph_un f k b := by
  funext j
  by_cases e : j = k
  · subst e; rw [ph_un_s, ph_un_s]
  · rw [ph_un_n e, ph_un_n e, ph_un_n e]
theorem ph_upself {f : Nat → Int32} {k : Nat} {v : Int32} (h : f k = v) : upd f k v = f := by
  funext j
  by_cases e : j = k
  · subst e; rw [pk_us]; exact h.symm
  · rw [pk_un e]
section
variable {n : Nat} {hg : Nat → Nat} {slot ents lo ent high : Nat → Int32}
theorem ph_SK_set {h : Nat} (S : ph_SK n hg slot ents lo ent high) (hh : h ≤ hg n) : ph_SK n (ph_un hg n h) slot (upd ents n (nI h)) lo ent (upd high n (nI h)) := by
  intro j hj
  obtain ⟨a1, a2, a3, a4, a5⟩ := S j hj
  by_cases e : j = n
  · subst e
    rw [ph_un_s, pk_us, pk_us]
    exact ⟨by omega, rfl, rfl, a4, fun k hk => a5 k (by omega)⟩
  · rw [ph_un_n e, pk_un e, pk_un e]
    exact ⟨a1, a2, a3, a4, a5⟩
theorem ph_SK_put {h : Nat} {v : Int32} (S : ph_SK n hg slot ents lo ent high) (hh : h ≤ hg n) (h6 : h < 6) :
    ph_SK n (ph_un hg n (h + 1)) (upd slot (11 * n + 5 + h) v) (upd ents n (nI (h + 1))) lo (upd ent (7 * n + h) v) (upd high n (nI (h + 1))) := by
  intro j hj
  obtain ⟨a1, a2, a3, a4, a5⟩ := S j hj
  by_cases e : j = n
  · subst e
    rw [ph_un_s, pk_us, pk_us]
    refine ⟨by omega, rfl, rfl, fun k hk => by rw [pk_un (by omega)]; exact a4 k hk, fun k hk => ?_⟩
    by_cases c : k = h
    · subst c; rw [pk_us, pk_us]
    · rw [pk_un (by omega), pk_un (by omega)]; exact a5 k (by omega)
  · rw [ph_un_n e, pk_un e, pk_un e]
    exact ⟨a1, a2, a3, fun k hk => by rw [pk_un (by omega)]; exact a4 k hk, fun k hk => by rw [pk_un (by omega), pk_un (by omega)]; exact a5 k hk⟩
theorem ph_SK_loc {b : Nat} {v : Int32} (S : ph_SK n hg slot ents lo ent high) (hb : b < 5) : ph_SK n hg (upd slot (11 * n + b) v) ents (upd lo (5 * n + b) v) ent high := by
  intro j hj
  obtain ⟨a1, a2, a3, a4, a5⟩ := S j hj
  refine ⟨a1, a2, a3, fun k hk => ?_, fun k hk => by rw [pk_un (by omega)]; exact a5 k hk⟩
  by_cases c : 11 * j + k = 11 * n + b
  · have e1 : j = n := by omega
    have e2 : k = b := by omega
    subst e1 e2
    rw [pk_us, pk_us]
  · rw [pk_un c, pk_un (by omega)]; exact a4 k hk
theorem ph_SK_in {h np : Nat} {s' lo' : Nat → Int32} (S : ph_SK n hg slot ents lo ent high) (hh : h + np = hg n) (hs1 : ∀ j, j < 11 * (n + 1) → s' j = slot j) (hs2 : ∀ j, j < 5 → s' (11 * (n + 1) + j) = if j < np then slot (11 * n + 5 + h + j) else 0)
    (hl1 : ∀ j, j < 5 * (n + 1) → lo' j = lo j) (hl2 : ∀ j, j < 5 → lo' (5 * (n + 1) + j) = if j < np then ent (7 * n + h + j) else 0) :
    ph_SK (n + 1) (ph_un (ph_un hg n h) (n + 1) 0) s' (upd (upd ents n (nI h)) (n + 1) (nI 0)) lo' ent (upd (upd high n (nI h)) (n + 1) (nI 0)) := by
  intro j hj
  by_cases e : j = n + 1
  · subst e
    rw [ph_un_s, pk_us, pk_us]
    refine ⟨by omega, rfl, rfl, fun k hk => ?_, fun k hk => by omega⟩
    rw [hs2 k hk, hl2 k hk]
    by_cases c : k < np
    · rw [if_pos c, if_pos c]
      have := (S n (Nat.le_refl _)).2.2.2.2 (h + k) (by omega)
      rw [show 11 * n + 5 + h + k = 11 * n + 5 + (h + k) by omega, show 7 * n + h + k = 7 * n + (h + k) by omega]
      exact this
    · rw [if_neg c, if_neg c]
  · obtain ⟨a1, a2, a3, a4, a5⟩ := S j (by omega)
    have hloc : ∀ k, k < 5 → s' (11 * j + k) = lo' (5 * j + k) := fun k hk => by rw [hs1 _ (by omega), hl1 _ (by omega)]; exact a4 k hk
    rw [ph_un_n e, pk_un e, pk_un e]
    by_cases c : j = n
    · subst c
      rw [ph_un_s, pk_us, pk_us]
      exact ⟨by omega, rfl, rfl, hloc, fun k hk => by rw [hs1 _ (by omega)]; exact a5 k (by omega)⟩
    · rw [ph_un_n c, pk_un c, pk_un c]
      exact ⟨a1, a2, a3, hloc, fun k hk => by rw [hs1 _ (by omega)]; exact a5 k hk⟩
theorem ph_SK_out {m : Nat} {e' : Nat → Int32} (S : ph_SK n hg slot ents lo ent high) (hm : m ≤ n) (he : ∀ j, j ≤ m → e' j = ents j) : ph_SK m hg slot e' lo ent high := by
  intro j hj
  obtain ⟨a1, a2, a3, a4, a5⟩ := S j (by omega)
  exact ⟨a1, by rw [he j hj]; exact a2, a3, a4, a5⟩
end
/-- a step within the frame -/
theorem ph_RD_in {B : Nat → Nat} {p : Nat} {HI : Nat → Nat → Int32} {ee : Nat → Nat} {n i' h' : Nat} {fn ps hg : Nat → Nat} {slot back ents aF aP aH aL aE sl' en' aH' aL' aE' : Nat → Int32}
    (R : ph_RD B p HI ee n fn ps hg slot back ents aF aP aH aL aE) (S : ph_SK n (ph_un hg n h') sl' en' aL' aE' aH') (hR : ph_RR B HI (fn n) i' h') :
    ph_RD B p HI ee n fn (ph_un ps n i') (ph_un hg n h') sl' back en' aF (upd aP n (nI (120 * p + ph_hd B (fn n) + 3 + i'))) aH' aL' aE' := by
  obtain ⟨r1, r2, r3, r4, r5⟩ := R
  refine ⟨r1, S, fun j hj => ?_, by rw [ph_un_s, ph_un_s]; exact hR, fun j hj => ?_⟩
  · obtain ⟨a1, a2, a3⟩ := r3 j hj
    by_cases e : j = n
    · subst e; rw [ph_un_s, pk_us]; exact ⟨a1, a2, rfl⟩
    · rw [ph_un_n e, pk_un e]; exact ⟨a1, a2, a3⟩
  · rw [ph_un_n (by omega), ph_un_n (by omega)]; exact r5 j hj
/-- what holds of an instruction that is reached -/
theorem ph_at {B : Nat → Nat} {L p g i h : Nat} {HI : Nat → Nat → Int32} {ee : Nat → Nat} {em en pp pt : Nat → Int32} (hS : ph_RS B L p HI ee em en pp pt) (hg : g < ph_nf B) (hR : ph_RR B HI g i h) :
    ph_St (ph_cdo B g) i ∧ i < ph_sz B g ∧ h ≤ 6 ∧ ph_isbad (ph_nf B) (B 1) (B (ph_hd B g) + B (ph_hd B g + 1)) (ph_sz B g) (ph_cdo B g) i = false ∧ ph_tk B (ph_cdo B g) i ≤ h ∧ ph_af B (ph_cdo B g) i h ≤ 6 ∧
    ph_E2 (ph_sz B g) (ph_cdo B g) (HI g) (ee g) em i ∧ ph_OA B HI ee g i + ph_wd (ph_cdo B g i) ≤ 960 ∧ ph_TA B HI ee g i ≤ ph_OA B HI ee g i ∧
    (ph_cdo B g i ≠ 10 → ph_cdo B g i ≠ 16 → ph_RR B HI g (i + ph_wd (ph_cdo B g i)) (ph_af B (ph_cdo B g) i h) ∧ ph_TA B HI ee g (i + ph_wd (ph_cdo B g i)) = ph_OA B HI ee g i + ph_wd (ph_cdo B g i)) ∧
    (ph_isj (ph_cdo B g i) = true → ∃ t : Nat, ph_tg (ph_cdo B g) i = (t : Int) ∧ t < ph_sz B g ∧ ph_RR B HI g t (ph_af B (ph_cdo B g) i h) ∧ ph_LD B g t ∧ nI (ph_OA B HI ee g i + 2) + em (ph_OA B HI ee g i + 1) = nI (ph_TA B HI ee g t)) := by
  obtain ⟨hO, hp, hpt, hG⟩ := hS
  obtain ⟨g1, g2, g3, g4, g5, g6⟩ := hG g hg
  obtain ⟨hC, hJ⟩ := hO.2 g hg
  obtain ⟨q1, q2, q3, q4, q5, q6⟩ := g1.2.2 i h hR
  have hre : ph_re (ph_sz B g) (ph_cdo B g) (HI g) i := ⟨q1, q2, by rw [hR.2.2]; exact ph_nIm1 (by omega)⟩
  have hE := g6 i hre
  obtain ⟨o1, o2, o3⟩ := ph_ow_lt (e := ee g) hre g2 q2
  refine ⟨q1, q2, q3, hC i q1 q2, q4.1, q4.2.1, hE, by unfold ph_OA; omega, by unfold ph_OA ph_TA; omega, fun z1 z2 => ⟨q5 z1 z2, ?_⟩, fun z => ?_⟩
  · unfold ph_TA ph_OA
    exact ph_T_r hre
  · obtain ⟨t, t1, t2, t3⟩ := hJ i q1 q2 z
    exact ⟨t, t3, t2, q6 z t t3, Or.inr ⟨i, q1, q2, Or.inl ⟨z, t3⟩⟩, hE.2.2.2 z t t3⟩
end
section
/-! ===== one instruction of both sides (printed by gen26.py) ===== -/
section
variable {f_nodes f_rules f_version f_count f_at f_place f_number f_imports f_functions f_fault f_frames f_box f_pc f_status f_result : Int32} {f_waiting f_memory : Int64} {a_child a_verdict a_ruleNode a_before a_nodesBefore a_bytes a_path a_pathAt a_params a_locals a_from a_size a_high a_loaded a_emitted a_entry a_pParams a_pFunctions a_pImports a_pPath a_judged a_fine a_newAt a_plugin a_quota a_statics a_slot a_back a_entries : Nat → Int32}
variable {g_rules g_place g_number g_pos g_finding g_active g_result : Int32} {g_memory : Int64} {b_ruleParts b_rulePath b_ruleAllows b_bytes b_length b_present b_ways b_boxPlugin b_boxQuota b_boxOpen b_statics b_aFn b_aPos b_aHigh b_aLocal b_aEntry : Nat → Int32}
variable {B : Nat → Nat} {L p n x : Nat} {HI : Nat → Nat → Int32} {ee fn ps hg : Nat → Nat} {mem : Int64} {st : Nat → Int32} {res : Int32}
theorem ph_instr {Q : Prop} (hS : ph_RS B L p HI ee a_emitted a_entry a_pParams a_pPath) (hx : x < 4) (ep : a_plugin x = nI p) (hB : ph_BY B L p b_bytes)
    (hR : ph_RD B p HI ee n fn ps hg a_slot a_back a_entries b_aFn b_aPos b_aHigh b_aLocal b_aEntry)
    (Kc : ∀ n' fn' ps' hg' mem' st' sl' bk' en' aF aP aH aL aE, ph_RD B p HI ee n' fn' ps' hg' sl' bk' en' aF aP aH aL aE → (ph_LD B (fn' n') (ps' n') ∨ (n' = n ∧ fn' n' = fn n ∧ ps' n' = ps n + ph_wd (ph_cdo B (fn n) (ps n)))) →
      (∀ post : SX → Prop, post (f_nodes, f_rules, f_version, f_count, f_at, f_place, f_number, f_imports, f_functions, f_waiting, f_fault, nI (n' + 1), nI x, nI (ph_TA B HI ee (fn' n') (ps' n')), 0, res, mem', a_child, a_verdict, a_ruleNode, a_before, a_nodesBefore, a_bytes, a_path, a_pathAt, a_params, a_locals, a_from, a_size, a_high, a_loaded, a_emitted, a_entry, a_pParams, a_pFunctions, a_pImports, a_pPath, a_judged, a_fine, a_newAt, a_plugin, a_quota, st', sl', bk', en') → wpX_execute post (f_nodes, f_rules, f_version, f_count, f_at, f_place, f_number, f_imports, f_functions, f_waiting, f_fault, nI (n + 1), nI x, nI (ph_OA B HI ee (fn n) (ps n)), 0, res, mem, a_child, a_verdict, a_ruleNode, a_before, a_nodesBefore, a_bytes, a_path, a_pathAt, a_params, a_locals, a_from, a_size, a_high, a_loaded, a_emitted, a_entry, a_pParams, a_pFunctions, a_pImports, a_pPath, a_judged, a_fine, a_newAt, a_plugin, a_quota, st, a_slot, a_back, a_entries)) →
      (∀ post : Int32 → SY → Prop, post (-1) (g_rules, g_place, g_number, g_pos, g_finding, nI (n' + 1), res, mem', b_ruleParts, b_rulePath, b_ruleAllows, b_bytes, b_length, b_present, b_ways, b_boxPlugin, b_boxQuota, b_boxOpen, st', aF, aP, aH, aL, aE) → wY_step_79 post (nI p) (nI x) (nI n) (nI (120 * p + ph_hd B (fn n) + 3 + ps n)) (nI (ph_cdo B (fn n) (ps n))) g_rules g_place g_number g_pos g_finding (nI (n + 1)) res mem b_ruleParts b_rulePath b_ruleAllows b_bytes b_length b_present b_ways b_boxPlugin b_boxQuota b_boxOpen st b_aFn b_aPos b_aHigh b_aLocal b_aEntry) → Q)
    (Ke : ∀ s res' pc' en' ac', s ≤ 3 → (∀ post : SX → Prop, post (f_nodes, f_rules, f_version, f_count, f_at, f_place, f_number, f_imports, f_functions, f_waiting, f_fault, 0, nI x, pc', nI s, res', mem, a_child, a_verdict, a_ruleNode, a_before, a_nodesBefore, a_bytes, a_path, a_pathAt, a_params, a_locals, a_from, a_size, a_high, a_loaded, a_emitted, a_entry, a_pParams, a_pFunctions, a_pImports, a_pPath, a_judged, a_fine, a_newAt, a_plugin, a_quota, st, a_slot, a_back, en') → wpX_execute post (f_nodes, f_rules, f_version, f_count, f_at, f_place, f_number, f_imports, f_functions, f_waiting, f_fault, nI (n + 1), nI x, nI (ph_OA B HI ee (fn n) (ps n)), 0, res, mem, a_child, a_verdict, a_ruleNode, a_before, a_nodesBefore, a_bytes, a_path, a_pathAt, a_params, a_locals, a_from, a_size, a_high, a_loaded, a_emitted, a_entry, a_pParams, a_pFunctions, a_pImports, a_pPath, a_judged, a_fine, a_newAt, a_plugin, a_quota, st, a_slot, a_back, a_entries)) →
      (∀ post : Int32 → SY → Prop, post (nI s) (g_rules, g_place, g_number, g_pos, g_finding, ac', res', mem, b_ruleParts, b_rulePath, b_ruleAllows, b_bytes, b_length, b_present, b_ways, b_boxPlugin, b_boxQuota, b_boxOpen, st, b_aFn, b_aPos, b_aHigh, b_aLocal, b_aEntry) → wY_step_79 post (nI p) (nI x) (nI n) (nI (120 * p + ph_hd B (fn n) + 3 + ps n)) (nI (ph_cdo B (fn n) (ps n))) g_rules g_place g_number g_pos g_finding (nI (n + 1)) res mem b_ruleParts b_rulePath b_ruleAllows b_bytes b_length b_present b_ways b_boxPlugin b_boxQuota b_boxOpen st b_aFn b_aPos b_aHigh b_aLocal b_aEntry) → Q) : Q := by
  obtain ⟨hn, hSK, hfr, hRR, hbk⟩ := id hR
  obtain ⟨hg1, hg2, hg3⟩ := hfr n (Nat.le_refl _)
  obtain ⟨s1, s2, s3, s4, s5⟩ := hSK n (Nat.le_refl _)
  obtain ⟨a1, a2, a3, a4, a5, a6, a7, a8, a9, a10, a11⟩ := ph_at hS hg1 hRR
  obtain ⟨b1, b2, b3⟩ := ph_isbad_f a4
  have hW := hS.1.1
  have hp3 := hS.2.1
  have hn4 := hW.2.2.2.2.1
  have h14 := hW.2.1
  have hff := hW.2.2.2.2.2.2 (fn n) hg1
  have e2 : a_emitted (ph_OA B HI ee (fn n) (ps n)) = nI (ph_cdo B (fn n) (ps n)) := a7.2.1
  have e3 : ph_wd (ph_cdo B (fn n) (ps n)) = 2 → ph_isj (ph_cdo B (fn n) (ps n)) = false → a_emitted (ph_OA B HI ee (fn n) (ps n) + 1) = ph_sv (ph_cdo B (fn n) (ps n + 1)) := a7.2.2.1
  have fin : ∀ i' h' mem' st' sl' en' aH aL aE, ph_SK n (ph_un hg n h') sl' en' aL aE aH → ph_RR B HI (fn n) i' h' → (ph_LD B (fn n) i' ∨ i' = ps n + ph_wd (ph_cdo B (fn n) (ps n))) →
      (∀ post : SX → Prop, post (f_nodes, f_rules, f_version, f_count, f_at, f_place, f_number, f_imports, f_functions, f_waiting, f_fault, nI (n + 1), nI x, nI (ph_TA B HI ee (fn n) i'), 0, res, mem', a_child, a_verdict, a_ruleNode, a_before, a_nodesBefore, a_bytes, a_path, a_pathAt, a_params, a_locals, a_from, a_size, a_high, a_loaded, a_emitted, a_entry, a_pParams, a_pFunctions, a_pImports, a_pPath, a_judged, a_fine, a_newAt, a_plugin, a_quota, st', sl', a_back, en') → wpX_execute post (f_nodes, f_rules, f_version, f_count, f_at, f_place, f_number, f_imports, f_functions, f_waiting, f_fault, nI (n + 1), nI x, nI (ph_OA B HI ee (fn n) (ps n)), 0, res, mem, a_child, a_verdict, a_ruleNode, a_before, a_nodesBefore, a_bytes, a_path, a_pathAt, a_params, a_locals, a_from, a_size, a_high, a_loaded, a_emitted, a_entry, a_pParams, a_pFunctions, a_pImports, a_pPath, a_judged, a_fine, a_newAt, a_plugin, a_quota, st, a_slot, a_back, a_entries)) →
      (∀ post : Int32 → SY → Prop, post (-1) (g_rules, g_place, g_number, g_pos, g_finding, nI (n + 1), res, mem', b_ruleParts, b_rulePath, b_ruleAllows, b_bytes, b_length, b_present, b_ways, b_boxPlugin, b_boxQuota, b_boxOpen, st', b_aFn, upd b_aPos n (nI (120 * p + ph_hd B (fn n) + 3 + i')), aH, aL, aE) → wY_step_79 post (nI p) (nI x) (nI n) (nI (120 * p + ph_hd B (fn n) + 3 + ps n)) (nI (ph_cdo B (fn n) (ps n))) g_rules g_place g_number g_pos g_finding (nI (n + 1)) res mem b_ruleParts b_rulePath b_ruleAllows b_bytes b_length b_present b_ways b_boxPlugin b_boxQuota b_boxOpen st b_aFn b_aPos b_aHigh b_aLocal b_aEntry) → Q := by
    intro i' h' mem' st' sl' en' aH aL aE q1 q2 q3 q4 q5
    refine Kc n fn (ph_un ps n i') (ph_un hg n h') mem' st' sl' a_back en' b_aFn _ aH aL aE (ph_RD_in hR q1 q2) ?_ (fun post k => q4 post ?_) q5
    · rw [ph_un_s]
      rcases q3 with z | z
      · exact Or.inl z
      · exact Or.inr ⟨rfl, rfl, z⟩
    · rw [ph_un_s] at k; exact k
  have hop := ph_17 b1
  have htk := a5
  have haf := a6
  unfold ph_af at haf
  have hjn : ph_cdo B (fn n) (ps n) ≠ 10 → ph_cdo B (fn n) (ps n) ≠ 11 → ph_isj (ph_cdo B (fn n) (ps n)) = false := fun z y => by unfold ph_isj; simp [z, y]
  have hsv : ∀ b, b < 128 → ph_sv b = nI b := fun b hb => ph_sv_lt hb
  rcases hop with e | e | e | e | e | e | e | e | e | e | e | e | e | e | e | e | e
  · -- push
    have hw : ph_wd (ph_cdo B (fn n) (ps n)) = 2 := by rw [e]; rfl
    have t1 : ph_tk B (ph_cdo B (fn n)) (ps n) = 0 := by rw [ph_tk_n (by omega), e]; rfl
    have t2 : ph_gv (ph_cdo B (fn n) (ps n)) = 1 := by rw [e]; rfl
    rw [t1] at htk haf
    rw [t2] at haf
    obtain ⟨f1, f2⟩ := a10 (by omega) (by omega)
    unfold ph_af at f1
    rw [t1, t2, hw] at f1
    rw [hw] at f2
    refine fin (ps n + 2) (hg n - 0 + 1) mem st _ _ _ _ _ (ph_SK_put (v := ph_sv (ph_cdo B (fn n) (ps n + 1))) hSK (by omega) (by omega)) f1 (Or.inr (by rw [hw])) (fun post k => ?_) (fun post k => ?_)
    · rw [f2] at k
      refine ph_xe0 hn (by omega) s2 (by rw [e2, e]) (by omega) ?_
      rw [e3 hw (hjn (by omega) (by omega))]
      exact k
    · exact ph_yo0 (by omega) hB hW hg1 a4 a2 hn (by omega) s3 hx _ (Or.inl ⟨e, rfl⟩) k
  · -- load
    have hw : ph_wd (ph_cdo B (fn n) (ps n)) = 2 := by rw [e]; rfl
    have t1 : ph_tk B (ph_cdo B (fn n)) (ps n) = 0 := by rw [ph_tk_n (by omega), e]; rfl
    have t2 : ph_gv (ph_cdo B (fn n) (ps n)) = 1 := by rw [e]; rfl
    rw [t1] at htk haf
    rw [t2] at haf
    obtain ⟨f1, f2⟩ := a10 (by omega) (by omega)
    unfold ph_af at f1
    rw [t1, t2, hw] at f1
    rw [hw] at f2
    have hb : ph_cdo B (fn n) (ps n + 1) < 5 := by
      have := b3 hw
      rw [e] at this
      have : ph_cdo B (fn n) (ps n + 1) < B (ph_hd B (fn n)) + B (ph_hd B (fn n) + 1) := this
      omega
    refine fin (ps n + 2) (hg n - 0 + 1) mem st _ _ _ _ _ (ph_SK_put (v := b_aLocal (5 * n + ph_cdo B (fn n) (ps n + 1))) hSK (by omega) (by omega)) f1 (Or.inr (by rw [hw])) (fun post k => ?_) (fun post k => ?_)
    · rw [f2] at k
      refine ph_xe1 hn (by omega) s2 (by rw [e2, e]) (by rw [e3 hw (hjn (by omega) (by omega)), hsv _ (by omega)]) hb (by omega) ?_
      rw [s4 _ hb]
      exact k
    · exact ph_yo0 (by omega) hB hW hg1 a4 a2 hn (by omega) s3 hx _ (Or.inr (Or.inl ⟨e, hb, rfl⟩)) k
  · -- store
    have hw : ph_wd (ph_cdo B (fn n) (ps n)) = 2 := by rw [e]; rfl
    have t1 : ph_tk B (ph_cdo B (fn n)) (ps n) = 1 := by rw [ph_tk_n (by omega), e]; rfl
    have t2 : ph_gv (ph_cdo B (fn n) (ps n)) = 0 := by rw [e]; rfl
    rw [t1] at htk haf
    rw [t2] at haf
    obtain ⟨f1, f2⟩ := a10 (by omega) (by omega)
    unfold ph_af at f1
    rw [t1, t2, hw] at f1
    rw [hw] at f2
    have hb : ph_cdo B (fn n) (ps n + 1) < 5 := by
      have := b3 hw
      rw [e] at this
      have : ph_cdo B (fn n) (ps n + 1) < B (ph_hd B (fn n)) + B (ph_hd B (fn n) + 1) := this
      omega
    obtain ⟨h', eh⟩ : ∃ h', hg n = h' + 1 := ⟨hg n - 1, by omega⟩
    rw [eh] at s2 s3 s5 f1
    refine fin (ps n + 2) h' mem st _ _ _ _ _ (ph_SK_loc (v := b_aEntry (7 * n + h')) (ph_SK_set hSK (h := h') (by omega)) hb) f1 (Or.inr (by rw [hw])) (fun post k => ?_) (fun post k => ?_)
    · rw [f2] at k
      refine ph_xe2 (h := h') hn (by omega) s2 (by rw [e2, e]) (by rw [e3 hw (hjn (by omega) (by omega)), hsv _ (by omega)]) hb (by omega) ?_
      rw [s5 h' (by omega)]
      exact k
    · exact ph_yo2 (by omega) hB hW hg1 a4 a2 hn (by omega) s3 e hb k
  · -- calculation 3
    have hw : ph_wd (ph_cdo B (fn n) (ps n)) = 1 := by rw [e]; rfl
    have t1 : ph_tk B (ph_cdo B (fn n)) (ps n) = 2 := by rw [ph_tk_n (by omega), e]; rfl
    have t2 : ph_gv (ph_cdo B (fn n) (ps n)) = 1 := by rw [e]; rfl
    rw [t1] at htk haf
    rw [t2] at haf
    obtain ⟨f1, f2⟩ := a10 (by omega) (by omega)
    unfold ph_af at f1
    rw [t1, t2, hw] at f1
    rw [hw] at f2
    obtain ⟨h', eh⟩ : ∃ h', hg n = h' + 2 := ⟨hg n - 2, by omega⟩
    rw [eh] at s2 s3 s5 f1
    have v1 := s5 h' (by omega)
    have v2 := s5 (h' + 1) (by omega)
    refine fin (ps n + 1) (h' + 1) mem st _ _ _ _ _ (ph_SK_put (h := h') (v := ph_ca (ph_cdo B (fn n) (ps n)) (b_aEntry (7 * n + h')) (b_aEntry (7 * n + (h' + 1)))) hSK (by omega) (by omega)) f1 (Or.inr (by rw [hw])) (fun post k => ?_) (fun post k => ?_)
    · rw [f2] at k
      refine ph_xe37 (h := h') (op := ph_cdo B (fn n) (ps n)) (by omega) hn (by omega) s2 e2 (by omega) (fun _ => ?_) (fun z1 z2 => ?_)
      · rw [v1, v2]; exact k
      · omega
    · exact ph_yo37 (by omega) hB hW hg1 a4 a2 hn (by omega) s3 (by omega) (fun _ => k) (fun z1 z2 => by omega)
  · -- calculation 4
    have hw : ph_wd (ph_cdo B (fn n) (ps n)) = 1 := by rw [e]; rfl
    have t1 : ph_tk B (ph_cdo B (fn n)) (ps n) = 2 := by rw [ph_tk_n (by omega), e]; rfl
    have t2 : ph_gv (ph_cdo B (fn n) (ps n)) = 1 := by rw [e]; rfl
    rw [t1] at htk haf
    rw [t2] at haf
    obtain ⟨f1, f2⟩ := a10 (by omega) (by omega)
    unfold ph_af at f1
    rw [t1, t2, hw] at f1
    rw [hw] at f2
    obtain ⟨h', eh⟩ : ∃ h', hg n = h' + 2 := ⟨hg n - 2, by omega⟩
    rw [eh] at s2 s3 s5 f1
    have v1 := s5 h' (by omega)
    have v2 := s5 (h' + 1) (by omega)
    refine fin (ps n + 1) (h' + 1) mem st _ _ _ _ _ (ph_SK_put (h := h') (v := ph_ca (ph_cdo B (fn n) (ps n)) (b_aEntry (7 * n + h')) (b_aEntry (7 * n + (h' + 1)))) hSK (by omega) (by omega)) f1 (Or.inr (by rw [hw])) (fun post k => ?_) (fun post k => ?_)
    · rw [f2] at k
      refine ph_xe37 (h := h') (op := ph_cdo B (fn n) (ps n)) (by omega) hn (by omega) s2 e2 (by omega) (fun _ => ?_) (fun z1 z2 => ?_)
      · rw [v1, v2]; exact k
      · omega
    · exact ph_yo37 (by omega) hB hW hg1 a4 a2 hn (by omega) s3 (by omega) (fun _ => k) (fun z1 z2 => by omega)
  · -- calculation 5
    have hw : ph_wd (ph_cdo B (fn n) (ps n)) = 1 := by rw [e]; rfl
    have t1 : ph_tk B (ph_cdo B (fn n)) (ps n) = 2 := by rw [ph_tk_n (by omega), e]; rfl
    have t2 : ph_gv (ph_cdo B (fn n) (ps n)) = 1 := by rw [e]; rfl
    rw [t1] at htk haf
    rw [t2] at haf
    obtain ⟨f1, f2⟩ := a10 (by omega) (by omega)
    unfold ph_af at f1
    rw [t1, t2, hw] at f1
    rw [hw] at f2
    obtain ⟨h', eh⟩ : ∃ h', hg n = h' + 2 := ⟨hg n - 2, by omega⟩
    rw [eh] at s2 s3 s5 f1
    have v1 := s5 h' (by omega)
    have v2 := s5 (h' + 1) (by omega)
    refine fin (ps n + 1) (h' + 1) mem st _ _ _ _ _ (ph_SK_put (h := h') (v := ph_ca (ph_cdo B (fn n) (ps n)) (b_aEntry (7 * n + h')) (b_aEntry (7 * n + (h' + 1)))) hSK (by omega) (by omega)) f1 (Or.inr (by rw [hw])) (fun post k => ?_) (fun post k => ?_)
    · rw [f2] at k
      refine ph_xe37 (h := h') (op := ph_cdo B (fn n) (ps n)) (by omega) hn (by omega) s2 e2 (by omega) (fun _ => ?_) (fun z1 z2 => ?_)
      · rw [v1, v2]; exact k
      · omega
    · exact ph_yo37 (by omega) hB hW hg1 a4 a2 hn (by omega) s3 (by omega) (fun _ => k) (fun z1 z2 => by omega)
  · -- calculation 6
    have hw : ph_wd (ph_cdo B (fn n) (ps n)) = 1 := by rw [e]; rfl
    have t1 : ph_tk B (ph_cdo B (fn n)) (ps n) = 2 := by rw [ph_tk_n (by omega), e]; rfl
    have t2 : ph_gv (ph_cdo B (fn n) (ps n)) = 1 := by rw [e]; rfl
    rw [t1] at htk haf
    rw [t2] at haf
    obtain ⟨f1, f2⟩ := a10 (by omega) (by omega)
    unfold ph_af at f1
    rw [t1, t2, hw] at f1
    rw [hw] at f2
    obtain ⟨h', eh⟩ : ∃ h', hg n = h' + 2 := ⟨hg n - 2, by omega⟩
    rw [eh] at s2 s3 s5 f1
    have v1 := s5 h' (by omega)
    have v2 := s5 (h' + 1) (by omega)
    by_cases dz : b_aEntry (7 * n + (h' + 1)) = 0
    · refine Ke 2 res (nI (ph_OA B HI ee (fn n) (ps n) + 1)) (upd a_entries n (nI h')) (nI (n + 1)) (by omega) (fun post k => ?_) (fun post k => ?_)
      rotate_left
      · exact ph_yo37 (by omega) hB hW hg1 a4 a2 hn (by omega) s3 (by omega) (fun z => absurd dz (z e)) (fun _ _ => k)
      · exact ph_xe37 (h := h') (op := ph_cdo B (fn n) (ps n)) (by omega) hn (by omega) s2 e2 (by omega) (fun z => absurd (v2.trans dz) (z e)) (fun z1 z2 => k)
    · refine fin (ps n + 1) (h' + 1) mem st _ _ _ _ _ (ph_SK_put (h := h') (v := ph_ca (ph_cdo B (fn n) (ps n)) (b_aEntry (7 * n + h')) (b_aEntry (7 * n + (h' + 1)))) hSK (by omega) (by omega)) f1 (Or.inr (by rw [hw])) (fun post k => ?_) (fun post k => ?_)
      · rw [f2] at k
        refine ph_xe37 (h := h') (op := ph_cdo B (fn n) (ps n)) (by omega) hn (by omega) s2 e2 (by omega) (fun _ => ?_) (fun z1 z2 => ?_)
        · rw [v1, v2]; exact k
        · exact absurd (v2.symm.trans z2) dz
      · exact ph_yo37 (by omega) hB hW hg1 a4 a2 hn (by omega) s3 (by omega) (fun _ => k) (fun z1 z2 => absurd z2 dz)
  · -- calculation 7
    have hw : ph_wd (ph_cdo B (fn n) (ps n)) = 1 := by rw [e]; rfl
    have t1 : ph_tk B (ph_cdo B (fn n)) (ps n) = 2 := by rw [ph_tk_n (by omega), e]; rfl
    have t2 : ph_gv (ph_cdo B (fn n) (ps n)) = 1 := by rw [e]; rfl
    rw [t1] at htk haf
    rw [t2] at haf
    obtain ⟨f1, f2⟩ := a10 (by omega) (by omega)
    unfold ph_af at f1
    rw [t1, t2, hw] at f1
    rw [hw] at f2
    obtain ⟨h', eh⟩ : ∃ h', hg n = h' + 2 := ⟨hg n - 2, by omega⟩
    rw [eh] at s2 s3 s5 f1
    have v1 := s5 h' (by omega)
    have v2 := s5 (h' + 1) (by omega)
    refine fin (ps n + 1) (h' + 1) mem st _ _ _ _ _ (ph_SK_put (h := h') (v := ph_ca (ph_cdo B (fn n) (ps n)) (b_aEntry (7 * n + h')) (b_aEntry (7 * n + (h' + 1)))) hSK (by omega) (by omega)) f1 (Or.inr (by rw [hw])) (fun post k => ?_) (fun post k => ?_)
    · rw [f2] at k
      refine ph_xe37 (h := h') (op := ph_cdo B (fn n) (ps n)) (by omega) hn (by omega) s2 e2 (by omega) (fun _ => ?_) (fun z1 z2 => ?_)
      · rw [v1, v2]; exact k
      · omega
    · exact ph_yo37 (by omega) hB hW hg1 a4 a2 hn (by omega) s3 (by omega) (fun _ => k) (fun z1 z2 => by omega)
  · -- dup
    have hw : ph_wd (ph_cdo B (fn n) (ps n)) = 1 := by rw [e]; rfl
    have t1 : ph_tk B (ph_cdo B (fn n)) (ps n) = 1 := by rw [ph_tk_n (by omega), e]; rfl
    have t2 : ph_gv (ph_cdo B (fn n) (ps n)) = 2 := by rw [e]; rfl
    rw [t1] at htk haf
    rw [t2] at haf
    obtain ⟨f1, f2⟩ := a10 (by omega) (by omega)
    unfold ph_af at f1
    rw [t1, t2, hw] at f1
    rw [hw] at f2
    obtain ⟨h', eh⟩ : ∃ h', hg n = h' + 1 := ⟨hg n - 1, by omega⟩
    rw [eh] at s2 s3 s5 f1
    have S2 := ph_SK_put (h := h' + 1) (v := b_aEntry (7 * n + h')) (ph_SK_put (h := h') (v := b_aEntry (7 * n + h')) hSK (by omega) (by omega)) (by rw [ph_un_s]; omega) (by omega)
    rw [ph_unun, ph_uu, ph_uu] at S2
    refine fin (ps n + 1) (h' + 1 + 1) mem st _ _ _ _ _ S2 f1 (Or.inr (by rw [hw])) (fun post k => ?_) (fun post k => ?_)
    · rw [f2] at k
      refine ph_xe8 (h := h') hn (by omega) s2 (by rw [e2, e]) (by omega) ?_
      rw [s5 h' (by omega)]
      exact k
    · exact ph_yo8 (by omega) hB hW hg1 a4 a2 hn (by omega) s3 e k
  · -- pop
    have hw : ph_wd (ph_cdo B (fn n) (ps n)) = 1 := by rw [e]; rfl
    have t1 : ph_tk B (ph_cdo B (fn n)) (ps n) = 1 := by rw [ph_tk_n (by omega), e]; rfl
    have t2 : ph_gv (ph_cdo B (fn n) (ps n)) = 0 := by rw [e]; rfl
    rw [t1] at htk haf
    rw [t2] at haf
    obtain ⟨f1, f2⟩ := a10 (by omega) (by omega)
    unfold ph_af at f1
    rw [t1, t2, hw] at f1
    rw [hw] at f2
    obtain ⟨h', eh⟩ : ∃ h', hg n = h' + 1 := ⟨hg n - 1, by omega⟩
    rw [eh] at s2 s3 s5 f1
    refine fin (ps n + 1) h' mem st _ _ _ _ _ (ph_SK_set hSK (h := h') (by omega)) f1 (Or.inr (by rw [hw])) (fun post k => ?_) (fun post k => ?_)
    · rw [f2] at k
      exact ph_xe9 (h := h') hn (by omega) s2 (by rw [e2, e]) (by omega) k
    · exact ph_yo9 (by omega) hB hW hg1 a4 a2 hn (by omega) s3 e k
  · -- jump
    have hw : ph_wd (ph_cdo B (fn n) (ps n)) = 2 := by rw [e]; rfl
    have t1 : ph_tk B (ph_cdo B (fn n)) (ps n) = 0 := by rw [ph_tk_n (by omega), e]; rfl
    have t2 : ph_gv (ph_cdo B (fn n) (ps n)) = 0 := by rw [e]; rfl
    rw [t1] at htk haf
    rw [t2] at haf
    obtain ⟨t, t3, t4, t5, t6, t7⟩ := a11 (by rw [e]; rfl)
    unfold ph_af at t5
    rw [t1, t2] at t5
    have S2 := ph_SK_set hSK (h := hg n) (Nat.le_refl _)
    rw [ph_upself s2] at S2
    refine fin t (hg n) mem st _ _ _ _ _ S2 t5 (Or.inl t6) (fun post k => ?_) (fun post k => ?_)
    · exact ph_xe10 (by rw [e2, e]) (by omega) t7 k
    · exact ph_yo10 (by omega) hB hW hg1 a4 a2 hn (by omega) s3 e t3 t4 k
  · -- jump if zero
    have hw : ph_wd (ph_cdo B (fn n) (ps n)) = 2 := by rw [e]; rfl
    have t1 : ph_tk B (ph_cdo B (fn n)) (ps n) = 1 := by rw [ph_tk_n (by omega), e]; rfl
    have t2 : ph_gv (ph_cdo B (fn n) (ps n)) = 0 := by rw [e]; rfl
    rw [t1] at htk haf
    rw [t2] at haf
    obtain ⟨f1, f2⟩ := a10 (by omega) (by omega)
    unfold ph_af at f1
    rw [t1, t2, hw] at f1
    rw [hw] at f2
    obtain ⟨t, t3, t4, t5, t6, t7⟩ := a11 (by rw [e]; rfl)
    unfold ph_af at t5
    rw [t1, t2] at t5
    obtain ⟨h', eh⟩ : ∃ h', hg n = h' + 1 := ⟨hg n - 1, by omega⟩
    rw [eh] at s2 s3 s5 f1 t5
    have v1 := s5 h' (by omega)
    have S2 := ph_SK_set hSK (h := h') (by omega)
    by_cases dz : b_aEntry (7 * n + h') = 0
    · refine fin t h' mem st _ _ _ _ _ S2 t5 (Or.inl t6) (fun post k => ?_) (fun post k => ?_)
      · exact ph_xe11 (h := h') hn (by omega) s2 (by rw [e2, e]) (by omega) t7 (fun _ => k) (fun z => absurd (v1.trans dz) z)
      · exact ph_yo11 (by omega) hB hW hg1 a4 a2 hn (by omega) s3 e t3 t4 (fun _ => k) (fun z => absurd dz z)
    · refine fin (ps n + 2) h' mem st _ _ _ _ _ S2 f1 (Or.inr (by rw [hw])) (fun post k => ?_) (fun post k => ?_)
      · rw [f2] at k
        exact ph_xe11 (h := h') hn (by omega) s2 (by rw [e2, e]) (by omega) t7 (fun z => absurd (v1.symm.trans z) dz) (fun _ => k)
      · exact ph_yo11 (by omega) hB hW hg1 a4 a2 hn (by omega) s3 e t3 t4 (fun z => absurd z dz) (fun _ => k)
  · -- call
    have hw : ph_wd (ph_cdo B (fn n) (ps n)) = 2 := by rw [e]; rfl
    have hgc : ph_cdo B (fn n) (ps n + 1) < ph_nf B := by
      have := b3 hw
      rw [e] at this
      exact this
    obtain ⟨g', eg⟩ : ∃ g', ph_cdo B (fn n) (ps n + 1) = g' := ⟨_, rfl⟩
    obtain ⟨np, enp⟩ : ∃ np, B (ph_hd B g') = np := ⟨_, rfl⟩
    have hnp : np ≤ 2 := by
      have := (hW.2.2.2.2.2.2 g' (by omega)).1
      omega
    have t1 : ph_tk B (ph_cdo B (fn n)) (ps n) = np := by rw [ph_tk_c e, eg, enp]
    have t2 : ph_gv (ph_cdo B (fn n) (ps n)) = 1 := by rw [e]; rfl
    rw [t1] at htk haf
    rw [t2] at haf
    obtain ⟨f1, f2⟩ := a10 (by omega) (by omega)
    unfold ph_af at f1
    rw [t1, t2, hw] at f1
    rw [hw] at f2
    obtain ⟨h', eh⟩ : ∃ h', hg n = h' + np := ⟨hg n - np, by omega⟩
    have f1' : ph_RR B HI (fn n) (ps n + 2) (h' + 1) := by rw [show h' + 1 = hg n - np + 1 by omega]; exact f1
    have s2' : a_entries n = nI (h' + np) := by rw [s2, eh]
    have s3' : b_aHigh n = nI (h' + np) := by rw [s3, eh]
    obtain ⟨q1, q2, q3, q4, q5, q6⟩ := hS.2.2.2 g' (by omega)
    have eb : a_emitted (ph_OA B HI ee (fn n) (ps n) + 1) = nI g' := by rw [e3 hw (hjn (by omega) (by omega)), eg, hsv _ (by omega)]
    rw [enp] at q4
    have q0 : ph_RR B HI g' 0 0 := q1.1
    by_cases d5 : n = 5
    · refine Ke 3 res (nI (ph_OA B HI ee (fn n) (ps n) + 2)) a_entries (nI (n + 1)) (by omega) (fun post k => ?_) (fun post k => ?_)
      rotate_left
      · exact ph_yo12 (by omega) hB hW hg1 a4 a2 hn (by omega) s3' e eg (by omega) enp hnp hg3 (fun _ => k) (fun z => by omega)
      · exact ph_xe12 (h := h') hn (by omega) hnp s2' (by rw [e2, e]) eb (by omega) (by omega) hx rfl hp3 ep q3 q4 (fun _ => k) (fun z => by omega)
    · have n5 : n < 5 := by omega
      refine Kc (n + 1) (ph_un fn (n + 1) g') (ph_un (ph_un ps n (ps n + 2)) (n + 1) 0) (ph_un (ph_un hg n h') (n + 1) 0) mem st (ph_nsl a_slot n h' np) (upd a_back n (nI (ph_OA B HI ee (fn n) (ps n) + 2))) (upd (upd a_entries n (nI h')) (n + 1) (nI 0))
        (upd b_aFn (n + 1) (nI g')) (upd (upd b_aPos n (nI (120 * p + ph_hd B (fn n) + 3 + ps n + 2))) (n + 1) (nI (120 * p + ph_hd B g' + 3))) (upd (upd b_aHigh n (nI h')) (n + 1) (nI 0)) (ph_nlo b_aLocal b_aEntry n h' np) b_aEntry ?_ ?_ (fun post k => ?_) (fun post k => ?_)
      · refine ⟨by omega, ph_SK_in hSK (by omega) (fun j hj => ph_nsl_lo hj) (fun j hj => ph_nsl_hi hnp hj) (fun j hj => ph_nlo_lo hj) (fun j hj => ph_nlo_hi hj), fun j hj => ?_, ?_, fun j hj => ?_⟩
        · by_cases c1 : j = n + 1
          · subst c1
            rw [ph_un_s, ph_un_s, pk_us, pk_us]
            exact ⟨by omega, rfl, rfl⟩
          · obtain ⟨w1, w2, w3⟩ := hfr j (by omega)
            rw [ph_un_n c1, ph_un_n c1, pk_un c1, pk_un c1]
            by_cases c2 : j = n
            · subst c2
              rw [ph_un_s, pk_us]
              exact ⟨w1, w2, rfl⟩
            · rw [ph_un_n c2, pk_un c2]
              exact ⟨w1, w2, w3⟩
        · rw [ph_un_s, ph_un_s, ph_un_s]
          exact q0
        · have c1 : j ≠ n + 1 := by omega
          rw [ph_un_n c1, ph_un_n c1, ph_un_n c1]
          by_cases c2 : j = n
          · subst c2
            rw [ph_un_s, ph_un_s, pk_us]
            exact ⟨f1', Or.inr ⟨ps j, a1, a2, Or.inr (Or.inl ⟨by omega, by omega, rfl⟩)⟩, by rw [f2]⟩
          · rw [ph_un_n c2, ph_un_n c2, pk_un c2]
            exact hbk j (by omega)
      · rw [ph_un_s, ph_un_s]
        exact Or.inl (Or.inl rfl)
      · rw [ph_un_s, ph_un_s] at k
        exact ph_xe12 (h := h') hn (by omega) hnp s2' (by rw [e2, e]) eb (by omega) (by omega) hx rfl hp3 ep q3 q4 (fun z => by omega) (fun _ => k)
      · exact ph_yo12 (by omega) hB hW hg1 a4 a2 hn (by omega) s3' e eg (by omega) enp hnp hg3 (fun z => by omega) (fun _ => k)
  · -- host
    have hw : ph_wd (ph_cdo B (fn n) (ps n)) = 2 := by rw [e]; rfl
    have t1 : ph_tk B (ph_cdo B (fn n)) (ps n) = 1 := by rw [ph_tk_n (by omega), e]; rfl
    have t2 : ph_gv (ph_cdo B (fn n) (ps n)) = 1 := by rw [e]; rfl
    rw [t1] at htk haf
    rw [t2] at haf
    obtain ⟨f1, f2⟩ := a10 (by omega) (by omega)
    unfold ph_af at f1
    rw [t1, t2, hw] at f1
    rw [hw] at f2
    have hb : ph_cdo B (fn n) (ps n + 1) < B 1 := by
      have := b3 hw
      rw [e] at this
      exact this
    obtain ⟨h', eh⟩ : ∃ h', hg n = h' + 1 := ⟨hg n - 1, by omega⟩
    rw [eh] at s2 s3 s5 f1
    have v1 := s5 h' (by omega)
    refine fin (ps n + 2) (h' + 1) (mem * 33 + (b_aEntry (7 * n + h')).toInt64 * 512 + (nI (ph_pth B (ph_cdo B (fn n) (ps n + 1)))).toInt64) st _ _ _ _ _ (ph_SK_put (h := h') (v := (((mem * 33 + (b_aEntry (7 * n + h')).toInt64 * 512 + (nI (ph_pth B (ph_cdo B (fn n) (ps n + 1)))).toInt64).toUInt64 >>> ((20 : Int32).toInt64.toUInt64 &&& Int64.toUInt64 63)).toInt64).toInt32) hSK (by omega) (by omega)) f1 (Or.inr (by rw [hw])) (fun post k => ?_) (fun post k => ?_)
    · rw [f2] at k
      refine ph_xe13 (h := h') (b := ph_cdo B (fn n) (ps n + 1)) hn (by omega) s2 (by rw [e2, e]) (by rw [e3 hw (hjn (by omega) (by omega)), hsv _ (by omega)]) (by omega) (by omega) hx rfl hp3 ep (hS.2.2.1 _ hb) ?_
      rw [v1]
      exact k
    · exact ph_yo13 (by omega) hB hW hg1 a4 a2 hn (by omega) s3 e hb k
  · -- gget
    have hw : ph_wd (ph_cdo B (fn n) (ps n)) = 2 := by rw [e]; rfl
    have t1 : ph_tk B (ph_cdo B (fn n)) (ps n) = 0 := by rw [ph_tk_n (by omega), e]; rfl
    have t2 : ph_gv (ph_cdo B (fn n) (ps n)) = 1 := by rw [e]; rfl
    rw [t1] at htk haf
    rw [t2] at haf
    obtain ⟨f1, f2⟩ := a10 (by omega) (by omega)
    unfold ph_af at f1
    rw [t1, t2, hw] at f1
    rw [hw] at f2
    have hb : ph_cdo B (fn n) (ps n + 1) < 4 := by
      have := b3 hw
      rw [e] at this
      exact this
    refine fin (ps n + 2) (hg n - 0 + 1) mem st _ _ _ _ _ (ph_SK_put (v := st (4 * x + ph_cdo B (fn n) (ps n + 1))) hSK (by omega) (by omega)) f1 (Or.inr (by rw [hw])) (fun post k => ?_) (fun post k => ?_)
    · rw [f2] at k
      exact ph_xe14 hn (by omega) s2 (by rw [e2, e]) (by rw [e3 hw (hjn (by omega) (by omega)), hsv _ (by omega)]) hb (by omega) hx rfl k
    · exact ph_yo0 (by omega) hB hW hg1 a4 a2 hn (by omega) s3 hx _ (Or.inr (Or.inr ⟨e, hb, rfl⟩)) k
  · -- gset
    have hw : ph_wd (ph_cdo B (fn n) (ps n)) = 2 := by rw [e]; rfl
    have t1 : ph_tk B (ph_cdo B (fn n)) (ps n) = 1 := by rw [ph_tk_n (by omega), e]; rfl
    have t2 : ph_gv (ph_cdo B (fn n) (ps n)) = 0 := by rw [e]; rfl
    rw [t1] at htk haf
    rw [t2] at haf
    obtain ⟨f1, f2⟩ := a10 (by omega) (by omega)
    unfold ph_af at f1
    rw [t1, t2, hw] at f1
    rw [hw] at f2
    have hb : ph_cdo B (fn n) (ps n + 1) < 4 := by
      have := b3 hw
      rw [e] at this
      exact this
    obtain ⟨h', eh⟩ : ∃ h', hg n = h' + 1 := ⟨hg n - 1, by omega⟩
    rw [eh] at s2 s3 s5 f1
    have v1 := s5 h' (by omega)
    refine fin (ps n + 2) h' mem (upd st (4 * x + ph_cdo B (fn n) (ps n + 1)) (b_aEntry (7 * n + h'))) _ _ _ _ _ (ph_SK_set hSK (h := h') (by omega)) f1 (Or.inr (by rw [hw])) (fun post k => ?_) (fun post k => ?_)
    · rw [f2] at k
      refine ph_xe15 (h := h') (b := ph_cdo B (fn n) (ps n + 1)) hn (by omega) s2 (by rw [e2, e]) (by rw [e3 hw (hjn (by omega) (by omega)), hsv _ (by omega)]) hb (by omega) hx rfl ?_
      rw [v1]
      exact k
    · exact ph_yo15 (by omega) hB hW hg1 a4 a2 hn (by omega) s3 hx e hb k
  · -- return
    have hw : ph_wd (ph_cdo B (fn n) (ps n)) = 1 := by rw [e]; rfl
    have t1 : ph_tk B (ph_cdo B (fn n)) (ps n) = 1 := by rw [ph_tk_n (by omega), e]; rfl
    have t2 : ph_gv (ph_cdo B (fn n) (ps n)) = 0 := by rw [e]; rfl
    rw [t1] at htk haf
    rw [t2] at haf
    obtain ⟨h', eh⟩ : ∃ h', hg n = h' + 1 := ⟨hg n - 1, by omega⟩
    rw [eh] at s2 s3 s5
    have v1 := s5 h' (by omega)
    rcases Nat.eq_zero_or_pos n with d0 | d0
    · refine Ke 0 (b_aEntry (7 * n + h')) (nI (ph_OA B HI ee (fn n) (ps n) + 1)) (upd a_entries n (nI h')) (nI 0) (by omega) (fun post k => ?_) (fun post k => ?_)
      rotate_left
      · exact ph_yo16 (by omega) hB hW hg1 a4 a2 hn (by omega) s3 e (fun _ => k) (fun m z => by omega)
      · refine ph_xe16 (h := h') hn (by omega) s2 (by rw [e2, e]) (by omega) (fun _ => ?_) (fun m z => by omega)
        rw [v1]; exact k
    · obtain ⟨m, rfl⟩ : ∃ m, n = m + 1 := ⟨n - 1, by omega⟩
      obtain ⟨r1, r2, r3⟩ := hbk m (by omega)
      obtain ⟨u1, u2, u3, u4, u5⟩ := hSK m (by omega)
      have hm6 : hg m < 6 := by have := r1.2.1; omega
      refine Kc m fn ps (ph_un hg m (hg m + 1)) mem st (upd a_slot (11 * m + 5 + hg m) (b_aEntry (7 * (m + 1) + h'))) a_back (upd (upd a_entries (m + 1) (nI h')) m (nI (hg m + 1))) b_aFn b_aPos (upd b_aHigh m (nI (hg m + 1))) b_aLocal (upd b_aEntry (7 * m + hg m) (b_aEntry (7 * (m + 1) + h'))) ?_ (Or.inl r2) (fun post k => ?_) (fun post k => ?_)
      · refine ⟨by omega, ph_SK_put (ph_SK_out hSK (by omega) (fun j hj => pk_un (by omega))) (Nat.le_refl _) hm6, fun j hj => hfr j (by omega), by rw [ph_un_s]; exact r1, fun j hj => ?_⟩
        rw [ph_un_n (by omega)]
        exact hbk j (by omega)
      · refine ph_xe16 (h := h') hn (by omega) s2 (by rw [e2, e]) (by omega) (fun z => by omega) (fun m' z => ?_)
        have em : m' = m := by omega
        subst em
        exact ⟨hg m', hm6, u2, by rw [v1, r3]; exact k⟩
      · refine ph_yo16 (by omega) hB hW hg1 a4 a2 hn (by omega) s3 e (fun z => by omega) (fun m' z => ?_)
        have em : m' = m := by omega
        subst em
        exact ⟨hg m', hm6, u3, k⟩
end
end
section
/-! ===== the runs (printed by gen27.py) ===== -/
noncomputable def ph_rest (B : Nat → Nat) (g i : Nat) : Nat := (1 - ph_b (ph_LD B g i)) * ph_cost (ph_sz B g) (ph_cdo B g) i
theorem ph_rest_l {B : Nat → Nat} {g i : Nat} (h : ph_LD B g i) : ph_rest B g i = 0 := by unfold ph_rest; rw [ph_b_t h]; omega
theorem ph_rest_n {B : Nat → Nat} {g i : Nat} (h : ¬ ph_LD B g i) : ph_rest B g i = ph_cost (ph_sz B g) (ph_cdo B g) i := by unfold ph_rest; rw [ph_b_f h]; omega
theorem ph_rest_s {B : Nat → Nat} {g i : Nat} (hs : ph_sz B g ≤ 40) (hi : i + ph_wd (ph_cdo B g i) < ph_sz B g) : ph_rest B g (i + ph_wd (ph_cdo B g i)) + 1 ≤ ph_cost (ph_sz B g) (ph_cdo B g) i := by
  rw [ph_cost_s hs]
  have w : 1 ≤ (if ph_cdo B g i = 13 then 5 else 1) := by split <;> omega
  by_cases h : ph_LD B g (i + ph_wd (ph_cdo B g i))
  · rw [ph_rest_l h]; omega
  · have h' : ph_b (ph_ld (ph_sz B g) (ph_cdo B g) (i + ph_wd (ph_cdo B g i))) = 0 := ph_b_f h
    have e : (if i + ph_wd (ph_cdo B g i) < ph_sz B g ∧ ph_b (ph_ld (ph_sz B g) (ph_cdo B g) (i + ph_wd (ph_cdo B g i))) = 0 then ph_cost (ph_sz B g) (ph_cdo B g) (i + ph_wd (ph_cdo B g i)) else 0) = ph_cost (ph_sz B g) (ph_cdo B g) (i + ph_wd (ph_cdo B g i)) := if_pos ⟨hi, h'⟩
    rw [ph_rest_n h, e]; omega
theorem ph_cost_1 {B : Nat → Nat} {g i : Nat} (hs : ph_sz B g ≤ 40) : 1 ≤ ph_cost (ph_sz B g) (ph_cdo B g) i := by
  rw [ph_cost_s hs]
  have w : 1 ≤ (if ph_cdo B g i = 13 then 5 else 1) := by split <;> omega
  omega
section
variable {g_rules g_place g_number g_pos g_finding g_active g_result : Int32} {g_memory : Int64} {b_ruleParts b_rulePath b_ruleAllows b_bytes b_length b_present b_ways b_boxPlugin b_boxQuota b_boxOpen b_statics b_aFn b_aPos b_aHigh b_aLocal b_aEntry : Nat → Int32}
variable {B : Nat → Nat} {L p f i n x q : Nat} {qu : Nat → Int32}
theorem ph_ystep {post : Int32 → SY → Prop} (hp : p < 4) (hB : ph_BY B L p b_bytes) (hW : ph_WF B L) (hf : f < ph_nf B)
    (hC : ph_CO (ph_nf B) (B 1) (B (ph_hd B f) + B (ph_hd B f + 1)) (ph_sz B f) (ph_cdo B f)) (hst : ph_St (ph_cdo B f) i) (hi : i < ph_sz B f) (hn : n < 6) (hx : x < 4) (eF : b_aFn n = nI f) (eP : b_aPos n = nI (120 * p + ph_hd B f + 3 + i)) (eq : qu x = nI q) (hq : q < 5000)
    (kL : ph_LD B f i → ph_cost (ph_sz B f) (ph_cdo B f) i ≤ q → wY_step_79 post (nI p) (nI x) (nI n) (nI (120 * p + ph_hd B f + 3 + i)) (nI (ph_cdo B f i)) g_rules g_place g_number g_pos g_finding (nI (n + 1)) g_result g_memory b_ruleParts b_rulePath b_ruleAllows b_bytes b_length b_present b_ways b_boxPlugin (upd qu x (nI (q - ph_cost (ph_sz B f) (ph_cdo B f) i))) b_boxOpen b_statics b_aFn b_aPos b_aHigh b_aLocal b_aEntry)
    (kq : ph_LD B f i → q < ph_cost (ph_sz B f) (ph_cdo B f) i → post 1 (g_rules, g_place, g_number, g_pos, g_finding, nI (n + 1), g_result, g_memory, b_ruleParts, b_rulePath, b_ruleAllows, b_bytes, b_length, b_present, b_ways, b_boxPlugin, qu, b_boxOpen, b_statics, b_aFn, b_aPos, b_aHigh, b_aLocal, b_aEntry))
    (kN : ¬ ph_LD B f i → wY_step_79 post (nI p) (nI x) (nI n) (nI (120 * p + ph_hd B f + 3 + i)) (nI (ph_cdo B f i)) g_rules g_place g_number g_pos g_finding (nI (n + 1)) g_result g_memory b_ruleParts b_rulePath b_ruleAllows b_bytes b_length b_present b_ways b_boxPlugin qu b_boxOpen b_statics b_aFn b_aPos b_aHigh b_aLocal b_aEntry) :
    wpY_step post (g_rules, g_place, g_number, g_pos, g_finding, nI (n + 1), g_result, g_memory, b_ruleParts, b_rulePath, b_ruleAllows, b_bytes, b_length, b_present, b_ways, b_boxPlugin, qu, b_boxOpen, b_statics, b_aFn, b_aPos, b_aHigh, b_aLocal, b_aEntry) (nI p) (nI x) := by
  have hs := ph_szb hW hf
  have hb := ph_hd_b hW hf
  have hsz : B (ph_hd B f + 2) = ph_sz B f := rfl
  rw [hsz] at hb
  obtain ⟨ey, hc⟩ := ph_yb (p := p) (i := i) hB hW hf hi
  have hcb := ph_cs_le (n := ph_sz B f) (c := ph_cdo B f) (d := 41) hst hi
  have hcb' : ph_cost (ph_sz B f) (ph_cdo B f) i < 128 := by unfold ph_cost; omega
  have hin : vp_in (nI n) 6 := vp_in_nI hn (by omega)
  have hinx : vp_in (nI x) 4 := vp_in_nI hx (by omega)
  unfold wpY_step
  refine nm_r (nI_pred n) ?_
  rw [nI_clamp (by omega : n < 2 ^ 31), nI_clamp (by omega : x < 2 ^ 31), eF, eq]
  refine ⟨hin, nm_r eP ?_⟩
  rw [nI_clamp (by omega)]
  refine ⟨vp_in_nI (by omega) (by omega), nm_r ey ⟨hin, ph_yleads hp hB hW hf hC (by omega) (fun z => br_f (by decide) ⟨hin, ?_⟩) (fun z => br_t rfl (kN z))⟩⟩
  refine ph_ycost hp hB hW hf hC hst hi ⟨hinx, pk_le _ q (fun y => ⟨hinx, hinx, nm_r (e' := upd qu x (nI (q - ph_cost (ph_sz B f) (ph_cdo B f) i))) (by rw [pk_sub y]) (kL z y)⟩) (fun y => kq z y)⟩
theorem ph_y115e {post : Int32 → SY → Prop} {x1 x5 : Int32} {s k N : Nat} (hs : s < 2000) (K : post (nI s) (g_rules, g_place, g_number, g_pos, g_finding, g_active, g_result, g_memory, b_ruleParts, b_rulePath, b_ruleAllows, b_bytes, b_length, b_present, b_ways, b_boxPlugin, b_boxQuota, b_boxOpen, b_statics, b_aFn, b_aPos, b_aHigh, b_aLocal, b_aEntry)) : wY_call_115 post x1 x5 (N + 1) (nI s) (nI k) g_rules g_place g_number g_pos g_finding g_active g_result g_memory b_ruleParts b_rulePath b_ruleAllows b_bytes b_length b_present b_ways b_boxPlugin b_boxQuota b_boxOpen b_statics b_aFn b_aPos b_aHigh b_aLocal b_aEntry := by
  rw [wY_call_115]
  exact br_c (fun _ => K) (fun _ => br_t (nI_pos' (by omega)) K)
end
section
variable {f_nodes f_rules f_version f_count f_at f_place f_number f_imports f_functions f_fault f_frames f_box f_pc f_status f_result : Int32} {f_waiting f_memory : Int64} {a_child a_verdict a_ruleNode a_before a_nodesBefore a_bytes a_path a_pathAt a_params a_locals a_from a_size a_high a_loaded a_emitted a_entry a_pParams a_pFunctions a_pImports a_pPath a_judged a_fine a_newAt a_plugin a_quota a_statics a_slot a_back a_entries : Nat → Int32}
variable {g_rules g_place g_number g_pos g_finding g_active g_result : Int32} {g_memory : Int64} {b_ruleParts b_rulePath b_ruleAllows b_bytes b_length b_present b_ways b_boxPlugin b_boxQuota b_boxOpen b_statics b_aFn b_aPos b_aHigh b_aLocal b_aEntry : Nat → Int32}
theorem ph_x123e {post : Int32 → SX → Prop} {k N : Nat} (K : post f_status (f_nodes, f_rules, f_version, f_count, f_at, f_place, f_number, f_imports, f_functions, f_waiting, f_fault, 0, f_box, f_pc, f_status, f_result, f_memory, a_child, a_verdict, a_ruleNode, a_before, a_nodesBefore, a_bytes, a_path, a_pathAt, a_params, a_locals, a_from, a_size, a_high, a_loaded, a_emitted, a_entry, a_pParams, a_pFunctions, a_pImports, a_pPath, a_judged, a_fine, a_newAt, a_plugin, a_quota, a_statics, a_slot, a_back, a_entries)) : wX_call_123 post (N + 1) (nI k) f_nodes f_rules f_version f_count f_at f_place f_number f_imports f_functions f_waiting f_fault 0 f_box f_pc f_status f_result f_memory a_child a_verdict a_ruleNode a_before a_nodesBefore a_bytes a_path a_pathAt a_params a_locals a_from a_size a_high a_loaded a_emitted a_entry a_pParams a_pFunctions a_pImports a_pPath a_judged a_fine a_newAt a_plugin a_quota a_statics a_slot a_back a_entries := by
  rw [wX_call_123]
  exact br_c (fun _ => K) (fun _ => br_t (by decide) K)
theorem ph_run {Q : Prop} {B : Nat → Nat} {L p x : Nat} {HI : Nat → Nat → Int32} {ee : Nat → Nat} (hS : ph_RS B L p HI ee a_emitted a_entry a_pParams a_pPath) (hx : x < 4) (ep : a_plugin x = nI p) (hB : ph_BY B L p b_bytes) :
    ∀ d n fn ps hg q kx ky mem st res qu sl bk en aF aP aH aL aE, ph_RD B p HI ee n fn ps hg sl bk en aF aP aH aL aE → qu x = nI q → q ≤ 2000 → q + ph_rest B (fn n) (ps n) ≤ d → kx + 2 * d + 2 ≤ 6000 → ky + d + 1 ≤ 3000 →
      (∀ s res' pc' mem' qu' st' sl' bk' en' ac' aF' aP' aH' aL' aE', s ≤ 3 → (∀ y, y ≠ x → qu' y = qu y) → (∃ q', q' ≤ q ∧ qu' x = nI q') →
        (∀ (post : Int32 → SX → Prop) N, 2 * d + 4 ≤ N → post (nI s) (f_nodes, f_rules, f_version, f_count, f_at, f_place, f_number, f_imports, f_functions, f_waiting, f_fault, 0, nI x, pc', nI s, res', mem', a_child, a_verdict, a_ruleNode, a_before, a_nodesBefore, a_bytes, a_path, a_pathAt, a_params, a_locals, a_from, a_size, a_high, a_loaded, a_emitted, a_entry, a_pParams, a_pFunctions, a_pImports, a_pPath, a_judged, a_fine, a_newAt, a_plugin, qu', st', sl', bk', en') → wX_call_123 post N (nI kx) f_nodes f_rules f_version f_count f_at f_place f_number f_imports f_functions f_waiting f_fault (nI (n + 1)) (nI x) (nI (ph_TA B HI ee (fn n) (ps n))) 0 res mem a_child a_verdict a_ruleNode a_before a_nodesBefore a_bytes a_path a_pathAt a_params a_locals a_from a_size a_high a_loaded a_emitted a_entry a_pParams a_pFunctions a_pImports a_pPath a_judged a_fine a_newAt a_plugin qu st sl bk en) →
        (∀ (post : Int32 → SY → Prop) N, d + 3 ≤ N → post (nI s) (g_rules, g_place, g_number, g_pos, g_finding, ac', res', mem', b_ruleParts, b_rulePath, b_ruleAllows, b_bytes, b_length, b_present, b_ways, b_boxPlugin, qu', b_boxOpen, st', aF', aP', aH', aL', aE') → wY_call_115 post (nI x) (nI p) N (-1) (nI ky) g_rules g_place g_number g_pos g_finding (nI (n + 1)) res mem b_ruleParts b_rulePath b_ruleAllows b_bytes b_length b_present b_ways b_boxPlugin qu b_boxOpen st aF aP aH aL aE) → Q) → Q := by
  have hW := hS.1.1
  have hp3 := hS.2.1
  have k6 : ∀ k, k < 6000 → ¬ (6000 : Int32) ≤ nI k := fun k hk => nI_ge (a := k) (b := 6000) hk (by omega)
  have k3 : ∀ k, k < 3000 → ¬ (3000 : Int32) ≤ nI k := fun k hk => nI_ge (a := k) (b := 3000) hk (by omega)
  intro d
  induction d with
  | zero =>
    intro n fn ps hg q kx ky mem st res qu sl bk en aF aP aH aL aE hR hq q2 hd hkx hky KF
    obtain ⟨hn, hSK, hfr, hRR, hbk⟩ := id hR
    obtain ⟨hg1, hg2, hg3⟩ := hfr n (Nat.le_refl _)
    obtain ⟨a1, a2, a3, a4, a5, a6, a7, a8, a9, a10, a11⟩ := ph_at hS hg1 hRR
    have hs := ph_szb hW hg1
    have hC := (hS.1.2 (fn n) hg1).1
    have c1 := ph_cost_1 (B := B) (g := fn n) (i := ps n) hs.2
    by_cases hl : ph_LD B (fn n) (ps n)
    rotate_left
    · rw [ph_rest_n hl] at hd; omega
    · obtain ⟨m1, m2⟩ := a7.1 hl
      have hTO : ph_TA B HI ee (fn n) (ps n) + 2 = ph_OA B HI ee (fn n) (ps n) := by unfold ph_TA ph_OA ph_ow; rw [ph_b_t (show ph_ld (ph_sz B (fn n)) (ph_cdo B (fn n)) (ps n) from hl)]
      have hwd := ph_wd_b (ph_cdo B (fn n) (ps n))
      have hcb := ph_cs_le (n := ph_sz B (fn n)) (c := ph_cdo B (fn n)) (d := 41) a1 a2
      have hcb' : ph_cost (ph_sz B (fn n)) (ph_cdo B (fn n)) (ps n) < 128 := by unfold ph_cost; omega
      refine KF 1 res (nI (ph_TA B HI ee (fn n) (ps n) + 2)) mem qu st sl bk en (nI (n + 1)) aF aP aH aL aE (by omega) (fun _ _ => rfl) ⟨q, Nat.le_refl _, hq⟩ (fun post N hN k => ?_) (fun post N hN k => ?_)
      · obtain ⟨N', rfl⟩ : ∃ N', N = N' + 2 := ⟨N - 2, by omega⟩
        rw [wX_call_123]
        refine br_f (k6 kx (by omega)) (br_f (nI_nle (by omega) (by omega)) ?_)
        refine ph_xmeter (c := ph_cost (ph_sz B (fn n)) (ph_cdo B (fn n)) (ps n)) m1 m2 (by omega) hx rfl hq (by omega) (by omega) (fun z => by omega) (fun z => nm_r (nI_1 kx) (ph_x123e k))
      · obtain ⟨N', rfl⟩ : ∃ N', N = N' + 2 := ⟨N - 2, by omega⟩
        rw [wY_call_115]
        refine br_f (k3 ky (by omega)) (br_f (by decide) ?_)
        exact ph_ystep (by omega) hB hW hg1 hC a1 a2 hn hx hg2 hg3 hq (by omega) (fun _ z => by omega) (fun _ z => nm_r (nI_1 ky) (ph_y115e (s := 1) (by omega) k)) (fun z => absurd hl z)
  | succ d ih =>
    intro n fn ps hg q kx ky mem st res qu sl bk en aF aP aH aL aE hR hq q2 hd hkx hky KF
    obtain ⟨hn, hSK, hfr, hRR, hbk⟩ := id hR
    obtain ⟨hg1, hg2, hg3⟩ := hfr n (Nat.le_refl _)
    obtain ⟨a1, a2, a3, a4, a5, a6, a7, a8, a9, a10, a11⟩ := ph_at hS hg1 hRR
    have hs := ph_szb hW hg1
    have hC := (hS.1.2 (fn n) hg1).1
    have c1 := ph_cost_1 (B := B) (g := fn n) (i := ps n) hs.2
    have hwd := ph_wd_b (ph_cdo B (fn n) (ps n))
    have hcb := ph_cs_le (n := ph_sz B (fn n)) (c := ph_cdo B (fn n)) (d := 41) a1 a2
    have hcb' : ph_cost (ph_sz B (fn n)) (ph_cdo B (fn n)) (ps n) < 128 := by unfold ph_cost; omega
    -- what is left of the block behind this instruction
    have hrest : ∀ n' (fn' ps' : Nat → Nat), (∃ h', ph_RR B HI (fn' n') (ps' n') h') → (ph_LD B (fn' n') (ps' n') ∨ (n' = n ∧ fn' n' = fn n ∧ ps' n' = ps n + ph_wd (ph_cdo B (fn n) (ps n)))) → ph_rest B (fn' n') (ps' n') + 1 ≤ ph_cost (ph_sz B (fn n)) (ph_cdo B (fn n)) (ps n) := by
      intro n' fn' ps' hr h
      rcases h with z | ⟨z1, z2, z3⟩
      · rw [ph_rest_l z]; omega
      · obtain ⟨h', hr⟩ := hr
        rw [z2, z3] at hr ⊢
        exact ph_rest_s hs.2 hr.1
    by_cases hl : ph_LD B (fn n) (ps n)
    · obtain ⟨m1, m2⟩ := a7.1 hl
      have hTO : ph_TA B HI ee (fn n) (ps n) + 2 = ph_OA B HI ee (fn n) (ps n) := by unfold ph_TA ph_OA ph_ow; rw [ph_b_t (show ph_ld (ph_sz B (fn n)) (ph_cdo B (fn n)) (ps n) from hl)]
      rw [ph_rest_l hl] at hd
      by_cases hcq : ph_cost (ph_sz B (fn n)) (ph_cdo B (fn n)) (ps n) ≤ q
      · refine ph_instr (Q := Q) (f_nodes := f_nodes) (f_rules := f_rules) (f_version := f_version) (f_count := f_count) (f_at := f_at) (f_place := f_place) (f_number := f_number) (f_imports := f_imports) (f_functions := f_functions) (f_waiting := f_waiting) (f_fault := f_fault) (a_child := a_child) (a_verdict := a_verdict) (a_ruleNode := a_ruleNode) (a_before := a_before) (a_nodesBefore := a_nodesBefore) (a_bytes := a_bytes) (a_path := a_path) (a_pathAt := a_pathAt) (a_params := a_params) (a_locals := a_locals) (a_from := a_from) (a_size := a_size) (a_high := a_high) (a_loaded := a_loaded) (a_emitted := a_emitted) (a_entry := a_entry) (a_pParams := a_pParams) (a_pFunctions := a_pFunctions) (a_pImports := a_pImports) (a_pPath := a_pPath) (a_judged := a_judged) (a_fine := a_fine) (a_newAt := a_newAt) (a_plugin := a_plugin) (g_rules := g_rules) (g_place := g_place) (g_number := g_number) (g_pos := g_pos) (g_finding := g_finding) (b_ruleParts := b_ruleParts) (b_rulePath := b_rulePath) (b_ruleAllows := b_ruleAllows) (b_bytes := b_bytes) (b_length := b_length) (b_present := b_present) (b_ways := b_ways) (b_boxPlugin := b_boxPlugin) (b_boxOpen := b_boxOpen) (mem := mem) (st := st) (res := res) (a_quota := upd qu x (nI (q - ph_cost (ph_sz B (fn n)) (ph_cdo B (fn n)) (ps n)))) (b_boxQuota := upd qu x (nI (q - ph_cost (ph_sz B (fn n)) (ph_cdo B (fn n)) (ps n)))) hS hx ep hB hR (fun n' fn' ps' hg' mem' st' sl' bk' en' aF' aP' aH' aL' aE' R' hl' hX hY => ?_) (fun s res' pc' en' ac' hs3 hX hY => ?_)
        · have hr' := hrest n' fn' ps' ⟨_, R'.2.2.2.1⟩ hl'
          refine ih n' fn' ps' hg' (q - ph_cost (ph_sz B (fn n)) (ph_cdo B (fn n)) (ps n)) (kx + 2) (ky + 1) mem' st' res (upd qu x (nI (q - ph_cost (ph_sz B (fn n)) (ph_cdo B (fn n)) (ps n)))) sl' bk' en' aF' aP' aH' aL' aE' R' pk_us (by omega) (by omega) (by omega) (by omega) (fun s res' pc' mem2 qu2 st2 sl2 bk2 en2 ac2 aF2 aP2 aH2 aL2 aE2 hs3 hq1 hq2 hX2 hY2 => ?_)
          refine KF s res' pc' mem2 qu2 st2 sl2 bk2 en2 ac2 aF2 aP2 aH2 aL2 aE2 hs3 (fun y hy => by rw [hq1 y hy, pk_un hy]) ?_ (fun post N hN k => ?_) (fun post N hN k => ?_)
          · obtain ⟨q', h1, h2⟩ := hq2
            exact ⟨q', by omega, h2⟩
          · obtain ⟨N', rfl⟩ : ∃ N', N = N' + 2 := ⟨N - 2, by omega⟩
            rw [wX_call_123]
            refine br_f (k6 kx (by omega)) (br_f (nI_nle (by omega) (by omega)) ?_)
            refine ph_xmeter (c := ph_cost (ph_sz B (fn n)) (ph_cdo B (fn n)) (ps n)) m1 m2 (by omega) hx rfl hq (by omega) (by omega) (fun z => nm_r (nI_1 kx) ?_) (fun z => by omega)
            rw [wX_call_123, hTO]
            refine br_f (k6 (kx + 1) (by omega)) (br_f (nI_nle (by omega) (by omega)) (hX _ (nm_r (nI_1 (kx + 1)) ?_)))
            exact hX2 post N' (by omega) k
          · obtain ⟨N', rfl⟩ : ∃ N', N = N' + 1 := ⟨N - 1, by omega⟩
            rw [wY_call_115]
            refine br_f (k3 ky (by omega)) (br_f (by decide) ?_)
            refine ph_ystep (by omega) hB hW hg1 hC a1 a2 hn hx hg2 hg3 hq (by omega) (fun _ _ => hY _ (nm_r (nI_1 ky) ?_)) (fun _ z => by omega) (fun z => absurd hl z)
            exact hY2 post N' (by omega) k
        · refine KF s res' pc' mem (upd qu x (nI (q - ph_cost (ph_sz B (fn n)) (ph_cdo B (fn n)) (ps n)))) st sl bk en' ac' aF aP aH aL aE hs3 (fun y hy => pk_un hy) ⟨q - ph_cost (ph_sz B (fn n)) (ph_cdo B (fn n)) (ps n), Nat.sub_le _ _, pk_us⟩ (fun post N hN k => ?_) (fun post N hN k => ?_)
          · obtain ⟨N', rfl⟩ : ∃ N', N = N' + 3 := ⟨N - 3, by omega⟩
            rw [wX_call_123]
            refine br_f (k6 kx (by omega)) (br_f (nI_nle (by omega) (by omega)) ?_)
            refine ph_xmeter (c := ph_cost (ph_sz B (fn n)) (ph_cdo B (fn n)) (ps n)) m1 m2 (by omega) hx rfl hq (by omega) (by omega) (fun z => nm_r (nI_1 kx) ?_) (fun z => by omega)
            rw [wX_call_123, hTO]
            exact br_f (k6 (kx + 1) (by omega)) (br_f (nI_nle (by omega) (by omega)) (hX _ (nm_r (nI_1 (kx + 1)) (ph_x123e k))))
          · obtain ⟨N', rfl⟩ : ∃ N', N = N' + 2 := ⟨N - 2, by omega⟩
            rw [wY_call_115]
            refine br_f (k3 ky (by omega)) (br_f (by decide) ?_)
            exact ph_ystep (by omega) hB hW hg1 hC a1 a2 hn hx hg2 hg3 hq (by omega) (fun _ _ => hY _ (nm_r (nI_1 ky) (ph_y115e (by omega) k))) (fun _ z => by omega) (fun z => absurd hl z)
      · refine KF 1 res (nI (ph_TA B HI ee (fn n) (ps n) + 2)) mem qu st sl bk en (nI (n + 1)) aF aP aH aL aE (by omega) (fun _ _ => rfl) ⟨q, Nat.le_refl _, hq⟩ (fun post N hN k => ?_) (fun post N hN k => ?_)
        · obtain ⟨N', rfl⟩ : ∃ N', N = N' + 2 := ⟨N - 2, by omega⟩
          rw [wX_call_123]
          refine br_f (k6 kx (by omega)) (br_f (nI_nle (by omega) (by omega)) ?_)
          refine ph_xmeter (c := ph_cost (ph_sz B (fn n)) (ph_cdo B (fn n)) (ps n)) m1 m2 (by omega) hx rfl hq (by omega) (by omega) (fun z => absurd z hcq) (fun z => nm_r (nI_1 kx) (ph_x123e k))
        · obtain ⟨N', rfl⟩ : ∃ N', N = N' + 2 := ⟨N - 2, by omega⟩
          rw [wY_call_115]
          refine br_f (k3 ky (by omega)) (br_f (by decide) ?_)
          exact ph_ystep (by omega) hB hW hg1 hC a1 a2 hn hx hg2 hg3 hq (by omega) (fun _ z => absurd z hcq) (fun _ z => nm_r (nI_1 ky) (ph_y115e (s := 1) (by omega) k)) (fun z => absurd hl z)
    · have hTO : ph_TA B HI ee (fn n) (ps n) = ph_OA B HI ee (fn n) (ps n) := by
        unfold ph_TA ph_OA ph_ow; rw [ph_b_f (show ¬ ph_ld (ph_sz B (fn n)) (ph_cdo B (fn n)) (ps n) from hl)]; rfl
      rw [ph_rest_n hl] at hd
      refine ph_instr (Q := Q) (f_nodes := f_nodes) (f_rules := f_rules) (f_version := f_version) (f_count := f_count) (f_at := f_at) (f_place := f_place) (f_number := f_number) (f_imports := f_imports) (f_functions := f_functions) (f_waiting := f_waiting) (f_fault := f_fault) (a_child := a_child) (a_verdict := a_verdict) (a_ruleNode := a_ruleNode) (a_before := a_before) (a_nodesBefore := a_nodesBefore) (a_bytes := a_bytes) (a_path := a_path) (a_pathAt := a_pathAt) (a_params := a_params) (a_locals := a_locals) (a_from := a_from) (a_size := a_size) (a_high := a_high) (a_loaded := a_loaded) (a_emitted := a_emitted) (a_entry := a_entry) (a_pParams := a_pParams) (a_pFunctions := a_pFunctions) (a_pImports := a_pImports) (a_pPath := a_pPath) (a_judged := a_judged) (a_fine := a_fine) (a_newAt := a_newAt) (a_plugin := a_plugin) (g_rules := g_rules) (g_place := g_place) (g_number := g_number) (g_pos := g_pos) (g_finding := g_finding) (b_ruleParts := b_ruleParts) (b_rulePath := b_rulePath) (b_ruleAllows := b_ruleAllows) (b_bytes := b_bytes) (b_length := b_length) (b_present := b_present) (b_ways := b_ways) (b_boxPlugin := b_boxPlugin) (b_boxOpen := b_boxOpen) (mem := mem) (st := st) (res := res) (a_quota := qu) (b_boxQuota := qu) hS hx ep hB hR (fun n' fn' ps' hg' mem' st' sl' bk' en' aF' aP' aH' aL' aE' R' hl' hX hY => ?_) (fun s res' pc' en' ac' hs3 hX hY => ?_)
      · have hr' := hrest n' fn' ps' ⟨_, R'.2.2.2.1⟩ hl'
        refine ih n' fn' ps' hg' q (kx + 1) (ky + 1) mem' st' res qu sl' bk' en' aF' aP' aH' aL' aE' R' hq q2 (by omega) (by omega) (by omega) (fun s res' pc' mem2 qu2 st2 sl2 bk2 en2 ac2 aF2 aP2 aH2 aL2 aE2 hs3 hq1 hq2 hX2 hY2 => ?_)
        refine KF s res' pc' mem2 qu2 st2 sl2 bk2 en2 ac2 aF2 aP2 aH2 aL2 aE2 hs3 hq1 hq2 (fun post N hN k => ?_) (fun post N hN k => ?_)
        · obtain ⟨N', rfl⟩ : ∃ N', N = N' + 1 := ⟨N - 1, by omega⟩
          rw [wX_call_123, hTO]
          refine br_f (k6 kx (by omega)) (br_f (nI_nle (by omega) (by omega)) (hX _ (nm_r (nI_1 kx) ?_)))
          exact hX2 post N' (by omega) k
        · obtain ⟨N', rfl⟩ : ∃ N', N = N' + 1 := ⟨N - 1, by omega⟩
          rw [wY_call_115]
          refine br_f (k3 ky (by omega)) (br_f (by decide) ?_)
          refine ph_ystep (by omega) hB hW hg1 hC a1 a2 hn hx hg2 hg3 hq (by omega) (fun z => absurd z hl) (fun z => absurd z hl) (fun _ => hY _ (nm_r (nI_1 ky) ?_))
          exact hY2 post N' (by omega) k
      · refine KF s res' pc' mem qu st sl bk en' ac' aF aP aH aL aE hs3 (fun _ _ => rfl) ⟨q, Nat.le_refl _, hq⟩ (fun post N hN k => ?_) (fun post N hN k => ?_)
        · obtain ⟨N', rfl⟩ : ∃ N', N = N' + 2 := ⟨N - 2, by omega⟩
          rw [wX_call_123, hTO]
          exact br_f (k6 kx (by omega)) (br_f (nI_nle (by omega) (by omega)) (hX _ (nm_r (nI_1 kx) (ph_x123e k))))
        · obtain ⟨N', rfl⟩ : ∃ N', N = N' + 2 := ⟨N - 2, by omega⟩
          rw [wY_call_115]
          refine br_f (k3 ky (by omega)) (br_f (by decide) ?_)
          exact ph_ystep (by omega) hB hW hg1 hC a1 a2 hn hx hg2 hg3 hq (by omega) (fun z => absurd z hl) (fun z => absurd z hl) (fun _ => hY _ (nm_r (nI_1 ky) (ph_y115e (by omega) k)))
end
end
section
/-! ===== linked and the two ends of call ===== -/
noncomputable def ph_per (B rc ra : Nat → Nat) (nr k : Nat) : Nat := ph_b (∀ i, i < k → ph_al rc ra nr (ph_pth B i) = 1)
theorem ph_per_s (B rc ra : Nat → Nat) (nr k : Nat) : nI (ph_per B rc ra nr k) &&& nI (ph_al rc ra nr (ph_pth B k)) = nI (ph_per B rc ra nr (k + 1)) ∧ vp_nar .boolean (nI (ph_per B rc ra nr (k + 1))) = nI (ph_per B rc ra nr (k + 1)) := by
  have hle := ph_al_le rc ra nr (ph_pth B k)
  have hnar : ∀ z, z ≤ 1 → vp_nar .boolean (nI z) = nI z := fun z hz => by
    rcases (by omega : z = 0 ∨ z = 1) with e | e <;> subst e <;> rfl
  refine ⟨?_, hnar _ (ph_b_le _)⟩
  unfold ph_per
  by_cases h1 : ∀ i, i < k → ph_al rc ra nr (ph_pth B i) = 1
  · rw [ph_b_t h1]
    rcases (by omega : ph_al rc ra nr (ph_pth B k) = 0 ∨ ph_al rc ra nr (ph_pth B k) = 1) with e | e
    · rw [e, ph_b_f (fun z => by have := z k (by omega); omega)]; rfl
    · rw [e, ph_b_t (fun i hi => by
        by_cases c : i = k
        · subst c; exact e
        · exact h1 i (by omega))]
      rfl
  · rw [ph_b_f h1, ph_b_f (fun z => h1 fun i hi => z i (by omega))]
    rcases (by omega : ph_al rc ra nr (ph_pth B k) = 0 ∨ ph_al rc ra nr (ph_pth B k) = 1) with e | e <;> rw [e] <;> rfl
section
variable {f_nodes f_rules f_version f_count f_at f_place f_number f_imports f_functions f_fault f_frames f_box f_pc f_status f_result : Int32} {f_waiting f_memory : Int64} {a_child a_verdict a_ruleNode a_before a_nodesBefore a_bytes a_path a_pathAt a_params a_locals a_from a_size a_high a_loaded a_emitted a_entry a_pParams a_pFunctions a_pImports a_pPath a_judged a_fine a_newAt a_plugin a_quota a_statics a_slot a_back a_entries : Nat → Int32}
variable {B : Nat → Nat} {L p nr ver : Nat} {rc ra nm Nr : Nat → Nat}
theorem ph_xlinked {post : Int32 → SX → Prop} {jv : Nat} (hW : ph_WF B L) (hp : p < 3) (hT : ph_TR nr rc ra nm Nr a_child a_verdict a_ruleNode a_before a_nodesBefore) (eI : a_pImports p = nI (B 1)) (ept : ∀ i, i < B 1 → a_pPath (4 * p + i) = nI (ph_pth B i))
    (hv : ver < 2000) (hj : jv ≤ ver) (ej : a_judged p = nI jv) (ef : jv = ver → a_fine p = nI (ph_per B rc ra nr (B 1)))
    (K : ∀ ju fi, (∀ y, y ≠ p → ju y = a_judged y ∧ fi y = a_fine y) → ju p = nI ver → fi p = nI (ph_per B rc ra nr (B 1)) → post (nI (ph_per B rc ra nr (B 1))) (f_nodes, f_rules, nI ver, f_count, f_at, f_place, f_number, f_imports, f_functions, f_waiting, f_fault, f_frames, f_box, f_pc, f_status, f_result, f_memory, a_child, a_verdict, a_ruleNode, a_before, a_nodesBefore, a_bytes, a_path, a_pathAt, a_params, a_locals, a_from, a_size, a_high, a_loaded, a_emitted, a_entry, a_pParams, a_pFunctions, a_pImports, a_pPath, ju, fi, a_newAt, a_plugin, a_quota, a_statics, a_slot, a_back, a_entries)) :
    wpX_linked post (f_nodes, f_rules, nI ver, f_count, f_at, f_place, f_number, f_imports, f_functions, f_waiting, f_fault, f_frames, f_box, f_pc, f_status, f_result, f_memory, a_child, a_verdict, a_ruleNode, a_before, a_nodesBefore, a_bytes, a_path, a_pathAt, a_params, a_locals, a_from, a_size, a_high, a_loaded, a_emitted, a_entry, a_pParams, a_pFunctions, a_pImports, a_pPath, a_judged, a_fine, a_newAt, a_plugin, a_quota, a_statics, a_slot, a_back, a_entries) (nI p) := by
  have h14 := hW.2.1
  have hin : vp_in (nI p) 3 := vp_in_nI hp (by omega)
  have hnar : ∀ k, narrow .boolean (.int (nI (ph_per B rc ra nr k))) = .int (nI (ph_per B rc ra nr k)) := fun k => by
    have := ph_b_le (∀ i, i < k → ph_al rc ra nr (ph_pth B i) = 1)
    unfold ph_per
    rcases (by omega : ph_b (∀ i, i < k → ph_al rc ra nr (ph_pth B i) = 1) = 0 ∨ ph_b (∀ i, i < k → ph_al rc ra nr (ph_pth B i) = 1) = 1) with e | e <;> rw [e] <;> rfl
  have h39 : ∀ d i fi, i + d = B 1 → fi p = nI (ph_per B rc ra nr i) → (∀ y, y ≠ p → fi y = a_fine y) → wX_linked_39 post (nI p) f_nodes f_rules (nI ver) f_count f_at f_place f_number f_imports f_functions f_waiting f_fault f_frames f_box f_pc f_status f_result f_memory (d + 1) (nI i) a_child a_verdict a_ruleNode a_before a_nodesBefore a_bytes a_path a_pathAt a_params a_locals a_from a_size a_high a_loaded a_emitted a_entry a_pParams a_pFunctions a_pImports a_pPath (upd a_judged p (nI ver)) fi a_newAt a_plugin a_quota a_statics a_slot a_back a_entries := by
    intro d
    induction d with
    | zero =>
      intro i fi hi e1 e2
      rw [wX_linked_39]
      dsimp only
      rw [nI_clamp (by omega), eI, e1]
      have ei : i = B 1 := by omega
      subst ei
      exact ⟨hin, br_t (nI_le (Nat.le_refl _) (by omega)) ⟨hin, hnar _, K _ fi (fun y hy => ⟨pk_un hy, e2 y hy⟩) pk_us e1⟩⟩
    | succ d ih =>
      intro i fi hi e1 e2
      rw [wX_linked_39]
      dsimp only
      rw [nI_clamp (by omega), eI, e1, ph_mul4, nI_clamp (by omega), ept i (by omega)]
      refine ⟨hin, br_f (nI_ge (by omega) (by omega)) ⟨hin, vp_in_nI (by omega) (by omega), ph_xperm hT (ph_pth_lt hW (by omega)) ⟨hin, ?_⟩⟩⟩
      refine nm_r (e' := upd fi p (nI (ph_per B rc ra nr (i + 1)))) (by rw [(ph_per_s B rc ra nr i).1, (ph_per_s B rc ra nr i).2]) (nm_r (nI_1 i) (ih (i + 1) _ (by omega) pk_us (fun y hy => by rw [pk_un hy]; exact e2 y hy)))
  unfold wpX_linked
  try dsimp only
  rw [nI_clamp (by omega), ej]
  refine ⟨hin, pk_eq jv ver (fun z => ?_) (fun z => ⟨hin, nm_e ⟨hin, nm_r (e' := upd a_fine p 1) (by rw [ph_bo1]) ⟨B 1 + 1, ?_⟩⟩⟩)⟩
  · rw [ef z]
    refine ⟨hin, hnar _, K a_judged a_fine (fun _ _ => ⟨rfl, rfl⟩) (by rw [ej, z]) (ef z)⟩
  · refine h39 (B 1) 0 _ (by omega) ?_ (fun y hy => pk_un hy)
    rw [pk_us]
    unfold ph_per
    rw [ph_b_t (fun i hi => by omega)]
    rfl
theorem ph_xenter0 {post : SX → Prop} {g x e : Nat} (hx : x < 4) (hp : p < 3) (ep : a_plugin x = nI p) (hg : g < 4) (ee : a_entry (4 * p + g) = nI e)
    (k : post (f_nodes, f_rules, f_version, f_count, f_at, f_place, f_number, f_imports, f_functions, f_waiting, f_fault, nI (0 + 1), nI x, nI e, f_status, f_result, f_memory, a_child, a_verdict, a_ruleNode, a_before, a_nodesBefore, a_bytes, a_path, a_pathAt, a_params, a_locals, a_from, a_size, a_high, a_loaded, a_emitted, a_entry, a_pParams, a_pFunctions, a_pImports, a_pPath, a_judged, a_fine, a_newAt, a_plugin, a_quota, a_statics, ph_zr a_slot 0 5, a_back, upd a_entries 0 (nI 0))) : wpX_enter post (f_nodes, f_rules, f_version, f_count, f_at, f_place, f_number, f_imports, f_functions, f_waiting, f_fault, nI 0, nI x, f_pc, f_status, f_result, f_memory, a_child, a_verdict, a_ruleNode, a_before, a_nodesBefore, a_bytes, a_path, a_pathAt, a_params, a_locals, a_from, a_size, a_high, a_loaded, a_emitted, a_entry, a_pParams, a_pFunctions, a_pImports, a_pPath, a_judged, a_fine, a_newAt, a_plugin, a_quota, a_statics, a_slot, a_back, a_entries) (nI g) := by
  unfold wpX_enter
  refine br_t (by decide) ⟨6, ?_⟩
  have J := ph_xenter25 (post := post) (m := 0) (s := a_slot) (f_pc := f_pc) (by omega) hx hp ep hg ee k 5 0 (by omega)
  rw [ph_zr_0] at J
  exact J
/-- a sandbox that is open -/
theorem ph_xisOpen {post : Int32 → Prop} {x : Nat} (hx : x < 4) (e : a_plugin x = nI p) (hp : p < 3) (k : post 1) : wpX_isOpen post (f_nodes, f_rules, f_version, f_count, f_at, f_place, f_number, f_imports, f_functions, f_waiting, f_fault, f_frames, f_box, f_pc, f_status, f_result, f_memory, a_child, a_verdict, a_ruleNode, a_before, a_nodesBefore, a_bytes, a_path, a_pathAt, a_params, a_locals, a_from, a_size, a_high, a_loaded, a_emitted, a_entry, a_pParams, a_pFunctions, a_pImports, a_pPath, a_judged, a_fine, a_newAt, a_plugin, a_quota, a_statics, a_slot, a_back, a_entries) (nI x) := by
  unfold wpX_isOpen
  try dsimp only
  rw [nI_clamp (by omega), e]
  exact br_f (nI_pos (by omega)) (br_f (nI_ge (a := x) (b := 4) hx (by omega)) ⟨vp_in_nI hx (by omega), br_f (nI_pos (by omega)) k⟩)
theorem ph_xisOpen_no {post : Int32 → Prop} {v : Int32} (h : ∀ x, x < 4 → v = nI x → a_plugin x = -1) (k : post 0) : wpX_isOpen post (f_nodes, f_rules, f_version, f_count, f_at, f_place, f_number, f_imports, f_functions, f_waiting, f_fault, f_frames, f_box, f_pc, f_status, f_result, f_memory, a_child, a_verdict, a_ruleNode, a_before, a_nodesBefore, a_bytes, a_path, a_pathAt, a_params, a_locals, a_from, a_size, a_high, a_loaded, a_emitted, a_entry, a_pParams, a_pFunctions, a_pImports, a_pPath, a_judged, a_fine, a_newAt, a_plugin, a_quota, a_statics, a_slot, a_back, a_entries) v := by
  unfold wpX_isOpen
  refine br_c (fun _ => k) fun h0 => br_c (fun _ => k) fun h4 => ?_
  obtain ⟨j, hj, rfl⟩ := nI_of h0
  have hj4 : j < 4 := by
    rcases Nat.lt_or_ge j 4 with z | z
    · exact z
    · exact absurd (nI_le (a := 4) (b := j) z hj) h4
  rw [nI_clamp hj]
  exact ⟨vp_in_nI hj4 (by omega), br_t (by rw [h j hj4 rfl]; decide) k⟩
theorem ph_xcall_no {post : Int32 → SX → Prop} {v f a b : Int32} (h : ∀ x, x < 4 → v = nI x → a_plugin x = -1) (k : post 5 (f_nodes, f_rules, f_version, f_count, f_at, f_place, f_number, f_imports, f_functions, f_waiting, f_fault, f_frames, f_box, f_pc, f_status, f_result, f_memory, a_child, a_verdict, a_ruleNode, a_before, a_nodesBefore, a_bytes, a_path, a_pathAt, a_params, a_locals, a_from, a_size, a_high, a_loaded, a_emitted, a_entry, a_pParams, a_pFunctions, a_pImports, a_pPath, a_judged, a_fine, a_newAt, a_plugin, a_quota, a_statics, a_slot, a_back, a_entries)) : wpX_call post (f_nodes, f_rules, f_version, f_count, f_at, f_place, f_number, f_imports, f_functions, f_waiting, f_fault, f_frames, f_box, f_pc, f_status, f_result, f_memory, a_child, a_verdict, a_ruleNode, a_before, a_nodesBefore, a_bytes, a_path, a_pathAt, a_params, a_locals, a_from, a_size, a_high, a_loaded, a_emitted, a_entry, a_pParams, a_pFunctions, a_pImports, a_pPath, a_judged, a_fine, a_newAt, a_plugin, a_quota, a_statics, a_slot, a_back, a_entries) v f a b := by
  unfold wpX_call
  exact ph_xisOpen_no h (br_t rfl k)
theorem ph_xcall_f {post : Int32 → SX → Prop} {f a b : Int32} {x m : Nat} (hx : x < 4) (e : a_plugin x = nI p) (hp : p < 3) (eF : a_pFunctions p = nI m) (h : ¬ (¬ f < 0 ∧ f < nI m)) (k : post 5 (f_nodes, f_rules, f_version, f_count, f_at, f_place, f_number, f_imports, f_functions, f_waiting, f_fault, f_frames, f_box, f_pc, f_status, f_result, f_memory, a_child, a_verdict, a_ruleNode, a_before, a_nodesBefore, a_bytes, a_path, a_pathAt, a_params, a_locals, a_from, a_size, a_high, a_loaded, a_emitted, a_entry, a_pParams, a_pFunctions, a_pImports, a_pPath, a_judged, a_fine, a_newAt, a_plugin, a_quota, a_statics, a_slot, a_back, a_entries)) : wpX_call post (f_nodes, f_rules, f_version, f_count, f_at, f_place, f_number, f_imports, f_functions, f_waiting, f_fault, f_frames, f_box, f_pc, f_status, f_result, f_memory, a_child, a_verdict, a_ruleNode, a_before, a_nodesBefore, a_bytes, a_path, a_pathAt, a_params, a_locals, a_from, a_size, a_high, a_loaded, a_emitted, a_entry, a_pParams, a_pFunctions, a_pImports, a_pPath, a_judged, a_fine, a_newAt, a_plugin, a_quota, a_statics, a_slot, a_back, a_entries) (nI x) f a b := by
  unfold wpX_call
  refine ph_xisOpen hx e hp (br_f (by decide) (br_c (fun _ => k) fun h0 => ?_))
  rw [nI_clamp (by omega), e, nI_clamp (by omega), eF]
  exact ⟨vp_in_nI hx (by omega), vp_in_nI (by omega) (by omega), br_f (fun z => h ⟨h0, z⟩) k⟩
theorem ph_xcall_go {post : Int32 → SX → Prop} {a b : Int32} {x f m e np jv : Nat} (hx : x < 4) (ep : a_plugin x = nI p) (hp : p < 3) (eF : a_pFunctions p = nI m) (hm : m ≤ 4) (hf : f < m)
    (hW : ph_WF B L) (hT : ph_TR nr rc ra nm Nr a_child a_verdict a_ruleNode a_before a_nodesBefore) (eI : a_pImports p = nI (B 1)) (ept : ∀ i, i < B 1 → a_pPath (4 * p + i) = nI (ph_pth B i))
    (hv : ver < 2000) (hj : jv ≤ ver) (ej : a_judged p = nI jv) (ef : jv = ver → a_fine p = nI (ph_per B rc ra nr (B 1))) (ee : a_entry (4 * p + f) = nI e) (epp : a_pParams (4 * p + f) = nI np) (hnp : np ≤ 2)
    (k0 : ∀ ju fi, (∀ y, y ≠ p → ju y = a_judged y ∧ fi y = a_fine y) → ju p = nI ver → fi p = nI (ph_per B rc ra nr (B 1)) → ph_per B rc ra nr (B 1) = 0 → post 4 (f_nodes, f_rules, nI ver, f_count, f_at, f_place, f_number, f_imports, f_functions, f_waiting, f_fault, f_frames, f_box, f_pc, f_status, f_result, f_memory, a_child, a_verdict, a_ruleNode, a_before, a_nodesBefore, a_bytes, a_path, a_pathAt, a_params, a_locals, a_from, a_size, a_high, a_loaded, a_emitted, a_entry, a_pParams, a_pFunctions, a_pImports, a_pPath, ju, fi, a_newAt, a_plugin, a_quota, a_statics, a_slot, a_back, a_entries))
    (k1 : ∀ ju fi, (∀ y, y ≠ p → ju y = a_judged y ∧ fi y = a_fine y) → ju p = nI ver → fi p = nI (ph_per B rc ra nr (B 1)) → ph_per B rc ra nr (B 1) = 1 →
      ∃ N, wX_call_123 post N (nI 0) f_nodes f_rules (nI ver) f_count f_at f_place f_number f_imports f_functions f_waiting f_fault (nI (0 + 1)) (nI x) (nI e) 0 0 f_memory a_child a_verdict a_ruleNode a_before a_nodesBefore a_bytes a_path a_pathAt a_params a_locals a_from a_size a_high a_loaded a_emitted a_entry a_pParams a_pFunctions a_pImports a_pPath ju fi a_newAt a_plugin a_quota a_statics (upd (upd (ph_zr a_slot 0 5) 0 (if 0 < np then a else 0)) 1 (if 1 < np then b else 0)) a_back (upd a_entries 0 (nI 0))) :
    wpX_call post (f_nodes, f_rules, nI ver, f_count, f_at, f_place, f_number, f_imports, f_functions, f_waiting, f_fault, f_frames, f_box, f_pc, f_status, f_result, f_memory, a_child, a_verdict, a_ruleNode, a_before, a_nodesBefore, a_bytes, a_path, a_pathAt, a_params, a_locals, a_from, a_size, a_high, a_loaded, a_emitted, a_entry, a_pParams, a_pFunctions, a_pImports, a_pPath, a_judged, a_fine, a_newAt, a_plugin, a_quota, a_statics, a_slot, a_back, a_entries) (nI x) (nI f) a b := by
  have hin : vp_in (nI x) 4 := vp_in_nI hx (by omega)
  unfold wpX_call
  refine ph_xisOpen hx ep hp (br_f (by decide) (br_f (nI_pos (by omega)) ?_))
  rw [nI_clamp (by omega), ep, nI_clamp (by omega), eF]
  refine ⟨hin, vp_in_nI (by omega) (by omega), br_t (nI_lt hf (by omega)) ⟨hin, ?_⟩⟩
  refine ph_xlinked hW hp hT eI ept hv hj ej ef (fun ju fi r1 r2 r3 => ?_)
  have hle : ph_per B rc ra nr (B 1) ≤ 1 := ph_b_le _
  refine pk_eq (ph_per B rc ra nr (B 1)) 0 (fun z => k0 ju fi r1 r2 r3 z) (fun z => ?_)
  obtain ⟨N, hN⟩ := k1 ju fi r1 r2 r3 (by omega)
  refine ph_xenter0 hx hp ep (by omega) ee ?_
  try dsimp only
  rw [ep, ph_mul4, nI_clamp (by omega)]
  refine ⟨hin, vp_in_nI (by omega) (by omega), nm_r epp ?_⟩
  have h101 : ∀ z : Int32, z = (if 0 < np then a else 0) → wX_call_101 post b (nI np) z 0 f_nodes f_rules (nI ver) f_count f_at f_place f_number f_imports f_functions f_waiting f_fault (nI (0 + 1)) (nI x) (nI e) 0 0 f_memory a_child a_verdict a_ruleNode a_before a_nodesBefore a_bytes a_path a_pathAt a_params a_locals a_from a_size a_high a_loaded a_emitted a_entry a_pParams a_pFunctions a_pImports a_pPath ju fi a_newAt a_plugin a_quota a_statics (ph_zr a_slot 0 5) a_back (upd a_entries 0 (nI 0)) := by
    rintro z rfl
    unfold wX_call_101
    refine ⟨vp_in_nI (n := 0) (by omega) (by omega), nm_e (pk_le np 1 (fun y => nm_e ⟨N, ?_⟩) (fun y => nm_e ⟨N, ?_⟩))⟩
    · rw [if_neg (by omega : ¬ 1 < np)] at hN; exact hN
    · rw [if_pos y] at hN; exact hN
  refine pk_le np 0 (fun y => h101 0 (by rw [if_neg (by omega)])) (fun y => h101 a (by rw [if_pos y]))
end
section
variable {g_rules g_place g_number g_pos g_finding g_active g_result : Int32} {g_memory : Int64} {b_ruleParts b_rulePath b_ruleAllows b_bytes b_length b_present b_ways b_boxPlugin b_boxQuota b_boxOpen b_statics b_aFn b_aPos b_aHigh b_aLocal b_aEntry : Nat → Int32}
variable {B : Nat → Nat} {L p nr : Nat} {rc ra : Nat → Nat}
theorem ph_yisOpen {post : Int32 → Prop} {x : Nat} (hx : x < 4) (e : b_boxOpen x = 1) (k : post 1) : wpY_isOpen post (g_rules, g_place, g_number, g_pos, g_finding, g_active, g_result, g_memory, b_ruleParts, b_rulePath, b_ruleAllows, b_bytes, b_length, b_present, b_ways, b_boxPlugin, b_boxQuota, b_boxOpen, b_statics, b_aFn, b_aPos, b_aHigh, b_aLocal, b_aEntry) (nI x) := by
  unfold wpY_isOpen
  try dsimp only
  rw [nI_clamp (by omega), e]
  exact br_f (nI_pos (by omega)) (br_f (nI_nlt (b := x) (a := 3) (by omega) (by omega)) ⟨vp_in_nI hx (by omega), br_f (by decide) k⟩)
theorem ph_yisOpen_no {post : Int32 → Prop} {v : Int32} (h : ∀ x, x < 4 → v = nI x → b_boxOpen x = 0) (k : post 0) : wpY_isOpen post (g_rules, g_place, g_number, g_pos, g_finding, g_active, g_result, g_memory, b_ruleParts, b_rulePath, b_ruleAllows, b_bytes, b_length, b_present, b_ways, b_boxPlugin, b_boxQuota, b_boxOpen, b_statics, b_aFn, b_aPos, b_aHigh, b_aLocal, b_aEntry) v := by
  unfold wpY_isOpen
  refine br_c (fun _ => k) fun h0 => br_c (fun _ => k) fun h4 => ?_
  obtain ⟨j, hj, e⟩ := nI_of2 (M := 3) (n := 3) (by decide) h0 (Int32.not_lt.mp h4)
  subst e
  rw [nI_clamp (by omega)]
  exact ⟨vp_in_nI (by omega) (by omega), br_t (h j (by omega) rfl) k⟩
theorem ph_ycall_no {post : Int32 → SY → Prop} {v f a b : Int32} (h : ∀ x, x < 4 → v = nI x → b_boxOpen x = 0) (k : post 5 (g_rules, g_place, g_number, g_pos, g_finding, g_active, g_result, g_memory, b_ruleParts, b_rulePath, b_ruleAllows, b_bytes, b_length, b_present, b_ways, b_boxPlugin, b_boxQuota, b_boxOpen, b_statics, b_aFn, b_aPos, b_aHigh, b_aLocal, b_aEntry)) : wpY_call post (g_rules, g_place, g_number, g_pos, g_finding, g_active, g_result, g_memory, b_ruleParts, b_rulePath, b_ruleAllows, b_bytes, b_length, b_present, b_ways, b_boxPlugin, b_boxQuota, b_boxOpen, b_statics, b_aFn, b_aPos, b_aHigh, b_aLocal, b_aEntry) v f a b := by
  unfold wpY_call
  exact ph_yisOpen_no h (br_t rfl k)
theorem ph_ycall_f {post : Int32 → SY → Prop} {f a b : Int32} {x : Nat} (hx : x < 4) (e : b_boxOpen x = 1) (ep : b_boxPlugin x = nI p) (hp : p < 3) (hB : ph_BY B L p b_bytes) (hW : ph_WF B L) (h : ¬ (¬ f < 0 ∧ f < nI (ph_nf B))) (k : post 5 (g_rules, g_place, g_number, g_pos, g_finding, g_active, g_result, g_memory, b_ruleParts, b_rulePath, b_ruleAllows, b_bytes, b_length, b_present, b_ways, b_boxPlugin, b_boxQuota, b_boxOpen, b_statics, b_aFn, b_aPos, b_aHigh, b_aLocal, b_aEntry)) : wpY_call post (g_rules, g_place, g_number, g_pos, g_finding, g_active, g_result, g_memory, b_ruleParts, b_rulePath, b_ruleAllows, b_bytes, b_length, b_present, b_ways, b_boxPlugin, b_boxQuota, b_boxOpen, b_statics, b_aFn, b_aPos, b_aHigh, b_aLocal, b_aEntry) (nI x) f a b := by
  have hWL := ph_WF_L hW
  unfold wpY_call
  refine ph_yisOpen hx e (br_f (by decide) (br_c (fun _ => k) fun h0 => ?_))
  rw [nI_clamp (by omega), ep]
  exact ⟨vp_in_nI hx (by omega), ph_yfunctions (by omega) hB hW.2.1 (by omega) hW.1 (br_f (fun z => h ⟨h0, z⟩) k)⟩
/-- the new frame's locals -/
def ph_l2 (lo : Nat → Int32) (np : Nat) (a b : Int32) : Nat → Int32 :=
  if 1 < np then upd (upd (ph_zr lo 0 5) 0 a) 1 b else if 0 < np then upd (ph_zr lo 0 5) 0 a else ph_zr lo 0 5
theorem ph_ycall_go {post : Int32 → SY → Prop} {a b : Int32} {x f np : Nat} (hx : x < 4) (e : b_boxOpen x = 1) (ep : b_boxPlugin x = nI p) (hp : p < 3) (hB : ph_BY B L p b_bytes) (hW : ph_WF B L) (hf : f < ph_nf B) (hT : ph_YP nr rc ra b_ruleParts b_rulePath b_ruleAllows) (enp : B (ph_hd B f) = np) (hnp : np ≤ 2)
    (k0 : ph_per B rc ra nr (B 1) = 0 → post 4 (nI nr, g_place, g_number, g_pos, g_finding, g_active, g_result, g_memory, b_ruleParts, b_rulePath, b_ruleAllows, b_bytes, b_length, b_present, b_ways, b_boxPlugin, b_boxQuota, b_boxOpen, b_statics, b_aFn, b_aPos, b_aHigh, b_aLocal, b_aEntry))
    (k1 : ph_per B rc ra nr (B 1) = 1 → ∃ N, wY_call_115 post (nI x) (nI p) N (-1) (nI 0) (nI nr) g_place g_number g_pos g_finding (nI (0 + 1)) 0 g_memory b_ruleParts b_rulePath b_ruleAllows b_bytes b_length b_present b_ways b_boxPlugin b_boxQuota b_boxOpen b_statics (upd b_aFn 0 (nI f)) (upd b_aPos 0 (nI (120 * p + ph_hd B f + 3))) (upd b_aHigh 0 (nI 0)) (ph_l2 b_aLocal np a b) b_aEntry) :
    wpY_call post (nI nr, g_place, g_number, g_pos, g_finding, g_active, g_result, g_memory, b_ruleParts, b_rulePath, b_ruleAllows, b_bytes, b_length, b_present, b_ways, b_boxPlugin, b_boxQuota, b_boxOpen, b_statics, b_aFn, b_aPos, b_aHigh, b_aLocal, b_aEntry) (nI x) (nI f) a b := by
  have hWL := ph_WF_L hW
  have h14 := hW.2.1
  have hn4 := hW.2.2.2.2.1
  have hb := ph_hd_b hW hf
  unfold wpY_call
  refine ph_yisOpen hx e (br_f (by decide) (br_f (nI_pos (by omega)) ?_))
  rw [nI_clamp (by omega), ep]
  refine ⟨vp_in_nI hx (by omega), ph_yfunctions (by omega) hB hW.2.1 (by omega) hW.1 (br_t (nI_lt hf (by omega)) ⟨vp_in_nI hx (by omega), nm_e ?_⟩)⟩
  refine ph_ydenied (by omega) hB hW hT (fun z => br_t (by decide) ?_) (fun i hi z1 z2 => br_f (nI_pos (by omega)) (k0 (ph_b_f fun y => by have := y i hi; omega)))
  obtain ⟨N, hN⟩ := k1 (ph_b_t z)
  refine ph_yenter (m := 0) (by omega) hB hW hf (by omega) ?_
  refine ph_yhead (by omega) hB hW hf ?_
  rw [nI_clamp (by omega), (hB (ph_hd B f) (by omega)).1, enp]
  refine ⟨vp_in_nI (by omega) (by omega), ?_⟩
  unfold ph_l2 at hN
  have h90 : ∀ lo', lo' = (if 0 < np then upd (ph_zr b_aLocal 0 5) 0 a else ph_zr b_aLocal 0 5) → wY_call_90 post (nI x) b (nI p) (nI (120 * p + ph_hd B f)) (nI nr) g_place g_number g_pos g_finding (nI (0 + 1)) 0 g_memory b_ruleParts b_rulePath b_ruleAllows b_bytes b_length b_present b_ways b_boxPlugin b_boxQuota b_boxOpen b_statics (upd b_aFn 0 (nI f)) (upd b_aPos 0 (nI (120 * p + ph_hd B f + 3))) (upd b_aHigh 0 (nI 0)) lo' b_aEntry := by
    rintro lo' rfl
    unfold wY_call_90
    rw [nI_clamp (by omega), (hB (ph_hd B f) (by omega)).1, enp]
    refine ⟨vp_in_nI (by omega) (by omega), pk_le np 1 (fun y => ⟨N, ?_⟩) (fun y => nm_e ⟨N, ?_⟩)⟩
    · rw [if_neg (by omega : ¬ 1 < np)] at hN; exact hN
    · rw [if_pos y] at hN
      rw [if_pos (by omega : 0 < np)]; exact hN
  exact pk_le np 0 (fun y => h90 _ (by rw [if_neg (by omega)])) (fun y => nm_e (h90 _ (by rw [if_pos y])))
end
end
section
/-! ===== sandboxes and the next plugin's bytes, both sides ===== -/
section
variable {f_nodes f_rules f_version f_count f_at f_place f_number f_imports f_functions f_fault f_frames f_box f_pc f_status f_result : Int32} {f_waiting f_memory : Int64} {a_child a_verdict a_ruleNode a_before a_nodesBefore a_bytes a_path a_pathAt a_params a_locals a_from a_size a_high a_loaded a_emitted a_entry a_pParams a_pFunctions a_pImports a_pPath a_judged a_fine a_newAt a_plugin a_quota a_statics a_slot a_back a_entries : Nat → Int32}
theorem ph_xput {post : Int32 → SX → Prop} {L b : Nat} (hL : L < 120) (hb : b < 256) (k : post 1 (f_nodes, f_rules, f_version, nI (L + 1), f_at, f_place, f_number, f_imports, f_functions, f_waiting, f_fault, f_frames, f_box, f_pc, f_status, f_result, f_memory, a_child, a_verdict, a_ruleNode, a_before, a_nodesBefore, upd a_bytes L (nI b), a_path, a_pathAt, a_params, a_locals, a_from, a_size, a_high, a_loaded, a_emitted, a_entry, a_pParams, a_pFunctions, a_pImports, a_pPath, a_judged, a_fine, a_newAt, a_plugin, a_quota, a_statics, a_slot, a_back, a_entries)) : wpX_put post (f_nodes, f_rules, f_version, nI L, f_at, f_place, f_number, f_imports, f_functions, f_waiting, f_fault, f_frames, f_box, f_pc, f_status, f_result, f_memory, a_child, a_verdict, a_ruleNode, a_before, a_nodesBefore, a_bytes, a_path, a_pathAt, a_params, a_locals, a_from, a_size, a_high, a_loaded, a_emitted, a_entry, a_pParams, a_pFunctions, a_pImports, a_pPath, a_judged, a_fine, a_newAt, a_plugin, a_quota, a_statics, a_slot, a_back, a_entries) (nI b) := by
  unfold wpX_put
  refine br_t ((ph_m256 _).mpr ⟨b, hb, rfl⟩) (pk_eq L 120 (fun z => by omega) (fun z => nm_r (nI_1 L) ⟨vp_in_nI hL (by omega), nm_r (e' := upd a_bytes L (nI b)) ?_ k⟩))
  rw [nI_clamp (by omega), ph_char hb]
theorem ph_xput_no {post : Int32 → SX → Prop} {L : Nat} {v : Int32} (h : L = 120 ∨ ¬ (v &&& (-256)) = 0) (hL : L ≤ 120) (k : post 0 (f_nodes, f_rules, f_version, nI L, f_at, f_place, f_number, f_imports, f_functions, f_waiting, f_fault, f_frames, f_box, f_pc, f_status, f_result, f_memory, a_child, a_verdict, a_ruleNode, a_before, a_nodesBefore, a_bytes, a_path, a_pathAt, a_params, a_locals, a_from, a_size, a_high, a_loaded, a_emitted, a_entry, a_pParams, a_pFunctions, a_pImports, a_pPath, a_judged, a_fine, a_newAt, a_plugin, a_quota, a_statics, a_slot, a_back, a_entries)) : wpX_put post (f_nodes, f_rules, f_version, nI L, f_at, f_place, f_number, f_imports, f_functions, f_waiting, f_fault, f_frames, f_box, f_pc, f_status, f_result, f_memory, a_child, a_verdict, a_ruleNode, a_before, a_nodesBefore, a_bytes, a_path, a_pathAt, a_params, a_locals, a_from, a_size, a_high, a_loaded, a_emitted, a_entry, a_pParams, a_pFunctions, a_pImports, a_pPath, a_judged, a_fine, a_newAt, a_plugin, a_quota, a_statics, a_slot, a_back, a_entries) v := by
  unfold wpX_put
  refine br_c (fun z => pk_eq L 120 (fun _ => k) (fun y => ?_)) (fun _ => k)
  rcases h with h | h
  · exact absurd h y
  · exact absurd z h
theorem ph_xo78 {post : Int32 → SX → Prop} {x : Nat} {s : Nat → Int32} (hx : x < 4) (k : post (nI x) (f_nodes, f_rules, f_version, f_count, f_at, f_place, f_number, f_imports, f_functions, f_waiting, f_fault, f_frames, f_box, f_pc, f_status, f_result, f_memory, a_child, a_verdict, a_ruleNode, a_before, a_nodesBefore, a_bytes, a_path, a_pathAt, a_params, a_locals, a_from, a_size, a_high, a_loaded, a_emitted, a_entry, a_pParams, a_pFunctions, a_pImports, a_pPath, a_judged, a_fine, a_newAt, a_plugin, a_quota, ph_zr s (4 * x) 4, a_slot, a_back, a_entries)) :
    ∀ d j, j + d = 4 → wX_open_78 post (nI x) f_nodes f_rules f_version f_count f_at f_place f_number f_imports f_functions f_waiting f_fault f_frames f_box f_pc f_status f_result f_memory (d + 1) (nI j) a_child a_verdict a_ruleNode a_before a_nodesBefore a_bytes a_path a_pathAt a_params a_locals a_from a_size a_high a_loaded a_emitted a_entry a_pParams a_pFunctions a_pImports a_pPath a_judged a_fine a_newAt a_plugin a_quota (ph_zr s (4 * x) j) a_slot a_back a_entries := by
  intro d
  induction d with
  | zero =>
    intro j hj
    have ej : j = 4 := by omega
    subst ej
    rw [wX_open_78]
    exact br_t (nI_le (a := 4) (b := 4) (by omega) (by omega)) k
  | succ d ih =>
    intro j hj
    rw [wX_open_78]
    dsimp only
    rw [ph_mul4, nI_clamp (by omega)]
    exact br_f (nI_ge (a := j) (b := 4) (by omega) (by omega)) ⟨vp_in_nI (by omega) (by omega), nm_r (ph_zr_s s (4 * x) j) (nm_r (nI_1 j) (ih (j + 1) (by omega)))⟩
theorem ph_xo53 {post : Int32 → SX → Prop} {x p : Nat} {q : Int32} (hx : x < 4) (hp : p < 3) (k : post (nI x) (f_nodes, f_rules, f_version, f_count, f_at, f_place, f_number, f_imports, f_functions, f_waiting, f_fault, f_frames, f_box, f_pc, f_status, f_result, f_memory, a_child, a_verdict, a_ruleNode, a_before, a_nodesBefore, a_bytes, a_path, a_pathAt, a_params, a_locals, a_from, a_size, a_high, a_loaded, a_emitted, a_entry, a_pParams, a_pFunctions, a_pImports, a_pPath, a_judged, a_fine, a_newAt, upd a_plugin x (nI p), upd a_quota x q, ph_zr a_statics (4 * x) 4, a_slot, a_back, a_entries)) : wX_open_53 post (nI p) q (nI x) f_nodes f_rules f_version f_count f_at f_place f_number f_imports f_functions f_waiting f_fault f_frames f_box f_pc f_status f_result f_memory a_child a_verdict a_ruleNode a_before a_nodesBefore a_bytes a_path a_pathAt a_params a_locals a_from a_size a_high a_loaded a_emitted a_entry a_pParams a_pFunctions a_pImports a_pPath a_judged a_fine a_newAt a_plugin a_quota a_statics a_slot a_back a_entries := by
  have hin : vp_in (nI x) 4 := vp_in_nI hx (by omega)
  unfold wX_open_53
  rw [nI_clamp (by omega)]
  refine pk_eq x 4 (fun z => by omega) (fun z => ⟨hin, nm_r (e' := upd a_plugin x (nI p)) (by rw [ph_nbb (by omega)]) ⟨hin, nm_e ⟨5, ?_⟩⟩⟩)
  have J := ph_xo78 (post := post) (x := x) (s := a_statics) (a_plugin := upd a_plugin x (nI p)) (a_quota := upd a_quota x q) hx k 4 0 (by omega)
  rw [ph_zr_0] at J
  exact J
theorem ph_xo33 {post : Int32 → SX → Prop} {x : Nat} {p q : Int32} (hx : x < 4) (h0 : a_plugin x < 0) (h1 : ∀ y, y < x → ¬ a_plugin y < 0) (k : wX_open_53 post p q (nI x) f_nodes f_rules f_version f_count f_at f_place f_number f_imports f_functions f_waiting f_fault f_frames f_box f_pc f_status f_result f_memory a_child a_verdict a_ruleNode a_before a_nodesBefore a_bytes a_path a_pathAt a_params a_locals a_from a_size a_high a_loaded a_emitted a_entry a_pParams a_pFunctions a_pImports a_pPath a_judged a_fine a_newAt a_plugin a_quota a_statics a_slot a_back a_entries) : ∀ d y, y + d = x → wX_open_33 post p q f_nodes f_rules f_version f_count f_at f_place f_number f_imports f_functions f_waiting f_fault f_frames f_box f_pc f_status f_result f_memory a_child a_verdict a_ruleNode a_before a_nodesBefore a_bytes a_path a_pathAt a_params a_locals a_from a_size a_high a_loaded a_emitted a_entry a_pParams a_pFunctions a_pImports a_pPath a_judged a_fine a_newAt a_plugin a_quota a_statics a_slot a_back a_entries (d + 1) (nI y) := by
  intro d
  induction d with
  | zero =>
    intro y hy
    have e : y = x := by omega
    subst e
    rw [wX_open_33]
    dsimp only
    rw [nI_clamp (by omega)]
    exact br_f (nI_ge (a := y) (b := 4) hx (by omega)) ⟨vp_in_nI hx (by omega), br_t h0 k⟩
  | succ d ih =>
    intro y hy
    rw [wX_open_33]
    dsimp only
    rw [nI_clamp (by omega)]
    exact br_f (nI_ge (a := y) (b := 4) (by omega) (by omega)) ⟨vp_in_nI (by omega) (by omega), br_f (h1 y (by omega)) (nm_r (nI_1 y) (ih (y + 1) (by omega)))⟩
theorem ph_xo33f {post : Int32 → SX → Prop} {p q : Int32} (h1 : ∀ y, y < 4 → ¬ a_plugin y < 0) (k : post (-1) (f_nodes, f_rules, f_version, f_count, f_at, f_place, f_number, f_imports, f_functions, f_waiting, f_fault, f_frames, f_box, f_pc, f_status, f_result, f_memory, a_child, a_verdict, a_ruleNode, a_before, a_nodesBefore, a_bytes, a_path, a_pathAt, a_params, a_locals, a_from, a_size, a_high, a_loaded, a_emitted, a_entry, a_pParams, a_pFunctions, a_pImports, a_pPath, a_judged, a_fine, a_newAt, a_plugin, a_quota, a_statics, a_slot, a_back, a_entries)) : ∀ d y, y + d = 4 → wX_open_33 post p q f_nodes f_rules f_version f_count f_at f_place f_number f_imports f_functions f_waiting f_fault f_frames f_box f_pc f_status f_result f_memory a_child a_verdict a_ruleNode a_before a_nodesBefore a_bytes a_path a_pathAt a_params a_locals a_from a_size a_high a_loaded a_emitted a_entry a_pParams a_pFunctions a_pImports a_pPath a_judged a_fine a_newAt a_plugin a_quota a_statics a_slot a_back a_entries (d + 1) (nI y) := by
  intro d
  induction d with
  | zero =>
    intro y hy
    have e : y = 4 := by omega
    subst e
    rw [wX_open_33]
    refine br_t (nI_le (a := 4) (b := 4) (by omega) (by omega)) ?_
    unfold wX_open_53
    exact br_t rfl k
  | succ d ih =>
    intro y hy
    rw [wX_open_33]
    dsimp only
    rw [nI_clamp (by omega)]
    exact br_f (nI_ge (a := y) (b := 4) (by omega) (by omega)) ⟨vp_in_nI (by omega) (by omega), br_f (h1 y (by omega)) (nm_r (nI_1 y) (ih (y + 1) (by omega)))⟩
/-- open is refused at once -/
def ph_oNo (ld : Nat → Int32) (v1 v2 : Int32) : Prop := v1 < 0 ∨ 2 < v1 ∨ (∃ p, p < 3 ∧ v1 = nI p ∧ ld p = 0) ∨ v2 < 0 ∨ ¬ v2 ≤ 2000
theorem ph_xopen_no {post : Int32 → SX → Prop} {v1 v2 : Int32} (h : ph_oNo a_loaded v1 v2) (k : post (-1) (f_nodes, f_rules, f_version, f_count, f_at, f_place, f_number, f_imports, f_functions, f_waiting, f_fault, f_frames, f_box, f_pc, f_status, f_result, f_memory, a_child, a_verdict, a_ruleNode, a_before, a_nodesBefore, a_bytes, a_path, a_pathAt, a_params, a_locals, a_from, a_size, a_high, a_loaded, a_emitted, a_entry, a_pParams, a_pFunctions, a_pImports, a_pPath, a_judged, a_fine, a_newAt, a_plugin, a_quota, a_statics, a_slot, a_back, a_entries)) : wpX_open post (f_nodes, f_rules, f_version, f_count, f_at, f_place, f_number, f_imports, f_functions, f_waiting, f_fault, f_frames, f_box, f_pc, f_status, f_result, f_memory, a_child, a_verdict, a_ruleNode, a_before, a_nodesBefore, a_bytes, a_path, a_pathAt, a_params, a_locals, a_from, a_size, a_high, a_loaded, a_emitted, a_entry, a_pParams, a_pFunctions, a_pImports, a_pPath, a_judged, a_fine, a_newAt, a_plugin, a_quota, a_statics, a_slot, a_back, a_entries) v1 v2 := by
  unfold wpX_open
  refine br_c (fun _ => k) fun h0 => br_c (fun _ => k) fun h2 => ?_
  obtain ⟨p, hp, e⟩ := nI_of2 (M := 2) (n := 2) (by decide) h0 (Int32.not_lt.mp h2)
  subst e
  rw [nI_clamp (by omega)]
  refine ⟨vp_in_nI (by omega) (by omega), br_c (fun _ => k) fun h3 => br_c (fun _ => k) fun h4 => br_c (fun h5 => ?_) (fun _ => k)⟩
  rcases h with z | z | ⟨p', z1, z2, z3⟩ | z | z
  · exact absurd z h0
  · exact absurd z h2
  · have : p = p' := (nI_eq (by omega) (by omega)).mp z2
    subst this; exact absurd z3 h3
  · exact absurd z h4
  · exact absurd h5 z
theorem ph_xopen_go {post : Int32 → SX → Prop} {p q : Nat} (hp : p < 3) (hl : ¬ a_loaded p = 0) (hq : q ≤ 2000) (k : ∃ n33, wX_open_33 post (nI p) (nI q) f_nodes f_rules f_version f_count f_at f_place f_number f_imports f_functions f_waiting f_fault f_frames f_box f_pc f_status f_result f_memory a_child a_verdict a_ruleNode a_before a_nodesBefore a_bytes a_path a_pathAt a_params a_locals a_from a_size a_high a_loaded a_emitted a_entry a_pParams a_pFunctions a_pImports a_pPath a_judged a_fine a_newAt a_plugin a_quota a_statics a_slot a_back a_entries n33 0) : wpX_open post (f_nodes, f_rules, f_version, f_count, f_at, f_place, f_number, f_imports, f_functions, f_waiting, f_fault, f_frames, f_box, f_pc, f_status, f_result, f_memory, a_child, a_verdict, a_ruleNode, a_before, a_nodesBefore, a_bytes, a_path, a_pathAt, a_params, a_locals, a_from, a_size, a_high, a_loaded, a_emitted, a_entry, a_pParams, a_pFunctions, a_pImports, a_pPath, a_judged, a_fine, a_newAt, a_plugin, a_quota, a_statics, a_slot, a_back, a_entries) (nI p) (nI q) := by
  unfold wpX_open
  try dsimp only
  rw [nI_clamp (by omega)]
  exact br_f (nI_pos (by omega)) (br_f (nI_nlt (b := p) (a := 2) (by omega) (by omega)) ⟨vp_in_nI hp (by omega), br_f hl (br_f (nI_pos (by omega)) (br_t (nI_le (a := q) (b := 2000) hq (by omega)) k))⟩)
theorem ph_xclose {post : Int32 → SX → Prop} {x p : Nat} (hx : x < 4) (e : a_plugin x = nI p) (hp : p < 3) (k : post 1 (f_nodes, f_rules, f_version, f_count, f_at, f_place, f_number, f_imports, f_functions, f_waiting, f_fault, f_frames, f_box, f_pc, f_status, f_result, f_memory, a_child, a_verdict, a_ruleNode, a_before, a_nodesBefore, a_bytes, a_path, a_pathAt, a_params, a_locals, a_from, a_size, a_high, a_loaded, a_emitted, a_entry, a_pParams, a_pFunctions, a_pImports, a_pPath, a_judged, a_fine, a_newAt, upd a_plugin x (-1), a_quota, a_statics, a_slot, a_back, a_entries)) : wpX_close post (f_nodes, f_rules, f_version, f_count, f_at, f_place, f_number, f_imports, f_functions, f_waiting, f_fault, f_frames, f_box, f_pc, f_status, f_result, f_memory, a_child, a_verdict, a_ruleNode, a_before, a_nodesBefore, a_bytes, a_path, a_pathAt, a_params, a_locals, a_from, a_size, a_high, a_loaded, a_emitted, a_entry, a_pParams, a_pFunctions, a_pImports, a_pPath, a_judged, a_fine, a_newAt, a_plugin, a_quota, a_statics, a_slot, a_back, a_entries) (nI x) := by
  unfold wpX_close
  refine ph_xisOpen hx e hp (br_f (by decide) ⟨vp_in_nI hx (by omega), nm_r (e' := upd a_plugin x (-1)) ?_ k⟩)
  rw [nI_clamp (by omega), ph_m1b]
theorem ph_xclose_no {post : Int32 → SX → Prop} {v : Int32} (h : ∀ x, x < 4 → v = nI x → a_plugin x = -1) (k : post 0 (f_nodes, f_rules, f_version, f_count, f_at, f_place, f_number, f_imports, f_functions, f_waiting, f_fault, f_frames, f_box, f_pc, f_status, f_result, f_memory, a_child, a_verdict, a_ruleNode, a_before, a_nodesBefore, a_bytes, a_path, a_pathAt, a_params, a_locals, a_from, a_size, a_high, a_loaded, a_emitted, a_entry, a_pParams, a_pFunctions, a_pImports, a_pPath, a_judged, a_fine, a_newAt, a_plugin, a_quota, a_statics, a_slot, a_back, a_entries)) : wpX_close post (f_nodes, f_rules, f_version, f_count, f_at, f_place, f_number, f_imports, f_functions, f_waiting, f_fault, f_frames, f_box, f_pc, f_status, f_result, f_memory, a_child, a_verdict, a_ruleNode, a_before, a_nodesBefore, a_bytes, a_path, a_pathAt, a_params, a_locals, a_from, a_size, a_high, a_loaded, a_emitted, a_entry, a_pParams, a_pFunctions, a_pImports, a_pPath, a_judged, a_fine, a_newAt, a_plugin, a_quota, a_statics, a_slot, a_back, a_entries) v := by
  unfold wpX_close
  exact ph_xisOpen_no h (br_t rfl k)
def ph_uNo (ld : Nat → Int32) (v1 : Int32) : Prop := v1 < 0 ∨ 2 < v1 ∨ (∃ p, p < 3 ∧ v1 = nI p ∧ ld p = 0)
theorem ph_xunload_no {post : Int32 → SX → Prop} {v1 : Int32} (h : ph_uNo a_loaded v1) (k : post 0 (f_nodes, f_rules, f_version, f_count, f_at, f_place, f_number, f_imports, f_functions, f_waiting, f_fault, f_frames, f_box, f_pc, f_status, f_result, f_memory, a_child, a_verdict, a_ruleNode, a_before, a_nodesBefore, a_bytes, a_path, a_pathAt, a_params, a_locals, a_from, a_size, a_high, a_loaded, a_emitted, a_entry, a_pParams, a_pFunctions, a_pImports, a_pPath, a_judged, a_fine, a_newAt, a_plugin, a_quota, a_statics, a_slot, a_back, a_entries)) : wpX_unload post (f_nodes, f_rules, f_version, f_count, f_at, f_place, f_number, f_imports, f_functions, f_waiting, f_fault, f_frames, f_box, f_pc, f_status, f_result, f_memory, a_child, a_verdict, a_ruleNode, a_before, a_nodesBefore, a_bytes, a_path, a_pathAt, a_params, a_locals, a_from, a_size, a_high, a_loaded, a_emitted, a_entry, a_pParams, a_pFunctions, a_pImports, a_pPath, a_judged, a_fine, a_newAt, a_plugin, a_quota, a_statics, a_slot, a_back, a_entries) v1 := by
  unfold wpX_unload
  refine br_c (fun _ => k) fun h0 => br_c (fun _ => k) fun h2 => ?_
  obtain ⟨p, hp, e⟩ := nI_of2 (M := 2) (n := 2) (by decide) h0 (Int32.not_lt.mp h2)
  subst e
  rw [nI_clamp (by omega)]
  refine ⟨vp_in_nI (by omega) (by omega), br_c (fun _ => k) fun h3 => ?_⟩
  rcases h with z | z | ⟨p', z1, z2, z3⟩
  · exact absurd z h0
  · exact absurd z h2
  · have : p = p' := (nI_eq (by omega) (by omega)).mp z2
    subst this; exact absurd z3 h3
theorem ph_xunload {post : Int32 → SX → Prop} {p : Nat} (hp : p < 3) (hl : ¬ a_loaded p = 0) (k1 : (∀ x, x < 4 → ¬ a_plugin x = nI p) → post 1 (f_nodes, f_rules, f_version, f_count, f_at, f_place, f_number, f_imports, f_functions, f_waiting, f_fault, f_frames, f_box, f_pc, f_status, f_result, f_memory, a_child, a_verdict, a_ruleNode, a_before, a_nodesBefore, a_bytes, a_path, a_pathAt, a_params, a_locals, a_from, a_size, a_high, upd a_loaded p 0, a_emitted, a_entry, a_pParams, a_pFunctions, a_pImports, a_pPath, a_judged, a_fine, a_newAt, a_plugin, a_quota, a_statics, a_slot, a_back, a_entries)) (k0 : (∃ x, x < 4 ∧ a_plugin x = nI p) → post 0 (f_nodes, f_rules, f_version, f_count, f_at, f_place, f_number, f_imports, f_functions, f_waiting, f_fault, f_frames, f_box, f_pc, f_status, f_result, f_memory, a_child, a_verdict, a_ruleNode, a_before, a_nodesBefore, a_bytes, a_path, a_pathAt, a_params, a_locals, a_from, a_size, a_high, a_loaded, a_emitted, a_entry, a_pParams, a_pFunctions, a_pImports, a_pPath, a_judged, a_fine, a_newAt, a_plugin, a_quota, a_statics, a_slot, a_back, a_entries)) : wpX_unload post (f_nodes, f_rules, f_version, f_count, f_at, f_place, f_number, f_imports, f_functions, f_waiting, f_fault, f_frames, f_box, f_pc, f_status, f_result, f_memory, a_child, a_verdict, a_ruleNode, a_before, a_nodesBefore, a_bytes, a_path, a_pathAt, a_params, a_locals, a_from, a_size, a_high, a_loaded, a_emitted, a_entry, a_pParams, a_pFunctions, a_pImports, a_pPath, a_judged, a_fine, a_newAt, a_plugin, a_quota, a_statics, a_slot, a_back, a_entries) (nI p) := by
  have h22 : ∀ d x, x + d = 4 → (∀ y, y < x → ¬ a_plugin y = nI p) → wX_unload_22 post (nI p) f_nodes f_rules f_version f_count f_at f_place f_number f_imports f_functions f_waiting f_fault f_frames f_box f_pc f_status f_result f_memory a_child a_verdict a_ruleNode a_before a_nodesBefore a_bytes a_path a_pathAt a_params a_locals a_from a_size a_high a_loaded a_emitted a_entry a_pParams a_pFunctions a_pImports a_pPath a_judged a_fine a_newAt a_plugin a_quota a_statics a_slot a_back a_entries (d + 1) (nI x) := by
    intro d
    induction d with
    | zero =>
      intro x hx q
      have e : x = 4 := by omega
      subst e
      rw [wX_unload_22]
      refine br_t (nI_le (a := 4) (b := 4) (by omega) (by omega)) ⟨vp_in_nI hp (by omega), nm_r (e' := upd a_loaded p 0) (by rw [nI_clamp (by omega), ph_bo0]) (k1 q)⟩
    | succ d ih =>
      intro x hx q
      rw [wX_unload_22]
      dsimp only
      rw [nI_clamp (by omega : x < 2 ^ 31)]
      refine br_f (nI_ge (a := x) (b := 4) (by omega) (by omega)) ⟨vp_in_nI (by omega) (by omega), br_c (fun z => k0 ⟨x, by omega, z⟩) (fun z => nm_r (nI_1 x) (ih (x + 1) (by omega) fun y hy => ?_))⟩
      by_cases c : y = x
      · subst c; exact z
      · exact q y (by omega)
  unfold wpX_unload
  try dsimp only
  rw [nI_clamp (by omega)]
  exact br_f (nI_pos (by omega)) (br_f (nI_nlt (b := p) (a := 2) (by omega) (by omega)) ⟨vp_in_nI hp (by omega), br_f hl ⟨5, h22 4 0 (by omega) (fun y hy => by omega)⟩⟩)
theorem ph_xleft {post : Int32 → Prop} {x p : Nat} (hx : x < 4) (e : a_plugin x = nI p) (hp : p < 3) (k : post (a_quota x)) : wpX_left post (f_nodes, f_rules, f_version, f_count, f_at, f_place, f_number, f_imports, f_functions, f_waiting, f_fault, f_frames, f_box, f_pc, f_status, f_result, f_memory, a_child, a_verdict, a_ruleNode, a_before, a_nodesBefore, a_bytes, a_path, a_pathAt, a_params, a_locals, a_from, a_size, a_high, a_loaded, a_emitted, a_entry, a_pParams, a_pFunctions, a_pImports, a_pPath, a_judged, a_fine, a_newAt, a_plugin, a_quota, a_statics, a_slot, a_back, a_entries) (nI x) := by
  unfold wpX_left
  refine ph_xisOpen hx e hp (br_f (by decide) ⟨vp_in_nI hx (by omega), ?_⟩)
  rw [nI_clamp (by omega)]; exact k
theorem ph_xleft_no {post : Int32 → Prop} {v : Int32} (h : ∀ x, x < 4 → v = nI x → a_plugin x = -1) (k : post (-1)) : wpX_left post (f_nodes, f_rules, f_version, f_count, f_at, f_place, f_number, f_imports, f_functions, f_waiting, f_fault, f_frames, f_box, f_pc, f_status, f_result, f_memory, a_child, a_verdict, a_ruleNode, a_before, a_nodesBefore, a_bytes, a_path, a_pathAt, a_params, a_locals, a_from, a_size, a_high, a_loaded, a_emitted, a_entry, a_pParams, a_pFunctions, a_pImports, a_pPath, a_judged, a_fine, a_newAt, a_plugin, a_quota, a_statics, a_slot, a_back, a_entries) v := by
  unfold wpX_left
  exact ph_xisOpen_no h (br_t rfl k)
theorem ph_xpeek {post : Int32 → Prop} {x p s : Nat} (hx : x < 4) (e : a_plugin x = nI p) (hp : p < 3) (hs : s < 4) (k : post (a_statics (4 * x + s))) : wpX_peek post (f_nodes, f_rules, f_version, f_count, f_at, f_place, f_number, f_imports, f_functions, f_waiting, f_fault, f_frames, f_box, f_pc, f_status, f_result, f_memory, a_child, a_verdict, a_ruleNode, a_before, a_nodesBefore, a_bytes, a_path, a_pathAt, a_params, a_locals, a_from, a_size, a_high, a_loaded, a_emitted, a_entry, a_pParams, a_pFunctions, a_pImports, a_pPath, a_judged, a_fine, a_newAt, a_plugin, a_quota, a_statics, a_slot, a_back, a_entries) (nI x) (nI s) := by
  unfold wpX_peek
  refine ph_xisOpen hx e hp (br_f (by decide) (br_f (nI_pos (by omega)) (br_f (nI_ge (a := s) (b := 4) hs (by omega)) ?_)))
  rw [ph_mul4, nI_clamp (by omega)]
  exact ⟨vp_in_nI (by omega) (by omega), k⟩
theorem ph_xpeek_no {post : Int32 → Prop} {v w : Int32} (h : (∀ x, x < 4 → v = nI x → a_plugin x = -1) ∨ (¬ (∀ x, x < 4 → v = nI x → a_plugin x = -1) ∧ (∃ x p, x < 4 ∧ p < 3 ∧ v = nI x ∧ a_plugin x = nI p) ∧ ¬ ∃ s, s < 4 ∧ w = nI s)) (k : post 0) : wpX_peek post (f_nodes, f_rules, f_version, f_count, f_at, f_place, f_number, f_imports, f_functions, f_waiting, f_fault, f_frames, f_box, f_pc, f_status, f_result, f_memory, a_child, a_verdict, a_ruleNode, a_before, a_nodesBefore, a_bytes, a_path, a_pathAt, a_params, a_locals, a_from, a_size, a_high, a_loaded, a_emitted, a_entry, a_pParams, a_pFunctions, a_pImports, a_pPath, a_judged, a_fine, a_newAt, a_plugin, a_quota, a_statics, a_slot, a_back, a_entries) v w := by
  unfold wpX_peek
  rcases h with h | ⟨-, ⟨x, p, hx, hp, rfl, e⟩, h⟩
  · exact ph_xisOpen_no h (br_t rfl k)
  · refine ph_xisOpen hx e hp (br_f (by decide) (br_c (fun _ => k) fun h0 => br_c (fun _ => k) fun h4 => ?_))
    obtain ⟨j, hj, rfl⟩ := nI_of h0
    exfalso
    refine h ⟨j, ?_, rfl⟩
    rcases Nat.lt_or_ge j 4 with z | z
    · exact z
    · exact absurd (nI_le (a := 4) (b := j) z hj) h4
end
section
variable {g_rules g_place g_number g_pos g_finding g_active g_result : Int32} {g_memory : Int64} {b_ruleParts b_rulePath b_ruleAllows b_bytes b_length b_present b_ways b_boxPlugin b_boxQuota b_boxOpen b_statics b_aFn b_aPos b_aHigh b_aLocal b_aEntry : Nat → Int32}
theorem ph_yput {post : Int32 → SY → Prop} {L b : Nat} (hL : L < 120) (hb : b < 256) (e : b_length 3 = nI L) (k : post 1 (g_rules, g_place, g_number, g_pos, g_finding, g_active, g_result, g_memory, b_ruleParts, b_rulePath, b_ruleAllows, upd b_bytes (360 + L) (nI b), upd b_length 3 (nI (L + 1)), b_present, b_ways, b_boxPlugin, b_boxQuota, b_boxOpen, b_statics, b_aFn, b_aPos, b_aHigh, b_aLocal, b_aEntry)) : wpY_put post (g_rules, g_place, g_number, g_pos, g_finding, g_active, g_result, g_memory, b_ruleParts, b_rulePath, b_ruleAllows, b_bytes, b_length, b_present, b_ways, b_boxPlugin, b_boxQuota, b_boxOpen, b_statics, b_aFn, b_aPos, b_aHigh, b_aLocal, b_aEntry) (nI b) := by
  unfold wpY_put
  try dsimp only
  rw [e, ph_360, nI_1, nI_clamp (by omega)]
  exact br_f (nI_pos (by omega)) (br_f (nI_nlt (b := b) (a := 255) (by omega) (by omega)) (pk_eq L 120 (fun z => by omega) (fun z => ⟨vp_in_nI (by omega) (by omega), nm_e (nm_e k)⟩)))
theorem ph_yput_no {post : Int32 → SY → Prop} {L : Nat} {v : Int32} (h : L = 120 ∨ ¬ (v &&& (-256)) = 0) (hL : L ≤ 120) (e : b_length 3 = nI L) (k : post 0 (g_rules, g_place, g_number, g_pos, g_finding, g_active, g_result, g_memory, b_ruleParts, b_rulePath, b_ruleAllows, b_bytes, b_length, b_present, b_ways, b_boxPlugin, b_boxQuota, b_boxOpen, b_statics, b_aFn, b_aPos, b_aHigh, b_aLocal, b_aEntry)) : wpY_put post (g_rules, g_place, g_number, g_pos, g_finding, g_active, g_result, g_memory, b_ruleParts, b_rulePath, b_ruleAllows, b_bytes, b_length, b_present, b_ways, b_boxPlugin, b_boxQuota, b_boxOpen, b_statics, b_aFn, b_aPos, b_aHigh, b_aLocal, b_aEntry) v := by
  unfold wpY_put
  try dsimp only
  rw [e]
  refine br_c (fun _ => k) fun h0 => br_c (fun _ => k) fun h1 => pk_eq L 120 (fun _ => k) (fun y => ?_)
  rcases h with h | h
  · exact absurd h y
  · exfalso
    rcases ph_c256 v with ⟨j, -, -, z, -⟩ | ⟨-, z | ⟨-, z⟩⟩
    · exact h z
    · exact h0 z
    · exact h1 z
theorem ph_yo84 {post : Int32 → SY → Prop} {x : Nat} {s : Nat → Int32} (hx : x < 4) (k : post (nI x) (g_rules, g_place, g_number, g_pos, g_finding, g_active, g_result, g_memory, b_ruleParts, b_rulePath, b_ruleAllows, b_bytes, b_length, b_present, b_ways, b_boxPlugin, b_boxQuota, b_boxOpen, ph_zr s (4 * x) 4, b_aFn, b_aPos, b_aHigh, b_aLocal, b_aEntry)) :
    ∀ d j, j + d = 4 → wY_open_84 post (nI x) g_rules g_place g_number g_pos g_finding g_active g_result g_memory (d + 1) (nI j) b_ruleParts b_rulePath b_ruleAllows b_bytes b_length b_present b_ways b_boxPlugin b_boxQuota b_boxOpen (ph_zr s (4 * x) j) b_aFn b_aPos b_aHigh b_aLocal b_aEntry := by
  intro d
  induction d with
  | zero =>
    intro j hj
    have ej : j = 4 := by omega
    subst ej
    rw [wY_open_84]
    exact br_t (nI_le (a := 4) (b := 4) (by omega) (by omega)) k
  | succ d ih =>
    intro j hj
    rw [wY_open_84]
    dsimp only
    rw [ph_4', nI_clamp (by omega)]
    exact br_f (nI_ge (a := j) (b := 4) (by omega) (by omega)) ⟨vp_in_nI (by omega) (by omega), nm_r (ph_zr_s s (4 * x) j) (nm_r (nI_1 j) (ih (j + 1) (by omega)))⟩
theorem ph_yo53 {post : Int32 → SY → Prop} {x : Nat} {p q : Int32} (hx : x < 4) (k : post (nI x) (g_rules, g_place, g_number, g_pos, g_finding, g_active, g_result, g_memory, b_ruleParts, b_rulePath, b_ruleAllows, b_bytes, b_length, b_present, b_ways, upd b_boxPlugin x p, upd b_boxQuota x q, upd b_boxOpen x 1, ph_zr b_statics (4 * x) 4, b_aFn, b_aPos, b_aHigh, b_aLocal, b_aEntry)) : wY_open_53 post p q (nI x) g_rules g_place g_number g_pos g_finding g_active g_result g_memory b_ruleParts b_rulePath b_ruleAllows b_bytes b_length b_present b_ways b_boxPlugin b_boxQuota b_boxOpen b_statics b_aFn b_aPos b_aHigh b_aLocal b_aEntry := by
  have hin : vp_in (nI x) 4 := vp_in_nI hx (by omega)
  unfold wY_open_53
  rw [nI_clamp (by omega)]
  refine pk_eq x 4 (fun z => by omega) (fun z => ⟨hin, nm_r (e' := upd b_boxOpen x 1) (by rw [ph_bo1]) ⟨hin, nm_e ⟨hin, nm_e ⟨5, ?_⟩⟩⟩⟩)
  have J := ph_yo84 (post := post) (x := x) (s := b_statics) (b_boxOpen := upd b_boxOpen x 1) (b_boxPlugin := upd b_boxPlugin x p) (b_boxQuota := upd b_boxQuota x q) hx k 4 0 (by omega)
  rw [ph_zr_0] at J
  exact J
theorem ph_yo33 {post : Int32 → SY → Prop} {x : Nat} {p q : Int32} (hx : x < 4) (h0 : b_boxOpen x = 0) (h1 : ∀ y, y < x → ¬ b_boxOpen y = 0) (k : wY_open_53 post p q (nI x) g_rules g_place g_number g_pos g_finding g_active g_result g_memory b_ruleParts b_rulePath b_ruleAllows b_bytes b_length b_present b_ways b_boxPlugin b_boxQuota b_boxOpen b_statics b_aFn b_aPos b_aHigh b_aLocal b_aEntry) : ∀ d y, y + d = x → wY_open_33 post p q g_rules g_place g_number g_pos g_finding g_active g_result g_memory b_ruleParts b_rulePath b_ruleAllows b_bytes b_length b_present b_ways b_boxPlugin b_boxQuota b_boxOpen b_statics b_aFn b_aPos b_aHigh b_aLocal b_aEntry (d + 1) (nI y) := by
  intro d
  induction d with
  | zero =>
    intro y hy
    have e : y = x := by omega
    subst e
    rw [wY_open_33]
    dsimp only
    rw [nI_clamp (by omega)]
    exact br_f (nI_ge (a := y) (b := 4) hx (by omega)) ⟨vp_in_nI hx (by omega), br_t h0 k⟩
  | succ d ih =>
    intro y hy
    rw [wY_open_33]
    dsimp only
    rw [nI_clamp (by omega)]
    exact br_f (nI_ge (a := y) (b := 4) (by omega) (by omega)) ⟨vp_in_nI (by omega) (by omega), br_f (h1 y (by omega)) (nm_r (nI_1 y) (ih (y + 1) (by omega)))⟩
theorem ph_yo33f {post : Int32 → SY → Prop} {p q : Int32} (h1 : ∀ y, y < 4 → ¬ b_boxOpen y = 0) (k : post (-1) (g_rules, g_place, g_number, g_pos, g_finding, g_active, g_result, g_memory, b_ruleParts, b_rulePath, b_ruleAllows, b_bytes, b_length, b_present, b_ways, b_boxPlugin, b_boxQuota, b_boxOpen, b_statics, b_aFn, b_aPos, b_aHigh, b_aLocal, b_aEntry)) : ∀ d y, y + d = 4 → wY_open_33 post p q g_rules g_place g_number g_pos g_finding g_active g_result g_memory b_ruleParts b_rulePath b_ruleAllows b_bytes b_length b_present b_ways b_boxPlugin b_boxQuota b_boxOpen b_statics b_aFn b_aPos b_aHigh b_aLocal b_aEntry (d + 1) (nI y) := by
  intro d
  induction d with
  | zero =>
    intro y hy
    have e : y = 4 := by omega
    subst e
    rw [wY_open_33]
    refine br_t (nI_le (a := 4) (b := 4) (by omega) (by omega)) ?_
    unfold wY_open_53
    exact br_t rfl k
  | succ d ih =>
    intro y hy
    rw [wY_open_33]
    dsimp only
    rw [nI_clamp (by omega)]
    exact br_f (nI_ge (a := y) (b := 4) (by omega) (by omega)) ⟨vp_in_nI (by omega) (by omega), br_f (h1 y (by omega)) (nm_r (nI_1 y) (ih (y + 1) (by omega)))⟩
theorem ph_yopen_no {post : Int32 → SY → Prop} {v1 v2 : Int32} (h : ph_oNo b_present v1 v2) (k : post (-1) (g_rules, g_place, g_number, g_pos, g_finding, g_active, g_result, g_memory, b_ruleParts, b_rulePath, b_ruleAllows, b_bytes, b_length, b_present, b_ways, b_boxPlugin, b_boxQuota, b_boxOpen, b_statics, b_aFn, b_aPos, b_aHigh, b_aLocal, b_aEntry)) : wpY_open post (g_rules, g_place, g_number, g_pos, g_finding, g_active, g_result, g_memory, b_ruleParts, b_rulePath, b_ruleAllows, b_bytes, b_length, b_present, b_ways, b_boxPlugin, b_boxQuota, b_boxOpen, b_statics, b_aFn, b_aPos, b_aHigh, b_aLocal, b_aEntry) v1 v2 := by
  unfold wpY_open
  refine br_c (fun _ => k) fun h0 => br_c (fun _ => k) fun h2 => ?_
  obtain ⟨p, hp, e⟩ := nI_of2 (M := 2) (n := 2) (by decide) h0 (Int32.not_lt.mp h2)
  subst e
  rw [nI_clamp (by omega)]
  refine ⟨vp_in_nI (by omega) (by omega), br_c (fun _ => k) fun h3 => br_c (fun _ => k) fun h4 => br_c (fun h5 => ?_) (fun _ => k)⟩
  rcases h with z | z | ⟨p', z1, z2, z3⟩ | z | z
  · exact absurd z h0
  · exact absurd z h2
  · have : p = p' := (nI_eq (by omega) (by omega)).mp z2
    subst this; exact absurd z3 h3
  · exact absurd z h4
  · exact absurd h5 z
theorem ph_yopen_go {post : Int32 → SY → Prop} {p q : Nat} (hp : p < 3) (hl : ¬ b_present p = 0) (hq : q ≤ 2000) (k : ∃ n33, wY_open_33 post (nI p) (nI q) g_rules g_place g_number g_pos g_finding g_active g_result g_memory b_ruleParts b_rulePath b_ruleAllows b_bytes b_length b_present b_ways b_boxPlugin b_boxQuota b_boxOpen b_statics b_aFn b_aPos b_aHigh b_aLocal b_aEntry n33 0) : wpY_open post (g_rules, g_place, g_number, g_pos, g_finding, g_active, g_result, g_memory, b_ruleParts, b_rulePath, b_ruleAllows, b_bytes, b_length, b_present, b_ways, b_boxPlugin, b_boxQuota, b_boxOpen, b_statics, b_aFn, b_aPos, b_aHigh, b_aLocal, b_aEntry) (nI p) (nI q) := by
  unfold wpY_open
  try dsimp only
  rw [nI_clamp (by omega)]
  exact br_f (nI_pos (by omega)) (br_f (nI_nlt (b := p) (a := 2) (by omega) (by omega)) ⟨vp_in_nI (by omega) (by omega), br_f hl (br_f (nI_pos (by omega)) (br_t (nI_le (a := q) (b := 2000) hq (by omega)) k))⟩)
theorem ph_yclose {post : Int32 → SY → Prop} {x : Nat} (hx : x < 4) (e : b_boxOpen x = 1) (k : post 1 (g_rules, g_place, g_number, g_pos, g_finding, g_active, g_result, g_memory, b_ruleParts, b_rulePath, b_ruleAllows, b_bytes, b_length, b_present, b_ways, b_boxPlugin, b_boxQuota, upd b_boxOpen x 0, b_statics, b_aFn, b_aPos, b_aHigh, b_aLocal, b_aEntry)) : wpY_close post (g_rules, g_place, g_number, g_pos, g_finding, g_active, g_result, g_memory, b_ruleParts, b_rulePath, b_ruleAllows, b_bytes, b_length, b_present, b_ways, b_boxPlugin, b_boxQuota, b_boxOpen, b_statics, b_aFn, b_aPos, b_aHigh, b_aLocal, b_aEntry) (nI x) := by
  unfold wpY_close
  refine ph_yisOpen hx e (br_f (by decide) ⟨vp_in_nI hx (by omega), nm_r (e' := upd b_boxOpen x 0) ?_ k⟩)
  rw [nI_clamp (by omega), ph_bo0]
theorem ph_yclose_no {post : Int32 → SY → Prop} {v : Int32} (h : ∀ x, x < 4 → v = nI x → b_boxOpen x = 0) (k : post 0 (g_rules, g_place, g_number, g_pos, g_finding, g_active, g_result, g_memory, b_ruleParts, b_rulePath, b_ruleAllows, b_bytes, b_length, b_present, b_ways, b_boxPlugin, b_boxQuota, b_boxOpen, b_statics, b_aFn, b_aPos, b_aHigh, b_aLocal, b_aEntry)) : wpY_close post (g_rules, g_place, g_number, g_pos, g_finding, g_active, g_result, g_memory, b_ruleParts, b_rulePath, b_ruleAllows, b_bytes, b_length, b_present, b_ways, b_boxPlugin, b_boxQuota, b_boxOpen, b_statics, b_aFn, b_aPos, b_aHigh, b_aLocal, b_aEntry) v := by
  unfold wpY_close
  exact ph_yisOpen_no h (br_t rfl k)
theorem ph_yunload_no {post : Int32 → SY → Prop} {v1 : Int32} (h : ph_uNo b_present v1) (k : post 0 (g_rules, g_place, g_number, g_pos, g_finding, g_active, g_result, g_memory, b_ruleParts, b_rulePath, b_ruleAllows, b_bytes, b_length, b_present, b_ways, b_boxPlugin, b_boxQuota, b_boxOpen, b_statics, b_aFn, b_aPos, b_aHigh, b_aLocal, b_aEntry)) : wpY_unload post (g_rules, g_place, g_number, g_pos, g_finding, g_active, g_result, g_memory, b_ruleParts, b_rulePath, b_ruleAllows, b_bytes, b_length, b_present, b_ways, b_boxPlugin, b_boxQuota, b_boxOpen, b_statics, b_aFn, b_aPos, b_aHigh, b_aLocal, b_aEntry) v1 := by
  unfold wpY_unload
  refine br_c (fun _ => k) fun h0 => br_c (fun _ => k) fun h2 => ?_
  obtain ⟨p, hp, e⟩ := nI_of2 (M := 2) (n := 2) (by decide) h0 (Int32.not_lt.mp h2)
  subst e
  rw [nI_clamp (by omega)]
  refine ⟨vp_in_nI (by omega) (by omega), br_c (fun _ => k) fun h3 => ?_⟩
  rcases h with z | z | ⟨p', z1, z2, z3⟩
  · exact absurd z h0
  · exact absurd z h2
  · have : p = p' := (nI_eq (by omega) (by omega)).mp z2
    subst this; exact absurd z3 h3
theorem ph_yunload {post : Int32 → SY → Prop} {p : Nat} (hp : p < 3) (hl : ¬ b_present p = 0) (k1 : (∀ x, x < 4 → ¬ (¬ b_boxOpen x = 0 ∧ b_boxPlugin x = nI p)) → post 1 (g_rules, g_place, g_number, g_pos, g_finding, g_active, g_result, g_memory, b_ruleParts, b_rulePath, b_ruleAllows, b_bytes, b_length, upd b_present p 0, b_ways, b_boxPlugin, b_boxQuota, b_boxOpen, b_statics, b_aFn, b_aPos, b_aHigh, b_aLocal, b_aEntry)) (k0 : (∃ x, x < 4 ∧ ¬ b_boxOpen x = 0 ∧ b_boxPlugin x = nI p) → post 0 (g_rules, g_place, g_number, g_pos, g_finding, g_active, g_result, g_memory, b_ruleParts, b_rulePath, b_ruleAllows, b_bytes, b_length, b_present, b_ways, b_boxPlugin, b_boxQuota, b_boxOpen, b_statics, b_aFn, b_aPos, b_aHigh, b_aLocal, b_aEntry)) : wpY_unload post (g_rules, g_place, g_number, g_pos, g_finding, g_active, g_result, g_memory, b_ruleParts, b_rulePath, b_ruleAllows, b_bytes, b_length, b_present, b_ways, b_boxPlugin, b_boxQuota, b_boxOpen, b_statics, b_aFn, b_aPos, b_aHigh, b_aLocal, b_aEntry) (nI p) := by
  have h22 : ∀ d x, x + d = 4 → (∀ y, y < x → ¬ (¬ b_boxOpen y = 0 ∧ b_boxPlugin y = nI p)) → wY_unload_22 post (nI p) g_rules g_place g_number g_pos g_finding g_active g_result g_memory b_ruleParts b_rulePath b_ruleAllows b_bytes b_length b_present b_ways b_boxPlugin b_boxQuota b_boxOpen b_statics b_aFn b_aPos b_aHigh b_aLocal b_aEntry (d + 1) (nI x) := by
    intro d
    induction d with
    | zero =>
      intro x hx q
      have e : x = 4 := by omega
      subst e
      rw [wY_unload_22]
      refine br_t (nI_le (a := 4) (b := 4) (by omega) (by omega)) ⟨vp_in_nI (by omega) (by omega), nm_r (e' := upd b_present p 0) (by rw [nI_clamp (by omega), ph_bo0]) (k1 q)⟩
    | succ d ih =>
      intro x hx q
      have nx : ¬ (¬ b_boxOpen x = 0 ∧ b_boxPlugin x = nI p) → wY_unload_22 post (nI p) g_rules g_place g_number g_pos g_finding g_active g_result g_memory b_ruleParts b_rulePath b_ruleAllows b_bytes b_length b_present b_ways b_boxPlugin b_boxQuota b_boxOpen b_statics b_aFn b_aPos b_aHigh b_aLocal b_aEntry (d + 1) (nI (x + 1)) := fun z => ih (x + 1) (by omega) fun y hy => by
        by_cases c : y = x
        · subst c; exact z
        · exact q y (by omega)
      rw [wY_unload_22]
      dsimp only
      rw [nI_clamp (by omega : x < 2 ^ 31)]
      exact br_f (nI_ge (a := x) (b := 4) (by omega) (by omega)) ⟨vp_in_nI (by omega) (by omega), br_c (fun z => nm_r (nI_1 x) (nx fun y => y.1 z)) (fun z => ⟨vp_in_nI (by omega) (by omega), br_c (fun w => k0 ⟨x, by omega, z, w⟩) (fun w => nm_r (nI_1 x) (nx fun y => w y.2))⟩)⟩
  unfold wpY_unload
  try dsimp only
  rw [nI_clamp (by omega)]
  exact br_f (nI_pos (by omega)) (br_f (nI_nlt (b := p) (a := 2) (by omega) (by omega)) ⟨vp_in_nI (by omega) (by omega), br_f hl ⟨5, h22 4 0 (by omega) (fun y hy => by omega)⟩⟩)
theorem ph_yleft {post : Int32 → Prop} {x : Nat} (hx : x < 4) (e : b_boxOpen x = 1) (k : post (b_boxQuota x)) : wpY_left post (g_rules, g_place, g_number, g_pos, g_finding, g_active, g_result, g_memory, b_ruleParts, b_rulePath, b_ruleAllows, b_bytes, b_length, b_present, b_ways, b_boxPlugin, b_boxQuota, b_boxOpen, b_statics, b_aFn, b_aPos, b_aHigh, b_aLocal, b_aEntry) (nI x) := by
  unfold wpY_left
  refine ph_yisOpen hx e (br_f (by decide) ⟨vp_in_nI hx (by omega), ?_⟩)
  rw [nI_clamp (by omega)]; exact k
theorem ph_yleft_no {post : Int32 → Prop} {v : Int32} (h : ∀ x, x < 4 → v = nI x → b_boxOpen x = 0) (k : post (-1)) : wpY_left post (g_rules, g_place, g_number, g_pos, g_finding, g_active, g_result, g_memory, b_ruleParts, b_rulePath, b_ruleAllows, b_bytes, b_length, b_present, b_ways, b_boxPlugin, b_boxQuota, b_boxOpen, b_statics, b_aFn, b_aPos, b_aHigh, b_aLocal, b_aEntry) v := by
  unfold wpY_left
  exact ph_yisOpen_no h (br_t rfl k)
theorem ph_ypeek {post : Int32 → Prop} {x s : Nat} (hx : x < 4) (e : b_boxOpen x = 1) (hs : s < 4) (k : post (b_statics (4 * x + s))) : wpY_peek post (g_rules, g_place, g_number, g_pos, g_finding, g_active, g_result, g_memory, b_ruleParts, b_rulePath, b_ruleAllows, b_bytes, b_length, b_present, b_ways, b_boxPlugin, b_boxQuota, b_boxOpen, b_statics, b_aFn, b_aPos, b_aHigh, b_aLocal, b_aEntry) (nI x) (nI s) := by
  unfold wpY_peek
  refine ph_yisOpen hx e (br_f (by decide) (br_f (nI_pos (by omega)) (br_f (nI_nlt (b := s) (a := 3) (by omega) (by omega)) ?_)))
  rw [ph_4', nI_clamp (by omega)]
  exact ⟨vp_in_nI (by omega) (by omega), k⟩
theorem ph_ypeek_no {post : Int32 → Prop} {v w : Int32} (h : (∀ x, x < 4 → v = nI x → b_boxOpen x = 0) ∨ ((∃ x, x < 4 ∧ v = nI x ∧ b_boxOpen x = 1) ∧ ¬ ∃ s, s < 4 ∧ w = nI s)) (k : post 0) : wpY_peek post (g_rules, g_place, g_number, g_pos, g_finding, g_active, g_result, g_memory, b_ruleParts, b_rulePath, b_ruleAllows, b_bytes, b_length, b_present, b_ways, b_boxPlugin, b_boxQuota, b_boxOpen, b_statics, b_aFn, b_aPos, b_aHigh, b_aLocal, b_aEntry) v w := by
  unfold wpY_peek
  rcases h with h | ⟨⟨x, hx, rfl, e⟩, h⟩
  · exact ph_yisOpen_no h (br_t rfl k)
  · refine ph_yisOpen hx e (br_f (by decide) (br_c (fun _ => k) fun h0 => br_c (fun _ => k) fun h4 => ?_))
    obtain ⟨j, hj, e⟩ := nI_of2 (M := 3) (n := 3) (by decide) h0 (Int32.not_lt.mp h4)
    exact absurd ⟨j, by omega, e⟩ h
end
end
section
/-! ===== the relation ===== -/
def ph_PG (p ver nr : Nat) (rc ra : Nat → Nat) (em en pp pF pI pt ju fi by' : Nat → Int32) : Prop :=
  ∃ (B : Nat → Nat) (L jv : Nat), ph_OK B L ∧ (∀ g, g < ph_nf B → ph_PF B p g (320 * p + 320) em en pp) ∧ pF p = nI (ph_nf B) ∧ pI p = nI (B 1) ∧ (∀ i, i < B 1 → pt (4 * p + i) = nI (ph_pth B i)) ∧ ph_BY B L p by' ∧
    jv ≤ ver ∧ ju p = nI jv ∧ (jv = ver → fi p = nI (ph_per B rc ra nr (B 1)))
def ph_Plg (ver nr : Nat) (rc ra : Nat → Nat) (ld em en pp pF pI pt ju fi by' pr : Nat → Int32) : Prop :=
  ∀ p, p < 3 → (ld p = 0 ∨ ld p = 1) ∧ pr p = ld p ∧ (ld p = 1 → ph_PG p ver nr rc ra em en pp pF pI pt ju fi by')
def ph_Box (ld plg qu bp bo : Nat → Int32) : Prop :=
  ∀ x, x < 4 → (∃ q, q ≤ 2000 ∧ qu x = nI q) ∧ ((plg x = -1 ∧ bo x = 0) ∨ ∃ p, p < 3 ∧ plg x = nI p ∧ bo x = 1 ∧ bp x = nI p ∧ ld p = 1)
def ph_Buf (B : Nat → Nat) (L : Nat) (ax by' len : Nat → Int32) : Prop :=
  L ≤ 120 ∧ len 3 = nI L ∧ ∀ j, j < 120 → ax j = nI (B j) ∧ B j < 256 ∧ by' (360 + j) = nI (B j)
/-- the relation at the head of a turn: one policy, one buffer, the same plugins as bytes and as emitted code, the same sandboxes -/
def i_Rel (k : Nat) (u : SX) (v : SY) : Prop := match u with
  | (f_nodes, f_rules, f_version, f_count, f_at, f_place, f_number, f_imports, f_functions, f_waiting, f_fault, f_frames, f_box, f_pc, f_status, f_result, f_memory, a_child, a_verdict, a_ruleNode, a_before, a_nodesBefore, a_bytes, a_path, a_pathAt, a_params, a_locals, a_from, a_size, a_high, a_loaded, a_emitted, a_entry, a_pParams, a_pFunctions, a_pImports, a_pPath, a_judged, a_fine, a_newAt, a_plugin, a_quota, a_statics, a_slot, a_back, a_entries) => match v with
    | (g_rules, g_place, g_number, g_pos, g_finding, g_active, g_result, g_memory, b_ruleParts, b_rulePath, b_ruleAllows, b_bytes, b_length, b_present, b_ways, b_boxPlugin, b_boxQuota, b_boxOpen, b_statics, b_aFn, b_aPos, b_aHigh, b_aLocal, b_aEntry) => ∃ (nr ver L : Nat) (rc ra nm Nr B : Nat → Nat),
      (f_nodes = nI (Nr nr) ∧ f_rules = nI nr ∧ f_version = nI ver ∧ f_count = nI L ∧ g_rules = nI nr ∧ g_place = f_place ∧ g_number = f_number ∧ g_result = f_result ∧ g_memory = f_memory ∧ b_boxQuota = a_quota ∧ b_statics = a_statics) ∧
      ph_TR nr rc ra nm Nr a_child a_verdict a_ruleNode a_before a_nodesBefore ∧ ph_YP nr rc ra b_ruleParts b_rulePath b_ruleAllows ∧ 5 * ver ≤ k ∧ ph_Buf B L a_bytes b_bytes b_length ∧
      ph_Plg ver nr rc ra a_loaded a_emitted a_entry a_pParams a_pFunctions a_pImports a_pPath a_judged a_fine b_bytes b_present ∧ ph_Box a_loaded a_plugin a_quota b_boxPlugin b_boxOpen
theorem ph_mk {k : Nat} (f_at : Int32) (f_place : Int32) (f_number : Int32) (f_imports : Int32) (f_functions : Int32) (f_waiting : Int64) (f_fault : Int32) (f_frames : Int32) (f_box : Int32) (f_pc : Int32) (f_status : Int32) (f_result : Int32) (f_memory : Int64) (a_child : Nat → Int32) (a_verdict : Nat → Int32) (a_ruleNode : Nat → Int32) (a_before : Nat → Int32) (a_nodesBefore : Nat → Int32) (a_bytes : Nat → Int32) (a_path : Nat → Int32) (a_pathAt : Nat → Int32) (a_params : Nat → Int32) (a_locals : Nat → Int32) (a_from : Nat → Int32) (a_size : Nat → Int32) (a_high : Nat → Int32) (a_loaded : Nat → Int32) (a_emitted : Nat → Int32) (a_entry : Nat → Int32) (a_pParams : Nat → Int32) (a_pFunctions : Nat → Int32) (a_pImports : Nat → Int32) (a_pPath : Nat → Int32) (a_judged : Nat → Int32) (a_fine : Nat → Int32) (a_newAt : Nat → Int32) (a_plugin : Nat → Int32) (a_quota : Nat → Int32) (a_statics : Nat → Int32) (a_slot : Nat → Int32) (a_back : Nat → Int32) (a_entries : Nat → Int32) (g_pos : Int32) (g_finding : Int32) (g_active : Int32) (b_ruleParts : Nat → Int32) (b_rulePath : Nat → Int32) (b_ruleAllows : Nat → Int32) (b_bytes : Nat → Int32) (b_length : Nat → Int32) (b_present : Nat → Int32) (b_ways : Nat → Int32) (b_boxPlugin : Nat → Int32) (b_boxOpen : Nat → Int32) (b_aFn : Nat → Int32) (b_aPos : Nat → Int32) (b_aHigh : Nat → Int32) (b_aLocal : Nat → Int32) (b_aEntry : Nat → Int32) {nr ver L : Nat} {rc ra nm Nr B : Nat → Nat}
    (hT : ph_TR nr rc ra nm Nr a_child a_verdict a_ruleNode a_before a_nodesBefore) (hY : ph_YP nr rc ra b_ruleParts b_rulePath b_ruleAllows) (hv : 5 * ver ≤ k) (hBf : ph_Buf B L a_bytes b_bytes b_length)
    (hPl : ph_Plg ver nr rc ra a_loaded a_emitted a_entry a_pParams a_pFunctions a_pImports a_pPath a_judged a_fine b_bytes b_present) (hBx : ph_Box a_loaded a_plugin a_quota b_boxPlugin b_boxOpen) : i_Rel k (nI (Nr nr), nI nr, nI ver, nI L, f_at, f_place, f_number, f_imports, f_functions, f_waiting, f_fault, f_frames, f_box, f_pc, f_status, f_result, f_memory, a_child, a_verdict, a_ruleNode, a_before, a_nodesBefore, a_bytes, a_path, a_pathAt, a_params, a_locals, a_from, a_size, a_high, a_loaded, a_emitted, a_entry, a_pParams, a_pFunctions, a_pImports, a_pPath, a_judged, a_fine, a_newAt, a_plugin, a_quota, a_statics, a_slot, a_back, a_entries) (nI nr, f_place, f_number, g_pos, g_finding, g_active, f_result, f_memory, b_ruleParts, b_rulePath, b_ruleAllows, b_bytes, b_length, b_present, b_ways, b_boxPlugin, a_quota, b_boxOpen, a_statics, b_aFn, b_aPos, b_aHigh, b_aLocal, b_aEntry) := by
  unfold i_Rel
  exact ⟨nr, ver, L, rc, ra, nm, Nr, B, ⟨rfl, rfl, rfl, rfl, rfl, rfl, rfl, rfl, rfl, rfl, rfl⟩, hT, hY, hv, hBf, hPl, hBx⟩
theorem ph_el {k : Nat} {u : SX} {v : SY} {P : SX → SY → Prop} (I : i_Rel k u v)
    (h : ∀ (f_at : Int32) (f_place : Int32) (f_number : Int32) (f_imports : Int32) (f_functions : Int32) (f_waiting : Int64) (f_fault : Int32) (f_frames : Int32) (f_box : Int32) (f_pc : Int32) (f_status : Int32) (f_result : Int32) (f_memory : Int64) (a_child : Nat → Int32) (a_verdict : Nat → Int32) (a_ruleNode : Nat → Int32) (a_before : Nat → Int32) (a_nodesBefore : Nat → Int32) (a_bytes : Nat → Int32) (a_path : Nat → Int32) (a_pathAt : Nat → Int32) (a_params : Nat → Int32) (a_locals : Nat → Int32) (a_from : Nat → Int32) (a_size : Nat → Int32) (a_high : Nat → Int32) (a_loaded : Nat → Int32) (a_emitted : Nat → Int32) (a_entry : Nat → Int32) (a_pParams : Nat → Int32) (a_pFunctions : Nat → Int32) (a_pImports : Nat → Int32) (a_pPath : Nat → Int32) (a_judged : Nat → Int32) (a_fine : Nat → Int32) (a_newAt : Nat → Int32) (a_plugin : Nat → Int32) (a_quota : Nat → Int32) (a_statics : Nat → Int32) (a_slot : Nat → Int32) (a_back : Nat → Int32) (a_entries : Nat → Int32) (g_pos : Int32) (g_finding : Int32) (g_active : Int32) (b_ruleParts : Nat → Int32) (b_rulePath : Nat → Int32) (b_ruleAllows : Nat → Int32) (b_bytes : Nat → Int32) (b_length : Nat → Int32) (b_present : Nat → Int32) (b_ways : Nat → Int32) (b_boxPlugin : Nat → Int32) (b_boxOpen : Nat → Int32) (b_aFn : Nat → Int32) (b_aPos : Nat → Int32) (b_aHigh : Nat → Int32) (b_aLocal : Nat → Int32) (b_aEntry : Nat → Int32) (nr ver L : Nat) (rc ra nm Nr B : Nat → Nat),
      ph_TR nr rc ra nm Nr a_child a_verdict a_ruleNode a_before a_nodesBefore → ph_YP nr rc ra b_ruleParts b_rulePath b_ruleAllows → 5 * ver ≤ k → ph_Buf B L a_bytes b_bytes b_length →
      ph_Plg ver nr rc ra a_loaded a_emitted a_entry a_pParams a_pFunctions a_pImports a_pPath a_judged a_fine b_bytes b_present → ph_Box a_loaded a_plugin a_quota b_boxPlugin b_boxOpen → P (nI (Nr nr), nI nr, nI ver, nI L, f_at, f_place, f_number, f_imports, f_functions, f_waiting, f_fault, f_frames, f_box, f_pc, f_status, f_result, f_memory, a_child, a_verdict, a_ruleNode, a_before, a_nodesBefore, a_bytes, a_path, a_pathAt, a_params, a_locals, a_from, a_size, a_high, a_loaded, a_emitted, a_entry, a_pParams, a_pFunctions, a_pImports, a_pPath, a_judged, a_fine, a_newAt, a_plugin, a_quota, a_statics, a_slot, a_back, a_entries) (nI nr, f_place, f_number, g_pos, g_finding, g_active, f_result, f_memory, b_ruleParts, b_rulePath, b_ruleAllows, b_bytes, b_length, b_present, b_ways, b_boxPlugin, a_quota, b_boxOpen, a_statics, b_aFn, b_aPos, b_aHigh, b_aLocal, b_aEntry)) : P u v := by
  obtain ⟨f_nodes, f_rules, f_version, f_count, f_at, f_place, f_number, f_imports, f_functions, f_waiting, f_fault, f_frames, f_box, f_pc, f_status, f_result, f_memory, a_child, a_verdict, a_ruleNode, a_before, a_nodesBefore, a_bytes, a_path, a_pathAt, a_params, a_locals, a_from, a_size, a_high, a_loaded, a_emitted, a_entry, a_pParams, a_pFunctions, a_pImports, a_pPath, a_judged, a_fine, a_newAt, a_plugin, a_quota, a_statics, a_slot, a_back, a_entries⟩ := u
  obtain ⟨g_rules, g_place, g_number, g_pos, g_finding, g_active, g_result, g_memory, b_ruleParts, b_rulePath, b_ruleAllows, b_bytes, b_length, b_present, b_ways, b_boxPlugin, b_boxQuota, b_boxOpen, b_statics, b_aFn, b_aPos, b_aHigh, b_aLocal, b_aEntry⟩ := v
  unfold i_Rel at I
  obtain ⟨nr, ver, L, rc, ra, nm, Nr, B, ⟨e1, e2, e3, e4, e5, e6, e7, e8, e9, e10, e11⟩, hT, hY, hv, hBf, hPl, hBx⟩ := I
  subst e1 e2 e3 e4 e5 e6 e7 e8 e9 e10 e11
  exact h _ _ _ _ _ _ _ _ _ _ _ _ _ _ _ _ _ _ _ _ _ _ _ _ _ _ _ _ _ _ _ _ _ _ _ _ _ _ _ _ _ _ _ _ _ _ _ _ _ _ _ _ _ _ _ _ _ _ _ nr ver L rc ra nm Nr B hT hY hv hBf hPl hBx
theorem i_up {k : Nat} {u : SX} {v : SY} (h : i_Rel k u v) : i_Rel (k + 5) u v := by
  refine ph_el (P := fun u v => i_Rel (k + 5) u v) h ?_
  intro f_at f_place f_number f_imports f_functions f_waiting f_fault f_frames f_box f_pc f_status f_result f_memory a_child a_verdict a_ruleNode a_before a_nodesBefore a_bytes a_path a_pathAt a_params a_locals a_from a_size a_high a_loaded a_emitted a_entry a_pParams a_pFunctions a_pImports a_pPath a_judged a_fine a_newAt a_plugin a_quota a_statics a_slot a_back a_entries g_pos g_finding g_active b_ruleParts b_rulePath b_ruleAllows b_bytes b_length b_present b_ways b_boxPlugin b_boxOpen b_aFn b_aPos b_aHigh b_aLocal b_aEntry nr ver L rc ra nm Nr B hT hY hv hBf hPl hBx
  exact ph_mk _ _ _ _ _ _ _ _ _ _ _ _ _ _ _ _ _ _ _ _ _ _ _ _ _ _ _ _ _ _ _ _ _ _ _ _ _ _ _ _ _ _ _ _ _ _ _ _ _ _ _ _ _ _ _ _ _ _ _ hT hY (by omega) hBf hPl hBx
end
section
/-! ===== what is owed, but submit, call and the constructors (printed by gen31.py) ===== -/
theorem ph_Plg_up {ver nr nr' : Nat} {rc ra rc' ra' : Nat → Nat} {ld em en pp pF pI pt ju fi by' pr : Nat → Int32} (h : ph_Plg ver nr rc ra ld em en pp pF pI pt ju fi by' pr) : ph_Plg (ver + 1) nr' rc' ra' ld em en pp pF pI pt ju fi by' pr := by
  intro p hp
  obtain ⟨h1, h2, h3⟩ := h p hp
  refine ⟨h1, h2, fun e => ?_⟩
  obtain ⟨B, L, jv, a1, a2, a3, a4, a5, a6, a7, a8, a9⟩ := h3 e
  exact ⟨B, L, jv, a1, a2, a3, a4, a5, a6, by omega, a8, fun z => by omega⟩
theorem ph_Plg_by {ver nr : Nat} {rc ra : Nat → Nat} {ld em en pp pF pI pt ju fi by' by2 pr : Nat → Int32} (h : ph_Plg ver nr rc ra ld em en pp pF pI pt ju fi by' pr) (hb : ∀ j, j < 360 → by2 j = by' j) : ph_Plg ver nr rc ra ld em en pp pF pI pt ju fi by2 pr := by
  intro p hp
  obtain ⟨h1, h2, h3⟩ := h p hp
  refine ⟨h1, h2, fun e => ?_⟩
  obtain ⟨B, L, jv, a1, a2, a3, a4, a5, a6, a7, a8, a9⟩ := h3 e
  have hL := a1.1.1
  exact ⟨B, L, jv, a1, a2, a3, a4, a5, fun j hj => by rw [hb _ (by omega)]; exact a6 j hj, a7, a8, a9⟩
theorem ph_box_c {ld plg qu bp bo : Nat → Int32} (h : ph_Box ld plg qu bp bo) (v : Int32) :
    (∃ x p, x < 4 ∧ p < 3 ∧ v = nI x ∧ plg x = nI p ∧ bo x = 1 ∧ bp x = nI p ∧ ld p = 1) ∨ ((∀ x, x < 4 → v = nI x → plg x = -1) ∧ (∀ x, x < 4 → v = nI x → bo x = 0)) := by
  by_cases c : ∃ x, x < 4 ∧ v = nI x ∧ bo x ≠ 0
  · obtain ⟨x, hx, e, hb⟩ := c
    rcases (h x hx).2 with z | ⟨p, z1, z2, z3, z4, z5⟩
    · exact absurd z.2 hb
    · exact Or.inl ⟨x, p, hx, z1, e, z2, z3, z4, z5⟩
  · refine Or.inr ⟨fun x hx e => ?_, fun x hx e => ?_⟩
    · rcases (h x hx).2 with z | ⟨p, z1, z2, z3, z4, z5⟩
      · exact z.1
      · exact absurd ⟨x, hx, e, by rw [z3]; decide⟩ c
    · rcases (h x hx).2 with z | ⟨p, z1, z2, z3, z4, z5⟩
      · exact z.2
      · exact absurd ⟨x, hx, e, by rw [z3]; decide⟩ c
theorem i_vc_place {k : Nat} {u : SX} {v : SY} (I : i_Rel k u v) (hk : k + 5 ≤ 2560) : wpX_place (fun r => wpY_place (fun r' => r' = r ∧ i_Rel (k + 5) u v) v) u := by
  refine ph_el (P := fun u v => wpX_place (fun r => wpY_place (fun r' => r' = r ∧ i_Rel (k + 5) u v) v) u) I ?_
  intro f_at f_place f_number f_imports f_functions f_waiting f_fault f_frames f_box f_pc f_status f_result f_memory a_child a_verdict a_ruleNode a_before a_nodesBefore a_bytes a_path a_pathAt a_params a_locals a_from a_size a_high a_loaded a_emitted a_entry a_pParams a_pFunctions a_pImports a_pPath a_judged a_fine a_newAt a_plugin a_quota a_statics a_slot a_back a_entries g_pos g_finding g_active b_ruleParts b_rulePath b_ruleAllows b_bytes b_length b_present b_ways b_boxPlugin b_boxOpen b_aFn b_aPos b_aHigh b_aLocal b_aEntry nr ver L rc ra nm Nr B hT hY hv hBf hPl hBx
  unfold wpX_place wpY_place
  exact And.intro rfl (ph_mk _ _ _ _ _ _ _ _ _ _ _ _ _ _ _ _ _ _ _ _ _ _ _ _ _ _ _ _ _ _ _ _ _ _ _ _ _ _ _ _ _ _ _ _ _ _ _ _ _ _ _ _ _ _ _ _ _ _ _ hT hY (by omega) hBf hPl hBx)
theorem i_vc_number {k : Nat} {u : SX} {v : SY} (I : i_Rel k u v) (hk : k + 5 ≤ 2560) : wpX_number (fun r => wpY_number (fun r' => r' = r ∧ i_Rel (k + 5) u v) v) u := by
  refine ph_el (P := fun u v => wpX_number (fun r => wpY_number (fun r' => r' = r ∧ i_Rel (k + 5) u v) v) u) I ?_
  intro f_at f_place f_number f_imports f_functions f_waiting f_fault f_frames f_box f_pc f_status f_result f_memory a_child a_verdict a_ruleNode a_before a_nodesBefore a_bytes a_path a_pathAt a_params a_locals a_from a_size a_high a_loaded a_emitted a_entry a_pParams a_pFunctions a_pImports a_pPath a_judged a_fine a_newAt a_plugin a_quota a_statics a_slot a_back a_entries g_pos g_finding g_active b_ruleParts b_rulePath b_ruleAllows b_bytes b_length b_present b_ways b_boxPlugin b_boxOpen b_aFn b_aPos b_aHigh b_aLocal b_aEntry nr ver L rc ra nm Nr B hT hY hv hBf hPl hBx
  unfold wpX_number wpY_number
  exact And.intro rfl (ph_mk _ _ _ _ _ _ _ _ _ _ _ _ _ _ _ _ _ _ _ _ _ _ _ _ _ _ _ _ _ _ _ _ _ _ _ _ _ _ _ _ _ _ _ _ _ _ _ _ _ _ _ _ _ _ _ _ _ _ _ hT hY (by omega) hBf hPl hBx)
theorem i_vc_result {k : Nat} {u : SX} {v : SY} (I : i_Rel k u v) (hk : k + 5 ≤ 2560) : wpX_result (fun r => wpY_result (fun r' => r' = r ∧ i_Rel (k + 5) u v) v) u := by
  refine ph_el (P := fun u v => wpX_result (fun r => wpY_result (fun r' => r' = r ∧ i_Rel (k + 5) u v) v) u) I ?_
  intro f_at f_place f_number f_imports f_functions f_waiting f_fault f_frames f_box f_pc f_status f_result f_memory a_child a_verdict a_ruleNode a_before a_nodesBefore a_bytes a_path a_pathAt a_params a_locals a_from a_size a_high a_loaded a_emitted a_entry a_pParams a_pFunctions a_pImports a_pPath a_judged a_fine a_newAt a_plugin a_quota a_statics a_slot a_back a_entries g_pos g_finding g_active b_ruleParts b_rulePath b_ruleAllows b_bytes b_length b_present b_ways b_boxPlugin b_boxOpen b_aFn b_aPos b_aHigh b_aLocal b_aEntry nr ver L rc ra nm Nr B hT hY hv hBf hPl hBx
  unfold wpX_result wpY_result
  exact And.intro rfl (ph_mk _ _ _ _ _ _ _ _ _ _ _ _ _ _ _ _ _ _ _ _ _ _ _ _ _ _ _ _ _ _ _ _ _ _ _ _ _ _ _ _ _ _ _ _ _ _ _ _ _ _ _ _ _ _ _ _ _ _ _ hT hY (by omega) hBf hPl hBx)
theorem i_vc_memory {k : Nat} {u : SX} {v : SY} (I : i_Rel k u v) (hk : k + 5 ≤ 2560) : wpX_memory (fun r => wpY_memory (fun r' => r' = r ∧ i_Rel (k + 5) u v) v) u := by
  refine ph_el (P := fun u v => wpX_memory (fun r => wpY_memory (fun r' => r' = r ∧ i_Rel (k + 5) u v) v) u) I ?_
  intro f_at f_place f_number f_imports f_functions f_waiting f_fault f_frames f_box f_pc f_status f_result f_memory a_child a_verdict a_ruleNode a_before a_nodesBefore a_bytes a_path a_pathAt a_params a_locals a_from a_size a_high a_loaded a_emitted a_entry a_pParams a_pFunctions a_pImports a_pPath a_judged a_fine a_newAt a_plugin a_quota a_statics a_slot a_back a_entries g_pos g_finding g_active b_ruleParts b_rulePath b_ruleAllows b_bytes b_length b_present b_ways b_boxPlugin b_boxOpen b_aFn b_aPos b_aHigh b_aLocal b_aEntry nr ver L rc ra nm Nr B hT hY hv hBf hPl hBx
  unfold wpX_memory wpY_memory
  exact And.intro rfl (ph_mk _ _ _ _ _ _ _ _ _ _ _ _ _ _ _ _ _ _ _ _ _ _ _ _ _ _ _ _ _ _ _ _ _ _ _ _ _ _ _ _ _ _ _ _ _ _ _ _ _ _ _ _ _ _ _ _ _ _ _ hT hY (by omega) hBf hPl hBx)
theorem i_vc_rule {k : Nat} {u : SX} {v : SY} (I : i_Rel k u v) (hk : k + 5 ≤ 2560) (v1 : Int32) (v2 : Int32) (v3 : Int32) (v4 : Int32) : wpX_rule (fun r u' => wpY_rule (fun r' v' => r' = r ∧ i_Rel (k + 5) u' v') v v1 v2 v3 v4) u v1 v2 v3 v4 := by
  refine ph_el (P := fun u v => wpX_rule (fun r u' => wpY_rule (fun r' v' => r' = r ∧ i_Rel (k + 5) u' v') v v1 v2 v3 v4) u v1 v2 v3 v4) I ?_
  intro f_at f_place f_number f_imports f_functions f_waiting f_fault f_frames f_box f_pc f_status f_result f_memory a_child a_verdict a_ruleNode a_before a_nodesBefore a_bytes a_path a_pathAt a_params a_locals a_from a_size a_high a_loaded a_emitted a_entry a_pParams a_pFunctions a_pImports a_pPath a_judged a_fine a_newAt a_plugin a_quota a_statics a_slot a_back a_entries g_pos g_finding g_active b_ruleParts b_rulePath b_ruleAllows b_bytes b_length b_present b_ways b_boxPlugin b_boxOpen b_aFn b_aPos b_aHigh b_aLocal b_aEntry nr ver L rc ra nm Nr B hT hY hv hBf hPl hBx
  have h12 := hT.1
  by_cases hA : nr < 12 ∧ ∃ P a b c w, ph_Acc v1 v2 v3 v4 P a b c w
  · obtain ⟨hnr, P, a, b, c, w, hA⟩ := hA
    refine ph_xrule hA hT hnr (fun nm' Nr' c' v' rn be nb hT' => ?_)
    refine ph_yrule hA hY hnr (fun pa pt al hY' => And.intro rfl ?_)
    rw [nI_1 ver]
    exact ph_mk _ _ _ _ _ _ _ _ _ _ _ _ _ _ _ _ _ _ _ _ _ _ _ _ _ _ _ _ _ _ _ _ _ _ _ _ _ _ _ _ _ _ _ _ _ _ _ _ _ _ _ _ _ _ _ _ _ _ _ hT' hY' (by omega) hBf (ph_Plg_up hPl) hBx
  · have hA' : nr = 12 ∨ ¬ ∃ P a b c w, ph_Acc v1 v2 v3 v4 P a b c w := by
      by_cases z : nr = 12
      · exact Or.inl z
      · exact Or.inr fun y => hA ⟨by omega, y⟩
    refine ph_xrule_no h12 hA' (ph_yrule_no h12 hA' (And.intro rfl ?_))
    exact ph_mk _ _ _ _ _ _ _ _ _ _ _ _ _ _ _ _ _ _ _ _ _ _ _ _ _ _ _ _ _ _ _ _ _ _ _ _ _ _ _ _ _ _ _ _ _ _ _ _ _ _ _ _ _ _ _ _ _ _ _ hT hY (by omega) hBf hPl hBx
theorem i_vc_unrule {k : Nat} {u : SX} {v : SY} (I : i_Rel k u v) (hk : k + 5 ≤ 2560) : wpX_unrule (fun r u' => wpY_unrule (fun r' v' => r' = r ∧ i_Rel (k + 5) u' v') v) u := by
  refine ph_el (P := fun u v => wpX_unrule (fun r u' => wpY_unrule (fun r' v' => r' = r ∧ i_Rel (k + 5) u' v') v) u) I ?_
  intro f_at f_place f_number f_imports f_functions f_waiting f_fault f_frames f_box f_pc f_status f_result f_memory a_child a_verdict a_ruleNode a_before a_nodesBefore a_bytes a_path a_pathAt a_params a_locals a_from a_size a_high a_loaded a_emitted a_entry a_pParams a_pFunctions a_pImports a_pPath a_judged a_fine a_newAt a_plugin a_quota a_statics a_slot a_back a_entries g_pos g_finding g_active b_ruleParts b_rulePath b_ruleAllows b_bytes b_length b_present b_ways b_boxPlugin b_boxOpen b_aFn b_aPos b_aHigh b_aLocal b_aEntry nr ver L rc ra nm Nr B hT hY hv hBf hPl hBx
  cases nr with
  | zero =>
    refine ph_xunrule_no (ph_yunrule_no (And.intro rfl ?_))
    exact ph_mk _ _ _ _ _ _ _ _ _ _ _ _ _ _ _ _ _ _ _ _ _ _ _ _ _ _ _ _ _ _ _ _ _ _ _ _ _ _ _ _ _ _ _ _ _ _ _ _ _ _ _ _ _ _ _ _ _ _ _ hT hY (by omega) hBf hPl hBx
  | succ r =>
    have h12 := hT.1
    refine ph_xunrule hT (fun c v hT' => ph_yunrule (by omega) (And.intro rfl ?_))
    rw [nI_1 ver]
    exact ph_mk _ _ _ _ _ _ _ _ _ _ _ _ _ _ _ _ _ _ _ _ _ _ _ _ _ _ _ _ _ _ _ _ _ _ _ _ _ _ _ _ _ _ _ _ _ _ _ _ _ _ _ _ _ _ _ _ _ _ _ hT' ⟨by omega, fun i hi => hY.2 i (by omega)⟩ (by omega) hBf (ph_Plg_up hPl) hBx
theorem i_vc_allows {k : Nat} {u : SX} {v : SY} (I : i_Rel k u v) (hk : k + 5 ≤ 2560) (v1 : Int32) (v2 : Int32) (v3 : Int32) : wpX_allows (fun r => wpY_allows (fun r' => r' = r ∧ i_Rel (k + 5) u v) v v1 v2 v3) u v1 v2 v3 := by
  refine ph_el (P := fun u v => wpX_allows (fun r => wpY_allows (fun r' => r' = r ∧ i_Rel (k + 5) u v) v v1 v2 v3) u v1 v2 v3) I ?_
  intro f_at f_place f_number f_imports f_functions f_waiting f_fault f_frames f_box f_pc f_status f_result f_memory a_child a_verdict a_ruleNode a_before a_nodesBefore a_bytes a_path a_pathAt a_params a_locals a_from a_size a_high a_loaded a_emitted a_entry a_pParams a_pFunctions a_pImports a_pPath a_judged a_fine a_newAt a_plugin a_quota a_statics a_slot a_back a_entries g_pos g_finding g_active b_ruleParts b_rulePath b_ruleAllows b_bytes b_length b_present b_ways b_boxPlugin b_boxOpen b_aFn b_aPos b_aHigh b_aLocal b_aEntry nr ver L rc ra nm Nr B hT hY hv hBf hPl hBx
  have M := ph_mk f_at f_place f_number f_imports f_functions f_waiting f_fault f_frames f_box f_pc f_status f_result f_memory a_child a_verdict a_ruleNode a_before a_nodesBefore a_bytes a_path a_pathAt a_params a_locals a_from a_size a_high a_loaded a_emitted a_entry a_pParams a_pFunctions a_pImports a_pPath a_judged a_fine a_newAt a_plugin a_quota a_statics a_slot a_back a_entries g_pos g_finding g_active b_ruleParts b_rulePath b_ruleAllows b_bytes b_length b_present b_ways b_boxPlugin b_boxOpen b_aFn b_aPos b_aHigh b_aLocal b_aEntry hT hY (show 5 * ver ≤ k + 5 by omega) hBf hPl hBx
  by_cases h : (v1 &&& (-8)) = 0 ∧ (v2 &&& (-8)) = 0 ∧ (v3 &&& (-8)) = 0
  · obtain ⟨a, ha, rfl⟩ := (ph_m8 _).mp h.1
    obtain ⟨b, hb, rfl⟩ := (ph_m8 _).mp h.2.1
    obtain ⟨c, hc, rfl⟩ := (ph_m8 _).mp h.2.2
    exact ph_xallows hT ha hb hc (ph_yallows hY ha hb hc (And.intro rfl M))
  · exact ph_xallows_no h (ph_yallows_no h (And.intro rfl M))
theorem i_vc_put {k : Nat} {u : SX} {v : SY} (I : i_Rel k u v) (hk : k + 5 ≤ 2560) (v1 : Int32) : wpX_put (fun r u' => wpY_put (fun r' v' => r' = r ∧ i_Rel (k + 5) u' v') v v1) u v1 := by
  refine ph_el (P := fun u v => wpX_put (fun r u' => wpY_put (fun r' v' => r' = r ∧ i_Rel (k + 5) u' v') v v1) u v1) I ?_
  intro f_at f_place f_number f_imports f_functions f_waiting f_fault f_frames f_box f_pc f_status f_result f_memory a_child a_verdict a_ruleNode a_before a_nodesBefore a_bytes a_path a_pathAt a_params a_locals a_from a_size a_high a_loaded a_emitted a_entry a_pParams a_pFunctions a_pImports a_pPath a_judged a_fine a_newAt a_plugin a_quota a_statics a_slot a_back a_entries g_pos g_finding g_active b_ruleParts b_rulePath b_ruleAllows b_bytes b_length b_present b_ways b_boxPlugin b_boxOpen b_aFn b_aPos b_aHigh b_aLocal b_aEntry nr ver L rc ra nm Nr B hT hY hv hBf hPl hBx
  obtain ⟨hL, hlen, hby⟩ := id hBf
  by_cases h : L = 120 ∨ ¬ (v1 &&& (-256)) = 0
  · refine ph_xput_no h hL (ph_yput_no h hL hlen (And.intro rfl ?_))
    exact ph_mk _ _ _ _ _ _ _ _ _ _ _ _ _ _ _ _ _ _ _ _ _ _ _ _ _ _ _ _ _ _ _ _ _ _ _ _ _ _ _ _ _ _ _ _ _ _ _ _ _ _ _ _ _ _ _ _ _ _ _ hT hY (by omega) hBf hPl hBx
  · have hL' : L < 120 := by
      rcases Nat.lt_or_ge L 120 with z | z
      · exact z
      · exact absurd (Or.inl (by omega)) h
    obtain ⟨b, hb, rfl⟩ := (ph_m256 v1).mp (Classical.byContradiction fun z => h (Or.inr z))
    refine ph_xput hL' hb (ph_yput hL' hb hlen (And.intro rfl ?_))
    refine ph_mk _ _ _ _ _ _ _ _ _ _ _ _ _ _ _ _ _ _ _ _ _ _ _ _ _ _ _ _ _ _ _ _ _ _ _ _ _ _ _ _ _ _ _ _ _ _ _ _ _ _ _ _ _ _ _ _ _ _ _ (B := ph_un B L b) hT hY (by omega) ⟨by omega, pk_us, fun j hj => ?_⟩ (ph_Plg_by hPl fun j hj => pk_un (by omega)) hBx
    obtain ⟨q1, q2, q3⟩ := hby j hj
    by_cases c : j = L
    · subst c
      rw [pk_us, pk_us, ph_un_s]
      exact ⟨rfl, hb, rfl⟩
    · rw [pk_un c, pk_un (by omega), ph_un_n c]
      exact ⟨q1, q2, q3⟩
theorem i_vc_wipe {k : Nat} {u : SX} {v : SY} (I : i_Rel k u v) (hk : k + 5 ≤ 2560) : wpX_wipe (fun r u' => wpY_wipe (fun r' v' => r' = r ∧ i_Rel (k + 5) u' v') v) u := by
  refine ph_el (P := fun u v => wpX_wipe (fun r u' => wpY_wipe (fun r' v' => r' = r ∧ i_Rel (k + 5) u' v') v) u) I ?_
  intro f_at f_place f_number f_imports f_functions f_waiting f_fault f_frames f_box f_pc f_status f_result f_memory a_child a_verdict a_ruleNode a_before a_nodesBefore a_bytes a_path a_pathAt a_params a_locals a_from a_size a_high a_loaded a_emitted a_entry a_pParams a_pFunctions a_pImports a_pPath a_judged a_fine a_newAt a_plugin a_quota a_statics a_slot a_back a_entries g_pos g_finding g_active b_ruleParts b_rulePath b_ruleAllows b_bytes b_length b_present b_ways b_boxPlugin b_boxOpen b_aFn b_aPos b_aHigh b_aLocal b_aEntry nr ver L rc ra nm Nr B hT hY hv hBf hPl hBx
  obtain ⟨hL, hlen, hby⟩ := id hBf
  unfold wpX_wipe wpY_wipe
  refine nm_r hlen (nm_e (And.intro rfl ?_))
  exact ph_mk _ _ _ _ _ _ _ _ _ _ _ _ _ _ _ _ _ _ _ _ _ _ _ _ _ _ _ _ _ _ _ _ _ _ _ _ _ _ _ _ _ _ _ _ _ _ _ _ _ _ _ _ _ _ _ _ _ _ _ (L := 0) hT hY (by omega) ⟨by omega, pk_us, hby⟩ hPl hBx
theorem i_vc_close {k : Nat} {u : SX} {v : SY} (I : i_Rel k u v) (hk : k + 5 ≤ 2560) (v1 : Int32) : wpX_close (fun r u' => wpY_close (fun r' v' => r' = r ∧ i_Rel (k + 5) u' v') v v1) u v1 := by
  refine ph_el (P := fun u v => wpX_close (fun r u' => wpY_close (fun r' v' => r' = r ∧ i_Rel (k + 5) u' v') v v1) u v1) I ?_
  intro f_at f_place f_number f_imports f_functions f_waiting f_fault f_frames f_box f_pc f_status f_result f_memory a_child a_verdict a_ruleNode a_before a_nodesBefore a_bytes a_path a_pathAt a_params a_locals a_from a_size a_high a_loaded a_emitted a_entry a_pParams a_pFunctions a_pImports a_pPath a_judged a_fine a_newAt a_plugin a_quota a_statics a_slot a_back a_entries g_pos g_finding g_active b_ruleParts b_rulePath b_ruleAllows b_bytes b_length b_present b_ways b_boxPlugin b_boxOpen b_aFn b_aPos b_aHigh b_aLocal b_aEntry nr ver L rc ra nm Nr B hT hY hv hBf hPl hBx
  rcases ph_box_c hBx v1 with ⟨x, p, hx, hp, rfl, e1, e2, e3, e4⟩ | ⟨e1, e2⟩
  · refine ph_xclose hx e1 hp (ph_yclose hx e2 (And.intro rfl ?_))
    refine ph_mk _ _ _ _ _ _ _ _ _ _ _ _ _ _ _ _ _ _ _ _ _ _ _ _ _ _ _ _ _ _ _ _ _ _ _ _ _ _ _ _ _ _ _ _ _ _ _ _ _ _ _ _ _ _ _ _ _ _ _ hT hY (by omega) hBf hPl (fun y hy => ?_)
    obtain ⟨q1, q2⟩ := hBx y hy
    refine ⟨q1, ?_⟩
    by_cases c : y = x
    · subst c; exact Or.inl ⟨pk_us, pk_us⟩
    · rw [pk_un c, pk_un c]; exact q2
  · refine ph_xclose_no e1 (ph_yclose_no e2 (And.intro rfl ?_))
    exact ph_mk _ _ _ _ _ _ _ _ _ _ _ _ _ _ _ _ _ _ _ _ _ _ _ _ _ _ _ _ _ _ _ _ _ _ _ _ _ _ _ _ _ _ _ _ _ _ _ _ _ _ _ _ _ _ _ _ _ _ _ hT hY (by omega) hBf hPl hBx
theorem i_vc_left {k : Nat} {u : SX} {v : SY} (I : i_Rel k u v) (hk : k + 5 ≤ 2560) (v1 : Int32) : wpX_left (fun r => wpY_left (fun r' => r' = r ∧ i_Rel (k + 5) u v) v v1) u v1 := by
  refine ph_el (P := fun u v => wpX_left (fun r => wpY_left (fun r' => r' = r ∧ i_Rel (k + 5) u v) v v1) u v1) I ?_
  intro f_at f_place f_number f_imports f_functions f_waiting f_fault f_frames f_box f_pc f_status f_result f_memory a_child a_verdict a_ruleNode a_before a_nodesBefore a_bytes a_path a_pathAt a_params a_locals a_from a_size a_high a_loaded a_emitted a_entry a_pParams a_pFunctions a_pImports a_pPath a_judged a_fine a_newAt a_plugin a_quota a_statics a_slot a_back a_entries g_pos g_finding g_active b_ruleParts b_rulePath b_ruleAllows b_bytes b_length b_present b_ways b_boxPlugin b_boxOpen b_aFn b_aPos b_aHigh b_aLocal b_aEntry nr ver L rc ra nm Nr B hT hY hv hBf hPl hBx
  have M := ph_mk f_at f_place f_number f_imports f_functions f_waiting f_fault f_frames f_box f_pc f_status f_result f_memory a_child a_verdict a_ruleNode a_before a_nodesBefore a_bytes a_path a_pathAt a_params a_locals a_from a_size a_high a_loaded a_emitted a_entry a_pParams a_pFunctions a_pImports a_pPath a_judged a_fine a_newAt a_plugin a_quota a_statics a_slot a_back a_entries g_pos g_finding g_active b_ruleParts b_rulePath b_ruleAllows b_bytes b_length b_present b_ways b_boxPlugin b_boxOpen b_aFn b_aPos b_aHigh b_aLocal b_aEntry hT hY (show 5 * ver ≤ k + 5 by omega) hBf hPl hBx
  rcases ph_box_c hBx v1 with ⟨x, p, hx, hp, rfl, e1, e2, e3, e4⟩ | ⟨e1, e2⟩
  · exact ph_xleft hx e1 hp (ph_yleft hx e2 (And.intro rfl M))
  · exact ph_xleft_no e1 (ph_yleft_no e2 (And.intro rfl M))
theorem i_vc_peek {k : Nat} {u : SX} {v : SY} (I : i_Rel k u v) (hk : k + 5 ≤ 2560) (v1 : Int32) (v2 : Int32) : wpX_peek (fun r => wpY_peek (fun r' => r' = r ∧ i_Rel (k + 5) u v) v v1 v2) u v1 v2 := by
  refine ph_el (P := fun u v => wpX_peek (fun r => wpY_peek (fun r' => r' = r ∧ i_Rel (k + 5) u v) v v1 v2) u v1 v2) I ?_
  intro f_at f_place f_number f_imports f_functions f_waiting f_fault f_frames f_box f_pc f_status f_result f_memory a_child a_verdict a_ruleNode a_before a_nodesBefore a_bytes a_path a_pathAt a_params a_locals a_from a_size a_high a_loaded a_emitted a_entry a_pParams a_pFunctions a_pImports a_pPath a_judged a_fine a_newAt a_plugin a_quota a_statics a_slot a_back a_entries g_pos g_finding g_active b_ruleParts b_rulePath b_ruleAllows b_bytes b_length b_present b_ways b_boxPlugin b_boxOpen b_aFn b_aPos b_aHigh b_aLocal b_aEntry nr ver L rc ra nm Nr B hT hY hv hBf hPl hBx
  have M := ph_mk f_at f_place f_number f_imports f_functions f_waiting f_fault f_frames f_box f_pc f_status f_result f_memory a_child a_verdict a_ruleNode a_before a_nodesBefore a_bytes a_path a_pathAt a_params a_locals a_from a_size a_high a_loaded a_emitted a_entry a_pParams a_pFunctions a_pImports a_pPath a_judged a_fine a_newAt a_plugin a_quota a_statics a_slot a_back a_entries g_pos g_finding g_active b_ruleParts b_rulePath b_ruleAllows b_bytes b_length b_present b_ways b_boxPlugin b_boxOpen b_aFn b_aPos b_aHigh b_aLocal b_aEntry hT hY (show 5 * ver ≤ k + 5 by omega) hBf hPl hBx
  rcases ph_box_c hBx v1 with ⟨x, p, hx, hp, rfl, e1, e2, e3, e4⟩ | ⟨e1, e2⟩
  · by_cases c : ∃ s, s < 4 ∧ v2 = nI s
    · obtain ⟨s, hs, rfl⟩ := c
      exact ph_xpeek hx e1 hp hs (ph_ypeek hx e2 hs (And.intro rfl M))
    · refine ph_xpeek_no (Or.inr ⟨fun z => ?_, ⟨x, p, hx, hp, rfl, e1⟩, c⟩) (ph_ypeek_no (Or.inr ⟨⟨x, hx, rfl, e2⟩, c⟩) (And.intro rfl M))
      have := z x hx rfl
      rw [e1] at this
      exact ph_nIm1 (by omega) this
  · exact ph_xpeek_no (Or.inl e1) (ph_ypeek_no (Or.inl e2) (And.intro rfl M))
theorem i_vc_unload {k : Nat} {u : SX} {v : SY} (I : i_Rel k u v) (hk : k + 5 ≤ 2560) (v1 : Int32) : wpX_unload (fun r u' => wpY_unload (fun r' v' => r' = r ∧ i_Rel (k + 5) u' v') v v1) u v1 := by
  refine ph_el (P := fun u v => wpX_unload (fun r u' => wpY_unload (fun r' v' => r' = r ∧ i_Rel (k + 5) u' v') v v1) u v1) I ?_
  intro f_at f_place f_number f_imports f_functions f_waiting f_fault f_frames f_box f_pc f_status f_result f_memory a_child a_verdict a_ruleNode a_before a_nodesBefore a_bytes a_path a_pathAt a_params a_locals a_from a_size a_high a_loaded a_emitted a_entry a_pParams a_pFunctions a_pImports a_pPath a_judged a_fine a_newAt a_plugin a_quota a_statics a_slot a_back a_entries g_pos g_finding g_active b_ruleParts b_rulePath b_ruleAllows b_bytes b_length b_present b_ways b_boxPlugin b_boxOpen b_aFn b_aPos b_aHigh b_aLocal b_aEntry nr ver L rc ra nm Nr B hT hY hv hBf hPl hBx
  have hpr : ∀ p, p < 3 → b_present p = a_loaded p := fun p hp => (hPl p hp).2.1
  by_cases h : ph_uNo a_loaded v1
  · refine ph_xunload_no h (ph_yunload_no ?_ (And.intro rfl ?_))
    · rcases h with z | z | ⟨p, z1, z2, z3⟩
      · exact Or.inl z
      · exact Or.inr (Or.inl z)
      · exact Or.inr (Or.inr ⟨p, z1, z2, by rw [hpr p z1]; exact z3⟩)
    · exact ph_mk _ _ _ _ _ _ _ _ _ _ _ _ _ _ _ _ _ _ _ _ _ _ _ _ _ _ _ _ _ _ _ _ _ _ _ _ _ _ _ _ _ _ _ _ _ _ _ _ _ _ _ _ _ _ _ _ _ _ _ hT hY (by omega) hBf hPl hBx
  · have h0 : ¬ v1 < 0 := fun z => h (Or.inl z)
    have h2 : ¬ 2 < v1 := fun z => h (Or.inr (Or.inl z))
    obtain ⟨p, hp, rfl⟩ := nI_of2 (M := 2) (n := 2) (by decide) h0 (Int32.not_lt.mp h2)
    have hl : ¬ a_loaded p = 0 := fun z => h (Or.inr (Or.inr ⟨p, by omega, rfl, z⟩))
    have key : ∀ x, x < 4 → (a_plugin x = nI p ↔ (¬ b_boxOpen x = 0 ∧ b_boxPlugin x = nI p)) := by
      intro x hx
      rcases (hBx x hx).2 with ⟨z1, z2⟩ | ⟨p', z1, z2, z3, z4, z5⟩
      · constructor
        · intro y; rw [z1] at y; exact absurd y.symm (ph_nIm1 (by omega))
        · rintro ⟨y, -⟩; exact absurd z2 y
      · constructor
        · intro y
          rw [z2] at y
          exact ⟨by rw [z3]; decide, by rw [z4]; exact y⟩
        · rintro ⟨-, y⟩
          rw [z4] at y
          rw [z2]; exact y
    refine ph_xunload (by omega) hl (fun z => ?_) (fun z => ?_)
    · refine ph_yunload (by omega) (by rw [hpr p (by omega)]; exact hl) (fun y => And.intro rfl ?_) (fun y => ?_)
      · refine ph_mk _ _ _ _ _ _ _ _ _ _ _ _ _ _ _ _ _ _ _ _ _ _ _ _ _ _ _ _ _ _ _ _ _ _ _ _ _ _ _ _ _ _ _ _ _ _ _ _ _ _ _ _ _ _ _ _ _ _ _ hT hY (by omega) hBf (fun p' hp' => ?_) (fun x hx => ?_)
        · obtain ⟨q1, q2, q3⟩ := hPl p' hp'
          by_cases c : p' = p
          · subst c
            rw [pk_us, pk_us]
            exact ⟨Or.inl rfl, rfl, fun e => absurd e (by decide)⟩
          · rw [pk_un c, pk_un c]
            exact ⟨q1, q2, q3⟩
        · obtain ⟨q1, q2⟩ := hBx x hx
          refine ⟨q1, ?_⟩
          rcases q2 with q2 | ⟨p', z1, z2, z3, z4, z5⟩
          · exact Or.inl q2
          · refine Or.inr ⟨p', z1, z2, z3, z4, ?_⟩
            rw [pk_un]
            · exact z5
            · intro e
              subst e
              exact z x hx z2
      · obtain ⟨x, hx, w⟩ := y
        exact absurd ((key x hx).mpr w) (z x hx)
    · refine ph_yunload (by omega) (by rw [hpr p (by omega)]; exact hl) (fun y => ?_) (fun y => And.intro rfl ?_)
      · obtain ⟨x, hx, w⟩ := z
        exact absurd ((key x hx).mp w) (y x hx)
      · exact ph_mk _ _ _ _ _ _ _ _ _ _ _ _ _ _ _ _ _ _ _ _ _ _ _ _ _ _ _ _ _ _ _ _ _ _ _ _ _ _ _ _ _ _ _ _ _ _ _ _ _ _ _ _ _ _ _ _ _ _ _ hT hY (by omega) hBf hPl hBx
theorem i_vc_open {k : Nat} {u : SX} {v : SY} (I : i_Rel k u v) (hk : k + 5 ≤ 2560) (v1 : Int32) (v2 : Int32) : wpX_open (fun r u' => wpY_open (fun r' v' => r' = r ∧ i_Rel (k + 5) u' v') v v1 v2) u v1 v2 := by
  refine ph_el (P := fun u v => wpX_open (fun r u' => wpY_open (fun r' v' => r' = r ∧ i_Rel (k + 5) u' v') v v1 v2) u v1 v2) I ?_
  intro f_at f_place f_number f_imports f_functions f_waiting f_fault f_frames f_box f_pc f_status f_result f_memory a_child a_verdict a_ruleNode a_before a_nodesBefore a_bytes a_path a_pathAt a_params a_locals a_from a_size a_high a_loaded a_emitted a_entry a_pParams a_pFunctions a_pImports a_pPath a_judged a_fine a_newAt a_plugin a_quota a_statics a_slot a_back a_entries g_pos g_finding g_active b_ruleParts b_rulePath b_ruleAllows b_bytes b_length b_present b_ways b_boxPlugin b_boxOpen b_aFn b_aPos b_aHigh b_aLocal b_aEntry nr ver L rc ra nm Nr B hT hY hv hBf hPl hBx
  have hpr : ∀ p, p < 3 → b_present p = a_loaded p := fun p hp => (hPl p hp).2.1
  by_cases h : ph_oNo a_loaded v1 v2
  · refine ph_xopen_no h (ph_yopen_no ?_ (And.intro rfl ?_))
    · rcases h with z | z | ⟨p, z1, z2, z3⟩ | z | z
      · exact Or.inl z
      · exact Or.inr (Or.inl z)
      · exact Or.inr (Or.inr (Or.inl ⟨p, z1, z2, by rw [hpr p z1]; exact z3⟩))
      · exact Or.inr (Or.inr (Or.inr (Or.inl z)))
      · exact Or.inr (Or.inr (Or.inr (Or.inr z)))
    · exact ph_mk _ _ _ _ _ _ _ _ _ _ _ _ _ _ _ _ _ _ _ _ _ _ _ _ _ _ _ _ _ _ _ _ _ _ _ _ _ _ _ _ _ _ _ _ _ _ _ _ _ _ _ _ _ _ _ _ _ _ _ hT hY (by omega) hBf hPl hBx
  · have h0 : ¬ v1 < 0 := fun z => h (Or.inl z)
    have h2 : ¬ 2 < v1 := fun z => h (Or.inr (Or.inl z))
    have h3 : ¬ v2 < 0 := fun z => h (Or.inr (Or.inr (Or.inr (Or.inl z))))
    have h4 : v2 ≤ 2000 := Classical.byContradiction fun z => h (Or.inr (Or.inr (Or.inr (Or.inr z))))
    obtain ⟨p, hp, rfl⟩ := nI_of2 (M := 2) (n := 2) (by decide) h0 (Int32.not_lt.mp h2)
    obtain ⟨q, hq, rfl⟩ := nI_of2 (M := 2000) (n := 2000) (by decide) h3 h4
    have hl : ¬ a_loaded p = 0 := fun z => h (Or.inr (Or.inr (Or.inl ⟨p, by omega, rfl, z⟩)))
    have hl1 : a_loaded p = 1 := by
      rcases (hPl p (by omega)).1 with z | z
      · exact absurd z hl
      · exact z
    have key : ∀ x, x < 4 → (a_plugin x < 0 ↔ b_boxOpen x = 0) := by
      intro x hx
      rcases (hBx x hx).2 with ⟨z1, z2⟩ | ⟨p', z1, z2, z3, z4, z5⟩
      · rw [z1, z2]; exact ⟨fun _ => rfl, fun _ => by decide⟩
      · rw [z2, z3]; exact ⟨fun y => absurd y (nI_pos (by omega)), fun y => absurd y (by decide)⟩
    by_cases hfree : ∃ x, x < 4 ∧ b_boxOpen x = 0
    · obtain ⟨x, ⟨hx, hx0⟩, hmin⟩ := pk_least (fun x => x < 4 ∧ b_boxOpen x = 0) hfree
      have hb : ∀ y, y < x → ¬ b_boxOpen y = 0 := fun y hy z => hmin y hy ⟨by omega, z⟩
      refine ph_xopen_go (by omega) hl hq ⟨x + 1, ph_xo33 hx ((key x hx).mpr hx0) (fun y hy z => hb y hy ((key y (by omega)).mp z)) (ph_xo53 hx (by omega) ?_) x 0 (by omega)⟩
      refine ph_yopen_go (by omega) (by rw [hpr p (by omega)]; exact hl) hq ⟨x + 1, ph_yo33 hx hx0 hb (ph_yo53 hx (And.intro rfl ?_)) x 0 (by omega)⟩
      refine ph_mk _ _ _ _ _ _ _ _ _ _ _ _ _ _ _ _ _ _ _ _ _ _ _ _ _ _ _ _ _ _ _ _ _ _ _ _ _ _ _ _ _ _ _ _ _ _ _ _ _ _ _ _ _ _ _ _ _ _ _ hT hY (by omega) hBf hPl (fun y hy => ?_)
      obtain ⟨q1, q2⟩ := hBx y hy
      by_cases c : y = x
      · subst c
        rw [pk_us, pk_us, pk_us, pk_us]
        exact ⟨⟨q, hq, rfl⟩, Or.inr ⟨p, by omega, rfl, rfl, rfl, hl1⟩⟩
      · rw [pk_un c, pk_un c, pk_un c, pk_un c]
        exact ⟨q1, q2⟩
    · have hb : ∀ y, y < 4 → ¬ b_boxOpen y = 0 := fun y hy z => hfree ⟨y, hy, z⟩
      refine ph_xopen_go (by omega) hl hq ⟨5, ph_xo33f (fun y hy z => hb y hy ((key y hy).mp z)) ?_ 4 0 (by omega)⟩
      refine ph_yopen_go (by omega) (by rw [hpr p (by omega)]; exact hl) hq ⟨5, ph_yo33f hb (And.intro rfl ?_) 4 0 (by omega)⟩
      exact ph_mk _ _ _ _ _ _ _ _ _ _ _ _ _ _ _ _ _ _ _ _ _ _ _ _ _ _ _ _ _ _ _ _ _ _ _ _ _ _ _ _ _ _ _ _ _ _ _ _ _ _ _ _ _ _ _ _ _ _ _ hT hY (by omega) hBf hPl hBx
end
section
/-! ===== the constructors, submit and call (printed by gen32.py) ===== -/
theorem ph_fp_c {l r : Nat → Int32} (h : ∀ p, p < 3 → l p = r p) : ph_fp l = ph_fp r := by
  unfold ph_fp
  rw [h 0 (by omega), h 1 (by omega), h 2 (by omega)]
theorem ph_l2_eq {s lo : Nat → Int32} {np k : Nat} {a b : Int32} (hnp : np ≤ 2) (hk : k < 5) :
    upd (upd (ph_zr s 0 5) 0 (if 0 < np then a else 0)) 1 (if 1 < np then b else 0) k = ph_l2 lo np a b k := by
  have z : ∀ f : Nat → Int32, ph_zr f 0 5 k = 0 := fun f => by unfold ph_zr; rw [if_pos (by omega)]
  unfold ph_l2
  rcases (by omega : np = 0 ∨ np = 1 ∨ np = 2) with e | e | e
  · subst e
    rw [if_neg (by omega), if_neg (by omega), if_neg (by omega), if_neg (by omega), z]
    by_cases c1 : k = 1
    · subst c1; exact pk_us
    · rw [pk_un c1]
      by_cases c0 : k = 0
      · subst c0; exact pk_us
      · rw [pk_un c0, z]
  · subst e
    rw [if_pos (by omega), if_neg (by omega), if_neg (by omega), if_pos (by omega)]
    by_cases c1 : k = 1
    · subst c1; rw [pk_us, pk_un (by omega), z]
    · rw [pk_un c1]
      by_cases c0 : k = 0
      · subst c0; rw [pk_us, pk_us]
      · rw [pk_un c0, pk_un c0, z, z]
  · subst e
    rw [if_pos (by omega), if_pos (by omega), if_pos (by omega)]
    by_cases c1 : k = 1
    · subst c1; rw [pk_us, pk_us]
    · rw [pk_un c1, pk_un c1]
      by_cases c0 : k = 0
      · subst c0; rw [pk_us, pk_us]
      · rw [pk_un c0, pk_un c0, z, z]
theorem ph_TR_0 : ph_TR 0 (fun _ => 0) (fun _ => 0) (fun _ => 1) (fun _ => 1) (fun _ => 0) (fun _ => 0) (fun _ => 0) (fun _ => 0) (fun _ => 0) := by
  refine ⟨by omega, fun r hr => by omega, rfl, fun r hr => by omega, ⟨rfl, Nat.le_refl 1, fun m n (hm : m < 1) (hn : n < 1) _ => by omega, fun n h0 (hn : n < 1) => by omega, fun n a hn ha => Or.inl ⟨rfl, fun m hm => ?_⟩, fun k _ _ => rfl⟩, fun n hn => rfl, fun r hr => by omega⟩
  show 1 ≠ 8 * 1 + a
  omega
section
variable {f_nodes f_rules f_version f_count f_at f_place f_number f_imports f_functions f_fault f_frames f_box f_pc f_status f_result : Int32} {f_waiting f_memory : Int64} {a_child a_verdict a_ruleNode a_before a_nodesBefore a_bytes a_path a_pathAt a_params a_locals a_from a_size a_high a_loaded a_emitted a_entry a_pParams a_pFunctions a_pImports a_pPath a_judged a_fine a_newAt a_plugin a_quota a_statics a_slot a_back a_entries : Nat → Int32}
theorem ph_init {post : SX → Prop} (K : ∀ pl, (∀ x, x < 4 → pl x = -1) → post (f_nodes, f_rules, f_version, f_count, f_at, f_place, f_number, f_imports, f_functions, f_waiting, f_fault, f_frames, f_box, f_pc, f_status, f_result, f_memory, a_child, a_verdict, a_ruleNode, a_before, a_nodesBefore, a_bytes, a_path, a_pathAt, a_params, a_locals, a_from, a_size, a_high, a_loaded, a_emitted, a_entry, a_pParams, a_pFunctions, a_pImports, a_pPath, a_judged, a_fine, a_newAt, pl, a_quota, a_statics, a_slot, a_back, a_entries)) : ∀ d x pl, x + d = 4 → (∀ y, y < x → pl y = -1) → wX_init_242 post f_nodes f_rules f_version f_count f_at f_place f_number f_imports f_functions f_waiting f_fault f_frames f_box f_pc f_status f_result f_memory (d + 1) (nI x) a_child a_verdict a_ruleNode a_before a_nodesBefore a_bytes a_path a_pathAt a_params a_locals a_from a_size a_high a_loaded a_emitted a_entry a_pParams a_pFunctions a_pImports a_pPath a_judged a_fine a_newAt pl a_quota a_statics a_slot a_back a_entries := by
  intro d
  induction d with
  | zero =>
    intro x pl hx q
    have e : x = 4 := by omega
    subst e
    rw [wX_init_242]
    exact br_t (nI_le (a := 4) (b := 4) (by omega) (by omega)) (K pl q)
  | succ d ih =>
    intro x pl hx q
    rw [wX_init_242]
    dsimp only
    rw [nI_clamp (by omega), ph_m1b]
    refine br_f (nI_ge (a := x) (b := 4) (by omega) (by omega)) ⟨vp_in_nI (by omega) (by omega), nm_e (nm_r (nI_1 x) (ih (x + 1) _ (by omega) fun y hy => ?_))⟩
    by_cases c : y = x
    · subst c; exact pk_us
    · rw [pk_un c]; exact q y (by omega)
end
theorem i_vc0 : wpX_init (fun u => wpY_init (fun v => i_Rel 0 u v)) := by
  unfold wpX_init
  refine ⟨5, ph_init (fun pl hpl => ?_) 4 0 _ (by omega) (fun y hy => by omega)⟩
  unfold wpY_init
  refine ph_mk (nr := 0) (ver := 0) (L := 0) (rc := fun _ => 0) (ra := fun _ => 0) (nm := fun _ => 1) (Nr := fun _ => 1) (B := fun _ => 0) _ _ _ _ _ _ _ _ _ _ _ _ _ _ _ _ _ _ _ _ _ _ _ _ _ _ _ _ _ _ _ _ _ _ _ _ _ _ _ _ _ _ _ _ _ _ _ _ _ _ _ _ _ _ _ _ _ _ _ ph_TR_0 ⟨by omega, fun i hi => by omega⟩ (by omega) ⟨by omega, rfl, fun j hj => ⟨rfl, show (0 : Nat) < 256 by omega, rfl⟩⟩ (fun p hp => ⟨Or.inl rfl, rfl, fun e => absurd e (by decide)⟩) (fun x hx => ⟨⟨0, by omega, rfl⟩, Or.inl ⟨hpl x hx, rfl⟩⟩)
theorem i_vc_submit {k : Nat} {u : SX} {v : SY} (I : i_Rel k u v) (hk : k + 5 ≤ 2560) : wpX_submit (fun r u' => wpY_submit (fun r' v' => r' = r ∧ i_Rel (k + 5) u' v') v) u := by
  refine ph_el (P := fun u v => wpX_submit (fun r u' => wpY_submit (fun r' v' => r' = r ∧ i_Rel (k + 5) u' v') v) u) I ?_
  intro f_at f_place f_number f_imports f_functions f_waiting f_fault f_frames f_box f_pc f_status f_result f_memory a_child a_verdict a_ruleNode a_before a_nodesBefore a_bytes a_path a_pathAt a_params a_locals a_from a_size a_high a_loaded a_emitted a_entry a_pParams a_pFunctions a_pImports a_pPath a_judged a_fine a_newAt a_plugin a_quota a_statics a_slot a_back a_entries g_pos g_finding g_active b_ruleParts b_rulePath b_ruleAllows b_bytes b_length b_present b_ways b_boxPlugin b_boxOpen b_aFn b_aPos b_aHigh b_aLocal b_aEntry nr ver L rc ra nm Nr B hT hY hv hBf hPl hBx
  obtain ⟨hL, hlen, hby⟩ := id hBf
  have hBX : ph_BX B a_bytes := fun j hj => ⟨(hby j hj).1, (hby j hj).2.1⟩
  have hBY : ph_BY B L 3 b_bytes := fun j hj => ⟨(hby j (by omega)).2.2, (hby j (by omega)).2.1⟩
  have hfp : ph_fp b_present = ph_fp a_loaded := ph_fp_c fun p hp => (hPl p hp).2.1
  refine ph_xsubmit hL hBX hT (fun p hp => (hPl p hp).1) (fun c pl at' im fu W fa pt pta pa lo fr sz hi e hc => ?_) (fun at' im fu W fa pt pta pa lo fr sz hi e hf => ?_) (fun p at' im fu W fa pt pta pa lo fr sz hi em na en pp pp2 hp e hf hO hal r1 r2 r3 r4 r5 => ?_)
  · refine ph_ysubmit hL hlen hBY hY (fun c' pl' po w e' hc' => ?_) (fun po w e' _ => ?_) (fun p' po w by' hp' e' _ _ _ => ?_)
    · rw [e] at e'
      cases e'
      refine And.intro rfl ?_
      exact ph_mk _ _ _ _ _ _ _ _ _ _ _ _ _ _ _ _ _ _ _ _ _ _ _ _ _ _ _ _ _ _ _ _ _ _ _ _ _ _ _ _ _ _ _ _ _ _ _ _ _ _ _ _ _ _ _ _ _ _ _ hT hY (by omega) hBf hPl hBx
    · rw [e] at e'; cases e'; exact absurd rfl hc
    · rw [e] at e'; cases e'; exact absurd rfl hc
  · refine ph_ysubmit hL hlen hBY hY (fun c' pl' po w e' hc' => ?_) (fun po w e' _ => And.intro rfl ?_) (fun p' po w by' hp' e' hf' _ _ => ?_)
    · rw [e] at e'; cases e'; exact absurd rfl hc'
    · exact ph_mk _ _ _ _ _ _ _ _ _ _ _ _ _ _ _ _ _ _ _ _ _ _ _ _ _ _ _ _ _ _ _ _ _ _ _ _ _ _ _ _ _ _ _ _ _ _ _ _ _ _ _ _ _ _ _ _ _ _ _ hT hY (by omega) hBf hPl hBx
    · rw [hfp, hf] at hf'; omega
  · refine ph_ysubmit hL hlen hBY hY (fun c' pl' po w e' hc' => ?_) (fun po w e' hf' => ?_) (fun p' po w by' hp' e' hf' s1 s2 => ?_)
    · rw [e] at e'; cases e'; exact absurd rfl hc'
    · rw [hfp, hf] at hf'; omega
    · have ep : p' = p := by rw [hfp, hf] at hf'; omega
      subst ep
      refine And.intro rfl ?_
      have hn4 := hO.1.2.2.2.2.1
      refine ph_mk _ _ _ _ _ _ _ _ _ _ _ _ _ _ _ _ _ _ _ _ _ _ _ _ _ _ _ _ _ _ _ _ _ _ _ _ _ _ _ _ _ _ _ _ _ _ _ _ _ _ _ _ _ _ _ _ _ _ _ (L := 0) (B := B) hT hY (by omega) ⟨by omega, pk_us, fun j hj => ⟨(hby j hj).1, (hby j hj).2.1, by rw [s2 _ (by omega)]; exact (hby j hj).2.2⟩⟩ (fun q hq => ?_) (fun x hx => ?_)
      · obtain ⟨q1, q2, q3⟩ := hPl q hq
        by_cases c : q = p'
        · subst c
          rw [pk_us, pk_us]
          refine ⟨Or.inr rfl, rfl, fun _ => ⟨B, L, ver, hO, r1, pk_us, pk_us, r4, fun j hj => ⟨s1 j hj, (hby j (by omega)).2.1⟩, Nat.le_refl _, pk_us, fun _ => ?_⟩⟩
          rw [pk_us]
          unfold ph_per
          rw [ph_b_t hal]
          rfl
        · rw [pk_un c, pk_un c]
          refine ⟨q1, q2, fun z => ?_⟩
          obtain ⟨B2, L2, jv, a1, a2, a3, a4, a5, a6, a7, a8, a9⟩ := q3 z
          have hL2 := a1.1.1
          have hn42 := a1.1.2.2.2.2.1
          have h142 := a1.1.2.1
          refine ⟨B2, L2, jv, a1, fun g hg => ph_PF_keep (fun k hk1 hk2 => r2 k (by omega)) (r3 _ (by omega)).1 (r3 _ (by omega)).2 (Nat.le_refl _) (a2 g hg), by rw [pk_un c]; exact a3, by rw [pk_un c]; exact a4, fun i hi => by rw [r5 _ (by omega)]; exact a5 i hi, fun j hj => by rw [s2 _ (by omega)]; exact a6 j hj, a7, by rw [pk_un c]; exact a8, fun y => by rw [pk_un c]; exact a9 y⟩
      · obtain ⟨q1, q2⟩ := hBx x hx
        refine ⟨q1, ?_⟩
        rcases q2 with q2 | ⟨q, z1, z2, z3, z4, z5⟩
        · exact Or.inl q2
        · refine Or.inr ⟨q, z1, z2, z3, z4, ?_⟩
          by_cases c : q = p'
          · subst c; exact pk_us
          · rw [pk_un c]; exact z5
theorem i_vc_call {k : Nat} {u : SX} {v : SY} (I : i_Rel k u v) (hk : k + 5 ≤ 2560) (v1 : Int32) (v2 : Int32) (v3 : Int32) (v4 : Int32) : wpX_call (fun r u' => wpY_call (fun r' v' => r' = r ∧ i_Rel (k + 5) u' v') v v1 v2 v3 v4) u v1 v2 v3 v4 := by
  refine ph_el (P := fun u v => wpX_call (fun r u' => wpY_call (fun r' v' => r' = r ∧ i_Rel (k + 5) u' v') v v1 v2 v3 v4) u v1 v2 v3 v4) I ?_
  intro f_at f_place f_number f_imports f_functions f_waiting f_fault f_frames f_box f_pc f_status f_result f_memory a_child a_verdict a_ruleNode a_before a_nodesBefore a_bytes a_path a_pathAt a_params a_locals a_from a_size a_high a_loaded a_emitted a_entry a_pParams a_pFunctions a_pImports a_pPath a_judged a_fine a_newAt a_plugin a_quota a_statics a_slot a_back a_entries g_pos g_finding g_active b_ruleParts b_rulePath b_ruleAllows b_bytes b_length b_present b_ways b_boxPlugin b_boxOpen b_aFn b_aPos b_aHigh b_aLocal b_aEntry nr ver L rc ra nm Nr B hT hY hv hBf hPl hBx
  have hver : ver < 2000 := by omega
  rcases ph_box_c hBx v1 with ⟨x, p, hx, hp, rfl, e1, e2, e3, e4⟩ | ⟨e1, e2⟩
  rotate_left
  · refine ph_xcall_no e1 (ph_ycall_no e2 (And.intro rfl ?_))
    exact ph_mk _ _ _ _ _ _ _ _ _ _ _ _ _ _ _ _ _ _ _ _ _ _ _ _ _ _ _ _ _ _ _ _ _ _ _ _ _ _ _ _ _ _ _ _ _ _ _ _ _ _ _ _ _ _ _ _ _ _ _ hT hY (by omega) hBf hPl hBx
  obtain ⟨Bp, Lp, jv, a1, a2, a3, a4, a5, a6, a7, a8, a9⟩ := (hPl p hp).2.2 e4
  have hW := a1.1
  have hn4 := hW.2.2.2.2.1
  by_cases hF : ¬ v2 < 0 ∧ v2 < nI (ph_nf Bp)
  rotate_left
  · refine ph_xcall_f hx e1 hp a3 hF (ph_ycall_f hx e2 e3 hp a6 hW hF (And.intro rfl ?_))
    exact ph_mk _ _ _ _ _ _ _ _ _ _ _ _ _ _ _ _ _ _ _ _ _ _ _ _ _ _ _ _ _ _ _ _ _ _ _ _ _ _ _ _ _ _ _ _ _ _ _ _ _ _ _ _ _ _ _ _ _ _ _ hT hY (by omega) hBf hPl hBx
  obtain ⟨f, hf31, rfl⟩ := nI_of hF.1
  have hf : f < ph_nf Bp := (nI_ltI hf31 (by omega)).mp hF.2
  obtain ⟨FF, hFF⟩ : ∃ FF : Nat → (Nat → Int32) × Nat, ∀ g, g < ph_nf Bp → ph_Good Bp (ph_sz Bp g) (ph_cdo Bp g) (ph_RH (ph_sz Bp g) (FF g).1) ∧ ph_St (ph_cdo Bp g) (ph_sz Bp g) ∧ a_entry (4 * p + g) = nI (FF g).2 ∧ a_pParams (4 * p + g) = nI (Bp (ph_hd Bp g)) ∧ 320 * p ≤ (FF g).2 ∧ ph_T (ph_sz Bp g) (ph_cdo Bp g) (FF g).1 (FF g).2 (ph_sz Bp g) ≤ 320 * p + 320 ∧
      ∀ j, ph_re (ph_sz Bp g) (ph_cdo Bp g) (FF g).1 j → ph_E2 (ph_sz Bp g) (ph_cdo Bp g) (FF g).1 (FF g).2 a_emitted j := by
    refine Classical.axiomOfChoice (r := fun g (y : (Nat → Int32) × Nat) => g < ph_nf Bp → ph_Good Bp (ph_sz Bp g) (ph_cdo Bp g) (ph_RH (ph_sz Bp g) y.1) ∧ ph_St (ph_cdo Bp g) (ph_sz Bp g) ∧ a_entry (4 * p + g) = nI y.2 ∧ a_pParams (4 * p + g) = nI (Bp (ph_hd Bp g)) ∧ 320 * p ≤ y.2 ∧ ph_T (ph_sz Bp g) (ph_cdo Bp g) y.1 y.2 (ph_sz Bp g) ≤ 320 * p + 320 ∧ ∀ j, ph_re (ph_sz Bp g) (ph_cdo Bp g) y.1 j → ph_E2 (ph_sz Bp g) (ph_cdo Bp g) y.1 y.2 a_emitted j) (fun g => ?_)
    by_cases hg : g < ph_nf Bp
    · obtain ⟨hi, e, q⟩ := a2 g hg
      exact ⟨(hi, e), fun _ => q⟩
    · exact ⟨(fun _ => 0, 0), fun z => absurd z hg⟩
  have hS : ph_RS Bp Lp p (fun g => (FF g).1) (fun g => (FF g).2) a_emitted a_entry a_pParams a_pPath := by
    refine ⟨a1, hp, a5, fun g hg => ?_⟩
    obtain ⟨b1, b2, b3, b4, b5, b6, b7⟩ := hFF g hg
    exact ⟨b1, b2, b3, b4, Nat.le_trans b6 (by omega), b7⟩
  obtain ⟨b1, b2, b3, b4, b5, b6, b7⟩ := hFF f hf
  obtain ⟨np, enp⟩ : ∃ np, Bp (ph_hd Bp f) = np := ⟨_, rfl⟩
  have hnp : np ≤ 2 := by
    have := (hW.2.2.2.2.2.2 f hf).1
    omega
  rw [enp] at b4
  obtain ⟨⟨q, hq, eq⟩, -⟩ := hBx x hx
  -- the plugins, as linked has judged them
  have hPl' : ∀ ju fi, (∀ y, y ≠ p → ju y = a_judged y ∧ fi y = a_fine y) → ju p = nI ver → fi p = nI (ph_per Bp rc ra nr (Bp 1)) → ph_Plg ver nr rc ra a_loaded a_emitted a_entry a_pParams a_pFunctions a_pImports a_pPath ju fi b_bytes b_present := by
    intro ju fi r1 r2 r3 p' hp'
    obtain ⟨q1, q2, q3⟩ := hPl p' hp'
    refine ⟨q1, q2, fun z => ?_⟩
    by_cases c : p' = p
    · subst c
      exact ⟨Bp, Lp, ver, a1, a2, a3, a4, a5, a6, Nat.le_refl _, r2, fun _ => r3⟩
    · obtain ⟨B2, L2, jv2, c1, c2, c3, c4, c5, c6, c7, c8, c9⟩ := q3 z
      exact ⟨B2, L2, jv2, c1, c2, c3, c4, c5, c6, c7, by rw [(r1 p' c).1]; exact c8, fun y => by rw [(r1 p' c).2]; exact c9 y⟩
  refine ph_xcall_go (np := np) hx e1 hp a3 hn4 hf hW hT a4 a5 hver a7 a8 a9 b3 b4 hnp (fun ju fi r1 r2 r3 hper => ?_) (fun ju fi r1 r2 r3 hper => ?_)
  · refine ph_ycall_go (np := np) hx e2 e3 hp a6 hW hf hY enp hnp (fun _ => And.intro rfl ?_) (fun z => by omega)
    exact ph_mk _ _ _ _ _ _ _ _ _ _ _ _ _ _ _ _ _ _ _ _ _ _ _ _ _ _ _ _ _ _ _ _ _ _ _ _ _ _ _ _ _ _ _ _ _ _ _ _ _ _ _ _ _ _ _ _ _ _ _ hT hY (by omega) hBf (hPl' ju fi r1 r2 r3) hBx
  · have hRD : ph_RD Bp p (fun g => (FF g).1) (fun g => (FF g).2) 0 (fun _ => f) (fun _ => 0) (fun _ => 0) (upd (upd (ph_zr a_slot 0 5) 0 (if 0 < np then v3 else 0)) 1 (if 1 < np then v4 else 0)) a_back (upd a_entries 0 (nI 0)) (upd b_aFn 0 (nI f)) (upd b_aPos 0 (nI (120 * p + ph_hd Bp f + 3))) (upd b_aHigh 0 (nI 0)) (ph_l2 b_aLocal np v3 v4) b_aEntry := by
      refine ⟨by omega, fun j hj => ?_, fun j hj => ?_, b1.1, fun j hj => by omega⟩
      · have ej : j = 0 := by omega
        subst ej
        refine ⟨show (0 : Nat) ≤ 6 by omega, pk_us, pk_us, fun k hk => ?_, fun k (hk : k < 0) => by omega⟩
        rw [show 11 * 0 + k = k by omega]
        exact ph_l2_eq hnp hk
      · have ej : j = 0 := by omega
        subst ej
        exact ⟨hf, pk_us, pk_us⟩
    have hld : ph_rest Bp f 0 = 0 := ph_rest_l (Or.inl rfl)
    refine ph_run (f_nodes := nI (Nr nr)) (f_rules := nI nr) (f_version := nI ver) (f_count := nI L) (f_at := f_at) (f_place := f_place) (f_number := f_number) (f_imports := f_imports) (f_functions := f_functions) (f_waiting := f_waiting) (f_fault := f_fault) (a_child := a_child) (a_verdict := a_verdict) (a_ruleNode := a_ruleNode) (a_before := a_before) (a_nodesBefore := a_nodesBefore) (a_bytes := a_bytes) (a_path := a_path) (a_pathAt := a_pathAt) (a_params := a_params) (a_locals := a_locals) (a_from := a_from) (a_size := a_size) (a_high := a_high) (a_loaded := a_loaded) (a_emitted := a_emitted) (a_entry := a_entry) (a_pParams := a_pParams) (a_pFunctions := a_pFunctions) (a_pImports := a_pImports) (a_pPath := a_pPath) (a_judged := ju) (a_fine := fi) (a_newAt := a_newAt) (a_plugin := a_plugin) (g_rules := nI nr) (g_place := f_place) (g_number := f_number) (g_pos := g_pos) (g_finding := g_finding) (b_ruleParts := b_ruleParts) (b_rulePath := b_rulePath) (b_ruleAllows := b_ruleAllows) (b_bytes := b_bytes) (b_length := b_length) (b_present := b_present) (b_ways := b_ways) (b_boxPlugin := b_boxPlugin) (b_boxOpen := b_boxOpen) hS hx e1 a6 2000 0 (fun _ => f) (fun _ => 0) (fun _ => 0) q 0 0 f_memory a_statics 0 a_quota (upd (upd (ph_zr a_slot 0 5) 0 (if 0 < np then v3 else 0)) 1 (if 1 < np then v4 else 0)) a_back (upd a_entries 0 (nI 0)) (upd b_aFn 0 (nI f)) (upd b_aPos 0 (nI (120 * p + ph_hd Bp f + 3))) (upd b_aHigh 0 (nI 0)) (ph_l2 b_aLocal np v3 v4) b_aEntry hRD eq hq (by rw [hld]; omega) (by omega) (by omega)
      (fun s res' pc' mem' qu' st' sl' bk' en' ac' aF' aP' aH' aL' aE' hs3 h1 h2 hX hYr => ⟨4004, hX _ 4004 (by omega) ?_⟩)
    refine ph_ycall_go (np := np) hx e2 e3 hp a6 hW hf hY enp hnp (fun z => by omega) (fun _ => ⟨2003, hYr _ 2003 (by omega) (And.intro rfl ?_)⟩)
    refine ph_mk _ _ _ _ _ _ _ _ _ _ _ _ _ _ _ _ _ _ _ _ _ _ _ _ _ _ _ _ _ _ _ _ _ _ _ _ _ _ _ _ _ _ _ _ _ _ _ _ _ _ _ _ _ _ _ _ _ _ _ hT hY (by omega) hBf (hPl' ju fi r1 r2 r3) (fun y hy => ?_)
    obtain ⟨w1, w2⟩ := hBx y hy
    refine ⟨?_, w2⟩
    by_cases c : y = x
    · subst c
      obtain ⟨q', u1, u2⟩ := h2
      exact ⟨q', by omega, u2⟩
    · rw [h1 y c]; exact w1
end
