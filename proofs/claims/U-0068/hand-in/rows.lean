section
/-! pure rows to paste: stores, nI and lN arithmetic, masks, shifts, narrowing, branches by naturals (pk_le, pk_lt, pk_eq), loops (lp1 .. lp16: the measure of the state; rp1 ..: recursion), negatives. Take what you need -/
theorem pk_us {f : Nat → Int32} {k : Nat} {x : Int32} : upd f k x k = x := if_pos rfl
theorem pk_un {f : Nat → Int32} {k j : Nat} {x : Int32} (h : j ≠ k) : upd f k x j = f j := if_neg h
theorem pk_uLs {f : Nat → Int64} {k : Nat} {x : Int64} : vp_updL f k x k = x := if_pos rfl
theorem pk_uLn {f : Nat → Int64} {k j : Nat} {x : Int64} (h : j ≠ k) : vp_updL f k x j = f j := if_neg h
theorem pk_sub {a b : Nat} (h : b ≤ a) : nI a - nI b = nI (a - b) := by
  obtain ⟨c, rfl⟩ : ∃ c, a = c + b := ⟨a - b, by omega⟩
  rw [← nI_add, Int32.add_sub_cancel, Nat.add_sub_cancel]
theorem pk_m1 (n : Nat) : nI (n + 1) + (-1) = nI n := by
  rw [← nI_1, Int32.add_assoc, show (1 : Int32) + (-1) = 0 from rfl, Int32.add_zero]
theorem pk_mul (a b : Nat) : nI a * nI b = nI (a * b) := (Int32.ofNat_mul a b).symm
theorem pk_div {a d : Nat} (ha : a < 2 ^ 31) (h0 : 0 < d) (hd : d < 2 ^ 31) : nI a / nI d = nI (a / d) := by
  apply Int32.toInt_inj.mp
  rw [lg_idiv_nonneg (by rw [nI_toInt ha]; omega) (by rw [nI_toInt hd]; omega), nI_toInt ha, nI_toInt hd, nI_toInt (Nat.lt_of_le_of_lt (Nat.div_le_self a d) ha)]
  first | rfl | exact (Int.natCast_ediv _ _).symm
theorem pk_rem {a d : Nat} (ha : a < 2 ^ 31) (h0 : 0 < d) (hd : d < 2 ^ 31) : nI a - nI a / nI d * nI d = nI (a % d) := by
  rw [pk_div ha h0 hd, pk_mul, pk_sub (Nat.div_mul_le_self a d)]
  exact congrArg nI (by have := Nat.div_add_mod' a d; omega)
theorem pk_sub_toInt {a b : Nat} (ha : a < 2 ^ 30) (hb : b < 2 ^ 30) : (nI a - nI b).toInt = (a : Int) - b := by
  rw [Int32.toInt_sub, nI_toInt (by omega), nI_toInt (by omega)]
  exact Int.bmod_eq_of_le (by omega) (by omega)
theorem pk_sneg {a b : Nat} (hb : b < 2 ^ 30) (h : a < b) : nI a - nI b < 0 := by
  rw [Int32.lt_iff_toInt_lt, pk_sub_toInt (by omega) hb, show (0 : Int32).toInt = 0 from by decide]
  omega
theorem pk_ix (x : Int32) {n : Nat} (hn : n < 2 ^ 31) : x < 0 ∨ nI n ≤ x ∨ ∃ j : Nat, j < n ∧ x = nI j := by
  by_cases h : x < 0
  · exact Or.inl h
  · obtain ⟨j, hj, rfl⟩ := nI_of h
    by_cases h2 : j < n
    · exact Or.inr (Or.inr ⟨j, h2, rfl⟩)
    · exact Or.inr (Or.inl (nI_le (by omega) hj))
theorem pk_le {x y : Int32} {A B : Prop} (a b : Nat) (f : a ≤ b → A) (g : b < a → B) (hx : x = nI a := by rfl) (hy : y = nI b := by rfl) (ha : a < 2 ^ 31 := by omega) (hb : b < 2 ^ 31 := by omega) : (x ≤ y → A) ∧ (¬ x ≤ y → B) := by
  subst hx hy
  rw [nI_leI ha hb]
  exact ⟨f, fun z => g (by omega)⟩
theorem pk_lt {x y : Int32} {A B : Prop} (a b : Nat) (f : a < b → A) (g : b ≤ a → B) (hx : x = nI a := by rfl) (hy : y = nI b := by rfl) (ha : a < 2 ^ 31 := by omega) (hb : b < 2 ^ 31 := by omega) : (x < y → A) ∧ (¬ x < y → B) := by
  subst hx hy
  rw [nI_ltI ha hb]
  exact ⟨f, fun z => g (by omega)⟩
theorem pk_eq {x y : Int32} {A B : Prop} (a b : Nat) (f : a = b → A) (g : a ≠ b → B) (hx : x = nI a := by rfl) (hy : y = nI b := by rfl) (ha : a < 2 ^ 31 := by omega) (hb : b < 2 ^ 31 := by omega) : (x = y → A) ∧ (¬ x = y → B) := by
  subst hx hy
  rw [nI_eq ha hb]
  exact ⟨f, g⟩
theorem pk_in {x : Int32} (n N : Nat) (h : n < N) (hx : x = nI n := by rfl) (hN : N < 2 ^ 31 := by omega) : vp_in x N := by
  subst hx
  exact vp_in_nI h hN
theorem pk_cl {x : Int32} (n : Nat) (hx : x = nI n := by rfl) (h : n < 2 ^ 31 := by omega) : x.toNatClampNeg = n := by
  subst hx
  exact nI_clamp h
theorem pk_tn {n : Nat} (h : n < 2 ^ 32) : (nI n).toBitVec.toNat = n := Nat.mod_eq_of_lt h
theorem pk_and (x : Int32) {m : Int32} (k : Nat) (hm : m.toBitVec.toNat = 2 ^ k - 1) : x &&& m = nI (x.toBitVec.toNat % 2 ^ k) := by
  apply Int32.toBitVec_inj.mp
  apply BitVec.eq_of_toNat_eq
  rw [Int32.toBitVec_and, BitVec.toNat_and, hm, Nat.and_two_pow_sub_one_eq_mod]
  show _ = (BitVec.ofNat 32 _).toNat
  rw [BitVec.toNat_ofNat]
  exact (Nat.mod_eq_of_lt (Nat.lt_of_le_of_lt (Nat.mod_le _ _) x.toBitVec.isLt)).symm
theorem pk_andN {n : Nat} (h : n < 2 ^ 32) {m : Int32} (k : Nat) (hm : m.toBitVec.toNat = 2 ^ k - 1) : nI n &&& m = nI (n % 2 ^ k) := by
  rw [pk_and _ k hm, pk_tn h]
theorem pk_andE (x : Int32) {m : Int32} (k : Nat) (hm : m.toBitVec.toNat = 2 ^ k - 1) : ∃ j : Nat, j < 2 ^ k ∧ x &&& m = nI j := ⟨_, Nat.mod_lt _ (Nat.two_pow_pos k), pk_and x k hm⟩
theorem pk_andIn (x : Int32) {m : Int32} (k : Nat) (hm : m.toBitVec.toNat = 2 ^ k - 1) (hk : k ≤ 30) : vp_in (x &&& m) (2 ^ k) := by
  obtain ⟨j, hj, e⟩ := pk_andE x k hm
  rw [e]
  exact vp_in_nI hj (Nat.lt_of_le_of_lt (Nat.pow_le_pow_right (by decide) hk) (by decide))
theorem pk_shl (a s : Int32) (k : Nat) (hs : (s.toBitVec.smod 32).toNat = k) : (a <<< s).toBitVec.toNat = a.toBitVec.toNat * 2 ^ k % 2 ^ 32 := by
  show (a.toBitVec <<< (s.toBitVec.smod 32).toNat).toNat = _
  rw [hs, BitVec.toNat_shiftLeft, Nat.shiftLeft_eq]
theorem pk_shlN {n : Nat} (s : Int32) (k : Nat) (hs : (s.toBitVec.smod 32).toNat = k) (h : n * 2 ^ k < 2 ^ 32) : nI n <<< s = nI (n * 2 ^ k) := by
  apply Int32.toBitVec_inj.mp
  apply BitVec.eq_of_toNat_eq
  have hn : n < 2 ^ 32 := Nat.lt_of_le_of_lt (Nat.le_mul_of_pos_right n (Nat.two_pow_pos k)) h
  rw [pk_shl _ _ k hs, pk_tn hn, pk_tn h, Nat.mod_eq_of_lt h]
theorem pk_shr (a s : Int32) (k : Nat) (hs : (s.toBitVec.smod 32).toNat = k) : (a >>> s).toInt = a.toInt >>> k := by
  show (a.toBitVec.sshiftRight (s.toBitVec.smod 32).toNat).toInt = _
  rw [hs, BitVec.toInt_sshiftRight]
  rfl
theorem pk_shrN {n : Nat} (h : n < 2 ^ 31) (s : Int32) (k : Nat) (hs : (s.toBitVec.smod 32).toNat = k) : nI n >>> s = nI (n / 2 ^ k) := by
  apply Int32.toInt_inj.mp
  have h2 : n / 2 ^ k ≤ n := Nat.div_le_self _ _
  rw [pk_shr _ _ k hs, nI_toInt h, nI_toInt (by omega), Int.shiftRight_eq_div_pow]
  rfl
theorem pk_ushr (x s : Int32) (k : Nat) (hs : ((s.toUInt32 &&& Int32.toUInt32 31).toBitVec % 32).toNat = k) : (x.toUInt32 >>> (s.toUInt32 &&& Int32.toUInt32 31)).toInt32.toBitVec.toNat = x.toBitVec.toNat / 2 ^ k := by
  have e : (x.toUInt32 >>> (s.toUInt32 &&& Int32.toUInt32 31)).toInt32.toBitVec = x.toBitVec >>> k := by
    rw [← hs]
    exact UInt32.toBitVec_shiftRight _ _
  rw [e, BitVec.toNat_ushiftRight, Nat.shiftRight_eq_div_pow]
theorem pk_ushrN {n : Nat} (hn : n < 2 ^ 32) (s : Int32) (k : Nat) (hs : ((s.toUInt32 &&& Int32.toUInt32 31).toBitVec % 32).toNat = k) : ((nI n).toUInt32 >>> (s.toUInt32 &&& Int32.toUInt32 31)).toInt32 = nI (n / 2 ^ k) := by
  apply Int32.toBitVec_inj.mp
  apply BitVec.eq_of_toNat_eq
  rw [pk_ushr _ s k hs, pk_tn hn, pk_tn (Nat.lt_of_le_of_lt (Nat.div_le_self _ _) hn)]
theorem pk_nb (z : Int32) : narrow .byte (.int z.toInt8.toInt32) = .int z.toInt8.toInt32 := congrArg Value.int (by simp)
theorem pk_ns (z : Int32) : narrow .short (.int z.toInt16.toInt32) = .int z.toInt16.toInt32 := congrArg Value.int (by simp)
theorem pk_fb (r : Int32) : fits .byte (.int r.toInt8.toInt32) = true := by
  have ⟨a, b⟩ := lg_i2b_range r
  have h1 : (-128 : Int32).toInt = -128 := by decide
  have h2 : (127 : Int32).toInt = 127 := by decide
  simp only [fits, Bool.and_eq_true, decide_eq_true_eq, Int32.le_iff_toInt_le, h1, h2]
  omega
theorem pk_fs (r : Int32) : fits .short (.int r.toInt16.toInt32) = true := by
  have ⟨a, b⟩ := lg_i2s_range r
  have h1 : (-32768 : Int32).toInt = -32768 := by decide
  have h2 : (32767 : Int32).toInt = 32767 := by decide
  simp only [fits, Bool.and_eq_true, decide_eq_true_eq, Int32.le_iff_toInt_le, h1, h2]
  omega
theorem pk_charN {q : Nat} (hq : q < 65536) : narrow .char (.int (nI q)) = .int (nI q) ∧ fits .char (.int (nI q)) = true := by
  constructor
  · have e : (nI q).toUInt32.toUInt16.toUInt32.toInt32 = nI q := by
      apply Int32.toBitVec_inj.mp
      apply BitVec.eq_of_toNat_eq
      show (nI q).toUInt32.toUInt16.toUInt32.toNat = q % 2 ^ 32
      rw [UInt16.toNat_toUInt32, UInt32.toNat_toUInt16, show (nI q).toUInt32.toNat = q % 2 ^ 32 from rfl]
      omega
    exact congrArg Value.int e
  · have a : (0 : Int32) ≤ nI q := nI_pos' (by omega)
    have b : nI q ≤ 65535 := nI_le (b := 65535) (by omega) (by decide)
    show (decide ((0 : Int32) ≤ nI q) && decide (nI q ≤ 65535)) = true
    rw [decide_eq_true a, decide_eq_true b]
    rfl
theorem pk_char (x : Int32) : (x.toUInt32 % 65536).toInt32 = nI (x.toBitVec.toNat % 65536) := by
  apply Int32.toBitVec_inj.mp
  apply BitVec.eq_of_toNat_eq
  rw [pk_tn (by omega)]
  show (x.toUInt32 % 65536).toNat = _
  rw [UInt32.toNat_mod]
  rfl
theorem pk_nc (x : Int32) : narrow .char (.int (x.toUInt32 % 65536).toInt32) = .int (x.toUInt32 % 65536).toInt32 := by
  rw [pk_char]
  exact (pk_charN (Nat.mod_lt _ (by decide))).1
theorem pk_fc (x : Int32) : fits .char (.int (x.toUInt32 % 65536).toInt32) = true := by
  rw [pk_char]
  exact (pk_charN (Nat.mod_lt _ (by decide))).2
theorem pk_vb (z : Int32) : vp_nar .byte z.toInt8.toInt32 = z.toInt8.toInt32 := by rw [vp_nar_byte]; simp
theorem pk_vs (z : Int32) : vp_nar .short z.toInt16.toInt32 = z.toInt16.toInt32 := by rw [vp_nar_short]; simp
theorem pk_vc (z : Int32) : vp_nar .char (z.toUInt32 % 65536).toInt32 = (z.toUInt32 % 65536).toInt32 := Value.int.inj (pk_nc z)
theorem pk_lT {n : Nat} (h : n < 2 ^ 63) : (lN n).toInt = (n : Int) := lg_ofNat_toInt h
theorem pk_lLT {a b : Nat} (ha : a < 2 ^ 63) (hb : b < 2 ^ 63) : lN a < lN b ↔ a < b := by
  rw [Int64.lt_iff_toInt_lt, pk_lT ha, pk_lT hb]; omega
theorem pk_lLE {a b : Nat} (ha : a < 2 ^ 63) (hb : b < 2 ^ 63) : lN a ≤ lN b ↔ a ≤ b := by
  rw [Int64.le_iff_toInt_le, pk_lT ha, pk_lT hb]; omega
theorem pk_lEQ {a b : Nat} (ha : a < 2 ^ 63) (hb : b < 2 ^ 63) : lN a = lN b ↔ a = b := by
  rw [← Int64.toInt_inj, pk_lT ha, pk_lT hb]; omega
theorem pk_lOf {x : Int64} (h : ¬ x < 0) : ∃ k : Nat, k < 2 ^ 63 ∧ x = lN k := by
  rw [Int64.lt_iff_toInt_lt] at h
  have h0 : (0 : Int64).toInt = 0 := by decide
  have hx := Int64.toInt_lt x
  refine ⟨x.toInt.toNat, by omega, Int64.toInt_inj.mp ?_⟩
  rw [pk_lT (by omega)]
  omega
theorem pk_lDiv {a b : Nat} (ha : a < 2 ^ 63) (h0 : 0 < b) (hb : b < 2 ^ 63) : lN a / lN b = lN (a / b) := by
  apply Int64.toInt_inj.mp
  rw [lg_ldiv_nonneg (by rw [pk_lT ha]; omega) (by rw [pk_lT hb]; omega), pk_lT ha, pk_lT hb, pk_lT (Nat.lt_of_le_of_lt (Nat.div_le_self a b) ha)]
  rfl
theorem pk_lRem {a b : Nat} (ha : a < 2 ^ 63) (h0 : 0 < b) (hb : b < 2 ^ 63) : lN a - lN a / lN b * lN b = lN (a % b) := by
  rw [pk_lDiv ha h0 hb, lN_mul, lN_sub (Nat.div_mul_le_self a b)]
  exact congrArg lN (by have := Nat.div_add_mod' a b; omega)
theorem pk_loop {σ : Type} (W : Nat → Nat → σ → Prop) (I : Nat → σ → Prop) (e i0 : Nat) (s : σ) (hi : i0 ≤ e) (h0 : I i0 s) (hx : ∀ n s, I e s → W (n + 1) e s)
    (hs : ∀ n i s, i < e → I i s → (∀ s', I (i + 1) s' → W n (i + 1) s') → W (n + 1) i s) : ∃ n, W n i0 s :=
  ⟨e + 1, loop_i W I e hx hs (e + 1) i0 s hi (by omega) h0⟩
theorem pk_loopD {σ : Type} (W : Nat → Nat → σ → Prop) (I : Nat → σ → Prop) (hx : ∀ n s, I 0 s → W (n + 1) 0 s)
    (hs : ∀ n i s, I (i + 1) s → (∀ s', I i s' → W n i s') → W (n + 1) (i + 1) s) : ∀ (e : Nat) (s : σ), I e s → W (e + 1) e s := by
  intro e
  induction e with
  | zero => exact fun s h => hx 0 s h
  | succ e ih => exact fun s h => hs (e + 1) e s h (fun s' h' => ih s' h')
theorem lp1 {A1 : Type} (W : Nat → A1 → Prop) (I : A1 → Prop) (μ : A1 → Nat) (hs : ∀ (n : Nat) (a1 : A1), I a1 → (∀ (b1 : A1), I b1 → μ b1 < μ a1 → W n b1) → W (n + 1) a1) (a1 : A1) (h : I a1) : ∃ n, W n a1 :=
  loop_m (σ := A1) (fun n s => W n s) (fun s => I s) (fun s => μ s) (fun n s hI hk => hs n s hI (fun b1 h9 hm => hk b1 h9 hm)) a1 h
theorem lp2 {A1 A2 : Type} (W : Nat → A1 → A2 → Prop) (I : A1 → A2 → Prop) (μ : A1 → A2 → Nat) (hs : ∀ (n : Nat) (a1 : A1) (a2 : A2), I a1 a2 → (∀ (b1 : A1) (b2 : A2), I b1 b2 → μ b1 b2 < μ a1 a2 → W n b1 b2) → W (n + 1) a1 a2) (a1 : A1) (a2 : A2) (h : I a1 a2) : ∃ n, W n a1 a2 :=
  loop_m (σ := A1 × A2) (fun n s => W n s.1 s.2) (fun s => I s.1 s.2) (fun s => μ s.1 s.2) (fun n s hI hk => hs n s.1 s.2 hI (fun b1 b2 h9 hm => hk (b1, b2) h9 hm)) (a1, a2) h
theorem lp3 {A1 A2 A3 : Type} (W : Nat → A1 → A2 → A3 → Prop) (I : A1 → A2 → A3 → Prop) (μ : A1 → A2 → A3 → Nat) (hs : ∀ (n : Nat) (a1 : A1) (a2 : A2) (a3 : A3), I a1 a2 a3 → (∀ (b1 : A1) (b2 : A2) (b3 : A3), I b1 b2 b3 → μ b1 b2 b3 < μ a1 a2 a3 → W n b1 b2 b3) → W (n + 1) a1 a2 a3) (a1 : A1) (a2 : A2) (a3 : A3) (h : I a1 a2 a3) : ∃ n, W n a1 a2 a3 :=
  loop_m (σ := A1 × A2 × A3) (fun n s => W n s.1 s.2.1 s.2.2) (fun s => I s.1 s.2.1 s.2.2) (fun s => μ s.1 s.2.1 s.2.2) (fun n s hI hk => hs n s.1 s.2.1 s.2.2 hI (fun b1 b2 b3 h9 hm => hk (b1, b2, b3) h9 hm)) (a1, a2, a3) h
theorem lp4 {A1 A2 A3 A4 : Type} (W : Nat → A1 → A2 → A3 → A4 → Prop) (I : A1 → A2 → A3 → A4 → Prop) (μ : A1 → A2 → A3 → A4 → Nat) (hs : ∀ (n : Nat) (a1 : A1) (a2 : A2) (a3 : A3) (a4 : A4), I a1 a2 a3 a4 → (∀ (b1 : A1) (b2 : A2) (b3 : A3) (b4 : A4), I b1 b2 b3 b4 → μ b1 b2 b3 b4 < μ a1 a2 a3 a4 → W n b1 b2 b3 b4) → W (n + 1) a1 a2 a3 a4) (a1 : A1) (a2 : A2) (a3 : A3) (a4 : A4) (h : I a1 a2 a3 a4) : ∃ n, W n a1 a2 a3 a4 :=
  loop_m (σ := A1 × A2 × A3 × A4) (fun n s => W n s.1 s.2.1 s.2.2.1 s.2.2.2) (fun s => I s.1 s.2.1 s.2.2.1 s.2.2.2) (fun s => μ s.1 s.2.1 s.2.2.1 s.2.2.2) (fun n s hI hk => hs n s.1 s.2.1 s.2.2.1 s.2.2.2 hI (fun b1 b2 b3 b4 h9 hm => hk (b1, b2, b3, b4) h9 hm)) (a1, a2, a3, a4) h
theorem lp5 {A1 A2 A3 A4 A5 : Type} (W : Nat → A1 → A2 → A3 → A4 → A5 → Prop) (I : A1 → A2 → A3 → A4 → A5 → Prop) (μ : A1 → A2 → A3 → A4 → A5 → Nat) (hs : ∀ (n : Nat) (a1 : A1) (a2 : A2) (a3 : A3) (a4 : A4) (a5 : A5), I a1 a2 a3 a4 a5 → (∀ (b1 : A1) (b2 : A2) (b3 : A3) (b4 : A4) (b5 : A5), I b1 b2 b3 b4 b5 → μ b1 b2 b3 b4 b5 < μ a1 a2 a3 a4 a5 → W n b1 b2 b3 b4 b5) → W (n + 1) a1 a2 a3 a4 a5) (a1 : A1) (a2 : A2) (a3 : A3) (a4 : A4) (a5 : A5) (h : I a1 a2 a3 a4 a5) : ∃ n, W n a1 a2 a3 a4 a5 :=
  loop_m (σ := A1 × A2 × A3 × A4 × A5) (fun n s => W n s.1 s.2.1 s.2.2.1 s.2.2.2.1 s.2.2.2.2) (fun s => I s.1 s.2.1 s.2.2.1 s.2.2.2.1 s.2.2.2.2) (fun s => μ s.1 s.2.1 s.2.2.1 s.2.2.2.1 s.2.2.2.2) (fun n s hI hk => hs n s.1 s.2.1 s.2.2.1 s.2.2.2.1 s.2.2.2.2 hI (fun b1 b2 b3 b4 b5 h9 hm => hk (b1, b2, b3, b4, b5) h9 hm)) (a1, a2, a3, a4, a5) h
theorem lp6 {A1 A2 A3 A4 A5 A6 : Type} (W : Nat → A1 → A2 → A3 → A4 → A5 → A6 → Prop) (I : A1 → A2 → A3 → A4 → A5 → A6 → Prop) (μ : A1 → A2 → A3 → A4 → A5 → A6 → Nat) (hs : ∀ (n : Nat) (a1 : A1) (a2 : A2) (a3 : A3) (a4 : A4) (a5 : A5) (a6 : A6), I a1 a2 a3 a4 a5 a6 → (∀ (b1 : A1) (b2 : A2) (b3 : A3) (b4 : A4) (b5 : A5) (b6 : A6), I b1 b2 b3 b4 b5 b6 → μ b1 b2 b3 b4 b5 b6 < μ a1 a2 a3 a4 a5 a6 → W n b1 b2 b3 b4 b5 b6) → W (n + 1) a1 a2 a3 a4 a5 a6) (a1 : A1) (a2 : A2) (a3 : A3) (a4 : A4) (a5 : A5) (a6 : A6) (h : I a1 a2 a3 a4 a5 a6) : ∃ n, W n a1 a2 a3 a4 a5 a6 :=
  loop_m (σ := A1 × A2 × A3 × A4 × A5 × A6) (fun n s => W n s.1 s.2.1 s.2.2.1 s.2.2.2.1 s.2.2.2.2.1 s.2.2.2.2.2) (fun s => I s.1 s.2.1 s.2.2.1 s.2.2.2.1 s.2.2.2.2.1 s.2.2.2.2.2) (fun s => μ s.1 s.2.1 s.2.2.1 s.2.2.2.1 s.2.2.2.2.1 s.2.2.2.2.2) (fun n s hI hk => hs n s.1 s.2.1 s.2.2.1 s.2.2.2.1 s.2.2.2.2.1 s.2.2.2.2.2 hI (fun b1 b2 b3 b4 b5 b6 h9 hm => hk (b1, b2, b3, b4, b5, b6) h9 hm)) (a1, a2, a3, a4, a5, a6) h
theorem lp7 {A1 A2 A3 A4 A5 A6 A7 : Type} (W : Nat → A1 → A2 → A3 → A4 → A5 → A6 → A7 → Prop) (I : A1 → A2 → A3 → A4 → A5 → A6 → A7 → Prop) (μ : A1 → A2 → A3 → A4 → A5 → A6 → A7 → Nat) (hs : ∀ (n : Nat) (a1 : A1) (a2 : A2) (a3 : A3) (a4 : A4) (a5 : A5) (a6 : A6) (a7 : A7), I a1 a2 a3 a4 a5 a6 a7 → (∀ (b1 : A1) (b2 : A2) (b3 : A3) (b4 : A4) (b5 : A5) (b6 : A6) (b7 : A7), I b1 b2 b3 b4 b5 b6 b7 → μ b1 b2 b3 b4 b5 b6 b7 < μ a1 a2 a3 a4 a5 a6 a7 → W n b1 b2 b3 b4 b5 b6 b7) → W (n + 1) a1 a2 a3 a4 a5 a6 a7) (a1 : A1) (a2 : A2) (a3 : A3) (a4 : A4) (a5 : A5) (a6 : A6) (a7 : A7) (h : I a1 a2 a3 a4 a5 a6 a7) : ∃ n, W n a1 a2 a3 a4 a5 a6 a7 :=
  loop_m (σ := A1 × A2 × A3 × A4 × A5 × A6 × A7) (fun n s => W n s.1 s.2.1 s.2.2.1 s.2.2.2.1 s.2.2.2.2.1 s.2.2.2.2.2.1 s.2.2.2.2.2.2) (fun s => I s.1 s.2.1 s.2.2.1 s.2.2.2.1 s.2.2.2.2.1 s.2.2.2.2.2.1 s.2.2.2.2.2.2) (fun s => μ s.1 s.2.1 s.2.2.1 s.2.2.2.1 s.2.2.2.2.1 s.2.2.2.2.2.1 s.2.2.2.2.2.2) (fun n s hI hk => hs n s.1 s.2.1 s.2.2.1 s.2.2.2.1 s.2.2.2.2.1 s.2.2.2.2.2.1 s.2.2.2.2.2.2 hI (fun b1 b2 b3 b4 b5 b6 b7 h9 hm => hk (b1, b2, b3, b4, b5, b6, b7) h9 hm)) (a1, a2, a3, a4, a5, a6, a7) h
theorem lp8 {A1 A2 A3 A4 A5 A6 A7 A8 : Type} (W : Nat → A1 → A2 → A3 → A4 → A5 → A6 → A7 → A8 → Prop) (I : A1 → A2 → A3 → A4 → A5 → A6 → A7 → A8 → Prop) (μ : A1 → A2 → A3 → A4 → A5 → A6 → A7 → A8 → Nat) (hs : ∀ (n : Nat) (a1 : A1) (a2 : A2) (a3 : A3) (a4 : A4) (a5 : A5) (a6 : A6) (a7 : A7) (a8 : A8), I a1 a2 a3 a4 a5 a6 a7 a8 → (∀ (b1 : A1) (b2 : A2) (b3 : A3) (b4 : A4) (b5 : A5) (b6 : A6) (b7 : A7) (b8 : A8), I b1 b2 b3 b4 b5 b6 b7 b8 → μ b1 b2 b3 b4 b5 b6 b7 b8 < μ a1 a2 a3 a4 a5 a6 a7 a8 → W n b1 b2 b3 b4 b5 b6 b7 b8) → W (n + 1) a1 a2 a3 a4 a5 a6 a7 a8) (a1 : A1) (a2 : A2) (a3 : A3) (a4 : A4) (a5 : A5) (a6 : A6) (a7 : A7) (a8 : A8) (h : I a1 a2 a3 a4 a5 a6 a7 a8) : ∃ n, W n a1 a2 a3 a4 a5 a6 a7 a8 :=
  loop_m (σ := A1 × A2 × A3 × A4 × A5 × A6 × A7 × A8) (fun n s => W n s.1 s.2.1 s.2.2.1 s.2.2.2.1 s.2.2.2.2.1 s.2.2.2.2.2.1 s.2.2.2.2.2.2.1 s.2.2.2.2.2.2.2) (fun s => I s.1 s.2.1 s.2.2.1 s.2.2.2.1 s.2.2.2.2.1 s.2.2.2.2.2.1 s.2.2.2.2.2.2.1 s.2.2.2.2.2.2.2) (fun s => μ s.1 s.2.1 s.2.2.1 s.2.2.2.1 s.2.2.2.2.1 s.2.2.2.2.2.1 s.2.2.2.2.2.2.1 s.2.2.2.2.2.2.2) (fun n s hI hk => hs n s.1 s.2.1 s.2.2.1 s.2.2.2.1 s.2.2.2.2.1 s.2.2.2.2.2.1 s.2.2.2.2.2.2.1 s.2.2.2.2.2.2.2 hI (fun b1 b2 b3 b4 b5 b6 b7 b8 h9 hm => hk (b1, b2, b3, b4, b5, b6, b7, b8) h9 hm)) (a1, a2, a3, a4, a5, a6, a7, a8) h
theorem lp9 {A1 A2 A3 A4 A5 A6 A7 A8 A9 : Type} (W : Nat → A1 → A2 → A3 → A4 → A5 → A6 → A7 → A8 → A9 → Prop) (I : A1 → A2 → A3 → A4 → A5 → A6 → A7 → A8 → A9 → Prop) (μ : A1 → A2 → A3 → A4 → A5 → A6 → A7 → A8 → A9 → Nat) (hs : ∀ (n : Nat) (a1 : A1) (a2 : A2) (a3 : A3) (a4 : A4) (a5 : A5) (a6 : A6) (a7 : A7) (a8 : A8) (a9 : A9), I a1 a2 a3 a4 a5 a6 a7 a8 a9 → (∀ (b1 : A1) (b2 : A2) (b3 : A3) (b4 : A4) (b5 : A5) (b6 : A6) (b7 : A7) (b8 : A8) (b9 : A9), I b1 b2 b3 b4 b5 b6 b7 b8 b9 → μ b1 b2 b3 b4 b5 b6 b7 b8 b9 < μ a1 a2 a3 a4 a5 a6 a7 a8 a9 → W n b1 b2 b3 b4 b5 b6 b7 b8 b9) → W (n + 1) a1 a2 a3 a4 a5 a6 a7 a8 a9) (a1 : A1) (a2 : A2) (a3 : A3) (a4 : A4) (a5 : A5) (a6 : A6) (a7 : A7) (a8 : A8) (a9 : A9) (h : I a1 a2 a3 a4 a5 a6 a7 a8 a9) : ∃ n, W n a1 a2 a3 a4 a5 a6 a7 a8 a9 :=
  loop_m (σ := A1 × A2 × A3 × A4 × A5 × A6 × A7 × A8 × A9) (fun n s => W n s.1 s.2.1 s.2.2.1 s.2.2.2.1 s.2.2.2.2.1 s.2.2.2.2.2.1 s.2.2.2.2.2.2.1 s.2.2.2.2.2.2.2.1 s.2.2.2.2.2.2.2.2) (fun s => I s.1 s.2.1 s.2.2.1 s.2.2.2.1 s.2.2.2.2.1 s.2.2.2.2.2.1 s.2.2.2.2.2.2.1 s.2.2.2.2.2.2.2.1 s.2.2.2.2.2.2.2.2) (fun s => μ s.1 s.2.1 s.2.2.1 s.2.2.2.1 s.2.2.2.2.1 s.2.2.2.2.2.1 s.2.2.2.2.2.2.1 s.2.2.2.2.2.2.2.1 s.2.2.2.2.2.2.2.2) (fun n s hI hk => hs n s.1 s.2.1 s.2.2.1 s.2.2.2.1 s.2.2.2.2.1 s.2.2.2.2.2.1 s.2.2.2.2.2.2.1 s.2.2.2.2.2.2.2.1 s.2.2.2.2.2.2.2.2 hI (fun b1 b2 b3 b4 b5 b6 b7 b8 b9 h9 hm => hk (b1, b2, b3, b4, b5, b6, b7, b8, b9) h9 hm)) (a1, a2, a3, a4, a5, a6, a7, a8, a9) h
theorem lp10 {A1 A2 A3 A4 A5 A6 A7 A8 A9 A10 : Type} (W : Nat → A1 → A2 → A3 → A4 → A5 → A6 → A7 → A8 → A9 → A10 → Prop) (I : A1 → A2 → A3 → A4 → A5 → A6 → A7 → A8 → A9 → A10 → Prop) (μ : A1 → A2 → A3 → A4 → A5 → A6 → A7 → A8 → A9 → A10 → Nat) (hs : ∀ (n : Nat) (a1 : A1) (a2 : A2) (a3 : A3) (a4 : A4) (a5 : A5) (a6 : A6) (a7 : A7) (a8 : A8) (a9 : A9) (a10 : A10), I a1 a2 a3 a4 a5 a6 a7 a8 a9 a10 → (∀ (b1 : A1) (b2 : A2) (b3 : A3) (b4 : A4) (b5 : A5) (b6 : A6) (b7 : A7) (b8 : A8) (b9 : A9) (b10 : A10), I b1 b2 b3 b4 b5 b6 b7 b8 b9 b10 → μ b1 b2 b3 b4 b5 b6 b7 b8 b9 b10 < μ a1 a2 a3 a4 a5 a6 a7 a8 a9 a10 → W n b1 b2 b3 b4 b5 b6 b7 b8 b9 b10) → W (n + 1) a1 a2 a3 a4 a5 a6 a7 a8 a9 a10) (a1 : A1) (a2 : A2) (a3 : A3) (a4 : A4) (a5 : A5) (a6 : A6) (a7 : A7) (a8 : A8) (a9 : A9) (a10 : A10) (h : I a1 a2 a3 a4 a5 a6 a7 a8 a9 a10) : ∃ n, W n a1 a2 a3 a4 a5 a6 a7 a8 a9 a10 :=
  loop_m (σ := A1 × A2 × A3 × A4 × A5 × A6 × A7 × A8 × A9 × A10) (fun n s => W n s.1 s.2.1 s.2.2.1 s.2.2.2.1 s.2.2.2.2.1 s.2.2.2.2.2.1 s.2.2.2.2.2.2.1 s.2.2.2.2.2.2.2.1 s.2.2.2.2.2.2.2.2.1 s.2.2.2.2.2.2.2.2.2) (fun s => I s.1 s.2.1 s.2.2.1 s.2.2.2.1 s.2.2.2.2.1 s.2.2.2.2.2.1 s.2.2.2.2.2.2.1 s.2.2.2.2.2.2.2.1 s.2.2.2.2.2.2.2.2.1 s.2.2.2.2.2.2.2.2.2) (fun s => μ s.1 s.2.1 s.2.2.1 s.2.2.2.1 s.2.2.2.2.1 s.2.2.2.2.2.1 s.2.2.2.2.2.2.1 s.2.2.2.2.2.2.2.1 s.2.2.2.2.2.2.2.2.1 s.2.2.2.2.2.2.2.2.2) (fun n s hI hk => hs n s.1 s.2.1 s.2.2.1 s.2.2.2.1 s.2.2.2.2.1 s.2.2.2.2.2.1 s.2.2.2.2.2.2.1 s.2.2.2.2.2.2.2.1 s.2.2.2.2.2.2.2.2.1 s.2.2.2.2.2.2.2.2.2 hI (fun b1 b2 b3 b4 b5 b6 b7 b8 b9 b10 h9 hm => hk (b1, b2, b3, b4, b5, b6, b7, b8, b9, b10) h9 hm)) (a1, a2, a3, a4, a5, a6, a7, a8, a9, a10) h
theorem lp11 {A1 A2 A3 A4 A5 A6 A7 A8 A9 A10 A11 : Type} (W : Nat → A1 → A2 → A3 → A4 → A5 → A6 → A7 → A8 → A9 → A10 → A11 → Prop) (I : A1 → A2 → A3 → A4 → A5 → A6 → A7 → A8 → A9 → A10 → A11 → Prop) (μ : A1 → A2 → A3 → A4 → A5 → A6 → A7 → A8 → A9 → A10 → A11 → Nat) (hs : ∀ (n : Nat) (a1 : A1) (a2 : A2) (a3 : A3) (a4 : A4) (a5 : A5) (a6 : A6) (a7 : A7) (a8 : A8) (a9 : A9) (a10 : A10) (a11 : A11), I a1 a2 a3 a4 a5 a6 a7 a8 a9 a10 a11 → (∀ (b1 : A1) (b2 : A2) (b3 : A3) (b4 : A4) (b5 : A5) (b6 : A6) (b7 : A7) (b8 : A8) (b9 : A9) (b10 : A10) (b11 : A11), I b1 b2 b3 b4 b5 b6 b7 b8 b9 b10 b11 → μ b1 b2 b3 b4 b5 b6 b7 b8 b9 b10 b11 < μ a1 a2 a3 a4 a5 a6 a7 a8 a9 a10 a11 → W n b1 b2 b3 b4 b5 b6 b7 b8 b9 b10 b11) → W (n + 1) a1 a2 a3 a4 a5 a6 a7 a8 a9 a10 a11) (a1 : A1) (a2 : A2) (a3 : A3) (a4 : A4) (a5 : A5) (a6 : A6) (a7 : A7) (a8 : A8) (a9 : A9) (a10 : A10) (a11 : A11) (h : I a1 a2 a3 a4 a5 a6 a7 a8 a9 a10 a11) : ∃ n, W n a1 a2 a3 a4 a5 a6 a7 a8 a9 a10 a11 :=
  loop_m (σ := A1 × A2 × A3 × A4 × A5 × A6 × A7 × A8 × A9 × A10 × A11) (fun n s => W n s.1 s.2.1 s.2.2.1 s.2.2.2.1 s.2.2.2.2.1 s.2.2.2.2.2.1 s.2.2.2.2.2.2.1 s.2.2.2.2.2.2.2.1 s.2.2.2.2.2.2.2.2.1 s.2.2.2.2.2.2.2.2.2.1 s.2.2.2.2.2.2.2.2.2.2) (fun s => I s.1 s.2.1 s.2.2.1 s.2.2.2.1 s.2.2.2.2.1 s.2.2.2.2.2.1 s.2.2.2.2.2.2.1 s.2.2.2.2.2.2.2.1 s.2.2.2.2.2.2.2.2.1 s.2.2.2.2.2.2.2.2.2.1 s.2.2.2.2.2.2.2.2.2.2) (fun s => μ s.1 s.2.1 s.2.2.1 s.2.2.2.1 s.2.2.2.2.1 s.2.2.2.2.2.1 s.2.2.2.2.2.2.1 s.2.2.2.2.2.2.2.1 s.2.2.2.2.2.2.2.2.1 s.2.2.2.2.2.2.2.2.2.1 s.2.2.2.2.2.2.2.2.2.2) (fun n s hI hk => hs n s.1 s.2.1 s.2.2.1 s.2.2.2.1 s.2.2.2.2.1 s.2.2.2.2.2.1 s.2.2.2.2.2.2.1 s.2.2.2.2.2.2.2.1 s.2.2.2.2.2.2.2.2.1 s.2.2.2.2.2.2.2.2.2.1 s.2.2.2.2.2.2.2.2.2.2 hI (fun b1 b2 b3 b4 b5 b6 b7 b8 b9 b10 b11 h9 hm => hk (b1, b2, b3, b4, b5, b6, b7, b8, b9, b10, b11) h9 hm)) (a1, a2, a3, a4, a5, a6, a7, a8, a9, a10, a11) h
theorem lp12 {A1 A2 A3 A4 A5 A6 A7 A8 A9 A10 A11 A12 : Type} (W : Nat → A1 → A2 → A3 → A4 → A5 → A6 → A7 → A8 → A9 → A10 → A11 → A12 → Prop) (I : A1 → A2 → A3 → A4 → A5 → A6 → A7 → A8 → A9 → A10 → A11 → A12 → Prop) (μ : A1 → A2 → A3 → A4 → A5 → A6 → A7 → A8 → A9 → A10 → A11 → A12 → Nat) (hs : ∀ (n : Nat) (a1 : A1) (a2 : A2) (a3 : A3) (a4 : A4) (a5 : A5) (a6 : A6) (a7 : A7) (a8 : A8) (a9 : A9) (a10 : A10) (a11 : A11) (a12 : A12), I a1 a2 a3 a4 a5 a6 a7 a8 a9 a10 a11 a12 → (∀ (b1 : A1) (b2 : A2) (b3 : A3) (b4 : A4) (b5 : A5) (b6 : A6) (b7 : A7) (b8 : A8) (b9 : A9) (b10 : A10) (b11 : A11) (b12 : A12), I b1 b2 b3 b4 b5 b6 b7 b8 b9 b10 b11 b12 → μ b1 b2 b3 b4 b5 b6 b7 b8 b9 b10 b11 b12 < μ a1 a2 a3 a4 a5 a6 a7 a8 a9 a10 a11 a12 → W n b1 b2 b3 b4 b5 b6 b7 b8 b9 b10 b11 b12) → W (n + 1) a1 a2 a3 a4 a5 a6 a7 a8 a9 a10 a11 a12) (a1 : A1) (a2 : A2) (a3 : A3) (a4 : A4) (a5 : A5) (a6 : A6) (a7 : A7) (a8 : A8) (a9 : A9) (a10 : A10) (a11 : A11) (a12 : A12) (h : I a1 a2 a3 a4 a5 a6 a7 a8 a9 a10 a11 a12) : ∃ n, W n a1 a2 a3 a4 a5 a6 a7 a8 a9 a10 a11 a12 :=
  loop_m (σ := A1 × A2 × A3 × A4 × A5 × A6 × A7 × A8 × A9 × A10 × A11 × A12) (fun n s => W n s.1 s.2.1 s.2.2.1 s.2.2.2.1 s.2.2.2.2.1 s.2.2.2.2.2.1 s.2.2.2.2.2.2.1 s.2.2.2.2.2.2.2.1 s.2.2.2.2.2.2.2.2.1 s.2.2.2.2.2.2.2.2.2.1 s.2.2.2.2.2.2.2.2.2.2.1 s.2.2.2.2.2.2.2.2.2.2.2) (fun s => I s.1 s.2.1 s.2.2.1 s.2.2.2.1 s.2.2.2.2.1 s.2.2.2.2.2.1 s.2.2.2.2.2.2.1 s.2.2.2.2.2.2.2.1 s.2.2.2.2.2.2.2.2.1 s.2.2.2.2.2.2.2.2.2.1 s.2.2.2.2.2.2.2.2.2.2.1 s.2.2.2.2.2.2.2.2.2.2.2) (fun s => μ s.1 s.2.1 s.2.2.1 s.2.2.2.1 s.2.2.2.2.1 s.2.2.2.2.2.1 s.2.2.2.2.2.2.1 s.2.2.2.2.2.2.2.1 s.2.2.2.2.2.2.2.2.1 s.2.2.2.2.2.2.2.2.2.1 s.2.2.2.2.2.2.2.2.2.2.1 s.2.2.2.2.2.2.2.2.2.2.2) (fun n s hI hk => hs n s.1 s.2.1 s.2.2.1 s.2.2.2.1 s.2.2.2.2.1 s.2.2.2.2.2.1 s.2.2.2.2.2.2.1 s.2.2.2.2.2.2.2.1 s.2.2.2.2.2.2.2.2.1 s.2.2.2.2.2.2.2.2.2.1 s.2.2.2.2.2.2.2.2.2.2.1 s.2.2.2.2.2.2.2.2.2.2.2 hI (fun b1 b2 b3 b4 b5 b6 b7 b8 b9 b10 b11 b12 h9 hm => hk (b1, b2, b3, b4, b5, b6, b7, b8, b9, b10, b11, b12) h9 hm)) (a1, a2, a3, a4, a5, a6, a7, a8, a9, a10, a11, a12) h
theorem lp13 {A1 A2 A3 A4 A5 A6 A7 A8 A9 A10 A11 A12 A13 : Type} (W : Nat → A1 → A2 → A3 → A4 → A5 → A6 → A7 → A8 → A9 → A10 → A11 → A12 → A13 → Prop) (I : A1 → A2 → A3 → A4 → A5 → A6 → A7 → A8 → A9 → A10 → A11 → A12 → A13 → Prop) (μ : A1 → A2 → A3 → A4 → A5 → A6 → A7 → A8 → A9 → A10 → A11 → A12 → A13 → Nat) (hs : ∀ (n : Nat) (a1 : A1) (a2 : A2) (a3 : A3) (a4 : A4) (a5 : A5) (a6 : A6) (a7 : A7) (a8 : A8) (a9 : A9) (a10 : A10) (a11 : A11) (a12 : A12) (a13 : A13), I a1 a2 a3 a4 a5 a6 a7 a8 a9 a10 a11 a12 a13 → (∀ (b1 : A1) (b2 : A2) (b3 : A3) (b4 : A4) (b5 : A5) (b6 : A6) (b7 : A7) (b8 : A8) (b9 : A9) (b10 : A10) (b11 : A11) (b12 : A12) (b13 : A13), I b1 b2 b3 b4 b5 b6 b7 b8 b9 b10 b11 b12 b13 → μ b1 b2 b3 b4 b5 b6 b7 b8 b9 b10 b11 b12 b13 < μ a1 a2 a3 a4 a5 a6 a7 a8 a9 a10 a11 a12 a13 → W n b1 b2 b3 b4 b5 b6 b7 b8 b9 b10 b11 b12 b13) → W (n + 1) a1 a2 a3 a4 a5 a6 a7 a8 a9 a10 a11 a12 a13) (a1 : A1) (a2 : A2) (a3 : A3) (a4 : A4) (a5 : A5) (a6 : A6) (a7 : A7) (a8 : A8) (a9 : A9) (a10 : A10) (a11 : A11) (a12 : A12) (a13 : A13) (h : I a1 a2 a3 a4 a5 a6 a7 a8 a9 a10 a11 a12 a13) : ∃ n, W n a1 a2 a3 a4 a5 a6 a7 a8 a9 a10 a11 a12 a13 :=
  loop_m (σ := A1 × A2 × A3 × A4 × A5 × A6 × A7 × A8 × A9 × A10 × A11 × A12 × A13) (fun n s => W n s.1 s.2.1 s.2.2.1 s.2.2.2.1 s.2.2.2.2.1 s.2.2.2.2.2.1 s.2.2.2.2.2.2.1 s.2.2.2.2.2.2.2.1 s.2.2.2.2.2.2.2.2.1 s.2.2.2.2.2.2.2.2.2.1 s.2.2.2.2.2.2.2.2.2.2.1 s.2.2.2.2.2.2.2.2.2.2.2.1 s.2.2.2.2.2.2.2.2.2.2.2.2) (fun s => I s.1 s.2.1 s.2.2.1 s.2.2.2.1 s.2.2.2.2.1 s.2.2.2.2.2.1 s.2.2.2.2.2.2.1 s.2.2.2.2.2.2.2.1 s.2.2.2.2.2.2.2.2.1 s.2.2.2.2.2.2.2.2.2.1 s.2.2.2.2.2.2.2.2.2.2.1 s.2.2.2.2.2.2.2.2.2.2.2.1 s.2.2.2.2.2.2.2.2.2.2.2.2) (fun s => μ s.1 s.2.1 s.2.2.1 s.2.2.2.1 s.2.2.2.2.1 s.2.2.2.2.2.1 s.2.2.2.2.2.2.1 s.2.2.2.2.2.2.2.1 s.2.2.2.2.2.2.2.2.1 s.2.2.2.2.2.2.2.2.2.1 s.2.2.2.2.2.2.2.2.2.2.1 s.2.2.2.2.2.2.2.2.2.2.2.1 s.2.2.2.2.2.2.2.2.2.2.2.2) (fun n s hI hk => hs n s.1 s.2.1 s.2.2.1 s.2.2.2.1 s.2.2.2.2.1 s.2.2.2.2.2.1 s.2.2.2.2.2.2.1 s.2.2.2.2.2.2.2.1 s.2.2.2.2.2.2.2.2.1 s.2.2.2.2.2.2.2.2.2.1 s.2.2.2.2.2.2.2.2.2.2.1 s.2.2.2.2.2.2.2.2.2.2.2.1 s.2.2.2.2.2.2.2.2.2.2.2.2 hI (fun b1 b2 b3 b4 b5 b6 b7 b8 b9 b10 b11 b12 b13 h9 hm => hk (b1, b2, b3, b4, b5, b6, b7, b8, b9, b10, b11, b12, b13) h9 hm)) (a1, a2, a3, a4, a5, a6, a7, a8, a9, a10, a11, a12, a13) h
theorem lp14 {A1 A2 A3 A4 A5 A6 A7 A8 A9 A10 A11 A12 A13 A14 : Type} (W : Nat → A1 → A2 → A3 → A4 → A5 → A6 → A7 → A8 → A9 → A10 → A11 → A12 → A13 → A14 → Prop) (I : A1 → A2 → A3 → A4 → A5 → A6 → A7 → A8 → A9 → A10 → A11 → A12 → A13 → A14 → Prop) (μ : A1 → A2 → A3 → A4 → A5 → A6 → A7 → A8 → A9 → A10 → A11 → A12 → A13 → A14 → Nat) (hs : ∀ (n : Nat) (a1 : A1) (a2 : A2) (a3 : A3) (a4 : A4) (a5 : A5) (a6 : A6) (a7 : A7) (a8 : A8) (a9 : A9) (a10 : A10) (a11 : A11) (a12 : A12) (a13 : A13) (a14 : A14), I a1 a2 a3 a4 a5 a6 a7 a8 a9 a10 a11 a12 a13 a14 → (∀ (b1 : A1) (b2 : A2) (b3 : A3) (b4 : A4) (b5 : A5) (b6 : A6) (b7 : A7) (b8 : A8) (b9 : A9) (b10 : A10) (b11 : A11) (b12 : A12) (b13 : A13) (b14 : A14), I b1 b2 b3 b4 b5 b6 b7 b8 b9 b10 b11 b12 b13 b14 → μ b1 b2 b3 b4 b5 b6 b7 b8 b9 b10 b11 b12 b13 b14 < μ a1 a2 a3 a4 a5 a6 a7 a8 a9 a10 a11 a12 a13 a14 → W n b1 b2 b3 b4 b5 b6 b7 b8 b9 b10 b11 b12 b13 b14) → W (n + 1) a1 a2 a3 a4 a5 a6 a7 a8 a9 a10 a11 a12 a13 a14) (a1 : A1) (a2 : A2) (a3 : A3) (a4 : A4) (a5 : A5) (a6 : A6) (a7 : A7) (a8 : A8) (a9 : A9) (a10 : A10) (a11 : A11) (a12 : A12) (a13 : A13) (a14 : A14) (h : I a1 a2 a3 a4 a5 a6 a7 a8 a9 a10 a11 a12 a13 a14) : ∃ n, W n a1 a2 a3 a4 a5 a6 a7 a8 a9 a10 a11 a12 a13 a14 :=
  loop_m (σ := A1 × A2 × A3 × A4 × A5 × A6 × A7 × A8 × A9 × A10 × A11 × A12 × A13 × A14) (fun n s => W n s.1 s.2.1 s.2.2.1 s.2.2.2.1 s.2.2.2.2.1 s.2.2.2.2.2.1 s.2.2.2.2.2.2.1 s.2.2.2.2.2.2.2.1 s.2.2.2.2.2.2.2.2.1 s.2.2.2.2.2.2.2.2.2.1 s.2.2.2.2.2.2.2.2.2.2.1 s.2.2.2.2.2.2.2.2.2.2.2.1 s.2.2.2.2.2.2.2.2.2.2.2.2.1 s.2.2.2.2.2.2.2.2.2.2.2.2.2) (fun s => I s.1 s.2.1 s.2.2.1 s.2.2.2.1 s.2.2.2.2.1 s.2.2.2.2.2.1 s.2.2.2.2.2.2.1 s.2.2.2.2.2.2.2.1 s.2.2.2.2.2.2.2.2.1 s.2.2.2.2.2.2.2.2.2.1 s.2.2.2.2.2.2.2.2.2.2.1 s.2.2.2.2.2.2.2.2.2.2.2.1 s.2.2.2.2.2.2.2.2.2.2.2.2.1 s.2.2.2.2.2.2.2.2.2.2.2.2.2) (fun s => μ s.1 s.2.1 s.2.2.1 s.2.2.2.1 s.2.2.2.2.1 s.2.2.2.2.2.1 s.2.2.2.2.2.2.1 s.2.2.2.2.2.2.2.1 s.2.2.2.2.2.2.2.2.1 s.2.2.2.2.2.2.2.2.2.1 s.2.2.2.2.2.2.2.2.2.2.1 s.2.2.2.2.2.2.2.2.2.2.2.1 s.2.2.2.2.2.2.2.2.2.2.2.2.1 s.2.2.2.2.2.2.2.2.2.2.2.2.2) (fun n s hI hk => hs n s.1 s.2.1 s.2.2.1 s.2.2.2.1 s.2.2.2.2.1 s.2.2.2.2.2.1 s.2.2.2.2.2.2.1 s.2.2.2.2.2.2.2.1 s.2.2.2.2.2.2.2.2.1 s.2.2.2.2.2.2.2.2.2.1 s.2.2.2.2.2.2.2.2.2.2.1 s.2.2.2.2.2.2.2.2.2.2.2.1 s.2.2.2.2.2.2.2.2.2.2.2.2.1 s.2.2.2.2.2.2.2.2.2.2.2.2.2 hI (fun b1 b2 b3 b4 b5 b6 b7 b8 b9 b10 b11 b12 b13 b14 h9 hm => hk (b1, b2, b3, b4, b5, b6, b7, b8, b9, b10, b11, b12, b13, b14) h9 hm)) (a1, a2, a3, a4, a5, a6, a7, a8, a9, a10, a11, a12, a13, a14) h
theorem lp15 {A1 A2 A3 A4 A5 A6 A7 A8 A9 A10 A11 A12 A13 A14 A15 : Type} (W : Nat → A1 → A2 → A3 → A4 → A5 → A6 → A7 → A8 → A9 → A10 → A11 → A12 → A13 → A14 → A15 → Prop) (I : A1 → A2 → A3 → A4 → A5 → A6 → A7 → A8 → A9 → A10 → A11 → A12 → A13 → A14 → A15 → Prop) (μ : A1 → A2 → A3 → A4 → A5 → A6 → A7 → A8 → A9 → A10 → A11 → A12 → A13 → A14 → A15 → Nat) (hs : ∀ (n : Nat) (a1 : A1) (a2 : A2) (a3 : A3) (a4 : A4) (a5 : A5) (a6 : A6) (a7 : A7) (a8 : A8) (a9 : A9) (a10 : A10) (a11 : A11) (a12 : A12) (a13 : A13) (a14 : A14) (a15 : A15), I a1 a2 a3 a4 a5 a6 a7 a8 a9 a10 a11 a12 a13 a14 a15 → (∀ (b1 : A1) (b2 : A2) (b3 : A3) (b4 : A4) (b5 : A5) (b6 : A6) (b7 : A7) (b8 : A8) (b9 : A9) (b10 : A10) (b11 : A11) (b12 : A12) (b13 : A13) (b14 : A14) (b15 : A15), I b1 b2 b3 b4 b5 b6 b7 b8 b9 b10 b11 b12 b13 b14 b15 → μ b1 b2 b3 b4 b5 b6 b7 b8 b9 b10 b11 b12 b13 b14 b15 < μ a1 a2 a3 a4 a5 a6 a7 a8 a9 a10 a11 a12 a13 a14 a15 → W n b1 b2 b3 b4 b5 b6 b7 b8 b9 b10 b11 b12 b13 b14 b15) → W (n + 1) a1 a2 a3 a4 a5 a6 a7 a8 a9 a10 a11 a12 a13 a14 a15) (a1 : A1) (a2 : A2) (a3 : A3) (a4 : A4) (a5 : A5) (a6 : A6) (a7 : A7) (a8 : A8) (a9 : A9) (a10 : A10) (a11 : A11) (a12 : A12) (a13 : A13) (a14 : A14) (a15 : A15) (h : I a1 a2 a3 a4 a5 a6 a7 a8 a9 a10 a11 a12 a13 a14 a15) : ∃ n, W n a1 a2 a3 a4 a5 a6 a7 a8 a9 a10 a11 a12 a13 a14 a15 :=
  loop_m (σ := A1 × A2 × A3 × A4 × A5 × A6 × A7 × A8 × A9 × A10 × A11 × A12 × A13 × A14 × A15) (fun n s => W n s.1 s.2.1 s.2.2.1 s.2.2.2.1 s.2.2.2.2.1 s.2.2.2.2.2.1 s.2.2.2.2.2.2.1 s.2.2.2.2.2.2.2.1 s.2.2.2.2.2.2.2.2.1 s.2.2.2.2.2.2.2.2.2.1 s.2.2.2.2.2.2.2.2.2.2.1 s.2.2.2.2.2.2.2.2.2.2.2.1 s.2.2.2.2.2.2.2.2.2.2.2.2.1 s.2.2.2.2.2.2.2.2.2.2.2.2.2.1 s.2.2.2.2.2.2.2.2.2.2.2.2.2.2) (fun s => I s.1 s.2.1 s.2.2.1 s.2.2.2.1 s.2.2.2.2.1 s.2.2.2.2.2.1 s.2.2.2.2.2.2.1 s.2.2.2.2.2.2.2.1 s.2.2.2.2.2.2.2.2.1 s.2.2.2.2.2.2.2.2.2.1 s.2.2.2.2.2.2.2.2.2.2.1 s.2.2.2.2.2.2.2.2.2.2.2.1 s.2.2.2.2.2.2.2.2.2.2.2.2.1 s.2.2.2.2.2.2.2.2.2.2.2.2.2.1 s.2.2.2.2.2.2.2.2.2.2.2.2.2.2) (fun s => μ s.1 s.2.1 s.2.2.1 s.2.2.2.1 s.2.2.2.2.1 s.2.2.2.2.2.1 s.2.2.2.2.2.2.1 s.2.2.2.2.2.2.2.1 s.2.2.2.2.2.2.2.2.1 s.2.2.2.2.2.2.2.2.2.1 s.2.2.2.2.2.2.2.2.2.2.1 s.2.2.2.2.2.2.2.2.2.2.2.1 s.2.2.2.2.2.2.2.2.2.2.2.2.1 s.2.2.2.2.2.2.2.2.2.2.2.2.2.1 s.2.2.2.2.2.2.2.2.2.2.2.2.2.2) (fun n s hI hk => hs n s.1 s.2.1 s.2.2.1 s.2.2.2.1 s.2.2.2.2.1 s.2.2.2.2.2.1 s.2.2.2.2.2.2.1 s.2.2.2.2.2.2.2.1 s.2.2.2.2.2.2.2.2.1 s.2.2.2.2.2.2.2.2.2.1 s.2.2.2.2.2.2.2.2.2.2.1 s.2.2.2.2.2.2.2.2.2.2.2.1 s.2.2.2.2.2.2.2.2.2.2.2.2.1 s.2.2.2.2.2.2.2.2.2.2.2.2.2.1 s.2.2.2.2.2.2.2.2.2.2.2.2.2.2 hI (fun b1 b2 b3 b4 b5 b6 b7 b8 b9 b10 b11 b12 b13 b14 b15 h9 hm => hk (b1, b2, b3, b4, b5, b6, b7, b8, b9, b10, b11, b12, b13, b14, b15) h9 hm)) (a1, a2, a3, a4, a5, a6, a7, a8, a9, a10, a11, a12, a13, a14, a15) h
theorem lp16 {A1 A2 A3 A4 A5 A6 A7 A8 A9 A10 A11 A12 A13 A14 A15 A16 : Type} (W : Nat → A1 → A2 → A3 → A4 → A5 → A6 → A7 → A8 → A9 → A10 → A11 → A12 → A13 → A14 → A15 → A16 → Prop) (I : A1 → A2 → A3 → A4 → A5 → A6 → A7 → A8 → A9 → A10 → A11 → A12 → A13 → A14 → A15 → A16 → Prop) (μ : A1 → A2 → A3 → A4 → A5 → A6 → A7 → A8 → A9 → A10 → A11 → A12 → A13 → A14 → A15 → A16 → Nat) (hs : ∀ (n : Nat) (a1 : A1) (a2 : A2) (a3 : A3) (a4 : A4) (a5 : A5) (a6 : A6) (a7 : A7) (a8 : A8) (a9 : A9) (a10 : A10) (a11 : A11) (a12 : A12) (a13 : A13) (a14 : A14) (a15 : A15) (a16 : A16), I a1 a2 a3 a4 a5 a6 a7 a8 a9 a10 a11 a12 a13 a14 a15 a16 → (∀ (b1 : A1) (b2 : A2) (b3 : A3) (b4 : A4) (b5 : A5) (b6 : A6) (b7 : A7) (b8 : A8) (b9 : A9) (b10 : A10) (b11 : A11) (b12 : A12) (b13 : A13) (b14 : A14) (b15 : A15) (b16 : A16), I b1 b2 b3 b4 b5 b6 b7 b8 b9 b10 b11 b12 b13 b14 b15 b16 → μ b1 b2 b3 b4 b5 b6 b7 b8 b9 b10 b11 b12 b13 b14 b15 b16 < μ a1 a2 a3 a4 a5 a6 a7 a8 a9 a10 a11 a12 a13 a14 a15 a16 → W n b1 b2 b3 b4 b5 b6 b7 b8 b9 b10 b11 b12 b13 b14 b15 b16) → W (n + 1) a1 a2 a3 a4 a5 a6 a7 a8 a9 a10 a11 a12 a13 a14 a15 a16) (a1 : A1) (a2 : A2) (a3 : A3) (a4 : A4) (a5 : A5) (a6 : A6) (a7 : A7) (a8 : A8) (a9 : A9) (a10 : A10) (a11 : A11) (a12 : A12) (a13 : A13) (a14 : A14) (a15 : A15) (a16 : A16) (h : I a1 a2 a3 a4 a5 a6 a7 a8 a9 a10 a11 a12 a13 a14 a15 a16) : ∃ n, W n a1 a2 a3 a4 a5 a6 a7 a8 a9 a10 a11 a12 a13 a14 a15 a16 :=
  loop_m (σ := A1 × A2 × A3 × A4 × A5 × A6 × A7 × A8 × A9 × A10 × A11 × A12 × A13 × A14 × A15 × A16) (fun n s => W n s.1 s.2.1 s.2.2.1 s.2.2.2.1 s.2.2.2.2.1 s.2.2.2.2.2.1 s.2.2.2.2.2.2.1 s.2.2.2.2.2.2.2.1 s.2.2.2.2.2.2.2.2.1 s.2.2.2.2.2.2.2.2.2.1 s.2.2.2.2.2.2.2.2.2.2.1 s.2.2.2.2.2.2.2.2.2.2.2.1 s.2.2.2.2.2.2.2.2.2.2.2.2.1 s.2.2.2.2.2.2.2.2.2.2.2.2.2.1 s.2.2.2.2.2.2.2.2.2.2.2.2.2.2.1 s.2.2.2.2.2.2.2.2.2.2.2.2.2.2.2) (fun s => I s.1 s.2.1 s.2.2.1 s.2.2.2.1 s.2.2.2.2.1 s.2.2.2.2.2.1 s.2.2.2.2.2.2.1 s.2.2.2.2.2.2.2.1 s.2.2.2.2.2.2.2.2.1 s.2.2.2.2.2.2.2.2.2.1 s.2.2.2.2.2.2.2.2.2.2.1 s.2.2.2.2.2.2.2.2.2.2.2.1 s.2.2.2.2.2.2.2.2.2.2.2.2.1 s.2.2.2.2.2.2.2.2.2.2.2.2.2.1 s.2.2.2.2.2.2.2.2.2.2.2.2.2.2.1 s.2.2.2.2.2.2.2.2.2.2.2.2.2.2.2) (fun s => μ s.1 s.2.1 s.2.2.1 s.2.2.2.1 s.2.2.2.2.1 s.2.2.2.2.2.1 s.2.2.2.2.2.2.1 s.2.2.2.2.2.2.2.1 s.2.2.2.2.2.2.2.2.1 s.2.2.2.2.2.2.2.2.2.1 s.2.2.2.2.2.2.2.2.2.2.1 s.2.2.2.2.2.2.2.2.2.2.2.1 s.2.2.2.2.2.2.2.2.2.2.2.2.1 s.2.2.2.2.2.2.2.2.2.2.2.2.2.1 s.2.2.2.2.2.2.2.2.2.2.2.2.2.2.1 s.2.2.2.2.2.2.2.2.2.2.2.2.2.2.2) (fun n s hI hk => hs n s.1 s.2.1 s.2.2.1 s.2.2.2.1 s.2.2.2.2.1 s.2.2.2.2.2.1 s.2.2.2.2.2.2.1 s.2.2.2.2.2.2.2.1 s.2.2.2.2.2.2.2.2.1 s.2.2.2.2.2.2.2.2.2.1 s.2.2.2.2.2.2.2.2.2.2.1 s.2.2.2.2.2.2.2.2.2.2.2.1 s.2.2.2.2.2.2.2.2.2.2.2.2.1 s.2.2.2.2.2.2.2.2.2.2.2.2.2.1 s.2.2.2.2.2.2.2.2.2.2.2.2.2.2.1 s.2.2.2.2.2.2.2.2.2.2.2.2.2.2.2 hI (fun b1 b2 b3 b4 b5 b6 b7 b8 b9 b10 b11 b12 b13 b14 b15 b16 h9 hm => hk (b1, b2, b3, b4, b5, b6, b7, b8, b9, b10, b11, b12, b13, b14, b15, b16) h9 hm)) (a1, a2, a3, a4, a5, a6, a7, a8, a9, a10, a11, a12, a13, a14, a15, a16) h
theorem pk_least (P : Nat → Prop) (h : ∃ k, P k) : ∃ k, P k ∧ ∀ j, j < k → ¬ P j := by
  obtain ⟨k, hk⟩ := h
  induction k using Nat.strongRecOn with
  | ind k ih =>
    by_cases e : ∃ j, j < k ∧ P j
    · obtain ⟨j, hj, pj⟩ := e
      exact ih j hj pj
    · exact ⟨k, hk, fun j hj pj => e ⟨j, hj, pj⟩⟩
theorem rp1 {ρ A1 : Type} (W : Nat → (ρ → Prop) → A1 → Prop) (ok : A1 → Prop) (μ : A1 → Nat) (val : A1 → ρ)
    (hs : ∀ (d : Nat) (post : ρ → Prop) (a1 : A1), ok a1 → post (val a1) → (∀ (post' : ρ → Prop) (b1 : A1), ok b1 → μ b1 < μ a1 → post' (val b1) → W d post' b1) → W (d + 1) post a1) :
    ∀ (d : Nat) (post : ρ → Prop) (a1 : A1), ok a1 → μ a1 < d → post (val a1) → W d post a1 := by
  intro d
  induction d with
  | zero => intro post a1 _ h; omega
  | succ d ih =>
    intro post a1 ho hm hp
    exact hs d post a1 ho hp (fun post' b1 ho' hm' hp' => ih post' b1 ho' (by omega) hp')
theorem rp2 {ρ A1 A2 : Type} (W : Nat → (ρ → Prop) → A1 → A2 → Prop) (ok : A1 → A2 → Prop) (μ : A1 → A2 → Nat) (val : A1 → A2 → ρ)
    (hs : ∀ (d : Nat) (post : ρ → Prop) (a1 : A1) (a2 : A2), ok a1 a2 → post (val a1 a2) → (∀ (post' : ρ → Prop) (b1 : A1) (b2 : A2), ok b1 b2 → μ b1 b2 < μ a1 a2 → post' (val b1 b2) → W d post' b1 b2) → W (d + 1) post a1 a2) :
    ∀ (d : Nat) (post : ρ → Prop) (a1 : A1) (a2 : A2), ok a1 a2 → μ a1 a2 < d → post (val a1 a2) → W d post a1 a2 := by
  intro d
  induction d with
  | zero => intro post a1 a2 _ h; omega
  | succ d ih =>
    intro post a1 a2 ho hm hp
    exact hs d post a1 a2 ho hp (fun post' b1 b2 ho' hm' hp' => ih post' b1 b2 ho' (by omega) hp')
theorem rp3 {ρ A1 A2 A3 : Type} (W : Nat → (ρ → Prop) → A1 → A2 → A3 → Prop) (ok : A1 → A2 → A3 → Prop) (μ : A1 → A2 → A3 → Nat) (val : A1 → A2 → A3 → ρ)
    (hs : ∀ (d : Nat) (post : ρ → Prop) (a1 : A1) (a2 : A2) (a3 : A3), ok a1 a2 a3 → post (val a1 a2 a3) → (∀ (post' : ρ → Prop) (b1 : A1) (b2 : A2) (b3 : A3), ok b1 b2 b3 → μ b1 b2 b3 < μ a1 a2 a3 → post' (val b1 b2 b3) → W d post' b1 b2 b3) → W (d + 1) post a1 a2 a3) :
    ∀ (d : Nat) (post : ρ → Prop) (a1 : A1) (a2 : A2) (a3 : A3), ok a1 a2 a3 → μ a1 a2 a3 < d → post (val a1 a2 a3) → W d post a1 a2 a3 := by
  intro d
  induction d with
  | zero => intro post a1 a2 a3 _ h; omega
  | succ d ih =>
    intro post a1 a2 a3 ho hm hp
    exact hs d post a1 a2 a3 ho hp (fun post' b1 b2 b3 ho' hm' hp' => ih post' b1 b2 b3 ho' (by omega) hp')
theorem rp4 {ρ A1 A2 A3 A4 : Type} (W : Nat → (ρ → Prop) → A1 → A2 → A3 → A4 → Prop) (ok : A1 → A2 → A3 → A4 → Prop) (μ : A1 → A2 → A3 → A4 → Nat) (val : A1 → A2 → A3 → A4 → ρ)
    (hs : ∀ (d : Nat) (post : ρ → Prop) (a1 : A1) (a2 : A2) (a3 : A3) (a4 : A4), ok a1 a2 a3 a4 → post (val a1 a2 a3 a4) → (∀ (post' : ρ → Prop) (b1 : A1) (b2 : A2) (b3 : A3) (b4 : A4), ok b1 b2 b3 b4 → μ b1 b2 b3 b4 < μ a1 a2 a3 a4 → post' (val b1 b2 b3 b4) → W d post' b1 b2 b3 b4) → W (d + 1) post a1 a2 a3 a4) :
    ∀ (d : Nat) (post : ρ → Prop) (a1 : A1) (a2 : A2) (a3 : A3) (a4 : A4), ok a1 a2 a3 a4 → μ a1 a2 a3 a4 < d → post (val a1 a2 a3 a4) → W d post a1 a2 a3 a4 := by
  intro d
  induction d with
  | zero => intro post a1 a2 a3 a4 _ h; omega
  | succ d ih =>
    intro post a1 a2 a3 a4 ho hm hp
    exact hs d post a1 a2 a3 a4 ho hp (fun post' b1 b2 b3 b4 ho' hm' hp' => ih post' b1 b2 b3 b4 ho' (by omega) hp')
theorem rp5 {ρ A1 A2 A3 A4 A5 : Type} (W : Nat → (ρ → Prop) → A1 → A2 → A3 → A4 → A5 → Prop) (ok : A1 → A2 → A3 → A4 → A5 → Prop) (μ : A1 → A2 → A3 → A4 → A5 → Nat) (val : A1 → A2 → A3 → A4 → A5 → ρ)
    (hs : ∀ (d : Nat) (post : ρ → Prop) (a1 : A1) (a2 : A2) (a3 : A3) (a4 : A4) (a5 : A5), ok a1 a2 a3 a4 a5 → post (val a1 a2 a3 a4 a5) → (∀ (post' : ρ → Prop) (b1 : A1) (b2 : A2) (b3 : A3) (b4 : A4) (b5 : A5), ok b1 b2 b3 b4 b5 → μ b1 b2 b3 b4 b5 < μ a1 a2 a3 a4 a5 → post' (val b1 b2 b3 b4 b5) → W d post' b1 b2 b3 b4 b5) → W (d + 1) post a1 a2 a3 a4 a5) :
    ∀ (d : Nat) (post : ρ → Prop) (a1 : A1) (a2 : A2) (a3 : A3) (a4 : A4) (a5 : A5), ok a1 a2 a3 a4 a5 → μ a1 a2 a3 a4 a5 < d → post (val a1 a2 a3 a4 a5) → W d post a1 a2 a3 a4 a5 := by
  intro d
  induction d with
  | zero => intro post a1 a2 a3 a4 a5 _ h; omega
  | succ d ih =>
    intro post a1 a2 a3 a4 a5 ho hm hp
    exact hs d post a1 a2 a3 a4 a5 ho hp (fun post' b1 b2 b3 b4 b5 ho' hm' hp' => ih post' b1 b2 b3 b4 b5 ho' (by omega) hp')
theorem rp6 {ρ A1 A2 A3 A4 A5 A6 : Type} (W : Nat → (ρ → Prop) → A1 → A2 → A3 → A4 → A5 → A6 → Prop) (ok : A1 → A2 → A3 → A4 → A5 → A6 → Prop) (μ : A1 → A2 → A3 → A4 → A5 → A6 → Nat) (val : A1 → A2 → A3 → A4 → A5 → A6 → ρ)
    (hs : ∀ (d : Nat) (post : ρ → Prop) (a1 : A1) (a2 : A2) (a3 : A3) (a4 : A4) (a5 : A5) (a6 : A6), ok a1 a2 a3 a4 a5 a6 → post (val a1 a2 a3 a4 a5 a6) → (∀ (post' : ρ → Prop) (b1 : A1) (b2 : A2) (b3 : A3) (b4 : A4) (b5 : A5) (b6 : A6), ok b1 b2 b3 b4 b5 b6 → μ b1 b2 b3 b4 b5 b6 < μ a1 a2 a3 a4 a5 a6 → post' (val b1 b2 b3 b4 b5 b6) → W d post' b1 b2 b3 b4 b5 b6) → W (d + 1) post a1 a2 a3 a4 a5 a6) :
    ∀ (d : Nat) (post : ρ → Prop) (a1 : A1) (a2 : A2) (a3 : A3) (a4 : A4) (a5 : A5) (a6 : A6), ok a1 a2 a3 a4 a5 a6 → μ a1 a2 a3 a4 a5 a6 < d → post (val a1 a2 a3 a4 a5 a6) → W d post a1 a2 a3 a4 a5 a6 := by
  intro d
  induction d with
  | zero => intro post a1 a2 a3 a4 a5 a6 _ h; omega
  | succ d ih =>
    intro post a1 a2 a3 a4 a5 a6 ho hm hp
    exact hs d post a1 a2 a3 a4 a5 a6 ho hp (fun post' b1 b2 b3 b4 b5 b6 ho' hm' hp' => ih post' b1 b2 b3 b4 b5 b6 ho' (by omega) hp')
theorem rec_p {σ ρ : Type} (W : Nat → (ρ → Prop) → σ → Prop) (ok : σ → Prop) (μ : σ → Nat) (val : σ → ρ)
    (hs : ∀ d s post, ok s → post (val s) → (∀ s' post', ok s' → μ s' < μ s → post' (val s') → W d post' s') → W (d + 1) post s) :
    ∀ d s post, ok s → μ s < d → post (val s) → W d post s := by
  intro d
  induction d with
  | zero => intro s post _ h; omega
  | succ d ih =>
    intro s post ho hm hp
    exact hs d s post ho hp (fun s' post' ho' hm' hp' => ih s' post' ho' (by omega) hp')
theorem rec_q {σ ρ : Type} (W : Nat → (ρ → Prop) → σ → Prop) (ok : σ → Prop) (μ : σ → Nat) (Q : σ → ρ → Prop)
    (hs : ∀ d s post, ok s → (∀ r, Q s r → post r) → (∀ s' post', ok s' → μ s' < μ s → (∀ r, Q s' r → post' r) → W d post' s') → W (d + 1) post s) :
    ∀ d s post, ok s → μ s < d → (∀ r, Q s r → post r) → W d post s := by
  intro d
  induction d with
  | zero => intro s post _ h; omega
  | succ d ih =>
    intro s post ho hm hp
    exact hs d s post ho hp (fun s' post' ho' hm' hp' => ih s' post' ho' (by omega) hp')
def bx_sum (f : Nat → Int32) : Nat → Int32
  | 0 => 0
  | n + 1 => bx_sum f n + f n
theorem ek_u {A : Prop} {B : Nat → Prop} {k N : Nat} (hk : k < N) (h : B k) : (some k = none → A) ∧ (∀ y : Nat, some k = some y → (y < N ∧ B y)) :=
  ⟨fun z => absurd z (Option.some_ne_none k), fun _ e => (by cases e; exact ⟨hk, h⟩)⟩
theorem ek_nu {A : Prop} {B : Nat → Prop} (h : A) : ((none : Option Nat) = none → A) ∧ (∀ y : Nat, (none : Option Nat) = some y → B y) :=
  ⟨fun _ => h, fun _ e => (by cases e)⟩
theorem ek_if {c d A B : Prop} (e : c ↔ d) (f : d → A) (g : ¬ d → B) : (c → A) ∧ (¬ c → B) :=
  ⟨fun z => f (e.mp z), fun z => g (fun y => z (e.mpr y))⟩
theorem ek_v {α : Sort _} {P : α → Prop} {a b : α} (e : a = b) (h : P b) : P a := e ▸ h
theorem co_some {x : Option Nat} {A : Prop} {B : Nat → Prop} (i : Nat) (h : B i) (hx : x = some i := by rfl) : (x = none → A) ∧ (∀ y : Nat, x = some y → B y) := by
  subst hx
  exact ⟨fun e => (nomatch e), fun y e => Option.some.inj e ▸ h⟩
theorem co_none {x : Option Nat} {A : Prop} {B : Nat → Prop} (h : A) (hx : x = none := by rfl) : (x = none → A) ∧ (∀ y : Nat, x = some y → B y) := by
  subst hx
  exact ⟨fun _ => h, fun y e => (nomatch e)⟩
theorem co_any {x : Option Nat} {A : Prop} {B : Nat → Prop} (hn : x = none → A) (hs : ∀ i : Nat, x = some i → B i) : (x = none → A) ∧ (∀ y : Nat, x = some y → B y) := ⟨hn, hs⟩
theorem co_2 {P : Nat → Prop} (h0 : P 0) (h1 : P 1) {i : Nat} (hi : i < 2) : P i :=
  match i, hi with
  | 0, _ => h0
  | 1, _ => h1
theorem co_3 {P : Nat → Prop} (h0 : P 0) (h1 : P 1) (h2 : P 2) {i : Nat} (hi : i < 3) : P i :=
  match i, hi with
  | 0, _ => h0
  | 1, _ => h1
  | 2, _ => h2
theorem co_4 {P : Nat → Prop} (h0 : P 0) (h1 : P 1) (h2 : P 2) (h3 : P 3) {i : Nat} (hi : i < 4) : P i :=
  match i, hi with
  | 0, _ => h0
  | 1, _ => h1
  | 2, _ => h2
  | 3, _ => h3
theorem co_dec {N : Nat} {P : Nat → Prop} [DecidablePred P] (h : (List.range N).all (fun i => decide (P i)) = true) {i : Nat} (hi : i < N) : P i := by
  have := List.all_eq_true.mp h i (List.mem_range.mpr hi)
  exact of_decide_eq_true this
theorem co_tab {α : Type} {l : List α} {d : α} {P : α → Prop} (h : ∀ a, a ∈ l → P a) {i : Nat} (hi : i < l.length) : P (l.getD i d) := by
  rw [List.getD_eq_getElem?_getD, List.getElem?_eq_getElem hi]
  exact h _ (List.getElem_mem hi)
theorem pk_mu {x : Int32} {L : Nat} (h0 : ¬ x < 0) (h : ¬ nI L ≤ x) (hL : L < 2 ^ 31) : ∃ j : Nat, j < L ∧ x = nI j ∧ x + 1 = nI (j + 1) ∧ x.toNatClampNeg = j ∧ L - (x + 1).toNatClampNeg < L - x.toNatClampNeg := by
  obtain ⟨j, hj, rfl⟩ := nI_of h0
  have hl : j < L := Nat.not_le.mp fun q => h (nI_le q hj)
  refine ⟨j, hl, rfl, nI_1 j, nI_clamp hj, ?_⟩
  rw [nI_1, nI_clamp (by omega), nI_clamp hj]
  omega
theorem op_s {α : Type} {r : Option α} {A : Prop} {B : α → Prop} {y : α} (h : r = some y) (b : B y) : (r = none → A) ∧ ∀ z, r = some z → B z :=
  ⟨fun e => (by rw [h] at e; cases e), fun z e => (by rw [h] at e; cases e; exact b)⟩
def l_holds {α : Type} (a : Nat → Option Nat) (LP : List Nat) (p : Nat → α) (c : Nat) (b : Nat → α) : Prop :=
  ∀ j, j < c → ∃ y, a j = some y ∧ y ∈ LP ∧ p y = b j
theorem l_holds_0 {α : Type} {a : Nat → Option Nat} {LP : List Nat} {p b : Nat → α} : l_holds a LP p 0 b := fun j h => absurd h (Nat.not_lt_zero j)
theorem l_in_new (LP : List Nat) (q : Nat) : q ∈ LP ++ [q] := List.mem_append.mpr (Or.inr (List.mem_singleton.mpr rfl))
def l_sum (b : Nat → Int32) : Nat → Int32
  | 0 => 0
  | k + 1 => l_sum b k + b k
theorem sb_shr0 (x : Int32) : x >>> ((0 : Int32) &&& 31) = x := by
  rw [show ((0 : Int32) &&& 31) = 0 by decide]
  simp
theorem sb_shl0 (x : Int32) : x <<< ((0 : Int32) &&& 31) = x := by
  rw [show ((0 : Int32) &&& 31) = 0 by decide]
  simp
theorem sb_cl0 : (0 : Int32).toNatClampNeg = 0 := by decide
theorem sb_m1 {p : Nat} (h : 0 < p) : nI p + (-1) = nI (p - 1) := by
  obtain ⟨q, rfl⟩ : ∃ q, p = q + 1 := ⟨p - 1, by omega⟩
  exact pk_m1 q
def sb_b (c : Nat) : Int32 := (nI c).toInt8.toInt32
theorem sb_byte : ∀ c, c < 256 → sb_b c &&& 255 = nI c ∧ ((nI c).toUInt32 % 65536).toInt32 = nI c ∧ nI c ≤ 255 := by decide +kernel
def sb_Fit (a : Nat → Int32) : Prop := ∀ j, fits .byte (.int (a j)) = true
def sb_Lat (t : Nat → Nat) (n : Nat) (a : Nat → Int32) : Prop := ∀ j, j < n → t j < 256 ∧ a j = sb_b (t j)
theorem sb_fitB (c : Nat) : fits .byte (.int (sb_b c)) = true := pk_fb _
theorem sb_fit0 : sb_Fit (fun _ => 0) := fun _ => by
  show fits .byte (.int 0) = true
  decide
theorem sb_fitU {a : Nat → Int32} {k : Nat} {x : Int32} (h : sb_Fit a) (hx : fits .byte (.int x) = true) : sb_Fit (upd a k x) := by
  intro j
  by_cases e : j = k
  · subst e
    rw [pk_us]
    exact hx
  · rw [pk_un e]
    exact h j
def sb_cat (t : Nat → Nat) (n : Nat) (s : Nat → Nat) : Nat → Nat := fun j => if j < n then t j else s (j - n)
theorem sb_cat_lo {t s : Nat → Nat} {n j : Nat} (h : j < n) : sb_cat t n s j = t j := if_pos h
theorem sb_cat_hi {t s : Nat → Nat} {n j : Nat} : sb_cat t n s (n + j) = s j := by
  show (if n + j < n then t (n + j) else s (n + j - n)) = s j
  rw [if_neg (by omega), Nat.add_sub_cancel_left]
theorem sb_latPut {t s : Nat → Nat} {n w : Nat} {a a' : Nat → Int32} (h : sb_Lat t n a) (hk : ∀ j, j < n → a' j = a j) (hs : ∀ i, i < w → s i < 256 ∧ a' (n + i) = sb_b (s i)) : sb_Lat (sb_cat t n s) (n + w) a' := by
  intro j hj
  by_cases e : j < n
  · rw [sb_cat_lo e, hk j e]
    exact h j e
  · obtain ⟨i, rfl⟩ : ∃ i, j = n + i := ⟨j - n, by omega⟩
    rw [sb_cat_hi]
    exact hs i (by omega)
theorem sb_latKeep {t : Nat → Nat} {n : Nat} {a a' : Nat → Int32} (h : sb_Lat t n a) (hk : ∀ j, j < n → a' j = a j) : sb_Lat t n a' := fun j hj => by
  rw [hk j hj]
  exact h j hj
def sb_cap (q m : Nat) : Nat := if q ≤ m then m else if 2 * m + 2 < q then q else 2 * m + 2
def sb_Room (q m mc ms : Nat) : Prop := q ≤ m ∨ (1 ≤ mc ∧ sb_cap q m ≤ ms ∧ sb_cap q m ≤ 65536)
theorem sb_cap_ge (q m : Nat) : q ≤ sb_cap q m := by
  unfold sb_cap
  split
  · omega
  · split <;> omega
theorem sb_cap_gem (q m : Nat) : m ≤ sb_cap q m := by
  unfold sb_cap
  split
  · omega
  · split <;> omega
theorem sb_cap_le {q m mc ms : Nat} (hm : m ≤ 65536) (hr : sb_Room q m mc ms) : sb_cap q m ≤ 65536 := by
  rcases hr with h | h
  · rw [sb_cap, if_pos h]
    exact hm
  · exact h.2.2
theorem sb_at {P : Int32 → Prop} {x y : Int32} (e : x = y) (h : P y) : P x := e ▸ h
def sb_dg (w : Nat) : Nat := if w < 10 then 1 else if w < 100 then 2 else if w < 1000 then 3 else if w < 10000 then 4 else if w < 100000 then 5 else if w < 1000000 then 6 else if w < 10000000 then 7 else if w < 100000000 then 8 else if w < 1000000000 then 9 else 10
def sb_dec (v : Nat) : Nat → Nat := fun i => 48 + v / 10 ^ (sb_dg v - 1 - i) % 10
theorem sb_dg_in (w : Nat) : 1 ≤ sb_dg w ∧ sb_dg w ≤ 10 := by
  unfold sb_dg
  constructor <;> (repeat' split) <;> omega
theorem sb_dg100 {w : Nat} (h : 100 ≤ w) (hw : w < 2 ^ 31) : sb_dg w = sb_dg (w / 100) + 2 := by
  rw [sb_dg, sb_dg, if_neg (show ¬ w < 10 by omega), if_neg (show ¬ w < 100 by omega)]
  by_cases h3 : w < 1000
  · rw [if_pos h3, if_pos (show w / 100 < 10 by omega)]
  rw [if_neg h3, if_neg (show ¬ w / 100 < 10 by omega)]
  by_cases h4 : w < 10000
  · rw [if_pos h4, if_pos (show w / 100 < 100 by omega)]
  rw [if_neg h4, if_neg (show ¬ w / 100 < 100 by omega)]
  by_cases h5 : w < 100000
  · rw [if_pos h5, if_pos (show w / 100 < 1000 by omega)]
  rw [if_neg h5, if_neg (show ¬ w / 100 < 1000 by omega)]
  by_cases h6 : w < 1000000
  · rw [if_pos h6, if_pos (show w / 100 < 10000 by omega)]
  rw [if_neg h6, if_neg (show ¬ w / 100 < 10000 by omega)]
  by_cases h7 : w < 10000000
  · rw [if_pos h7, if_pos (show w / 100 < 100000 by omega)]
  rw [if_neg h7, if_neg (show ¬ w / 100 < 100000 by omega)]
  by_cases h8 : w < 100000000
  · rw [if_pos h8, if_pos (show w / 100 < 1000000 by omega)]
  rw [if_neg h8, if_neg (show ¬ w / 100 < 1000000 by omega)]
  by_cases h9 : w < 1000000000
  · rw [if_pos h9, if_pos (show w / 100 < 10000000 by omega)]
  rw [if_neg h9, if_neg (show ¬ w / 100 < 10000000 by omega)]
  rw [if_pos (show w / 100 < 100000000 by omega)]
theorem sb_negT {w : Nat} (h : w < 2 ^ 31) : (-nI w).toInt = -(w : Int) := by
  rw [Int32.toInt_neg, nI_toInt h]
  exact Int.bmod_eq_of_le (by omega) (by omega)
theorem sb_nle {a b : Nat} (ha : a < 2 ^ 31) (hb : b < 2 ^ 31) : -nI a ≤ -nI b ↔ b ≤ a := by
  rw [Int32.le_iff_toInt_le, sb_negT ha, sb_negT hb]
  omega
theorem sb_nlt {a b : Nat} (ha : a < 2 ^ 31) (hb : b < 2 ^ 31) : -nI a < -nI b ↔ b < a := by
  rw [Int32.lt_iff_toInt_lt, sb_negT ha, sb_negT hb]
  omega
theorem sb_cmp {A B : Prop} {x : Int32} (v c : Nat) (f : c ≤ v → A) (g : v < c → B) (hv : v < 2 ^ 31) (hx : x = -nI c := by rfl) (hc : c < 2 ^ 31 := by omega) : (-nI v ≤ x → A) ∧ (¬ -nI v ≤ x → B) := by
  subst hx
  rw [sb_nle hv hc]
  exact ⟨f, fun z => g (by omega)⟩
theorem sb_ndiv {w : Nat} (hw : w < 2 ^ 31) : (-nI w) / 100 = -nI (w / 100) := by
  apply Int32.toInt_inj.mp
  have h100 : (100 : Int32).toInt = 100 := by decide
  rw [Int32.toInt_div, sb_negT hw, h100, sb_negT (by omega), Int.neg_tdiv, Int.tdiv_eq_ediv_of_nonneg (by omega), Int.bmod_eq_of_le (by omega) (by omega)]
  omega
theorem sb_nrem {w : Nat} (hw : w < 2 ^ 31) : (-nI (w / 100)) * 100 - (-nI w) = nI (w % 100) := by
  have h := pk_rem (a := w) (d := 100) hw (by decide) (by decide)
  rw [pk_div hw (by decide) (by decide)] at h
  rw [← h]
  show (-nI (w / 100)) * nI 100 - (-nI w) = nI w - nI (w / 100) * nI 100
  rw [Int32.neg_mul, Int32.sub_neg, Int32.add_comm, ← Int32.sub_eq_add_neg]
end
section
/-! packed frame states as naturals -/
section UT2
def ut_sz (N : Nat) : Nat := N % 16
def ut_pl (N r : Nat) : Nat := N / 16 ^ (r + 1) % 16
def ut_ss (N m : Nat) : Nat := N / 16 * 16 + m
def ut_sp (N r k : Nat) : Nat := N / 16 ^ (r + 2) * 16 ^ (r + 2) + k * 16 ^ (r + 1) + N % 16 ^ (r + 1)
theorem ut_c4 {P : Nat → Prop} (h0 : P 0) (h1 : P 1) (h2 : P 2) (h3 : P 3) {r : Nat} (h : r < 4) : P r := by
  match r, h with
  | 0, _ => exact h0
  | 1, _ => exact h1
  | 2, _ => exact h2
  | 3, _ => exact h3
theorem ut_sz_ss {N m : Nat} (h : m < 16) : ut_sz (ut_ss N m) = m := by unfold ut_sz ut_ss; omega
theorem ut_sz_lt (N : Nat) : ut_sz N < 16 := Nat.mod_lt _ (by omega)
theorem ut_pl_lt (N r : Nat) : ut_pl N r < 16 := Nat.mod_lt _ (by omega)
theorem ut_pl_ss {N m r : Nat} (hr : r < 4) (h : m < 16) : ut_pl (ut_ss N m) r = ut_pl N r := by
  revert hr
  refine fun hr => ut_c4 (P := fun r => ut_pl (ut_ss N m) r = ut_pl N r) ?_ ?_ ?_ ?_ hr
  all_goals
    unfold ut_pl ut_ss
    simp only [Nat.reducePow, Nat.reduceAdd]
    omega
theorem ut_sz_sp {N r k : Nat} (hr : r < 4) : ut_sz (ut_sp N r k) = ut_sz N := by
  revert hr
  refine fun hr => ut_c4 (P := fun r => ut_sz (ut_sp N r k) = ut_sz N) ?_ ?_ ?_ ?_ hr
  all_goals
    unfold ut_sz ut_sp
    simp only [Nat.reducePow, Nat.reduceAdd]
    omega
theorem ut_pl_sp_s {N r k : Nat} (hr : r < 4) (hk : k < 16) : ut_pl (ut_sp N r k) r = k := by
  revert hr
  refine fun hr => ut_c4 (P := fun r => ut_pl (ut_sp N r k) r = k) ?_ ?_ ?_ ?_ hr
  all_goals
    unfold ut_pl ut_sp
    simp only [Nat.reducePow, Nat.reduceAdd]
    omega
theorem ut_pl_sp_n {N r q k : Nat} (hr : r < 4) (hq : q < 4) (hk : k < 16) (h : q ≠ r) : ut_pl (ut_sp N r k) q = ut_pl N q := by
  revert h
  refine ut_c4 (P := fun r => q ≠ r → ut_pl (ut_sp N r k) q = ut_pl N q) ?_ ?_ ?_ ?_ hr
  all_goals
    refine ut_c4 (P := fun q => q ≠ _ → ut_pl (ut_sp N _ k) q = ut_pl N q) ?_ ?_ ?_ ?_ hq
    all_goals
      intro h
      first
      | exact absurd rfl h
      | unfold ut_pl ut_sp
        simp only [Nat.reducePow, Nat.reduceAdd]
        omega
theorem ut_ss_lt {N m : Nat} (hN : N < 1048576) (h : m < 16) : ut_ss N m < 1048576 := by unfold ut_ss; omega
theorem ut_sp_lt {N r k : Nat} (hN : N < 1048576) (hr : r < 4) (hk : k < 16) : ut_sp N r k < 1048576 := by
  revert hr
  refine fun hr => ut_c4 (P := fun r => ut_sp N r k < 1048576) ?_ ?_ ?_ ?_ hr
  all_goals
    unfold ut_sp
    simp only [Nat.reducePow, Nat.reduceAdd]
    omega
theorem ut_ext {N M : Nat} (hN : N < 1048576) (hM : M < 1048576) (hs : ut_sz N = ut_sz M) (hp : ∀ r, r < 4 → ut_pl N r = ut_pl M r) : N = M := by
  have h0 := hp 0 (by omega)
  have h1 := hp 1 (by omega)
  have h2 := hp 2 (by omega)
  have h3 := hp 3 (by omega)
  unfold ut_sz at hs
  unfold ut_pl at h0 h1 h2 h3
  simp only [Nat.reducePow, Nat.reduceAdd] at h0 h1 h2 h3
  omega
/-! bits -/
theorem ut_or (a b : Nat) : nI a ||| nI b = nI (a ||| b) := by
  apply Int32.toBitVec_inj.1
  show BitVec.ofNat 32 a ||| BitVec.ofNat 32 b = BitVec.ofNat 32 (a ||| b)
  apply BitVec.eq_of_getLsbD_eq
  intro i hi
  simp [hi]
theorem ut_and (a b : Nat) : nI a &&& nI b = nI (a &&& b) := by
  apply Int32.toBitVec_inj.1
  show BitVec.ofNat 32 a &&& BitVec.ofNat 32 b = BitVec.ofNat 32 (a &&& b)
  apply BitVec.eq_of_getLsbD_eq
  intro i hi
  simp [hi]
theorem ut_tb {sh lo p hi i : Nat} (hlo : lo < 2 ^ sh) (hp : p < 16) : (2 ^ (sh + 4) * hi + (2 ^ sh * p + lo)).testBit i = if i < sh then lo.testBit i else if i < sh + 4 then p.testBit (i - sh) else hi.testBit (i - (sh + 4)) := by
  have hb : 2 ^ sh * p + lo < 2 ^ (sh + 4) := by
    have h1 : 2 ^ sh * p ≤ 2 ^ sh * 15 := Nat.mul_le_mul_left _ (by omega)
    have h2 : 2 ^ (sh + 4) = 2 ^ sh * 16 := Nat.pow_add 2 sh 4
    omega
  rw [Nat.testBit_two_pow_mul_add hi hb, Nat.testBit_two_pow_mul_add p hlo]
  by_cases h1 : i < sh
  · rw [if_pos h1, if_pos h1, if_pos (by omega)]
  · rw [if_neg h1, if_neg h1]
theorem ut_tb0 {sh lo hi i : Nat} (hlo : lo < 2 ^ sh) : (2 ^ (sh + 4) * hi + lo).testBit i = if i < sh then lo.testBit i else if i < sh + 4 then false else hi.testBit (i - (sh + 4)) := by
  have := ut_tb (sh := sh) (lo := lo) (p := 0) (hi := hi) (i := i) hlo (by omega)
  rw [Nat.mul_zero, Nat.zero_add, Nat.zero_testBit] at this
  exact this
theorem ut_ndand {sh lo p hi M : Nat} (hlo : lo < 2 ^ sh) (hp : p < 16) (hM : ∀ i, i < 32 → M.testBit i = decide (i < sh ∨ sh + 4 ≤ i)) (hN : 2 ^ (sh + 4) * hi + (2 ^ sh * p + lo) < 2 ^ 32) : (2 ^ (sh + 4) * hi + (2 ^ sh * p + lo)) &&& M = 2 ^ (sh + 4) * hi + lo := by
  apply Nat.eq_of_testBit_eq
  intro i
  rw [Nat.testBit_and]
  by_cases hi' : i < 32
  · rw [hM i hi', ut_tb hlo hp, ut_tb0 hlo]
    by_cases h1 : i < sh
    · rw [if_pos h1, if_pos h1, decide_eq_true (Or.inl h1), Bool.and_true]
    · by_cases h2 : i < sh + 4
      · rw [if_neg h1, if_pos h2, if_neg h1, if_pos h2, decide_eq_false (by omega), Bool.and_false]
      · rw [if_neg h1, if_neg h2, if_neg h1, if_neg h2, decide_eq_true (by omega), Bool.and_true]
  · have e1 : (2 ^ (sh + 4) * hi + (2 ^ sh * p + lo)).testBit i = false :=
      Nat.testBit_lt_two_pow (Nat.lt_of_lt_of_le hN (Nat.pow_le_pow_right (by omega) (by omega)))
    have e2 : (2 ^ (sh + 4) * hi + lo).testBit i = false :=
      Nat.testBit_lt_two_pow (Nat.lt_of_lt_of_le (Nat.lt_of_le_of_lt (by
        have := Nat.zero_le (2 ^ sh * p)
        omega) hN) (Nat.pow_le_pow_right (by omega) (by omega)))
    rw [e1, e2, Bool.false_and]
theorem ut_ndor {sh lo k hi : Nat} (hlo : lo < 2 ^ sh) (hk : k < 16) : (2 ^ (sh + 4) * hi + lo) ||| (k * 2 ^ sh) = 2 ^ (sh + 4) * hi + (2 ^ sh * k + lo) := by
  apply Nat.eq_of_testBit_eq
  intro i
  rw [Nat.testBit_or, ut_tb hlo hk, ut_tb0 hlo, Nat.mul_comm k, Nat.testBit_two_pow_mul]
  by_cases h1 : i < sh
  · rw [if_pos h1, if_pos h1, decide_eq_false (by omega), Bool.false_and, Bool.or_false]
  · by_cases h2 : i < sh + 4
    · rw [if_neg h1, if_pos h2, if_neg h1, if_pos h2, decide_eq_true (by omega), Bool.true_and, Bool.false_or]
    · have e : k.testBit (i - sh) = false :=
        Nat.testBit_lt_two_pow (Nat.lt_of_lt_of_le hk (show 2 ^ 4 ≤ 2 ^ (i - sh) from Nat.pow_le_pow_right (by omega) (by omega)))
      rw [if_neg h1, if_neg h2, if_neg h1, if_neg h2, e, Bool.and_false, Bool.or_false]
/-- clear the digit at sh and put k there -/
theorem ut_dig {sh N M k : Nat} (hN : N < 2 ^ 32) (hk : k < 16) (hM : ∀ i, i < 32 → M.testBit i = decide (i < sh ∨ sh + 4 ≤ i)) : (nI N &&& nI M) ||| nI (k * 2 ^ sh) = nI (2 ^ (sh + 4) * (N / 2 ^ (sh + 4)) + (2 ^ sh * k + N % 2 ^ sh)) := by
  have e : N = 2 ^ (sh + 4) * (N / 2 ^ (sh + 4)) + (2 ^ sh * (N / 2 ^ sh % 16) + N % 2 ^ sh) := by
    have h1 := Nat.div_add_mod N (2 ^ sh)
    have h2 := Nat.div_add_mod (N / 2 ^ sh) 16
    have h3 : N / 2 ^ (sh + 4) = N / 2 ^ sh / 16 := by rw [Nat.pow_add, Nat.div_div_eq_div_mul]
    have h4 : 2 ^ (sh + 4) = 2 ^ sh * 16 := Nat.pow_add 2 sh 4
    rw [h3, h4, Nat.mul_assoc, ← Nat.add_assoc, ← Nat.mul_add, h2, h1]
  have hlo : N % 2 ^ sh < 2 ^ sh := Nat.mod_lt _ (Nat.two_pow_pos sh)
  have a := ut_ndand (sh := sh) (lo := N % 2 ^ sh) (p := N / 2 ^ sh % 16) (hi := N / 2 ^ (sh + 4)) (M := M) hlo (Nat.mod_lt _ (by omega)) hM (by rw [← e]; exact hN)
  rw [← e] at a
  rw [ut_and, a, ut_or, ut_ndor hlo hk]
theorem ut_isz {N : Nat} (h : N < 1048576) : nI N &&& 15 = nI (ut_sz N) := pk_andN (by omega) 4 (by decide)
theorem ut_ipl {N r : Nat} (h : N < 1048576) (hr : r < 4) : (nI N >>> ((4 + (4 * nI r)) &&& 31)) &&& 15 = nI (ut_pl N r) := by
  have e : ∀ (s : Int32) (k : Nat), (s.toBitVec.smod 32).toNat = k → (nI N >>> s) &&& 15 = nI (N / 2 ^ k % 16) := by
    intro s k hs
    rw [pk_shrN (by omega) s k hs]
    exact pk_andN (Nat.lt_of_le_of_lt (Nat.div_le_self _ _) (by omega)) 4 (by decide)
  refine ut_c4 (P := fun r => (nI N >>> ((4 + (4 * nI r)) &&& 31)) &&& 15 = nI (ut_pl N r)) ?_ ?_ ?_ ?_ hr
  · exact e _ 4 (by decide)
  · exact e _ 8 (by decide)
  · exact e _ 12 (by decide)
  · exact e _ 16 (by decide)
theorem ut_isp {N r k : Nat} (h : N < 1048576) (hr : r < 4) (hk : k < 16) : (nI N &&& (((15 : Int32) <<< ((4 + (4 * nI r)) &&& 31)) ^^^ (-1))) ||| (nI k <<< ((4 + (4 * nI r)) &&& 31)) = nI (ut_sp N r k) := by
  have e : ∀ (s m : Int32) (sh M : Nat), (s.toBitVec.smod 32).toNat = sh → sh ≤ 16 → m = nI M → (∀ i, i < 32 → M.testBit i = decide (i < sh ∨ sh + 4 ≤ i)) → (nI N &&& m) ||| (nI k <<< s) = nI (2 ^ (sh + 4) * (N / 2 ^ (sh + 4)) + (2 ^ sh * k + N % 2 ^ sh)) := by
    intro s m sh M hs hsh hm hM
    have hb : k * 2 ^ sh < 2 ^ 32 := by
      have h1 : 2 ^ sh ≤ 2 ^ 16 := Nat.pow_le_pow_right (by omega) hsh
      have h2 : k * 2 ^ sh ≤ 15 * 2 ^ 16 := Nat.mul_le_mul (by omega) h1
      omega
    rw [pk_shlN s sh hs hb, hm]
    exact ut_dig (by omega) hk hM
  refine ut_c4 (P := fun r => (nI N &&& (((15 : Int32) <<< ((4 + (4 * nI r)) &&& 31)) ^^^ (-1))) ||| (nI k <<< ((4 + (4 * nI r)) &&& 31)) = nI (ut_sp N r k)) ?_ ?_ ?_ ?_ hr
  · rw [e _ _ 4 4294967055 (by decide) (by omega) (by decide) (by decide)]
    exact congrArg nI (by unfold ut_sp; simp only [Nat.reducePow, Nat.reduceAdd]; omega)
  · rw [e _ _ 8 4294963455 (by decide) (by omega) (by decide) (by decide)]
    exact congrArg nI (by unfold ut_sp; simp only [Nat.reducePow, Nat.reduceAdd]; omega)
  · rw [e _ _ 12 4294905855 (by decide) (by omega) (by decide) (by decide)]
    exact congrArg nI (by unfold ut_sp; simp only [Nat.reducePow, Nat.reduceAdd]; omega)
  · rw [e _ _ 16 4293984255 (by decide) (by omega) (by decide) (by decide)]
    exact congrArg nI (by unfold ut_sp; simp only [Nat.reducePow, Nat.reduceAdd]; omega)
theorem ut_iss {N m : Nat} (h : N < 1048576) (hm : m < 16) : (nI N &&& (-16)) ||| nI m = nI (ut_ss N m) := by
  have a := ut_dig (sh := 0) (N := N) (M := 4294967280) (k := m) (by omega) hm (by decide)
  rw [show (-16 : Int32) = nI 4294967280 from by decide]
  rw [Nat.pow_zero, Nat.mul_one] at a
  rw [a]
  exact congrArg nI (by unfold ut_ss; simp only [Nat.reducePow, Nat.reduceAdd]; omega)
/-! table rules -/
def ut_app (N R : Nat) : Nat :=
  if 196 ≤ R then N else if 192 ≤ R then ut_sp N (R - 192) 0 else if 128 ≤ R then ut_sp N ((R - 128) / 8) (R % 8 + 1) else ut_ss N (R - 64)
def ut_vr (R : Nat) : Prop := R < 64 ∨ (64 ≤ R ∧ R ≤ 72) ∨ (128 ≤ R ∧ R < 160) ∨ (192 ≤ R ∧ R ≤ 197)
theorem ut_app_lt {N R : Nat} (hN : N < 1048576) (hR : ut_vr R) (h64 : 64 ≤ R) : ut_app N R < 1048576 := by
  unfold ut_vr at hR
  unfold ut_app
  by_cases h1 : 196 ≤ R
  · rw [if_pos h1]; exact hN
  rw [if_neg h1]
  by_cases h2 : 192 ≤ R
  · rw [if_pos h2]; exact ut_sp_lt hN (by omega) (by omega)
  rw [if_neg h2]
  by_cases h3 : 128 ≤ R
  · rw [if_pos h3]; exact ut_sp_lt hN (by omega) (by omega)
  rw [if_neg h3]; exact ut_ss_lt hN (by omega)
end UT2
end
section
/-! nesting and complete functions, as the reference scans them -/
section UT3
def ut_un (f : Nat → Nat) (k x : Nat) : Nat → Nat := fun j => if j = k then x else f j
theorem ut_us {f : Nat → Nat} {k x : Nat} : ut_un f k x k = x := if_pos rfl
theorem ut_unn {f : Nat → Nat} {k j x : Nat} (h : j ≠ k) : ut_un f k x j = f j := if_neg h
def ut_zn (A : Nat → Int32) : Nat → Nat
  | 0 => 0
  | i + 1 => if A i = 14 ∨ A i = 15 then ut_zn A i + 1 else if A i = 16 then ut_zn A i - 1 else ut_zn A i
def ut_zc (A : Nat → Int32) : Nat → Nat
  | 0 => 0
  | i + 1 => if A i = 13 ∧ ut_zn A i = 0 then ut_zc A i + 1 else ut_zc A i
theorem ut_zn_o {A : Nat → Int32} {i : Nat} (h : A i = 14 ∨ A i = 15) : ut_zn A (i + 1) = ut_zn A i + 1 := by rw [ut_zn, if_pos h]
theorem ut_zn_e {A : Nat → Int32} {i : Nat} (h : A i = 16) : ut_zn A (i + 1) = ut_zn A i - 1 := by
  rw [ut_zn, if_neg (by rw [h]; decide), if_pos h]
theorem ut_zn_n {A : Nat → Int32} {i : Nat} (h1 : ¬ (A i = 14 ∨ A i = 15)) (h2 : ¬ A i = 16) : ut_zn A (i + 1) = ut_zn A i := by
  rw [ut_zn, if_neg h1, if_neg h2]
theorem ut_zc_r {A : Nat → Int32} {i : Nat} (h : A i = 13) (h0 : ut_zn A i = 0) : ut_zc A (i + 1) = ut_zc A i + 1 := by rw [ut_zc, if_pos ⟨h, h0⟩]
theorem ut_zc_n {A : Nat → Int32} {i : Nat} (h : ¬ (A i = 13 ∧ ut_zn A i = 0)) : ut_zc A (i + 1) = ut_zc A i := by rw [ut_zc, if_neg h]
theorem ut_zn_cg {A A' : Nat → Int32} : ∀ {i : Nat}, (∀ j, j < i → A' j = A j) → ut_zn A' i = ut_zn A i := by
  intro i
  induction i with
  | zero => intro _; rfl
  | succ i ih => intro h; rw [ut_zn, ut_zn, h i (by omega), ih (fun j hj => h j (by omega))]
theorem ut_zc_cg {A A' : Nat → Int32} : ∀ {i : Nat}, (∀ j, j < i → A' j = A j) → ut_zc A' i = ut_zc A i := by
  intro i
  induction i with
  | zero => intro _; rfl
  | succ i ih => intro h; rw [ut_zc, ut_zc, h i (by omega), ih (fun j hj => h j (by omega)), ut_zn_cg (fun j hj => h j (by omega))]
theorem ut_zn_up {A : Nat → Int32} {U i : Nat} {x : Int32} (h : i ≤ U) : ut_zn (upd A U x) i = ut_zn A i :=
  ut_zn_cg (fun j hj => pk_un (by omega))
theorem ut_zc_up {A : Nat → Int32} {U i : Nat} {x : Int32} (h : i ≤ U) : ut_zc (upd A U x) i = ut_zc A i :=
  ut_zc_cg (fun j hj => pk_un (by omega))
theorem ut_zn_le {A : Nat → Int32} : ∀ i, ut_zn A i ≤ i := by
  intro i
  induction i with
  | zero => exact Nat.le_refl _
  | succ i ih =>
    rw [ut_zn]
    split
    · omega
    · split <;> omega
theorem ut_zc_le {A : Nat → Int32} : ∀ i, ut_zc A i ≤ i := by
  intro i
  induction i with
  | zero => exact Nat.le_refl _
  | succ i ih =>
    rw [ut_zc]
    split <;> omega
theorem ut_zc_mono {A : Nat → Int32} {i : Nat} : ∀ {j : Nat}, i ≤ j → ut_zc A i ≤ ut_zc A j := by
  intro j
  induction j with
  | zero => intro h; have : i = 0 := by omega
            subst this; exact Nat.le_refl _
  | succ j ih =>
    intro h
    by_cases e : i = j + 1
    · subst e; exact Nat.le_refl _
    · refine Nat.le_trans (ih (by omega)) ?_
      rw [ut_zc]
      split <;> omega
/-- o opens the block that e closes -/
def ut_mt (A : Nat → Int32) (o e : Nat) : Prop := ut_zn A (e + 1) = ut_zn A o ∧ ∀ j, o < j → j ≤ e → ut_zn A o < ut_zn A j
theorem ut_mt_cg {A A' : Nat → Int32} {o e : Nat} (ho : o ≤ e) (h : ∀ j, j ≤ e → A' j = A j) (m : ut_mt A o e) : ut_mt A' o e := by
  refine ⟨?_, fun j h1 h2 => ?_⟩
  · rw [ut_zn_cg (A := A) (fun j hj => h j (by omega)), ut_zn_cg (A := A) (fun j hj => h j (by omega))]; exact m.1
  · rw [ut_zn_cg (A := A) (fun j hj => h j (by omega)), ut_zn_cg (A := A) (fun j hj => h j (by omega))]; exact m.2 j h1 h2
/-- no place of nesting 0 lies inside a block -/
theorem ut_mt_out {A : Nat → Int32} {o e c : Nat} (m : ut_mt A o e) (hc : ut_zn A c = 0) (ho : o < c) : e < c := by
  rcases Nat.lt_or_ge e c with h | h
  · exact h
  · have := m.2 c ho h
    omega
/-! what an instruction asks of a packed state, and what it makes of it -/
def ut_nok (N k : Nat) : Prop := ∀ r, r < 4 → ut_pl N r ≠ k
def ut_wr (N a : Nat) : Prop := a ≤ 5 ∧ (a < 4 → ut_pl N a ≠ 0)
def ut_fit (fl wl o a : Nat) (b : Int32) (N : Nat) : Prop :=
  (o = 0 → a ≤ 3 ∧ ut_pl N a = 0 ∧ ut_sz N < wl) ∧
  (o = 1 → a ≤ 5 ∧ ut_sz N < wl) ∧
  (o = 2 → a ≤ 5 ∧ 0 < ut_sz N ∧ ((ut_nok N (ut_sz N) ∧ ut_wr N a) ∨ (a ≤ 3 ∧ ut_pl N a = ut_sz N))) ∧
  (o = 3 → 1 ≤ a ∧ a ≤ 8 ∧ ut_sz N + a ≤ wl) ∧
  (o = 4 → 1 ≤ a ∧ a ≤ 8 ∧ a ≤ ut_sz N ∧ ∀ r, r < 4 → ut_pl N r ≤ ut_sz N - a) ∧
  (o = 5 → a ≤ 3 ∧ ut_pl N a = 0 ∧ ∃ c, b = nI c ∧ c < ut_sz N ∧ ut_nok N (c + 1)) ∧
  (o = 6 → a ≤ 3 ∧ ut_pl N a ≠ 0) ∧
  (o = 7 → ut_wr N a ∧ ∃ c, b = nI c ∧ c < ut_sz N) ∧
  (o = 8 → a ≤ 5 ∧ ∃ c, b = nI c ∧ c < ut_sz N ∧ ut_nok N (c + 1)) ∧
  (o = 9 → ut_wr N a) ∧ (o = 10 → ut_wr N a) ∧ (o = 11 → ut_wr N a ∧ ∃ c, b = nI c ∧ c ≤ 5) ∧
  (o = 12 → a < fl)
def ut_eff (o a : Nat) (b : Int32) (N : Nat) : Nat :=
  if o = 0 then ut_sp (ut_ss N (ut_sz N + 1)) a (ut_sz N + 1)
  else if o = 1 then ut_ss N (ut_sz N + 1)
  else if o = 2 then (if a < 4 ∧ ut_pl N a = ut_sz N then ut_sp (ut_ss N (ut_sz N - 1)) a 0 else ut_ss N (ut_sz N - 1))
  else if o = 3 then ut_ss N (ut_sz N + a)
  else if o = 4 then ut_ss N (ut_sz N - a)
  else if o = 5 then ut_sp N a (b.toNatClampNeg + 1)
  else if o = 6 then ut_sp N a 0
  else N
def ut_dst (o a : Nat) (b : Int32) (N : Nat) : Nat :=
  if o = 5 ∨ o = 7 ∨ o = 8 then ut_sz N - b.toNatClampNeg else if o = 6 then ut_sz N - (ut_pl N a - 1) else 0
/-- the packed state N describes the list K of kinds -/
def ut_FS (wl N : Nat) (K : Nat → Int32) : Prop :=
  N < 1048576 ∧ ut_sz N ≤ wl ∧ (∀ r, r < 4 → ut_pl N r ≤ ut_sz N) ∧
  (∀ r, r < 4 → ∀ i, i < ut_sz N → (K i = nI r ↔ ut_pl N r = i + 1)) ∧ (∀ i, i < ut_sz N → ∃ r, r ≤ 4 ∧ K i = nI r)
theorem ut_FS0 {wl : Nat} {K : Nat → Int32} : ut_FS wl 0 K := by
  have e : ∀ r, ut_pl 0 r = 0 := fun r => by unfold ut_pl; rw [Nat.zero_div]
  refine ⟨by omega, Nat.zero_le _, fun r _ => ?_, fun r _ i hi => ?_, fun i hi => ?_⟩
  · rw [e]; exact Nat.zero_le _
  · exact absurd hi (Nat.not_lt_zero i)
  · exact absurd hi (Nat.not_lt_zero i)
theorem ut_FS_cg {wl N : Nat} {K K' : Nat → Int32} (h : ut_FS wl N K) (e : ∀ i, i < ut_sz N → K' i = K i) : ut_FS wl N K' := by
  obtain ⟨h1, h2, h3, h4, h5⟩ := h
  exact ⟨h1, h2, h3, fun r hr i hi => by rw [e i hi]; exact h4 r hr i hi, fun i hi => by rw [e i hi]; exact h5 i hi⟩
/-- equal lists have equal packed states -/
theorem ut_FS_inj {wl N M : Nat} {K K' : Nat → Int32} (h : ut_FS wl N K) (h' : ut_FS wl M K') (es : ut_sz N = ut_sz M) (ek : ∀ i, i < ut_sz N → K i = K' i) : N = M := by
  refine ut_ext h.1 h'.1 es (fun r hr => ?_)
  have a := h.2.2.1 r hr
  have b := h'.2.2.1 r hr
  rcases Nat.eq_zero_or_pos (ut_pl N r) with z | z
  · rcases Nat.eq_zero_or_pos (ut_pl M r) with y | y
    · omega
    · have c := (h'.2.2.2.1 r hr (ut_pl M r - 1) (by omega)).mpr (by omega)
      rw [← ek _ (by omega)] at c
      have d := (h.2.2.2.1 r hr (ut_pl M r - 1) (by omega)).mp c
      omega
  · have c := (h.2.2.2.1 r hr (ut_pl N r - 1) (by omega)).mpr (by omega)
    rw [ek _ (by omega)] at c
    have d := (h'.2.2.2.1 r hr (ut_pl N r - 1) (by omega)).mp c
    omega
theorem ut_FS_eq {wl N : Nat} {K K' : Nat → Int32} (h : ut_FS wl N K) (h' : ut_FS wl N K') {i : Nat} (hi : i < ut_sz N) : K i = K' i := by
  obtain ⟨r, hr, e⟩ := h.2.2.2.2 i hi
  obtain ⟨q, hq, e'⟩ := h'.2.2.2.2 i hi
  rcases Nat.lt_or_ge r 4 with z | z
  · rw [e]
    exact ((h'.2.2.2.1 r z i hi).mpr ((h.2.2.2.1 r z i hi).mp e)).symm
  · rcases Nat.lt_or_ge q 4 with y | y
    · rw [e']
      exact (h.2.2.2.1 q y i hi).mpr ((h'.2.2.2.1 q y i hi).mp e')
    · rw [e, e', show r = 4 by omega, show q = 4 by omega]
theorem ut_FS_zero {wl N : Nat} {K : Nat → Int32} (h : ut_FS wl N K) (hs : ut_sz N = 0) : N = 0 := by
  refine ut_ext h.1 (by omega) hs (fun r hr => ?_)
  have a := h.2.2.1 r hr
  have b : ut_pl 0 r = 0 := by unfold ut_pl; rw [Nat.zero_div]
  omega
/-- place 4: data -/
theorem ut_FS_data {wl N : Nat} {K : Nat → Int32} (h : ut_FS wl N K) {i : Nat} (hi : i < ut_sz N) : K i = 4 ↔ ut_nok N (i + 1) := by
  constructor
  · intro e r hr hp
    have a := (h.2.2.2.1 r hr i hi).mpr hp
    rw [e, show (4 : Int32) = nI 4 from rfl, nI_eq (by omega) (by omega)] at a
    omega
  · intro hn
    obtain ⟨r, hr, e⟩ := h.2.2.2.2 i hi
    rcases Nat.lt_or_ge r 4 with z | z
    · exact absurd ((h.2.2.2.1 r z i hi).mp e) (hn r z)
    · rw [e, show r = 4 by omega]; rfl
end UT3
end
section
/-! how the instructions change a list of kinds and its packed state -/
section UT4
variable {wl N a : Nat} {K K' : Nat → Int32}
theorem ut_nI4 {r : Nat} (h : r < 4) : ¬ (4 : Int32) = nI r := by
  rw [show (4 : Int32) = nI 4 from rfl, nI_eq (by omega) (by omega)]
  omega
theorem ut_ap_push (hw : wl ≤ 8) (h : ut_FS wl N K) (hn : ut_sz N < wl) (e : ∀ i, i < ut_sz N → K' i = K i) (en : K' (ut_sz N) = 4) : ut_FS wl (ut_ss N (ut_sz N + 1)) K' := by
  have hs : ut_sz (ut_ss N (ut_sz N + 1)) = ut_sz N + 1 := ut_sz_ss (by omega)
  refine ⟨ut_ss_lt h.1 (by omega), by omega, fun r hr => ?_, fun r hr i hi => ?_, fun i hi => ?_⟩
  · rw [hs, ut_pl_ss hr (by omega)]
    have := h.2.2.1 r hr
    omega
  · rw [hs] at hi
    rw [ut_pl_ss hr (by omega)]
    rcases Nat.lt_or_ge i (ut_sz N) with z | z
    · rw [e i z]; exact h.2.2.2.1 r hr i z
    · have : i = ut_sz N := by omega
      subst this
      rw [en]
      have := h.2.2.1 r hr
      exact ⟨fun x => absurd x (ut_nI4 hr), fun x => by omega⟩
  · rw [hs] at hi
    rcases Nat.lt_or_ge i (ut_sz N) with z | z
    · rw [e i z]; exact h.2.2.2.2 i z
    · have : i = ut_sz N := by omega
      subst this
      exact ⟨4, by omega, en⟩
theorem ut_ap_save (hw : wl ≤ 8) (h : ut_FS wl N K) (ha : a < 4) (hp : ut_pl N a = 0) (hn : ut_sz N < wl) (e : ∀ i, i < ut_sz N → K' i = K i) (en : K' (ut_sz N) = nI a) : ut_FS wl (ut_sp (ut_ss N (ut_sz N + 1)) a (ut_sz N + 1)) K' := by
  have hs : ut_sz (ut_sp (ut_ss N (ut_sz N + 1)) a (ut_sz N + 1)) = ut_sz N + 1 := by rw [ut_sz_sp ha]; exact ut_sz_ss (by omega)
  have hq : ∀ r, r < 4 → r ≠ a → ut_pl (ut_sp (ut_ss N (ut_sz N + 1)) a (ut_sz N + 1)) r = ut_pl N r := fun r hr hn => by
    rw [ut_pl_sp_n ha hr (by omega) hn, ut_pl_ss hr (by omega)]
  have hqa : ut_pl (ut_sp (ut_ss N (ut_sz N + 1)) a (ut_sz N + 1)) a = ut_sz N + 1 := ut_pl_sp_s ha (by omega)
  refine ⟨ut_sp_lt (ut_ss_lt h.1 (by omega)) ha (by omega), by omega, fun r hr => ?_, fun r hr i hi => ?_, fun i hi => ?_⟩
  · rw [hs]
    by_cases z : r = a
    · rw [z, hqa]; omega
    · rw [hq r hr z]
      have := h.2.2.1 r hr
      omega
  · rw [hs] at hi
    by_cases z : r = a
    · subst z
      rw [hqa]
      rcases Nat.lt_or_ge i (ut_sz N) with y | y
      · rw [e i y]
        have := h.2.2.2.1 r hr i y
        rw [hp] at this
        exact ⟨fun x => by have := this.mp x; omega, fun x => by omega⟩
      · have : i = ut_sz N := by omega
        subst this
        exact ⟨fun _ => rfl, fun _ => en⟩
    · rw [hq r hr z]
      rcases Nat.lt_or_ge i (ut_sz N) with y | y
      · rw [e i y]; exact h.2.2.2.1 r hr i y
      · have : i = ut_sz N := by omega
        subst this
        have := h.2.2.1 r hr
        rw [en, nI_eq (by omega) (by omega)]
        exact ⟨fun x => absurd x.symm z, fun x => by omega⟩
  · rw [hs] at hi
    rcases Nat.lt_or_ge i (ut_sz N) with z | z
    · rw [e i z]; exact h.2.2.2.2 i z
    · have : i = ut_sz N := by omega
      subst this
      exact ⟨a, by omega, en⟩
/-- a shorter list, no kept word cut off -/
theorem ut_ap_cut {m : Nat} (h : ut_FS wl N K) (hm : m ≤ ut_sz N) (hp : ∀ r, r < 4 → ut_pl N r ≤ m) (e : ∀ i, i < m → K' i = K i) : ut_FS wl (ut_ss N m) K' := by
  have h16 := ut_sz_lt N
  have hs : ut_sz (ut_ss N m) = m := ut_sz_ss (by omega)
  have h2 := h.2.1
  refine ⟨ut_ss_lt h.1 (by omega), by omega, fun r hr => ?_, fun r hr i hi => ?_, fun i hi => ?_⟩
  · rw [hs, ut_pl_ss hr (by omega)]; exact hp r hr
  · rw [hs] at hi
    rw [ut_pl_ss hr (by omega), e i hi]; exact h.2.2.2.1 r hr i (by omega)
  · rw [hs] at hi
    rw [e i hi]; exact h.2.2.2.2 i (by omega)
/-- the place of r given back; the word becomes data or is cut off -/
theorem ut_ap_back (h : ut_FS wl N K) (ha : a < 4) (hp : ut_pl N a ≠ 0) (e : ∀ i, i < ut_sz N → i ≠ ut_pl N a - 1 → K' i = K i) (en : K' (ut_pl N a - 1) = 4) : ut_FS wl (ut_sp N a 0) K' := by
  have hs : ut_sz (ut_sp N a 0) = ut_sz N := ut_sz_sp ha
  have hpa := h.2.2.1 a ha
  refine ⟨ut_sp_lt h.1 ha (by omega), by rw [hs]; exact h.2.1, fun r hr => ?_, fun r hr i hi => ?_, fun i hi => ?_⟩
  · rw [hs]
    by_cases z : r = a
    · rw [z, ut_pl_sp_s ha (by omega)]; omega
    · rw [ut_pl_sp_n ha hr (by omega) z]; exact h.2.2.1 r hr
  · rw [hs] at hi
    by_cases z : r = a
    · subst z
      rw [ut_pl_sp_s ha (by omega)]
      by_cases y : i = ut_pl N r - 1
      · rw [y, en]; exact ⟨fun x => absurd x (ut_nI4 hr), fun x => by omega⟩
      · rw [e i hi y, h.2.2.2.1 r hr i hi]; omega
    · rw [ut_pl_sp_n ha hr (by omega) z]
      by_cases y : i = ut_pl N a - 1
      · have k1 := (h.2.2.2.1 a ha i hi).mpr (by omega)
        have k2 := h.2.2.2.1 r hr i hi
        rw [k1, nI_eq (by omega) (by omega)] at k2
        rw [y, en]
        exact ⟨fun x => absurd x (ut_nI4 hr), fun x => absurd (k2.mpr (by omega)).symm z⟩
      · rw [e i hi y]; exact h.2.2.2.1 r hr i hi
  · rw [hs] at hi
    by_cases y : i = ut_pl N a - 1
    · exact ⟨4, by omega, by rw [y]; exact en⟩
    · rw [e i hi y]; exact h.2.2.2.2 i hi
theorem ut_ap_keep {c : Nat} (hw : wl ≤ 8) (h : ut_FS wl N K) (ha : a < 4) (hp : ut_pl N a = 0) (hc : c < ut_sz N) (hk : ut_nok N (c + 1)) (e : ∀ i, i < ut_sz N → i ≠ c → K' i = K i) (en : K' c = nI a) : ut_FS wl (ut_sp N a (c + 1)) K' := by
  have hs : ut_sz (ut_sp N a (c + 1)) = ut_sz N := ut_sz_sp ha
  have h2 := h.2.1
  refine ⟨ut_sp_lt h.1 ha (by omega), by rw [hs]; exact h.2.1, fun r hr => ?_, fun r hr i hi => ?_, fun i hi => ?_⟩
  · rw [hs]
    by_cases z : r = a
    · rw [z, ut_pl_sp_s ha (by omega)]; omega
    · rw [ut_pl_sp_n ha hr (by omega) z]; exact h.2.2.1 r hr
  · rw [hs] at hi
    by_cases z : r = a
    · subst z
      rw [ut_pl_sp_s ha (by omega)]
      by_cases y : i = c
      · subst y; exact ⟨fun _ => rfl, fun _ => en⟩
      · rw [e i hi y, h.2.2.2.1 r hr i hi]; omega
    · rw [ut_pl_sp_n ha hr (by omega) z]
      by_cases y : i = c
      · subst y
        rw [en, nI_eq (by omega) (by omega)]
        exact ⟨fun x => absurd x.symm z, fun x => absurd x (hk r hr)⟩
      · rw [e i hi y]; exact h.2.2.2.1 r hr i hi
  · rw [hs] at hi
    by_cases y : i = c
    · exact ⟨a, by omega, by rw [y]; exact en⟩
    · rw [e i hi y]; exact h.2.2.2.2 i hi
theorem ut_ap_alloc (hw : wl ≤ 8) (h : ut_FS wl N K) (hn : ut_sz N + a ≤ wl) (e : ∀ i, i < ut_sz N → K' i = K i) (en : ∀ i, ut_sz N ≤ i → i < ut_sz N + a → K' i = 4) : ut_FS wl (ut_ss N (ut_sz N + a)) K' := by
  have hs : ut_sz (ut_ss N (ut_sz N + a)) = ut_sz N + a := ut_sz_ss (by omega)
  refine ⟨ut_ss_lt h.1 (by omega), by omega, fun r hr => ?_, fun r hr i hi => ?_, fun i hi => ?_⟩
  · rw [hs, ut_pl_ss hr (by omega)]
    have := h.2.2.1 r hr
    omega
  · rw [hs] at hi
    rw [ut_pl_ss hr (by omega)]
    rcases Nat.lt_or_ge i (ut_sz N) with z | z
    · rw [e i z]; exact h.2.2.2.1 r hr i z
    · rw [en i z hi]
      have := h.2.2.1 r hr
      exact ⟨fun x => absurd x (ut_nI4 hr), fun x => by omega⟩
  · rw [hs] at hi
    rcases Nat.lt_or_ge i (ut_sz N) with z | z
    · rw [e i z]; exact h.2.2.2.2 i z
    · exact ⟨4, by omega, en i z hi⟩
/-- a kept word on top, given back and cut off -/
theorem ut_ap_popk (h : ut_FS wl N K) (ha : a < 4) (hp : ut_pl N a = ut_sz N) (h0 : 0 < ut_sz N) (e : ∀ i, i < ut_sz N - 1 → K' i = K i) : ut_FS wl (ut_sp (ut_ss N (ut_sz N - 1)) a 0) K' := by
  have h16 := ut_sz_lt N
  have h2 := h.2.1
  have hs : ut_sz (ut_sp (ut_ss N (ut_sz N - 1)) a 0) = ut_sz N - 1 := by rw [ut_sz_sp ha]; exact ut_sz_ss (by omega)
  have hq : ∀ r, r < 4 → r ≠ a → ut_pl (ut_sp (ut_ss N (ut_sz N - 1)) a 0) r = ut_pl N r := fun r hr hn => by
    rw [ut_pl_sp_n ha hr (by omega) hn, ut_pl_ss hr (by omega)]
  have hqa : ut_pl (ut_sp (ut_ss N (ut_sz N - 1)) a 0) a = 0 := ut_pl_sp_s ha (by omega)
  refine ⟨ut_sp_lt (ut_ss_lt h.1 (by omega)) ha (by omega), by omega, fun r hr => ?_, fun r hr i hi => ?_, fun i hi => ?_⟩
  · rw [hs]
    by_cases z : r = a
    · rw [z, hqa]; omega
    · rw [hq r hr z]
      have k0 := h.2.2.1 r hr
      rcases Nat.lt_or_ge (ut_pl N r) (ut_sz N) with y | y
      · omega
      · have k1 := (h.2.2.2.1 a ha (ut_sz N - 1) (by omega)).mpr (by omega)
        have k2 := (h.2.2.2.1 r hr (ut_sz N - 1) (by omega)).mpr (by omega)
        rw [k1, nI_eq (by omega) (by omega)] at k2
        exact absurd k2.symm z
  · rw [hs] at hi
    by_cases z : r = a
    · subst z
      rw [hqa, e i hi, h.2.2.2.1 r hr i (by omega)]; omega
    · rw [hq r hr z, e i hi]; exact h.2.2.2.1 r hr i (by omega)
  · rw [hs] at hi
    rw [e i hi]; exact h.2.2.2.2 i (by omega)
end UT4
end
section
/-! the call-frame table and its interpretation -/
section UT5
def ut_st (R : Nat) (c : Nat × Nat × Nat × (Nat → Nat)) : Nat × Nat × Nat × (Nat → Nat) :=
  if R < 64 then (c.1 + (R + 1), c.2.1, c.2.2.1, c.2.2.2)
  else if R = 196 then (c.1, c.2.1, c.2.2.1 + 1, ut_un c.2.2.2 c.2.2.1 c.2.1)
  else if R = 197 then (c.1, c.2.2.2 (c.2.2.1 - 1), c.2.2.1 - 1, c.2.2.2)
  else (c.1, ut_app c.2.1 R, c.2.2.1, c.2.2.2)
def ut_run (T : Nat → Nat) (b c : Nat) : Nat → Nat × Nat × Nat × (Nat → Nat)
  | 0 => (c, 0, 0, fun _ => 0)
  | k + 1 => ut_st (T (b + k)) (ut_run T b c k)
theorem ut_run_cg {T T' : Nat → Nat} {b c : Nat} : ∀ {k : Nat}, (∀ i, b ≤ i → i < b + k → T' i = T i) → ut_run T' b c k = ut_run T b c k := by
  intro k
  induction k with
  | zero => intro _; rfl
  | succ k ih => intro h; rw [ut_run, ut_run, h (b + k) (by omega) (by omega), ih (fun i h1 h2 => h i h1 (by omega))]
theorem ut_st_a {R : Nat} {c : Nat × Nat × Nat × (Nat → Nat)} (h : R < 64) : ut_st R c = (c.1 + (R + 1), c.2.1, c.2.2.1, c.2.2.2) := if_pos h
theorem ut_st_m {c : Nat × Nat × Nat × (Nat → Nat)} : ut_st 196 c = (c.1, c.2.1, c.2.2.1 + 1, ut_un c.2.2.2 c.2.2.1 c.2.1) := rfl
theorem ut_st_c {c : Nat × Nat × Nat × (Nat → Nat)} : ut_st 197 c = (c.1, c.2.2.2 (c.2.2.1 - 1), c.2.2.1 - 1, c.2.2.2) := rfl
theorem ut_st_r {R : Nat} {c : Nat × Nat × Nat × (Nat → Nat)} (h : 64 ≤ R) (h1 : R ≠ 196) (h2 : R ≠ 197) : ut_st R c = (c.1, ut_app c.2.1 R, c.2.2.1, c.2.2.2) := by
  unfold ut_st
  rw [if_neg (by omega), if_neg h1, if_neg h2]
def ut_rok (T S : Nat → Nat) (b c z k : Nat) : Prop :=
  ut_vr (T (b + k)) ∧ (ut_run T b c k).2.1 < 1048576 ∧ (ut_run T b c k).1 ≤ z ∧ (ut_run T b c (k + 1)).1 ≤ z ∧
  (T (b + k) < 64 → ∀ q, (ut_run T b c k).1 ≤ q → q < (ut_run T b c (k + 1)).1 → S q = (ut_run T b c k).2.1) ∧
  (T (b + k) = 196 → (ut_run T b c k).2.2.1 < 4) ∧ (T (b + k) = 197 → 0 < (ut_run T b c k).2.2.1 ∧ (ut_run T b c k).2.2.1 ≤ 4)
def ut_pf (T S : Nat → Nat) (b e c z : Nat) : Prop := ∀ k, b + k < e → ut_rok T S b c z k
theorem ut_pf_cg {T T' S S' : Nat → Nat} {b e c z z' : Nat} (h : ut_pf T S b e c z) (hz : z ≤ z') (hT : ∀ i, b ≤ i → i < e → T' i = T i) (hS : ∀ q, q < z → S' q = S q) : ut_pf T' S' b e c z' := by
  intro k hk
  have r0 : ut_run T' b c k = ut_run T b c k := ut_run_cg (fun i h1 h2 => hT i h1 (by omega))
  have r1 : ut_run T' b c (k + 1) = ut_run T b c (k + 1) := ut_run_cg (fun i h1 h2 => hT i h1 (by omega))
  obtain ⟨h1, h2, h3, h4, h5, h6, h7⟩ := h k hk
  unfold ut_rok
  rw [r0, r1, hT (b + k) (by omega) hk]
  exact ⟨h1, h2, by omega, by omega, fun x q q1 q2 => by rw [hS q (by omega)]; exact h5 x q q1 q2, h6, h7⟩
/-- the table [b, e) of a complete function with cells [c, z) -/
def ut_fn (T S : Nat → Nat) (b e c z : Nat) : Prop :=
  b ≤ e ∧ ut_pf T S b e c z ∧ (ut_run T b c (e - b)).2.1 < 1048576 ∧ (ut_run T b c (e - b)).1 ≤ z ∧
  ∀ q, (ut_run T b c (e - b)).1 ≤ q → q < z → S q = (ut_run T b c (e - b)).2.1
theorem ut_fn_cg {T T' S S' : Nat → Nat} {b e c z : Nat} (h : ut_fn T S b e c z) (hT : ∀ i, b ≤ i → i < e → T' i = T i) (hS : ∀ q, q < z → S' q = S q) : ut_fn T' S' b e c z := by
  obtain ⟨h0, h1, h2, h3, h4⟩ := h
  have r0 : ut_run T' b c (e - b) = ut_run T b c (e - b) := ut_run_cg (fun i a1 a2 => hT i a1 (by omega))
  refine ⟨h0, ut_pf_cg h1 (Nat.le_refl _) hT hS, ?_⟩
  rw [r0]
  exact ⟨h2, h3, fun q q1 q2 => by rw [hS q q2]; exact h4 q q1 q2⟩
/-- the table [b, t) of the function being built: location ra, state N, oc blocks not yet closed, with the states O -/
def ut_bt (T S : Nat → Nat) (b t c ra N oc : Nat) (O : Nat → Nat) : Prop :=
  b ≤ t ∧ ut_pf T S b t c ra ∧ (ut_run T b c (t - b)).1 = ra ∧ (ut_run T b c (t - b)).2.1 = N ∧ (ut_run T b c (t - b)).2.2.1 = oc ∧
  (∀ k, k < oc → (ut_run T b c (t - b)).2.2.2 k = O k) ∧ N < 1048576
theorem ut_bt_0 {T S O : Nat → Nat} {b c : Nat} : ut_bt T S b b c c 0 0 O := by
  refine ⟨Nat.le_refl _, fun k hk => by omega, ?_⟩
  rw [Nat.sub_self]
  exact ⟨rfl, rfl, rfl, fun k hk => absurd hk (Nat.not_lt_zero k), by omega⟩
theorem ut_bt_cg {T S S' O : Nat → Nat} {b t c ra N oc : Nat} (h : ut_bt T S b t c ra N oc O) (hS : ∀ q, q < ra → S' q = S q) : ut_bt T S' b t c ra N oc O :=
  ⟨h.1, ut_pf_cg h.2.1 (Nat.le_refl _) (fun _ _ _ => rfl) hS, h.2.2⟩
theorem ut_bt_O {T S O O' : Nat → Nat} {b t c ra N oc : Nat} (h : ut_bt T S b t c ra N oc O) (hO : ∀ k, k < oc → O' k = O k) : ut_bt T S b t c ra N oc O' :=
  ⟨h.1, h.2.1, h.2.2.1, h.2.2.2.1, h.2.2.2.2.1, fun k hk => by rw [hO k hk]; exact h.2.2.2.2.2.1 k hk, h.2.2.2.2.2.2⟩
theorem ut_bt_put {T S : Nat → Nat} {b t c ra : Nat} (R : Nat) (hb : b ≤ t) : ut_run (ut_un T t R) b c (t - b) = ut_run T b c (t - b) ∧ ut_run (ut_un T t R) b c (t + 1 - b) = ut_st R (ut_run T b c (t - b)) := by
  have r0 : ut_run (ut_un T t R) b c (t - b) = ut_run T b c (t - b) := ut_run_cg (fun i a1 a2 => ut_unn (by omega))
  refine ⟨r0, ?_⟩
  rw [show t + 1 - b = (t - b) + 1 by omega, ut_run, r0, show b + (t - b) = t by omega, ut_us]
/-- one more rule -/
theorem ut_pf_put {T S : Nat → Nat} {b t c ra z R : Nat} (hb : b ≤ t) (h : ut_pf T S b t c ra) (hz : ra ≤ z)
    (k : ut_vr R ∧ (ut_run T b c (t - b)).2.1 < 1048576 ∧ (ut_run T b c (t - b)).1 ≤ z ∧ (ut_st R (ut_run T b c (t - b))).1 ≤ z ∧
      (R < 64 → ∀ q, (ut_run T b c (t - b)).1 ≤ q → q < (ut_st R (ut_run T b c (t - b))).1 → S q = (ut_run T b c (t - b)).2.1) ∧
      (R = 196 → (ut_run T b c (t - b)).2.2.1 < 4) ∧ (R = 197 → 0 < (ut_run T b c (t - b)).2.2.1 ∧ (ut_run T b c (t - b)).2.2.1 ≤ 4)) :
    ut_pf (ut_un T t R) S b (t + 1) c z := by
  intro j hj
  rcases Nat.lt_or_ge (b + j) t with y | y
  · exact ut_pf_cg h hz (fun i a1 a2 => ut_unn (by omega)) (fun _ _ => rfl) j y
  · have ej : j = t - b := by omega
    subst ej
    obtain ⟨r0, r1⟩ := ut_bt_put (T := T) (S := S) (c := c) (ra := ra) R hb
    rw [show t + 1 - b = (t - b) + 1 by omega] at r1
    unfold ut_rok
    rw [r0, r1, show b + (t - b) = t by omega, ut_us]
    exact k
theorem ut_bt_adv {T S O : Nat → Nat} {b t c ra N oc u : Nat} (h : ut_bt T S b t c ra N oc O) (hu : ra ≤ u) (h64 : u < 64) (hS : ∀ q, ra ≤ q → q ≤ u → S q = N) :
    ut_bt (ut_un T t (u - ra)) S b (t + 1) c (u + 1) N oc O := by
  obtain ⟨h0, h1, h2, h3, h4, h5, h6⟩ := h
  obtain ⟨r0, r1⟩ := ut_bt_put (T := T) (S := S) (c := c) (ra := ra) (u - ra) h0
  have e : ut_st (u - ra) (ut_run T b c (t - b)) = ((ut_run T b c (t - b)).1 + (u - ra + 1), (ut_run T b c (t - b)).2.1, (ut_run T b c (t - b)).2.2.1, (ut_run T b c (t - b)).2.2.2) := ut_st_a (by omega)
  refine ⟨by omega, ut_pf_put h0 h1 (by omega) ?_, ?_⟩
  · rw [e, h2, h3, h4]
    exact ⟨Or.inl (by omega), h6, by omega, by dsimp only; omega, fun _ q q1 q2 => hS q q1 (by dsimp only at q2; omega), fun x => by omega, fun x => by omega⟩
  · rw [r1, e]
    exact ⟨by dsimp only; omega, h3, h4, h5, h6⟩
theorem ut_bt_rule {T S O : Nat → Nat} {b t c ra N oc R : Nat} (h : ut_bt T S b t c ra N oc O) (hR : ut_vr R) (h64 : 64 ≤ R) (hR2 : R < 196) :
    ut_bt (ut_un T t R) S b (t + 1) c ra (ut_app N R) oc O := by
  obtain ⟨h0, h1, h2, h3, h4, h5, h6⟩ := h
  obtain ⟨r0, r1⟩ := ut_bt_put (T := T) (S := S) (c := c) (ra := ra) R h0
  have e := ut_st_r (R := R) (c := ut_run T b c (t - b)) h64 (by omega) (by omega)
  refine ⟨by omega, ut_pf_put h0 h1 (Nat.le_refl _) ?_, ?_⟩
  · rw [e, h2, h3, h4]
    exact ⟨hR, h6, Nat.le_refl _, Nat.le_refl _, fun x => by omega, fun x => by omega, fun x => by omega⟩
  · rw [r1, e]
    exact ⟨h2, by dsimp only; rw [h3], h4, h5, ut_app_lt h6 hR h64⟩
theorem ut_bt_rem {T S O O' : Nat → Nat} {b t c ra N oc : Nat} (h : ut_bt T S b t c ra N oc O) (hoc : oc < 4) (hO : ∀ k, k < oc → O' k = O k) (hN : O' oc = N) :
    ut_bt (ut_un T t 196) S b (t + 1) c ra N (oc + 1) O' := by
  obtain ⟨h0, h1, h2, h3, h4, h5, h6⟩ := h
  obtain ⟨r0, r1⟩ := ut_bt_put (T := T) (S := S) (c := c) (ra := ra) 196 h0
  have e := ut_st_m (c := ut_run T b c (t - b))
  refine ⟨by omega, ut_pf_put h0 h1 (Nat.le_refl _) ?_, ?_⟩
  · rw [e, h2, h3, h4]
    exact ⟨Or.inr (Or.inr (Or.inr (by omega))), h6, Nat.le_refl _, Nat.le_refl _, fun x => by omega, fun _ => hoc, fun x => by omega⟩
  · rw [r1, e]
    refine ⟨h2, h3, by dsimp only; rw [h4], fun k hk => ?_, h6⟩
    dsimp only
    rw [h4, h3]
    by_cases z : k = oc
    · subst z; rw [ut_us, hN]
    · rw [ut_unn z, hO k (by omega)]; exact h5 k (by omega)
theorem ut_bt_rec {T S O : Nat → Nat} {b t c ra N oc : Nat} (h : ut_bt T S b t c ra N oc O) (h0c : 0 < oc) (hoc : oc ≤ 4) (hl : O (oc - 1) < 1048576) :
    ut_bt (ut_un T t 197) S b (t + 1) c ra (O (oc - 1)) (oc - 1) O := by
  obtain ⟨h0, h1, h2, h3, h4, h5, h6⟩ := h
  obtain ⟨r0, r1⟩ := ut_bt_put (T := T) (S := S) (c := c) (ra := ra) 197 h0
  have e := ut_st_c (c := ut_run T b c (t - b))
  refine ⟨by omega, ut_pf_put h0 h1 (Nat.le_refl _) ?_, ?_⟩
  · rw [e, h2, h3, h4]
    exact ⟨Or.inr (Or.inr (Or.inr (by omega))), h6, Nat.le_refl _, Nat.le_refl _, fun x => by omega, fun x => by omega, fun _ => ⟨h0c, hoc⟩⟩
  · rw [r1, e]
    refine ⟨h2, ?_, by dsimp only; rw [h4], fun k hk => ?_, hl⟩
    · dsimp only; rw [h4]; exact h5 (oc - 1) (by omega)
    · exact h5 k (by omega)
/-- a function is complete: its last cell is u -/
theorem ut_bt_fn {T S O : Nat → Nat} {b t c ra N oc u : Nat} (h : ut_bt T S b t c ra N oc O) (hu : ra ≤ u) (hS : ∀ q, ra ≤ q → q ≤ u → S q = N) : ut_fn T S b t c (u + 1) := by
  obtain ⟨h0, h1, h2, h3, h4, h5, h6⟩ := h
  refine ⟨h0, ut_pf_cg h1 (by omega) (fun _ _ _ => rfl) (fun _ _ => rfl), ?_⟩
  rw [h2, h3]
  exact ⟨h6, by omega, fun q q1 q2 => hS q q1 (by omega)⟩
end UT5
end
section
/-! the static facts of the code -/
section UT6
def ut_cell (fl wl : Nat) (A F B L : Nat → Int32) (S OC : Nat → Nat) (U oc i : Nat) : Prop :=
  (∃ o a, o ≤ 12 ∧ A i = nI o ∧ F i = nI a ∧ ut_fit fl wl o a (B i) (S i) ∧ S (i + 1) = ut_eff o a (B i) (S i) ∧ L i = nI (ut_dst o a (B i) (S i))) ∨
  (A i = 13 ∧ ut_sz (S i) = 0) ∨
  ((A i = 14 ∨ A i = 15) ∧ (∃ a, a ≤ 5 ∧ F i = nI a) ∧ S (i + 1) = S i ∧
    ((∃ k, k < oc ∧ OC k = i) ∨ (∃ e, i < e ∧ e < U ∧ A e = 16 ∧ ut_mt A i e ∧ L i = nI (e + 1) ∧ S (e + 1) = S i))) ∨
  (A i = 16 ∧ ∃ o, o < i ∧ (A o = 14 ∨ A o = 15) ∧ ut_mt A o i ∧ S (i + 1) = S o ∧ L i = nI (if A o = 15 then o else i + 1))
def ut_fns (A : Nat → Int32) (S CS : Nat → Nat) (U fc : Nat) : Prop :=
  CS 0 = 0 ∧ (∀ f, f ≤ fc → CS f ≤ U ∧ ut_zn A (CS f) = 0 ∧ ut_zc A (CS f) = f ∧ S (CS f) = 0 ∧ ∀ i, i < CS f → ut_zc A i < f) ∧
  (∀ f, f < fc → CS f < CS (f + 1) ∧ A (CS (f + 1) - 1) = 13)
def ut_opens (A : Nat → Int32) (OC : Nat → Nat) (c U oc : Nat) : Prop :=
  ∀ k, k < oc → c ≤ OC k ∧ OC k < U ∧ (A (OC k) = 14 ∨ A (OC k) = 15) ∧ ut_zn A (OC k) = k ∧ ∀ j, OC k < j → j ≤ U → k < ut_zn A j
def ut_ends (A : Nat → Int32) (S : Nat → Nat) (U : Nat) : Prop := ∀ i, i + 1 < U → A i ≠ 13 → A (i + 1) = 16 → S (i + 1) = S (i + 2)
def ut_code (fl wl : Nat) (A F B L : Nat → Int32) (S OC CS : Nat → Nat) (U fc oc : Nat) (rb : Int32) : Prop :=
  (U ≤ 64 ∧ fc ≤ fl ∧ oc ≤ 4 ∧ ut_zn A U = oc ∧ ut_zc A U = fc) ∧ ut_fns A S CS U fc ∧
  (∀ i, i < U → ut_cell fl wl A F B L S OC U oc i) ∧ ut_opens A OC (CS fc) U oc ∧ ut_ends A S U ∧
  (rb = 1 ∨ (rb = 0 ∧ CS fc < U ∧ A (U - 1) = 13 ∧ 0 < oc))
theorem ut_cell_cg {fl wl : Nat} {A F B L A' F' B' L' : Nat → Int32} {S OC S' OC' : Nat → Nat} {U oc U' oc' i : Nat} (h : ut_cell fl wl A F B L S OC U oc i) (hi : i < U)
    (hA : ∀ j, j < U → A' j = A j) (hF : F' i = F i) (hB : B' i = B i) (hL : L' i = L i) (hS : ∀ j, j ≤ U → S' j = S j) (hU : U ≤ U')
    (ho : (∃ k, k < oc ∧ OC k = i) → ∃ k, k < oc' ∧ OC' k = i) : ut_cell fl wl A' F' B' L' S' OC' U' oc' i := by
  unfold ut_cell
  rw [hA i hi, hF, hB, hL, hS i (by omega), hS (i + 1) (by omega)]
  rcases h with h | h | ⟨h1, h2, h3, h4⟩ | ⟨h1, o, h2, h3, h4, h5, h6⟩
  · exact Or.inl h
  · exact Or.inr (Or.inl h)
  · refine Or.inr (Or.inr (Or.inl ⟨h1, h2, h3, ?_⟩))
    rcases h4 with h4 | ⟨e, e1, e2, e3, e4, e5, e6⟩
    · exact Or.inl (ho h4)
    · exact Or.inr ⟨e, e1, by omega, by rw [hA e e2]; exact e3, ut_mt_cg (by omega) (fun j hj => hA j (by omega)) e4, e5, by rw [hS _ (by omega)]; exact e6⟩
  · refine Or.inr (Or.inr (Or.inr ⟨h1, o, h2, ?_, ut_mt_cg (by omega) (fun j hj => hA j (by omega)) h4, ?_, ?_⟩))
    · rw [hA o (by omega)]; exact h3
    · rw [hS o (by omega)]; exact h5
    · rw [hA o (by omega)]; exact h6
theorem ut_fns_cg {A A' : Nat → Int32} {S S' CS : Nat → Nat} {U U' fc : Nat} (h : ut_fns A S CS U fc) (hA : ∀ j, j < U → A' j = A j) (hS : ∀ j, j ≤ U → S' j = S j) (hU : U ≤ U') : ut_fns A' S' CS U' fc := by
  obtain ⟨h0, h1, h2⟩ := h
  refine ⟨h0, fun f hf => ?_, fun f hf => ?_⟩
  · obtain ⟨a1, a2, a3, a4, a5⟩ := h1 f hf
    refine ⟨by omega, ?_, ?_, ?_, fun i hi => ?_⟩
    · rw [ut_zn_cg (A := A) (fun j hj => hA j (by omega))]; exact a2
    · rw [ut_zc_cg (A := A) (fun j hj => hA j (by omega))]; exact a3
    · rw [hS _ a1]; exact a4
    · rw [ut_zc_cg (A := A) (fun j hj => hA j (by omega))]; exact a5 i hi
  · have a1 := (h1 (f + 1) (by omega)).1
    have a2 := h2 f hf
    exact ⟨a2.1, by rw [hA _ (by omega)]; exact a2.2⟩
theorem ut_opens_cg {A A' : Nat → Int32} {OC : Nat → Nat} {c U oc : Nat} (h : ut_opens A OC c U oc) (hA : ∀ j, j < U → A' j = A j) (hz : ∀ k, k < oc → k < ut_zn A' (U + 1)) : ut_opens A' OC c (U + 1) oc := by
  intro k hk
  obtain ⟨a1, a2, a3, a4, a5⟩ := h k hk
  refine ⟨a1, by omega, by rw [hA _ a2]; exact a3, by rw [ut_zn_cg (A := A) (fun j hj => hA j (by omega))]; exact a4, fun j j1 j2 => ?_⟩
  by_cases e : j = U + 1
  · rw [e]; exact hz k hk
  · rw [ut_zn_cg (A := A) (fun j' hj => hA j' (by omega))]; exact a5 j j1 (by omega)
theorem ut_ends_cg {A A' : Nat → Int32} {S S' : Nat → Nat} {U : Nat} (h : ut_ends A S U) (hA : ∀ j, j < U → A' j = A j) (hS : ∀ j, j ≤ U → S' j = S j) (hn : A' U = 16 → 0 < U → A (U - 1) ≠ 13 → S' U = S' (U + 1)) : ut_ends A' S' (U + 1) := by
  intro i hi h1 h2
  by_cases e : i + 1 = U
  · have e' : i = U - 1 := by omega
    rw [e] at h2
    rw [hA i (by omega), e'] at h1
    rw [e, show i + 2 = U + 1 by omega]
    exact hn h2 (by omega) h1
  · rw [hA i (by omega)] at h1
    rw [hA (i + 1) (by omega)] at h2
    rw [hS _ (by omega), hS _ (by omega)]
    exact h i (by omega) h1 h2
section E
variable {fl wl : Nat} {A F B L : Nat → Int32} {S OC CS : Nat → Nat} {U fc oc : Nat} {rb : Int32}
theorem ut_upd_lt {f : Nat → Int32} {x : Int32} : ∀ j, j < U → upd f U x j = f j := fun j hj => pk_un (by omega)
theorem ut_un_le {f : Nat → Nat} {x : Nat} : ∀ j, j ≤ U → ut_un f (U + 1) x j = f j := fun j hj => ut_unn (by omega)
theorem ut_nIl {o k : Nat} (ho : o ≤ 12) (hk : 12 < k) (hk2 : k < 20) : ¬ nI o = nI k := by
  rw [nI_eq (by omega) (by omega)]; omega
/-- an instruction of the frame, or a call -/
theorem ut_e1 {o a : Nat} {b : Int32} (H : ut_code fl wl A F B L S OC CS U fc oc rb) (hU : U < 64) (hr : rb = 1) (ho : o ≤ 12) (hf : ut_fit fl wl o a b (S U)) :
    ut_code fl wl (upd A U (nI o)) (upd F U (nI a)) (upd B U b) (upd L U (nI (ut_dst o a b (S U)))) (ut_un S (U + 1) (ut_eff o a b (S U))) OC CS (U + 1) fc oc 1 := by
  obtain ⟨⟨c1, c2, c3, c4, c5⟩, c6, c7, c8, c9, c10⟩ := H
  have n14 : ¬ nI o = 14 := ut_nIl (k := 14) ho (by omega) (by omega)
  have n15 : ¬ nI o = 15 := ut_nIl (k := 15) ho (by omega) (by omega)
  have n16 : ¬ nI o = 16 := ut_nIl (k := 16) ho (by omega) (by omega)
  have n13 : ¬ nI o = 13 := ut_nIl (k := 13) ho (by omega) (by omega)
  have zU : ut_zn (upd A U (nI o)) (U + 1) = oc := by
    rw [ut_zn_n (by rw [pk_us]; exact fun x => x.elim n14 n15) (by rw [pk_us]; exact n16), ut_zn_up (Nat.le_refl _)]; exact c4
  have yU : ut_zc (upd A U (nI o)) (U + 1) = fc := by
    rw [ut_zc_n (by rw [pk_us]; exact fun x => n13 x.1), ut_zc_up (Nat.le_refl _)]; exact c5
  refine ⟨⟨by omega, c2, c3, zU, yU⟩, ut_fns_cg c6 ut_upd_lt ut_un_le (by omega), fun i hi => ?_, ?_, ?_, Or.inl rfl⟩
  · by_cases e : i = U
    · subst e
      refine Or.inl ⟨o, a, ho, pk_us, pk_us, ?_⟩
      rw [pk_us, pk_us, ut_us, ut_unn (by omega)]
      exact ⟨hf, rfl, rfl⟩
    · exact ut_cell_cg (c7 i (by omega)) (by omega) ut_upd_lt (pk_un e) (pk_un e) (pk_un e) ut_un_le (by omega) (fun x => x)
  · exact ut_opens_cg c8 ut_upd_lt (fun k hk => by rw [zU]; exact hk)
  · exact ut_ends_cg c9 ut_upd_lt ut_un_le (fun x => absurd (by rw [pk_us] at x; exact x) n16)
/-- a return inside a block -/
theorem ut_e2 {x y : Int32} {z : Int32} (H : ut_code fl wl A F B L S OC CS U fc oc rb) (hU : U < 64) (ho : 0 < oc) (hs : ut_sz (S U) = 0) :
    ut_code fl wl (upd A U 13) (upd F U x) (upd B U y) (upd L U z) (ut_un S (U + 1) (S U)) OC CS (U + 1) fc oc 0 := by
  obtain ⟨⟨c1, c2, c3, c4, c5⟩, c6, c7, c8, c9, c10⟩ := H
  have zU : ut_zn (upd A U 13) (U + 1) = oc := by
    rw [ut_zn_n (by rw [pk_us]; decide) (by rw [pk_us]; decide), ut_zn_up (Nat.le_refl _)]; exact c4
  have yU : ut_zc (upd A U 13) (U + 1) = fc := by
    rw [ut_zc_n (by rw [pk_us, ut_zn_up (Nat.le_refl _)]; omega), ut_zc_up (Nat.le_refl _)]; exact c5
  refine ⟨⟨by omega, c2, c3, zU, yU⟩, ut_fns_cg c6 ut_upd_lt ut_un_le (by omega), fun i hi => ?_, ?_, ?_, Or.inr ⟨rfl, ?_, ?_, ho⟩⟩
  · by_cases e : i = U
    · subst e
      refine Or.inr (Or.inl ⟨pk_us, ?_⟩)
      rw [ut_unn (by omega)]
      exact hs
    · exact ut_cell_cg (c7 i (by omega)) (by omega) ut_upd_lt (pk_un e) (pk_un e) (pk_un e) ut_un_le (by omega) (fun x => x)
  · exact ut_opens_cg c8 ut_upd_lt (fun k hk => by rw [zU]; exact hk)
  · exact ut_ends_cg c9 ut_upd_lt ut_un_le (fun x => absurd (by rw [pk_us] at x; exact x) (by decide : ¬ (13 : Int32) = 16))
  · have := (c6.2.1 fc (Nat.le_refl _)).1
    omega
  · exact pk_us
/-- the return that completes a function -/
theorem ut_e3 {x y : Int32} {z : Int32} {OC' : Nat → Nat} (H : ut_code fl wl A F B L S OC CS U fc 0 rb) (hU : U < 64) (hfc : fc < fl) (hs : ut_sz (S U) = 0) :
    ut_code fl wl (upd A U 13) (upd F U x) (upd B U y) (upd L U z) (ut_un S (U + 1) 0) OC' (ut_un CS (fc + 1) (U + 1)) (U + 1) (fc + 1) 0 1 := by
  obtain ⟨⟨c1, c2, c3, c4, c5⟩, c6, c7, c8, c9, c10⟩ := H
  have zU : ut_zn (upd A U 13) (U + 1) = 0 := by
    rw [ut_zn_n (by rw [pk_us]; decide) (by rw [pk_us]; decide), ut_zn_up (Nat.le_refl _)]; exact c4
  have yU : ut_zc (upd A U 13) (U + 1) = fc + 1 := by
    rw [ut_zc_r (by rw [pk_us]) (by rw [ut_zn_up (Nat.le_refl _)]; exact c4), ut_zc_up (Nat.le_refl _), c5]
  have d6 := ut_fns_cg (A' := upd A U 13) (S' := ut_un S (U + 1) 0) (U' := U + 1) c6 ut_upd_lt ut_un_le (by omega)
  refine ⟨⟨by omega, by omega, by omega, zU, yU⟩, ⟨?_, fun f hf => ?_, fun f hf => ?_⟩, fun i hi => ?_, fun k hk => absurd hk (Nat.not_lt_zero k), ?_, Or.inl rfl⟩
  · rw [ut_unn (by omega)]; exact c6.1
  · by_cases e : f = fc + 1
    · subst e
      rw [ut_us]
      refine ⟨Nat.le_refl _, zU, yU, ut_us, fun i hi => ?_⟩
      rw [ut_zc_up (by omega)]
      have := ut_zc_mono (A := A) (i := i) (j := U) (by omega)
      omega
    · rw [ut_unn e]; exact d6.2.1 f (by omega)
  · by_cases e : f = fc
    · subst e
      rw [ut_us, ut_unn (by omega), Nat.add_sub_cancel]
      have := (c6.2.1 f (Nat.le_refl _)).1
      exact ⟨by omega, pk_us⟩
    · rw [ut_unn (by omega), ut_unn (by omega)]; exact d6.2.2 f (by omega)
  · by_cases e : i = U
    · subst e
      refine Or.inr (Or.inl ⟨pk_us, ?_⟩)
      rw [ut_unn (by omega)]
      exact hs
    · exact ut_cell_cg (c7 i (by omega)) (by omega) ut_upd_lt (pk_un e) (pk_un e) (pk_un e) ut_un_le (by omega) (fun ⟨k, hk, _⟩ => absurd hk (Nat.not_lt_zero k))
  · exact ut_ends_cg c9 ut_upd_lt ut_un_le (fun x => absurd (by rw [pk_us] at x; exact x) (by decide : ¬ (13 : Int32) = 16))
/-- a block opens -/
theorem ut_e4 {o y z : Int32} {a : Nat} (H : ut_code fl wl A F B L S OC CS U fc oc rb) (hU : U < 64) (hoc : oc < 4) (ho : o = 14 ∨ o = 15) (ha : a ≤ 5) :
    ut_code fl wl (upd A U o) (upd F U (nI a)) (upd B U y) (upd L U z) (ut_un S (U + 1) (S U)) (ut_un OC oc U) CS (U + 1) fc (oc + 1) 1 := by
  obtain ⟨⟨c1, c2, c3, c4, c5⟩, c6, c7, c8, c9, c10⟩ := H
  have n16 : ¬ o = 16 := by rcases ho with rfl | rfl <;> decide
  have n13 : ¬ o = 13 := by rcases ho with rfl | rfl <;> decide
  have zU : ut_zn (upd A U o) (U + 1) = oc + 1 := by
    rw [ut_zn_o (by rw [pk_us]; exact ho), ut_zn_up (Nat.le_refl _), c4]
  have yU : ut_zc (upd A U o) (U + 1) = fc := by
    rw [ut_zc_n (by rw [pk_us]; exact fun x => n13 x.1), ut_zc_up (Nat.le_refl _)]; exact c5
  refine ⟨⟨by omega, c2, by omega, zU, yU⟩, ut_fns_cg c6 ut_upd_lt ut_un_le (by omega), fun i hi => ?_, fun k hk => ?_, ?_, Or.inl rfl⟩
  · by_cases e : i = U
    · subst e
      refine Or.inr (Or.inr (Or.inl ⟨?_, ⟨a, ha, pk_us⟩, ?_, Or.inl ⟨oc, by omega, ut_us⟩⟩))
      · rw [pk_us]; exact ho
      · rw [ut_us, ut_unn (by omega)]
    · refine ut_cell_cg (c7 i (by omega)) (by omega) ut_upd_lt (pk_un e) (pk_un e) (pk_un e) ut_un_le (by omega) (fun ⟨k, hk, hk2⟩ => ⟨k, by omega, ?_⟩)
      rw [ut_unn (by omega)]; exact hk2
  · by_cases e : k = oc
    · subst e
      rw [ut_us]
      refine ⟨(c6.2.1 fc (Nat.le_refl _)).1, by omega, by rw [pk_us]; exact ho, by rw [ut_zn_up (Nat.le_refl _)]; exact c4, fun j j1 j2 => ?_⟩
      rw [show j = U + 1 by omega, zU]; omega
    · have := ut_opens_cg (A' := upd A U o) c8 ut_upd_lt (fun k hk => by rw [zU]; omega) k (by omega)
      rw [ut_unn e]; exact this
  · exact ut_ends_cg c9 ut_upd_lt ut_un_le (fun x => absurd (by rw [pk_us] at x; exact x) n16)
/-- a block closes -/
theorem ut_e5 {x y : Int32} (H : ut_code fl wl A F B L S OC CS U fc oc rb) (hU : U < 64) (hoc : 0 < oc) (hs : rb = 1 → S U = S (OC (oc - 1))) :
    ut_code fl wl (upd A U 16) (upd F U x) (upd B U y) (upd (upd L (OC (oc - 1)) (nI (U + 1))) U (nI (if A (OC (oc - 1)) = 15 then OC (oc - 1) else U + 1))) (ut_un S (U + 1) (S (OC (oc - 1)))) OC CS (U + 1) fc (oc - 1) 1 := by
  obtain ⟨⟨c1, c2, c3, c4, c5⟩, c6, c7, c8, c9, c10⟩ := H
  obtain ⟨o1, o2, o3, o4, o5⟩ := c8 (oc - 1) (by omega)
  have zU : ut_zn (upd A U 16) (U + 1) = oc - 1 := by
    rw [ut_zn_e (by rw [pk_us]), ut_zn_up (Nat.le_refl _), c4]
  have yU : ut_zc (upd A U 16) (U + 1) = fc := by
    rw [ut_zc_n (by rw [pk_us]; exact fun x => absurd x.1 (by decide)), ut_zc_up (Nat.le_refl _)]; exact c5
  have m : ut_mt (upd A U 16) (OC (oc - 1)) U := by
    refine ⟨by rw [zU, ut_zn_up (by omega), o4], fun j j1 j2 => ?_⟩
    rw [ut_zn_up (by omega), ut_zn_up (by omega), o4]
    exact o5 j j1 j2
  have eo : upd A U 16 (OC (oc - 1)) = A (OC (oc - 1)) := pk_un (by omega)
  refine ⟨⟨by omega, c2, by omega, zU, yU⟩, ut_fns_cg c6 ut_upd_lt ut_un_le (by omega), fun i hi => ?_, ?_, ?_, Or.inl rfl⟩
  · by_cases e : i = U
    · subst e
      refine Or.inr (Or.inr (Or.inr ⟨pk_us, OC (oc - 1), o2, by rw [eo]; exact o3, m, ?_, ?_⟩))
      · rw [ut_us, ut_unn (by omega)]
      · rw [pk_us, eo]
    · by_cases e2 : i = OC (oc - 1)
      · rcases c7 i (by omega) with ⟨o, a, h0, h1, _⟩ | ⟨h1, _⟩ | ⟨h1, h2, h3, h4⟩ | ⟨h1, _⟩
        · exfalso
          rw [← e2, h1] at o3
          exact o3.elim (ut_nIl (k := 14) h0 (by omega) (by omega)) (ut_nIl (k := 15) h0 (by omega) (by omega))
        · exfalso
          rw [← e2, h1] at o3
          exact absurd o3 (by decide)
        · refine Or.inr (Or.inr (Or.inl ⟨?_, ?_, ?_, Or.inr ⟨U, by omega, by omega, pk_us, by rw [e2]; exact m, ?_, ?_⟩⟩))
          · rw [pk_un e]; exact h1
          · rw [pk_un e]; exact h2
          · rw [ut_unn (by omega), ut_unn (by omega)]; exact h3
          · rw [pk_un e, e2, pk_us]
          · rw [ut_us, ut_unn (by omega), e2]
        · exfalso
          rw [← e2, h1] at o3
          exact absurd o3 (by decide)
      · refine ut_cell_cg (c7 i (by omega)) (by omega) ut_upd_lt (pk_un e) (pk_un e) ?_ ut_un_le (by omega) (fun ⟨k, hk, hk2⟩ => ⟨k, ?_, hk2⟩)
        · rw [pk_un e, pk_un e2]
        · by_cases e3 : k = oc - 1
          · rw [e3] at hk2; exact absurd hk2.symm e2
          · omega
  · exact ut_opens_cg (oc := oc - 1) (fun k hk => c8 k (by omega)) ut_upd_lt (fun k hk => by rw [zU]; exact hk)
  · refine ut_ends_cg c9 ut_upd_lt ut_un_le (fun _ h0 h13 => ?_)
    rw [ut_us, ut_unn (by omega)]
    refine hs ?_
    rcases c10 with h | ⟨_, _, h, _⟩
    · exact h
    · exact absurd h h13
/-- the function being built is given up -/
theorem ut_e6 {OC' : Nat → Nat} (H : ut_code fl wl A F B L S OC CS U fc oc rb) : ut_code fl wl A F B L S OC' CS (CS fc) fc 0 1 := by
  obtain ⟨⟨c1, c2, c3, c4, c5⟩, c6, c7, c8, c9, c10⟩ := H
  obtain ⟨a1, a2, a3, a4, a5⟩ := c6.2.1 fc (Nat.le_refl _)
  have mono : ∀ d f, f + d ≤ fc → CS f ≤ CS (f + d) := by
    intro d
    induction d with
    | zero => intro f _; exact Nat.le_refl _
    | succ d ih =>
      intro f hf
      have h1 := ih f (by omega)
      have h2 := (c6.2.2 (f + d) (by omega)).1
      rw [show f + (d + 1) = f + d + 1 by omega]
      omega
  refine ⟨⟨by omega, c2, by omega, a2, a3⟩, ⟨c6.1, fun f hf => ?_, c6.2.2⟩, fun i hi => ?_, fun k hk => absurd hk (Nat.not_lt_zero k), fun i hi => c9 i (by omega), Or.inl rfl⟩
  · obtain ⟨b1, b2⟩ := c6.2.1 f hf
    have := mono (fc - f) f (by omega)
    rw [show f + (fc - f) = fc by omega] at this
    exact ⟨this, b2⟩
  · rcases c7 i (by omega) with h | h | ⟨h1, h2, h3, h4⟩ | h
    · exact Or.inl h
    · exact Or.inr (Or.inl h)
    · refine Or.inr (Or.inr (Or.inl ⟨h1, h2, h3, Or.inr ?_⟩))
      rcases h4 with ⟨k, hk, hk2⟩ | ⟨e, e1, e2, e3, e4, e5⟩
      · have := (c8 k hk).1
        omega
      · exact ⟨e, e1, ut_mt_out e4 a2 hi, e3, e4, e5⟩
    · exact Or.inr (Or.inr (Or.inr h))
end E
end UT6
end
section
/-! the table while code is emitted -/
section UT7
def ut_tab (T S OC CS TS : Nat → Nat) (U fc oc t ra : Nat) : Prop :=
  (t ≤ 3 * U ∧ TS 0 = 0 ∧ CS fc ≤ ra ∧ ra ≤ U) ∧ (∀ f, f ≤ fc → TS f ≤ t ∧ TS f ≤ 3 * CS f) ∧
  (∀ f, f < fc → ut_fn T S (TS f) (TS (f + 1)) (CS f) (CS (f + 1))) ∧
  ut_bt T S (TS fc) t (CS fc) ra (S U) oc (fun k => S (OC k)) ∧ ∀ q, ra ≤ q → q ≤ U → S q = S U
theorem ut_app_o {N m : Nat} (h : m ≤ 8) : ut_app N (64 + m) = ut_ss N m := by
  unfold ut_app
  rw [if_neg (by omega), if_neg (by omega), if_neg (by omega), Nat.add_sub_cancel_left]
theorem ut_app_k {N a c : Nat} (ha : a < 4) (hc : c < 8) : ut_app N (128 + 8 * a + c) = ut_sp N a (c + 1) := by
  unfold ut_app
  rw [if_neg (by omega), if_neg (by omega), if_pos (by omega), show (128 + 8 * a + c - 128) / 8 = a by omega, show (128 + 8 * a + c) % 8 = c by omega]
theorem ut_app_r {N a : Nat} (ha : a < 4) : ut_app N (192 + a) = ut_sp N a 0 := by
  unfold ut_app
  rw [if_neg (by omega), if_pos (by omega), Nat.add_sub_cancel_left]
section E
variable {T T' S OC OC' CS TS O' : Nat → Nat} {U fc oc oc' t t' ra N' R R1 R2 : Nat} {at_ at' : Nat → Int32}
theorem ut_tab_fin (H : ut_tab T S OC CS TS U fc oc t ra) (hC : ∀ f, f ≤ fc → CS f ≤ U) (hT : ∀ i, i < t → T' i = T i) (ht : t ≤ t') (ht3 : t' ≤ t + 3)
    (hb : ut_bt T' S (TS fc) t' (CS fc) (U + 1) N' oc' O') (hO : ∀ k, k < oc' → ut_un S (U + 1) N' (OC' k) = O' k) :
    ut_tab T' (ut_un S (U + 1) N') OC' CS TS (U + 1) fc oc' t' (U + 1) := by
  obtain ⟨⟨h1, h2, h3, h4⟩, h5, h6, h7, h8⟩ := H
  refine ⟨⟨by omega, h2, by omega, Nat.le_refl _⟩, fun f hf => ?_, fun f hf => ?_, ?_, fun q q1 q2 => ?_⟩
  · have := h5 f hf
    omega
  · have a1 := h5 (f + 1) (by omega)
    have a2 := hC (f + 1) (by omega)
    exact ut_fn_cg (h6 f hf) (fun i _ i2 => hT i (by omega)) (fun q hq => ut_unn (by omega))
  · rw [ut_us]
    exact ut_bt_O (ut_bt_cg hb (fun q hq => ut_unn (by omega))) hO
  · rw [show q = U + 1 by omega]
theorem ut_tab_0 (H : ut_tab T S OC CS TS U fc oc t ra) (hC : ∀ f, f ≤ fc → CS f ≤ U) (hO : ∀ k, k < oc → OC k ≤ U) :
    ut_tab T (ut_un S (U + 1) (S U)) OC CS TS (U + 1) fc oc t ra := by
  obtain ⟨⟨h1, h2, h3, h4⟩, h5, h6, h7, h8⟩ := H
  refine ⟨⟨by omega, h2, h3, by omega⟩, h5, fun f hf => ?_, ?_, fun q q1 q2 => ?_⟩
  · have a2 := hC (f + 1) (by omega)
    exact ut_fn_cg (h6 f hf) (fun _ _ _ => rfl) (fun q hq => ut_unn (by omega))
  · rw [ut_us]
    exact ut_bt_O (ut_bt_cg h7 (fun q hq => ut_unn (by omega))) (fun k hk => ut_unn (by have := hO k hk; omega))
  · rw [ut_us]
    by_cases e : q = U + 1
    · rw [e, ut_us]
    · rw [ut_unn e]; exact h8 q q1 (by omega)
/-- the table after an advance to the cell behind U -/
def ut_T1 (T : Nat → Nat) (t U ra R : Nat) : Nat → Nat := ut_un (ut_un T t (U - ra)) (t + 1) R
theorem ut_T1_lt {i : Nat} (h : i < t) : ut_T1 T t U ra R i = T i := by
  unfold ut_T1; rw [ut_unn (by omega), ut_unn (by omega)]
theorem ut_tab_1 (H : ut_tab T S OC CS TS U fc oc t ra) (hU : U < 64) (hC : ∀ f, f ≤ fc → CS f ≤ U) (hO : ∀ k, k < oc → OC k ≤ U) (hR : ut_vr R) (h64 : 64 ≤ R) (hR2 : R < 196) :
    ut_tab (ut_T1 T t U ra R) (ut_un S (U + 1) (ut_app (S U) R)) OC CS TS (U + 1) fc oc (t + 2) (U + 1) := by
  have b := ut_bt_rule (ut_bt_adv H.2.2.2.1 H.1.2.2.2 hU H.2.2.2.2) hR h64 hR2
  exact ut_tab_fin H hC (fun i hi => ut_T1_lt hi) (by omega) (by omega) b (fun k hk => ut_unn (by have := hO k hk; omega))
theorem ut_tab_2 (H : ut_tab T S OC CS TS U fc oc t ra) (hU : U < 64) (hC : ∀ f, f ≤ fc → CS f ≤ U) (hO : ∀ k, k < oc → OC k ≤ U) (hR : ut_vr R1) (h64 : 64 ≤ R1) (hR2 : R1 < 196)
    (kR : ut_vr R2) (k64 : 64 ≤ R2) (kR2 : R2 < 196) :
    ut_tab (ut_un (ut_T1 T t U ra R1) (t + 2) R2) (ut_un S (U + 1) (ut_app (ut_app (S U) R1) R2)) OC CS TS (U + 1) fc oc (t + 3) (U + 1) := by
  have b := ut_bt_rule (ut_bt_rule (ut_bt_adv H.2.2.2.1 H.1.2.2.2 hU H.2.2.2.2) hR h64 hR2) kR k64 kR2
  exact ut_tab_fin H hC (fun i hi => by rw [ut_unn (by omega), ut_T1_lt hi]) (by omega) (by omega) b (fun k hk => ut_unn (by have := hO k hk; omega))
theorem ut_tab_m (H : ut_tab T S OC CS TS U fc oc t ra) (hU : U < 64) (hoc : oc < 4) (hC : ∀ f, f ≤ fc → CS f ≤ U) (hO : ∀ k, k < oc → OC k ≤ U) :
    ut_tab (ut_T1 T t U ra 196) (ut_un S (U + 1) (S U)) (ut_un OC oc U) CS TS (U + 1) fc (oc + 1) (t + 2) (U + 1) := by
  have b := ut_bt_rem (O' := fun k => S (ut_un OC oc U k)) (ut_bt_adv H.2.2.2.1 H.1.2.2.2 hU H.2.2.2.2) hoc (fun k hk => by show S (ut_un OC oc U k) = S (OC k); rw [ut_unn (by omega)]) (by show S (ut_un OC oc U oc) = S U; rw [ut_us])
  refine ut_tab_fin H hC (fun i hi => ut_T1_lt hi) (by omega) (by omega) b (fun k hk => ?_)
  by_cases e : k = oc
  · subst e; rw [ut_us, ut_unn (by omega)]
  · rw [ut_unn e]
    exact ut_unn (by have := hO k (by omega); omega)
theorem ut_tab_c (H : ut_tab T S OC CS TS U fc oc t ra) (hU : U < 64) (h0 : 0 < oc) (hoc : oc ≤ 4) (hC : ∀ f, f ≤ fc → CS f ≤ U) (hO : ∀ k, k < oc → OC k ≤ U) (hl : S (OC (oc - 1)) < 1048576) :
    ut_tab (ut_T1 T t U ra 197) (ut_un S (U + 1) (S (OC (oc - 1)))) OC CS TS (U + 1) fc (oc - 1) (t + 2) (U + 1) := by
  have b := ut_bt_rec (ut_bt_adv H.2.2.2.1 H.1.2.2.2 hU H.2.2.2.2) h0 hoc hl
  exact ut_tab_fin H hC (fun i hi => ut_T1_lt hi) (by omega) (by omega) b (fun k hk => ut_unn (by have := hO k (by omega); omega))
theorem ut_tab_d (H : ut_tab T S OC CS TS U fc 0 t ra) (hC : ∀ f, f ≤ fc → CS f ≤ U) :
    ut_tab T (ut_un S (U + 1) 0) OC' (ut_un CS (fc + 1) (U + 1)) (ut_un TS (fc + 1) t) (U + 1) (fc + 1) 0 t (U + 1) := by
  obtain ⟨⟨h1, h2, h3, h4⟩, h5, h6, h7, h8⟩ := H
  refine ⟨⟨by omega, by rw [ut_unn (by omega)]; exact h2, by rw [ut_us]; omega, Nat.le_refl _⟩, fun f hf => ?_, fun f hf => ?_, ?_, fun q q1 q2 => ?_⟩
  · by_cases e : f = fc + 1
    · subst e; rw [ut_us, ut_us]; omega
    · rw [ut_unn e, ut_unn e]; exact h5 f (by omega)
  · have a2 := hC f (by omega)
    by_cases e : f = fc
    · subst e
      rw [ut_us, ut_us, ut_unn (by omega), ut_unn (by omega)]
      exact ut_fn_cg (ut_bt_fn h7 h4 h8) (fun _ _ _ => rfl) (fun q hq => ut_unn (by omega))
    · have a3 := hC (f + 1) (by omega)
      rw [ut_unn (by omega), ut_unn (by omega), ut_unn (by omega), ut_unn (by omega)]
      exact ut_fn_cg (h6 f (by omega)) (fun _ _ _ => rfl) (fun q hq => ut_unn (by omega))
  · rw [ut_us, ut_us, ut_us]
    exact ut_bt_0
  · rw [show q = U + 1 by omega]
theorem ut_tab_a (H : ut_tab T S OC CS TS U fc oc t ra) (h0 : S (CS fc) = 0) :
    ut_tab T S OC' CS TS (CS fc) fc 0 (TS fc) (CS fc) := by
  obtain ⟨⟨h1, h2, h3, h4⟩, h5, h6, h7, h8⟩ := H
  have mono : ∀ d f, f + d ≤ fc → TS f ≤ TS (f + d) := by
    intro d
    induction d with
    | zero => intro f _; exact Nat.le_refl _
    | succ d ih =>
      intro f hf
      have k1 := ih f (by omega)
      have k2 := (h6 (f + d) (by omega)).1
      rw [show f + (d + 1) = f + d + 1 by omega]
      omega
  refine ⟨⟨(h5 fc (Nat.le_refl _)).2, h2, Nat.le_refl _, Nat.le_refl _⟩, fun f hf => ⟨?_, (h5 f hf).2⟩, h6, ?_, fun q q1 q2 => ?_⟩
  · have := mono (fc - f) f (by omega)
    rw [show f + (fc - f) = fc by omega] at this
    exact this
  · rw [h0]; exact ut_bt_0
  · rw [show q = CS fc by omega]
/-! the bytes -/
theorem ut_lat1 (h : sb_Lat T t at_) (hr : R < 256) : sb_Lat (ut_un T t R) (t + 1) (upd at_ t (sb_b R)) := by
  intro j hj
  by_cases e : j = t
  · subst e; rw [ut_us, pk_us]; exact ⟨hr, rfl⟩
  · rw [ut_unn e, pk_un e]; exact h j (by omega)
theorem ut_lat2 (h : sb_Lat T t at_) (hU : U < 64) (hr : R < 256) : sb_Lat (ut_T1 T t U ra R) (t + 2) (upd (upd at_ t (sb_b (U - ra))) (t + 1) (sb_b R)) :=
  ut_lat1 (ut_lat1 h (by omega)) hr
theorem ut_lat_le (h : sb_Lat T t at_) (ht : t' ≤ t) : sb_Lat T t' at_ := fun j hj => h j (by omega)
end E
end UT7
end
section
/-! X's small methods -/
section UT8
variable {f_SAVE f_PUSH f_POP f_ALLOC f_FREE f_KEEP f_BACK f_LOAD f_STORE f_SET f_ADDI f_ADD f_CALL f_RET f_IF f_WHILE f_END f_ADVANCE f_OFFSET f_REGISTER f_RESTORE f_REMEMBER f_RECALL f_codeLimit f_functionLimit f_depthLimit f_wordLimit f_used f_functionCount f_tableUsed f_ruleAddress f_now f_reachable f_openCount f_sp f_pc f_active f_walkPc f_walkSp f_walkBase f_walkState : Int32} {a_ops a_firsts a_seconds a_link a_codeStart a_tableStart a_table a_openCell a_openState a_regs a_stack a_memory a_seen : Nat → Int32}
variable {post : Int32 → Prop} {N r k R : Nat}
theorem ut_s1 {n : Nat} (h : 0 < n) : nI n - 1 = nI (n - 1) := by
  obtain ⟨m, rfl⟩ : ∃ m, n = m + 1 := ⟨n - 1, by omega⟩
  exact nI_pred m
theorem ut_pleq {p k : Nat} (hp : p < 2 ^ 30) (hk : k < 2 ^ 30) : nI p - 1 = nI k ↔ p = k + 1 := by
  constructor
  · intro e
    have h : nI p = nI (k + 1) := by
      rw [← nI_1, ← e, Int32.sub_add_cancel]
    exact (nI_eq (by omega) (by omega)).mp h
  · rintro rfl
    exact nI_pred k
theorem ut_xsz (h : N < 1048576) (p : post (nI (ut_sz N))) : wpX_sizeOf post (f_SAVE, f_PUSH, f_POP, f_ALLOC, f_FREE, f_KEEP, f_BACK, f_LOAD, f_STORE, f_SET, f_ADDI, f_ADD, f_CALL, f_RET, f_IF, f_WHILE, f_END, f_ADVANCE, f_OFFSET, f_REGISTER, f_RESTORE, f_REMEMBER, f_RECALL, f_codeLimit, f_functionLimit, f_depthLimit, f_wordLimit, f_used, f_functionCount, f_tableUsed, f_ruleAddress, f_now, f_reachable, f_openCount, f_sp, f_pc, f_active, f_walkPc, f_walkSp, f_walkBase, f_walkState, a_ops, a_firsts, a_seconds, a_link, a_codeStart, a_tableStart, a_table, a_openCell, a_openState, a_regs, a_stack, a_memory, a_seen) (nI N) := by
  show post (nI N &&& 15)
  rw [ut_isz h]
  exact p
theorem ut_xpl (h : N < 1048576) (hr : r < 4) (p0 : ut_pl N r = 0 → post (-1)) (p1 : ut_pl N r ≠ 0 → post (nI (ut_pl N r - 1))) : wpX_placeOf post (f_SAVE, f_PUSH, f_POP, f_ALLOC, f_FREE, f_KEEP, f_BACK, f_LOAD, f_STORE, f_SET, f_ADDI, f_ADD, f_CALL, f_RET, f_IF, f_WHILE, f_END, f_ADVANCE, f_OFFSET, f_REGISTER, f_RESTORE, f_REMEMBER, f_RECALL, f_codeLimit, f_functionLimit, f_depthLimit, f_wordLimit, f_used, f_functionCount, f_tableUsed, f_ruleAddress, f_now, f_reachable, f_openCount, f_sp, f_pc, f_active, f_walkPc, f_walkSp, f_walkBase, f_walkState, a_ops, a_firsts, a_seconds, a_link, a_codeStart, a_tableStart, a_table, a_openCell, a_openState, a_regs, a_stack, a_memory, a_seen) (nI N) (nI r) := by
  show post (((nI N >>> ((4 + (4 * nI r)) &&& 31)) &&& 15) - 1)
  rw [ut_ipl h hr]
  by_cases e : ut_pl N r = 0
  · rw [e]; exact p0 e
  · rw [ut_s1 (by omega)]; exact p1 e
theorem ut_xplr (h : N < 1048576) (hr : r < 4) (p : post (nI (ut_pl N r) - 1)) : wpX_placeOf post (f_SAVE, f_PUSH, f_POP, f_ALLOC, f_FREE, f_KEEP, f_BACK, f_LOAD, f_STORE, f_SET, f_ADDI, f_ADD, f_CALL, f_RET, f_IF, f_WHILE, f_END, f_ADVANCE, f_OFFSET, f_REGISTER, f_RESTORE, f_REMEMBER, f_RECALL, f_codeLimit, f_functionLimit, f_depthLimit, f_wordLimit, f_used, f_functionCount, f_tableUsed, f_ruleAddress, f_now, f_reachable, f_openCount, f_sp, f_pc, f_active, f_walkPc, f_walkSp, f_walkBase, f_walkState, a_ops, a_firsts, a_seconds, a_link, a_codeStart, a_tableStart, a_table, a_openCell, a_openState, a_regs, a_stack, a_memory, a_seen) (nI N) (nI r) := by
  show post (((nI N >>> ((4 + (4 * nI r)) &&& 31)) &&& 15) - 1)
  rw [ut_ipl h hr]
  exact p
theorem ut_xkp (h : N < 1048576) (hr : r < 4) (p0 : ut_pl N r = 0 → post 0) (p1 : ut_pl N r ≠ 0 → post 1) : wpX_keeps post (f_SAVE, f_PUSH, f_POP, f_ALLOC, f_FREE, f_KEEP, f_BACK, f_LOAD, f_STORE, f_SET, f_ADDI, f_ADD, f_CALL, f_RET, f_IF, f_WHILE, f_END, f_ADVANCE, f_OFFSET, f_REGISTER, f_RESTORE, f_REMEMBER, f_RECALL, f_codeLimit, f_functionLimit, f_depthLimit, f_wordLimit, f_used, f_functionCount, f_tableUsed, f_ruleAddress, f_now, f_reachable, f_openCount, f_sp, f_pc, f_active, f_walkPc, f_walkSp, f_walkBase, f_walkState, a_ops, a_firsts, a_seconds, a_link, a_codeStart, a_tableStart, a_table, a_openCell, a_openState, a_regs, a_stack, a_memory, a_seen) (nI N) (nI r) := by
  have := ut_pl_lt N r
  unfold wpX_keeps
  dsimp only
  refine ut_xpl h hr (fun e => ?_) (fun e => ?_)
  · exact br_t (by decide) (p0 e)
  · exact br_f (nI_pos (by omega)) (p1 e)
theorem ut_xpd {p2 : Int32} (h : N < 1048576) (hr : r < 4) (hk : k < 16) (hp : p2 + 1 = nI k) (p : post (nI (ut_sp N r k))) : wpX_placed post (f_SAVE, f_PUSH, f_POP, f_ALLOC, f_FREE, f_KEEP, f_BACK, f_LOAD, f_STORE, f_SET, f_ADDI, f_ADD, f_CALL, f_RET, f_IF, f_WHILE, f_END, f_ADVANCE, f_OFFSET, f_REGISTER, f_RESTORE, f_REMEMBER, f_RECALL, f_codeLimit, f_functionLimit, f_depthLimit, f_wordLimit, f_used, f_functionCount, f_tableUsed, f_ruleAddress, f_now, f_reachable, f_openCount, f_sp, f_pc, f_active, f_walkPc, f_walkSp, f_walkBase, f_walkState, a_ops, a_firsts, a_seconds, a_link, a_codeStart, a_tableStart, a_table, a_openCell, a_openState, a_regs, a_stack, a_memory, a_seen) (nI N) (nI r) p2 := by
  refine nm_e (P := fun x4_1 => post ((nI N &&& (((15 : Int32) <<< (x4_1 &&& 31)) ^^^ (-1))) ||| ((p2 + 1) <<< (x4_1 &&& 31)))) ?_
  rw [hp, ut_isp h hr hk]
  exact p
def ut_kd (N k : Nat) : Nat := if ut_pl N 0 = k + 1 then 0 else if ut_pl N 1 = k + 1 then 1 else if ut_pl N 2 = k + 1 then 2 else if ut_pl N 3 = k + 1 then 3 else 4
theorem ut_xkd1 {n : Nat} (h : N < 1048576) (hr : r < 4) (hk : k < 16) (p : ut_pl N r = k + 1 → post (nI r)) (q : ut_pl N r ≠ k + 1 → wX_kindOf_2 post (nI N) (nI k) f_SAVE f_PUSH f_POP f_ALLOC f_FREE f_KEEP f_BACK f_LOAD f_STORE f_SET f_ADDI f_ADD f_CALL f_RET f_IF f_WHILE f_END f_ADVANCE f_OFFSET f_REGISTER f_RESTORE f_REMEMBER f_RECALL f_codeLimit f_functionLimit f_depthLimit f_wordLimit f_used f_functionCount f_tableUsed f_ruleAddress f_now f_reachable f_openCount f_sp f_pc f_active f_walkPc f_walkSp f_walkBase f_walkState a_ops a_firsts a_seconds a_link a_codeStart a_tableStart a_table a_openCell a_openState a_regs a_stack a_memory a_seen n (nI (r + 1))) :
    wX_kindOf_2 post (nI N) (nI k) f_SAVE f_PUSH f_POP f_ALLOC f_FREE f_KEEP f_BACK f_LOAD f_STORE f_SET f_ADDI f_ADD f_CALL f_RET f_IF f_WHILE f_END f_ADVANCE f_OFFSET f_REGISTER f_RESTORE f_REMEMBER f_RECALL f_codeLimit f_functionLimit f_depthLimit f_wordLimit f_used f_functionCount f_tableUsed f_ruleAddress f_now f_reachable f_openCount f_sp f_pc f_active f_walkPc f_walkSp f_walkBase f_walkState a_ops a_firsts a_seconds a_link a_codeStart a_tableStart a_table a_openCell a_openState a_regs a_stack a_memory a_seen (n + 1) (nI r) := by
  have := ut_pl_lt N r
  refine br_f (nI_ge (b := 4) hr (by omega)) ?_
  refine ut_xplr h hr ?_
  by_cases e : ut_pl N r = k + 1
  · exact br_t ((ut_pleq (by omega) (by omega)).mpr e) (p e)
  · exact br_f (fun x => e ((ut_pleq (by omega) (by omega)).mp x)) (nm_r (nI_1 r) (q e))
theorem ut_xkd (h : N < 1048576) (hk : k < 16) (p : post (nI (ut_kd N k))) : wpX_kindOf post (f_SAVE, f_PUSH, f_POP, f_ALLOC, f_FREE, f_KEEP, f_BACK, f_LOAD, f_STORE, f_SET, f_ADDI, f_ADD, f_CALL, f_RET, f_IF, f_WHILE, f_END, f_ADVANCE, f_OFFSET, f_REGISTER, f_RESTORE, f_REMEMBER, f_RECALL, f_codeLimit, f_functionLimit, f_depthLimit, f_wordLimit, f_used, f_functionCount, f_tableUsed, f_ruleAddress, f_now, f_reachable, f_openCount, f_sp, f_pc, f_active, f_walkPc, f_walkSp, f_walkBase, f_walkState, a_ops, a_firsts, a_seconds, a_link, a_codeStart, a_tableStart, a_table, a_openCell, a_openState, a_regs, a_stack, a_memory, a_seen) (nI N) (nI k) := by
  unfold ut_kd at p
  refine ⟨5, ?_⟩
  refine ut_xkd1 (r := 0) h (by omega) hk (fun e => by rw [if_pos e] at p; exact p) (fun e => ?_)
  rw [if_neg e] at p
  refine ut_xkd1 (r := 1) h (by omega) hk (fun e => by rw [if_pos e] at p; exact p) (fun e => ?_)
  rw [if_neg e] at p
  refine ut_xkd1 (r := 2) h (by omega) hk (fun e => by rw [if_pos e] at p; exact p) (fun e => ?_)
  rw [if_neg e] at p
  refine ut_xkd1 (r := 3) h (by omega) hk (fun e => by rw [if_pos e] at p; exact p) (fun e => ?_)
  rw [if_neg e] at p
  exact br_t (by decide) p
theorem ut_kd_le (N k : Nat) : ut_kd N k ≤ 4 := by
  unfold ut_kd
  repeat' split
  all_goals omega
theorem ut_kd4 (N k : Nat) : ut_kd N k = 4 ↔ ut_nok N (k + 1) := by
  constructor
  · intro e r hr
    unfold ut_kd at e
    revert hr
    refine fun hr => ut_c4 (P := fun r => ut_pl N r ≠ k + 1) ?_ ?_ ?_ ?_ hr
    all_goals
      intro h
      simp only [h, if_true] at e
      repeat' split at e
      all_goals omega
  · intro h
    unfold ut_kd
    rw [if_neg (h 0 (by omega)), if_neg (h 1 (by omega)), if_neg (h 2 (by omega)), if_neg (h 3 (by omega))]
theorem ut_kd_pl {N k : Nat} (h : ut_kd N k < 4) : ut_pl N (ut_kd N k) = k + 1 := by
  unfold ut_kd at h ⊢
  by_cases e0 : ut_pl N 0 = k + 1
  · rw [if_pos e0]; exact e0
  rw [if_neg e0] at h ⊢
  by_cases e1 : ut_pl N 1 = k + 1
  · rw [if_pos e1]; exact e1
  rw [if_neg e1] at h ⊢
  by_cases e2 : ut_pl N 2 = k + 1
  · rw [if_pos e2]; exact e2
  rw [if_neg e2] at h ⊢
  by_cases e3 : ut_pl N 3 = k + 1
  · rw [if_pos e3]; exact e3
  rw [if_neg e3] at h
  omega
theorem ut_kd_FS {wl N i : Nat} {K : Nat → Int32} (h : ut_FS wl N K) (hi : i < ut_sz N) : K i = nI (ut_kd N i) := by
  have h4 := ut_kd_le N i
  rcases Nat.lt_or_ge (ut_kd N i) 4 with z | z
  · exact (h.2.2.2.1 _ z i hi).mpr (ut_kd_pl z)
  · rw [show ut_kd N i = 4 by omega]
    exact (ut_FS_data h hi).mpr ((ut_kd4 N i).mp (by omega))
theorem ut_xap (h : N < 1048576) (hR : ut_vr R) (h64 : 64 ≤ R) (p : post (nI (ut_app N R))) : wpX_applied post (f_SAVE, f_PUSH, f_POP, f_ALLOC, f_FREE, f_KEEP, f_BACK, f_LOAD, f_STORE, f_SET, f_ADDI, f_ADD, f_CALL, f_RET, f_IF, f_WHILE, f_END, f_ADVANCE, f_OFFSET, f_REGISTER, f_RESTORE, f_REMEMBER, f_RECALL, f_codeLimit, f_functionLimit, f_depthLimit, f_wordLimit, f_used, f_functionCount, f_tableUsed, f_ruleAddress, f_now, f_reachable, f_openCount, f_sp, f_pc, f_active, f_walkPc, f_walkSp, f_walkBase, f_walkState, a_ops, a_firsts, a_seconds, a_link, a_codeStart, a_tableStart, a_table, a_openCell, a_openState, a_regs, a_stack, a_memory, a_seen) (nI N) (nI R) := by
  unfold ut_vr at hR
  unfold ut_app at p
  refine nm_r (show nI R &&& 63 = nI (R % 64) from pk_andN (by omega) 6 (by decide)) ?_
  refine pk_lt R 196 (fun a => ?_) (fun a => ?_)
  · rw [if_neg (by omega)] at p
    refine pk_lt R 192 (fun b => ?_) (fun b => ?_)
    · rw [if_neg (by omega)] at p
      refine pk_lt R 128 (fun c => ?_) (fun c => ?_)
      · rw [if_neg (by omega)] at p
        rw [ut_iss h (by omega), show R % 64 = R - 64 by omega]
        exact p
      · rw [if_pos c] at p
        have e1 : nI (R % 64) >>> ((3 : Int32) &&& 31) = nI ((R - 128) / 8) := by
          rw [pk_shrN (by omega) _ 3 (by decide)]
          exact congrArg nI (by omega)
        have e2 : nI (R % 64) &&& 7 = nI (R % 8) := by
          rw [pk_andN (n := R % 64) (by omega) 3 (by decide)]
          exact congrArg nI (by omega)
        rw [e1, e2]
        exact ut_xpd (k := R % 8 + 1) h (by omega) (by omega) (nI_1 _) p
    · rw [if_pos b] at p
      rw [show R % 64 = R - 192 by omega]
      exact ut_xpd (k := 0) h (by omega) (by omega) (by decide) p
  · rw [if_pos a] at p
    exact p
end UT8
end
section
/-! functionOf and stateAt -/
section UT9
variable {f_SAVE f_PUSH f_POP f_ALLOC f_FREE f_KEEP f_BACK f_LOAD f_STORE f_SET f_ADDI f_ADD f_CALL f_RET f_IF f_WHILE f_END f_ADVANCE f_OFFSET f_REGISTER f_RESTORE f_REMEMBER f_RECALL f_codeLimit f_functionLimit f_depthLimit f_wordLimit f_used f_functionCount f_tableUsed f_ruleAddress f_now f_reachable f_openCount f_sp f_pc f_active f_walkPc f_walkSp f_walkBase f_walkState : Int32} {a_ops a_firsts a_seconds a_link a_codeStart a_tableStart a_table a_openCell a_openState a_regs a_stack a_memory a_seen : Nat → Int32}
theorem ut_CS_mono {A : Nat → Int32} {S CS : Nat → Nat} {U fc : Nat} (h : ut_fns A S CS U fc) : ∀ {j f : Nat}, j ≤ f → f ≤ fc → CS j ≤ CS f := by
  intro j f hj hf
  induction f with
  | zero => rw [show j = 0 by omega]; exact Nat.le_refl _
  | succ f ih =>
    by_cases e : j = f + 1
    · rw [e]; exact Nat.le_refl _
    · have := ih (by omega) (by omega)
      have := (h.2.2 f (by omega)).1
      omega
def ut_xt (a_codeStart a_tableStart a_table : Nat → Int32) (T CS TS : Nat → Nat) (fc t : Nat) : Prop :=
  (∀ f, f ≤ fc → a_codeStart f = nI (CS f)) ∧ (∀ f, f ≤ fc → a_tableStart f = nI (TS f)) ∧ sb_Lat T t a_table
theorem ut_xfo1 {post : Int32 → Prop} {CS : Nat → Nat} {fc f q : Nat} (hC : ∀ g, g ≤ fc → a_codeStart g = nI (CS g)) (hm : ∀ j, j ≤ f → CS j ≤ CS f) (hb : ∀ g, g ≤ fc → CS g ≤ 64) (h8 : fc ≤ 8) (hf : f < fc)
    (h1 : CS f ≤ q) (h2 : q < CS (f + 1)) (p : post (nI f)) : ∀ d j, j + d = f → wX_functionOf_2 post (nI q) f_SAVE f_PUSH f_POP f_ALLOC f_FREE f_KEEP f_BACK f_LOAD f_STORE f_SET f_ADDI f_ADD f_CALL f_RET f_IF f_WHILE f_END f_ADVANCE f_OFFSET f_REGISTER f_RESTORE f_REMEMBER f_RECALL f_codeLimit f_functionLimit f_depthLimit f_wordLimit f_used (nI fc) f_tableUsed f_ruleAddress f_now f_reachable f_openCount f_sp f_pc f_active f_walkPc f_walkSp f_walkBase f_walkState a_ops a_firsts a_seconds a_link a_codeStart a_tableStart a_table a_openCell a_openState a_regs a_stack a_memory a_seen (d + 1) (nI j) := by
  have hq := hb (f + 1) (by omega)
  intro d
  induction d with
  | zero =>
    intro j hj
    have e : j = f := by omega
    subst e
    rw [wX_functionOf_2]
    dsimp only
    rw [nI_1 j]
    refine pk_le fc (j + 1) (fun a => ?_) (fun a => ?_)
    · rw [ut_s1 (by omega), show fc - 1 = j by omega]; exact p
    · refine ⟨vp_in_nI (by omega) (by omega), ?_⟩
      rw [nI_clamp (by omega), hC (j + 1) (by omega)]
      refine pk_le (CS (j + 1)) q (fun b => by omega) (fun b => p)
  | succ d ih =>
    intro j hj
    rw [wX_functionOf_2]
    dsimp only
    rw [nI_1 j]
    refine pk_le fc (j + 1) (fun a => by omega) (fun a => ?_)
    refine ⟨vp_in_nI (by omega) (by omega), ?_⟩
    rw [nI_clamp (by omega), hC (j + 1) (by omega)]
    have := hm (j + 1) (by omega)
    have := hb (j + 1) (by omega)
    refine pk_le (CS (j + 1)) q (fun b => nm_e (ih (j + 1) (by omega))) (fun b => by omega)
theorem ut_xfo {post : Int32 → Prop} {A : Nat → Int32} {S CS : Nat → Nat} {U fc f q : Nat} (hC : ∀ g, g ≤ fc → a_codeStart g = nI (CS g)) (hF : ut_fns A S CS U fc) (hU : U ≤ 64) (h8 : fc ≤ 8) (hf : f < fc)
    (h1 : CS f ≤ q) (h2 : q < CS (f + 1)) (p : post (nI f)) : wpX_functionOf post (f_SAVE, f_PUSH, f_POP, f_ALLOC, f_FREE, f_KEEP, f_BACK, f_LOAD, f_STORE, f_SET, f_ADDI, f_ADD, f_CALL, f_RET, f_IF, f_WHILE, f_END, f_ADVANCE, f_OFFSET, f_REGISTER, f_RESTORE, f_REMEMBER, f_RECALL, f_codeLimit, f_functionLimit, f_depthLimit, f_wordLimit, f_used, (nI fc), f_tableUsed, f_ruleAddress, f_now, f_reachable, f_openCount, f_sp, f_pc, f_active, f_walkPc, f_walkSp, f_walkBase, f_walkState, a_ops, a_firsts, a_seconds, a_link, a_codeStart, a_tableStart, a_table, a_openCell, a_openState, a_regs, a_stack, a_memory, a_seen) (nI q) :=
  ⟨f + 1, ut_xfo1 hC (fun j hj => ut_CS_mono hF hj (by omega)) (fun g hg => by have := (hF.2.1 g hg).1; omega) h8 hf h1 h2 p f 0 (by omega)⟩
theorem ut_xsa1 {post : Int32 → SX → Prop} {T S : Nat → Nat} {b e c z q f : Nat} (hT : a_tableStart (f + 1) = nI e) (he : e ≤ 192) (hf : f < 8) (hL : sb_Lat T e a_table) (H : ut_fn T S b e c z) (hz : z ≤ 64) (hq : q < z)
    (K : ∀ m, post (nI (S q)) (f_SAVE, f_PUSH, f_POP, f_ALLOC, f_FREE, f_KEEP, f_BACK, f_LOAD, f_STORE, f_SET, f_ADDI, f_ADD, f_CALL, f_RET, f_IF, f_WHILE, f_END, f_ADVANCE, f_OFFSET, f_REGISTER, f_RESTORE, f_REMEMBER, f_RECALL, f_codeLimit, f_functionLimit, f_depthLimit, f_wordLimit, f_used, f_functionCount, f_tableUsed, f_ruleAddress, f_now, f_reachable, f_openCount, f_sp, f_pc, f_active, f_walkPc, f_walkSp, f_walkBase, f_walkState, a_ops, a_firsts, a_seconds, a_link, a_codeStart, a_tableStart, a_table, a_openCell, a_openState, a_regs, a_stack, m, a_seen)) : ∀ d k loc st dd M mem, b + k + d = e → ut_run T b c k = (loc, st, dd, M) → loc ≤ q → (∀ j, j < dd → mem j = nI (M j)) →
      wX_stateAt_27 post (nI q) (nI f) f_SAVE f_PUSH f_POP f_ALLOC f_FREE f_KEEP f_BACK f_LOAD f_STORE f_SET f_ADDI f_ADD f_CALL f_RET f_IF f_WHILE f_END f_ADVANCE f_OFFSET f_REGISTER f_RESTORE f_REMEMBER f_RECALL f_codeLimit f_functionLimit f_depthLimit f_wordLimit f_used f_functionCount f_tableUsed f_ruleAddress f_now f_reachable f_openCount f_sp f_pc f_active f_walkPc f_walkSp f_walkBase f_walkState (d + 1) (nI loc) (nI st) (nI dd) (nI (b + k)) a_ops a_firsts a_seconds a_link a_codeStart a_tableStart a_table a_openCell a_openState a_regs a_stack mem a_seen := by
  obtain ⟨g0, g1, g2, g3, g4⟩ := H
  intro d
  induction d with
  | zero =>
    intro k loc st dd M mem hk hr hl hm
    have ek : k = e - b := by omega
    subst ek
    rw [hr] at g2 g3 g4
    have es : S q = st := g4 q hl hq
    rw [wX_stateAt_27]
    dsimp only
    rw [nI_1 f]
    refine ⟨vp_in_nI (by omega) (by omega), ?_⟩
    rw [nI_clamp (by omega), hT]
    refine pk_le e (b + (e - b)) (fun a => ?_) (fun a => by omega)
    rw [← es]
    exact K mem
  | succ d ih =>
    intro k loc st dd M mem hk hr hl hm
    obtain ⟨r1, r2, r3, r4, r5, r6, r7⟩ := g1 k (by omega)
    rw [hr] at r2 r3 r5 r6 r7
    dsimp only at r2 r3 r5 r6 r7
    obtain ⟨hl1, hl2⟩ := hL (b + k) (by omega)
    have eb : a_table (b + k) &&& 255 = nI (T (b + k)) := by rw [hl2]; exact (sb_byte _ hl1).1
    have er : ut_run T b c (k + 1) = ut_st (T (b + k)) (loc, st, dd, M) := by rw [ut_run, hr]
    rw [er] at r4 r5
    rw [wX_stateAt_27]
    dsimp only
    rw [nI_1 f]
    refine ⟨vp_in_nI (by omega) (by omega), ?_⟩
    rw [nI_clamp (by omega), hT]
    refine pk_le e (b + k) (fun a => by omega) (fun a => ?_)
    refine ⟨vp_in_nI (by omega) (by omega), ?_⟩
    rw [nI_clamp (by omega), eb]
    generalize T (b + k) = R at *
    refine nm_e ?_
    refine pk_le 64 R (fun a64 => ?_) (fun a64 => ?_)
    · refine pk_eq R 196 (fun e6 => ?_) (fun n6 => ?_)
      · subst e6
        rw [ut_st_m] at er
        have hd := r6 rfl
        refine ⟨vp_in_nI (by omega) (by omega), ?_⟩
        rw [nI_clamp (by omega)]
        refine nm_e (nm_r (nI_1 dd) (nm_r (nI_1 (b + k)) ?_))
        refine ih (k + 1) loc st (dd + 1) _ _ (by omega) er hl (fun j hj => ?_)
        by_cases ej : j = dd
        · subst ej; rw [pk_us]; dsimp only; rw [ut_us]
        · rw [pk_un ej]; dsimp only; rw [ut_unn ej]; exact hm j (by omega)
      · refine pk_eq R 197 (fun e7 => ?_) (fun n7 => ?_)
        · subst e7
          rw [ut_st_c] at er
          obtain ⟨d0, d4⟩ := r7 rfl
          refine nm_r (sb_m1 d0) ?_
          refine ⟨vp_in_nI (by omega) (by omega), ?_⟩
          rw [nI_clamp (by omega), hm (dd - 1) (by omega)]
          refine nm_e (nm_r (nI_1 (b + k)) ?_)
          exact ih (k + 1) loc _ (dd - 1) _ _ (by omega) er hl (fun j hj => hm j (by omega))
        · rw [ut_st_r a64 n6 n7] at er
          refine ut_xap r2 r1 a64 (nm_r (nI_1 (b + k)) ?_)
          exact ih (k + 1) loc _ dd _ _ (by omega) er hl hm
    · rw [ut_st_a a64] at er r4 r5
      dsimp only at r4 r5
      have el : nI loc + (nI R - 0 + 1) = nI (loc + (R + 1)) := by
        rw [Int32.sub_zero, nI_1, nI_add]
      refine nm_r el ?_
      refine pk_le (loc + (R + 1)) q (fun a => ?_) (fun a => ?_)
      · refine nm_r (nI_1 (b + k)) ?_
        exact ih (k + 1) _ st dd _ _ (by omega) er a hm
      · rw [← r5 a64 q hl a]
        exact K mem
theorem ut_xsa {post : Int32 → SX → Prop} {A : Nat → Int32} {T S OC CS TS : Nat → Nat} {U fc oc t ra f q : Nat} (hx : ut_xt a_codeStart a_tableStart a_table T CS TS fc t) (hF : ut_fns A S CS U fc) (hB : ut_tab T S OC CS TS U fc oc t ra)
    (hU : U ≤ 64) (h8 : fc ≤ 8) (hf : f < fc) (h1 : CS f ≤ q) (h2 : q < CS (f + 1)) (K : ∀ m, post (nI (S q)) (f_SAVE, f_PUSH, f_POP, f_ALLOC, f_FREE, f_KEEP, f_BACK, f_LOAD, f_STORE, f_SET, f_ADDI, f_ADD, f_CALL, f_RET, f_IF, f_WHILE, f_END, f_ADVANCE, f_OFFSET, f_REGISTER, f_RESTORE, f_REMEMBER, f_RECALL, f_codeLimit, f_functionLimit, f_depthLimit, f_wordLimit, f_used, (nI fc), f_tableUsed, f_ruleAddress, f_now, f_reachable, f_openCount, f_sp, f_pc, f_active, f_walkPc, f_walkSp, f_walkBase, f_walkState, a_ops, a_firsts, a_seconds, a_link, a_codeStart, a_tableStart, a_table, a_openCell, a_openState, a_regs, a_stack, m, a_seen)) : wpX_stateAt post (f_SAVE, f_PUSH, f_POP, f_ALLOC, f_FREE, f_KEEP, f_BACK, f_LOAD, f_STORE, f_SET, f_ADDI, f_ADD, f_CALL, f_RET, f_IF, f_WHILE, f_END, f_ADVANCE, f_OFFSET, f_REGISTER, f_RESTORE, f_REMEMBER, f_RECALL, f_codeLimit, f_functionLimit, f_depthLimit, f_wordLimit, f_used, (nI fc), f_tableUsed, f_ruleAddress, f_now, f_reachable, f_openCount, f_sp, f_pc, f_active, f_walkPc, f_walkSp, f_walkBase, f_walkState, a_ops, a_firsts, a_seconds, a_link, a_codeStart, a_tableStart, a_table, a_openCell, a_openState, a_regs, a_stack, a_memory, a_seen) (nI q) := by
  have t1 := hB.2.1 (f + 1) (by omega)
  have t0 := hB.1.1
  have c1 := (hF.2.1 (f + 1) (by omega)).1
  refine ut_xfo hx.1 hF hU h8 hf h1 h2 ?_
  refine ⟨vp_in_nI (by omega) (by omega), ?_⟩
  rw [nI_clamp (by omega), hx.1 f (by omega), hx.2.1 f (by omega)]
  refine nm_e ⟨vp_in_nI (by omega) (by omega), nm_e ⟨TS (f + 1) - TS f + 1, ?_⟩⟩
  have b0 := (hB.2.2.1 f hf).1
  exact ut_xsa1 (hx.2.1 (f + 1) (by omega)) (by omega) (by omega) (ut_lat_le hx.2.2 (by omega)) (hB.2.2.1 f hf) (by omega) h2 K (TS (f + 1) - TS f) 0 (CS f) 0 0 (fun _ => 0) a_memory (by omega) rfl h1 (fun j hj => absurd hj (Nat.not_lt_zero j))
end UT9
end
section
/-! the frames of the machine, and X's walker -/
section UT10
def ut_nx (R atc : Nat → Int32) (D i r : Nat) : Int32 := if i + 1 < D then atc ((i + 1) * 4 + r) else R r
def ut_frm (wl : Nat) (A : Nat → Int32) (S CS : Nat → Nat) (fc : Nat) (R St kinds cnt vals fnA adA atc : Nat → Int32) (bs ad fn : Nat → Nat) (D i : Nat) : Prop :=
  (fnA i = nI (fn i) ∧ adA i = nI (ad i) ∧ fn i < fc ∧ CS (fn i) ≤ ad i ∧ ad i < CS (fn i + 1)) ∧
  (A (ad i) = 16 → S (ad i) = S (ad i + 1)) ∧
  cnt i = nI (ut_sz (S (ad i))) ∧ ut_FS wl (S (ad i)) (fun j => kinds (i * 8 + j)) ∧
  (∀ k, k < ut_sz (S (ad i)) → St (bs i + k) = vals (i * 8 + k)) ∧
  St (bs i - 1) = (if i = 0 then -1 else nI (ad (i - 1))) ∧
  (∀ r, r < 4 → (ut_pl (S (ad i)) r ≠ 0 → vals (i * 8 + (ut_pl (S (ad i)) r - 1)) = atc (i * 4 + r)) ∧ (ut_pl (S (ad i)) r = 0 → ut_nx R atc D i r = atc (i * 4 + r)))
def ut_bss (S bs ad : Nat → Nat) (D : Nat) : Prop := bs 0 = 1 ∧ ∀ i, i + 1 < D → bs (i + 1) = bs i + ut_sz (S (ad i)) + 1
def ut_W (a_codeStart a_tableStart a_table R St A kinds cnt vals fnA adA atc : Nat → Int32) (T S OC CS TS bs ad fn : Nat → Nat) (wl U fc oc t ra D : Nat) : Prop :=
  ut_xt a_codeStart a_tableStart a_table T CS TS fc t ∧ ut_fns A S CS U fc ∧ ut_tab T S OC CS TS U fc oc t ra ∧ (U ≤ 64 ∧ fc ≤ 8 ∧ wl ≤ 8 ∧ D ≤ 16) ∧
  ut_bss S bs ad D ∧ ∀ i, i < D → ut_frm wl A S CS fc R St kinds cnt vals fnA adA atc bs ad fn D i
/-- the walker at level l -/
def ut_wk (R atc : Nat → Int32) (S bs ad : Nat → Nat) (D l : Nat) (wp ws wb wst : Int32) (seen : Nat → Int32) : Prop :=
  (∀ r, r < 4 → seen r = if l = 0 then R r else atc ((D - l) * 4 + r)) ∧
  (l < D → wp = nI (ad (D - 1 - l)) ∧ ws = nI (bs (D - 1 - l) + ut_sz (S (ad (D - 1 - l)))) ∧ wb = nI (bs (D - 1 - l)) ∧ wst = nI (S (ad (D - 1 - l)))) ∧
  (l = D → wp = -1 ∧ ws = 0)
variable {f_SAVE f_PUSH f_POP f_ALLOC f_FREE f_KEEP f_BACK f_LOAD f_STORE f_SET f_ADDI f_ADD f_CALL f_RET f_IF f_WHILE f_END f_ADVANCE f_OFFSET f_REGISTER f_RESTORE f_REMEMBER f_RECALL f_codeLimit f_functionLimit f_depthLimit f_wordLimit f_used f_functionCount f_tableUsed f_ruleAddress f_now f_reachable f_openCount f_sp f_pc f_active f_walkPc f_walkSp f_walkBase f_walkState : Int32} {a_ops a_firsts a_seconds a_link a_codeStart a_tableStart a_table a_openCell a_openState a_regs a_stack a_memory a_seen : Nat → Int32}
variable {A kinds cnt vals fnA adA atc : Nat → Int32} {T S OC CS TS bs ad fn : Nat → Nat} {wl U fc oc t ra D : Nat} {post : SX → Prop}
theorem ut_bs_b {cs ts tb : Nat → Int32} (H : ut_W cs ts tb a_regs a_stack A kinds cnt vals fnA adA atc T S OC CS TS bs ad fn wl U fc oc t ra D) : ∀ i, i < D → 1 ≤ bs i ∧ bs i ≤ 1 + 9 * i ∧ ut_sz (S (ad i)) ≤ 8 ∧ S (ad i) < 1048576 ∧ ad i < 64 := by
  obtain ⟨h1, h2, h3, h4, h5, h6⟩ := H
  intro i
  induction i with
  | zero =>
    intro hi
    have a := h6 0 hi
    have b := a.2.2.2.1
    have c := (h2.2.1 (fn 0 + 1) (by have := a.1.2.2.1; omega)).1
    have d := a.1.2.2.2.2
    have e := b.2.1
    rw [h5.1]
    exact ⟨by omega, by omega, by omega, b.1, by omega⟩
  | succ i ih =>
    intro hi
    obtain ⟨g1, g2, g3, g4, g5⟩ := ih (by omega)
    have a := h6 (i + 1) hi
    have b := a.2.2.2.1
    have c := (h2.2.1 (fn (i + 1) + 1) (by have := a.1.2.2.1; omega)).1
    have d := a.1.2.2.2.2
    have e := b.2.1
    have f := h5.2 i hi
    exact ⟨by omega, by omega, by omega, b.1, by omega⟩
theorem ut_xen {i q : Nat} (H : ut_W a_codeStart a_tableStart a_table a_regs a_stack A kinds cnt vals fnA adA atc T S OC CS TS bs ad fn wl U fc oc t ra D) (hi : i < D) (hq : q = bs i + ut_sz (S (ad i)))
    (K : ∀ m, post (f_SAVE, f_PUSH, f_POP, f_ALLOC, f_FREE, f_KEEP, f_BACK, f_LOAD, f_STORE, f_SET, f_ADDI, f_ADD, f_CALL, f_RET, f_IF, f_WHILE, f_END, f_ADVANCE, f_OFFSET, f_REGISTER, f_RESTORE, f_REMEMBER, f_RECALL, f_codeLimit, f_functionLimit, f_depthLimit, f_wordLimit, f_used, (nI fc), f_tableUsed, f_ruleAddress, f_now, f_reachable, f_openCount, f_sp, f_pc, f_active, (nI (ad i)), (nI q), (nI (bs i)), (nI (S (ad i))), a_ops, a_firsts, a_seconds, a_link, a_codeStart, a_tableStart, a_table, a_openCell, a_openState, a_regs, a_stack, m, a_seen)) : wpX_enter post (f_SAVE, f_PUSH, f_POP, f_ALLOC, f_FREE, f_KEEP, f_BACK, f_LOAD, f_STORE, f_SET, f_ADDI, f_ADD, f_CALL, f_RET, f_IF, f_WHILE, f_END, f_ADVANCE, f_OFFSET, f_REGISTER, f_RESTORE, f_REMEMBER, f_RECALL, f_codeLimit, f_functionLimit, f_depthLimit, f_wordLimit, f_used, (nI fc), f_tableUsed, f_ruleAddress, f_now, f_reachable, f_openCount, f_sp, f_pc, f_active, f_walkPc, f_walkSp, f_walkBase, f_walkState, a_ops, a_firsts, a_seconds, a_link, a_codeStart, a_tableStart, a_table, a_openCell, a_openState, a_regs, a_stack, a_memory, a_seen) (nI (ad i)) (nI q) := by
  obtain ⟨g1, g2, g3, g4, g5⟩ := ut_bs_b H i hi
  obtain ⟨h1, h2, h3, h4, h5, h6⟩ := H
  obtain ⟨b1, b2, b3, b4, b5⟩ := (h6 i hi).1
  refine br_f (nI_nle (by omega) (by omega)) ?_
  refine ut_xsa h1 h2 h3 h4.1 h4.2.1 b3 b4 b5 (fun m => ?_)
  dsimp only
  refine ut_xsz g4 (nm_r (e' := nI (bs i)) ?_ (K m))
  rw [pk_sub (by omega)]
  exact congrArg nI (by omega)
theorem ut_xen0 {p0 : Int32} (K : post (f_SAVE, f_PUSH, f_POP, f_ALLOC, f_FREE, f_KEEP, f_BACK, f_LOAD, f_STORE, f_SET, f_ADDI, f_ADD, f_CALL, f_RET, f_IF, f_WHILE, f_END, f_ADVANCE, f_OFFSET, f_REGISTER, f_RESTORE, f_REMEMBER, f_RECALL, f_codeLimit, f_functionLimit, f_depthLimit, f_wordLimit, f_used, f_functionCount, f_tableUsed, f_ruleAddress, f_now, f_reachable, f_openCount, f_sp, f_pc, f_active, p0, 0, 0, 0, a_ops, a_firsts, a_seconds, a_link, a_codeStart, a_tableStart, a_table, a_openCell, a_openState, a_regs, a_stack, a_memory, a_seen)) : wpX_enter post (f_SAVE, f_PUSH, f_POP, f_ALLOC, f_FREE, f_KEEP, f_BACK, f_LOAD, f_STORE, f_SET, f_ADDI, f_ADD, f_CALL, f_RET, f_IF, f_WHILE, f_END, f_ADVANCE, f_OFFSET, f_REGISTER, f_RESTORE, f_REMEMBER, f_RECALL, f_codeLimit, f_functionLimit, f_depthLimit, f_wordLimit, f_used, f_functionCount, f_tableUsed, f_ruleAddress, f_now, f_reachable, f_openCount, f_sp, f_pc, f_active, f_walkPc, f_walkSp, f_walkBase, f_walkState, a_ops, a_firsts, a_seconds, a_link, a_codeStart, a_tableStart, a_table, a_openCell, a_openState, a_regs, a_stack, a_memory, a_seen) p0 (nI 0) := by
  refine br_t (by decide) ?_
  refine ut_xsz (N := 0) (by omega) (nm_r (e' := 0) (by decide) K)
theorem ut_xlv1 {l : Nat} {wp ws : Int32} (H : ut_W a_codeStart a_tableStart a_table a_regs a_stack A kinds cnt vals fnA adA atc T S OC CS TS bs ad fn wl U fc oc t ra D) (hl : l < D)
    (K : ∀ wp ws wb wst m s, ut_wk a_regs atc S bs ad D (l + 1) wp ws wb wst s → post (f_SAVE, f_PUSH, f_POP, f_ALLOC, f_FREE, f_KEEP, f_BACK, f_LOAD, f_STORE, f_SET, f_ADDI, f_ADD, f_CALL, f_RET, f_IF, f_WHILE, f_END, f_ADVANCE, f_OFFSET, f_REGISTER, f_RESTORE, f_REMEMBER, f_RECALL, f_codeLimit, f_functionLimit, f_depthLimit, f_wordLimit, f_used, (nI fc), f_tableUsed, f_ruleAddress, f_now, f_reachable, f_openCount, f_sp, f_pc, f_active, wp, ws, wb, wst, a_ops, a_firsts, a_seconds, a_link, a_codeStart, a_tableStart, a_table, a_openCell, a_openState, a_regs, a_stack, m, s)) :
    ∀ d r s, r + d = 4 → (∀ j, j < r → s j = atc ((D - 1 - l) * 4 + j)) → (∀ j, r ≤ j → j < 4 → s j = ut_nx a_regs atc D (D - 1 - l) j) →
      wX_leaveFrame_2 post f_SAVE f_PUSH f_POP f_ALLOC f_FREE f_KEEP f_BACK f_LOAD f_STORE f_SET f_ADDI f_ADD f_CALL f_RET f_IF f_WHILE f_END f_ADVANCE f_OFFSET f_REGISTER f_RESTORE f_REMEMBER f_RECALL f_codeLimit f_functionLimit f_depthLimit f_wordLimit f_used (nI fc) f_tableUsed f_ruleAddress f_now f_reachable f_openCount f_sp f_pc f_active wp ws (nI (bs (D - 1 - l))) (nI (S (ad (D - 1 - l)))) (d + 1) (nI r) a_ops a_firsts a_seconds a_link a_codeStart a_tableStart a_table a_openCell a_openState a_regs a_stack a_memory s := by
  obtain ⟨g1, g2, g3, g4, g5⟩ := ut_bs_b H (D - 1 - l) (by omega)
  have hD : D ≤ 16 := H.2.2.2.1.2.2.2
  have hb := H.2.2.2.2.1
  obtain ⟨f1, f2, f3, f4, f5, f6, f7⟩ := H.2.2.2.2.2 (D - 1 - l) (by omega)
  intro d
  induction d with
  | zero =>
    intro r s hr h1 h2
    have er : r = 4 := by omega
    subst er
    rw [wX_leaveFrame_2]
    dsimp only
    refine br_t (by decide) ?_
    rw [ut_s1 (by omega)]
    refine ⟨vp_in_nI (by omega) (by omega), ?_⟩
    rw [nI_clamp (by omega), f6]
    by_cases e : D - 1 - l = 0
    · rw [e, hb.1, if_pos rfl]
      refine ut_xen0 ?_
      dsimp only
      refine K _ _ _ _ _ _ ⟨fun j hj => ?_, fun x => by omega, fun _ => ⟨rfl, rfl⟩⟩
      rw [if_neg (by omega), h1 j hj, show D - (l + 1) = D - 1 - l by omega]
    · have e2 := hb.2 (D - 1 - l - 1) (by omega)
      rw [show D - 1 - l - 1 + 1 = D - 1 - l by omega] at e2
      rw [if_neg e]
      refine ut_xen H (by omega) (by omega) (fun m => ?_)
      dsimp only
      refine K _ _ _ _ _ _ ⟨fun j hj => ?_, fun x => ?_, fun x => by omega⟩
      · rw [if_neg (by omega), h1 j hj, show D - (l + 1) = D - 1 - l by omega]
      · rw [show D - 1 - (l + 1) = D - 1 - l - 1 by omega]
        refine ⟨rfl, ?_, rfl, rfl⟩
        exact congrArg nI (by omega)
  | succ d ih =>
    intro r s hr h1 h2
    have hr4 : r < 4 := by omega
    rw [wX_leaveFrame_2]
    dsimp only
    refine br_f (nI_ge (b := 4) hr4 (by omega)) ?_
    have c := f7 r hr4
    have c2 := f4.2.2.1 r hr4
    refine ut_xpl g4 hr4 (fun e => ?_) (fun e => ?_)
    · refine br_t (by decide) (nm_r (nI_1 r) (ih (r + 1) s (by omega) (fun j hj => ?_) (fun j j1 j2 => h2 j (by omega) j2)))
      by_cases z : j = r
      · rw [z, h2 r (by omega) hr4]; exact c.2 e
      · exact h1 j (by omega)
    · refine br_f (nI_pos (by omega)) ?_
      rw [nI_add]
      refine ⟨vp_in_nI (by omega) (by omega), vp_in_nI (by omega) (by omega), ?_⟩
      rw [nI_clamp (by omega), nI_clamp (by omega)]
      refine nm_e (nm_r (nI_1 r) (ih (r + 1) _ (by omega) (fun j hj => ?_) (fun j j1 j2 => ?_)))
      · by_cases z : j = r
        · rw [z, pk_us, f5 _ (by omega)]; exact c.1 e
        · rw [pk_un z]; exact h1 j (by omega)
      · rw [pk_un (by omega)]; exact h2 j (by omega) j2
theorem ut_xlv {l : Nat} {wp ws wb wst : Int32} (H : ut_W a_codeStart a_tableStart a_table a_regs a_stack A kinds cnt vals fnA adA atc T S OC CS TS bs ad fn wl U fc oc t ra D) (hl : l < D)
    (hw : ut_wk a_regs atc S bs ad D l wp ws wb wst a_seen)
    (K : ∀ wp ws wb wst m s, ut_wk a_regs atc S bs ad D (l + 1) wp ws wb wst s → post (f_SAVE, f_PUSH, f_POP, f_ALLOC, f_FREE, f_KEEP, f_BACK, f_LOAD, f_STORE, f_SET, f_ADDI, f_ADD, f_CALL, f_RET, f_IF, f_WHILE, f_END, f_ADVANCE, f_OFFSET, f_REGISTER, f_RESTORE, f_REMEMBER, f_RECALL, f_codeLimit, f_functionLimit, f_depthLimit, f_wordLimit, f_used, (nI fc), f_tableUsed, f_ruleAddress, f_now, f_reachable, f_openCount, f_sp, f_pc, f_active, wp, ws, wb, wst, a_ops, a_firsts, a_seconds, a_link, a_codeStart, a_tableStart, a_table, a_openCell, a_openState, a_regs, a_stack, m, s)) :
    wpX_leaveFrame post (f_SAVE, f_PUSH, f_POP, f_ALLOC, f_FREE, f_KEEP, f_BACK, f_LOAD, f_STORE, f_SET, f_ADDI, f_ADD, f_CALL, f_RET, f_IF, f_WHILE, f_END, f_ADVANCE, f_OFFSET, f_REGISTER, f_RESTORE, f_REMEMBER, f_RECALL, f_codeLimit, f_functionLimit, f_depthLimit, f_wordLimit, f_used, (nI fc), f_tableUsed, f_ruleAddress, f_now, f_reachable, f_openCount, f_sp, f_pc, f_active, wp, ws, wb, wst, a_ops, a_firsts, a_seconds, a_link, a_codeStart, a_tableStart, a_table, a_openCell, a_openState, a_regs, a_stack, a_memory, a_seen) := by
  obtain ⟨w1, w2, w3⟩ := hw
  obtain ⟨_, _, e3, e4⟩ := w2 hl
  rw [e3, e4]
  refine ⟨5, ut_xlv1 H hl K 4 0 a_seen (by omega) (fun j hj => absurd hj (Nat.not_lt_zero j)) (fun j _ j2 => ?_)⟩
  rw [w1 j j2]
  unfold ut_nx
  by_cases e : l = 0
  · rw [if_pos e, if_neg (by omega)]
  · rw [if_neg e, if_pos (by omega), show D - 1 - l + 1 = D - l by omega]
theorem ut_xsk1 {l : Nat} (H : ut_W a_codeStart a_tableStart a_table a_regs a_stack A kinds cnt vals fnA adA atc T S OC CS TS bs ad fn wl U fc oc t ra D) (hl : l ≤ D)
    (K : ∀ wp ws wb wst m s, ut_wk a_regs atc S bs ad D l wp ws wb wst s → post (f_SAVE, f_PUSH, f_POP, f_ALLOC, f_FREE, f_KEEP, f_BACK, f_LOAD, f_STORE, f_SET, f_ADDI, f_ADD, f_CALL, f_RET, f_IF, f_WHILE, f_END, f_ADVANCE, f_OFFSET, f_REGISTER, f_RESTORE, f_REMEMBER, f_RECALL, f_codeLimit, f_functionLimit, f_depthLimit, f_wordLimit, f_used, (nI fc), f_tableUsed, f_ruleAddress, f_now, f_reachable, f_openCount, f_sp, f_pc, f_active, wp, ws, wb, wst, a_ops, a_firsts, a_seconds, a_link, a_codeStart, a_tableStart, a_table, a_openCell, a_openState, a_regs, a_stack, m, s)) :
    ∀ d j wp ws wb wst m s, j + d = l → ut_wk a_regs atc S bs ad D j wp ws wb wst s →
      wX_seek_39 post (nI l) (d + 1) (nI j) f_SAVE f_PUSH f_POP f_ALLOC f_FREE f_KEEP f_BACK f_LOAD f_STORE f_SET f_ADDI f_ADD f_CALL f_RET f_IF f_WHILE f_END f_ADVANCE f_OFFSET f_REGISTER f_RESTORE f_REMEMBER f_RECALL f_codeLimit f_functionLimit f_depthLimit f_wordLimit f_used (nI fc) f_tableUsed f_ruleAddress f_now f_reachable f_openCount f_sp f_pc f_active wp ws wb wst a_ops a_firsts a_seconds a_link a_codeStart a_tableStart a_table a_openCell a_openState a_regs a_stack m s := by
  have hD : D ≤ 16 := H.2.2.2.1.2.2.2
  intro d
  induction d with
  | zero =>
    intro j wp ws wb wst m s hj hw
    have e : j = l := by omega
    subst e
    rw [wX_seek_39]
    dsimp only
    exact br_t (nI_le (Nat.le_refl _) (by omega)) (K _ _ _ _ _ _ hw)
  | succ d ih =>
    intro j wp ws wb wst m s hj hw
    rw [wX_seek_39]
    dsimp only
    refine br_f (nI_ge (by omega) (by omega)) ?_
    refine ut_xlv H (by omega) hw (fun wp' ws' wb' wst' m' s' hw' => ?_)
    exact nm_r (nI_1 j) (ih (j + 1) _ _ _ _ _ _ (by omega) hw')
theorem ut_xsk2 {l : Nat} (H : ut_W a_codeStart a_tableStart a_table a_regs a_stack A kinds cnt vals fnA adA atc T S OC CS TS bs ad fn wl U fc oc t ra D) (hl : l ≤ D) (hD : 0 < D)
    (K : ∀ wp ws wb wst m s, ut_wk a_regs atc S bs ad D l wp ws wb wst s → post (f_SAVE, f_PUSH, f_POP, f_ALLOC, f_FREE, f_KEEP, f_BACK, f_LOAD, f_STORE, f_SET, f_ADDI, f_ADD, f_CALL, f_RET, f_IF, f_WHILE, f_END, f_ADVANCE, f_OFFSET, f_REGISTER, f_RESTORE, f_REMEMBER, f_RECALL, f_codeLimit, f_functionLimit, f_depthLimit, f_wordLimit, f_used, (nI fc), f_tableUsed, f_ruleAddress, f_now, f_reachable, f_openCount, (nI (bs (D - 1) + ut_sz (S (ad (D - 1))))), (nI (ad (D - 1))), f_active, wp, ws, wb, wst, a_ops, a_firsts, a_seconds, a_link, a_codeStart, a_tableStart, a_table, a_openCell, a_openState, a_regs, a_stack, m, s)) :
    ∀ d r s, r + d = 4 → (∀ j, j < r → s j = a_regs j) →
      wX_seek_2 post (nI l) f_SAVE f_PUSH f_POP f_ALLOC f_FREE f_KEEP f_BACK f_LOAD f_STORE f_SET f_ADDI f_ADD f_CALL f_RET f_IF f_WHILE f_END f_ADVANCE f_OFFSET f_REGISTER f_RESTORE f_REMEMBER f_RECALL f_codeLimit f_functionLimit f_depthLimit f_wordLimit f_used (nI fc) f_tableUsed f_ruleAddress f_now f_reachable f_openCount (nI (bs (D - 1) + ut_sz (S (ad (D - 1))))) (nI (ad (D - 1))) f_active f_walkPc f_walkSp f_walkBase f_walkState (d + 1) (nI r) a_ops a_firsts a_seconds a_link a_codeStart a_tableStart a_table a_openCell a_openState a_regs a_stack a_memory s := by
  intro d
  induction d with
  | zero =>
    intro r s hr h1
    have er : r = 4 := by omega
    subst er
    rw [wX_seek_2]
    dsimp only
    refine br_t (by decide) ?_
    refine ut_xen H (by omega) rfl (fun m => ?_)
    dsimp only
    refine ⟨l + 1, ?_⟩
    refine ut_xsk1 H hl K l 0 _ _ _ _ _ _ (by omega) ⟨fun j hj => ?_, fun _ => ⟨rfl, rfl, rfl, rfl⟩, fun x => by omega⟩
    rw [if_pos rfl, h1 j hj]
  | succ d ih =>
    intro r s hr h1
    rw [wX_seek_2]
    dsimp only
    refine br_f (nI_ge (b := 4) (by omega) (by omega)) ?_
    refine ⟨vp_in_nI (by omega) (by omega), vp_in_nI (by omega) (by omega), ?_⟩
    rw [nI_clamp (by omega)]
    refine nm_e (nm_r (nI_1 r) (ih (r + 1) _ (by omega) (fun j hj => ?_)))
    by_cases z : j = r
    · rw [z, pk_us]
    · rw [pk_un z]; exact h1 j (by omega)
theorem ut_xsk {l : Nat} (H : ut_W a_codeStart a_tableStart a_table a_regs a_stack A kinds cnt vals fnA adA atc T S OC CS TS bs ad fn wl U fc oc t ra D) (hl : l ≤ D) (hD : 0 < D)
    (hsp : f_sp = nI (bs (D - 1) + ut_sz (S (ad (D - 1))))) (hpc : f_pc = nI (ad (D - 1)))
    (K : ∀ wp ws wb wst m s, ut_wk a_regs atc S bs ad D l wp ws wb wst s → post (f_SAVE, f_PUSH, f_POP, f_ALLOC, f_FREE, f_KEEP, f_BACK, f_LOAD, f_STORE, f_SET, f_ADDI, f_ADD, f_CALL, f_RET, f_IF, f_WHILE, f_END, f_ADVANCE, f_OFFSET, f_REGISTER, f_RESTORE, f_REMEMBER, f_RECALL, f_codeLimit, f_functionLimit, f_depthLimit, f_wordLimit, f_used, (nI fc), f_tableUsed, f_ruleAddress, f_now, f_reachable, f_openCount, f_sp, f_pc, f_active, wp, ws, wb, wst, a_ops, a_firsts, a_seconds, a_link, a_codeStart, a_tableStart, a_table, a_openCell, a_openState, a_regs, a_stack, m, s)) :
    wpX_seek post (f_SAVE, f_PUSH, f_POP, f_ALLOC, f_FREE, f_KEEP, f_BACK, f_LOAD, f_STORE, f_SET, f_ADDI, f_ADD, f_CALL, f_RET, f_IF, f_WHILE, f_END, f_ADVANCE, f_OFFSET, f_REGISTER, f_RESTORE, f_REMEMBER, f_RECALL, f_codeLimit, f_functionLimit, f_depthLimit, f_wordLimit, f_used, (nI fc), f_tableUsed, f_ruleAddress, f_now, f_reachable, f_openCount, f_sp, f_pc, f_active, f_walkPc, f_walkSp, f_walkBase, f_walkState, a_ops, a_firsts, a_seconds, a_link, a_codeStart, a_tableStart, a_table, a_openCell, a_openState, a_regs, a_stack, a_memory, a_seen) (nI l) := by
  subst hsp hpc
  exact ⟨5, ut_xsk2 H hl hD K 4 0 a_seen (by omega) (fun j hj => absurd hj (Nat.not_lt_zero j))⟩
end UT10
end
section
/-! the reference's scans over the cells -/
section UT11
variable {g_codeLimit g_functionsLimit g_depthLimit g_wordsLimit g_used g_open g_depth g_reachable : Int32} {b_cellOp b_cellA b_cellB b_regs b_kinds b_count b_values b_function b_address b_atCall : Nat → Int32}
def ut_ge1 (A : Nat → Int32) (U : Nat) : Prop := ∀ i, i < U → A i = 16 → 1 ≤ ut_zn A i
theorem ut_ge1_of {fl wl : Nat} {A F B L : Nat → Int32} {S OC CS : Nat → Nat} {U fc oc : Nat} {rb : Int32} (H : ut_code fl wl A F B L S OC CS U fc oc rb) : ut_ge1 A U := by
  intro i hi h
  rcases H.2.2.1 i hi with ⟨o, a, h0, h1, _⟩ | ⟨h1, _⟩ | ⟨h1, _⟩ | ⟨_, o, h2, _, h4, _⟩
  · rw [h1] at h; exact absurd h (ut_nIl (k := 16) h0 (by omega) (by omega))
  · rw [h1] at h; exact absurd h (by decide)
  · rw [h] at h1; exact absurd h1 (by decide)
  · have := h4.2 i h2 (Nat.le_refl _)
    omega
section F
variable {post : Int32 → Prop} {J : Int32 → Int32 → Int32 → Prop} {U f i : Nat}
theorem ut_yf53 (hi : i < 64) (p : J (nI (ut_zn b_cellOp (i + 1))) (nI (ut_zc b_cellOp (i + 1))) (nI (i + 1))) : wY_functions_53 post J (nI (ut_zn b_cellOp (i + 1))) (nI (ut_zc b_cellOp i)) (nI i) g_codeLimit g_functionsLimit g_depthLimit g_wordsLimit g_used g_open g_depth g_reachable b_cellOp b_cellA b_cellB b_regs b_kinds b_count b_values b_function b_address b_atCall := by
  unfold wY_functions_53
  have hz := ut_zn_le (A := b_cellOp) (i + 1)
  refine ⟨vp_in_nI hi (by omega), ?_⟩
  rw [nI_clamp (by omega)]
  by_cases h : b_cellOp i = 13
  · refine br_t h ?_
    have ez : ut_zn b_cellOp (i + 1) = ut_zn b_cellOp i := ut_zn_n (by rw [h]; decide) (by rw [h]; decide)
    refine pk_eq (ut_zn b_cellOp (i + 1)) 0 (fun z => ?_) (fun z => ?_)
    · rw [ut_zc_r h (by omega)] at p
      exact nm_r (nI_1 _) (nm_r (nI_1 _) p)
    · rw [ut_zc_n (by omega)] at p
      exact nm_r (nI_1 _) p
  · refine br_f h ?_
    rw [ut_zc_n (fun x => h x.1)] at p
    exact nm_r (nI_1 _) p
theorem ut_yf39 (hi : i < 64) (ho : ¬ (b_cellOp i = 14 ∨ b_cellOp i = 15)) (hE : b_cellOp i = 16 → 1 ≤ ut_zn b_cellOp i) (p : J (nI (ut_zn b_cellOp (i + 1))) (nI (ut_zc b_cellOp (i + 1))) (nI (i + 1))) : wY_functions_39 post J (nI (ut_zn b_cellOp i)) (nI (ut_zc b_cellOp i)) (nI i) g_codeLimit g_functionsLimit g_depthLimit g_wordsLimit g_used g_open g_depth g_reachable b_cellOp b_cellA b_cellB b_regs b_kinds b_count b_values b_function b_address b_atCall := by
  unfold wY_functions_39
  refine ⟨vp_in_nI hi (by omega), ?_⟩
  rw [nI_clamp (by omega)]
  by_cases h : b_cellOp i = 16
  · refine br_t h (nm_r (e' := nI (ut_zn b_cellOp (i + 1))) ?_ (ut_yf53 hi p))
    rw [ut_zn_e h, sb_m1 (hE h)]
  · refine br_f h ?_
    have := ut_yf53 (post := post) (g_codeLimit := g_codeLimit) (g_functionsLimit := g_functionsLimit) (g_depthLimit := g_depthLimit) (g_wordsLimit := g_wordsLimit) (g_used := g_used) (g_open := g_open) (g_depth := g_depth) (g_reachable := g_reachable) (b_cellOp := b_cellOp) (b_cellA := b_cellA) (b_cellB := b_cellB) (b_regs := b_regs) (b_kinds := b_kinds) (b_count := b_count) (b_values := b_values) (b_function := b_function) (b_address := b_address) (b_atCall := b_atCall) hi p
    rw [ut_zn_n ho h] at this
    exact this
theorem ut_yf36 (hi : i < 64) (ho : b_cellOp i = 14 ∨ b_cellOp i = 15) (p : J (nI (ut_zn b_cellOp (i + 1))) (nI (ut_zc b_cellOp (i + 1))) (nI (i + 1))) : wY_functions_36 post J (nI (ut_zn b_cellOp i)) (nI (ut_zc b_cellOp i)) (nI i) g_codeLimit g_functionsLimit g_depthLimit g_wordsLimit g_used g_open g_depth g_reachable b_cellOp b_cellA b_cellB b_regs b_kinds b_count b_values b_function b_address b_atCall := by
  unfold wY_functions_36
  refine nm_r (e' := nI (ut_zn b_cellOp (i + 1))) (by rw [ut_zn_o ho, nI_1]) ?_
  unfold wY_functions_39
  refine ⟨vp_in_nI hi (by omega), ?_⟩
  rw [nI_clamp (by omega)]
  exact br_f (by rcases ho with h | h <;> rw [h] <;> decide) (ut_yf53 hi p)
theorem ut_yfn1 (hU : U ≤ 64) (hE : ut_ge1 b_cellOp U) (p : post (nI (ut_zc b_cellOp U))) : ∀ d i, i + d = U → wY_functions_6 post g_codeLimit g_functionsLimit g_depthLimit g_wordsLimit (nI U) g_open g_depth g_reachable b_cellOp b_cellA b_cellB b_regs b_kinds b_count b_values b_function b_address b_atCall (d + 1) (nI (ut_zn b_cellOp i)) (nI (ut_zc b_cellOp i)) (nI i) := by
  intro d
  induction d with
  | zero =>
    intro i hi
    have e : i = U := by omega
    subst e
    rw [wY_functions_6]
    dsimp only
    exact br_t (nI_le (Nat.le_refl _) (by omega)) p
  | succ d ih =>
    intro i hi
    have q := ih (i + 1) (by omega)
    rw [wY_functions_6]
    dsimp only
    refine br_f (nI_ge (by omega) (by omega)) ?_
    refine ⟨vp_in_nI (by omega) (by omega), ?_⟩
    rw [nI_clamp (by omega)]
    by_cases h4 : b_cellOp i = 14
    · exact br_t h4 (ut_yf36 (by omega) (Or.inl h4) q)
    · refine br_f h4 ⟨vp_in_nI (by omega) (by omega), ?_⟩
      by_cases h5 : b_cellOp i = 15
      · exact br_t h5 (ut_yf36 (by omega) (Or.inr h5) q)
      · exact br_f h5 (ut_yf39 (by omega) (fun x => x.elim h4 h5) (hE i (by omega)) q)
theorem ut_yfn (hU : U ≤ 64) (hE : ut_ge1 b_cellOp U) (p : post (nI (ut_zc b_cellOp U))) : wpY_functions post (g_codeLimit, g_functionsLimit, g_depthLimit, g_wordsLimit, (nI U), g_open, g_depth, g_reachable, b_cellOp, b_cellA, b_cellB, b_regs, b_kinds, b_count, b_values, b_function, b_address, b_atCall) :=
  ⟨U + 1, ut_yfn1 hU hE p U 0 (by omega)⟩
/-! firstCell -/
theorem ut_yc66 {x1 : Int32} (hi : i < 64) (p : J (nI (ut_zn b_cellOp (i + 1))) (nI (ut_zc b_cellOp (i + 1))) (nI (i + 1))) : wY_firstCell_66 post J x1 (nI (ut_zn b_cellOp (i + 1))) (nI (ut_zc b_cellOp i)) (nI i) g_codeLimit g_functionsLimit g_depthLimit g_wordsLimit g_used g_open g_depth g_reachable b_cellOp b_cellA b_cellB b_regs b_kinds b_count b_values b_function b_address b_atCall := by
  unfold wY_firstCell_66
  have hz := ut_zn_le (A := b_cellOp) (i + 1)
  refine ⟨vp_in_nI hi (by omega), ?_⟩
  rw [nI_clamp (by omega)]
  by_cases h : b_cellOp i = 13
  · refine br_t h ?_
    have ez : ut_zn b_cellOp (i + 1) = ut_zn b_cellOp i := ut_zn_n (by rw [h]; decide) (by rw [h]; decide)
    refine pk_eq (ut_zn b_cellOp (i + 1)) 0 (fun z => ?_) (fun z => ?_)
    · rw [ut_zc_r h (by omega)] at p
      exact nm_r (nI_1 _) (nm_r (nI_1 _) p)
    · rw [ut_zc_n (by omega)] at p
      exact nm_r (nI_1 _) p
  · refine br_f h ?_
    rw [ut_zc_n (fun x => h x.1)] at p
    exact nm_r (nI_1 _) p
theorem ut_yc51 {x1 : Int32} (hi : i < 64) (ho : ¬ (b_cellOp i = 14 ∨ b_cellOp i = 15)) (hE : b_cellOp i = 16 → 1 ≤ ut_zn b_cellOp i) (p : J (nI (ut_zn b_cellOp (i + 1))) (nI (ut_zc b_cellOp (i + 1))) (nI (i + 1))) : wY_firstCell_51 post J x1 (nI (ut_zn b_cellOp i)) (nI (ut_zc b_cellOp i)) (nI i) g_codeLimit g_functionsLimit g_depthLimit g_wordsLimit g_used g_open g_depth g_reachable b_cellOp b_cellA b_cellB b_regs b_kinds b_count b_values b_function b_address b_atCall := by
  unfold wY_firstCell_51
  refine ⟨vp_in_nI hi (by omega), ?_⟩
  rw [nI_clamp (by omega)]
  by_cases h : b_cellOp i = 16
  · refine br_t h (nm_r (e' := nI (ut_zn b_cellOp (i + 1))) ?_ (ut_yc66 hi p))
    rw [ut_zn_e h, sb_m1 (hE h)]
  · refine br_f h ?_
    have := ut_yc66 (post := post) (x1 := x1) (g_codeLimit := g_codeLimit) (g_functionsLimit := g_functionsLimit) (g_depthLimit := g_depthLimit) (g_wordsLimit := g_wordsLimit) (g_used := g_used) (g_open := g_open) (g_depth := g_depth) (g_reachable := g_reachable) (b_cellOp := b_cellOp) (b_cellA := b_cellA) (b_cellB := b_cellB) (b_regs := b_regs) (b_kinds := b_kinds) (b_count := b_count) (b_values := b_values) (b_function := b_function) (b_address := b_address) (b_atCall := b_atCall) hi p
    rw [ut_zn_n ho h] at this
    exact this
theorem ut_yc48 {x1 : Int32} (hi : i < 64) (ho : b_cellOp i = 14 ∨ b_cellOp i = 15) (p : J (nI (ut_zn b_cellOp (i + 1))) (nI (ut_zc b_cellOp (i + 1))) (nI (i + 1))) : wY_firstCell_48 post J x1 (nI (ut_zn b_cellOp i)) (nI (ut_zc b_cellOp i)) (nI i) g_codeLimit g_functionsLimit g_depthLimit g_wordsLimit g_used g_open g_depth g_reachable b_cellOp b_cellA b_cellB b_regs b_kinds b_count b_values b_function b_address b_atCall := by
  unfold wY_firstCell_48
  refine nm_r (e' := nI (ut_zn b_cellOp (i + 1))) (by rw [ut_zn_o ho, nI_1]) ?_
  unfold wY_firstCell_51
  refine ⟨vp_in_nI hi (by omega), ?_⟩
  rw [nI_clamp (by omega)]
  exact br_f (by rcases ho with h | h <;> rw [h] <;> decide) (ut_yc66 hi p)
theorem ut_yfc1 {c : Nat} (hU : U ≤ 64) (hf : f < 1000) (hE : ut_ge1 b_cellOp U) (hc : c ≤ U) (hcf : c < U → ut_zc b_cellOp c = f) (hlt : ∀ i, i < c → ut_zc b_cellOp i ≠ f) (p : post (nI c)) : ∀ d i, i + d = c → wY_firstCell_7 post (nI f) g_codeLimit g_functionsLimit g_depthLimit g_wordsLimit (nI U) g_open g_depth g_reachable b_cellOp b_cellA b_cellB b_regs b_kinds b_count b_values b_function b_address b_atCall (d + 1) (nI (ut_zn b_cellOp i)) (nI (ut_zc b_cellOp i)) (nI i) := by
  intro d
  induction d with
  | zero =>
    intro i hi
    have e : i = c := by omega
    subst e
    rw [wY_firstCell_7]
    dsimp only
    refine pk_le U i (fun a => ?_) (fun a => ?_)
    · rw [show U = i by omega]; exact p
    · rw [hcf a]
      exact br_t rfl p
  | succ d ih =>
    intro i hi
    have q := ih (i + 1) (by omega)
    have hz := ut_zc_le (A := b_cellOp) i
    rw [wY_firstCell_7]
    dsimp only
    refine br_f (nI_ge (by omega) (by omega)) ?_
    refine br_f (by rw [nI_eq (by omega) (by omega)]; exact hlt i (by omega)) ?_
    refine ⟨vp_in_nI (by omega) (by omega), ?_⟩
    rw [nI_clamp (by omega)]
    by_cases h4 : b_cellOp i = 14
    · exact br_t h4 (ut_yc48 (by omega) (Or.inl h4) q)
    · refine br_f h4 ⟨vp_in_nI (by omega) (by omega), ?_⟩
      by_cases h5 : b_cellOp i = 15
      · exact br_t h5 (ut_yc48 (by omega) (Or.inr h5) q)
      · exact br_f h5 (ut_yc51 (by omega) (fun x => x.elim h4 h5) (hE i (by omega)) q)
theorem ut_yfc {c : Nat} (hU : U ≤ 64) (hf : f < 1000) (hE : ut_ge1 b_cellOp U) (hc : c ≤ U) (hcf : c < U → ut_zc b_cellOp c = f) (hlt : ∀ i, i < c → ut_zc b_cellOp i ≠ f) (p : post (nI c)) : wpY_firstCell post (g_codeLimit, g_functionsLimit, g_depthLimit, g_wordsLimit, (nI U), g_open, g_depth, g_reachable, b_cellOp, b_cellA, b_cellB, b_regs, b_kinds, b_count, b_values, b_function, b_address, b_atCall) (nI f) :=
  ⟨c + 1, ut_yfc1 hU hf hE hc hcf hlt p c 0 (by omega)⟩
end F
section G
variable {post : Int32 → Prop} {J : Int32 → Int32 → Prop} {U o e i : Nat} {x1 : Int32}
theorem ut_ye51 (hi : i < 64) (hm : ut_mt b_cellOp o e) (h1 : o ≤ i) (h2 : i ≤ e) (p : i = e → post (nI i)) (q : i < e → J (nI (ut_zn b_cellOp (i + 1) - ut_zn b_cellOp o)) (nI (i + 1))) :
    wY_endOf_51 post J x1 (nI (ut_zn b_cellOp (i + 1) - ut_zn b_cellOp o)) (nI i) g_codeLimit g_functionsLimit g_depthLimit g_wordsLimit g_used g_open g_depth g_reachable b_cellOp b_cellA b_cellB b_regs b_kinds b_count b_values b_function b_address b_atCall := by
  have hz := ut_zn_le (A := b_cellOp) (i + 1)
  unfold wY_endOf_51
  by_cases h : i = e
  · refine br_t ?_ (p h)
    rw [h, hm.1, Nat.sub_self]; rfl
  · have := hm.2 (i + 1) (by omega) (by omega)
    exact br_f (nI_ne0 (by omega) (by omega)) (nm_r (nI_1 i) (q (by omega)))
theorem ut_ye1 (hU : U ≤ 64) (he : e < U) (hoe : o < e) (ho : b_cellOp o = 14 ∨ b_cellOp o = 15) (hm : ut_mt b_cellOp o e) (p : post (nI e)) : ∀ d i, i + d = e → o ≤ i → wY_endOf_4 post (nI o) g_codeLimit g_functionsLimit g_depthLimit g_wordsLimit (nI U) g_open g_depth g_reachable b_cellOp b_cellA b_cellB b_regs b_kinds b_count b_values b_function b_address b_atCall (d + 1) (nI (ut_zn b_cellOp i - ut_zn b_cellOp o)) (nI i) := by
  intro d
  induction d with
  | zero =>
    intro i hi h1
    have ei : i = e := by omega
    subst ei
    have hgt := hm.2 i hoe (Nat.le_refl _)
    rw [wY_endOf_4]
    dsimp only
    refine br_f (nI_ge (by omega) (by omega)) ⟨vp_in_nI (by omega) (by omega), ?_⟩
    rw [nI_clamp (by omega)]
    have n4 : ¬ b_cellOp i = 14 := fun x => by
      have a := ut_zn_o (A := b_cellOp) (i := i) (Or.inl x)
      have b := hm.1
      omega
    have n5 : ¬ b_cellOp i = 15 := fun x => by
      have a := ut_zn_o (A := b_cellOp) (i := i) (Or.inr x)
      have b := hm.1
      omega
    refine br_f n4 ⟨vp_in_nI (by omega) (by omega), br_f n5 ?_⟩
    unfold wY_endOf_37
    refine ⟨vp_in_nI (by omega) (by omega), ?_⟩
    rw [nI_clamp (by omega)]
    by_cases h6 : b_cellOp i = 16
    · refine br_t h6 (nm_r (e' := nI (ut_zn b_cellOp (i + 1) - ut_zn b_cellOp o)) ?_ (ut_ye51 (by omega) hm h1 (Nat.le_refl _) (fun _ => p) (fun x => by omega)))
      rw [sb_m1 (by omega), ut_zn_e h6]
      exact congrArg nI (by omega)
    · have a := ut_zn_n (A := b_cellOp) (i := i) (fun x => x.elim n4 n5) h6
      have b := hm.1
      omega
  | succ d ih =>
    intro i hi h1
    have q := ih (i + 1) (by omega) (by omega)
    have hgt := hm.2 (i + 1) (by omega) (by omega)
    have hge : ut_zn b_cellOp o ≤ ut_zn b_cellOp i := by
      rcases Nat.lt_or_ge o i with y | y
      · exact Nat.le_of_lt (hm.2 i y (by omega))
      · rw [show i = o by omega]; exact Nat.le_refl _
    rw [wY_endOf_4]
    dsimp only
    refine br_f (nI_ge (by omega) (by omega)) ⟨vp_in_nI (by omega) (by omega), ?_⟩
    rw [nI_clamp (by omega)]
    have K : ∀ (h : b_cellOp i = 14 ∨ b_cellOp i = 15), wY_endOf_34 post (wY_endOf_4 post (nI o) g_codeLimit g_functionsLimit g_depthLimit g_wordsLimit (nI U) g_open g_depth g_reachable b_cellOp b_cellA b_cellB b_regs b_kinds b_count b_values b_function b_address b_atCall (d + 1)) (nI o) (nI (ut_zn b_cellOp i - ut_zn b_cellOp o)) (nI i) g_codeLimit g_functionsLimit g_depthLimit g_wordsLimit (nI U) g_open g_depth g_reachable b_cellOp b_cellA b_cellB b_regs b_kinds b_count b_values b_function b_address b_atCall := by
      intro h
      unfold wY_endOf_34
      refine nm_r (e' := nI (ut_zn b_cellOp (i + 1) - ut_zn b_cellOp o)) (by rw [nI_1, ut_zn_o h]; exact congrArg nI (by omega)) ?_
      unfold wY_endOf_37
      refine ⟨vp_in_nI (by omega) (by omega), ?_⟩
      rw [nI_clamp (by omega)]
      exact br_f (by rcases h with h | h <;> rw [h] <;> decide) (ut_ye51 (by omega) hm h1 (by omega) (fun x => by omega) (fun _ => q))
    by_cases h4 : b_cellOp i = 14
    · exact br_t h4 (K (Or.inl h4))
    · refine br_f h4 ⟨vp_in_nI (by omega) (by omega), ?_⟩
      by_cases h5 : b_cellOp i = 15
      · exact br_t h5 (K (Or.inr h5))
      · refine br_f h5 ?_
        unfold wY_endOf_37
        refine ⟨vp_in_nI (by omega) (by omega), ?_⟩
        rw [nI_clamp (by omega)]
        by_cases h6 : b_cellOp i = 16
        · have a := ut_zn_e (A := b_cellOp) (i := i) h6
          refine br_t h6 (nm_r (e' := nI (ut_zn b_cellOp (i + 1) - ut_zn b_cellOp o)) ?_ (ut_ye51 (by omega) hm h1 (by omega) (fun x => by omega) (fun _ => q)))
          rw [sb_m1 (by omega), a]
          exact congrArg nI (by omega)
        · have a := ut_zn_n (A := b_cellOp) (i := i) (fun x => x.elim h4 h5) h6
          refine br_f h6 ?_
          rw [← a]
          exact ut_ye51 (by omega) hm h1 (by omega) (fun x => by omega) (fun _ => q)
theorem ut_yeo (hU : U ≤ 64) (he : e < U) (hoe : o < e) (ho : b_cellOp o = 14 ∨ b_cellOp o = 15) (hm : ut_mt b_cellOp o e) (p : post (nI e)) : wpY_endOf post (g_codeLimit, g_functionsLimit, g_depthLimit, g_wordsLimit, (nI U), g_open, g_depth, g_reachable, b_cellOp, b_cellA, b_cellB, b_regs, b_kinds, b_count, b_values, b_function, b_address, b_atCall) (nI o) := by
  have h0 : (0 : Int32) = nI (ut_zn b_cellOp o - ut_zn b_cellOp o) := by rw [Nat.sub_self]; rfl
  refine ⟨e - o + 1, ?_⟩
  show wY_endOf_4 post (nI o) g_codeLimit g_functionsLimit g_depthLimit g_wordsLimit (nI U) g_open g_depth g_reachable b_cellOp b_cellA b_cellB b_regs b_kinds b_count b_values b_function b_address b_atCall (e - o + 1) 0 (nI o)
  rw [h0]
  exact ut_ye1 hU he hoe ho hm p (e - o) o (by omega) (Nat.le_refl _)
/-! openingOf -/
theorem ut_yo47 (he : e < 64) (hoe : o < e) (ho : b_cellOp o = 14 ∨ b_cellOp o = 15) (hm : ut_mt b_cellOp o e) (h1 : o ≤ i) (h2 : i ≤ e) (p : post (nI o)) (q : o < i → J (nI (ut_zn b_cellOp i - ut_zn b_cellOp o)) (nI (i - 1))) :
    wY_openingOf_47 post J (nI e) (nI (ut_zn b_cellOp i - ut_zn b_cellOp o)) (nI i) g_codeLimit g_functionsLimit g_depthLimit g_wordsLimit g_used g_open g_depth g_reachable b_cellOp b_cellA b_cellB b_regs b_kinds b_count b_values b_function b_address b_atCall := by
  have hz := ut_zn_le (A := b_cellOp) i
  unfold wY_openingOf_47
  rcases Nat.lt_or_ge o i with y | y
  · have := hm.2 i y h2
    exact br_f (nI_ne0 (by omega) (by omega)) (nm_r (sb_m1 (by omega)) (q y))
  · have ei : i = o := by omega
    subst ei
    rw [Nat.sub_self]
    refine br_t rfl (br_f (nI_ge hoe (by omega)) ⟨vp_in_nI (by omega) (by omega), ?_⟩)
    rw [nI_clamp (by omega)]
    rcases ho with h | h
    · exact br_t h p
    · exact br_f (by rw [h]; decide) ⟨vp_in_nI (by omega) (by omega), br_t h p⟩
theorem ut_yo22 (he : e < 64) (hoe : o < e) (ho : b_cellOp o = 14 ∨ b_cellOp o = 15) (hm : ut_mt b_cellOp o e) (h1 : o ≤ i) (h2 : i ≤ e) (p : post (nI o)) (q : o < i → J (nI (ut_zn b_cellOp i - ut_zn b_cellOp o)) (nI (i - 1)))
    (x : Int32) (hx : (b_cellOp i = 14 ∨ b_cellOp i = 15) → x + (-1) = nI (ut_zn b_cellOp i - ut_zn b_cellOp o)) (hx' : ¬ (b_cellOp i = 14 ∨ b_cellOp i = 15) → x = nI (ut_zn b_cellOp i - ut_zn b_cellOp o)) :
    wY_openingOf_22 post J (nI e) x (nI i) g_codeLimit g_functionsLimit g_depthLimit g_wordsLimit g_used g_open g_depth g_reachable b_cellOp b_cellA b_cellB b_regs b_kinds b_count b_values b_function b_address b_atCall := by
  unfold wY_openingOf_22
  refine ⟨vp_in_nI (by omega) (by omega), ?_⟩
  rw [nI_clamp (by omega)]
  by_cases h4 : b_cellOp i = 14
  · refine br_t h4 ?_
    unfold wY_openingOf_44
    exact nm_r (hx (Or.inl h4)) (ut_yo47 he hoe ho hm h1 h2 p q)
  · refine br_f h4 ⟨vp_in_nI (by omega) (by omega), ?_⟩
    by_cases h5 : b_cellOp i = 15
    · refine br_t h5 ?_
      unfold wY_openingOf_44
      exact nm_r (hx (Or.inr h5)) (ut_yo47 he hoe ho hm h1 h2 p q)
    · refine br_f h5 ?_
      rw [hx' (fun z => z.elim h4 h5)]
      exact ut_yo47 he hoe ho hm h1 h2 p q
theorem ut_yo1 (he : e < 64) (hoe : o < e) (ho : b_cellOp o = 14 ∨ b_cellOp o = 15) (hm : ut_mt b_cellOp o e) (p : post (nI o)) : ∀ d i, o + d = i → i ≤ e → wY_openingOf_4 post (nI e) g_codeLimit g_functionsLimit g_depthLimit g_wordsLimit g_used g_open g_depth g_reachable b_cellOp b_cellA b_cellB b_regs b_kinds b_count b_values b_function b_address b_atCall (d + 1) (nI (ut_zn b_cellOp (i + 1) - ut_zn b_cellOp o)) (nI i) := by
  intro d
  induction d with
  | zero =>
    intro i hi h2
    have ei : i = o := by omega
    subst ei
    have a := ut_zn_o (A := b_cellOp) ho
    rw [wY_openingOf_4]
    dsimp only
    refine br_f (nI_pos (by omega)) ⟨vp_in_nI (by omega) (by omega), ?_⟩
    rw [nI_clamp (by omega)]
    refine br_f (by rcases ho with h | h <;> rw [h] <;> decide) ?_
    refine ut_yo22 he hoe ho hm (Nat.le_refl _) h2 p (fun x => by omega) _ (fun _ => ?_) (fun x => absurd ho x)
    rw [sb_m1 (by omega)]
    exact congrArg nI (by omega)
  | succ d ih =>
    intro i hi h2
    have q := ih (i - 1) (by omega) (by omega)
    rw [show i - 1 + 1 = i by omega] at q
    have hgt := hm.2 i (by omega) h2
    rw [wY_openingOf_4]
    dsimp only
    refine br_f (nI_pos (by omega)) ⟨vp_in_nI (by omega) (by omega), ?_⟩
    rw [nI_clamp (by omega)]
    by_cases h6 : b_cellOp i = 16
    · have a := ut_zn_e (A := b_cellOp) h6
      refine br_t h6 (nm_r (nI_1 _) ?_)
      refine ut_yo22 he hoe ho hm (by omega) h2 p (fun _ => q) _ (fun x => ?_) (fun _ => ?_)
      · rw [h6] at x; exact absurd x (by decide)
      · exact congrArg nI (by omega)
    · refine br_f h6 ?_
      refine ut_yo22 he hoe ho hm (by omega) h2 p (fun _ => q) _ (fun x => ?_) (fun x => ?_)
      · have a := ut_zn_o (A := b_cellOp) x
        rw [sb_m1 (by omega)]
        exact congrArg nI (by omega)
      · have a := ut_zn_n (A := b_cellOp) x h6
        exact congrArg nI (by omega)
theorem ut_yoo (he : e < 64) (hoe : o < e) (ho : b_cellOp o = 14 ∨ b_cellOp o = 15) (hm : ut_mt b_cellOp o e) (p : post (nI o)) : wpY_openingOf post (g_codeLimit, g_functionsLimit, g_depthLimit, g_wordsLimit, g_used, g_open, g_depth, g_reachable, b_cellOp, b_cellA, b_cellB, b_regs, b_kinds, b_count, b_values, b_function, b_address, b_atCall) (nI e) := by
  have := ut_yo1 (g_codeLimit := g_codeLimit) (g_functionsLimit := g_functionsLimit) (g_depthLimit := g_depthLimit) (g_wordsLimit := g_wordsLimit) (g_used := g_used) (g_open := g_open) (g_depth := g_depth) (g_reachable := g_reachable) (b_cellOp := b_cellOp) (b_cellA := b_cellA) (b_cellB := b_cellB) (b_regs := b_regs) (b_kinds := b_kinds) (b_count := b_count) (b_values := b_values) (b_function := b_function) (b_address := b_address) (b_atCall := b_atCall) he hoe ho hm p (e - o) e (by omega) (Nat.le_refl _)
  rw [hm.1, Nat.sub_self] at this
  exact ⟨e - o + 1, this⟩
end G
end UT11
end
section
/-! the reference's lists of kinds -/
section UT12
variable {g_codeLimit g_functionsLimit g_depthLimit g_wordsLimit g_used g_open g_depth g_reachable : Int32} {b_cellOp b_cellA b_cellB b_regs b_kinds b_count b_values b_function b_address b_atCall : Nat → Int32}
section A
variable {post : Int32 → Prop} {wl N M row : Nat}
theorem ut_fd1 {r : Nat} (hw : wl ≤ 8) (hrow : row < 21) (hc : b_count row = nI (ut_sz N)) (hF : ut_FS wl N (fun j => b_kinds (row * 8 + j))) (hr : r < 4) (p0 : ut_pl N r = 0 → post (-1)) (p1 : ut_pl N r ≠ 0 → post (nI (ut_pl N r - 1))) :
    ∀ d i, i + d = ut_sz N → (ut_pl N r = 0 ∨ i < ut_pl N r) → wY_find_13 post (nI row) (nI r) g_codeLimit g_functionsLimit g_depthLimit g_wordsLimit g_used g_open g_depth g_reachable b_cellOp b_cellA b_cellB b_regs b_kinds b_count b_values b_function b_address b_atCall (d + 1) (nI i) := by
  have h2 := hF.2.1
  intro d
  induction d with
  | zero =>
    intro i hi h
    have h3 := hF.2.2.1 r hr
    rw [wY_find_13]
    dsimp only
    refine ⟨vp_in_nI hrow (by omega), ?_⟩
    rw [nI_clamp (by omega), hc]
    refine pk_le (ut_sz N) i (fun a => ?_) (fun a => by omega)
    exact p0 (by omega)
  | succ d ih =>
    intro i hi h
    rw [wY_find_13]
    dsimp only
    refine ⟨vp_in_nI hrow (by omega), ?_⟩
    rw [nI_clamp (by omega), hc]
    refine pk_le (ut_sz N) i (fun a => by omega) (fun a => ?_)
    rw [show (8 : Int32) = nI 8 from rfl, pk_mul, nI_add]
    refine ⟨vp_in_nI (by omega) (by omega), ?_⟩
    rw [nI_clamp (by omega)]
    have k := hF.2.2.2.1 r hr i a
    dsimp only at k
    by_cases e : ut_pl N r = i + 1
    · refine br_t (k.mpr e) ?_
      have := p1 (by omega)
      rw [e] at this
      exact this
    · exact br_f (fun x => e (k.mp x)) (nm_r (nI_1 i) (ih (i + 1) (by omega) (by omega)))
theorem ut_yfd {x : Int32} (hw : wl ≤ 8) (hrow : row < 21) (hc : b_count row = nI (ut_sz N)) (hF : ut_FS wl N (fun j => b_kinds (row * 8 + j)))
    (p0 : (∀ r, r < 4 → x = nI r → ut_pl N r = 0) → post (-1)) (p1 : ∀ r, r < 4 → x = nI r → ut_pl N r ≠ 0 → post (nI (ut_pl N r - 1))) : wpY_find post (g_codeLimit, g_functionsLimit, g_depthLimit, g_wordsLimit, g_used, g_open, g_depth, g_reachable, b_cellOp, b_cellA, b_cellB, b_regs, b_kinds, b_count, b_values, b_function, b_address, b_atCall) (nI row) x := by
  by_cases hx : x < 0
  · refine br_t hx (p0 (fun r hr e => ?_))
    rw [e] at hx
    exact absurd hx (nI_pos (by omega))
  · refine br_f hx ?_
    obtain ⟨j, hj, rfl⟩ := nI_of hx
    refine pk_le j 3 (fun a => ?_) (fun a => ?_)
    · refine ⟨ut_sz N + 1, ut_fd1 hw hrow hc hF (r := j) (by omega) (fun e => p0 (fun r hr h => ?_)) (fun e => p1 j (by omega) rfl e) (ut_sz N) 0 (by omega) (by omega)⟩
      rw [nI_eq hj (by omega)] at h
      rw [← h]; exact e
    · refine p0 (fun r hr h => ?_)
      rw [nI_eq hj (by omega)] at h
      omega
/-- find for a register number in range -/
theorem ut_yfdr {r : Nat} (hw : wl ≤ 8) (hrow : row < 21) (hc : b_count row = nI (ut_sz N)) (hF : ut_FS wl N (fun j => b_kinds (row * 8 + j))) (hr : r < 4)
    (p0 : ut_pl N r = 0 → post (-1)) (p1 : ut_pl N r ≠ 0 → post (nI (ut_pl N r - 1))) : wpY_find post (g_codeLimit, g_functionsLimit, g_depthLimit, g_wordsLimit, g_used, g_open, g_depth, g_reachable, b_cellOp, b_cellA, b_cellB, b_regs, b_kinds, b_count, b_values, b_function, b_address, b_atCall) (nI row) (nI r) := by
  refine ut_yfd hw hrow hc hF (fun h => p0 (h r hr rfl)) (fun q hq e h => ?_)
  rw [nI_eq (by omega) (by omega)] at e
  subst e
  exact p1 h
theorem ut_ysl1 {x y : Nat} (hw : wl ≤ 8) (hx : x < 21) (hy : y < 21) (hc : b_count x = nI (ut_sz N)) (h8 : ut_sz N ≤ 8)
    (p1 : (∀ j, j < ut_sz N → b_kinds (x * 8 + j) = b_kinds (y * 8 + j)) → post 1) (p0 : ¬ (∀ j, j < ut_sz N → b_kinds (x * 8 + j) = b_kinds (y * 8 + j)) → post 0) :
    ∀ d i, i + d = ut_sz N → (∀ j, j < i → b_kinds (x * 8 + j) = b_kinds (y * 8 + j)) → wY_sameList_19 post (nI x) (nI y) g_codeLimit g_functionsLimit g_depthLimit g_wordsLimit g_used g_open g_depth g_reachable b_cellOp b_cellA b_cellB b_regs b_kinds b_count b_values b_function b_address b_atCall (d + 1) (nI i) := by
  intro d
  induction d with
  | zero =>
    intro i hi h
    rw [wY_sameList_19]
    dsimp only
    refine ⟨vp_in_nI hx (by omega), ?_⟩
    rw [nI_clamp (by omega), hc]
    refine pk_le (ut_sz N) i (fun a => ?_) (fun a => by omega)
    exact p1 (fun j hj => h j (by omega))
  | succ d ih =>
    intro i hi h
    rw [wY_sameList_19]
    dsimp only
    refine ⟨vp_in_nI hx (by omega), ?_⟩
    rw [nI_clamp (by omega), hc]
    refine pk_le (ut_sz N) i (fun a => by omega) (fun a => ?_)
    rw [show (8 : Int32) = nI 8 from rfl, pk_mul, pk_mul, nI_add, nI_add]
    refine ⟨vp_in_nI (by omega) (by omega), vp_in_nI (by omega) (by omega), ?_⟩
    rw [nI_clamp (by omega), nI_clamp (by omega)]
    by_cases e : b_kinds (x * 8 + i) = b_kinds (y * 8 + i)
    · refine br_t e (nm_r (nI_1 i) (ih (i + 1) (by omega) (fun j hj => ?_)))
      by_cases z : j = i
      · rw [z]; exact e
      · exact h j (by omega)
    · exact br_f e (p0 (fun k => e (k i a)))
theorem ut_ysl {x y : Nat} (hw : wl ≤ 8) (hx : x < 21) (hy : y < 21) (hc : b_count x = nI (ut_sz N)) (hd : b_count y = nI (ut_sz M)) (hF : ut_FS wl N (fun j => b_kinds (x * 8 + j))) (hG : ut_FS wl M (fun j => b_kinds (y * 8 + j)))
    (p1 : N = M → post 1) (p0 : N ≠ M → post 0) : wpY_sameList post (g_codeLimit, g_functionsLimit, g_depthLimit, g_wordsLimit, g_used, g_open, g_depth, g_reachable, b_cellOp, b_cellA, b_cellB, b_regs, b_kinds, b_count, b_values, b_function, b_address, b_atCall) (nI x) (nI y) := by
  have h2 := hF.2.1
  have h3 := hG.2.1
  refine ⟨vp_in_nI hx (by omega), vp_in_nI hy (by omega), ?_⟩
  rw [nI_clamp (by omega), nI_clamp (by omega), hc, hd]
  refine pk_eq (ut_sz N) (ut_sz M) (fun e => ?_) (fun e => p0 (fun z => e (by rw [z])))
  refine ⟨ut_sz N + 1, ut_ysl1 hw hx hy hc (by omega) (fun k => p1 (ut_FS_inj hF hG e k)) (fun k => p0 (fun z => ?_)) (ut_sz N) 0 (by omega) (fun j hj => absurd hj (Nat.not_lt_zero j))⟩
  subst z
  exact k (fun j hj => ut_FS_eq hF hG hj)
end A
section B
variable {post : SY → Prop} {x y : Nat}
theorem ut_ycl1 (hx : x < 21) (hy : y < 21) (hxy : x ≠ y)
    (K : ∀ k', (∀ j, j < 8 → k' (y * 8 + j) = b_kinds (x * 8 + j)) → (∀ j, (j < y * 8 ∨ y * 8 + 8 ≤ j) → k' j = b_kinds j) → post (g_codeLimit, g_functionsLimit, g_depthLimit, g_wordsLimit, g_used, g_open, g_depth, g_reachable, b_cellOp, b_cellA, b_cellB, b_regs, k', b_count, b_values, b_function, b_address, b_atCall)) :
    ∀ d i k', i + d = 8 → (∀ j, j < i → k' (y * 8 + j) = b_kinds (x * 8 + j)) → (∀ j, (j < y * 8 ∨ y * 8 + 8 ≤ j) → k' j = b_kinds j) →
      wY_copyList_14 post (nI x) (nI y) g_codeLimit g_functionsLimit g_depthLimit g_wordsLimit g_used g_open g_depth g_reachable (d + 1) (nI i) b_cellOp b_cellA b_cellB b_regs k' b_count b_values b_function b_address b_atCall := by
  intro d
  induction d with
  | zero =>
    intro i k' hi h1 h2
    rw [wY_copyList_14]
    dsimp only
    exact br_t (nI_le (a := 8) (by omega) (by omega)) (K k' (fun j hj => h1 j (by omega)) h2)
  | succ d ih =>
    intro i k' hi h1 h2
    rw [wY_copyList_14]
    dsimp only
    refine br_f (nI_ge (b := 8) (by omega) (by omega)) ?_
    rw [show (8 : Int32) = nI 8 from rfl, pk_mul, pk_mul, nI_add, nI_add]
    refine ⟨vp_in_nI (by omega) (by omega), vp_in_nI (by omega) (by omega), ?_⟩
    rw [nI_clamp (by omega), nI_clamp (by omega)]
    refine nm_e (nm_r (nI_1 i) (ih (i + 1) _ (by omega) (fun j hj => ?_) (fun j hj => ?_)))
    · by_cases z : j = i
      · rw [z, pk_us, h2 _ (by omega)]
      · rw [pk_un (by omega)]; exact h1 j (by omega)
    · rw [pk_un (by omega)]; exact h2 j hj
theorem ut_ycl (hx : x < 21) (hy : y < 21) (hxy : x ≠ y)
    (K : ∀ k', (∀ j, j < 8 → k' (y * 8 + j) = b_kinds (x * 8 + j)) → (∀ j, (j < y * 8 ∨ y * 8 + 8 ≤ j) → k' j = b_kinds j) → post (g_codeLimit, g_functionsLimit, g_depthLimit, g_wordsLimit, g_used, g_open, g_depth, g_reachable, b_cellOp, b_cellA, b_cellB, b_regs, k', (upd b_count y (b_count x)), b_values, b_function, b_address, b_atCall)) :
    wpY_copyList post (g_codeLimit, g_functionsLimit, g_depthLimit, g_wordsLimit, g_used, g_open, g_depth, g_reachable, b_cellOp, b_cellA, b_cellB, b_regs, b_kinds, b_count, b_values, b_function, b_address, b_atCall) (nI x) (nI y) := by
  refine ⟨vp_in_nI hx (by omega), vp_in_nI hy (by omega), ?_⟩
  rw [nI_clamp (by omega), nI_clamp (by omega)]
  exact nm_e ⟨9, ut_ycl1 hx hy hxy K 8 0 b_kinds (by omega) (fun j hj => absurd hj (Nat.not_lt_zero j)) (fun _ _ => rfl)⟩
end B
end UT12
end
section
/-! changeKinds -/
section UT13
variable {g_codeLimit g_functionsLimit g_depthLimit g_wordsLimit g_used g_open g_depth g_reachable : Int32} {b_cellOp b_cellA b_cellB b_regs b_kinds b_count b_values b_function b_address b_atCall : Nat → Int32}
variable {post : SY → Prop} {wl fl N row o a : Nat} {b x1 x3 x4 x5 x6 x7 : Int32}
theorem ut_ne {o k : Nat} (h : o ≠ k) (ho : o < 100) (hk : k < 100) : ¬ nI o = nI k := by
  rw [nI_eq (by omega) (by omega)]; exact h
theorem ut_yfda {p : Int32 → Prop} {x : Int32} (hw : wl ≤ 8) (hrow : row < 21) (hc : b_count row = nI (ut_sz N)) (hF : ut_FS wl N (fun j => b_kinds (row * 8 + j))) (h : ∀ y, p y) : wpY_find p (g_codeLimit, g_functionsLimit, g_depthLimit, g_wordsLimit, g_used, g_open, g_depth, g_reachable, b_cellOp, b_cellA, b_cellB, b_regs, b_kinds, b_count, b_values, b_function, b_address, b_atCall) (nI row) x :=
  ut_yfd hw hrow hc hF (fun _ => h _) (fun _ _ _ _ => h _)
theorem ut_ck150 (ho : o ≤ 12) (h6 : o ≠ 6) (K : post (g_codeLimit, g_functionsLimit, g_depthLimit, g_wordsLimit, g_used, g_open, g_depth, g_reachable, b_cellOp, b_cellA, b_cellB, b_regs, b_kinds, b_count, b_values, b_function, b_address, b_atCall)) : wY_changeKinds_150 post (nI o) x5 x7 g_codeLimit g_functionsLimit g_depthLimit g_wordsLimit g_used g_open g_depth g_reachable b_cellOp b_cellA b_cellB b_regs b_kinds b_count b_values b_function b_address b_atCall := by
  unfold wY_changeKinds_150
  exact br_f (ut_ne (k := 6) h6 (by omega) (by omega)) K
theorem ut_ck134 (ho : o ≤ 12) (h : o ≠ 5) (h6 : o ≠ 6) (K : post (g_codeLimit, g_functionsLimit, g_depthLimit, g_wordsLimit, g_used, g_open, g_depth, g_reachable, b_cellOp, b_cellA, b_cellB, b_regs, b_kinds, b_count, b_values, b_function, b_address, b_atCall)) : wY_changeKinds_134 post (nI o) x3 x4 x5 x7 g_codeLimit g_functionsLimit g_depthLimit g_wordsLimit g_used g_open g_depth g_reachable b_cellOp b_cellA b_cellB b_regs b_kinds b_count b_values b_function b_address b_atCall := by
  unfold wY_changeKinds_134
  exact br_f (ut_ne (k := 5) h (by omega) (by omega)) (ut_ck150 ho h6 K)
theorem ut_ck119 (ho : o ≤ 12) (h : o ≠ 4) (h5 : o ≠ 5) (h6 : o ≠ 6) (K : post (g_codeLimit, g_functionsLimit, g_depthLimit, g_wordsLimit, g_used, g_open, g_depth, g_reachable, b_cellOp, b_cellA, b_cellB, b_regs, b_kinds, b_count, b_values, b_function, b_address, b_atCall)) : wY_changeKinds_119 post x1 (nI o) x3 x4 x5 x6 x7 g_codeLimit g_functionsLimit g_depthLimit g_wordsLimit g_used g_open g_depth g_reachable b_cellOp b_cellA b_cellB b_regs b_kinds b_count b_values b_function b_address b_atCall := by
  unfold wY_changeKinds_119
  exact br_f (ut_ne (k := 4) h (by omega) (by omega)) (ut_ck134 ho h5 h6 K)
theorem ut_ck75 (ho : o ≤ 12) (h : o ≠ 3) (h4 : o ≠ 4) (h5 : o ≠ 5) (h6 : o ≠ 6) (K : post (g_codeLimit, g_functionsLimit, g_depthLimit, g_wordsLimit, g_used, g_open, g_depth, g_reachable, b_cellOp, b_cellA, b_cellB, b_regs, b_kinds, b_count, b_values, b_function, b_address, b_atCall)) : wY_changeKinds_75 post x1 (nI o) x3 x4 x5 x6 x7 g_codeLimit g_functionsLimit g_depthLimit g_wordsLimit g_used g_open g_depth g_reachable b_cellOp b_cellA b_cellB b_regs b_kinds b_count b_values b_function b_address b_atCall := by
  unfold wY_changeKinds_75
  exact br_f (ut_ne (k := 3) h (by omega) (by omega)) (ut_ck119 ho h4 h5 h6 K)
theorem ut_ck60 (ho : o ≤ 12) (h : o ≠ 2) (h3 : o ≠ 3) (h4 : o ≠ 4) (h5 : o ≠ 5) (h6 : o ≠ 6) (K : post (g_codeLimit, g_functionsLimit, g_depthLimit, g_wordsLimit, g_used, g_open, g_depth, g_reachable, b_cellOp, b_cellA, b_cellB, b_regs, b_kinds, b_count, b_values, b_function, b_address, b_atCall)) : wY_changeKinds_60 post x1 (nI o) x3 x4 x5 x6 x7 g_codeLimit g_functionsLimit g_depthLimit g_wordsLimit g_used g_open g_depth g_reachable b_cellOp b_cellA b_cellB b_regs b_kinds b_count b_values b_function b_address b_atCall := by
  unfold wY_changeKinds_60
  exact br_f (ut_ne (k := 2) h (by omega) (by omega)) (ut_ck75 ho h3 h4 h5 h6 K)
/-- the head: o is neither 0 nor 1 -/
theorem ut_ckh (hw : wl ≤ 8) (hrow : row < 21) (hc : b_count row = nI (ut_sz N)) (hF : ut_FS wl N (fun j => b_kinds (row * 8 + j))) (ho : o ≤ 12) (h0 : o ≠ 0) (h1 : o ≠ 1)
    (K : ∀ x7, wY_changeKinds_60 post (nI row) (nI o) (nI a) b (nI (row * 8)) (nI (ut_sz N)) x7 g_codeLimit g_functionsLimit g_depthLimit g_wordsLimit g_used g_open g_depth g_reachable b_cellOp b_cellA b_cellB b_regs b_kinds b_count b_values b_function b_address b_atCall) : wpY_changeKinds post (g_codeLimit, g_functionsLimit, g_depthLimit, g_wordsLimit, g_used, g_open, g_depth, g_reachable, b_cellOp, b_cellA, b_cellB, b_regs, b_kinds, b_count, b_values, b_function, b_address, b_atCall) (nI row) (nI o) (nI a) b := by
  refine nm_r (e' := nI (row * 8)) (pk_mul row 8) ⟨vp_in_nI hrow (by omega), ?_⟩
  rw [nI_clamp (by omega), hc]
  refine nm_e (ut_yfda hw hrow hc hF (fun x7 => ?_))
  exact br_f (ut_ne (k := 0) h0 (by omega) (by omega)) (br_f (ut_ne (k := 1) h1 (by omega) (by omega)) (K x7))
def ut_ckK (post : SY → Prop) (wl M row : Nat) (g_codeLimit g_functionsLimit g_depthLimit g_wordsLimit g_used g_open g_depth g_reachable : Int32) (b_cellOp b_cellA b_cellB b_regs b_kinds b_count b_values b_function b_address b_atCall : Nat → Int32) : Prop :=
  ∀ k' c', (∀ j, (j < row * 8 ∨ row * 8 + 8 ≤ j) → k' j = b_kinds j) → (∀ j, j ≠ row → c' j = b_count j) → c' row = nI (ut_sz M) → ut_FS wl M (fun j => k' (row * 8 + j)) → post (g_codeLimit, g_functionsLimit, g_depthLimit, g_wordsLimit, g_used, g_open, g_depth, g_reachable, b_cellOp, b_cellA, b_cellB, b_regs, k', c', b_values, b_function, b_address, b_atCall)
/-- nothing changes -/
theorem ut_ck7 (hw : wl ≤ 8) (hrow : row < 21) (hc : b_count row = nI (ut_sz N)) (hF : ut_FS wl N (fun j => b_kinds (row * 8 + j))) (ho : o ≤ 12) (h7 : 7 ≤ o)
    (K : ut_ckK post wl (ut_eff o a b N) row g_codeLimit g_functionsLimit g_depthLimit g_wordsLimit g_used g_open g_depth g_reachable b_cellOp b_cellA b_cellB b_regs b_kinds b_count b_values b_function b_address b_atCall) : wpY_changeKinds post (g_codeLimit, g_functionsLimit, g_depthLimit, g_wordsLimit, g_used, g_open, g_depth, g_reachable, b_cellOp, b_cellA, b_cellB, b_regs, b_kinds, b_count, b_values, b_function, b_address, b_atCall) (nI row) (nI o) (nI a) b := by
  have e : ut_eff o a b N = N := by
    unfold ut_eff
    rw [if_neg (by omega), if_neg (by omega), if_neg (by omega), if_neg (by omega), if_neg (by omega), if_neg (by omega), if_neg (by omega)]
  rw [e] at K
  exact ut_ckh hw hrow hc hF ho (by omega) (by omega) (fun x7 => ut_ck60 ho (by omega) (by omega) (by omega) (by omega) (by omega) (K b_kinds b_count (fun _ _ => rfl) (fun _ _ => rfl) hc hF))
theorem ut_ck01 {x : Int32} (hw : wl ≤ 8) (hrow : row < 21) (hc : b_count row = nI (ut_sz N)) (hF : ut_FS wl N (fun j => b_kinds (row * 8 + j))) (hn : ut_sz N < wl)
    (ho : (o = 0 ∧ x = nI a) ∨ (o = 1 ∧ x = 4))
    (K : post (g_codeLimit, g_functionsLimit, g_depthLimit, g_wordsLimit, g_used, g_open, g_depth, g_reachable, b_cellOp, b_cellA, b_cellB, b_regs, (upd b_kinds (row * 8 + ut_sz N) x), (upd b_count row (nI (ut_sz N + 1))), b_values, b_function, b_address, b_atCall)) : wpY_changeKinds post (g_codeLimit, g_functionsLimit, g_depthLimit, g_wordsLimit, g_used, g_open, g_depth, g_reachable, b_cellOp, b_cellA, b_cellB, b_regs, b_kinds, b_count, b_values, b_function, b_address, b_atCall) (nI row) (nI o) (nI a) b := by
  refine nm_r (e' := nI (row * 8)) (pk_mul row 8) ⟨vp_in_nI hrow (by omega), ?_⟩
  rw [nI_clamp (by omega), hc]
  refine nm_e (ut_yfda hw hrow hc hF (fun x7 => ?_))
  rcases ho with ⟨rfl, rfl⟩ | ⟨rfl, rfl⟩
  · refine br_t (by decide) ?_
    unfold wY_changeKinds_31
    refine br_t (by decide) ?_
    unfold wY_changeKinds_49
    rw [nI_add]
    refine ⟨vp_in_nI (by omega) (by omega), ?_⟩
    rw [nI_clamp (by omega)]
    refine nm_e ⟨vp_in_nI hrow (by omega), ?_⟩
    rw [nI_clamp (by omega), nI_1]
    exact nm_e (ut_ck60 (by omega) (by omega) (by omega) (by omega) (by omega) (by omega) K)
  · refine br_f (by decide) (br_t (by decide) ?_)
    unfold wY_changeKinds_31
    refine br_f (by decide) ?_
    unfold wY_changeKinds_49
    rw [nI_add]
    refine ⟨vp_in_nI (by omega) (by omega), ?_⟩
    rw [nI_clamp (by omega)]
    refine nm_e ⟨vp_in_nI hrow (by omega), ?_⟩
    rw [nI_clamp (by omega), nI_1]
    exact nm_e (ut_ck60 (by omega) (by omega) (by omega) (by omega) (by omega) (by omega) K)
theorem ut_ck2 (hw : wl ≤ 8) (hrow : row < 21) (hc : b_count row = nI (ut_sz N)) (hF : ut_FS wl N (fun j => b_kinds (row * 8 + j))) (hn : 0 < ut_sz N)
    (K : post (g_codeLimit, g_functionsLimit, g_depthLimit, g_wordsLimit, g_used, g_open, g_depth, g_reachable, b_cellOp, b_cellA, b_cellB, b_regs, b_kinds, (upd b_count row (nI (ut_sz N - 1))), b_values, b_function, b_address, b_atCall)) : wpY_changeKinds post (g_codeLimit, g_functionsLimit, g_depthLimit, g_wordsLimit, g_used, g_open, g_depth, g_reachable, b_cellOp, b_cellA, b_cellB, b_regs, b_kinds, b_count, b_values, b_function, b_address, b_atCall) (nI row) (nI 2) (nI a) b := by
  refine ut_ckh hw hrow hc hF (by omega) (by omega) (by omega) (fun x7 => ?_)
  unfold wY_changeKinds_60
  refine br_t (by decide) ⟨vp_in_nI hrow (by omega), ?_⟩
  rw [nI_clamp (by omega), ut_s1 hn]
  exact nm_e (ut_ck75 (by omega) (by omega) (by omega) (by omega) (by omega) K)
theorem ut_ck4 (hw : wl ≤ 8) (hrow : row < 21) (hc : b_count row = nI (ut_sz N)) (hF : ut_FS wl N (fun j => b_kinds (row * 8 + j))) (hn : a ≤ ut_sz N)
    (K : post (g_codeLimit, g_functionsLimit, g_depthLimit, g_wordsLimit, g_used, g_open, g_depth, g_reachable, b_cellOp, b_cellA, b_cellB, b_regs, b_kinds, (upd b_count row (nI (ut_sz N - a))), b_values, b_function, b_address, b_atCall)) : wpY_changeKinds post (g_codeLimit, g_functionsLimit, g_depthLimit, g_wordsLimit, g_used, g_open, g_depth, g_reachable, b_cellOp, b_cellA, b_cellB, b_regs, b_kinds, b_count, b_values, b_function, b_address, b_atCall) (nI row) (nI 4) (nI a) b := by
  refine ut_ckh hw hrow hc hF (by omega) (by omega) (by omega) (fun x7 => ?_)
  unfold wY_changeKinds_60
  refine br_f (by decide) ?_
  unfold wY_changeKinds_75
  refine br_f (by decide) ?_
  unfold wY_changeKinds_119
  refine br_t (by decide) ⟨vp_in_nI hrow (by omega), ?_⟩
  rw [nI_clamp (by omega), pk_sub hn]
  exact nm_e (ut_ck134 (by omega) (by omega) (by omega) K)
theorem ut_ck5 {c : Nat} (hw : wl ≤ 8) (hrow : row < 21) (hc : b_count row = nI (ut_sz N)) (hF : ut_FS wl N (fun j => b_kinds (row * 8 + j))) (hn : c < 8)
    (K : post (g_codeLimit, g_functionsLimit, g_depthLimit, g_wordsLimit, g_used, g_open, g_depth, g_reachable, b_cellOp, b_cellA, b_cellB, b_regs, (upd b_kinds (row * 8 + c) (nI a)), b_count, b_values, b_function, b_address, b_atCall)) : wpY_changeKinds post (g_codeLimit, g_functionsLimit, g_depthLimit, g_wordsLimit, g_used, g_open, g_depth, g_reachable, b_cellOp, b_cellA, b_cellB, b_regs, b_kinds, b_count, b_values, b_function, b_address, b_atCall) (nI row) (nI 5) (nI a) (nI c) := by
  refine ut_ckh hw hrow hc hF (by omega) (by omega) (by omega) (fun x7 => ?_)
  unfold wY_changeKinds_60
  refine br_f (by decide) ?_
  unfold wY_changeKinds_75
  refine br_f (by decide) ?_
  unfold wY_changeKinds_119
  refine br_f (by decide) ?_
  unfold wY_changeKinds_134
  rw [nI_add]
  refine br_t (by decide) ⟨vp_in_nI (by omega) (by omega), ?_⟩
  rw [nI_clamp (by omega)]
  exact nm_e (ut_ck150 (by omega) (by omega) K)
theorem ut_ck6 (hw : wl ≤ 8) (hrow : row < 21) (hc : b_count row = nI (ut_sz N)) (hF : ut_FS wl N (fun j => b_kinds (row * 8 + j))) (ha : a < 4) (hp : ut_pl N a ≠ 0)
    (K : post (g_codeLimit, g_functionsLimit, g_depthLimit, g_wordsLimit, g_used, g_open, g_depth, g_reachable, b_cellOp, b_cellA, b_cellB, b_regs, (upd b_kinds (row * 8 + (ut_pl N a - 1)) 4), b_count, b_values, b_function, b_address, b_atCall)) : wpY_changeKinds post (g_codeLimit, g_functionsLimit, g_depthLimit, g_wordsLimit, g_used, g_open, g_depth, g_reachable, b_cellOp, b_cellA, b_cellB, b_regs, b_kinds, b_count, b_values, b_function, b_address, b_atCall) (nI row) (nI 6) (nI a) b := by
  have h1 := hF.2.2.1 a ha
  have h2 := hF.2.1
  refine nm_r (e' := nI (row * 8)) (pk_mul row 8) ⟨vp_in_nI hrow (by omega), ?_⟩
  rw [nI_clamp (by omega), hc]
  refine nm_e (ut_yfdr hw hrow hc hF ha (fun e => absurd e hp) (fun _ => ?_))
  refine br_f (by decide) (br_f (by decide) ?_)
  unfold wY_changeKinds_60
  refine br_f (by decide) ?_
  unfold wY_changeKinds_75
  refine br_f (by decide) ?_
  unfold wY_changeKinds_119
  refine br_f (by decide) ?_
  unfold wY_changeKinds_134
  refine br_f (by decide) ?_
  unfold wY_changeKinds_150
  refine br_t (by decide) (br_f (nI_pos (by omega)) ?_)
  rw [nI_add]
  refine ⟨vp_in_nI (by omega) (by omega), ?_⟩
  rw [nI_clamp (by omega)]
  exact nm_e K
theorem ut_ck31 (hrow : row < 21) (h8 : ut_sz N + a ≤ 8)
    (K : ∀ k', (∀ j, ut_sz N ≤ j → j < ut_sz N + a → k' (row * 8 + j) = 4) → (∀ j, (j < row * 8 + ut_sz N ∨ row * 8 + (ut_sz N + a) ≤ j) → k' j = b_kinds j) → post (g_codeLimit, g_functionsLimit, g_depthLimit, g_wordsLimit, g_used, g_open, g_depth, g_reachable, b_cellOp, b_cellA, b_cellB, b_regs, k', (upd b_count row (nI (ut_sz N + a))), b_values, b_function, b_address, b_atCall)) :
    ∀ d i k', i + d = a → (∀ j, ut_sz N ≤ j → j < ut_sz N + i → k' (row * 8 + j) = 4) → (∀ j, (j < row * 8 + ut_sz N ∨ row * 8 + (ut_sz N + i) ≤ j) → k' j = b_kinds j) →
      wY_changeKinds_83 post (nI row) 3 (nI a) b (nI (row * 8)) (nI (ut_sz N)) x7 g_codeLimit g_functionsLimit g_depthLimit g_wordsLimit g_used g_open g_depth g_reachable (d + 1) (nI i) b_cellOp b_cellA b_cellB b_regs k' b_count b_values b_function b_address b_atCall := by
  intro d
  induction d with
  | zero =>
    intro i k' hi h1 h2
    have e : i = a := by omega
    subst e
    rw [wY_changeKinds_83]
    dsimp only
    refine br_t (nI_le (Nat.le_refl _) (by omega)) ⟨vp_in_nI hrow (by omega), ?_⟩
    rw [nI_clamp (by omega), nI_add]
    exact nm_e (ut_ck119 (o := 3) (by omega) (by omega) (by omega) (by omega) (K k' h1 h2))
  | succ d ih =>
    intro i k' hi h1 h2
    rw [wY_changeKinds_83]
    dsimp only
    refine br_f (nI_ge (by omega) (by omega)) ?_
    rw [nI_add, nI_add]
    refine ⟨vp_in_nI (by omega) (by omega), ?_⟩
    rw [nI_clamp (by omega)]
    refine nm_e (nm_r (nI_1 i) (ih (i + 1) _ (by omega) (fun j j1 j2 => ?_) (fun j hj => ?_)))
    · by_cases z : j = ut_sz N + i
      · rw [z, ← Nat.add_assoc, pk_us]
      · rw [pk_un (by omega)]; exact h1 j j1 (by omega)
    · rw [pk_un (by omega)]; exact h2 j (by omega)
theorem ut_ck3 (hw : wl ≤ 8) (hrow : row < 21) (hc : b_count row = nI (ut_sz N)) (hF : ut_FS wl N (fun j => b_kinds (row * 8 + j))) (h8 : ut_sz N + a ≤ 8)
    (K : ∀ k', (∀ j, ut_sz N ≤ j → j < ut_sz N + a → k' (row * 8 + j) = 4) → (∀ j, (j < row * 8 + ut_sz N ∨ row * 8 + (ut_sz N + a) ≤ j) → k' j = b_kinds j) → post (g_codeLimit, g_functionsLimit, g_depthLimit, g_wordsLimit, g_used, g_open, g_depth, g_reachable, b_cellOp, b_cellA, b_cellB, b_regs, k', (upd b_count row (nI (ut_sz N + a))), b_values, b_function, b_address, b_atCall)) :
    wpY_changeKinds post (g_codeLimit, g_functionsLimit, g_depthLimit, g_wordsLimit, g_used, g_open, g_depth, g_reachable, b_cellOp, b_cellA, b_cellB, b_regs, b_kinds, b_count, b_values, b_function, b_address, b_atCall) (nI row) (nI 3) (nI a) b := by
  refine ut_ckh hw hrow hc hF (by omega) (by omega) (by omega) (fun x7 => ?_)
  unfold wY_changeKinds_60
  refine br_f (by decide) ?_
  unfold wY_changeKinds_75
  exact br_t (by decide) ⟨a + 1, ut_ck31 hrow h8 K a 0 b_kinds (by omega) (fun j j1 j2 => by omega) (fun _ _ => rfl)⟩
/-- all instructions of the frame -/
theorem ut_yck (hw : wl ≤ 8) (hrow : row < 21) (hc : b_count row = nI (ut_sz N)) (hF : ut_FS wl N (fun j => b_kinds (row * 8 + j))) (ho : o ≤ 12) (hf : ut_fit fl wl o a b N)
    (K : ut_ckK post wl (ut_eff o a b N) row g_codeLimit g_functionsLimit g_depthLimit g_wordsLimit g_used g_open g_depth g_reachable b_cellOp b_cellA b_cellB b_regs b_kinds b_count b_values b_function b_address b_atCall) : wpY_changeKinds post (g_codeLimit, g_functionsLimit, g_depthLimit, g_wordsLimit, g_used, g_open, g_depth, g_reachable, b_cellOp, b_cellA, b_cellB, b_regs, b_kinds, b_count, b_values, b_function, b_address, b_atCall) (nI row) (nI o) (nI a) b := by
  have h16 := ut_sz_lt N
  have hs := hF.2.1
  obtain ⟨f0, f1, f2, f3, f4, f5, f6, f7, f8, f9, f10, f11, f12⟩ := hf
  by_cases e7 : 7 ≤ o
  · exact ut_ck7 hw hrow hc hF ho e7 K
  by_cases e0 : o = 0
  · subst e0
    obtain ⟨a3, pa, nw⟩ := f0 rfl
    have e : ut_eff 0 a b N = ut_sp (ut_ss N (ut_sz N + 1)) a (ut_sz N + 1) := if_pos rfl
    have es : ut_sz (ut_sp (ut_ss N (ut_sz N + 1)) a (ut_sz N + 1)) = ut_sz N + 1 := by rw [ut_sz_sp (by omega)]; exact ut_sz_ss (by omega)
    rw [e] at K
    refine ut_ck01 hw hrow hc hF nw (Or.inl ⟨rfl, rfl⟩) (K _ _ (fun j hj => pk_un (by omega)) (fun j hj => pk_un hj) (by rw [pk_us, es]) ?_)
    exact ut_ap_save hw hF (by omega) pa nw (fun i hi => pk_un (by omega)) pk_us
  by_cases e1 : o = 1
  · subst e1
    obtain ⟨a3, nw⟩ := f1 rfl
    have e : ut_eff 1 a b N = ut_ss N (ut_sz N + 1) := rfl
    have es : ut_sz (ut_ss N (ut_sz N + 1)) = ut_sz N + 1 := ut_sz_ss (by omega)
    rw [e] at K
    refine ut_ck01 hw hrow hc hF nw (Or.inr ⟨rfl, rfl⟩) (K _ _ (fun j hj => pk_un (by omega)) (fun j hj => pk_un hj) (by rw [pk_us, es]) ?_)
    exact ut_ap_push hw hF nw (fun i hi => pk_un (by omega)) pk_us
  by_cases e2 : o = 2
  · subst e2
    obtain ⟨a3, n0, hk⟩ := f2 rfl
    have e : ut_eff 2 a b N = (if a < 4 ∧ ut_pl N a = ut_sz N then ut_sp (ut_ss N (ut_sz N - 1)) a 0 else ut_ss N (ut_sz N - 1)) := rfl
    rw [e] at K
    by_cases z : a < 4 ∧ ut_pl N a = ut_sz N
    · have es : ut_sz (ut_sp (ut_ss N (ut_sz N - 1)) a 0) = ut_sz N - 1 := by rw [ut_sz_sp z.1]; exact ut_sz_ss (by omega)
      rw [if_pos z] at K
      refine ut_ck2 hw hrow hc hF n0 (K b_kinds _ (fun _ _ => rfl) (fun j hj => pk_un hj) (by rw [pk_us, es]) ?_)
      exact ut_ap_popk hF z.1 z.2 n0 (fun _ _ => rfl)
    · have es : ut_sz (ut_ss N (ut_sz N - 1)) = ut_sz N - 1 := ut_sz_ss (by omega)
      rw [if_neg z] at K
      refine ut_ck2 hw hrow hc hF n0 (K b_kinds _ (fun _ _ => rfl) (fun j hj => pk_un hj) (by rw [pk_us, es]) ?_)
      refine ut_ap_cut hF (by omega) (fun r hr => ?_) (fun _ _ => rfl)
      rcases hk with ⟨hk, _⟩ | hk
      · have k1 := hk r hr
        have k2 := hF.2.2.1 r hr
        omega
      · exact absurd ⟨by omega, hk.2⟩ z
  by_cases e3 : o = 3
  · subst e3
    obtain ⟨a1, a8, nw⟩ := f3 rfl
    have e : ut_eff 3 a b N = ut_ss N (ut_sz N + a) := rfl
    have es : ut_sz (ut_ss N (ut_sz N + a)) = ut_sz N + a := ut_sz_ss (by omega)
    rw [e] at K
    refine ut_ck3 hw hrow hc hF (by omega) (fun k' h1 h2 => K k' _ (fun j hj => h2 j (by omega)) (fun j hj => pk_un hj) (by rw [pk_us, es]) ?_)
    exact ut_ap_alloc hw hF nw (fun i hi => h2 _ (by omega)) h1
  by_cases e4 : o = 4
  · subst e4
    obtain ⟨a1, a8, na, nk⟩ := f4 rfl
    have e : ut_eff 4 a b N = ut_ss N (ut_sz N - a) := rfl
    have es : ut_sz (ut_ss N (ut_sz N - a)) = ut_sz N - a := ut_sz_ss (by omega)
    rw [e] at K
    refine ut_ck4 hw hrow hc hF na (K b_kinds _ (fun _ _ => rfl) (fun j hj => pk_un hj) (by rw [pk_us, es]) ?_)
    exact ut_ap_cut hF (by omega) nk (fun _ _ => rfl)
  by_cases e5 : o = 5
  · subst e5
    obtain ⟨a3, pa, c, hb, hc8, hk⟩ := f5 rfl
    subst hb
    have e : ut_eff 5 a (nI c) N = ut_sp N a (c + 1) := by
      show ut_sp N a ((nI c).toNatClampNeg + 1) = _
      rw [nI_clamp (by omega)]
    have es : ut_sz (ut_sp N a (c + 1)) = ut_sz N := ut_sz_sp (by omega)
    rw [e] at K
    refine ut_ck5 hw hrow hc hF (by omega) (K _ b_count (fun j hj => pk_un (by omega)) (fun _ _ => rfl) (by rw [es]; exact hc) ?_)
    exact ut_ap_keep hw hF (by omega) pa hc8 hk (fun i hi hn => pk_un (by omega)) pk_us
  · have e6 : o = 6 := by omega
    subst e6
    obtain ⟨a3, pa⟩ := f6 rfl
    have h1 := hF.2.2.1 a (by omega)
    have e : ut_eff 6 a b N = ut_sp N a 0 := rfl
    have es : ut_sz (ut_sp N a 0) = ut_sz N := ut_sz_sp (by omega)
    rw [e] at K
    refine ut_ck6 hw hrow hc hF (by omega) pa (K _ b_count (fun j hj => pk_un (by omega)) (fun _ _ => rfl) (by rw [es]; exact hc) ?_)
    exact ut_ap_back hF (by omega) pa (fun i hi hn => pk_un (by omega)) pk_us
end UT13
end
section
/-! moveValues -/
section UT14
variable {g_codeLimit g_functionsLimit g_depthLimit g_wordsLimit g_used g_open g_depth g_reachable : Int32} {b_cellOp b_cellA b_cellB b_regs b_kinds b_count b_values b_function b_address b_atCall : Nat → Int32}
variable {post : SY → Prop} {wl N row o a : Nat} {b x1 x3 x4 x5 x6 x7 : Int32}
theorem ut_mv215 (ho : o ≤ 12) (h : o ≠ 11) (K : post (g_codeLimit, g_functionsLimit, g_depthLimit, g_wordsLimit, g_used, g_open, g_depth, g_reachable, b_cellOp, b_cellA, b_cellB, b_regs, b_kinds, b_count, b_values, b_function, b_address, b_atCall)) : wY_moveValues_215 post (nI o) x3 x4 g_codeLimit g_functionsLimit g_depthLimit g_wordsLimit g_used g_open g_depth g_reachable b_cellOp b_cellA b_cellB b_regs b_kinds b_count b_values b_function b_address b_atCall := by
  unfold wY_moveValues_215
  exact br_f (ut_ne (k := 11) h (by omega) (by omega)) K
theorem ut_mv194 (ho : o ≤ 12) (h : o ≠ 10) (h1 : o ≠ 11) (K : post (g_codeLimit, g_functionsLimit, g_depthLimit, g_wordsLimit, g_used, g_open, g_depth, g_reachable, b_cellOp, b_cellA, b_cellB, b_regs, b_kinds, b_count, b_values, b_function, b_address, b_atCall)) : wY_moveValues_194 post (nI o) x3 x4 g_codeLimit g_functionsLimit g_depthLimit g_wordsLimit g_used g_open g_depth g_reachable b_cellOp b_cellA b_cellB b_regs b_kinds b_count b_values b_function b_address b_atCall := by
  unfold wY_moveValues_194
  exact br_f (ut_ne (k := 10) h (by omega) (by omega)) (ut_mv215 ho h1 K)
theorem ut_mv180 (ho : o ≤ 12) (h : o ≠ 9) (h1 : o ≠ 10) (h2 : o ≠ 11) (K : post (g_codeLimit, g_functionsLimit, g_depthLimit, g_wordsLimit, g_used, g_open, g_depth, g_reachable, b_cellOp, b_cellA, b_cellB, b_regs, b_kinds, b_count, b_values, b_function, b_address, b_atCall)) : wY_moveValues_180 post (nI o) x3 x4 g_codeLimit g_functionsLimit g_depthLimit g_wordsLimit g_used g_open g_depth g_reachable b_cellOp b_cellA b_cellB b_regs b_kinds b_count b_values b_function b_address b_atCall := by
  unfold wY_moveValues_180
  exact br_f (ut_ne (k := 9) h (by omega) (by omega)) (ut_mv194 ho h1 h2 K)
theorem ut_mv158 (ho : o ≤ 12) (h : o ≠ 7) (h0 : o ≠ 9) (h1 : o ≠ 10) (h2 : o ≠ 11) (K : post (g_codeLimit, g_functionsLimit, g_depthLimit, g_wordsLimit, g_used, g_open, g_depth, g_reachable, b_cellOp, b_cellA, b_cellB, b_regs, b_kinds, b_count, b_values, b_function, b_address, b_atCall)) : wY_moveValues_158 post (nI o) x3 x4 x5 g_codeLimit g_functionsLimit g_depthLimit g_wordsLimit g_used g_open g_depth g_reachable b_cellOp b_cellA b_cellB b_regs b_kinds b_count b_values b_function b_address b_atCall := by
  unfold wY_moveValues_158
  exact br_f (ut_ne (k := 7) h (by omega) (by omega)) (ut_mv180 ho h0 h1 h2 K)
theorem ut_mv131 (ho : o ≤ 12) (h6 : o ≠ 6) (h : o ≠ 7) (h0 : o ≠ 9) (h1 : o ≠ 10) (h2 : o ≠ 11) (K : post (g_codeLimit, g_functionsLimit, g_depthLimit, g_wordsLimit, g_used, g_open, g_depth, g_reachable, b_cellOp, b_cellA, b_cellB, b_regs, b_kinds, b_count, b_values, b_function, b_address, b_atCall)) : wY_moveValues_131 post (nI o) x3 x4 x5 x7 g_codeLimit g_functionsLimit g_depthLimit g_wordsLimit g_used g_open g_depth g_reachable b_cellOp b_cellA b_cellB b_regs b_kinds b_count b_values b_function b_address b_atCall := by
  unfold wY_moveValues_131
  exact br_f (ut_ne (k := 6) h6 (by omega) (by omega)) (ut_mv158 ho h h0 h1 h2 K)
theorem ut_mv104 (ho : o ≤ 12) (h5 : o ≠ 5) (h8 : o ≠ 8) (K : wY_moveValues_131 post (nI o) x3 x4 x5 x7 g_codeLimit g_functionsLimit g_depthLimit g_wordsLimit g_used g_open g_depth g_reachable b_cellOp b_cellA b_cellB b_regs b_kinds b_count b_values b_function b_address b_atCall) : wY_moveValues_104 post (nI o) x3 x4 x5 x7 g_codeLimit g_functionsLimit g_depthLimit g_wordsLimit g_used g_open g_depth g_reachable b_cellOp b_cellA b_cellB b_regs b_kinds b_count b_values b_function b_address b_atCall := by
  unfold wY_moveValues_104
  exact br_f (ut_ne (k := 5) h5 (by omega) (by omega)) (br_f (ut_ne (k := 8) h8 (by omega) (by omega)) K)
theorem ut_mv70 (ho : o ≤ 12) (h3 : o ≠ 3) (K : wY_moveValues_104 post (nI o) x3 x4 x5 x7 g_codeLimit g_functionsLimit g_depthLimit g_wordsLimit g_used g_open g_depth g_reachable b_cellOp b_cellA b_cellB b_regs b_kinds b_count b_values b_function b_address b_atCall) : wY_moveValues_70 post (nI o) x3 x4 x5 x6 x7 g_codeLimit g_functionsLimit g_depthLimit g_wordsLimit g_used g_open g_depth g_reachable b_cellOp b_cellA b_cellB b_regs b_kinds b_count b_values b_function b_address b_atCall := by
  unfold wY_moveValues_70
  exact br_f (ut_ne (k := 3) h3 (by omega) (by omega)) K
theorem ut_mv47 (ho : o ≤ 12) (h2 : o ≠ 2) (K : wY_moveValues_70 post (nI o) x3 x4 x5 x6 x7 g_codeLimit g_functionsLimit g_depthLimit g_wordsLimit g_used g_open g_depth g_reachable b_cellOp b_cellA b_cellB b_regs b_kinds b_count b_values b_function b_address b_atCall) : wY_moveValues_47 post (nI o) x3 x4 x5 x6 x7 g_codeLimit g_functionsLimit g_depthLimit g_wordsLimit g_used g_open g_depth g_reachable b_cellOp b_cellA b_cellB b_regs b_kinds b_count b_values b_function b_address b_atCall := by
  unfold wY_moveValues_47
  exact br_f (ut_ne (k := 2) h2 (by omega) (by omega)) K
/-- the head: o is neither 0 nor 1 -/
theorem ut_mvh (hw : wl ≤ 8) (hrow : row < 16) (hc : b_count row = nI (ut_sz N)) (hF : ut_FS wl N (fun j => b_kinds (row * 8 + j))) (ho : o ≤ 12) (h0 : o ≠ 0) (h1 : o ≠ 1)
    (K : ∀ x7, wY_moveValues_47 post (nI o) (nI a) b (nI (row * 8)) (nI (ut_sz N)) x7 g_codeLimit g_functionsLimit g_depthLimit g_wordsLimit g_used g_open g_depth g_reachable b_cellOp b_cellA b_cellB b_regs b_kinds b_count b_values b_function b_address b_atCall) : wpY_moveValues post (g_codeLimit, g_functionsLimit, g_depthLimit, g_wordsLimit, g_used, g_open, g_depth, g_reachable, b_cellOp, b_cellA, b_cellB, b_regs, b_kinds, b_count, b_values, b_function, b_address, b_atCall) (nI row) (nI o) (nI a) b := by
  refine nm_r (e' := nI (row * 8)) (pk_mul row 8) ⟨vp_in_nI (by omega) (by omega), ?_⟩
  rw [nI_clamp (by omega), hc]
  refine nm_e (ut_yfda hw (by omega) hc hF (fun x7 => ?_))
  exact br_f (ut_ne (k := 0) h0 (by omega) (by omega)) (br_f (ut_ne (k := 1) h1 (by omega) (by omega)) (K x7))
theorem ut_mv01 (hw : wl ≤ 8) (hrow : row < 16) (hc : b_count row = nI (ut_sz N)) (hF : ut_FS wl N (fun j => b_kinds (row * 8 + j))) (hn : ut_sz N < wl) (ha : a ≤ 5) (ho : o ≤ 1)
    (K : post (g_codeLimit, g_functionsLimit, g_depthLimit, g_wordsLimit, g_used, g_open, g_depth, g_reachable, b_cellOp, b_cellA, b_cellB, b_regs, b_kinds, b_count, (upd b_values (row * 8 + ut_sz N) (b_regs a)), b_function, b_address, b_atCall)) : wpY_moveValues post (g_codeLimit, g_functionsLimit, g_depthLimit, g_wordsLimit, g_used, g_open, g_depth, g_reachable, b_cellOp, b_cellA, b_cellB, b_regs, b_kinds, b_count, b_values, b_function, b_address, b_atCall) (nI row) (nI o) (nI a) b := by
  refine nm_r (e' := nI (row * 8)) (pk_mul row 8) ⟨vp_in_nI (by omega) (by omega), ?_⟩
  rw [nI_clamp (by omega), hc]
  refine nm_e (ut_yfda hw (by omega) hc hF (fun x7 => ?_))
  have G : wY_moveValues_31 post (nI o) (nI a) b (nI (row * 8)) (nI (ut_sz N)) x7 g_codeLimit g_functionsLimit g_depthLimit g_wordsLimit g_used g_open g_depth g_reachable b_cellOp b_cellA b_cellB b_regs b_kinds b_count b_values b_function b_address b_atCall := by
    unfold wY_moveValues_31
    rw [nI_add]
    refine ⟨vp_in_nI (by omega) (by omega), vp_in_nI (by omega) (by omega), ?_⟩
    rw [nI_clamp (by omega), nI_clamp (by omega)]
    exact nm_e (ut_mv47 (by omega) (by omega) (ut_mv70 (by omega) (by omega) (ut_mv104 (by omega) (by omega) (by omega) (ut_mv131 (by omega) (by omega) (by omega) (by omega) (by omega) (by omega) K))))
  by_cases e : o = 0
  · subst e; exact br_t (by decide) G
  · have : o = 1 := by omega
    subst this; exact br_f (by decide) (br_t (by decide) G)
theorem ut_mv2 (hw : wl ≤ 8) (hrow : row < 16) (hc : b_count row = nI (ut_sz N)) (hF : ut_FS wl N (fun j => b_kinds (row * 8 + j))) (hn : 0 < ut_sz N) (ha : a ≤ 5)
    (K : post (g_codeLimit, g_functionsLimit, g_depthLimit, g_wordsLimit, g_used, g_open, g_depth, g_reachable, b_cellOp, b_cellA, b_cellB, (upd b_regs a (b_values (row * 8 + (ut_sz N - 1)))), b_kinds, b_count, b_values, b_function, b_address, b_atCall)) : wpY_moveValues post (g_codeLimit, g_functionsLimit, g_depthLimit, g_wordsLimit, g_used, g_open, g_depth, g_reachable, b_cellOp, b_cellA, b_cellB, b_regs, b_kinds, b_count, b_values, b_function, b_address, b_atCall) (nI row) (nI 2) (nI a) b := by
  have h2 := hF.2.1
  refine ut_mvh hw hrow hc hF (by omega) (by omega) (by omega) (fun x7 => ?_)
  unfold wY_moveValues_47
  rw [nI_add, ut_s1 (by omega), show row * 8 + ut_sz N - 1 = row * 8 + (ut_sz N - 1) by omega]
  refine br_t (by decide) ⟨vp_in_nI (by omega) (by omega), vp_in_nI (by omega) (by omega), ?_⟩
  rw [nI_clamp (by omega), nI_clamp (by omega)]
  exact nm_e (ut_mv70 (by omega) (by omega) (ut_mv104 (by omega) (by omega) (by omega) (ut_mv131 (by omega) (by omega) (by omega) (by omega) (by omega) (by omega) K)))
theorem ut_mv31 (hrow : row < 16) (h8 : ut_sz N + a ≤ 8)
    (K : ∀ k', (∀ j, ut_sz N ≤ j → j < ut_sz N + a → k' (row * 8 + j) = 0) → (∀ j, (j < row * 8 + ut_sz N ∨ row * 8 + (ut_sz N + a) ≤ j) → k' j = b_values j) → post (g_codeLimit, g_functionsLimit, g_depthLimit, g_wordsLimit, g_used, g_open, g_depth, g_reachable, b_cellOp, b_cellA, b_cellB, b_regs, b_kinds, b_count, k', b_function, b_address, b_atCall)) :
    ∀ d i k', i + d = a → (∀ j, ut_sz N ≤ j → j < ut_sz N + i → k' (row * 8 + j) = 0) → (∀ j, (j < row * 8 + ut_sz N ∨ row * 8 + (ut_sz N + i) ≤ j) → k' j = b_values j) →
      wY_moveValues_78 post 3 (nI a) b (nI (row * 8)) (nI (ut_sz N)) x7 g_codeLimit g_functionsLimit g_depthLimit g_wordsLimit g_used g_open g_depth g_reachable (d + 1) (nI i) b_cellOp b_cellA b_cellB b_regs b_kinds b_count k' b_function b_address b_atCall := by
  intro d
  induction d with
  | zero =>
    intro i k' hi h1 h2
    have e : i = a := by omega
    subst e
    rw [wY_moveValues_78]
    dsimp only
    refine br_t (nI_le (Nat.le_refl _) (by omega)) ?_
    exact ut_mv104 (o := 3) (by omega) (by omega) (by omega) (ut_mv131 (o := 3) (by omega) (by omega) (by omega) (by omega) (by omega) (by omega) (K k' h1 h2))
  | succ d ih =>
    intro i k' hi h1 h2
    rw [wY_moveValues_78]
    dsimp only
    refine br_f (nI_ge (by omega) (by omega)) ?_
    rw [nI_add, nI_add]
    refine ⟨vp_in_nI (by omega) (by omega), ?_⟩
    rw [nI_clamp (by omega)]
    refine nm_e (nm_r (nI_1 i) (ih (i + 1) _ (by omega) (fun j j1 j2 => ?_) (fun j hj => ?_)))
    · by_cases z : j = ut_sz N + i
      · rw [z, ← Nat.add_assoc, pk_us]
      · rw [pk_un (by omega)]; exact h1 j j1 (by omega)
    · rw [pk_un (by omega)]; exact h2 j (by omega)
theorem ut_mv3 (hw : wl ≤ 8) (hrow : row < 16) (hc : b_count row = nI (ut_sz N)) (hF : ut_FS wl N (fun j => b_kinds (row * 8 + j))) (h8 : ut_sz N + a ≤ 8)
    (K : ∀ k', (∀ j, ut_sz N ≤ j → j < ut_sz N + a → k' (row * 8 + j) = 0) → (∀ j, (j < row * 8 + ut_sz N ∨ row * 8 + (ut_sz N + a) ≤ j) → k' j = b_values j) → post (g_codeLimit, g_functionsLimit, g_depthLimit, g_wordsLimit, g_used, g_open, g_depth, g_reachable, b_cellOp, b_cellA, b_cellB, b_regs, b_kinds, b_count, k', b_function, b_address, b_atCall)) :
    wpY_moveValues post (g_codeLimit, g_functionsLimit, g_depthLimit, g_wordsLimit, g_used, g_open, g_depth, g_reachable, b_cellOp, b_cellA, b_cellB, b_regs, b_kinds, b_count, b_values, b_function, b_address, b_atCall) (nI row) (nI 3) (nI a) b := by
  refine ut_mvh hw hrow hc hF (by omega) (by omega) (by omega) (fun x7 => ?_)
  refine ut_mv47 (by omega) (by omega) ?_
  unfold wY_moveValues_70
  exact br_t (by decide) ⟨a + 1, ut_mv31 hrow h8 K a 0 b_values (by omega) (fun j j1 j2 => by omega) (fun _ _ => rfl)⟩
theorem ut_mv4 (hw : wl ≤ 8) (hrow : row < 16) (hc : b_count row = nI (ut_sz N)) (hF : ut_FS wl N (fun j => b_kinds (row * 8 + j)))
    (K : post (g_codeLimit, g_functionsLimit, g_depthLimit, g_wordsLimit, g_used, g_open, g_depth, g_reachable, b_cellOp, b_cellA, b_cellB, b_regs, b_kinds, b_count, b_values, b_function, b_address, b_atCall)) : wpY_moveValues post (g_codeLimit, g_functionsLimit, g_depthLimit, g_wordsLimit, g_used, g_open, g_depth, g_reachable, b_cellOp, b_cellA, b_cellB, b_regs, b_kinds, b_count, b_values, b_function, b_address, b_atCall) (nI row) (nI 4) (nI a) b := by
  refine ut_mvh hw hrow hc hF (by omega) (by omega) (by omega) (fun x7 => ?_)
  exact ut_mv47 (by omega) (by omega) (ut_mv70 (by omega) (by omega) (ut_mv104 (by omega) (by omega) (by omega) (ut_mv131 (by omega) (by omega) (by omega) (by omega) (by omega) (by omega) K)))
theorem ut_mv58 {c : Nat} (hw : wl ≤ 8) (hrow : row < 16) (hc : b_count row = nI (ut_sz N)) (hF : ut_FS wl N (fun j => b_kinds (row * 8 + j))) (hn : c < 8) (ha : a ≤ 5) (ho : o = 5 ∨ o = 8)
    (K : post (g_codeLimit, g_functionsLimit, g_depthLimit, g_wordsLimit, g_used, g_open, g_depth, g_reachable, b_cellOp, b_cellA, b_cellB, b_regs, b_kinds, b_count, (upd b_values (row * 8 + c) (b_regs a)), b_function, b_address, b_atCall)) : wpY_moveValues post (g_codeLimit, g_functionsLimit, g_depthLimit, g_wordsLimit, g_used, g_open, g_depth, g_reachable, b_cellOp, b_cellA, b_cellB, b_regs, b_kinds, b_count, b_values, b_function, b_address, b_atCall) (nI row) (nI o) (nI a) (nI c) := by
  refine ut_mvh hw hrow hc hF (by omega) (by omega) (by omega) (fun x7 => ?_)
  refine ut_mv47 (by omega) (by omega) (ut_mv70 (by omega) (by omega) ?_)
  unfold wY_moveValues_104
  have G : wY_moveValues_115 post (nI o) (nI a) (nI c) (nI (row * 8)) x7 g_codeLimit g_functionsLimit g_depthLimit g_wordsLimit g_used g_open g_depth g_reachable b_cellOp b_cellA b_cellB b_regs b_kinds b_count b_values b_function b_address b_atCall := by
    unfold wY_moveValues_115
    rw [nI_add]
    refine ⟨vp_in_nI (by omega) (by omega), vp_in_nI (by omega) (by omega), ?_⟩
    rw [nI_clamp (by omega), nI_clamp (by omega)]
    exact nm_e (ut_mv131 (by omega) (by omega) (by omega) (by omega) (by omega) (by omega) K)
  rcases ho with rfl | rfl
  · exact br_t (by decide) G
  · exact br_f (by decide) (br_t (by decide) G)
theorem ut_mv6 (hw : wl ≤ 8) (hrow : row < 16) (hc : b_count row = nI (ut_sz N)) (hF : ut_FS wl N (fun j => b_kinds (row * 8 + j))) (ha : a < 4) (hp : ut_pl N a ≠ 0)
    (K : post (g_codeLimit, g_functionsLimit, g_depthLimit, g_wordsLimit, g_used, g_open, g_depth, g_reachable, b_cellOp, b_cellA, b_cellB, (upd b_regs a (b_values (row * 8 + (ut_pl N a - 1)))), b_kinds, b_count, b_values, b_function, b_address, b_atCall)) : wpY_moveValues post (g_codeLimit, g_functionsLimit, g_depthLimit, g_wordsLimit, g_used, g_open, g_depth, g_reachable, b_cellOp, b_cellA, b_cellB, b_regs, b_kinds, b_count, b_values, b_function, b_address, b_atCall) (nI row) (nI 6) (nI a) b := by
  have h1 := hF.2.2.1 a ha
  have h2 := hF.2.1
  refine nm_r (e' := nI (row * 8)) (pk_mul row 8) ⟨vp_in_nI (by omega) (by omega), ?_⟩
  rw [nI_clamp (by omega), hc]
  refine nm_e (ut_yfdr hw (by omega) hc hF ha (fun e => absurd e hp) (fun _ => ?_))
  refine br_f (by decide) (br_f (by decide) ?_)
  refine ut_mv47 (by omega) (by omega) (ut_mv70 (by omega) (by omega) (ut_mv104 (by omega) (by omega) (by omega) ?_))
  unfold wY_moveValues_131
  refine br_t (by decide) (br_f (nI_pos (by omega)) ?_)
  rw [nI_add]
  refine ⟨vp_in_nI (by omega) (by omega), vp_in_nI (by omega) (by omega), ?_⟩
  rw [nI_clamp (by omega), nI_clamp (by omega)]
  exact nm_e (ut_mv158 (by omega) (by omega) (by omega) (by omega) (by omega) K)
theorem ut_mv7 {c : Nat} (hw : wl ≤ 8) (hrow : row < 16) (hc : b_count row = nI (ut_sz N)) (hF : ut_FS wl N (fun j => b_kinds (row * 8 + j))) (hn : c < 8) (ha : a ≤ 5)
    (K : post (g_codeLimit, g_functionsLimit, g_depthLimit, g_wordsLimit, g_used, g_open, g_depth, g_reachable, b_cellOp, b_cellA, b_cellB, (upd b_regs a (b_values (row * 8 + c))), b_kinds, b_count, b_values, b_function, b_address, b_atCall)) : wpY_moveValues post (g_codeLimit, g_functionsLimit, g_depthLimit, g_wordsLimit, g_used, g_open, g_depth, g_reachable, b_cellOp, b_cellA, b_cellB, b_regs, b_kinds, b_count, b_values, b_function, b_address, b_atCall) (nI row) (nI 7) (nI a) (nI c) := by
  refine ut_mvh hw hrow hc hF (by omega) (by omega) (by omega) (fun x7 => ?_)
  refine ut_mv47 (by omega) (by omega) (ut_mv70 (by omega) (by omega) (ut_mv104 (by omega) (by omega) (by omega) ?_))
  unfold wY_moveValues_131
  refine br_f (by decide) ?_
  unfold wY_moveValues_158
  rw [nI_add]
  refine br_t (by decide) ⟨vp_in_nI (by omega) (by omega), vp_in_nI (by omega) (by omega), ?_⟩
  rw [nI_clamp (by omega), nI_clamp (by omega)]
  exact nm_e (ut_mv180 (by omega) (by omega) (by omega) (by omega) K)
theorem ut_mv9 (hw : wl ≤ 8) (hrow : row < 16) (hc : b_count row = nI (ut_sz N)) (hF : ut_FS wl N (fun j => b_kinds (row * 8 + j))) (ha : a ≤ 5)
    (K : post (g_codeLimit, g_functionsLimit, g_depthLimit, g_wordsLimit, g_used, g_open, g_depth, g_reachable, b_cellOp, b_cellA, b_cellB, (upd b_regs a b), b_kinds, b_count, b_values, b_function, b_address, b_atCall)) : wpY_moveValues post (g_codeLimit, g_functionsLimit, g_depthLimit, g_wordsLimit, g_used, g_open, g_depth, g_reachable, b_cellOp, b_cellA, b_cellB, b_regs, b_kinds, b_count, b_values, b_function, b_address, b_atCall) (nI row) (nI 9) (nI a) b := by
  refine ut_mvh hw hrow hc hF (by omega) (by omega) (by omega) (fun x7 => ?_)
  refine ut_mv47 (by omega) (by omega) (ut_mv70 (by omega) (by omega) (ut_mv104 (by omega) (by omega) (by omega) ?_))
  unfold wY_moveValues_131
  refine br_f (by decide) ?_
  unfold wY_moveValues_158
  refine br_f (by decide) ?_
  unfold wY_moveValues_180
  refine br_t (by decide) ⟨vp_in_nI (by omega) (by omega), ?_⟩
  rw [nI_clamp (by omega)]
  exact nm_e (ut_mv194 (by omega) (by omega) (by omega) K)
theorem ut_mv10 (hw : wl ≤ 8) (hrow : row < 16) (hc : b_count row = nI (ut_sz N)) (hF : ut_FS wl N (fun j => b_kinds (row * 8 + j))) (ha : a ≤ 5)
    (K : post (g_codeLimit, g_functionsLimit, g_depthLimit, g_wordsLimit, g_used, g_open, g_depth, g_reachable, b_cellOp, b_cellA, b_cellB, (upd b_regs a (b_regs a + b)), b_kinds, b_count, b_values, b_function, b_address, b_atCall)) : wpY_moveValues post (g_codeLimit, g_functionsLimit, g_depthLimit, g_wordsLimit, g_used, g_open, g_depth, g_reachable, b_cellOp, b_cellA, b_cellB, b_regs, b_kinds, b_count, b_values, b_function, b_address, b_atCall) (nI row) (nI 10) (nI a) b := by
  refine ut_mvh hw hrow hc hF (by omega) (by omega) (by omega) (fun x7 => ?_)
  refine ut_mv47 (by omega) (by omega) (ut_mv70 (by omega) (by omega) (ut_mv104 (by omega) (by omega) (by omega) ?_))
  unfold wY_moveValues_131
  refine br_f (by decide) ?_
  unfold wY_moveValues_158
  refine br_f (by decide) ?_
  unfold wY_moveValues_180
  refine br_f (by decide) ?_
  unfold wY_moveValues_194
  refine br_t (by decide) ⟨vp_in_nI (by omega) (by omega), vp_in_nI (by omega) (by omega), ?_⟩
  rw [nI_clamp (by omega)]
  exact nm_e (ut_mv215 (by omega) (by omega) K)
theorem ut_mv11 {c : Nat} (hw : wl ≤ 8) (hrow : row < 16) (hc : b_count row = nI (ut_sz N)) (hF : ut_FS wl N (fun j => b_kinds (row * 8 + j))) (ha : a ≤ 5) (hcc : c ≤ 5)
    (K : post (g_codeLimit, g_functionsLimit, g_depthLimit, g_wordsLimit, g_used, g_open, g_depth, g_reachable, b_cellOp, b_cellA, b_cellB, (upd b_regs a (b_regs a + b_regs c)), b_kinds, b_count, b_values, b_function, b_address, b_atCall)) : wpY_moveValues post (g_codeLimit, g_functionsLimit, g_depthLimit, g_wordsLimit, g_used, g_open, g_depth, g_reachable, b_cellOp, b_cellA, b_cellB, b_regs, b_kinds, b_count, b_values, b_function, b_address, b_atCall) (nI row) (nI 11) (nI a) (nI c) := by
  refine ut_mvh hw hrow hc hF (by omega) (by omega) (by omega) (fun x7 => ?_)
  refine ut_mv47 (by omega) (by omega) (ut_mv70 (by omega) (by omega) (ut_mv104 (by omega) (by omega) (by omega) ?_))
  unfold wY_moveValues_131
  refine br_f (by decide) ?_
  unfold wY_moveValues_158
  refine br_f (by decide) ?_
  unfold wY_moveValues_180
  refine br_f (by decide) ?_
  unfold wY_moveValues_194
  refine br_f (by decide) ?_
  unfold wY_moveValues_215
  refine br_t (by decide) ⟨vp_in_nI (by omega) (by omega), vp_in_nI (by omega) (by omega), vp_in_nI (by omega) (by omega), ?_⟩
  rw [nI_clamp (by omega), nI_clamp (by omega)]
  exact nm_e K
end UT14
end
section
/-! the relation -/
section UT15
def ut_lim (cl fl dl wl U D : Nat) : Prop := 16 ≤ cl ∧ cl ≤ 64 ∧ 1 ≤ fl ∧ fl ≤ 8 ∧ 2 ≤ dl ∧ dl ≤ 16 ∧ 1 ≤ wl ∧ wl ≤ 8 ∧ U ≤ cl ∧ D ≤ dl
def ut_xo (oC oS : Nat → Int32) (S OC : Nat → Nat) (oc : Nat) : Prop := ∀ k, k < oc → oC k = nI (OC k) ∧ oS k = nI (S (OC k))
def ut_bl (wl : Nat) (kinds cnt : Nat → Int32) (S OC : Nat → Nat) (U oc : Nat) : Prop :=
  (cnt 16 = nI (ut_sz (S U)) ∧ ut_FS wl (S U) (fun j => kinds (16 * 8 + j))) ∧
  ∀ k, k < oc → cnt (17 + k) = nI (ut_sz (S (OC k))) ∧ ut_FS wl (S (OC k)) (fun j => kinds ((17 + k) * 8 + j))
def ut_dy (wl : Nat) (A R St kinds cnt vals fnA adA atc : Nat → Int32) (sp pc : Int32) (S CS bs ad fn : Nat → Nat) (fc D : Nat) : Prop :=
  ut_bss S bs ad D ∧ (∀ i, i < D → ut_frm wl A S CS fc R St kinds cnt vals fnA adA atc bs ad fn D i) ∧
  (0 < D → sp = nI (bs (D - 1) + ut_sz (S (ad (D - 1)))) ∧ pc = nI (ad (D - 1)))
def ut_Rel (A F B L cSt tSt tab oC oS R St kinds cnt vals fnA adA atc : Nat → Int32) (sp pc rb : Int32) (T S OC CS TS bs ad fn : Nat → Nat) (cl fl dl wl U fc oc t ra D : Nat) : Prop :=
  ut_lim cl fl dl wl U D ∧ ut_code fl wl A F B L S OC CS U fc oc rb ∧ ut_xt cSt tSt tab T CS TS fc t ∧ ut_tab T S OC CS TS U fc oc t ra ∧
  ut_xo oC oS S OC oc ∧ ut_bl wl kinds cnt S OC U oc ∧ ut_dy wl A R St kinds cnt vals fnA adA atc sp pc S CS bs ad fn fc D
def ut_RR (u : SX) (v : SY) : Prop :=
  ∀ P : SX → SY → Prop,
    (∀ {f_SAVE f_PUSH f_POP f_ALLOC f_FREE f_KEEP f_BACK f_LOAD f_STORE f_SET f_ADDI f_ADD f_CALL f_RET f_IF f_WHILE f_END f_ADVANCE f_OFFSET f_REGISTER f_RESTORE f_REMEMBER f_RECALL f_sp f_pc f_walkPc f_walkSp f_walkBase f_walkState : Int32} {a_ops a_firsts a_seconds a_link a_codeStart a_tableStart a_table a_openCell a_openState a_regs a_stack a_memory a_seen : Nat → Int32} {b_kinds b_count b_values b_function b_address b_atCall : Nat → Int32} {T S OC CS TS bs ad fn : Nat → Nat} {cl fl dl wl U fc oc t ra D : Nat} {rb : Int32},
      ut_Rel a_ops a_firsts a_seconds a_link a_codeStart a_tableStart a_table a_openCell a_openState a_regs a_stack b_kinds b_count b_values b_function b_address b_atCall f_sp f_pc rb T S OC CS TS bs ad fn cl fl dl wl U fc oc t ra D →
      P (f_SAVE, f_PUSH, f_POP, f_ALLOC, f_FREE, f_KEEP, f_BACK, f_LOAD, f_STORE, f_SET, f_ADDI, f_ADD, f_CALL, f_RET, f_IF, f_WHILE, f_END, f_ADVANCE, f_OFFSET, f_REGISTER, f_RESTORE, f_REMEMBER, f_RECALL, (nI cl), (nI fl), (nI dl), (nI wl), (nI U), (nI fc), (nI t), (nI ra), (nI (S U)), rb, (nI oc), f_sp, f_pc, (nI D), f_walkPc, f_walkSp, f_walkBase, f_walkState, a_ops, a_firsts, a_seconds, a_link, a_codeStart, a_tableStart, a_table, a_openCell, a_openState, a_regs, a_stack, a_memory, a_seen) ((nI cl), (nI fl), (nI dl), (nI wl), (nI U), (nI oc), (nI D), rb, a_ops, a_firsts, a_seconds, a_regs, b_kinds, b_count, b_values, b_function, b_address, b_atCall)) → P u v
variable {f_SAVE f_PUSH f_POP f_ALLOC f_FREE f_KEEP f_BACK f_LOAD f_STORE f_SET f_ADDI f_ADD f_CALL f_RET f_IF f_WHILE f_END f_ADVANCE f_OFFSET f_REGISTER f_RESTORE f_REMEMBER f_RECALL f_codeLimit f_functionLimit f_depthLimit f_wordLimit f_used f_functionCount f_tableUsed f_ruleAddress f_now f_reachable f_openCount f_sp f_pc f_active f_walkPc f_walkSp f_walkBase f_walkState : Int32} {a_ops a_firsts a_seconds a_link a_codeStart a_tableStart a_table a_openCell a_openState a_regs a_stack a_memory a_seen : Nat → Int32}
variable {g_codeLimit g_functionsLimit g_depthLimit g_wordsLimit g_used g_open g_depth g_reachable : Int32} {b_cellOp b_cellA b_cellB b_regs b_kinds b_count b_values b_function b_address b_atCall : Nat → Int32}
variable {T S OC CS TS bs ad fn : Nat → Nat} {cl fl dl wl U fc oc t ra D : Nat} {rb : Int32}
theorem ut_RRi (H : ut_Rel a_ops a_firsts a_seconds a_link a_codeStart a_tableStart a_table a_openCell a_openState a_regs a_stack b_kinds b_count b_values b_function b_address b_atCall f_sp f_pc rb T S OC CS TS bs ad fn cl fl dl wl U fc oc t ra D) :
    ut_RR (f_SAVE, f_PUSH, f_POP, f_ALLOC, f_FREE, f_KEEP, f_BACK, f_LOAD, f_STORE, f_SET, f_ADDI, f_ADD, f_CALL, f_RET, f_IF, f_WHILE, f_END, f_ADVANCE, f_OFFSET, f_REGISTER, f_RESTORE, f_REMEMBER, f_RECALL, (nI cl), (nI fl), (nI dl), (nI wl), (nI U), (nI fc), (nI t), (nI ra), (nI (S U)), rb, (nI oc), f_sp, f_pc, (nI D), f_walkPc, f_walkSp, f_walkBase, f_walkState, a_ops, a_firsts, a_seconds, a_link, a_codeStart, a_tableStart, a_table, a_openCell, a_openState, a_regs, a_stack, a_memory, a_seen) ((nI cl), (nI fl), (nI dl), (nI wl), (nI U), (nI oc), (nI D), rb, a_ops, a_firsts, a_seconds, a_regs, b_kinds, b_count, b_values, b_function, b_address, b_atCall) := fun _ h => h H
theorem ut_Rel_W (H : ut_Rel a_ops a_firsts a_seconds a_link a_codeStart a_tableStart a_table a_openCell a_openState a_regs a_stack b_kinds b_count b_values b_function b_address b_atCall f_sp f_pc rb T S OC CS TS bs ad fn cl fl dl wl U fc oc t ra D) :
    ut_W a_codeStart a_tableStart a_table a_regs a_stack a_ops b_kinds b_count b_values b_function b_address b_atCall T S OC CS TS bs ad fn wl U fc oc t ra D := by
  obtain ⟨h1, h2, h3, h4, h5, h6, h7⟩ := H
  unfold ut_lim at h1
  have h8 := h2.1.2.1
  exact ⟨h3, h2.2.1, h4, ⟨by omega, by omega, by omega, by omega⟩, h7.1, h7.2.1⟩
end UT15
def i_Rel (_ : Nat) (u : SX) (v : SY) : Prop := ut_RR u v
theorem i_up {k : Nat} {u : SX} {v : SY} (h : i_Rel k u v) : i_Rel (k + 4) u v := h
end
section
/-! the operands -/
section UT16
def ut_lo (o : Nat) : Nat := if o = 3 ∨ o = 4 then 1 else 0
def ut_hi (fl o : Nat) : Nat := if o = 0 ∨ o = 5 ∨ o = 6 then 3 else if o = 3 ∨ o = 4 then 8 else if o = 12 then fl - 1 else 5
def ut_in (x : Int32) (l h : Nat) : Prop := ∃ a, x = nI a ∧ l ≤ a ∧ a ≤ h
def ut_ops (fl o : Nat) (a b : Int32) : Prop :=
  (o ≠ 13 → o ≠ 16 → ut_in a (ut_lo o) (ut_hi fl o)) ∧ ((o = 5 ∨ o = 7 ∨ o = 8) → ut_in b 0 7) ∧ (o = 11 → ut_in b 0 5)
theorem ut_in_br {x : Int32} {l h : Nat} {A B : Prop} (hl : l < 1000) (hh : h < 1000) (f : ut_in x l h → A) (g : ¬ ut_in x l h → B) : (x < nI l → B) ∧ (¬ x < nI l → ((x ≤ nI h → A) ∧ (¬ x ≤ nI h → B))) := by
  refine ⟨fun z => g ?_, fun z => ⟨fun y => f ?_, fun y => g ?_⟩⟩
  · rintro ⟨a, rfl, h1, h2⟩
    exact nI_nlt h1 (by omega) z
  · have z0 : ¬ x < 0 := by
      intro h0
      rw [Int32.lt_iff_toInt_lt] at z h0
      rw [nI_toInt (by omega)] at z
      rw [show (0 : Int32).toInt = 0 from by decide] at h0
      omega
    obtain ⟨j, hj, rfl⟩ := nI_of z0
    rw [nI_leI hj (by omega)] at y
    rw [nI_ltI hj (by omega)] at z
    exact ⟨j, rfl, by omega, y⟩
  · rintro ⟨a, rfl, h1, h2⟩
    exact y (nI_le h2 (by omega))
theorem ut_in_br2 {x : Int32} {h : Nat} {A B : Prop} (hh : h < 1000) (f : ut_in x 0 h → A) (g : ¬ ut_in x 0 h → B) : (x < 0 → B) ∧ (¬ x < 0 → ((nI h < x → B) ∧ (¬ nI h < x → A))) := by
  have := ut_in_br (l := 0) (by omega) hh f g
  refine ⟨this.1, fun z => ⟨fun y => (this.2 z).2 (Int32.not_le.mpr y), fun y => (this.2 z).1 (Int32.not_lt.mp y)⟩⟩
theorem ut_c17 {P : Nat → Prop} (h0 : P 0) (h1 : P 1) (h2 : P 2) (h3 : P 3) (h4 : P 4) (h5 : P 5) (h6 : P 6) (h7 : P 7) (h8 : P 8) (h9 : P 9) (h10 : P 10) (h11 : P 11) (h12 : P 12) (h13 : P 13) (h14 : P 14) (h15 : P 15) (h16 : P 16) {r : Nat} (h : r ≤ 16) : P r := by
  match r, h with
  | 0, _ => exact h0
  | 1, _ => exact h1
  | 2, _ => exact h2
  | 3, _ => exact h3
  | 4, _ => exact h4
  | 5, _ => exact h5
  | 6, _ => exact h6
  | 7, _ => exact h7
  | 8, _ => exact h8
  | 9, _ => exact h9
  | 10, _ => exact h10
  | 11, _ => exact h11
  | 12, _ => exact h12
  | 13, _ => exact h13
  | 14, _ => exact h14
  | 15, _ => exact h15
  | 16, _ => exact h16
  | n + 17, h => exact absurd h (by omega)
section X
variable {f_SAVE f_PUSH f_POP f_ALLOC f_FREE f_KEEP f_BACK f_LOAD f_STORE f_SET f_ADDI f_ADD f_CALL f_RET f_IF f_WHILE f_END f_ADVANCE f_OFFSET f_REGISTER f_RESTORE f_REMEMBER f_RECALL f_codeLimit f_functionLimit f_depthLimit f_wordLimit f_used f_functionCount f_tableUsed f_ruleAddress f_now f_reachable f_openCount f_sp f_pc f_active f_walkPc f_walkSp f_walkBase f_walkState : Int32} {a_ops a_firsts a_seconds a_link a_codeStart a_tableStart a_table a_openCell a_openState a_regs a_stack a_memory a_seen : Nat → Int32}
variable {post : Int32 → Prop} {fl o : Nat} {a b : Int32}
theorem ut_xnf (ho : o ≤ 16) (p0 : (o = 13 ∨ o = 16) → post 0) (p1 : o ≠ 13 → o ≠ 16 → post 1) : wpX_namesFirst post (f_SAVE, f_PUSH, f_POP, f_ALLOC, f_FREE, f_KEEP, f_BACK, f_LOAD, f_STORE, f_SET, f_ADDI, f_ADD, f_CALL, f_RET, f_IF, f_WHILE, f_END, f_ADVANCE, f_OFFSET, f_REGISTER, f_RESTORE, f_REMEMBER, f_RECALL, f_codeLimit, f_functionLimit, f_depthLimit, f_wordLimit, f_used, f_functionCount, f_tableUsed, f_ruleAddress, f_now, f_reachable, f_openCount, f_sp, f_pc, f_active, f_walkPc, f_walkSp, f_walkBase, f_walkState, a_ops, a_firsts, a_seconds, a_link, a_codeStart, a_tableStart, a_table, a_openCell, a_openState, a_regs, a_stack, a_memory, a_seen) (nI o) := by
  refine pk_eq o 13 (fun e => p0 (Or.inl e)) (fun e => pk_eq o 16 (fun e2 => p0 (Or.inr e2)) (fun e2 => p1 e e2))
theorem ut_xgf (hfl : 1 ≤ fl) (ho : o ≤ 16) (h13 : o ≠ 13) (h16 : o ≠ 16) (p : post (nI (ut_hi fl o))) : wpX_greatestFirst post (f_SAVE, f_PUSH, f_POP, f_ALLOC, f_FREE, f_KEEP, f_BACK, f_LOAD, f_STORE, f_SET, f_ADDI, f_ADD, f_CALL, f_RET, f_IF, f_WHILE, f_END, f_ADVANCE, f_OFFSET, f_REGISTER, f_RESTORE, f_REMEMBER, f_RECALL, f_codeLimit, (nI fl), f_depthLimit, f_wordLimit, f_used, f_functionCount, f_tableUsed, f_ruleAddress, f_now, f_reachable, f_openCount, f_sp, f_pc, f_active, f_walkPc, f_walkSp, f_walkBase, f_walkState, a_ops, a_firsts, a_seconds, a_link, a_codeStart, a_tableStart, a_table, a_openCell, a_openState, a_regs, a_stack, a_memory, a_seen) (nI o) := by
  revert h13 h16 p
  refine ut_c17 (P := fun o => o ≠ 13 → o ≠ 16 → post (nI (ut_hi fl o)) → wpX_greatestFirst post (f_SAVE, f_PUSH, f_POP, f_ALLOC, f_FREE, f_KEEP, f_BACK, f_LOAD, f_STORE, f_SET, f_ADDI, f_ADD, f_CALL, f_RET, f_IF, f_WHILE, f_END, f_ADVANCE, f_OFFSET, f_REGISTER, f_RESTORE, f_REMEMBER, f_RECALL, f_codeLimit, (nI fl), f_depthLimit, f_wordLimit, f_used, f_functionCount, f_tableUsed, f_ruleAddress, f_now, f_reachable, f_openCount, f_sp, f_pc, f_active, f_walkPc, f_walkSp, f_walkBase, f_walkState, a_ops, a_firsts, a_seconds, a_link, a_codeStart, a_tableStart, a_table, a_openCell, a_openState, a_regs, a_stack, a_memory, a_seen) (nI o)) ?_ ?_ ?_ ?_ ?_ ?_ ?_ ?_ ?_ ?_ ?_ ?_ ?_ ?_ ?_ ?_ ?_ ho
  all_goals
    intro h13 h16 p
    have e12 := ut_s1 (n := fl) (by omega)
    first
    | exact absurd rfl h13
    | exact absurd rfl h16
    | unfold wpX_greatestFirst
      dsimp only
      repeat' first
        | exact p
        | (rw [e12]; exact p)
        | refine br_t (by decide) ?_
        | refine br_f (by decide) ?_
theorem ut_xof42 (ho : o ≤ 16) (h1 : ((o = 5 ∨ o = 7 ∨ o = 8) → ut_in b 0 7) → (o = 11 → ut_in b 0 5) → post 1) (h0 : ¬ (((o = 5 ∨ o = 7 ∨ o = 8) → ut_in b 0 7) ∧ (o = 11 → ut_in b 0 5)) → post 0) :
    wX_operandsFit_42 post (nI o) b f_SAVE f_PUSH f_POP f_ALLOC f_FREE f_KEEP f_BACK f_LOAD f_STORE f_SET f_ADDI f_ADD f_CALL f_RET f_IF f_WHILE f_END f_ADVANCE f_OFFSET f_REGISTER f_RESTORE f_REMEMBER f_RECALL f_codeLimit f_functionLimit f_depthLimit f_wordLimit f_used f_functionCount f_tableUsed f_ruleAddress f_now f_reachable f_openCount f_sp f_pc f_active f_walkPc f_walkSp f_walkBase f_walkState a_ops a_firsts a_seconds a_link a_codeStart a_tableStart a_table a_openCell a_openState a_regs a_stack a_memory a_seen := by
  have G : (o = 5 ∨ o = 7 ∨ o = 8) → wX_operandsFit_59 post b f_SAVE f_PUSH f_POP f_ALLOC f_FREE f_KEEP f_BACK f_LOAD f_STORE f_SET f_ADDI f_ADD f_CALL f_RET f_IF f_WHILE f_END f_ADVANCE f_OFFSET f_REGISTER f_RESTORE f_REMEMBER f_RECALL f_codeLimit f_functionLimit f_depthLimit f_wordLimit f_used f_functionCount f_tableUsed f_ruleAddress f_now f_reachable f_openCount f_sp f_pc f_active f_walkPc f_walkSp f_walkBase f_walkState a_ops a_firsts a_seconds a_link a_codeStart a_tableStart a_table a_openCell a_openState a_regs a_stack a_memory a_seen := fun e =>
    ut_in_br2 (h := 7) (by omega) (fun k => h1 (fun _ => k) (fun x => by omega)) (fun k => h0 (fun x => k (x.1 e)))
  refine pk_eq o 5 (fun e => G (by omega)) (fun e5 => pk_eq o 7 (fun e => G (by omega)) (fun e7 => pk_eq o 8 (fun e => G (by omega)) (fun e8 => pk_eq o 11 (fun e => ?_) (fun e11 => ?_))))
  · exact ut_in_br2 (h := 5) (by omega) (fun k => h1 (fun x => by omega) (fun _ => k)) (fun k => h0 (fun x => k (x.2 e)))
  · exact h1 (fun x => by omega) (fun x => absurd x e11)
theorem ut_xof15 (hfl : 1 ≤ fl ∧ fl ≤ 8) (ho : o ≤ 16) (h1 : ut_ops fl o a b → post 1) (h0 : ¬ ut_ops fl o a b → post 0) : wX_operandsFit_15 post (nI o) a b (nI (ut_lo o)) f_SAVE f_PUSH f_POP f_ALLOC f_FREE f_KEEP f_BACK f_LOAD f_STORE f_SET f_ADDI f_ADD f_CALL f_RET f_IF f_WHILE f_END f_ADVANCE f_OFFSET f_REGISTER f_RESTORE f_REMEMBER f_RECALL f_codeLimit (nI fl) f_depthLimit f_wordLimit f_used f_functionCount f_tableUsed f_ruleAddress f_now f_reachable f_openCount f_sp f_pc f_active f_walkPc f_walkSp f_walkBase f_walkState a_ops a_firsts a_seconds a_link a_codeStart a_tableStart a_table a_openCell a_openState a_regs a_stack a_memory a_seen := by
  have hhi : ut_hi fl o < 1000 := by
    unfold ut_hi
    repeat' split
    all_goals omega
  have hlo : ut_lo o < 1000 := by
    unfold ut_lo
    split <;> omega
  refine ut_xnf ho (fun e => ?_) (fun e e' => ?_)
  · refine br_t rfl (ut_xof42 ho (fun k1 k2 => h1 ⟨fun x y => by omega, k1, k2⟩) (fun k => h0 (fun x => k x.2)))
  · refine br_f (by decide) ?_
    have br := ut_in_br (x := a) (A := wX_operandsFit_42 post (nI o) b f_SAVE f_PUSH f_POP f_ALLOC f_FREE f_KEEP f_BACK f_LOAD f_STORE f_SET f_ADDI f_ADD f_CALL f_RET f_IF f_WHILE f_END f_ADVANCE f_OFFSET f_REGISTER f_RESTORE f_REMEMBER f_RECALL f_codeLimit (nI fl) f_depthLimit f_wordLimit f_used f_functionCount f_tableUsed f_ruleAddress f_now f_reachable f_openCount f_sp f_pc f_active f_walkPc f_walkSp f_walkBase f_walkState a_ops a_firsts a_seconds a_link a_codeStart a_tableStart a_table a_openCell a_openState a_regs a_stack a_memory a_seen) (B := post 0) hlo hhi
      (fun k => ut_xof42 ho (fun k1 k2 => h1 ⟨fun _ _ => k, k1, k2⟩) (fun k => h0 (fun x => k x.2))) (fun k => h0 (fun x => k (x.1 e e')))
    exact ⟨br.1, fun z => ut_xgf hfl.1 ho e e' (br.2 z)⟩
theorem ut_xof (hfl : 1 ≤ fl ∧ fl ≤ 8) (ho : o ≤ 16) (h1 : ut_ops fl o a b → post 1) (h0 : ¬ ut_ops fl o a b → post 0) : wpX_operandsFit post (f_SAVE, f_PUSH, f_POP, f_ALLOC, f_FREE, f_KEEP, f_BACK, f_LOAD, f_STORE, f_SET, f_ADDI, f_ADD, f_CALL, f_RET, f_IF, f_WHILE, f_END, f_ADVANCE, f_OFFSET, f_REGISTER, f_RESTORE, f_REMEMBER, f_RECALL, f_codeLimit, (nI fl), f_depthLimit, f_wordLimit, f_used, f_functionCount, f_tableUsed, f_ruleAddress, f_now, f_reachable, f_openCount, f_sp, f_pc, f_active, f_walkPc, f_walkSp, f_walkBase, f_walkState, a_ops, a_firsts, a_seconds, a_link, a_codeStart, a_tableStart, a_table, a_openCell, a_openState, a_regs, a_stack, a_memory, a_seen) (nI o) a b := by
  have G := ut_xof15 (post := post) (f_SAVE := f_SAVE) (f_PUSH := f_PUSH) (f_POP := f_POP) (f_ALLOC := f_ALLOC) (f_FREE := f_FREE) (f_KEEP := f_KEEP) (f_BACK := f_BACK) (f_LOAD := f_LOAD) (f_STORE := f_STORE) (f_SET := f_SET) (f_ADDI := f_ADDI) (f_ADD := f_ADD) (f_CALL := f_CALL) (f_RET := f_RET) (f_IF := f_IF) (f_WHILE := f_WHILE) (f_END := f_END) (f_ADVANCE := f_ADVANCE) (f_OFFSET := f_OFFSET) (f_REGISTER := f_REGISTER) (f_RESTORE := f_RESTORE) (f_REMEMBER := f_REMEMBER) (f_RECALL := f_RECALL) (f_codeLimit := f_codeLimit) (f_depthLimit := f_depthLimit) (f_wordLimit := f_wordLimit) (f_used := f_used) (f_functionCount := f_functionCount) (f_tableUsed := f_tableUsed) (f_ruleAddress := f_ruleAddress) (f_now := f_now) (f_reachable := f_reachable) (f_openCount := f_openCount) (f_sp := f_sp) (f_pc := f_pc) (f_active := f_active) (f_walkPc := f_walkPc) (f_walkSp := f_walkSp) (f_walkBase := f_walkBase) (f_walkState := f_walkState) (a_ops := a_ops) (a_firsts := a_firsts) (a_seconds := a_seconds) (a_link := a_link) (a_codeStart := a_codeStart) (a_tableStart := a_tableStart) (a_table := a_table) (a_openCell := a_openCell) (a_openState := a_openState) (a_regs := a_regs) (a_stack := a_stack) (a_memory := a_memory) (a_seen := a_seen) hfl ho h1 h0
  refine pk_eq o 3 (fun e => ?_) (fun e3 => pk_eq o 4 (fun e => ?_) (fun e4 => ?_))
  · rw [show ut_lo o = 1 from if_pos (Or.inl e)] at G; exact G
  · rw [show ut_lo o = 1 from if_pos (Or.inr e)] at G; exact G
  · rw [show ut_lo o = 0 from if_neg (by omega)] at G; exact G
end X
section Y
variable {g_codeLimit g_functionsLimit g_depthLimit g_wordsLimit g_used g_open g_depth g_reachable : Int32} {b_cellOp b_cellA b_cellB b_regs b_kinds b_count b_values b_function b_address b_atCall : Nat → Int32}
variable {post : Int32 → Prop} {fl o : Nat} {a b : Int32}
theorem ut_yoo121 (ho : o ≤ 16) (h1 : (o = 11 → ut_in b 0 5) → post 1) (h0 : ¬ (o = 11 → ut_in b 0 5) → post 0) : wY_operandsOk_121 post (nI o) b g_codeLimit g_functionsLimit g_depthLimit g_wordsLimit g_used g_open g_depth g_reachable b_cellOp b_cellA b_cellB b_regs b_kinds b_count b_values b_function b_address b_atCall :=
  pk_eq o 11 (fun e => ut_in_br2 (h := 5) (by omega) (fun k => h1 (fun _ => k)) (fun k => h0 (fun x => k (x e)))) (fun e => h1 (fun x => absurd x e))
theorem ut_yoo92 (ho : o ≤ 16) (h1 : ((o = 5 ∨ o = 7 ∨ o = 8) → ut_in b 0 7) → (o = 11 → ut_in b 0 5) → post 1) (h0 : ¬ (((o = 5 ∨ o = 7 ∨ o = 8) → ut_in b 0 7) ∧ (o = 11 → ut_in b 0 5)) → post 0) :
    wY_operandsOk_92 post (nI o) b g_codeLimit g_functionsLimit g_depthLimit g_wordsLimit g_used g_open g_depth g_reachable b_cellOp b_cellA b_cellB b_regs b_kinds b_count b_values b_function b_address b_atCall := by
  have G : (o = 5 ∨ o = 7 ∨ o = 8) → wY_operandsOk_109 post (nI o) b g_codeLimit g_functionsLimit g_depthLimit g_wordsLimit g_used g_open g_depth g_reachable b_cellOp b_cellA b_cellB b_regs b_kinds b_count b_values b_function b_address b_atCall := fun e =>
    ut_in_br (l := 0) (h := 7) (by omega) (by omega) (fun k => ut_yoo121 ho (fun k2 => h1 (fun _ => k) k2) (fun k2 => h0 (fun x => k2 x.2))) (fun k => h0 (fun x => k (x.1 e)))
  refine pk_eq o 5 (fun e => G (by omega)) (fun e5 => pk_eq o 7 (fun e => G (by omega)) (fun e7 => pk_eq o 8 (fun e => G (by omega)) (fun e8 => ?_)))
  exact ut_yoo121 ho (fun k2 => h1 (fun x => by omega) k2) (fun k2 => h0 (fun x => k2 x.2))
theorem ut_yoo66 (hfl : 1 ≤ fl ∧ fl ≤ 8) (ho : o ≤ 16) (h1 : ut_ops fl o a b → post 1) (h0 : ¬ ut_ops fl o a b → post 0) : wY_operandsOk_66 post (nI o) a b (nI (ut_lo o)) (nI (ut_hi fl o)) g_codeLimit g_functionsLimit g_depthLimit g_wordsLimit g_used g_open g_depth g_reachable b_cellOp b_cellA b_cellB b_regs b_kinds b_count b_values b_function b_address b_atCall := by
  have hhi : ut_hi fl o < 1000 := by
    unfold ut_hi
    repeat' split
    all_goals omega
  have hlo : ut_lo o < 1000 := by
    unfold ut_lo
    split <;> omega
  refine pk_eq o 13 (fun e => ?_) (fun e => pk_eq o 16 (fun e' => ?_) (fun e' => ?_))
  · exact ut_yoo92 ho (fun k1 k2 => h1 ⟨fun x y => by omega, k1, k2⟩) (fun k => h0 (fun x => k x.2))
  · exact ut_yoo92 ho (fun k1 k2 => h1 ⟨fun x y => by omega, k1, k2⟩) (fun k => h0 (fun x => k x.2))
  · exact ut_in_br hlo hhi (fun k => ut_yoo92 ho (fun k1 k2 => h1 ⟨fun _ _ => k, k1, k2⟩) (fun k => h0 (fun x => k x.2))) (fun k => h0 (fun x => k (x.1 e e')))
theorem ut_yop (hfl : 1 ≤ fl ∧ fl ≤ 8) (ho : o ≤ 16) (h1 : ut_ops fl o a b → post 1) (h0 : ¬ ut_ops fl o a b → post 0) : wpY_operandsOk post (g_codeLimit, (nI fl), g_depthLimit, g_wordsLimit, g_used, g_open, g_depth, g_reachable, b_cellOp, b_cellA, b_cellB, b_regs, b_kinds, b_count, b_values, b_function, b_address, b_atCall) (nI o) a b := by
  have G : wY_operandsOk_66 post (nI o) a b (nI (ut_lo o)) (nI (ut_hi fl o)) g_codeLimit (nI fl) g_depthLimit g_wordsLimit g_used g_open g_depth g_reachable b_cellOp b_cellA b_cellB b_regs b_kinds b_count b_values b_function b_address b_atCall := ut_yoo66 hfl ho h1 h0
  revert G
  refine ut_c17 (P := fun o => wY_operandsOk_66 post (nI o) a b (nI (ut_lo o)) (nI (ut_hi fl o)) g_codeLimit (nI fl) g_depthLimit g_wordsLimit g_used g_open g_depth g_reachable b_cellOp b_cellA b_cellB b_regs b_kinds b_count b_values b_function b_address b_atCall → wpY_operandsOk post (g_codeLimit, (nI fl), g_depthLimit, g_wordsLimit, g_used, g_open, g_depth, g_reachable, b_cellOp, b_cellA, b_cellB, b_regs, b_kinds, b_count, b_values, b_function, b_address, b_atCall) (nI o) a b) ?_ ?_ ?_ ?_ ?_ ?_ ?_ ?_ ?_ ?_ ?_ ?_ ?_ ?_ ?_ ?_ ?_ ho
  all_goals
    intro G
    unfold wpY_operandsOk
    dsimp only
    have e12 := ut_s1 (n := fl) (by omega)
    repeat' first
      | exact G
      | exact nm_r e12 G
      | refine br_t (by decide) ?_
      | refine br_f (by decide) ?_
end Y
end UT16
end
section
/-! X's refusals -/
section UT17
section F
variable {fl wl a N : Nat} {b : Int32}
theorem ut_fit_0 : ut_fit fl wl 0 a b N ↔ (a ≤ 3 ∧ ut_pl N a = 0 ∧ ut_sz N < wl) := ⟨fun H => H.1 rfl, fun h => ⟨fun _ => h, fun e => absurd e (by decide), fun e => absurd e (by decide), fun e => absurd e (by decide), fun e => absurd e (by decide), fun e => absurd e (by decide), fun e => absurd e (by decide), fun e => absurd e (by decide), fun e => absurd e (by decide), fun e => absurd e (by decide), fun e => absurd e (by decide), fun e => absurd e (by decide), fun e => absurd e (by decide)⟩⟩
theorem ut_fit_1 : ut_fit fl wl 1 a b N ↔ (a ≤ 5 ∧ ut_sz N < wl) := ⟨fun H => H.2.1 rfl, fun h => ⟨fun e => absurd e (by decide), fun _ => h, fun e => absurd e (by decide), fun e => absurd e (by decide), fun e => absurd e (by decide), fun e => absurd e (by decide), fun e => absurd e (by decide), fun e => absurd e (by decide), fun e => absurd e (by decide), fun e => absurd e (by decide), fun e => absurd e (by decide), fun e => absurd e (by decide), fun e => absurd e (by decide)⟩⟩
theorem ut_fit_2 : ut_fit fl wl 2 a b N ↔ (a ≤ 5 ∧ 0 < ut_sz N ∧ ((ut_nok N (ut_sz N) ∧ ut_wr N a) ∨ (a ≤ 3 ∧ ut_pl N a = ut_sz N))) := ⟨fun H => H.2.2.1 rfl, fun h => ⟨fun e => absurd e (by decide), fun e => absurd e (by decide), fun _ => h, fun e => absurd e (by decide), fun e => absurd e (by decide), fun e => absurd e (by decide), fun e => absurd e (by decide), fun e => absurd e (by decide), fun e => absurd e (by decide), fun e => absurd e (by decide), fun e => absurd e (by decide), fun e => absurd e (by decide), fun e => absurd e (by decide)⟩⟩
theorem ut_fit_3 : ut_fit fl wl 3 a b N ↔ (1 ≤ a ∧ a ≤ 8 ∧ ut_sz N + a ≤ wl) := ⟨fun H => H.2.2.2.1 rfl, fun h => ⟨fun e => absurd e (by decide), fun e => absurd e (by decide), fun e => absurd e (by decide), fun _ => h, fun e => absurd e (by decide), fun e => absurd e (by decide), fun e => absurd e (by decide), fun e => absurd e (by decide), fun e => absurd e (by decide), fun e => absurd e (by decide), fun e => absurd e (by decide), fun e => absurd e (by decide), fun e => absurd e (by decide)⟩⟩
theorem ut_fit_4 : ut_fit fl wl 4 a b N ↔ (1 ≤ a ∧ a ≤ 8 ∧ a ≤ ut_sz N ∧ ∀ r, r < 4 → ut_pl N r ≤ ut_sz N - a) := ⟨fun H => H.2.2.2.2.1 rfl, fun h => ⟨fun e => absurd e (by decide), fun e => absurd e (by decide), fun e => absurd e (by decide), fun e => absurd e (by decide), fun _ => h, fun e => absurd e (by decide), fun e => absurd e (by decide), fun e => absurd e (by decide), fun e => absurd e (by decide), fun e => absurd e (by decide), fun e => absurd e (by decide), fun e => absurd e (by decide), fun e => absurd e (by decide)⟩⟩
theorem ut_fit_5 : ut_fit fl wl 5 a b N ↔ (a ≤ 3 ∧ ut_pl N a = 0 ∧ ∃ c, b = nI c ∧ c < ut_sz N ∧ ut_nok N (c + 1)) := ⟨fun H => H.2.2.2.2.2.1 rfl, fun h => ⟨fun e => absurd e (by decide), fun e => absurd e (by decide), fun e => absurd e (by decide), fun e => absurd e (by decide), fun e => absurd e (by decide), fun _ => h, fun e => absurd e (by decide), fun e => absurd e (by decide), fun e => absurd e (by decide), fun e => absurd e (by decide), fun e => absurd e (by decide), fun e => absurd e (by decide), fun e => absurd e (by decide)⟩⟩
theorem ut_fit_6 : ut_fit fl wl 6 a b N ↔ (a ≤ 3 ∧ ut_pl N a ≠ 0) := ⟨fun H => H.2.2.2.2.2.2.1 rfl, fun h => ⟨fun e => absurd e (by decide), fun e => absurd e (by decide), fun e => absurd e (by decide), fun e => absurd e (by decide), fun e => absurd e (by decide), fun e => absurd e (by decide), fun _ => h, fun e => absurd e (by decide), fun e => absurd e (by decide), fun e => absurd e (by decide), fun e => absurd e (by decide), fun e => absurd e (by decide), fun e => absurd e (by decide)⟩⟩
theorem ut_fit_7 : ut_fit fl wl 7 a b N ↔ (ut_wr N a ∧ ∃ c, b = nI c ∧ c < ut_sz N) := ⟨fun H => H.2.2.2.2.2.2.2.1 rfl, fun h => ⟨fun e => absurd e (by decide), fun e => absurd e (by decide), fun e => absurd e (by decide), fun e => absurd e (by decide), fun e => absurd e (by decide), fun e => absurd e (by decide), fun e => absurd e (by decide), fun _ => h, fun e => absurd e (by decide), fun e => absurd e (by decide), fun e => absurd e (by decide), fun e => absurd e (by decide), fun e => absurd e (by decide)⟩⟩
theorem ut_fit_8 : ut_fit fl wl 8 a b N ↔ (a ≤ 5 ∧ ∃ c, b = nI c ∧ c < ut_sz N ∧ ut_nok N (c + 1)) := ⟨fun H => H.2.2.2.2.2.2.2.2.1 rfl, fun h => ⟨fun e => absurd e (by decide), fun e => absurd e (by decide), fun e => absurd e (by decide), fun e => absurd e (by decide), fun e => absurd e (by decide), fun e => absurd e (by decide), fun e => absurd e (by decide), fun e => absurd e (by decide), fun _ => h, fun e => absurd e (by decide), fun e => absurd e (by decide), fun e => absurd e (by decide), fun e => absurd e (by decide)⟩⟩
theorem ut_fit_9 : ut_fit fl wl 9 a b N ↔ (ut_wr N a) := ⟨fun H => H.2.2.2.2.2.2.2.2.2.1 rfl, fun h => ⟨fun e => absurd e (by decide), fun e => absurd e (by decide), fun e => absurd e (by decide), fun e => absurd e (by decide), fun e => absurd e (by decide), fun e => absurd e (by decide), fun e => absurd e (by decide), fun e => absurd e (by decide), fun e => absurd e (by decide), fun _ => h, fun e => absurd e (by decide), fun e => absurd e (by decide), fun e => absurd e (by decide)⟩⟩
theorem ut_fit_10 : ut_fit fl wl 10 a b N ↔ (ut_wr N a) := ⟨fun H => H.2.2.2.2.2.2.2.2.2.2.1 rfl, fun h => ⟨fun e => absurd e (by decide), fun e => absurd e (by decide), fun e => absurd e (by decide), fun e => absurd e (by decide), fun e => absurd e (by decide), fun e => absurd e (by decide), fun e => absurd e (by decide), fun e => absurd e (by decide), fun e => absurd e (by decide), fun e => absurd e (by decide), fun _ => h, fun e => absurd e (by decide), fun e => absurd e (by decide)⟩⟩
theorem ut_fit_11 : ut_fit fl wl 11 a b N ↔ (ut_wr N a ∧ ∃ c, b = nI c ∧ c ≤ 5) := ⟨fun H => H.2.2.2.2.2.2.2.2.2.2.2.1 rfl, fun h => ⟨fun e => absurd e (by decide), fun e => absurd e (by decide), fun e => absurd e (by decide), fun e => absurd e (by decide), fun e => absurd e (by decide), fun e => absurd e (by decide), fun e => absurd e (by decide), fun e => absurd e (by decide), fun e => absurd e (by decide), fun e => absurd e (by decide), fun e => absurd e (by decide), fun _ => h, fun e => absurd e (by decide)⟩⟩
theorem ut_fit_12 : ut_fit fl wl 12 a b N ↔ (a < fl) := ⟨fun H => H.2.2.2.2.2.2.2.2.2.2.2.2 rfl, fun h => ⟨fun e => absurd e (by decide), fun e => absurd e (by decide), fun e => absurd e (by decide), fun e => absurd e (by decide), fun e => absurd e (by decide), fun e => absurd e (by decide), fun e => absurd e (by decide), fun e => absurd e (by decide), fun e => absurd e (by decide), fun e => absurd e (by decide), fun e => absurd e (by decide), fun e => absurd e (by decide), fun _ => h⟩⟩
end F
variable {f_SAVE f_PUSH f_POP f_ALLOC f_FREE f_KEEP f_BACK f_LOAD f_STORE f_SET f_ADDI f_ADD f_CALL f_RET f_IF f_WHILE f_END f_ADVANCE f_OFFSET f_REGISTER f_RESTORE f_REMEMBER f_RECALL f_codeLimit f_functionLimit f_depthLimit f_wordLimit f_used f_functionCount f_tableUsed f_ruleAddress f_now f_reachable f_openCount f_sp f_pc f_active f_walkPc f_walkSp f_walkBase f_walkState : Int32} {a_ops a_firsts a_seconds a_link a_codeStart a_tableStart a_table a_openCell a_openState a_regs a_stack a_memory a_seen : Nat → Int32}
variable {post : Int32 → Prop} {fl wl N a o : Nat} {b : Int32} {K : Nat → Int32}
theorem ut_xwr (h : N < 1048576) (ha : a ≤ 5) (h1 : ut_wr N a → post 1) (h0 : ¬ ut_wr N a → post 0) : wpX_writable post (f_SAVE, f_PUSH, f_POP, f_ALLOC, f_FREE, f_KEEP, f_BACK, f_LOAD, f_STORE, f_SET, f_ADDI, f_ADD, f_CALL, f_RET, f_IF, f_WHILE, f_END, f_ADVANCE, f_OFFSET, f_REGISTER, f_RESTORE, f_REMEMBER, f_RECALL, f_codeLimit, f_functionLimit, f_depthLimit, f_wordLimit, f_used, f_functionCount, f_tableUsed, f_ruleAddress, (nI N), f_reachable, f_openCount, f_sp, f_pc, f_active, f_walkPc, f_walkSp, f_walkBase, f_walkState, a_ops, a_firsts, a_seconds, a_link, a_codeStart, a_tableStart, a_table, a_openCell, a_openState, a_regs, a_stack, a_memory, a_seen) (nI a) := by
  refine pk_lt 3 a (fun e => h1 ⟨ha, fun x => by omega⟩) (fun e => ?_)
  refine ut_xkp h (by omega) (fun z => br_t rfl (h0 (fun x => x.2 (by omega) z))) (fun z => br_f (by decide) (h1 ⟨ha, fun _ => z⟩))
theorem ut_xpf (hF : ut_FS wl N K) (ha : a ≤ 5) (h1 : ut_fit fl wl 2 a b N → post 1) (h0 : ¬ ut_fit fl wl 2 a b N → post 0) : wpX_popFits post (f_SAVE, f_PUSH, f_POP, f_ALLOC, f_FREE, f_KEEP, f_BACK, f_LOAD, f_STORE, f_SET, f_ADDI, f_ADD, f_CALL, f_RET, f_IF, f_WHILE, f_END, f_ADVANCE, f_OFFSET, f_REGISTER, f_RESTORE, f_REMEMBER, f_RECALL, f_codeLimit, f_functionLimit, f_depthLimit, f_wordLimit, f_used, f_functionCount, f_tableUsed, f_ruleAddress, (nI N), f_reachable, f_openCount, f_sp, f_pc, f_active, f_walkPc, f_walkSp, f_walkBase, f_walkState, a_ops, a_firsts, a_seconds, a_link, a_codeStart, a_tableStart, a_table, a_openCell, a_openState, a_regs, a_stack, a_memory, a_seen) (nI a) := by
  rw [ut_fit_2] at h1 h0
  have h16 := ut_sz_lt N
  unfold wpX_popFits
  dsimp only
  refine ut_xsz hF.1 ?_
  refine pk_eq (ut_sz N) 0 (fun e => h0 (fun x => by omega)) (fun e => ?_)
  rw [ut_s1 (by omega)]
  refine ut_xkd hF.1 (by omega) ?_
  have hk := ut_kd_le N (ut_sz N - 1)
  have hk4 := ut_kd4 N (ut_sz N - 1)
  rw [show ut_sz N - 1 + 1 = ut_sz N by omega] at hk4
  refine pk_eq (ut_kd N (ut_sz N - 1)) 4 (fun z => ?_) (fun z => ?_)
  · have hn := hk4.mp z
    refine ut_xwr hF.1 ha (fun w => ⟨narrow_b1, h1 ⟨ha, by omega, Or.inl ⟨hn, w⟩⟩⟩) (fun w => ⟨narrow_b0, h0 (fun x => ?_)⟩)
    rcases x.2.2 with y | y
    · exact w y.2
    · exact hn a (by omega) y.2
  · have hp := ut_kd_pl (N := N) (k := ut_sz N - 1) (by omega)
    have hnn : ¬ ut_nok N (ut_sz N) := fun x => z (hk4.mpr x)
    have q1 := (hF.2.2.2.1 _ (show ut_kd N (ut_sz N - 1) < 4 by omega) (ut_sz N - 1) (by omega)).mpr hp
    refine pk_eq (ut_kd N (ut_sz N - 1)) a (fun y => h1 ⟨ha, by omega, Or.inr ⟨by omega, ?_⟩⟩) (fun y => h0 (fun x => ?_))
    · rw [← y, hp]; omega
    · rcases x.2.2 with w | w
      · exact hnn w.1
      · have q2 := (hF.2.2.2.1 a (by omega) (ut_sz N - 1) (by omega)).mpr (by omega)
        rw [q1, nI_eq (by omega) (by omega)] at q2
        exact y q2
theorem ut_xff1 {m : Nat} (h : N < 1048576) (hm : m < 16) (h1 : (∀ r, r < 4 → ut_pl N r ≤ m) → post 1) (h0 : ¬ (∀ r, r < 4 → ut_pl N r ≤ m) → post 0) :
    ∀ d r, r + d = 4 → (∀ q, q < r → ut_pl N q ≤ m) → wX_freeFits_19 post (nI m) f_SAVE f_PUSH f_POP f_ALLOC f_FREE f_KEEP f_BACK f_LOAD f_STORE f_SET f_ADDI f_ADD f_CALL f_RET f_IF f_WHILE f_END f_ADVANCE f_OFFSET f_REGISTER f_RESTORE f_REMEMBER f_RECALL f_codeLimit f_functionLimit f_depthLimit f_wordLimit f_used f_functionCount f_tableUsed f_ruleAddress (nI N) f_reachable f_openCount f_sp f_pc f_active f_walkPc f_walkSp f_walkBase f_walkState a_ops a_firsts a_seconds a_link a_codeStart a_tableStart a_table a_openCell a_openState a_regs a_stack a_memory a_seen (d + 1) (nI r) := by
  intro d
  induction d with
  | zero =>
    intro r hr hq
    have e : r = 4 := by omega
    subst e
    rw [wX_freeFits_19]
    dsimp only
    exact br_t (by decide) (h1 hq)
  | succ d ih =>
    intro r hr hq
    rw [wX_freeFits_19]
    dsimp only
    refine br_f (nI_ge (b := 4) (by omega) (by omega)) ?_
    have hp := ut_pl_lt N r
    refine ut_xpl h (by omega) (fun e => ?_) (fun e => ?_)
    · have l1 : (-1 : Int32) < nI m := by
        rw [Int32.lt_iff_toInt_lt, nI_toInt (by omega), show (-1 : Int32).toInt = -1 from by decide]
        omega
      refine br_t l1 (nm_r (nI_1 r) (ih (r + 1) (by omega) (fun q hq2 => ?_)))
      by_cases z : q = r
      · rw [z]; omega
      · exact hq q (by omega)
    · refine pk_lt (ut_pl N r - 1) m (fun a => nm_r (nI_1 r) (ih (r + 1) (by omega) (fun q hq2 => ?_))) (fun a => h0 (fun x => ?_))
      · by_cases z : q = r
        · rw [z]; omega
        · exact hq q (by omega)
      · have := x r (by omega)
        omega
theorem ut_xff (h : N < 1048576) (ha : 1 ≤ a ∧ a ≤ 8) (h1 : ut_fit fl wl 4 a b N → post 1) (h0 : ¬ ut_fit fl wl 4 a b N → post 0) : wpX_freeFits post (f_SAVE, f_PUSH, f_POP, f_ALLOC, f_FREE, f_KEEP, f_BACK, f_LOAD, f_STORE, f_SET, f_ADDI, f_ADD, f_CALL, f_RET, f_IF, f_WHILE, f_END, f_ADVANCE, f_OFFSET, f_REGISTER, f_RESTORE, f_REMEMBER, f_RECALL, f_codeLimit, f_functionLimit, f_depthLimit, f_wordLimit, f_used, f_functionCount, f_tableUsed, f_ruleAddress, (nI N), f_reachable, f_openCount, f_sp, f_pc, f_active, f_walkPc, f_walkSp, f_walkBase, f_walkState, a_ops, a_firsts, a_seconds, a_link, a_codeStart, a_tableStart, a_table, a_openCell, a_openState, a_regs, a_stack, a_memory, a_seen) (nI a) := by
  rw [ut_fit_4] at h1 h0
  have h16 := ut_sz_lt N
  unfold wpX_freeFits
  dsimp only
  refine ut_xsz h ?_
  rcases Nat.lt_or_ge (ut_sz N) a with z | z
  · have l : ¬ (0 : Int32) ≤ nI (ut_sz N) - nI a := by
      have := pk_sneg (a := ut_sz N) (b := a) (by omega) z
      exact fun x => absurd this (Int32.not_lt.mpr x)
    exact nm_e (br_f l (h0 (fun x => by omega)))
  · refine nm_r (pk_sub z) (br_t (nI_pos' (by omega)) ⟨5, ut_xff1 h (by omega) (fun k => h1 ⟨ha.1, ha.2, z, k⟩) (fun k => h0 (fun x => k x.2.2.2)) 4 0 (by omega) (fun q hq => absurd hq (Nat.not_lt_zero q))⟩)
theorem ut_xrs0 (hw : wl ≤ 8) (h : N < 1048576) (ha : a ≤ 3) (h1 : ut_fit fl wl 0 a b N → post 1) (h0 : ¬ ut_fit fl wl 0 a b N → post 0) : wpX_resizeFits post (f_SAVE, f_PUSH, f_POP, f_ALLOC, f_FREE, f_KEEP, f_BACK, f_LOAD, f_STORE, f_SET, f_ADDI, f_ADD, f_CALL, f_RET, f_IF, f_WHILE, f_END, f_ADVANCE, f_OFFSET, f_REGISTER, f_RESTORE, f_REMEMBER, f_RECALL, f_codeLimit, f_functionLimit, f_depthLimit, (nI wl), f_used, f_functionCount, f_tableUsed, f_ruleAddress, (nI N), f_reachable, f_openCount, f_sp, f_pc, f_active, f_walkPc, f_walkSp, f_walkBase, f_walkState, a_ops, a_firsts, a_seconds, a_link, a_codeStart, a_tableStart, a_table, a_openCell, a_openState, a_regs, a_stack, a_memory, a_seen) (nI 0) (nI a) := by
  rw [ut_fit_0] at h1 h0
  have h16 := ut_sz_lt N
  unfold wpX_resizeFits
  dsimp only
  refine ut_xsz h ?_
  refine br_f (by decide) (br_f (by decide) (br_t (by decide) ?_))
  refine pk_le wl (ut_sz N) (fun e => h0 (fun x => by omega)) (fun e => ?_)
  exact ut_xkp h (by omega) (fun z => br_t rfl (h1 ⟨ha, z, e⟩)) (fun z => br_f (by decide) (h0 (fun x => z x.2.1)))
theorem ut_xrs1 (hw : wl ≤ 8) (h : N < 1048576) (ha : a ≤ 5) (h1 : ut_fit fl wl 1 a b N → post 1) (h0 : ¬ ut_fit fl wl 1 a b N → post 0) : wpX_resizeFits post (f_SAVE, f_PUSH, f_POP, f_ALLOC, f_FREE, f_KEEP, f_BACK, f_LOAD, f_STORE, f_SET, f_ADDI, f_ADD, f_CALL, f_RET, f_IF, f_WHILE, f_END, f_ADVANCE, f_OFFSET, f_REGISTER, f_RESTORE, f_REMEMBER, f_RECALL, f_codeLimit, f_functionLimit, f_depthLimit, (nI wl), f_used, f_functionCount, f_tableUsed, f_ruleAddress, (nI N), f_reachable, f_openCount, f_sp, f_pc, f_active, f_walkPc, f_walkSp, f_walkBase, f_walkState, a_ops, a_firsts, a_seconds, a_link, a_codeStart, a_tableStart, a_table, a_openCell, a_openState, a_regs, a_stack, a_memory, a_seen) (nI 1) (nI a) := by
  rw [ut_fit_1] at h1 h0
  have h16 := ut_sz_lt N
  unfold wpX_resizeFits
  dsimp only
  refine ut_xsz h ?_
  refine br_f (by decide) (br_f (by decide) (br_f (by decide) (br_t (by decide) ?_)))
  exact pk_le wl (ut_sz N) (fun e => h0 (fun x => by omega)) (fun e => h1 ⟨ha, e⟩)
theorem ut_xrs2 (hF : ut_FS wl N K) (ha : a ≤ 5) (h1 : ut_fit fl wl 2 a b N → post 1) (h0 : ¬ ut_fit fl wl 2 a b N → post 0) : wpX_resizeFits post (f_SAVE, f_PUSH, f_POP, f_ALLOC, f_FREE, f_KEEP, f_BACK, f_LOAD, f_STORE, f_SET, f_ADDI, f_ADD, f_CALL, f_RET, f_IF, f_WHILE, f_END, f_ADVANCE, f_OFFSET, f_REGISTER, f_RESTORE, f_REMEMBER, f_RECALL, f_codeLimit, f_functionLimit, f_depthLimit, (nI wl), f_used, f_functionCount, f_tableUsed, f_ruleAddress, (nI N), f_reachable, f_openCount, f_sp, f_pc, f_active, f_walkPc, f_walkSp, f_walkBase, f_walkState, a_ops, a_firsts, a_seconds, a_link, a_codeStart, a_tableStart, a_table, a_openCell, a_openState, a_regs, a_stack, a_memory, a_seen) (nI 2) (nI a) := by
  unfold wpX_resizeFits
  dsimp only
  refine ut_xsz hF.1 ?_
  refine br_f (by decide) (br_f (by decide) (br_f (by decide) (br_f (by decide) (br_t (by decide) ?_))))
  exact ut_xpf hF ha (fun x => ⟨narrow_b1, h1 x⟩) (fun x => ⟨narrow_b0, h0 x⟩)
theorem ut_xrs3 (hw : wl ≤ 8) (h : N < 1048576) (ha : 1 ≤ a ∧ a ≤ 8) (h1 : ut_fit fl wl 3 a b N → post 1) (h0 : ¬ ut_fit fl wl 3 a b N → post 0) : wpX_resizeFits post (f_SAVE, f_PUSH, f_POP, f_ALLOC, f_FREE, f_KEEP, f_BACK, f_LOAD, f_STORE, f_SET, f_ADDI, f_ADD, f_CALL, f_RET, f_IF, f_WHILE, f_END, f_ADVANCE, f_OFFSET, f_REGISTER, f_RESTORE, f_REMEMBER, f_RECALL, f_codeLimit, f_functionLimit, f_depthLimit, (nI wl), f_used, f_functionCount, f_tableUsed, f_ruleAddress, (nI N), f_reachable, f_openCount, f_sp, f_pc, f_active, f_walkPc, f_walkSp, f_walkBase, f_walkState, a_ops, a_firsts, a_seconds, a_link, a_codeStart, a_tableStart, a_table, a_openCell, a_openState, a_regs, a_stack, a_memory, a_seen) (nI 3) (nI a) := by
  rw [ut_fit_3] at h1 h0
  have h16 := ut_sz_lt N
  unfold wpX_resizeFits
  dsimp only
  refine ut_xsz h ?_
  refine br_f (by decide) (br_f (by decide) (br_f (by decide) (br_f (by decide) (br_f (by decide) (br_t (by decide) ?_)))))
  rw [nI_add]
  exact pk_lt wl (ut_sz N + a) (fun e => h0 (fun x => by omega)) (fun e => h1 ⟨ha.1, ha.2, e⟩)
theorem ut_xrs4 (h : N < 1048576) (ha : 1 ≤ a ∧ a ≤ 8) (h1 : ut_fit fl wl 4 a b N → post 1) (h0 : ¬ ut_fit fl wl 4 a b N → post 0) : wpX_resizeFits post (f_SAVE, f_PUSH, f_POP, f_ALLOC, f_FREE, f_KEEP, f_BACK, f_LOAD, f_STORE, f_SET, f_ADDI, f_ADD, f_CALL, f_RET, f_IF, f_WHILE, f_END, f_ADVANCE, f_OFFSET, f_REGISTER, f_RESTORE, f_REMEMBER, f_RECALL, f_codeLimit, f_functionLimit, f_depthLimit, (nI wl), f_used, f_functionCount, f_tableUsed, f_ruleAddress, (nI N), f_reachable, f_openCount, f_sp, f_pc, f_active, f_walkPc, f_walkSp, f_walkBase, f_walkState, a_ops, a_firsts, a_seconds, a_link, a_codeStart, a_tableStart, a_table, a_openCell, a_openState, a_regs, a_stack, a_memory, a_seen) (nI 4) (nI a) := by
  unfold wpX_resizeFits
  dsimp only
  refine ut_xsz h ?_
  refine br_f (by decide) (br_t (by decide) ?_)
  exact ut_xff h ha (fun x => ⟨narrow_b1, h1 x⟩) (fun x => ⟨narrow_b0, h0 x⟩)
theorem ut_xas5 {c : Nat} (h : N < 1048576) (ha : a ≤ 3) (hc : c ≤ 7) (h1 : ut_fit fl wl 5 a (nI c) N → post 1) (h0 : ¬ ut_fit fl wl 5 a (nI c) N → post 0) : wpX_accessFits post (f_SAVE, f_PUSH, f_POP, f_ALLOC, f_FREE, f_KEEP, f_BACK, f_LOAD, f_STORE, f_SET, f_ADDI, f_ADD, f_CALL, f_RET, f_IF, f_WHILE, f_END, f_ADVANCE, f_OFFSET, f_REGISTER, f_RESTORE, f_REMEMBER, f_RECALL, f_codeLimit, f_functionLimit, f_depthLimit, (nI wl), f_used, f_functionCount, f_tableUsed, f_ruleAddress, (nI N), f_reachable, f_openCount, f_sp, f_pc, f_active, f_walkPc, f_walkSp, f_walkBase, f_walkState, a_ops, a_firsts, a_seconds, a_link, a_codeStart, a_tableStart, a_table, a_openCell, a_openState, a_regs, a_stack, a_memory, a_seen) (nI 5) (nI a) (nI c) := by
  rw [ut_fit_5] at h1 h0
  have h16 := ut_sz_lt N
  have hk := ut_kd_le N c
  unfold wpX_accessFits
  dsimp only
  refine ut_xsz h ?_
  refine br_f (by decide) (br_f (by decide) (br_t (by decide) ?_))
  have hc' : ∀ d, nI c = nI d → d < ut_sz N → d = c := fun d e hd => ((nI_eq (by omega) (by omega)).mp e).symm
  refine pk_le (ut_sz N) c (fun e => h0 (fun ⟨_, _, d, e1, e2, _⟩ => by have := hc' d e1 e2; omega)) (fun e => ?_)
  refine ut_xkp h (by omega) (fun z => br_t rfl ?_) (fun z => br_f (by decide) (h0 (fun x => z x.2.1)))
  refine ut_xkd h (by omega) ?_
  refine pk_eq (ut_kd N c) 4 (fun y => h1 ⟨ha, z, c, rfl, e, (ut_kd4 N c).mp y⟩) (fun y => h0 (fun ⟨_, _, d, e1, e2, e3⟩ => y ((ut_kd4 N c).mpr ?_)))
  rw [← hc' d e1 e2]; exact e3
theorem ut_xas6 (h : N < 1048576) (ha : a ≤ 3) (h1 : ut_fit fl wl 6 a b N → post 1) (h0 : ¬ ut_fit fl wl 6 a b N → post 0) {p2 : Int32} : wpX_accessFits post (f_SAVE, f_PUSH, f_POP, f_ALLOC, f_FREE, f_KEEP, f_BACK, f_LOAD, f_STORE, f_SET, f_ADDI, f_ADD, f_CALL, f_RET, f_IF, f_WHILE, f_END, f_ADVANCE, f_OFFSET, f_REGISTER, f_RESTORE, f_REMEMBER, f_RECALL, f_codeLimit, f_functionLimit, f_depthLimit, (nI wl), f_used, f_functionCount, f_tableUsed, f_ruleAddress, (nI N), f_reachable, f_openCount, f_sp, f_pc, f_active, f_walkPc, f_walkSp, f_walkBase, f_walkState, a_ops, a_firsts, a_seconds, a_link, a_codeStart, a_tableStart, a_table, a_openCell, a_openState, a_regs, a_stack, a_memory, a_seen) (nI 6) (nI a) p2 := by
  rw [ut_fit_6] at h1 h0
  unfold wpX_accessFits
  dsimp only
  refine ut_xsz h ?_
  refine br_f (by decide) (br_f (by decide) (br_f (by decide) (br_t (by decide) ?_)))
  exact ut_xkp h (by omega) (fun z => ⟨narrow_b0, h0 (fun x => x.2 z)⟩) (fun z => ⟨narrow_b1, h1 ⟨ha, z⟩⟩)
theorem ut_xas7 {c : Nat} (h : N < 1048576) (ha : a ≤ 5) (hc : c ≤ 7) (h1 : ut_fit fl wl 7 a (nI c) N → post 1) (h0 : ¬ ut_fit fl wl 7 a (nI c) N → post 0) : wpX_accessFits post (f_SAVE, f_PUSH, f_POP, f_ALLOC, f_FREE, f_KEEP, f_BACK, f_LOAD, f_STORE, f_SET, f_ADDI, f_ADD, f_CALL, f_RET, f_IF, f_WHILE, f_END, f_ADVANCE, f_OFFSET, f_REGISTER, f_RESTORE, f_REMEMBER, f_RECALL, f_codeLimit, f_functionLimit, f_depthLimit, (nI wl), f_used, f_functionCount, f_tableUsed, f_ruleAddress, (nI N), f_reachable, f_openCount, f_sp, f_pc, f_active, f_walkPc, f_walkSp, f_walkBase, f_walkState, a_ops, a_firsts, a_seconds, a_link, a_codeStart, a_tableStart, a_table, a_openCell, a_openState, a_regs, a_stack, a_memory, a_seen) (nI 7) (nI a) (nI c) := by
  rw [ut_fit_7] at h1 h0
  have h16 := ut_sz_lt N
  unfold wpX_accessFits
  dsimp only
  refine ut_xsz h ?_
  refine br_f (by decide) (br_f (by decide) (br_f (by decide) (br_f (by decide) (br_t (by decide) ?_))))
  have hc' : ∀ d, nI c = nI d → d < ut_sz N → d = c := fun d e hd => ((nI_eq (by omega) (by omega)).mp e).symm
  refine pk_le (ut_sz N) c (fun e => h0 (fun ⟨_, d, e1, e2⟩ => by have := hc' d e1 e2; omega)) (fun e => ?_)
  exact ut_xwr h ha (fun w => br_f (by decide) (h1 ⟨w, c, rfl, e⟩)) (fun w => br_t rfl (h0 (fun x => w x.1)))
theorem ut_xas8 {c : Nat} (h : N < 1048576) (ha : a ≤ 5) (hc : c ≤ 7) (h1 : ut_fit fl wl 8 a (nI c) N → post 1) (h0 : ¬ ut_fit fl wl 8 a (nI c) N → post 0) : wpX_accessFits post (f_SAVE, f_PUSH, f_POP, f_ALLOC, f_FREE, f_KEEP, f_BACK, f_LOAD, f_STORE, f_SET, f_ADDI, f_ADD, f_CALL, f_RET, f_IF, f_WHILE, f_END, f_ADVANCE, f_OFFSET, f_REGISTER, f_RESTORE, f_REMEMBER, f_RECALL, f_codeLimit, f_functionLimit, f_depthLimit, (nI wl), f_used, f_functionCount, f_tableUsed, f_ruleAddress, (nI N), f_reachable, f_openCount, f_sp, f_pc, f_active, f_walkPc, f_walkSp, f_walkBase, f_walkState, a_ops, a_firsts, a_seconds, a_link, a_codeStart, a_tableStart, a_table, a_openCell, a_openState, a_regs, a_stack, a_memory, a_seen) (nI 8) (nI a) (nI c) := by
  rw [ut_fit_8] at h1 h0
  have h16 := ut_sz_lt N
  have hk := ut_kd_le N c
  unfold wpX_accessFits
  dsimp only
  refine ut_xsz h ?_
  refine br_f (by decide) (br_f (by decide) (br_f (by decide) (br_f (by decide) (br_f (by decide) (br_t (by decide) ?_)))))
  have hc' : ∀ d, nI c = nI d → d < ut_sz N → d = c := fun d e hd => ((nI_eq (by omega) (by omega)).mp e).symm
  refine pk_le (ut_sz N) c (fun e => h0 (fun ⟨_, d, e1, e2, _⟩ => by have := hc' d e1 e2; omega)) (fun e => ?_)
  refine ut_xkd h (by omega) ?_
  refine pk_eq (ut_kd N c) 4 (fun y => h1 ⟨ha, c, rfl, e, (ut_kd4 N c).mp y⟩) (fun y => h0 (fun ⟨_, d, e1, e2, e3⟩ => y ((ut_kd4 N c).mpr ?_)))
  rw [← hc' d e1 e2]; exact e3
theorem ut_xas9 {p2 : Int32} (h : N < 1048576) (ha : a ≤ 5) (ho : o = 9 ∨ o = 10 ∨ o = 11) (h1 : ut_wr N a → post 1) (h0 : ¬ ut_wr N a → post 0) : wpX_accessFits post (f_SAVE, f_PUSH, f_POP, f_ALLOC, f_FREE, f_KEEP, f_BACK, f_LOAD, f_STORE, f_SET, f_ADDI, f_ADD, f_CALL, f_RET, f_IF, f_WHILE, f_END, f_ADVANCE, f_OFFSET, f_REGISTER, f_RESTORE, f_REMEMBER, f_RECALL, f_codeLimit, f_functionLimit, f_depthLimit, (nI wl), f_used, f_functionCount, f_tableUsed, f_ruleAddress, (nI N), f_reachable, f_openCount, f_sp, f_pc, f_active, f_walkPc, f_walkSp, f_walkBase, f_walkState, a_ops, a_firsts, a_seconds, a_link, a_codeStart, a_tableStart, a_table, a_openCell, a_openState, a_regs, a_stack, a_memory, a_seen) (nI o) (nI a) p2 := by
  have G : wX_accessFits_152 post (nI a) f_SAVE f_PUSH f_POP f_ALLOC f_FREE f_KEEP f_BACK f_LOAD f_STORE f_SET f_ADDI f_ADD f_CALL f_RET f_IF f_WHILE f_END f_ADVANCE f_OFFSET f_REGISTER f_RESTORE f_REMEMBER f_RECALL f_codeLimit f_functionLimit f_depthLimit (nI wl) f_used f_functionCount f_tableUsed f_ruleAddress (nI N) f_reachable f_openCount f_sp f_pc f_active f_walkPc f_walkSp f_walkBase f_walkState a_ops a_firsts a_seconds a_link a_codeStart a_tableStart a_table a_openCell a_openState a_regs a_stack a_memory a_seen := by
    unfold wX_accessFits_152
    exact ut_xwr h ha (fun w => ⟨narrow_b1, h1 w⟩) (fun w => ⟨narrow_b0, h0 w⟩)
  unfold wpX_accessFits
  dsimp only
  refine ut_xsz h ?_
  rcases ho with rfl | rfl | rfl
  · exact br_f (by decide) (br_f (by decide) (br_f (by decide) (br_f (by decide) (br_f (by decide) (br_f (by decide) (br_t (by decide) G))))))
  · exact br_f (by decide) (br_f (by decide) (br_f (by decide) (br_f (by decide) (br_f (by decide) (br_f (by decide) (br_f (by decide) (br_t (by decide) G)))))))
  · exact br_f (by decide) (br_f (by decide) (br_f (by decide) (br_f (by decide) (br_f (by decide) (br_f (by decide) (br_f (by decide) (br_f (by decide) (br_t (by decide) G))))))))
theorem ut_xas12 {p1 p2 : Int32} (h : N < 1048576) (h1 : post 1) : wpX_accessFits post (f_SAVE, f_PUSH, f_POP, f_ALLOC, f_FREE, f_KEEP, f_BACK, f_LOAD, f_STORE, f_SET, f_ADDI, f_ADD, f_CALL, f_RET, f_IF, f_WHILE, f_END, f_ADVANCE, f_OFFSET, f_REGISTER, f_RESTORE, f_REMEMBER, f_RECALL, f_codeLimit, f_functionLimit, f_depthLimit, (nI wl), f_used, f_functionCount, f_tableUsed, f_ruleAddress, (nI N), f_reachable, f_openCount, f_sp, f_pc, f_active, f_walkPc, f_walkSp, f_walkBase, f_walkState, a_ops, a_firsts, a_seconds, a_link, a_codeStart, a_tableStart, a_table, a_openCell, a_openState, a_regs, a_stack, a_memory, a_seen) (nI 12) p1 p2 := by
  unfold wpX_accessFits
  dsimp only
  refine ut_xsz h ?_
  exact br_f (by decide) (br_f (by decide) (br_f (by decide) (br_f (by decide) (br_f (by decide) (br_f (by decide) (br_f (by decide) (br_f (by decide) (br_f (by decide) (br_t (by decide) h1)))))))))
theorem ut_xas13 {p1 p2 : Int32} (h : N < 1048576) (h1 : ut_sz N = 0 → post 1) (h0 : ut_sz N ≠ 0 → post 0) : wpX_accessFits post (f_SAVE, f_PUSH, f_POP, f_ALLOC, f_FREE, f_KEEP, f_BACK, f_LOAD, f_STORE, f_SET, f_ADDI, f_ADD, f_CALL, f_RET, f_IF, f_WHILE, f_END, f_ADVANCE, f_OFFSET, f_REGISTER, f_RESTORE, f_REMEMBER, f_RECALL, f_codeLimit, f_functionLimit, f_depthLimit, (nI wl), f_used, f_functionCount, f_tableUsed, f_ruleAddress, (nI N), f_reachable, f_openCount, f_sp, f_pc, f_active, f_walkPc, f_walkSp, f_walkBase, f_walkState, a_ops, a_firsts, a_seconds, a_link, a_codeStart, a_tableStart, a_table, a_openCell, a_openState, a_regs, a_stack, a_memory, a_seen) (nI 13) p1 p2 := by
  have h16 := ut_sz_lt N
  unfold wpX_accessFits
  dsimp only
  refine ut_xsz h ?_
  exact br_f (by decide) (br_f (by decide) (br_f (by decide) (br_f (by decide) (br_f (by decide) (br_f (by decide) (br_f (by decide) (br_f (by decide) (br_f (by decide) (br_f (by decide) (br_t (by decide) (pk_eq (ut_sz N) 0 h1 h0)))))))))))
/-- all but the blocks -/
theorem ut_xrf (hw : wl ≤ 8) (hfl : fl ≤ 8) (hF : ut_FS wl N K) (ho : o ≤ 12) (ha : ut_lo o ≤ a ∧ a ≤ ut_hi fl o) (h12 : o = 12 → 1 ≤ fl) (hb : (o = 5 ∨ o = 7 ∨ o = 8) → ∃ c, b = nI c ∧ c ≤ 7) (hb2 : o = 11 → ∃ c, b = nI c ∧ c ≤ 5)
    (h1 : ut_fit fl wl o a b N → post 0) (h0 : ¬ ut_fit fl wl o a b N → post 5) : wpX_refusal post (f_SAVE, f_PUSH, f_POP, f_ALLOC, f_FREE, f_KEEP, f_BACK, f_LOAD, f_STORE, f_SET, f_ADDI, f_ADD, f_CALL, f_RET, f_IF, f_WHILE, f_END, f_ADVANCE, f_OFFSET, f_REGISTER, f_RESTORE, f_REMEMBER, f_RECALL, f_codeLimit, f_functionLimit, f_depthLimit, (nI wl), f_used, f_functionCount, f_tableUsed, f_ruleAddress, (nI N), f_reachable, f_openCount, f_sp, f_pc, f_active, f_walkPc, f_walkSp, f_walkBase, f_walkState, a_ops, a_firsts, a_seconds, a_link, a_codeStart, a_tableStart, a_table, a_openCell, a_openState, a_regs, a_stack, a_memory, a_seen) (nI o) (nI a) b := by
  have h := hF.1
  have e59 : ∀ z : Prop, (z → post 0) → (¬ z → post 5) → (z → wX_refusal_59 post 1 f_SAVE f_PUSH f_POP f_ALLOC f_FREE f_KEEP f_BACK f_LOAD f_STORE f_SET f_ADDI f_ADD f_CALL f_RET f_IF f_WHILE f_END f_ADVANCE f_OFFSET f_REGISTER f_RESTORE f_REMEMBER f_RECALL f_codeLimit f_functionLimit f_depthLimit (nI wl) f_used f_functionCount f_tableUsed f_ruleAddress (nI N) f_reachable f_openCount f_sp f_pc f_active f_walkPc f_walkSp f_walkBase f_walkState a_ops a_firsts a_seconds a_link a_codeStart a_tableStart a_table a_openCell a_openState a_regs a_stack a_memory a_seen) ∧ (¬ z → wX_refusal_59 post 0 f_SAVE f_PUSH f_POP f_ALLOC f_FREE f_KEEP f_BACK f_LOAD f_STORE f_SET f_ADDI f_ADD f_CALL f_RET f_IF f_WHILE f_END f_ADVANCE f_OFFSET f_REGISTER f_RESTORE f_REMEMBER f_RECALL f_codeLimit f_functionLimit f_depthLimit (nI wl) f_used f_functionCount f_tableUsed f_ruleAddress (nI N) f_reachable f_openCount f_sp f_pc f_active f_walkPc f_walkSp f_walkBase f_walkState a_ops a_firsts a_seconds a_link a_codeStart a_tableStart a_table a_openCell a_openState a_regs a_stack a_memory a_seen) :=
    fun z y1 y0 => ⟨fun x => br_f (by decide) (y1 x), fun x => br_t rfl (y0 x)⟩
  have e := e59 _ h1 h0
  refine br_f (ut_ne (k := 14) (by omega) (by omega) (by omega)) (br_f (ut_ne (k := 15) (by omega) (by omega) (by omega)) (br_f (ut_ne (k := 16) (by omega) (by omega) (by omega)) ?_))
  by_cases k5 : o ≤ 4
  · refine br_f (nI_nlt (b := o) (a := 4) k5 (by omega)) ?_
    by_cases k : o = 0
    · subst k; exact ut_xrs0 hw h ha.2 e.1 e.2
    by_cases k : o = 1
    · subst k; exact ut_xrs1 hw h ha.2 e.1 e.2
    by_cases k : o = 2
    · subst k; exact ut_xrs2 hF ha.2 e.1 e.2
    by_cases k : o = 3
    · subst k; exact ut_xrs3 hw h ha e.1 e.2
    · have k : o = 4 := by omega
      subst k; exact ut_xrs4 h ha e.1 e.2
  · refine br_t (nI_lt (a := 4) (by omega) (by omega)) ?_
    by_cases k : o = 5
    · subst k
      obtain ⟨c, rfl, hc⟩ := hb (by omega)
      exact ut_xas5 h ha.2 hc e.1 e.2
    by_cases k : o = 6
    · subst k; exact ut_xas6 h ha.2 e.1 e.2
    by_cases k : o = 7
    · subst k
      obtain ⟨c, rfl, hc⟩ := hb (by omega)
      exact ut_xas7 h ha.2 hc e.1 e.2
    by_cases k : o = 8
    · subst k
      obtain ⟨c, rfl, hc⟩ := hb (by omega)
      exact ut_xas8 h ha.2 hc e.1 e.2
    by_cases k : o = 9
    · subst k
      rw [ut_fit_9] at e
      exact ut_xas9 h ha.2 (by omega) e.1 e.2
    by_cases k : o = 10
    · subst k
      rw [ut_fit_10] at e
      exact ut_xas9 h ha.2 (by omega) e.1 e.2
    by_cases k : o = 11
    · subst k
      rw [ut_fit_11] at e
      exact ut_xas9 h ha.2 (by omega) (fun w => e.1 ⟨w, hb2 rfl⟩) (fun w => e.2 (fun x => w x.1))
    · have k : o = 12 := by omega
      subst k
      rw [ut_fit_12] at e
      have hh : a ≤ fl - 1 := ha.2
      have := h12 rfl
      exact ut_xas12 h (e.1 (by omega))
theorem ut_xrf13 {p1 p2 : Int32} (hF : ut_FS wl N K) (h1 : ut_sz N = 0 → post 0) (h0 : ut_sz N ≠ 0 → post 5) : wpX_refusal post (f_SAVE, f_PUSH, f_POP, f_ALLOC, f_FREE, f_KEEP, f_BACK, f_LOAD, f_STORE, f_SET, f_ADDI, f_ADD, f_CALL, f_RET, f_IF, f_WHILE, f_END, f_ADVANCE, f_OFFSET, f_REGISTER, f_RESTORE, f_REMEMBER, f_RECALL, f_codeLimit, f_functionLimit, f_depthLimit, (nI wl), f_used, f_functionCount, f_tableUsed, f_ruleAddress, (nI N), f_reachable, f_openCount, f_sp, f_pc, f_active, f_walkPc, f_walkSp, f_walkBase, f_walkState, a_ops, a_firsts, a_seconds, a_link, a_codeStart, a_tableStart, a_table, a_openCell, a_openState, a_regs, a_stack, a_memory, a_seen) (nI 13) p1 p2 := by
  refine br_f (by decide) (br_f (by decide) (br_f (by decide) (br_t (by decide) ?_)))
  exact ut_xas13 hF.1 (fun x => br_f (by decide) (h1 x)) (fun x => br_t rfl (h0 x))
theorem ut_xrf14 {oc : Nat} {p1 p2 : Int32} (ho : o = 14 ∨ o = 15) (hoc : oc ≤ 4) (h1 : oc < 4 → post 0) (h0 : oc = 4 → post 6) : wpX_refusal post (f_SAVE, f_PUSH, f_POP, f_ALLOC, f_FREE, f_KEEP, f_BACK, f_LOAD, f_STORE, f_SET, f_ADDI, f_ADD, f_CALL, f_RET, f_IF, f_WHILE, f_END, f_ADVANCE, f_OFFSET, f_REGISTER, f_RESTORE, f_REMEMBER, f_RECALL, f_codeLimit, f_functionLimit, f_depthLimit, f_wordLimit, f_used, f_functionCount, f_tableUsed, f_ruleAddress, f_now, f_reachable, (nI oc), f_sp, f_pc, f_active, f_walkPc, f_walkSp, f_walkBase, f_walkState, a_ops, a_firsts, a_seconds, a_link, a_codeStart, a_tableStart, a_table, a_openCell, a_openState, a_regs, a_stack, a_memory, a_seen) (nI o) p1 p2 := by
  have G : wX_refusal_12 post f_SAVE f_PUSH f_POP f_ALLOC f_FREE f_KEEP f_BACK f_LOAD f_STORE f_SET f_ADDI f_ADD f_CALL f_RET f_IF f_WHILE f_END f_ADVANCE f_OFFSET f_REGISTER f_RESTORE f_REMEMBER f_RECALL f_codeLimit f_functionLimit f_depthLimit f_wordLimit f_used f_functionCount f_tableUsed f_ruleAddress f_now f_reachable (nI oc) f_sp f_pc f_active f_walkPc f_walkSp f_walkBase f_walkState a_ops a_firsts a_seconds a_link a_codeStart a_tableStart a_table a_openCell a_openState a_regs a_stack a_memory a_seen := pk_lt oc 4 h1 (fun x => h0 (by omega))
  rcases ho with rfl | rfl
  · exact br_t (by decide) G
  · exact br_f (by decide) (br_t (by decide) G)
theorem ut_xrf16 {oc M : Nat} {p1 p2 : Int32} (hoc : oc ≤ 4) (hN : N < 1048576) (hM : M < 1048576) (hs : 0 < oc → a_openState (oc - 1) = nI M) (hr : f_reachable = 0 ∨ f_reachable = 1)
    (h6 : oc = 0 → post 6) (h0 : 0 < oc → (f_reachable = 1 → N = M) → post 0) (h5 : 0 < oc → f_reachable = 1 → N ≠ M → post 5) : wpX_refusal post (f_SAVE, f_PUSH, f_POP, f_ALLOC, f_FREE, f_KEEP, f_BACK, f_LOAD, f_STORE, f_SET, f_ADDI, f_ADD, f_CALL, f_RET, f_IF, f_WHILE, f_END, f_ADVANCE, f_OFFSET, f_REGISTER, f_RESTORE, f_REMEMBER, f_RECALL, f_codeLimit, f_functionLimit, f_depthLimit, f_wordLimit, f_used, f_functionCount, f_tableUsed, f_ruleAddress, (nI N), f_reachable, (nI oc), f_sp, f_pc, f_active, f_walkPc, f_walkSp, f_walkBase, f_walkState, a_ops, a_firsts, a_seconds, a_link, a_codeStart, a_tableStart, a_table, a_openCell, a_openState, a_regs, a_stack, a_memory, a_seen) (nI 16) p1 p2 := by
  refine br_f (by decide) (br_f (by decide) (br_t (by decide) ?_))
  refine pk_eq oc 0 h6 (fun e => ?_)
  rcases hr with rfl | rfl
  · exact br_t rfl (h0 (by omega) (fun x => absurd x (by decide)))
  · refine br_f (by decide) ?_
    rw [ut_s1 (by omega)]
    refine ⟨vp_in_nI (by omega) (by omega), ?_⟩
    rw [nI_clamp (by omega), hs (by omega)]
    exact pk_eq N M (fun x => h0 (by omega) (fun _ => x)) (fun x => h5 (by omega) rfl x)
end UT17
end
section
/-! the reference's refusals -/
section UT18
variable {g_codeLimit g_functionsLimit g_depthLimit g_wordsLimit g_used g_open g_depth g_reachable : Int32} {b_cellOp b_cellA b_cellB b_regs b_kinds b_count b_values b_function b_address b_atCall : Nat → Int32}
variable {post : Int32 → Prop} {fl wl N a o : Nat} {b x x1 x2 x3 x4 x5 x6 x7 x8 x9 x10 : Int32}
def ut_b (x : Int32) (P : Prop) : Prop := (x = 1 ∧ P) ∨ (x = 0 ∧ ¬ P)
theorem ut_b1 {P : Prop} (h : P) : ut_b 1 P := Or.inl ⟨rfl, h⟩
theorem ut_b0 {P : Prop} (h : ¬ P) : ut_b 0 P := Or.inr ⟨rfl, h⟩
theorem ut_bb {x : Int32} {P A B : Prop} (h : ut_b x P) (f : ¬ P → A) (g : P → B) : (x = 0 → A) ∧ (¬ x = 0 → B) := by
  rcases h with ⟨rfl, h⟩ | ⟨rfl, h⟩
  · exact br_f (by decide) (g h)
  · exact br_t rfl (f h)
def ut_fin (post : Int32 → Prop) (x : Int32) : Prop := (x = 0 → post 0) ∧ (¬ x = 0 → post 5)
theorem ut_fin0 (h : post 0) : ut_fin post 0 := br_t rfl h
theorem ut_fin1 (h : post 5) : ut_fin post 1 := br_f (by decide) h
theorem ut_t402 (h : o < 14) (K : ut_fin post x10) : wY_refusal_402 post (nI o) x10 g_codeLimit g_functionsLimit g_depthLimit g_wordsLimit g_used g_open g_depth g_reachable b_cellOp b_cellA b_cellB b_regs b_kinds b_count b_values b_function b_address b_atCall :=
  br_f (ut_ne (k := 14) (by omega) (by omega) (by omega)) (br_f (ut_ne (k := 15) (by omega) (by omega) (by omega)) (br_f (ut_ne (k := 16) (by omega) (by omega) (by omega)) K))
theorem ut_t384 (h : o < 13) (K : ut_fin post x10) : wY_refusal_384 post (nI o) x4 x10 g_codeLimit g_functionsLimit g_depthLimit g_wordsLimit g_used g_open g_depth g_reachable b_cellOp b_cellA b_cellB b_regs b_kinds b_count b_values b_function b_address b_atCall :=
  br_f (ut_ne (k := 13) (by omega) (by omega) (by omega)) (ut_t402 (by omega) K)
theorem ut_t354 (h : o < 9 ∨ o = 12) (K : ut_fin post x10) : wY_refusal_354 post (nI o) x4 x7 x10 g_codeLimit g_functionsLimit g_depthLimit g_wordsLimit g_used g_open g_depth g_reachable b_cellOp b_cellA b_cellB b_regs b_kinds b_count b_values b_function b_address b_atCall :=
  br_f (ut_ne (k := 9) (by omega) (by omega) (by omega)) (br_f (ut_ne (k := 10) (by omega) (by omega) (by omega)) (br_f (ut_ne (k := 11) (by omega) (by omega) (by omega)) (ut_t384 (by omega) K)))
theorem ut_t336 (h : o < 8 ∨ o = 12) (K : ut_fin post x10) : wY_refusal_336 post (nI o) x4 x7 x9 x10 g_codeLimit g_functionsLimit g_depthLimit g_wordsLimit g_used g_open g_depth g_reachable b_cellOp b_cellA b_cellB b_regs b_kinds b_count b_values b_function b_address b_atCall :=
  br_f (ut_ne (k := 8) (by omega) (by omega) (by omega)) (ut_t354 (by omega) K)
theorem ut_t313 (h : o < 7 ∨ o = 12) (K : ut_fin post x10) : wY_refusal_313 post (nI o) x4 x7 x8 x9 x10 g_codeLimit g_functionsLimit g_depthLimit g_wordsLimit g_used g_open g_depth g_reachable b_cellOp b_cellA b_cellB b_regs b_kinds b_count b_values b_function b_address b_atCall :=
  br_f (ut_ne (k := 7) (by omega) (by omega) (by omega)) (ut_t336 (by omega) K)
theorem ut_t295 (h : o < 6 ∨ o = 12) (K : ut_fin post x10) : wY_refusal_295 post (nI o) x4 x6 x7 x8 x9 x10 g_codeLimit g_functionsLimit g_depthLimit g_wordsLimit g_used g_open g_depth g_reachable b_cellOp b_cellA b_cellB b_regs b_kinds b_count b_values b_function b_address b_atCall :=
  br_f (ut_ne (k := 6) (by omega) (by omega) (by omega)) (ut_t313 (by omega) K)
theorem ut_t273 (h : o < 5 ∨ o = 12) (K : ut_fin post x10) : wY_refusal_273 post (nI o) x4 x6 x7 x8 x9 x10 g_codeLimit g_functionsLimit g_depthLimit g_wordsLimit g_used g_open g_depth g_reachable b_cellOp b_cellA b_cellB b_regs b_kinds b_count b_values b_function b_address b_atCall :=
  br_f (ut_ne (k := 5) (by omega) (by omega) (by omega)) (ut_t295 (by omega) K)
theorem ut_t224 (h : o < 4 ∨ o = 12) (K : ut_fin post x10) : wY_refusal_224 post (nI o) x2 x4 x5 x6 x7 x8 x9 x10 g_codeLimit g_functionsLimit g_depthLimit g_wordsLimit g_used g_open g_depth g_reachable b_cellOp b_cellA b_cellB b_regs b_kinds b_count b_values b_function b_address b_atCall :=
  br_f (ut_ne (k := 4) (by omega) (by omega) (by omega)) (ut_t273 (by omega) K)
theorem ut_t201 (h : o < 3 ∨ o = 12) (K : ut_fin post x10) : wY_refusal_201 post (nI o) x2 x4 x5 x6 x7 x8 x9 x10 g_codeLimit g_functionsLimit g_depthLimit g_wordsLimit g_used g_open g_depth g_reachable b_cellOp b_cellA b_cellB b_regs b_kinds b_count b_values b_function b_address b_atCall :=
  br_f (ut_ne (k := 3) (by omega) (by omega) (by omega)) (ut_t224 (by omega) K)
theorem ut_t144 (h : o < 2 ∨ o = 12) (K : ut_fin post x10) : wY_refusal_144 post (nI o) x2 x4 x5 x6 x7 x8 x9 x10 g_codeLimit g_functionsLimit g_depthLimit g_wordsLimit g_used g_open g_depth g_reachable b_cellOp b_cellA b_cellB b_regs b_kinds b_count b_values b_function b_address b_atCall :=
  br_f (ut_ne (k := 2) (by omega) (by omega) (by omega)) (ut_t201 (by omega) K)
theorem ut_t123 (h : o < 1 ∨ o = 12) (K : ut_fin post x10) : wY_refusal_123 post (nI o) x2 x4 x5 x6 x7 x8 x9 x10 g_codeLimit g_functionsLimit g_depthLimit g_wordsLimit g_used g_open g_depth g_reachable b_cellOp b_cellA b_cellB b_regs b_kinds b_count b_values b_function b_address b_atCall :=
  br_f (ut_ne (k := 1) (by omega) (by omega) (by omega)) (ut_t144 (by omega) K)
/-! heads -/
theorem ut_h123 (h : 1 ≤ o ∧ o ≤ 16) (K : wY_refusal_123 post (nI o) x2 x4 x5 x6 x7 x8 x9 0 g_codeLimit g_functionsLimit g_depthLimit g_wordsLimit g_used g_open g_depth g_reachable b_cellOp b_cellA b_cellB b_regs b_kinds b_count b_values b_function b_address b_atCall) : wY_refusal_93 post (nI o) x2 x4 x5 x6 x7 x8 x9 g_codeLimit g_functionsLimit g_depthLimit g_wordsLimit g_used g_open g_depth g_reachable b_cellOp b_cellA b_cellB b_regs b_kinds b_count b_values b_function b_address b_atCall :=
  br_f (ut_ne (k := 0) (by omega) (by omega) (by omega)) K
theorem ut_h144 (h : 2 ≤ o ∧ o ≤ 16) (K : wY_refusal_144 post (nI o) x2 x4 x5 x6 x7 x8 x9 0 g_codeLimit g_functionsLimit g_depthLimit g_wordsLimit g_used g_open g_depth g_reachable b_cellOp b_cellA b_cellB b_regs b_kinds b_count b_values b_function b_address b_atCall) : wY_refusal_93 post (nI o) x2 x4 x5 x6 x7 x8 x9 g_codeLimit g_functionsLimit g_depthLimit g_wordsLimit g_used g_open g_depth g_reachable b_cellOp b_cellA b_cellB b_regs b_kinds b_count b_values b_function b_address b_atCall :=
  ut_h123 (by omega) (br_f (ut_ne (k := 1) (by omega) (by omega) (by omega)) K)
theorem ut_h201 (h : 3 ≤ o ∧ o ≤ 16) (K : wY_refusal_201 post (nI o) x2 x4 x5 x6 x7 x8 x9 0 g_codeLimit g_functionsLimit g_depthLimit g_wordsLimit g_used g_open g_depth g_reachable b_cellOp b_cellA b_cellB b_regs b_kinds b_count b_values b_function b_address b_atCall) : wY_refusal_93 post (nI o) x2 x4 x5 x6 x7 x8 x9 g_codeLimit g_functionsLimit g_depthLimit g_wordsLimit g_used g_open g_depth g_reachable b_cellOp b_cellA b_cellB b_regs b_kinds b_count b_values b_function b_address b_atCall :=
  ut_h144 (by omega) (br_f (ut_ne (k := 2) (by omega) (by omega) (by omega)) K)
theorem ut_h224 (h : 4 ≤ o ∧ o ≤ 16) (K : wY_refusal_224 post (nI o) x2 x4 x5 x6 x7 x8 x9 0 g_codeLimit g_functionsLimit g_depthLimit g_wordsLimit g_used g_open g_depth g_reachable b_cellOp b_cellA b_cellB b_regs b_kinds b_count b_values b_function b_address b_atCall) : wY_refusal_93 post (nI o) x2 x4 x5 x6 x7 x8 x9 g_codeLimit g_functionsLimit g_depthLimit g_wordsLimit g_used g_open g_depth g_reachable b_cellOp b_cellA b_cellB b_regs b_kinds b_count b_values b_function b_address b_atCall :=
  ut_h201 (by omega) (br_f (ut_ne (k := 3) (by omega) (by omega) (by omega)) K)
theorem ut_h273 (h : 5 ≤ o ∧ o ≤ 16) (K : wY_refusal_273 post (nI o) x4 x6 x7 x8 x9 0 g_codeLimit g_functionsLimit g_depthLimit g_wordsLimit g_used g_open g_depth g_reachable b_cellOp b_cellA b_cellB b_regs b_kinds b_count b_values b_function b_address b_atCall) : wY_refusal_93 post (nI o) x2 x4 x5 x6 x7 x8 x9 g_codeLimit g_functionsLimit g_depthLimit g_wordsLimit g_used g_open g_depth g_reachable b_cellOp b_cellA b_cellB b_regs b_kinds b_count b_values b_function b_address b_atCall :=
  ut_h224 (by omega) (br_f (ut_ne (k := 4) (by omega) (by omega) (by omega)) K)
theorem ut_h295 (h : 6 ≤ o ∧ o ≤ 16) (K : wY_refusal_295 post (nI o) x4 x6 x7 x8 x9 0 g_codeLimit g_functionsLimit g_depthLimit g_wordsLimit g_used g_open g_depth g_reachable b_cellOp b_cellA b_cellB b_regs b_kinds b_count b_values b_function b_address b_atCall) : wY_refusal_93 post (nI o) x2 x4 x5 x6 x7 x8 x9 g_codeLimit g_functionsLimit g_depthLimit g_wordsLimit g_used g_open g_depth g_reachable b_cellOp b_cellA b_cellB b_regs b_kinds b_count b_values b_function b_address b_atCall :=
  ut_h273 (by omega) (br_f (ut_ne (k := 5) (by omega) (by omega) (by omega)) K)
theorem ut_h313 (h : 7 ≤ o ∧ o ≤ 16) (K : wY_refusal_313 post (nI o) x4 x7 x8 x9 0 g_codeLimit g_functionsLimit g_depthLimit g_wordsLimit g_used g_open g_depth g_reachable b_cellOp b_cellA b_cellB b_regs b_kinds b_count b_values b_function b_address b_atCall) : wY_refusal_93 post (nI o) x2 x4 x5 x6 x7 x8 x9 g_codeLimit g_functionsLimit g_depthLimit g_wordsLimit g_used g_open g_depth g_reachable b_cellOp b_cellA b_cellB b_regs b_kinds b_count b_values b_function b_address b_atCall :=
  ut_h295 (by omega) (br_f (ut_ne (k := 6) (by omega) (by omega) (by omega)) K)
theorem ut_h336 (h : 8 ≤ o ∧ o ≤ 16) (K : wY_refusal_336 post (nI o) x4 x7 x9 0 g_codeLimit g_functionsLimit g_depthLimit g_wordsLimit g_used g_open g_depth g_reachable b_cellOp b_cellA b_cellB b_regs b_kinds b_count b_values b_function b_address b_atCall) : wY_refusal_93 post (nI o) x2 x4 x5 x6 x7 x8 x9 g_codeLimit g_functionsLimit g_depthLimit g_wordsLimit g_used g_open g_depth g_reachable b_cellOp b_cellA b_cellB b_regs b_kinds b_count b_values b_function b_address b_atCall :=
  ut_h313 (by omega) (br_f (ut_ne (k := 7) (by omega) (by omega) (by omega)) K)
theorem ut_h354 (h : 9 ≤ o ∧ o ≤ 16) (K : wY_refusal_354 post (nI o) x4 x7 0 g_codeLimit g_functionsLimit g_depthLimit g_wordsLimit g_used g_open g_depth g_reachable b_cellOp b_cellA b_cellB b_regs b_kinds b_count b_values b_function b_address b_atCall) : wY_refusal_93 post (nI o) x2 x4 x5 x6 x7 x8 x9 g_codeLimit g_functionsLimit g_depthLimit g_wordsLimit g_used g_open g_depth g_reachable b_cellOp b_cellA b_cellB b_regs b_kinds b_count b_values b_function b_address b_atCall :=
  ut_h336 (by omega) (br_f (ut_ne (k := 8) (by omega) (by omega) (by omega)) K)
theorem ut_h384 (h : 12 ≤ o ∧ o ≤ 16) (K : wY_refusal_384 post (nI o) x4 0 g_codeLimit g_functionsLimit g_depthLimit g_wordsLimit g_used g_open g_depth g_reachable b_cellOp b_cellA b_cellB b_regs b_kinds b_count b_values b_function b_address b_atCall) : wY_refusal_93 post (nI o) x2 x4 x5 x6 x7 x8 x9 g_codeLimit g_functionsLimit g_depthLimit g_wordsLimit g_used g_open g_depth g_reachable b_cellOp b_cellA b_cellB b_regs b_kinds b_count b_values b_function b_address b_atCall :=
  ut_h354 (by omega) (br_f (ut_ne (k := 9) (by omega) (by omega) (by omega)) (br_f (ut_ne (k := 10) (by omega) (by omega) (by omega)) (br_f (ut_ne (k := 11) (by omega) (by omega) (by omega)) K)))
theorem ut_h402 (h : 14 ≤ o ∧ o ≤ 16) (K : wY_refusal_402 post (nI o) 0 g_codeLimit g_functionsLimit g_depthLimit g_wordsLimit g_used g_open g_depth g_reachable b_cellOp b_cellA b_cellB b_regs b_kinds b_count b_values b_function b_address b_atCall) : wY_refusal_93 post (nI o) x2 x4 x5 x6 x7 x8 x9 g_codeLimit g_functionsLimit g_depthLimit g_wordsLimit g_used g_open g_depth g_reachable b_cellOp b_cellA b_cellB b_regs b_kinds b_count b_values b_function b_address b_atCall :=
  ut_h384 (by omega) (br_f (ut_ne (k := 13) (by omega) (by omega) (by omega)) K)
/-! what is reckoned first -/
def ut_kA (N : Nat) (x : Int32) : Prop := ∃ r, r < 4 ∧ x = nI r ∧ ut_pl N r ≠ 0
def ut_wA (N : Nat) (x : Int32) : Prop := x = 4 ∨ x = 5 ∨ ut_kA N x
def ut_hB (N : Nat) (b : Int32) : Prop := ∃ c, b = nI c ∧ c < ut_sz N
def ut_dB (N : Nat) (b : Int32) : Prop := ∃ c, b = nI c ∧ c < ut_sz N ∧ ut_nok N (c + 1)
theorem ut_kA_n {N a : Nat} (ha : a ≤ 8) : ut_kA N (nI a) ↔ (a ≤ 3 ∧ ut_pl N a ≠ 0) := by
  constructor
  · rintro ⟨r, hr, e, h⟩
    rw [nI_eq (by omega) (by omega)] at e
    subst e
    exact ⟨by omega, h⟩
  · rintro ⟨h, k⟩
    exact ⟨a, by omega, rfl, k⟩
theorem ut_wA_n {N a : Nat} (ha : a ≤ 5) : ut_wA N (nI a) ↔ ut_wr N a := by
  unfold ut_wA ut_wr
  rw [ut_kA_n (by omega), show (4 : Int32) = nI 4 from rfl, show (5 : Int32) = nI 5 from rfl, nI_eq (by omega) (by omega), nI_eq (by omega) (by omega)]
  constructor
  · rintro (h | h | ⟨h, k⟩)
    · exact ⟨ha, fun x => by omega⟩
    · exact ⟨ha, fun x => by omega⟩
    · exact ⟨ha, fun _ => k⟩
  · rintro ⟨_, h⟩
    rcases Nat.lt_or_ge a 4 with z | z
    · exact Or.inr (Or.inr ⟨by omega, h z⟩)
    · omega
theorem ut_yr93 (hw : wl ≤ 8) (hc : b_count 16 = nI (ut_sz N)) (hF : ut_FS wl N (fun j => b_kinds (16 * 8 + j)))
    (h6 : ut_b x6 (ut_kA N x)) (h7 : ut_b x7 (ut_wA N x))
    (K : ∀ x8 x9, ut_b x8 (ut_hB N b) → ut_b x9 (ut_dB N b) → wY_refusal_93 post x1 x (nI (ut_sz N)) 128 x6 x7 x8 x9 g_codeLimit g_functionsLimit g_depthLimit g_wordsLimit g_used g_open g_depth g_reachable b_cellOp b_cellA b_cellB b_regs b_kinds b_count b_values b_function b_address b_atCall) :
    wY_refusal_51 post x1 x b (nI (ut_sz N)) 128 x6 x7 g_codeLimit g_functionsLimit g_depthLimit g_wordsLimit g_used g_open g_depth g_reachable b_cellOp b_cellA b_cellB b_regs b_kinds b_count b_values b_function b_address b_atCall := by
  have hs := hF.2.1
  have hB : ∀ c, c < ut_sz N → ∀ d, nI c = nI d → d < ut_sz N → d = c := fun c hc d e hd => ((nI_eq (by omega) (by omega)).mp e).symm
  have N1 : ¬ ut_hB N b → wY_refusal_67 post x1 x b (nI (ut_sz N)) 128 x6 x7 g_codeLimit g_functionsLimit g_depthLimit g_wordsLimit g_used g_open g_depth g_reachable b_cellOp b_cellA b_cellB b_regs b_kinds b_count b_values b_function b_address b_atCall := fun h =>
    br_t rfl (K 0 0 (ut_b0 h) (ut_b0 (fun ⟨c, e1, e2, _⟩ => h ⟨c, e1, e2⟩)))
  unfold wY_refusal_51
  by_cases hb : b < 0
  · refine br_t hb (N1 (fun ⟨c, e1, e2⟩ => ?_))
    rw [e1] at hb
    exact absurd hb (nI_pos (by omega))
  · refine br_f hb ?_
    obtain ⟨c, hc31, rfl⟩ := nI_of hb
    refine pk_le (ut_sz N) c (fun e => N1 (fun ⟨d, e1, e2⟩ => ?_)) (fun e => ?_)
    · rw [nI_eq hc31 (by omega)] at e1
      omega
    · refine br_f (by decide) ?_
      rw [show (128 : Int32) + nI c = nI (128 + c) from nI_add 128 c]
      refine ⟨vp_in_nI (by omega) (by omega), ?_⟩
      rw [nI_clamp (by omega)]
      have k : b_kinds (128 + c) = 4 ↔ ut_nok N (c + 1) := ut_FS_data hF e
      by_cases z : b_kinds (128 + c) = 4
      · exact br_t z (K 1 1 (ut_b1 ⟨c, rfl, e⟩) (ut_b1 ⟨c, rfl, e, k.mp z⟩))
      · refine br_f z (K 1 0 (ut_b1 ⟨c, rfl, e⟩) (ut_b0 (fun ⟨d, e1, e2, e3⟩ => z (k.mpr ?_))))
        rw [← hB c e d e1 e2]; exact e3
theorem ut_yr0 (hw : wl ≤ 8) (hc : b_count 16 = nI (ut_sz N)) (hF : ut_FS wl N (fun j => b_kinds (16 * 8 + j)))
    (K : ∀ x6 x7 x8 x9, ut_b x6 (ut_kA N x) → ut_b x7 (ut_wA N x) → ut_b x8 (ut_hB N b) → ut_b x9 (ut_dB N b) → wY_refusal_93 post x1 x (nI (ut_sz N)) 128 x6 x7 x8 x9 g_codeLimit g_functionsLimit g_depthLimit g_wordsLimit g_used g_open g_depth g_reachable b_cellOp b_cellA b_cellB b_regs b_kinds b_count b_values b_function b_address b_atCall) :
    wpY_refusal post (g_codeLimit, g_functionsLimit, g_depthLimit, g_wordsLimit, g_used, g_open, g_depth, g_reachable, b_cellOp, b_cellA, b_cellB, b_regs, b_kinds, b_count, b_values, b_function, b_address, b_atCall) x1 x b := by
  have hs := hF.2.1
  have G : ∀ z0, ut_b z0 (ut_kA N x) → wY_refusal_29 post x1 x b (nI (ut_sz N)) 128 z0 g_codeLimit g_functionsLimit g_depthLimit g_wordsLimit g_used g_open g_depth g_reachable b_cellOp b_cellA b_cellB b_regs b_kinds b_count b_values b_function b_address b_atCall := by
    intro z0 h6
    unfold wY_refusal_29
    have W : ut_wA N x → wY_refusal_46 post x1 x b (nI (ut_sz N)) 128 z0 g_codeLimit g_functionsLimit g_depthLimit g_wordsLimit g_used g_open g_depth g_reachable b_cellOp b_cellA b_cellB b_regs b_kinds b_count b_values b_function b_address b_atCall := fun h => ut_yr93 hw hc hF h6 (ut_b1 h) (fun x8 x9 => K z0 1 x8 x9 h6 (ut_b1 h))
    by_cases e4 : x = 4
    · exact br_t e4 (W (Or.inl e4))
    · refine br_f e4 ?_
      by_cases e5 : x = 5
      · exact br_t e5 (W (Or.inr (Or.inl e5)))
      · refine br_f e5 ?_
        refine ut_bb h6 (fun h => ?_) (fun h => W (Or.inr (Or.inr h)))
        have h' : ¬ ut_wA N x := fun w => w.elim e4 (fun w => w.elim e5 h)
        exact ut_yr93 hw hc hF h6 (ut_b0 h') (fun x8 x9 => K z0 0 x8 x9 h6 (ut_b0 h'))
  refine nm_r hc ?_
  refine ut_yfd (row := 16) hw (by omega) hc hF (fun h => br_t (by decide) (G 0 (ut_b0 ?_))) (fun r hr e h => br_f (nI_pos (by have := ut_pl_lt N r; omega)) (G 1 (ut_b1 ⟨r, hr, e, h⟩)))
  rintro ⟨r, hr, e, k⟩
  exact k (h r hr e)
theorem ut_y243 (hw : wl ≤ 8) (hF : ut_FS wl N (fun j => b_kinds (16 * 8 + j))) (ha : 1 ≤ a ∧ a ≤ 8) (han : a ≤ ut_sz N) (h1 : ut_fit fl wl 4 a b N → post 0) (h0 : ¬ ut_fit fl wl 4 a b N → post 5) :
    ∀ d i x10, i + d = ut_sz N → ut_sz N - a ≤ i → ut_b x10 (∃ j, ut_sz N - a ≤ j ∧ j < i ∧ ¬ ut_nok N (j + 1)) → wY_refusal_243 post (nI 4) (nI (ut_sz N)) 128 x6 x7 x8 x9 g_codeLimit g_functionsLimit g_depthLimit g_wordsLimit g_used g_open g_depth g_reachable b_cellOp b_cellA b_cellB b_regs b_kinds b_count b_values b_function b_address b_atCall (d + 1) x10 (nI i) := by
  have hs := hF.2.1
  have key : (∃ j, ut_sz N - a ≤ j ∧ j < ut_sz N ∧ ¬ ut_nok N (j + 1)) ↔ ¬ ut_fit fl wl 4 a b N := by
    rw [ut_fit_4]
    constructor
    · rintro ⟨j, j1, j2, j3⟩ ⟨_, _, _, f4⟩
      refine j3 (fun r hr e => ?_)
      have := f4 r hr
      omega
    · intro h
      refine Classical.byContradiction (fun k => h ⟨ha.1, ha.2, han, fun r hr => ?_⟩)
      have h3 := hF.2.2.1 r hr
      rcases Nat.lt_or_ge (ut_sz N - a) (ut_pl N r) with z | z
      · exact absurd ⟨ut_pl N r - 1, by omega, by omega, fun x => x r hr (by omega)⟩ k
      · exact z
  intro d
  induction d with
  | zero =>
    intro i x10 hi hl hx
    have e : i = ut_sz N := by omega
    subst e
    rw [wY_refusal_243]
    dsimp only
    refine br_t (nI_le (Nat.le_refl _) (by omega)) (ut_t273 (by omega) ?_)
    rw [key] at hx
    exact ut_bb hx (fun h => h1 (Classical.not_not.mp h)) h0
  | succ d ih =>
    intro i x10 hi hl hx
    rw [wY_refusal_243]
    dsimp only
    refine br_f (nI_ge (by omega) (by omega)) ?_
    rw [show (128 : Int32) + nI i = nI (128 + i) from nI_add 128 i]
    refine ⟨vp_in_nI (by omega) (by omega), ?_⟩
    rw [nI_clamp (by omega)]
    have k : b_kinds (128 + i) = 4 ↔ ut_nok N (i + 1) := ut_FS_data hF (i := i) (by omega)
    by_cases z : b_kinds (128 + i) = 4
    · refine br_t z (nm_r (nI_1 i) (ih (i + 1) x10 (by omega) (by omega) ?_))
      have e : (∃ j, ut_sz N - a ≤ j ∧ j < i + 1 ∧ ¬ ut_nok N (j + 1)) ↔ (∃ j, ut_sz N - a ≤ j ∧ j < i ∧ ¬ ut_nok N (j + 1)) := by
        constructor
        · rintro ⟨j, j1, j2, j3⟩
          by_cases q : j = i
          · rw [q] at j3; exact absurd (k.mp z) j3
          · exact ⟨j, j1, by omega, j3⟩
        · rintro ⟨j, j1, j2, j3⟩
          exact ⟨j, j1, by omega, j3⟩
      rw [e]; exact hx
    · exact br_f z (nm_r (nI_1 i) (ih (i + 1) 1 (by omega) (by omega) (ut_b1 ⟨i, hl, by omega, fun x => z (k.mpr x)⟩)))
/-- all but the blocks -/
theorem ut_yrf (hw : wl ≤ 8) (hfl : fl ≤ 8) (hc : b_count 16 = nI (ut_sz N)) (hF : ut_FS wl N (fun j => b_kinds (16 * 8 + j))) (ho : o ≤ 12) (ha : ut_lo o ≤ a ∧ a ≤ ut_hi fl o) (h12 : o = 12 → 1 ≤ fl)
    (hb2 : o = 11 → ∃ c, b = nI c ∧ c ≤ 5)
    (h1 : ut_fit fl wl o a b N → post 0) (h0 : ¬ ut_fit fl wl o a b N → post 5) : wpY_refusal post (g_codeLimit, g_functionsLimit, g_depthLimit, (nI wl), g_used, g_open, g_depth, g_reachable, b_cellOp, b_cellA, b_cellB, b_regs, b_kinds, b_count, b_values, b_function, b_address, b_atCall) (nI o) (nI a) b := by
  have hs := hF.2.1
  refine ut_yr0 hw hc hF (fun x6 x7 x8 x9 h6 h7 h8 h9 => ?_)
  by_cases k : o = 0
  · subst k
    rw [ut_fit_0] at h1 h0
    have ha' : a ≤ 3 := ha.2
    rw [ut_kA_n (by omega)] at h6
    refine br_t rfl (ut_bb h6 (fun h => ?_) (fun h => ?_))
    · refine pk_eq (ut_sz N) wl (fun e => ?_) (fun e => ?_)
      · exact ut_t123 (by omega) (ut_fin1 (h0 (fun x => by omega)))
      · exact ut_t123 (by omega) (ut_fin0 (h1 ⟨ha', Classical.not_not.mp (fun x => h ⟨ha', x⟩), by omega⟩))
    · exact ut_t123 (by omega) (ut_fin1 (h0 (fun x => h.2 x.2.1)))
  by_cases k : o = 1
  · subst k
    rw [ut_fit_1] at h1 h0
    have ha' : a ≤ 5 := ha.2
    refine ut_h123 (by omega) (br_t rfl ?_)
    refine pk_eq (ut_sz N) wl (fun e => ?_) (fun e => ?_)
    · exact ut_t144 (by omega) (ut_fin1 (h0 (fun x => by omega)))
    · exact ut_t144 (by omega) (ut_fin0 (h1 ⟨ha', by omega⟩))
  by_cases k : o = 2
  · subst k
    rw [ut_fit_2] at h1 h0
    have ha' : a ≤ 5 := ha.2
    rw [ut_wA_n ha'] at h7
    refine ut_h144 (by omega) (br_t rfl ?_)
    refine pk_eq (ut_sz N) 0 (fun e => ?_) (fun e => ?_)
    · exact ut_t201 (by omega) (ut_fin1 (h0 (fun x => by omega)))
    · rw [show (128 : Int32) + nI (ut_sz N) = nI (128 + ut_sz N) from nI_add 128 _, ut_s1 (by omega), show 128 + ut_sz N - 1 = 128 + (ut_sz N - 1) by omega]
      refine ⟨vp_in_nI (by omega) (by omega), ?_⟩
      rw [nI_clamp (by omega)]
      have k4 : b_kinds (128 + (ut_sz N - 1)) = 4 ↔ ut_nok N (ut_sz N - 1 + 1) := ut_FS_data hF (i := ut_sz N - 1) (by omega)
      rw [show ut_sz N - 1 + 1 = ut_sz N by omega] at k4
      by_cases z : b_kinds (128 + (ut_sz N - 1)) = 4
      · refine br_t z (ut_bb h7 (fun w => ?_) (fun w => ?_))
        · refine ut_t201 (by omega) (ut_fin1 (h0 (fun x => ?_)))
          rcases x.2.2 with y | y
          · exact w y.2
          · exact k4.mp z a (by omega) y.2
        · exact ut_t201 (by omega) (ut_fin0 (h1 ⟨ha', by omega, Or.inl ⟨k4.mp z, w⟩⟩))
      · refine br_f z ⟨vp_in_nI (by omega) (by omega), ?_⟩
        obtain ⟨r, hr, er'⟩ := hF.2.2.2.2 (ut_sz N - 1) (by omega)
        have er : b_kinds (128 + (ut_sz N - 1)) = nI r := er'
        have hr4 : r < 4 := by
          rcases Nat.lt_or_ge r 4 with y | y
          · exact y
          · rw [show r = 4 by omega] at er; exact absurd er z
        have q1 := (hF.2.2.2.1 r hr4 (ut_sz N - 1) (by omega)).mp er
        rw [er]
        refine pk_eq r a (fun y => ?_) (fun y => ?_)
        · exact ut_t201 (by omega) (ut_fin0 (h1 ⟨ha', by omega, Or.inr ⟨by omega, by rw [← y]; omega⟩⟩))
        · refine ut_t201 (by omega) (ut_fin1 (h0 (fun x => ?_)))
          rcases x.2.2 with w | w
          · exact z (k4.mpr w.1)
          · have q2 := (hF.2.2.2.1 a (by omega) (ut_sz N - 1) (by omega)).mpr (by omega)
            have q3 : b_kinds (128 + (ut_sz N - 1)) = nI a := q2
            rw [er, nI_eq (by omega) (by omega)] at q3
            exact y q3
  by_cases k : o = 3
  · subst k
    rw [ut_fit_3] at h1 h0
    have ha1 : 1 ≤ a := ha.1
    have ha' : a ≤ 8 := ha.2
    refine ut_h201 (by omega) (br_t rfl ?_)
    rw [nI_add]
    refine pk_le (ut_sz N + a) wl (fun e => ?_) (fun e => ?_)
    · exact ut_t224 (by omega) (ut_fin0 (h1 ⟨ha1, ha', e⟩))
    · exact ut_t224 (by omega) (ut_fin1 (h0 (fun x => by omega)))
  by_cases k : o = 4
  · subst k
    have ha1 : 1 ≤ a := ha.1
    have ha' : a ≤ 8 := ha.2
    refine ut_h224 (by omega) (br_t rfl ?_)
    refine pk_le a (ut_sz N) (fun e => ?_) (fun e => ?_)
    · refine nm_r (pk_sub e) ⟨a + 1, ut_y243 hw hF ⟨ha1, ha'⟩ e h1 h0 a (ut_sz N - a) 0 (by omega) (Nat.le_refl _) (ut_b0 (fun ⟨j, j1, j2, _⟩ => by omega))⟩
    · rw [ut_fit_4] at h0
      exact h0 (fun x => by omega)
  by_cases k : o = 5
  · subst k
    rw [ut_fit_5] at h1 h0
    have ha' : a ≤ 3 := ha.2
    rw [ut_kA_n (by omega)] at h6
    refine ut_h273 (by omega) (br_t rfl ?_)
    refine ut_bb h6 (fun h => ut_bb h9 (fun w => ?_) (fun w => ?_)) (fun h => ?_)
    · exact ut_t295 (by omega) (ut_fin1 (h0 (fun x => w x.2.2)))
    · exact ut_t295 (by omega) (ut_fin0 (h1 ⟨ha', Classical.not_not.mp (fun x => h ⟨ha', x⟩), w⟩))
    · exact ut_t295 (by omega) (ut_fin1 (h0 (fun x => h.2 x.2.1)))
  by_cases k : o = 6
  · subst k
    rw [ut_fit_6] at h1 h0
    have ha' : a ≤ 3 := ha.2
    rw [ut_kA_n (by omega)] at h6
    refine ut_h295 (by omega) (br_t rfl ?_)
    refine ut_bb h6 (fun h => ?_) (fun h => ?_)
    · exact ut_t313 (by omega) (ut_fin1 (h0 h))
    · exact ut_t313 (by omega) (ut_fin0 (h1 h))
  by_cases k : o = 7
  · subst k
    rw [ut_fit_7] at h1 h0
    have ha' : a ≤ 5 := ha.2
    rw [ut_wA_n ha'] at h7
    refine ut_h313 (by omega) (br_t rfl ?_)
    refine ut_bb h7 (fun h => ?_) (fun h => ut_bb h8 (fun w => ?_) (fun w => ?_))
    · exact ut_t336 (by omega) (ut_fin1 (h0 (fun x => h x.1)))
    · exact ut_t336 (by omega) (ut_fin1 (h0 (fun x => w x.2)))
    · exact ut_t336 (by omega) (ut_fin0 (h1 ⟨h, w⟩))
  by_cases k : o = 8
  · subst k
    rw [ut_fit_8] at h1 h0
    have ha' : a ≤ 5 := ha.2
    refine ut_h336 (by omega) (br_t rfl ?_)
    refine ut_bb h9 (fun w => ?_) (fun w => ?_)
    · exact ut_t354 (by omega) (ut_fin1 (h0 (fun x => w x.2)))
    · exact ut_t354 (by omega) (ut_fin0 (h1 ⟨ha', w⟩))
  by_cases k : o = 12
  · subst k
    rw [ut_fit_12] at h1 h0
    have hh : a ≤ fl - 1 := ha.2
    have := h12 rfl
    exact ut_h384 (by omega) (ut_t384 (by omega) (ut_fin0 (h1 (by omega))))
  · have ha' : a ≤ 5 := by
      have h5 : ut_hi fl o = 5 := by
        unfold ut_hi
        rw [if_neg (by omega), if_neg (by omega), if_neg (by omega)]
      omega
    rw [ut_wA_n ha'] at h7
    have hiff : ut_fit fl wl o a b N ↔ ut_wr N a := by
      have k3 : o = 9 ∨ o = 10 ∨ o = 11 := by omega
      rcases k3 with rfl | rfl | rfl
      · exact ut_fit_9
      · exact ut_fit_10
      · rw [ut_fit_11]
        exact ⟨fun x => x.1, fun x => ⟨x, hb2 rfl⟩⟩
    rw [hiff] at h1 h0
    have G : wY_refusal_372 post (nI o) (nI (ut_sz N)) x7 g_codeLimit g_functionsLimit g_depthLimit (nI wl) g_used g_open g_depth g_reachable b_cellOp b_cellA b_cellB b_regs b_kinds b_count b_values b_function b_address b_atCall :=
      ut_bb h7 (fun w => ut_t384 (by omega) (ut_fin1 (h0 w))) (fun w => ut_t384 (by omega) (ut_fin0 (h1 w)))
    refine ut_h354 (by omega) ?_
    by_cases k9 : o = 9
    · subst k9; exact br_t rfl G
    · refine br_f (ut_ne (k := 9) k9 (by omega) (by omega)) ?_
      by_cases k10 : o = 10
      · subst k10; exact br_t rfl G
      · have k11 : o = 11 := by omega
        subst k11
        exact br_f (by decide) (br_t rfl G)
theorem ut_yrf13 (hw : wl ≤ 8) (hc : b_count 16 = nI (ut_sz N)) (hF : ut_FS wl N (fun j => b_kinds (16 * 8 + j))) (h1 : ut_sz N = 0 → post 0) (h0 : ut_sz N ≠ 0 → post 5) : wpY_refusal post (g_codeLimit, g_functionsLimit, g_depthLimit, g_wordsLimit, g_used, g_open, g_depth, g_reachable, b_cellOp, b_cellA, b_cellB, b_regs, b_kinds, b_count, b_values, b_function, b_address, b_atCall) (nI 13) x b := by
  have hs := hF.2.1
  refine ut_yr0 hw hc hF (fun x6 x7 x8 x9 h6 h7 h8 h9 => ?_)
  refine ut_h384 (by omega) (br_t rfl ?_)
  refine pk_eq (ut_sz N) 0 (fun e => ?_) (fun e => ?_)
  · exact ut_t402 (by omega) (ut_fin0 (h1 e))
  · exact ut_t402 (by omega) (ut_fin1 (h0 e))
theorem ut_yrf14 {oc : Nat} (hw : wl ≤ 8) (hc : b_count 16 = nI (ut_sz N)) (hF : ut_FS wl N (fun j => b_kinds (16 * 8 + j))) (ho : o = 14 ∨ o = 15) (hoc : oc ≤ 4) (h1 : oc < 4 → post 0) (h0 : oc = 4 → post 6) : wpY_refusal post (g_codeLimit, g_functionsLimit, g_depthLimit, g_wordsLimit, g_used, (nI oc), g_depth, g_reachable, b_cellOp, b_cellA, b_cellB, b_regs, b_kinds, b_count, b_values, b_function, b_address, b_atCall) (nI o) x b := by
  refine ut_yr0 hw hc hF (fun x6 x7 x8 x9 h6 h7 h8 h9 => ?_)
  refine ut_h402 (by omega) ?_
  have G : wY_refusal_414 post (nI o) 0 g_codeLimit g_functionsLimit g_depthLimit g_wordsLimit g_used (nI oc) g_depth g_reachable b_cellOp b_cellA b_cellB b_regs b_kinds b_count b_values b_function b_address b_atCall :=
    pk_eq oc 4 h0 (fun e => br_f (ut_ne (k := 16) (by omega) (by omega) (by omega)) (ut_fin0 (h1 (by omega))))
  rcases ho with rfl | rfl
  · exact br_t rfl G
  · exact br_f (by decide) (br_t rfl G)
theorem ut_yrf16 {oc M : Nat} (hw : wl ≤ 8) (hc : b_count 16 = nI (ut_sz N)) (hF : ut_FS wl N (fun j => b_kinds (16 * 8 + j))) (hoc : oc ≤ 4)
    (hd : 0 < oc → b_count (17 + (oc - 1)) = nI (ut_sz M)) (hG : 0 < oc → ut_FS wl M (fun j => b_kinds ((17 + (oc - 1)) * 8 + j))) (hr : g_reachable = 0 ∨ g_reachable = 1)
    (h6 : oc = 0 → post 6) (h0 : 0 < oc → (g_reachable = 1 → N = M) → post 0) (h5 : 0 < oc → g_reachable = 1 → N ≠ M → post 5) : wpY_refusal post (g_codeLimit, g_functionsLimit, g_depthLimit, g_wordsLimit, g_used, (nI oc), g_depth, g_reachable, b_cellOp, b_cellA, b_cellB, b_regs, b_kinds, b_count, b_values, b_function, b_address, b_atCall) (nI 16) x b := by
  refine ut_yr0 hw hc hF (fun x6 x7 x8 x9 _ h7 h8 h9 => ?_)
  refine ut_h402 (by omega) ?_
  refine br_f (by decide) (br_f (by decide) (br_t rfl ?_))
  refine pk_eq oc 0 h6 (fun e => ?_)
  rcases hr with rfl | rfl
  · exact br_t rfl (ut_fin0 (h0 (by omega) (fun x => absurd x (by decide))))
  · refine br_f (by decide) ?_
    rw [show (17 : Int32) + nI oc = nI (17 + oc) from nI_add 17 oc, ut_s1 (by omega), show 17 + oc - 1 = 17 + (oc - 1) by omega]
    refine ut_ysl (x := 16) hw (by omega) (by omega) hc (hd (by omega)) hF (hG (by omega)) (fun k => ?_) (fun k => ?_)
    · exact br_f (by decide) (ut_fin0 (h0 (by omega) (fun _ => k)))
    · exact br_t rfl (ut_fin1 (h5 (by omega) rfl k))
end UT18
end
section
/-! X's append, rules, flow -/
section UT19
variable {f_SAVE f_PUSH f_POP f_ALLOC f_FREE f_KEEP f_BACK f_LOAD f_STORE f_SET f_ADDI f_ADD f_CALL f_RET f_IF f_WHILE f_END f_ADVANCE f_OFFSET f_REGISTER f_RESTORE f_REMEMBER f_RECALL f_codeLimit f_functionLimit f_depthLimit f_wordLimit f_used f_functionCount f_tableUsed f_ruleAddress f_now f_reachable f_openCount f_sp f_pc f_active f_walkPc f_walkSp f_walkBase f_walkState : Int32} {a_ops a_firsts a_seconds a_link a_codeStart a_tableStart a_table a_openCell a_openState a_regs a_stack a_memory a_seen : Nat → Int32}
def ut_fv (o : Nat) (p1 : Int32) : Int32 := if o = 13 ∨ o = 16 then 0 else p1
def ut_sv (o : Nat) (p2 : Int32) : Int32 := if o = 5 ∨ (7 ≤ o ∧ o ≤ 11) then p2 else 0
section D
variable {post : Int32 → Prop} {fl wl N a o : Nat} {p1 p2 : Int32} {K : Nat → Int32}
theorem ut_xdst (hF : ut_FS wl N K) (ho : o ≤ 12) (hf : ut_fit fl wl o a (ut_sv o p2) N) (p : post (nI (ut_dst o a (ut_sv o p2) N))) : wpX_distance post (f_SAVE, f_PUSH, f_POP, f_ALLOC, f_FREE, f_KEEP, f_BACK, f_LOAD, f_STORE, f_SET, f_ADDI, f_ADD, f_CALL, f_RET, f_IF, f_WHILE, f_END, f_ADVANCE, f_OFFSET, f_REGISTER, f_RESTORE, f_REMEMBER, f_RECALL, f_codeLimit, f_functionLimit, f_depthLimit, f_wordLimit, f_used, f_functionCount, f_tableUsed, f_ruleAddress, (nI N), f_reachable, f_openCount, f_sp, f_pc, f_active, f_walkPc, f_walkSp, f_walkBase, f_walkState, a_ops, a_firsts, a_seconds, a_link, a_codeStart, a_tableStart, a_table, a_openCell, a_openState, a_regs, a_stack, a_memory, a_seen) (nI o) (nI a) p2 := by
  have h16 := ut_sz_lt N
  have G : ∀ c, p2 = nI c → c < ut_sz N → (o = 5 ∨ o = 7 ∨ o = 8) → wX_distance_17 post p2 f_SAVE f_PUSH f_POP f_ALLOC f_FREE f_KEEP f_BACK f_LOAD f_STORE f_SET f_ADDI f_ADD f_CALL f_RET f_IF f_WHILE f_END f_ADVANCE f_OFFSET f_REGISTER f_RESTORE f_REMEMBER f_RECALL f_codeLimit f_functionLimit f_depthLimit f_wordLimit f_used f_functionCount f_tableUsed f_ruleAddress (nI N) f_reachable f_openCount f_sp f_pc f_active f_walkPc f_walkSp f_walkBase f_walkState a_ops a_firsts a_seconds a_link a_codeStart a_tableStart a_table a_openCell a_openState a_regs a_stack a_memory a_seen := by
    intro c hc hcs ho'
    subst hc
    rw [show ut_sv o (nI c) = nI c from if_pos (by omega)] at p
    rw [show ut_dst o a (nI c) N = ut_sz N - c by unfold ut_dst; rw [if_pos ho', nI_clamp (by omega)]] at p
    unfold wX_distance_17
    refine ut_xsz hF.1 ?_
    rw [pk_sub (by omega)]
    exact p
  refine pk_eq o 5 (fun e => ?_) (fun e5 => pk_eq o 7 (fun e => ?_) (fun e7 => pk_eq o 8 (fun e => ?_) (fun e8 => pk_eq o 6 (fun e => ?_) (fun e6 => ?_))))
  · have hf' := hf
    subst e
    rw [ut_fit_5] at hf'
    obtain ⟨_, _, c, h1, h2, _⟩ := hf'
    exact G c h1 h2 (by omega)
  · have hf' := hf
    subst e
    rw [ut_fit_7] at hf'
    obtain ⟨_, c, h1, h2⟩ := hf'
    exact G c h1 h2 (by omega)
  · have hf' := hf
    subst e
    rw [ut_fit_8] at hf'
    obtain ⟨_, c, h1, h2, _⟩ := hf'
    exact G c h1 h2 (by omega)
  · subst e
    rw [ut_fit_6] at hf
    have h3 := hF.2.2.1 a (by omega)
    refine ut_xsz hF.1 (ut_xpl hF.1 (by omega) (fun z => absurd z hf.2) (fun z => ?_))
    rw [pk_sub (by omega)]
    exact p
  · rw [show ut_dst o a (ut_sv o p2) N = 0 by unfold ut_dst; rw [if_neg (by omega), if_neg e6]] at p
    exact p
theorem ut_xdst0 (ho : 13 ≤ o ∧ o ≤ 16) (p : post 0) : wpX_distance post (f_SAVE, f_PUSH, f_POP, f_ALLOC, f_FREE, f_KEEP, f_BACK, f_LOAD, f_STORE, f_SET, f_ADDI, f_ADD, f_CALL, f_RET, f_IF, f_WHILE, f_END, f_ADVANCE, f_OFFSET, f_REGISTER, f_RESTORE, f_REMEMBER, f_RECALL, f_codeLimit, f_functionLimit, f_depthLimit, f_wordLimit, f_used, f_functionCount, f_tableUsed, f_ruleAddress, (nI N), f_reachable, f_openCount, f_sp, f_pc, f_active, f_walkPc, f_walkSp, f_walkBase, f_walkState, a_ops, a_firsts, a_seconds, a_link, a_codeStart, a_tableStart, a_table, a_openCell, a_openState, a_regs, a_stack, a_memory, a_seen) (nI o) p1 p2 :=
  br_f (ut_ne (k := 5) (by omega) (by omega) (by omega)) (br_f (ut_ne (k := 7) (by omega) (by omega) (by omega)) (br_f (ut_ne (k := 8) (by omega) (by omega) (by omega)) (br_f (ut_ne (k := 6) (by omega) (by omega) (by omega)) p)))
theorem ut_xns (ho : o ≤ 16) (p : ∀ r, ((r = 0 ∧ ut_sv o p2 = 0) ∨ (r = 1 ∧ ut_sv o p2 = p2)) → post r) : wpX_namesSecond post (f_SAVE, f_PUSH, f_POP, f_ALLOC, f_FREE, f_KEEP, f_BACK, f_LOAD, f_STORE, f_SET, f_ADDI, f_ADD, f_CALL, f_RET, f_IF, f_WHILE, f_END, f_ADVANCE, f_OFFSET, f_REGISTER, f_RESTORE, f_REMEMBER, f_RECALL, f_codeLimit, f_functionLimit, f_depthLimit, f_wordLimit, f_used, f_functionCount, f_tableUsed, f_ruleAddress, f_now, f_reachable, f_openCount, f_sp, f_pc, f_active, f_walkPc, f_walkSp, f_walkBase, f_walkState, a_ops, a_firsts, a_seconds, a_link, a_codeStart, a_tableStart, a_table, a_openCell, a_openState, a_regs, a_stack, a_memory, a_seen) (nI o) := by
  refine pk_eq o 5 (fun e => p 1 (Or.inr ⟨rfl, if_pos (by omega)⟩)) (fun e5 => ?_)
  refine pk_lt o 7 (fun e => p 0 (Or.inl ⟨rfl, if_neg (by omega)⟩)) (fun e7 => ?_)
  exact pk_lt 11 o (fun e => p 0 (Or.inl ⟨rfl, if_neg (by omega)⟩)) (fun e => p 1 (Or.inr ⟨rfl, if_pos (by omega)⟩))
end D
section S
variable {post : SX → Prop} {N U o : Nat} {p1 p2 d : Int32}
theorem ut_xapd (hU : U < 64) (ho : o ≤ 16)
    (Kd : ∀ (q : Int32 → Prop) (ops firsts seconds : Nat → Int32), q d → wpX_distance q (f_SAVE, f_PUSH, f_POP, f_ALLOC, f_FREE, f_KEEP, f_BACK, f_LOAD, f_STORE, f_SET, f_ADDI, f_ADD, f_CALL, f_RET, f_IF, f_WHILE, f_END, f_ADVANCE, f_OFFSET, f_REGISTER, f_RESTORE, f_REMEMBER, f_RECALL, f_codeLimit, f_functionLimit, f_depthLimit, f_wordLimit, (nI U), f_functionCount, f_tableUsed, f_ruleAddress, (nI N), f_reachable, f_openCount, f_sp, f_pc, f_active, f_walkPc, f_walkSp, f_walkBase, f_walkState, ops, firsts, seconds, a_link, a_codeStart, a_tableStart, a_table, a_openCell, a_openState, a_regs, a_stack, a_memory, a_seen) (nI o) p1 p2)
    (K : post (f_SAVE, f_PUSH, f_POP, f_ALLOC, f_FREE, f_KEEP, f_BACK, f_LOAD, f_STORE, f_SET, f_ADDI, f_ADD, f_CALL, f_RET, f_IF, f_WHILE, f_END, f_ADVANCE, f_OFFSET, f_REGISTER, f_RESTORE, f_REMEMBER, f_RECALL, f_codeLimit, f_functionLimit, f_depthLimit, f_wordLimit, (nI (U + 1)), f_functionCount, f_tableUsed, f_ruleAddress, (nI N), f_reachable, f_openCount, f_sp, f_pc, f_active, f_walkPc, f_walkSp, f_walkBase, f_walkState, (upd a_ops U (nI o)), (upd a_firsts U (ut_fv o p1)), (upd a_seconds U (ut_sv o p2)), (upd a_link U d), a_codeStart, a_tableStart, a_table, a_openCell, a_openState, a_regs, a_stack, a_memory, a_seen)) :
    wpX_append post (f_SAVE, f_PUSH, f_POP, f_ALLOC, f_FREE, f_KEEP, f_BACK, f_LOAD, f_STORE, f_SET, f_ADDI, f_ADD, f_CALL, f_RET, f_IF, f_WHILE, f_END, f_ADVANCE, f_OFFSET, f_REGISTER, f_RESTORE, f_REMEMBER, f_RECALL, f_codeLimit, f_functionLimit, f_depthLimit, f_wordLimit, (nI U), f_functionCount, f_tableUsed, f_ruleAddress, (nI N), f_reachable, f_openCount, f_sp, f_pc, f_active, f_walkPc, f_walkSp, f_walkBase, f_walkState, a_ops, a_firsts, a_seconds, a_link, a_codeStart, a_tableStart, a_table, a_openCell, a_openState, a_regs, a_stack, a_memory, a_seen) (nI o) p1 p2 := by
  have G53 : ∀ z0, z0 = ut_sv o p2 → wX_append_53 post (nI o) p1 p2 z0 (nI U) f_SAVE f_PUSH f_POP f_ALLOC f_FREE f_KEEP f_BACK f_LOAD f_STORE f_SET f_ADDI f_ADD f_CALL f_RET f_IF f_WHILE f_END f_ADVANCE f_OFFSET f_REGISTER f_RESTORE f_REMEMBER f_RECALL f_codeLimit f_functionLimit f_depthLimit f_wordLimit (nI U) f_functionCount f_tableUsed f_ruleAddress (nI N) f_reachable f_openCount f_sp f_pc f_active f_walkPc f_walkSp f_walkBase f_walkState (upd a_ops U (nI o)) (upd a_firsts U (ut_fv o p1)) a_seconds a_link a_codeStart a_tableStart a_table a_openCell a_openState a_regs a_stack a_memory a_seen := by
    rintro z0 rfl
    unfold wX_append_53
    refine ⟨vp_in_nI hU (by omega), ?_⟩
    rw [nI_clamp (by omega)]
    refine nm_e (Kd _ _ _ _ ⟨vp_in_nI hU (by omega), ?_⟩)
    exact nm_e (nm_r (nI_1 U) K)
  have G31 : ∀ z0, z0 = ut_fv o p1 → wX_append_31 post (nI o) p1 p2 z0 (nI U) f_SAVE f_PUSH f_POP f_ALLOC f_FREE f_KEEP f_BACK f_LOAD f_STORE f_SET f_ADDI f_ADD f_CALL f_RET f_IF f_WHILE f_END f_ADVANCE f_OFFSET f_REGISTER f_RESTORE f_REMEMBER f_RECALL f_codeLimit f_functionLimit f_depthLimit f_wordLimit (nI U) f_functionCount f_tableUsed f_ruleAddress (nI N) f_reachable f_openCount f_sp f_pc f_active f_walkPc f_walkSp f_walkBase f_walkState (upd a_ops U (nI o)) a_firsts a_seconds a_link a_codeStart a_tableStart a_table a_openCell a_openState a_regs a_stack a_memory a_seen := by
    rintro z0 rfl
    unfold wX_append_31
    refine ⟨vp_in_nI hU (by omega), ?_⟩
    rw [nI_clamp (by omega)]
    refine nm_e (ut_xns (p2 := p2) ho (fun r hr => ?_))
    rcases hr with ⟨rfl, e⟩ | ⟨rfl, e⟩
    · exact br_t rfl (G53 0 e.symm)
    · exact br_f (by decide) (G53 p2 e.symm)
  refine ⟨vp_in_nI hU (by omega), ?_⟩
  rw [nI_clamp (by omega)]
  refine nm_e (ut_xnf ho (fun e => ?_) (fun e e' => ?_))
  · exact br_t rfl (G31 0 (if_pos e).symm)
  · exact br_f (by decide) (G31 p1 (if_neg (by omega)).symm)
theorem ut_x52 {t R : Nat} (ht : t < 192) (hN : N < 1048576) (hR : ut_vr R) (h64 : 64 ≤ R)
    (K : post (f_SAVE, f_PUSH, f_POP, f_ALLOC, f_FREE, f_KEEP, f_BACK, f_LOAD, f_STORE, f_SET, f_ADDI, f_ADD, f_CALL, f_RET, f_IF, f_WHILE, f_END, f_ADVANCE, f_OFFSET, f_REGISTER, f_RESTORE, f_REMEMBER, f_RECALL, f_codeLimit, f_functionLimit, f_depthLimit, f_wordLimit, f_used, f_functionCount, (nI (t + 1)), f_ruleAddress, (nI (ut_app N R)), f_reachable, f_openCount, f_sp, f_pc, f_active, f_walkPc, f_walkSp, f_walkBase, f_walkState, a_ops, a_firsts, a_seconds, a_link, a_codeStart, a_tableStart, (upd a_table t (sb_b R)), a_openCell, a_openState, a_regs, a_stack, a_memory, a_seen)) : wX_addRule_52 post (nI R) f_SAVE f_PUSH f_POP f_ALLOC f_FREE f_KEEP f_BACK f_LOAD f_STORE f_SET f_ADDI f_ADD f_CALL f_RET f_IF f_WHILE f_END f_ADVANCE f_OFFSET f_REGISTER f_RESTORE f_REMEMBER f_RECALL f_codeLimit f_functionLimit f_depthLimit f_wordLimit f_used f_functionCount (nI t) f_ruleAddress (nI N) f_reachable f_openCount f_sp f_pc f_active f_walkPc f_walkSp f_walkBase f_walkState a_ops a_firsts a_seconds a_link a_codeStart a_tableStart a_table a_openCell a_openState a_regs a_stack a_memory a_seen := by
  unfold wX_addRule_52
  refine ⟨vp_in_nI ht (by omega), ?_⟩
  rw [nI_clamp (by omega), pk_vb]
  exact nm_e (nm_r (nI_1 t) (ut_xap hN hR h64 K))
theorem ut_xar2 {t R V : Nat} (ht : t < 192) (hV : V ≤ 64) (hN : N < 1048576) (hR : ut_vr R) (h64 : 64 ≤ R)
    (K : post (f_SAVE, f_PUSH, f_POP, f_ALLOC, f_FREE, f_KEEP, f_BACK, f_LOAD, f_STORE, f_SET, f_ADDI, f_ADD, f_CALL, f_RET, f_IF, f_WHILE, f_END, f_ADVANCE, f_OFFSET, f_REGISTER, f_RESTORE, f_REMEMBER, f_RECALL, f_codeLimit, f_functionLimit, f_depthLimit, f_wordLimit, (nI V), f_functionCount, (nI (t + 1)), (nI V), (nI (ut_app N R)), f_reachable, f_openCount, f_sp, f_pc, f_active, f_walkPc, f_walkSp, f_walkBase, f_walkState, a_ops, a_firsts, a_seconds, a_link, a_codeStart, a_tableStart, (upd a_table t (sb_b R)), a_openCell, a_openState, a_regs, a_stack, a_memory, a_seen)) : wpX_addRule post (f_SAVE, f_PUSH, f_POP, f_ALLOC, f_FREE, f_KEEP, f_BACK, f_LOAD, f_STORE, f_SET, f_ADDI, f_ADD, f_CALL, f_RET, f_IF, f_WHILE, f_END, f_ADVANCE, f_OFFSET, f_REGISTER, f_RESTORE, f_REMEMBER, f_RECALL, f_codeLimit, f_functionLimit, f_depthLimit, f_wordLimit, (nI V), f_functionCount, (nI t), (nI V), (nI N), f_reachable, f_openCount, f_sp, f_pc, f_active, f_walkPc, f_walkSp, f_walkBase, f_walkState, a_ops, a_firsts, a_seconds, a_link, a_codeStart, a_tableStart, a_table, a_openCell, a_openState, a_regs, a_stack, a_memory, a_seen) (nI R) :=
  br_t (nI_le (Nat.le_refl _) (by omega)) (ut_x52 ht hN hR h64 K)
theorem ut_xar1 {t ra R : Nat} (ht : t + 1 < 192) (hU : U < 64) (hra : ra ≤ U) (hN : N < 1048576) (hR : ut_vr R) (h64 : 64 ≤ R)
    (K : post (f_SAVE, f_PUSH, f_POP, f_ALLOC, f_FREE, f_KEEP, f_BACK, f_LOAD, f_STORE, f_SET, f_ADDI, f_ADD, f_CALL, f_RET, f_IF, f_WHILE, f_END, f_ADVANCE, f_OFFSET, f_REGISTER, f_RESTORE, f_REMEMBER, f_RECALL, f_codeLimit, f_functionLimit, f_depthLimit, f_wordLimit, (nI (U + 1)), f_functionCount, (nI (t + 2)), (nI (U + 1)), (nI (ut_app N R)), f_reachable, f_openCount, f_sp, f_pc, f_active, f_walkPc, f_walkSp, f_walkBase, f_walkState, a_ops, a_firsts, a_seconds, a_link, a_codeStart, a_tableStart, (upd (upd a_table t (sb_b (U - ra))) (t + 1) (sb_b R)), a_openCell, a_openState, a_regs, a_stack, a_memory, a_seen)) :
    wpX_addRule post (f_SAVE, f_PUSH, f_POP, f_ALLOC, f_FREE, f_KEEP, f_BACK, f_LOAD, f_STORE, f_SET, f_ADDI, f_ADD, f_CALL, f_RET, f_IF, f_WHILE, f_END, f_ADVANCE, f_OFFSET, f_REGISTER, f_RESTORE, f_REMEMBER, f_RECALL, f_codeLimit, f_functionLimit, f_depthLimit, f_wordLimit, (nI (U + 1)), f_functionCount, (nI t), (nI ra), (nI N), f_reachable, f_openCount, f_sp, f_pc, f_active, f_walkPc, f_walkSp, f_walkBase, f_walkState, a_ops, a_firsts, a_seconds, a_link, a_codeStart, a_tableStart, a_table, a_openCell, a_openState, a_regs, a_stack, a_memory, a_seen) (nI R) := by
  refine br_f (nI_ge (by omega) (by omega)) ⟨vp_in_nI (by omega) (by omega), ?_⟩
  have e : ((0 : Int32) + nI (U + 1)) - nI ra - 1 = nI (U - ra) := by
    rw [Int32.zero_add, pk_sub (by omega), ut_s1 (by omega)]
    exact congrArg nI (by omega)
  rw [nI_clamp (by omega), e, pk_vb]
  exact nm_e (nm_r (nI_1 t) (ut_x52 (t := t + 1) ht hN hR h64 K))
end S
section C
variable {post : SX → Prop} {T S OC CS TS : Nat → Nat} {fl wl U fc oc t ra o a : Nat} {p2 : Int32} {K : Nat → Int32}
def ut_cfK (post : SX → Prop) (T S OC CS TS : Nat → Nat) (U fc oc M : Nat) (f_SAVE f_PUSH f_POP f_ALLOC f_FREE f_KEEP f_BACK f_LOAD f_STORE f_SET f_ADDI f_ADD f_CALL f_RET f_IF f_WHILE f_END f_ADVANCE f_OFFSET f_REGISTER f_RESTORE f_REMEMBER f_RECALL f_codeLimit f_functionLimit f_depthLimit f_wordLimit f_used f_functionCount f_tableUsed f_ruleAddress f_now f_reachable f_openCount f_sp f_pc f_active f_walkPc f_walkSp f_walkBase f_walkState : Int32) (a_ops a_firsts a_seconds a_link a_codeStart a_tableStart a_table a_openCell a_openState a_regs a_stack a_memory a_seen : Nat → Int32) : Prop :=
  ∀ T' t' ra' tab', sb_Lat T' t' tab' → ut_tab T' (ut_un S (U + 1) M) OC CS TS (U + 1) fc oc t' ra' → post (f_SAVE, f_PUSH, f_POP, f_ALLOC, f_FREE, f_KEEP, f_BACK, f_LOAD, f_STORE, f_SET, f_ADDI, f_ADD, f_CALL, f_RET, f_IF, f_WHILE, f_END, f_ADVANCE, f_OFFSET, f_REGISTER, f_RESTORE, f_REMEMBER, f_RECALL, f_codeLimit, f_functionLimit, f_depthLimit, f_wordLimit, (nI (U + 1)), f_functionCount, (nI t'), (nI ra'), (nI M), f_reachable, f_openCount, f_sp, f_pc, f_active, f_walkPc, f_walkSp, f_walkBase, f_walkState, a_ops, a_firsts, a_seconds, a_link, a_codeStart, a_tableStart, tab', a_openCell, a_openState, a_regs, a_stack, a_memory, a_seen)
theorem ut_xcf1 {R : Nat} (H : ut_tab T S OC CS TS U fc oc t ra) (hN : S U < 1048576) (hU : U < 64) (hC : ∀ f, f ≤ fc → CS f ≤ U) (hO : ∀ k, k < oc → OC k ≤ U) (hL : sb_Lat T t a_table) (hR : ut_vr R) (h64 : 64 ≤ R) (hR2 : R < 196)
    (Kk : ut_cfK post T S OC CS TS U fc oc (ut_app (S U) R) f_SAVE f_PUSH f_POP f_ALLOC f_FREE f_KEEP f_BACK f_LOAD f_STORE f_SET f_ADDI f_ADD f_CALL f_RET f_IF f_WHILE f_END f_ADVANCE f_OFFSET f_REGISTER f_RESTORE f_REMEMBER f_RECALL f_codeLimit f_functionLimit f_depthLimit f_wordLimit f_used f_functionCount f_tableUsed f_ruleAddress f_now f_reachable f_openCount f_sp f_pc f_active f_walkPc f_walkSp f_walkBase f_walkState a_ops a_firsts a_seconds a_link a_codeStart a_tableStart a_table a_openCell a_openState a_regs a_stack a_memory a_seen) : wpX_addRule post (f_SAVE, f_PUSH, f_POP, f_ALLOC, f_FREE, f_KEEP, f_BACK, f_LOAD, f_STORE, f_SET, f_ADDI, f_ADD, f_CALL, f_RET, f_IF, f_WHILE, f_END, f_ADVANCE, f_OFFSET, f_REGISTER, f_RESTORE, f_REMEMBER, f_RECALL, f_codeLimit, f_functionLimit, f_depthLimit, f_wordLimit, (nI (U + 1)), f_functionCount, (nI t), (nI ra), (nI (S U)), f_reachable, f_openCount, f_sp, f_pc, f_active, f_walkPc, f_walkSp, f_walkBase, f_walkState, a_ops, a_firsts, a_seconds, a_link, a_codeStart, a_tableStart, a_table, a_openCell, a_openState, a_regs, a_stack, a_memory, a_seen) (nI R) := by
  have h3 := H.1.1
  have h4 := H.1.2.2.2
  exact ut_xar1 (by omega) hU h4 hN hR h64 (Kk _ _ _ _ (ut_lat2 hL hU (by omega)) (ut_tab_1 H hU hC hO hR h64 hR2))
theorem ut_xcf2 {R1 R2 : Nat} (H : ut_tab T S OC CS TS U fc oc t ra) (hN : S U < 1048576) (hU : U < 64) (hC : ∀ f, f ≤ fc → CS f ≤ U) (hO : ∀ k, k < oc → OC k ≤ U) (hL : sb_Lat T t a_table) (hR : ut_vr R1) (h64 : 64 ≤ R1) (hR2 : R1 < 196)
    (kR : ut_vr R2) (k64 : 64 ≤ R2) (kR2 : R2 < 196) (q : SX → Prop) (hq : ∀ u, q u → wpX_addRule post u (nI R2) → True)
    (Kk : ut_cfK post T S OC CS TS U fc oc (ut_app (ut_app (S U) R1) R2) f_SAVE f_PUSH f_POP f_ALLOC f_FREE f_KEEP f_BACK f_LOAD f_STORE f_SET f_ADDI f_ADD f_CALL f_RET f_IF f_WHILE f_END f_ADVANCE f_OFFSET f_REGISTER f_RESTORE f_REMEMBER f_RECALL f_codeLimit f_functionLimit f_depthLimit f_wordLimit f_used f_functionCount f_tableUsed f_ruleAddress f_now f_reachable f_openCount f_sp f_pc f_active f_walkPc f_walkSp f_walkBase f_walkState a_ops a_firsts a_seconds a_link a_codeStart a_tableStart a_table a_openCell a_openState a_regs a_stack a_memory a_seen)
    (Q : wpX_addRule post (f_SAVE, f_PUSH, f_POP, f_ALLOC, f_FREE, f_KEEP, f_BACK, f_LOAD, f_STORE, f_SET, f_ADDI, f_ADD, f_CALL, f_RET, f_IF, f_WHILE, f_END, f_ADVANCE, f_OFFSET, f_REGISTER, f_RESTORE, f_REMEMBER, f_RECALL, f_codeLimit, f_functionLimit, f_depthLimit, f_wordLimit, (nI (U + 1)), f_functionCount, (nI (t + 2)), (nI (U + 1)), (nI (ut_app (S U) R1)), f_reachable, f_openCount, f_sp, f_pc, f_active, f_walkPc, f_walkSp, f_walkBase, f_walkState, a_ops, a_firsts, a_seconds, a_link, a_codeStart, a_tableStart, (upd (upd a_table t (sb_b (U - ra))) (t + 1) (sb_b R1)), a_openCell, a_openState, a_regs, a_stack, a_memory, a_seen) (nI R2) → q (f_SAVE, f_PUSH, f_POP, f_ALLOC, f_FREE, f_KEEP, f_BACK, f_LOAD, f_STORE, f_SET, f_ADDI, f_ADD, f_CALL, f_RET, f_IF, f_WHILE, f_END, f_ADVANCE, f_OFFSET, f_REGISTER, f_RESTORE, f_REMEMBER, f_RECALL, f_codeLimit, f_functionLimit, f_depthLimit, f_wordLimit, (nI (U + 1)), f_functionCount, (nI (t + 2)), (nI (U + 1)), (nI (ut_app (S U) R1)), f_reachable, f_openCount, f_sp, f_pc, f_active, f_walkPc, f_walkSp, f_walkBase, f_walkState, a_ops, a_firsts, a_seconds, a_link, a_codeStart, a_tableStart, (upd (upd a_table t (sb_b (U - ra))) (t + 1) (sb_b R1)), a_openCell, a_openState, a_regs, a_stack, a_memory, a_seen)) :
    wpX_addRule q (f_SAVE, f_PUSH, f_POP, f_ALLOC, f_FREE, f_KEEP, f_BACK, f_LOAD, f_STORE, f_SET, f_ADDI, f_ADD, f_CALL, f_RET, f_IF, f_WHILE, f_END, f_ADVANCE, f_OFFSET, f_REGISTER, f_RESTORE, f_REMEMBER, f_RECALL, f_codeLimit, f_functionLimit, f_depthLimit, f_wordLimit, (nI (U + 1)), f_functionCount, (nI t), (nI ra), (nI (S U)), f_reachable, f_openCount, f_sp, f_pc, f_active, f_walkPc, f_walkSp, f_walkBase, f_walkState, a_ops, a_firsts, a_seconds, a_link, a_codeStart, a_tableStart, a_table, a_openCell, a_openState, a_regs, a_stack, a_memory, a_seen) (nI R1) := by
  have h3 := H.1.1
  have h4 := H.1.2.2.2
  refine ut_xar1 (by omega) hU h4 hN hR h64 (Q ?_)
  refine ut_xar2 (by omega) (by omega) (ut_app_lt hN hR h64) kR k64 ?_
  exact Kk _ _ _ _ (ut_lat1 (ut_lat2 hL hU (by omega)) (by omega)) (ut_tab_2 H hU hC hO hR h64 hR2 kR k64 kR2)
theorem ut_xcf (H : ut_tab T S OC CS TS U fc oc t ra) (hF : ut_FS wl (S U) K) (hw : wl ≤ 8) (hU : U < 64) (hC : ∀ f, f ≤ fc → CS f ≤ U) (hO : ∀ k, k < oc → OC k ≤ U) (hL : sb_Lat T t a_table) (ho : o ≤ 12) (hf : ut_fit fl wl o a (ut_sv o p2) (S U))
    (Kk : ut_cfK post T S OC CS TS U fc oc (ut_eff o a (ut_sv o p2) (S U)) f_SAVE f_PUSH f_POP f_ALLOC f_FREE f_KEEP f_BACK f_LOAD f_STORE f_SET f_ADDI f_ADD f_CALL f_RET f_IF f_WHILE f_END f_ADVANCE f_OFFSET f_REGISTER f_RESTORE f_REMEMBER f_RECALL f_codeLimit f_functionLimit f_depthLimit f_wordLimit f_used f_functionCount f_tableUsed f_ruleAddress f_now f_reachable f_openCount f_sp f_pc f_active f_walkPc f_walkSp f_walkBase f_walkState a_ops a_firsts a_seconds a_link a_codeStart a_tableStart a_table a_openCell a_openState a_regs a_stack a_memory a_seen) : wpX_changeFrame post (f_SAVE, f_PUSH, f_POP, f_ALLOC, f_FREE, f_KEEP, f_BACK, f_LOAD, f_STORE, f_SET, f_ADDI, f_ADD, f_CALL, f_RET, f_IF, f_WHILE, f_END, f_ADVANCE, f_OFFSET, f_REGISTER, f_RESTORE, f_REMEMBER, f_RECALL, f_codeLimit, f_functionLimit, f_depthLimit, f_wordLimit, (nI (U + 1)), f_functionCount, (nI t), (nI ra), (nI (S U)), f_reachable, f_openCount, f_sp, f_pc, f_active, f_walkPc, f_walkSp, f_walkBase, f_walkState, a_ops, a_firsts, a_seconds, a_link, a_codeStart, a_tableStart, a_table, a_openCell, a_openState, a_regs, a_stack, a_memory, a_seen) (nI o) (nI a) p2 := by
  have h16 := ut_sz_lt (S U)
  have hs := hF.2.1
  unfold wpX_changeFrame
  dsimp only
  refine ut_xsz hF.1 ?_
  refine br_f (nI_pos (by omega)) ?_
  by_cases k7 : 7 ≤ o
  · refine br_t (nI_lt (a := 6) (by omega) (by omega)) ?_
    have e : ut_eff o a (ut_sv o p2) (S U) = S U := by
      unfold ut_eff
      rw [if_neg (by omega), if_neg (by omega), if_neg (by omega), if_neg (by omega), if_neg (by omega), if_neg (by omega), if_neg (by omega)]
    rw [e] at Kk
    exact Kk _ _ _ _ hL (ut_tab_0 H hC hO)
  refine br_f (nI_nlt (b := o) (a := 6) (by omega) (by omega)) ?_
  by_cases k : o = 0
  · subst k
    rw [ut_fit_0] at hf
    refine br_t rfl ?_
    have e1 : (64 + nI (ut_sz (S U))) + 1 = nI (64 + (ut_sz (S U) + 1)) := by rw [show (64 : Int32) = nI 64 from rfl, nI_add, nI_1]; rfl
    have e2 : (128 + 8 * nI a) + nI (ut_sz (S U)) = nI (128 + 8 * a + ut_sz (S U)) := by
      rw [show (128 : Int32) = nI 128 from rfl, show (8 : Int32) = nI 8 from rfl, pk_mul, nI_add, nI_add]
    rw [e1]
    have e3 : ut_eff 0 a (ut_sv 0 p2) (S U) = ut_app (ut_app (S U) (64 + (ut_sz (S U) + 1))) (128 + 8 * a + ut_sz (S U)) := by
      rw [ut_app_o (by omega), ut_app_k (by omega) (by omega)]; rfl
    rw [e3] at Kk
    refine ut_xcf2 (R2 := 128 + 8 * a + ut_sz (S U)) H hF.1 hU hC hO hL (Or.inr (Or.inl (by omega))) (by omega) (by omega) (Or.inr (Or.inr (Or.inl (by omega)))) (by omega) (by omega) _ (fun _ _ _ => trivial) Kk (fun z => ?_)
    dsimp only
    rw [e2]
    exact z
  refine br_f (ut_ne (k := 0) k (by omega) (by omega)) ?_
  by_cases k : o = 1
  · subst k
    rw [ut_fit_1] at hf
    refine br_t rfl ?_
    have e1 : (64 + nI (ut_sz (S U))) + 1 = nI (64 + (ut_sz (S U) + 1)) := by rw [show (64 : Int32) = nI 64 from rfl, nI_add, nI_1]; rfl
    rw [e1]
    have e3 : ut_eff 1 a (ut_sv 1 p2) (S U) = ut_app (S U) (64 + (ut_sz (S U) + 1)) := by
      rw [ut_app_o (by omega)]; rfl
    rw [e3] at Kk
    exact ut_xcf1 H hF.1 hU hC hO hL (Or.inr (Or.inl (by omega))) (by omega) (by omega) Kk
  refine br_f (ut_ne (k := 1) k (by omega) (by omega)) ?_
  by_cases k : o = 2
  · subst k
    rw [ut_fit_2] at hf
    obtain ⟨ha, h0, hk⟩ := hf
    refine br_t rfl ?_
    rw [ut_s1 h0]
    unfold wpX_changeByPop
    dsimp only
    refine ut_xkd hF.1 (by omega) ?_
    have hk4 := ut_kd4 (S U) (ut_sz (S U) - 1)
    have hkl := ut_kd_le (S U) (ut_sz (S U) - 1)
    rw [show ut_sz (S U) - 1 + 1 = ut_sz (S U) by omega] at hk4
    rw [show (64 : Int32) + nI (ut_sz (S U) - 1) = nI (64 + (ut_sz (S U) - 1)) from nI_add 64 _]
    have e2 : ut_eff 2 a (ut_sv 2 p2) (S U) = (if a < 4 ∧ ut_pl (S U) a = ut_sz (S U) then ut_sp (ut_ss (S U) (ut_sz (S U) - 1)) a 0 else ut_ss (S U) (ut_sz (S U) - 1)) := rfl
    rw [e2] at Kk
    by_cases z : ut_kd (S U) (ut_sz (S U) - 1) = 4
    · have hn := hk4.mp z
      rw [if_neg (fun x => hn a x.1 x.2), ← ut_app_o (m := ut_sz (S U) - 1) (by omega)] at Kk
      rw [z]
      refine ut_xcf1 (f_used := f_used) (f_tableUsed := f_tableUsed) (f_ruleAddress := f_ruleAddress) (f_now := f_now) H hF.1 hU hC hO hL (Or.inr (Or.inl (by omega))) (by omega) (by omega) ?_
      intro T' t' ra' tab' h1 h2
      exact br_t rfl (Kk T' t' ra' tab' h1 h2)
    · have hp := ut_kd_pl (N := S U) (k := ut_sz (S U) - 1) (by omega)
      have q1 := (hF.2.2.2.1 _ (show ut_kd (S U) (ut_sz (S U) - 1) < 4 by omega) (ut_sz (S U) - 1) (by omega)).mpr hp
      have hnn : ¬ ut_nok (S U) (ut_sz (S U)) := fun x => z (hk4.mpr x)
      have ha3 : a ≤ 3 ∧ ut_pl (S U) a = ut_sz (S U) := hk.elim (fun x => absurd x.1 hnn) (fun x => x)
      have q2 := (hF.2.2.2.1 a (by omega) (ut_sz (S U) - 1) (by omega)).mpr (by omega)
      rw [q1, nI_eq (by omega) (by omega)] at q2
      rw [q2]
      rw [if_pos ⟨by omega, ha3.2⟩, ← ut_app_o (m := ut_sz (S U) - 1) (by omega), ← ut_app_r (a := a) (by omega)] at Kk
      refine ut_xcf2 (R2 := 192 + a) H hF.1 hU hC hO hL (Or.inr (Or.inl (by omega))) (by omega) (by omega) (Or.inr (Or.inr (Or.inr (by omega)))) (by omega) (by omega) _ (fun _ _ _ => trivial) Kk (fun w => ?_)
      dsimp only
      refine br_f (ut_ne (k := 4) (by omega) (by omega) (by omega)) ?_
      rw [show (192 : Int32) + nI a = nI (192 + a) from nI_add 192 a]
      exact w
  refine br_f (ut_ne (k := 2) k (by omega) (by omega)) ?_
  by_cases k : o = 3
  · subst k
    rw [ut_fit_3] at hf
    refine br_t rfl ?_
    have e1 : (64 + nI (ut_sz (S U))) + nI a = nI (64 + (ut_sz (S U) + a)) := by rw [show (64 : Int32) = nI 64 from rfl, nI_add, nI_add, Nat.add_assoc]
    rw [e1]
    have e3 : ut_eff 3 a (ut_sv 3 p2) (S U) = ut_app (S U) (64 + (ut_sz (S U) + a)) := by
      rw [ut_app_o (by omega)]; rfl
    rw [e3] at Kk
    exact ut_xcf1 H hF.1 hU hC hO hL (Or.inr (Or.inl (by omega))) (by omega) (by omega) Kk
  refine br_f (ut_ne (k := 3) k (by omega) (by omega)) ?_
  by_cases k : o = 4
  · subst k
    rw [ut_fit_4] at hf
    refine br_t rfl ?_
    have e1 : (64 + nI (ut_sz (S U))) - nI a = nI (64 + (ut_sz (S U) - a)) := by
      rw [show (64 : Int32) = nI 64 from rfl, nI_add, pk_sub (by omega)]
      exact congrArg nI (by omega)
    rw [e1]
    have e3 : ut_eff 4 a (ut_sv 4 p2) (S U) = ut_app (S U) (64 + (ut_sz (S U) - a)) := by
      rw [ut_app_o (by omega)]; rfl
    rw [e3] at Kk
    exact ut_xcf1 H hF.1 hU hC hO hL (Or.inr (Or.inl (by omega))) (by omega) (by omega) Kk
  refine br_f (ut_ne (k := 4) k (by omega) (by omega)) ?_
  by_cases k : o = 5
  · subst k
    rw [ut_fit_5] at hf
    obtain ⟨ha, hp, c, hc, hc2, hk⟩ := hf
    have hc' : p2 = nI c := hc
    subst hc'
    refine br_t rfl ?_
    have e2 : (128 + 8 * nI a) + nI c = nI (128 + 8 * a + c) := by
      rw [show (128 : Int32) = nI 128 from rfl, show (8 : Int32) = nI 8 from rfl, pk_mul, nI_add, nI_add]
    rw [e2]
    have e3 : ut_eff 5 a (ut_sv 5 (nI c)) (S U) = ut_app (S U) (128 + 8 * a + c) := by
      rw [ut_app_k (by omega) (by omega)]
      show ut_sp (S U) a ((nI c).toNatClampNeg + 1) = _
      rw [nI_clamp (by omega)]
    rw [e3] at Kk
    exact ut_xcf1 H hF.1 hU hC hO hL (Or.inr (Or.inr (Or.inl (by omega)))) (by omega) (by omega) Kk
  refine br_f (ut_ne (k := 5) k (by omega) (by omega)) ?_
  have k6 : o = 6 := by omega
  subst k6
  rw [ut_fit_6] at hf
  refine br_t rfl ?_
  rw [show (192 : Int32) + nI a = nI (192 + a) from nI_add 192 a]
  have e3 : ut_eff 6 a (ut_sv 6 p2) (S U) = ut_app (S U) (192 + a) := by
    rw [ut_app_r (by omega)]; rfl
  rw [e3] at Kk
  exact ut_xcf1 H hF.1 hU hC hO hL (Or.inr (Or.inr (Or.inr (by omega)))) (by omega) (by omega) Kk
end C
end UT19
end
section
/-! what emitting keeps -/
section UT20
variable {wl U fc fc' oc D : Nat} {A A' R St kinds kinds' cnt cnt' vals fnA adA atc oC oS : Nat → Int32} {sp pc : Int32} {S S' CS CS' OC bs ad fn : Nat → Nat}
theorem ut_dy_cg (h : ut_dy wl A R St kinds cnt vals fnA adA atc sp pc S CS bs ad fn fc D) (hw : wl ≤ 8) (hD : D ≤ 16) (hF : ∀ f, f ≤ fc → CS f ≤ U)
    (hA : ∀ j, j < U → A' j = A j) (hS : ∀ j, j ≤ U → S' j = S j) (hk : ∀ j, j < 128 → kinds' j = kinds j) (hc : ∀ j, j < 16 → cnt' j = cnt j) (hCS : ∀ f, f ≤ fc → CS' f = CS f) (hfc : fc ≤ fc') :
    ut_dy wl A' R St kinds' cnt' vals fnA adA atc sp pc S' CS' bs ad fn fc' D := by
  obtain ⟨⟨b0, b1⟩, h2, h3⟩ := h
  have hu : ∀ i, i < D → ad i < U := fun i hi => by
    have a := (h2 i hi).1
    have b := hF (fn i + 1) (by omega)
    omega
  refine ⟨⟨b0, fun i hi => ?_⟩, fun i hi => ?_, fun hd => ?_⟩
  · rw [hS _ (Nat.le_of_lt (hu i (by omega)))]; exact b1 i hi
  · obtain ⟨⟨f1, f2, f3, f4, f5⟩, g1, g2, g3, g4, g5, g6⟩ := h2 i hi
    have hui := hu i hi
    have hs := g3.2.1
    unfold ut_frm
    rw [hA _ hui, hS _ (Nat.le_of_lt hui), hS _ hui, hc i (by omega), hCS _ (by omega), hCS _ (by omega)]
    refine ⟨⟨f1, f2, by omega, f4, f5⟩, g1, g2, ut_FS_cg g3 (fun j hj => hk _ (by omega)), g4, g5, g6⟩
  · rw [hS _ (Nat.le_of_lt (hu (D - 1) (by omega)))]; exact h3 hd
theorem ut_xo_cg (h : ut_xo oC oS S OC oc) (hS : ∀ j, j ≤ U → S' j = S j) (hO : ∀ k, k < oc → OC k ≤ U) : ut_xo oC oS S' OC oc :=
  fun k hk => by rw [hS _ (hO k hk)]; exact h k hk
theorem ut_blk_cg {k : Nat} (h : cnt (17 + k) = nI (ut_sz (S (OC k))) ∧ ut_FS wl (S (OC k)) (fun j => kinds ((17 + k) * 8 + j))) (hw : wl ≤ 8) (hS : S' (OC k) = S (OC k))
    (hk : ∀ j, (17 + k) * 8 ≤ j → j < (17 + k) * 8 + 8 → kinds' j = kinds j) (hc : cnt' (17 + k) = cnt (17 + k)) :
    cnt' (17 + k) = nI (ut_sz (S' (OC k))) ∧ ut_FS wl (S' (OC k)) (fun j => kinds' ((17 + k) * 8 + j)) := by
  have hs := h.2.2.1
  rw [hS, hc]
  exact ⟨h.1, ut_FS_cg h.2 (fun j hj => hk _ (by omega) (by omega))⟩
theorem ut_fit_sv {fl wl o a N : Nat} {b : Int32} (ho : o ≤ 12) (h : ut_fit fl wl o a b N) : ut_fit fl wl o a (ut_sv o b) N := by
  by_cases z : o = 5 ∨ (7 ≤ o ∧ o ≤ 11)
  · rw [show ut_sv o b = b from if_pos z]; exact h
  · obtain ⟨f0, f1, f2, f3, f4, f5, f6, f7, f8, f9, f10, f11, f12⟩ := h
    exact ⟨f0, f1, f2, f3, f4, fun e => absurd (Or.inl e) z, f6, fun e => absurd (Or.inr ⟨by omega, by omega⟩) z, fun e => absurd (Or.inr ⟨by omega, by omega⟩) z, fun e => absurd (Or.inr ⟨by omega, by omega⟩) z, fun e => absurd (Or.inr ⟨by omega, by omega⟩) z, fun e => absurd (Or.inr ⟨by omega, by omega⟩) z, f12⟩
theorem ut_eff_sv {o a N : Nat} {b : Int32} : ut_eff o a (ut_sv o b) N = ut_eff o a b N := by
  by_cases z : o = 5
  · rw [show ut_sv o b = b from if_pos (Or.inl z)]
  · unfold ut_eff
    rw [if_neg (c := o = 5) z, if_neg (c := o = 5) z]
end UT20
end
section
/-! the reference's emit -/
section UT21
variable {g_codeLimit g_functionsLimit g_depthLimit g_wordsLimit g_used g_open g_depth g_reachable : Int32} {b_cellOp b_cellA b_cellB b_regs b_kinds b_count b_values b_function b_address b_atCall : Nat → Int32}
variable {post : Int32 → SY → Prop} {cl fl wl U fc oc o a N : Nat} {p1 p2 : Int32}
theorem ut_yapp (hU : U < 64) (ho : o ≤ 16)
    (K : wY_emit_158 post (nI o) p1 p2 (ut_sv o p2) (nI U) g_codeLimit g_functionsLimit g_depthLimit g_wordsLimit (nI U) g_open g_depth g_reachable (upd b_cellOp U (nI o)) (upd b_cellA U (ut_fv o p1)) b_cellB b_regs b_kinds b_count b_values b_function b_address b_atCall) :
    ((nI o = 5 → wY_emit_97 post (nI o) p1 p2 g_codeLimit g_functionsLimit g_depthLimit g_wordsLimit (nI U) g_open g_depth g_reachable b_cellOp b_cellA b_cellB b_regs b_kinds b_count b_values b_function b_address b_atCall) ∧ (¬ nI o = 5 → ((nI o < 7 → wY_emit_101 post (nI o) p1 p2 g_codeLimit g_functionsLimit g_depthLimit g_wordsLimit (nI U) g_open g_depth g_reachable b_cellOp b_cellA b_cellB b_regs b_kinds b_count b_values b_function b_address b_atCall) ∧ (¬ nI o < 7 → ((11 < nI o → wY_emit_101 post (nI o) p1 p2 g_codeLimit g_functionsLimit g_depthLimit g_wordsLimit (nI U) g_open g_depth g_reachable b_cellOp b_cellA b_cellB b_regs b_kinds b_count b_values b_function b_address b_atCall) ∧ (¬ 11 < nI o → wY_emit_97 post (nI o) p1 p2 g_codeLimit g_functionsLimit g_depthLimit g_wordsLimit (nI U) g_open g_depth g_reachable b_cellOp b_cellA b_cellB b_regs b_kinds b_count b_values b_function b_address b_atCall)))))) := by
  have G139 : ∀ x5 z0, ((x5 = 0 ∧ ut_sv o p2 = 0) ∨ (x5 = 1 ∧ ut_sv o p2 = p2)) → z0 = ut_fv o p1 → wY_emit_139 post (nI o) p1 p2 x5 z0 (nI U) g_codeLimit g_functionsLimit g_depthLimit g_wordsLimit (nI U) g_open g_depth g_reachable (upd b_cellOp U (nI o)) b_cellA b_cellB b_regs b_kinds b_count b_values b_function b_address b_atCall := by
    rintro x5 z0 hx rfl
    unfold wY_emit_139
    refine ⟨vp_in_nI hU (by omega), ?_⟩
    rw [nI_clamp (by omega)]
    refine nm_e ?_
    rcases hx with ⟨rfl, e⟩ | ⟨rfl, e⟩
    · rw [e] at K; exact br_t rfl K
    · rw [e] at K; exact br_f (by decide) K
  have G102 : ∀ z0, ((z0 = 0 ∧ ut_sv o p2 = 0) ∨ (z0 = 1 ∧ ut_sv o p2 = p2)) → wY_emit_102 post (nI o) p1 p2 z0 g_codeLimit g_functionsLimit g_depthLimit g_wordsLimit (nI U) g_open g_depth g_reachable b_cellOp b_cellA b_cellB b_regs b_kinds b_count b_values b_function b_address b_atCall := by
    intro z0 hz
    unfold wY_emit_102
    refine ⟨vp_in_nI hU (by omega), ?_⟩
    rw [nI_clamp (by omega)]
    refine nm_e ?_
    refine pk_eq o 13 (fun e => ?_) (fun e => pk_eq o 16 (fun e' => ?_) (fun e' => ?_))
    · exact G139 z0 0 hz (if_pos (Or.inl e)).symm
    · exact G139 z0 0 hz (if_pos (Or.inr e')).symm
    · exact G139 z0 p1 hz (if_neg (by omega)).symm
  refine pk_eq o 5 (fun e => G102 1 (Or.inr ⟨rfl, if_pos (by omega)⟩)) (fun e5 => ?_)
  refine pk_lt o 7 (fun e => G102 0 (Or.inl ⟨rfl, if_neg (by omega)⟩)) (fun e7 => ?_)
  exact pk_lt 11 o (fun e => G102 0 (Or.inl ⟨rfl, if_neg (by omega)⟩)) (fun e => G102 1 (Or.inr ⟨rfl, if_pos (by omega)⟩))
/-- instructions of the frame and calls -/
theorem ut_y158a {z : Int32} (hw : wl ≤ 8) (hU : U < 64) (ho : o ≤ 12) (hc : b_count 16 = nI (ut_sz N)) (hF : ut_FS wl N (fun j => b_kinds (16 * 8 + j))) (hf : ut_fit fl wl o a p2 N)
    (K : ut_ckK (fun v => post 0 v) wl (ut_eff o a p2 N) 16 g_codeLimit g_functionsLimit g_depthLimit g_wordsLimit (nI (U + 1)) g_open g_depth g_reachable b_cellOp b_cellA (upd b_cellB U z) b_regs b_kinds b_count b_values b_function b_address b_atCall) :
    wY_emit_158 post (nI o) (nI a) p2 z (nI U) g_codeLimit g_functionsLimit g_depthLimit g_wordsLimit (nI U) g_open g_depth g_reachable b_cellOp b_cellA b_cellB b_regs b_kinds b_count b_values b_function b_address b_atCall := by
  unfold wY_emit_158
  refine ⟨vp_in_nI hU (by omega), ?_⟩
  rw [nI_clamp (by omega)]
  refine nm_e (nm_r (nI_1 U) ?_)
  refine br_f (ut_ne (k := 14) (by omega) (by omega) (by omega)) (br_f (ut_ne (k := 15) (by omega) (by omega) (by omega)) (br_f (ut_ne (k := 16) (by omega) (by omega) (by omega)) (br_f (ut_ne (k := 13) (by omega) (by omega) (by omega)) ?_)))
  refine ut_yck (fl := fl) (row := 16) hw (by omega) hc hF ho hf (fun k' c' h1 h2 h3 h4 => ?_)
  exact K k' c' h1 h2 h3 h4
theorem ut_y158b {z : Int32} (hU : U < 64) (hoc : 0 < oc ∧ oc ≤ 4) (K : post 0 (g_codeLimit, g_functionsLimit, g_depthLimit, g_wordsLimit, (nI (U + 1)), (nI oc), g_depth, 0, b_cellOp, b_cellA, (upd b_cellB U z), b_regs, b_kinds, b_count, b_values, b_function, b_address, b_atCall)) :
    wY_emit_158 post (nI 13) p1 p2 z (nI U) g_codeLimit g_functionsLimit g_depthLimit g_wordsLimit (nI U) (nI oc) g_depth g_reachable b_cellOp b_cellA b_cellB b_regs b_kinds b_count b_values b_function b_address b_atCall := by
  unfold wY_emit_158
  refine ⟨vp_in_nI hU (by omega), ?_⟩
  rw [nI_clamp (by omega)]
  refine nm_e (nm_r (nI_1 U) ?_)
  exact br_f (by decide) (br_f (by decide) (br_f (by decide) (br_t (by decide) (br_f (nI_nle (by omega) (by omega)) K))))
theorem ut_y158c {z : Int32} (hU : U < 64) (K : post 0 (g_codeLimit, g_functionsLimit, g_depthLimit, g_wordsLimit, (nI (U + 1)), 0, g_depth, 1, b_cellOp, b_cellA, (upd b_cellB U z), b_regs, b_kinds, (upd b_count 16 0), b_values, b_function, b_address, b_atCall)) :
    wY_emit_158 post (nI 13) p1 p2 z (nI U) g_codeLimit g_functionsLimit g_depthLimit g_wordsLimit (nI U) (nI 0) g_depth g_reachable b_cellOp b_cellA b_cellB b_regs b_kinds b_count b_values b_function b_address b_atCall := by
  unfold wY_emit_158
  refine ⟨vp_in_nI hU (by omega), ?_⟩
  rw [nI_clamp (by omega)]
  refine nm_e (nm_r (nI_1 U) ?_)
  exact br_f (by decide) (br_f (by decide) (br_f (by decide) (br_t (by decide) (br_t (by decide) (nm_e K)))))
theorem ut_y158d {z : Int32} (hU : U < 64) (hoc : oc < 4) (ho : o = 14 ∨ o = 15)
    (K : ∀ k', (∀ j, j < 8 → k' ((17 + oc) * 8 + j) = b_kinds (16 * 8 + j)) → (∀ j, (j < (17 + oc) * 8 ∨ (17 + oc) * 8 + 8 ≤ j) → k' j = b_kinds j) →
      post 0 (g_codeLimit, g_functionsLimit, g_depthLimit, g_wordsLimit, (nI (U + 1)), (nI (oc + 1)), g_depth, g_reachable, b_cellOp, b_cellA, (upd b_cellB U z), b_regs, k', (upd b_count (17 + oc) (b_count 16)), b_values, b_function, b_address, b_atCall)) :
    wY_emit_158 post (nI o) p1 p2 z (nI U) g_codeLimit g_functionsLimit g_depthLimit g_wordsLimit (nI U) (nI oc) g_depth g_reachable b_cellOp b_cellA b_cellB b_regs b_kinds b_count b_values b_function b_address b_atCall := by
  have G : wY_emit_181 post g_codeLimit g_functionsLimit g_depthLimit g_wordsLimit (nI (U + 1)) (nI oc) g_depth g_reachable b_cellOp b_cellA (upd b_cellB U z) b_regs b_kinds b_count b_values b_function b_address b_atCall := by
    unfold wY_emit_181
    rw [show (17 : Int32) + nI oc = nI (17 + oc) from nI_add 17 oc]
    refine ut_ycl (x := 16) (by omega) (by omega) (by omega) (fun k' h1 h2 => ?_)
    dsimp only
    exact nm_r (nI_1 oc) (K k' h1 h2)
  unfold wY_emit_158
  refine ⟨vp_in_nI hU (by omega), ?_⟩
  rw [nI_clamp (by omega)]
  refine nm_e (nm_r (nI_1 U) ?_)
  rcases ho with rfl | rfl
  · exact br_t (by decide) G
  · exact br_f (by decide) (br_t (by decide) G)
theorem ut_y158e {z : Int32} (hU : U < 64) (hoc : 0 < oc ∧ oc ≤ 4)
    (K : ∀ k', (∀ j, j < 8 → k' (16 * 8 + j) = b_kinds ((17 + (oc - 1)) * 8 + j)) → (∀ j, (j < 16 * 8 ∨ 16 * 8 + 8 ≤ j) → k' j = b_kinds j) →
      post 0 (g_codeLimit, g_functionsLimit, g_depthLimit, g_wordsLimit, (nI (U + 1)), (nI (oc - 1)), g_depth, 1, b_cellOp, b_cellA, (upd b_cellB U z), b_regs, k', (upd b_count 16 (b_count (17 + (oc - 1)))), b_values, b_function, b_address, b_atCall)) :
    wY_emit_158 post (nI 16) p1 p2 z (nI U) g_codeLimit g_functionsLimit g_depthLimit g_wordsLimit (nI U) (nI oc) g_depth g_reachable b_cellOp b_cellA b_cellB b_regs b_kinds b_count b_values b_function b_address b_atCall := by
  unfold wY_emit_158
  refine ⟨vp_in_nI hU (by omega), ?_⟩
  rw [nI_clamp (by omega)]
  refine nm_e (nm_r (nI_1 U) ?_)
  refine br_f (by decide) (br_f (by decide) (br_t (by decide) (nm_r (ut_s1 (by omega)) ?_)))
  rw [show (17 : Int32) + nI (oc - 1) = nI (17 + (oc - 1)) from nI_add 17 _]
  refine ut_ycl (y := 16) (by omega) (by omega) (by omega) (fun k' h1 h2 => ?_)
  exact K k' h1 h2
theorem ut_yem1 (h : p1 < 0 ∨ ¬ p1 ≤ 16) {q2 q3 : Int32} (K : post 1 (g_codeLimit, g_functionsLimit, g_depthLimit, g_wordsLimit, g_used, g_open, g_depth, g_reachable, b_cellOp, b_cellA, b_cellB, b_regs, b_kinds, b_count, b_values, b_function, b_address, b_atCall)) : wpY_emit post (g_codeLimit, g_functionsLimit, g_depthLimit, g_wordsLimit, g_used, g_open, g_depth, g_reachable, b_cellOp, b_cellA, b_cellB, b_regs, b_kinds, b_count, b_values, b_function, b_address, b_atCall) p1 q2 q3 := by
  by_cases z : p1 < 0
  · exact br_t z K
  · exact br_f z (br_f (h.resolve_left z) K)
theorem ut_yem2 {a b : Int32} (hfl : 1 ≤ fl ∧ fl ≤ 8) (ho : o ≤ 16) (hn : ¬ ut_ops fl o a b) (K : post 2 (g_codeLimit, (nI fl), g_depthLimit, g_wordsLimit, g_used, g_open, g_depth, g_reachable, b_cellOp, b_cellA, b_cellB, b_regs, b_kinds, b_count, b_values, b_function, b_address, b_atCall)) : wpY_emit post (g_codeLimit, (nI fl), g_depthLimit, g_wordsLimit, g_used, g_open, g_depth, g_reachable, b_cellOp, b_cellA, b_cellB, b_regs, b_kinds, b_count, b_values, b_function, b_address, b_atCall) (nI o) a b :=
  br_f (nI_pos (by omega)) (br_t (nI_le (b := 16) ho (by omega)) (ut_yop hfl ho (fun h => absurd h hn) (fun _ => br_t rfl K)))
theorem ut_yem3 {a b : Int32} (hfl : 1 ≤ fl ∧ fl ≤ 8) (ho : o ≤ 16) (hn : ut_ops fl o a b) (hU : U ≤ 64) (hcl : cl ≤ 64) (hE : ut_ge1 b_cellOp U) (hz : ut_zc b_cellOp U = fc) (h : fc = fl ∨ U = cl)
    (K : post 3 ((nI cl), (nI fl), g_depthLimit, g_wordsLimit, (nI U), g_open, g_depth, g_reachable, b_cellOp, b_cellA, b_cellB, b_regs, b_kinds, b_count, b_values, b_function, b_address, b_atCall)) : wpY_emit post ((nI cl), (nI fl), g_depthLimit, g_wordsLimit, (nI U), g_open, g_depth, g_reachable, b_cellOp, b_cellA, b_cellB, b_regs, b_kinds, b_count, b_values, b_function, b_address, b_atCall) (nI o) a b := by
  have := ut_zc_le (A := b_cellOp) U
  refine br_f (nI_pos (by omega)) (br_t (nI_le (b := 16) ho (by omega)) (ut_yop hfl ho (fun _ => br_f (by decide) ?_) (fun h => absurd hn h)))
  refine ut_yfn hU hE ?_
  rw [hz]
  exact pk_eq fc fl (fun _ => K) (fun e => pk_eq U cl (fun _ => K) (fun e' => absurd h (by omega)))
theorem ut_yem5 {a b : Int32} (hfl : 1 ≤ fl ∧ fl ≤ 8) (ho : o ≤ 16) (hn : ut_ops fl o a b) (hU : U < cl) (hcl : cl ≤ 64) (hE : ut_ge1 b_cellOp U) (hz : ut_zc b_cellOp U = fc) (h : fc < fl)
    (K4 : g_reachable = 0 → o ≠ 16 → post 4 ((nI cl), (nI fl), g_depthLimit, g_wordsLimit, (nI U), g_open, g_depth, g_reachable, b_cellOp, b_cellA, b_cellB, b_regs, b_kinds, b_count, b_values, b_function, b_address, b_atCall))
    (K : ¬ (g_reachable = 0 ∧ o ≠ 16) → wY_emit_63 post (nI o) a b (nI cl) (nI fl) g_depthLimit g_wordsLimit (nI U) g_open g_depth g_reachable b_cellOp b_cellA b_cellB b_regs b_kinds b_count b_values b_function b_address b_atCall) : wpY_emit post ((nI cl), (nI fl), g_depthLimit, g_wordsLimit, (nI U), g_open, g_depth, g_reachable, b_cellOp, b_cellA, b_cellB, b_regs, b_kinds, b_count, b_values, b_function, b_address, b_atCall) (nI o) a b := by
  have := ut_zc_le (A := b_cellOp) U
  refine br_f (nI_pos (by omega)) (br_t (nI_le (b := 16) ho (by omega)) (ut_yop hfl ho (fun _ => br_f (by decide) ?_) (fun h => absurd hn h)))
  refine ut_yfn (by omega) hE ?_
  rw [hz]
  refine pk_eq fc fl (fun e => by omega) (fun e => pk_eq U cl (fun _ => by omega) (fun e' => ?_))
  by_cases r : g_reachable = 0
  · exact br_t r (pk_eq o 16 (fun e => K (fun x => x.2 e)) (fun e => K4 r e))
  · exact br_f r (K (fun x => r x.1))
end UT21
end
section
/-! X's flow instructions at emission -/
section UT22
variable {f_SAVE f_PUSH f_POP f_ALLOC f_FREE f_KEEP f_BACK f_LOAD f_STORE f_SET f_ADDI f_ADD f_CALL f_RET f_IF f_WHILE f_END f_ADVANCE f_OFFSET f_REGISTER f_RESTORE f_REMEMBER f_RECALL f_codeLimit f_functionLimit f_depthLimit f_wordLimit f_used f_functionCount f_tableUsed f_ruleAddress f_now f_reachable f_openCount f_sp f_pc f_active f_walkPc f_walkSp f_walkBase f_walkState : Int32} {a_ops a_firsts a_seconds a_link a_codeStart a_tableStart a_table a_openCell a_openState a_regs a_stack a_memory a_seen : Nat → Int32}
variable {post : SX → Prop} {T S OC CS TS : Nat → Nat} {U fc oc t ra o N M : Nat}
theorem ut_xfl13b (hoc : 0 < oc ∧ oc ≤ 4) (K : post (f_SAVE, f_PUSH, f_POP, f_ALLOC, f_FREE, f_KEEP, f_BACK, f_LOAD, f_STORE, f_SET, f_ADDI, f_ADD, f_CALL, f_RET, f_IF, f_WHILE, f_END, f_ADVANCE, f_OFFSET, f_REGISTER, f_RESTORE, f_REMEMBER, f_RECALL, f_codeLimit, f_functionLimit, f_depthLimit, f_wordLimit, f_used, f_functionCount, f_tableUsed, f_ruleAddress, f_now, 0, (nI oc), f_sp, f_pc, f_active, f_walkPc, f_walkSp, f_walkBase, f_walkState, a_ops, a_firsts, a_seconds, a_link, a_codeStart, a_tableStart, a_table, a_openCell, a_openState, a_regs, a_stack, a_memory, a_seen)) : wpX_changeFlow post (f_SAVE, f_PUSH, f_POP, f_ALLOC, f_FREE, f_KEEP, f_BACK, f_LOAD, f_STORE, f_SET, f_ADDI, f_ADD, f_CALL, f_RET, f_IF, f_WHILE, f_END, f_ADVANCE, f_OFFSET, f_REGISTER, f_RESTORE, f_REMEMBER, f_RECALL, f_codeLimit, f_functionLimit, f_depthLimit, f_wordLimit, f_used, f_functionCount, f_tableUsed, f_ruleAddress, f_now, f_reachable, (nI oc), f_sp, f_pc, f_active, f_walkPc, f_walkSp, f_walkBase, f_walkState, a_ops, a_firsts, a_seconds, a_link, a_codeStart, a_tableStart, a_table, a_openCell, a_openState, a_regs, a_stack, a_memory, a_seen) (nI 13) :=
  br_f (by decide) (br_t (by decide) (br_f (nI_nle (by omega) (by omega)) K))
theorem ut_xfl13c (hfc : fc < 8) (K : post (f_SAVE, f_PUSH, f_POP, f_ALLOC, f_FREE, f_KEEP, f_BACK, f_LOAD, f_STORE, f_SET, f_ADDI, f_ADD, f_CALL, f_RET, f_IF, f_WHILE, f_END, f_ADVANCE, f_OFFSET, f_REGISTER, f_RESTORE, f_REMEMBER, f_RECALL, f_codeLimit, f_functionLimit, f_depthLimit, f_wordLimit, (nI (U + 1)), (nI (fc + 1)), (nI t), (nI (U + 1)), 0, 1, 0, f_sp, f_pc, f_active, f_walkPc, f_walkSp, f_walkBase, f_walkState, a_ops, a_firsts, a_seconds, a_link, (upd a_codeStart (fc + 1) (nI (U + 1))), (upd a_tableStart (fc + 1) (nI t)), a_table, a_openCell, a_openState, a_regs, a_stack, a_memory, a_seen)) :
    wpX_changeFlow post (f_SAVE, f_PUSH, f_POP, f_ALLOC, f_FREE, f_KEEP, f_BACK, f_LOAD, f_STORE, f_SET, f_ADDI, f_ADD, f_CALL, f_RET, f_IF, f_WHILE, f_END, f_ADVANCE, f_OFFSET, f_REGISTER, f_RESTORE, f_REMEMBER, f_RECALL, f_codeLimit, f_functionLimit, f_depthLimit, f_wordLimit, (nI (U + 1)), (nI fc), (nI t), f_ruleAddress, f_now, f_reachable, (nI 0), f_sp, f_pc, f_active, f_walkPc, f_walkSp, f_walkBase, f_walkState, a_ops, a_firsts, a_seconds, a_link, a_codeStart, a_tableStart, a_table, a_openCell, a_openState, a_regs, a_stack, a_memory, a_seen) (nI 13) := by
  refine br_f (by decide) (br_t (by decide) (br_t (by decide) ?_))
  unfold wpX_completeFunction
  dsimp only
  refine nm_r (nI_1 fc) ⟨vp_in_nI (by omega) (by omega), ?_⟩
  rw [nI_clamp (by omega)]
  exact nm_e ⟨vp_in_nI (by omega) (by omega), nm_e K⟩
theorem ut_xfl14 (ht : t + 1 < 192) (hU : U < 64) (hra : ra ≤ U) (hoc : oc < 4) (hN : N < 1048576) (ho : o = 14 ∨ o = 15)
    (K : post (f_SAVE, f_PUSH, f_POP, f_ALLOC, f_FREE, f_KEEP, f_BACK, f_LOAD, f_STORE, f_SET, f_ADDI, f_ADD, f_CALL, f_RET, f_IF, f_WHILE, f_END, f_ADVANCE, f_OFFSET, f_REGISTER, f_RESTORE, f_REMEMBER, f_RECALL, f_codeLimit, f_functionLimit, f_depthLimit, f_wordLimit, (nI (U + 1)), f_functionCount, (nI (t + 2)), (nI (U + 1)), (nI N), f_reachable, (nI (oc + 1)), f_sp, f_pc, f_active, f_walkPc, f_walkSp, f_walkBase, f_walkState, a_ops, a_firsts, a_seconds, a_link, a_codeStart, a_tableStart, (upd (upd a_table t (sb_b (U - ra))) (t + 1) (sb_b 196)), (upd a_openCell oc (nI U)), (upd a_openState oc (nI N)), a_regs, a_stack, a_memory, a_seen)) :
    wpX_changeFlow post (f_SAVE, f_PUSH, f_POP, f_ALLOC, f_FREE, f_KEEP, f_BACK, f_LOAD, f_STORE, f_SET, f_ADDI, f_ADD, f_CALL, f_RET, f_IF, f_WHILE, f_END, f_ADVANCE, f_OFFSET, f_REGISTER, f_RESTORE, f_REMEMBER, f_RECALL, f_codeLimit, f_functionLimit, f_depthLimit, f_wordLimit, (nI (U + 1)), f_functionCount, (nI t), (nI ra), (nI N), f_reachable, (nI oc), f_sp, f_pc, f_active, f_walkPc, f_walkSp, f_walkBase, f_walkState, a_ops, a_firsts, a_seconds, a_link, a_codeStart, a_tableStart, a_table, a_openCell, a_openState, a_regs, a_stack, a_memory, a_seen) (nI o) := by
  refine br_f (ut_ne (k := 16) (by omega) (by omega) (by omega)) (br_f (ut_ne (k := 13) (by omega) (by omega) (by omega)) ?_)
  unfold wpX_openBlock
  dsimp only
  refine ⟨vp_in_nI (by omega) (by omega), ?_⟩
  rw [nI_clamp (by omega), nI_pred]
  refine nm_e ⟨vp_in_nI (by omega) (by omega), nm_e (nm_r (nI_1 oc) ?_)⟩
  exact ut_xar1 (R := 196) ht hU hra hN (Or.inr (Or.inr (Or.inr (by omega)))) (by omega) K
theorem ut_xfl16 {c : Nat} (ht : t + 1 < 192) (hU : U < 64) (hra : ra ≤ U) (hoc : 0 < oc ∧ oc ≤ 4) (hM : M < 1048576) (hc : c < U) (h1 : a_openCell (oc - 1) = nI c) (h2 : a_openState (oc - 1) = nI M)
    (K : post (f_SAVE, f_PUSH, f_POP, f_ALLOC, f_FREE, f_KEEP, f_BACK, f_LOAD, f_STORE, f_SET, f_ADDI, f_ADD, f_CALL, f_RET, f_IF, f_WHILE, f_END, f_ADVANCE, f_OFFSET, f_REGISTER, f_RESTORE, f_REMEMBER, f_RECALL, f_codeLimit, f_functionLimit, f_depthLimit, f_wordLimit, (nI (U + 1)), f_functionCount, (nI (t + 2)), (nI (U + 1)), (nI M), 1, (nI (oc - 1)), f_sp, f_pc, f_active, f_walkPc, f_walkSp, f_walkBase, f_walkState, a_ops, a_firsts, a_seconds, (upd (upd a_link c (nI (U + 1))) U (nI (if a_ops c = 15 then c else U + 1))), a_codeStart, a_tableStart, (upd (upd a_table t (sb_b (U - ra))) (t + 1) (sb_b 197)), a_openCell, a_openState, a_regs, a_stack, a_memory, a_seen)) :
    wpX_changeFlow post (f_SAVE, f_PUSH, f_POP, f_ALLOC, f_FREE, f_KEEP, f_BACK, f_LOAD, f_STORE, f_SET, f_ADDI, f_ADD, f_CALL, f_RET, f_IF, f_WHILE, f_END, f_ADVANCE, f_OFFSET, f_REGISTER, f_RESTORE, f_REMEMBER, f_RECALL, f_codeLimit, f_functionLimit, f_depthLimit, f_wordLimit, (nI (U + 1)), f_functionCount, (nI t), (nI ra), f_now, f_reachable, (nI oc), f_sp, f_pc, f_active, f_walkPc, f_walkSp, f_walkBase, f_walkState, a_ops, a_firsts, a_seconds, a_link, a_codeStart, a_tableStart, a_table, a_openCell, a_openState, a_regs, a_stack, a_memory, a_seen) (nI 16) := by
  refine br_t (by decide) ?_
  unfold wpX_closeBlock
  dsimp only
  refine nm_r (ut_s1 hoc.1) ⟨vp_in_nI (by omega) (by omega), ?_⟩
  rw [nI_clamp (by omega), h1, nI_pred]
  refine nm_e ⟨vp_in_nI (by omega) (by omega), ?_⟩
  rw [nI_clamp (by omega)]
  have G : ∀ z0, z0 = nI (if a_ops c = 15 then c else U + 1) → wX_closeBlock_59 post z0 (nI U) f_SAVE f_PUSH f_POP f_ALLOC f_FREE f_KEEP f_BACK f_LOAD f_STORE f_SET f_ADDI f_ADD f_CALL f_RET f_IF f_WHILE f_END f_ADVANCE f_OFFSET f_REGISTER f_RESTORE f_REMEMBER f_RECALL f_codeLimit f_functionLimit f_depthLimit f_wordLimit (nI (U + 1)) f_functionCount (nI t) (nI ra) f_now f_reachable (nI (oc - 1)) f_sp f_pc f_active f_walkPc f_walkSp f_walkBase f_walkState a_ops a_firsts a_seconds (upd a_link c (nI (U + 1))) a_codeStart a_tableStart a_table a_openCell a_openState a_regs a_stack a_memory a_seen := by
    rintro z0 rfl
    unfold wX_closeBlock_59
    refine ⟨vp_in_nI (by omega) (by omega), ?_⟩
    rw [nI_clamp (by omega)]
    refine nm_e ⟨vp_in_nI (by omega) (by omega), ?_⟩
    rw [nI_clamp (by omega), h2]
    exact nm_e (ut_xar1 (R := 197) ht hU hra hM (Or.inr (Or.inr (Or.inr (by omega)))) (by omega) K)
  refine nm_e ⟨vp_in_nI (by omega) (by omega), ?_⟩
  by_cases e : a_ops c = 15
  · rw [if_pos e] at G
    exact br_t e (G _ rfl)
  · rw [if_neg e] at G
    exact br_f e (G _ rfl)
end UT22
end
section
/-! emit -/
section UT23
variable {f_SAVE f_PUSH f_POP f_ALLOC f_FREE f_KEEP f_BACK f_LOAD f_STORE f_SET f_ADDI f_ADD f_CALL f_RET f_IF f_WHILE f_END f_ADVANCE f_OFFSET f_REGISTER f_RESTORE f_REMEMBER f_RECALL f_codeLimit f_functionLimit f_depthLimit f_wordLimit f_used f_functionCount f_tableUsed f_ruleAddress f_now f_reachable f_openCount f_sp f_pc f_active f_walkPc f_walkSp f_walkBase f_walkState : Int32} {a_ops a_firsts a_seconds a_link a_codeStart a_tableStart a_table a_openCell a_openState a_regs a_stack a_memory a_seen : Nat → Int32}
variable {g_codeLimit g_functionsLimit g_depthLimit g_wordsLimit g_used g_open g_depth g_reachable : Int32} {b_cellOp b_cellA b_cellB b_regs b_kinds b_count b_values b_function b_address b_atCall : Nat → Int32}
variable {T S OC CS TS bs ad fn : Nat → Nat} {cl fl dl wl U fc oc t ra D : Nat} {rb : Int32}
variable {o : Nat} {p1 p2 : Int32}
def ut_emP (v : SY) (p0 p1 p2 : Int32) : Int32 → SX → Prop := fun r u' => wpY_emit (fun r' v' => r' = r ∧ ut_RR u' v') v p0 p1 p2
theorem ut_rb (H : ut_Rel a_ops a_firsts a_seconds a_link a_codeStart a_tableStart a_table a_openCell a_openState a_regs a_stack b_kinds b_count b_values b_function b_address b_atCall f_sp f_pc rb T S OC CS TS bs ad fn cl fl dl wl U fc oc t ra D) : rb = 0 ∨ rb = 1 := by
  rcases H.2.1.2.2.2.2.2 with h | h
  · exact Or.inr h
  · exact Or.inl h.1
theorem ut_em5 {x : Int32} {u' : SX} (H : ut_Rel a_ops a_firsts a_seconds a_link a_codeStart a_tableStart a_table a_openCell a_openState a_regs a_stack b_kinds b_count b_values b_function b_address b_atCall f_sp f_pc rb T S OC CS TS bs ad fn cl fl dl wl U fc oc t ra D) (hfc : fc < fl) (hUc : U < cl) (ho : o ≤ 16) (hn : ut_ops fl o p1 p2) (hr : ¬ (rb = 0 ∧ o ≠ 16))
    (K : wY_emit_63 (fun r' v' => r' = x ∧ ut_RR u' v') (nI o) p1 p2 (nI cl) (nI fl) (nI dl) (nI wl) (nI U) (nI oc) (nI D) rb a_ops a_firsts a_seconds a_regs b_kinds b_count b_values b_function b_address b_atCall) : ut_emP ((nI cl), (nI fl), (nI dl), (nI wl), (nI U), (nI oc), (nI D), rb, a_ops, a_firsts, a_seconds, a_regs, b_kinds, b_count, b_values, b_function, b_address, b_atCall) (nI o) p1 p2 x u' := by
  have hl := H.1
  unfold ut_lim at hl
  exact ut_yem5 ⟨by omega, by omega⟩ ho hn hUc (by omega) (ut_ge1_of H.2.1) H.2.1.1.2.2.2.2 hfc (fun a b => absurd ⟨a, b⟩ hr) (fun _ => K)
/-- an instruction of the frame, or a call -/
theorem ut_em12 {a : Nat} (H : ut_Rel a_ops a_firsts a_seconds a_link a_codeStart a_tableStart a_table a_openCell a_openState a_regs a_stack b_kinds b_count b_values b_function b_address b_atCall f_sp f_pc rb T S OC CS TS bs ad fn cl fl dl wl U fc oc t ra D) (hfc : fc < fl) (hUc : U < cl) (ho : o ≤ 12) (hn : ut_ops fl o (nI a) p2) (hr : ¬ (rb = 0 ∧ o ≠ 16)) (ha : ut_lo o ≤ a ∧ a ≤ ut_hi fl o) :
    wX_emit_63 (ut_emP ((nI cl), (nI fl), (nI dl), (nI wl), (nI U), (nI oc), (nI D), rb, a_ops, a_firsts, a_seconds, a_regs, b_kinds, b_count, b_values, b_function, b_address, b_atCall) (nI o) (nI a) p2) (nI o) (nI a) p2 f_SAVE f_PUSH f_POP f_ALLOC f_FREE f_KEEP f_BACK f_LOAD f_STORE f_SET f_ADDI f_ADD f_CALL f_RET f_IF f_WHILE f_END f_ADVANCE f_OFFSET f_REGISTER f_RESTORE f_REMEMBER f_RECALL (nI cl) (nI fl) (nI dl) (nI wl) (nI U) (nI fc) (nI t) (nI ra) (nI (S U)) rb (nI oc) f_sp f_pc (nI D) f_walkPc f_walkSp f_walkBase f_walkState a_ops a_firsts a_seconds a_link a_codeStart a_tableStart a_table a_openCell a_openState a_regs a_stack a_memory a_seen := by
  obtain ⟨hl, hc, hx, ht, hxo, hb, hd⟩ := id H
  unfold ut_lim at hl
  have hb7 : (o = 5 ∨ o = 7 ∨ o = 8) → ∃ c, p2 = nI c ∧ c ≤ 7 := fun e => by
    obtain ⟨c, h1, _, h3⟩ := hn.2.1 e
    exact ⟨c, h1, h3⟩
  have hb11 : o = 11 → ∃ c, p2 = nI c ∧ c ≤ 5 := fun e => by
    obtain ⟨c, h1, _, h3⟩ := hn.2.2 e
    exact ⟨c, h1, h3⟩
  have hrb : rb = 1 := (ut_rb H).resolve_left (fun x => hr ⟨x, by omega⟩)
  have hF := hb.1.2
  have hC : ∀ f, f ≤ fc → CS f ≤ U := fun f hf => (hc.2.1.2.1 f hf).1
  have hO : ∀ k, k < oc → OC k ≤ U := fun k hk => Nat.le_of_lt (hc.2.2.2.1 k hk).2.1
  unfold wX_emit_63
  refine ut_xrf (wl := wl) (fl := fl) (by omega) (by omega) hF ho ha (fun _ => by omega) hb7 hb11 (fun hf => br_t rfl ?_) (fun hf => br_f (by decide) ?_)
  · refine ut_xapd (d := nI (ut_dst o a (ut_sv o p2) (S U))) (by omega) (by omega) (fun q ops fi se hq => ut_xdst hF ho (ut_fit_sv ho hf) hq) ?_
    dsimp only
    refine br_t (nI_lt (b := 13) (by omega) (by omega)) ?_
    refine ut_xcf (f_used := 0) (f_tableUsed := 0) (f_ruleAddress := 0) (f_now := 0) ht hF (by omega) (by omega) hC hO hx.2.2 ho (ut_fit_sv ho hf) (fun T' t' ra' tab' hL' hT' => ?_)
    dsimp only
    refine ut_em5 H hfc hUc (by omega) hn hr ?_
    unfold wY_emit_63
    refine ut_yrf (wl := wl) (fl := fl) (by omega) (by omega) hb.1.1 hF ho ha (fun _ => by omega) hb11 (fun _ => br_t rfl ?_) (fun x => absurd hf x)
    refine ut_yapp (by omega) (by omega) (ut_y158a (fl := fl) (wl := wl) (by omega) (by omega) ho hb.1.1 hF hf (fun k' c' h1 h2 h3 h4 => ⟨rfl, ?_⟩))
    have hfv : ut_fv o (nI a) = nI a := if_neg (by omega)
    rw [ut_eff_sv] at hT' ⊢
    have hE := ut_e1 (a := a) hc (by omega) hrb ho (ut_fit_sv ho hf)
    rw [ut_eff_sv] at hE
    rw [hrb, hfv]
    have H' : ut_Rel (upd a_ops U (nI o)) (upd a_firsts U (nI a)) (upd a_seconds U (ut_sv o p2)) (upd a_link U (nI (ut_dst o a (ut_sv o p2) (S U)))) a_codeStart a_tableStart tab' a_openCell a_openState a_regs a_stack k' c' b_values b_function b_address b_atCall f_sp f_pc 1 T' (ut_un S (U + 1) (ut_eff o a p2 (S U))) OC CS TS bs ad fn cl fl dl wl (U + 1) fc oc t' ra' D := by
      refine ⟨by unfold ut_lim; omega, hE, ⟨hx.1, hx.2.1, hL'⟩, hT', ut_xo_cg hxo ut_un_le hO, ⟨?_, fun k hk => ?_⟩, ?_⟩
      · rw [ut_us]; exact ⟨h3, h4⟩
      · exact ut_blk_cg (hb.2 k hk) (by omega) (ut_un_le _ (hO k hk)) (fun j j1 j2 => h1 j (by omega)) (h2 _ (by omega))
      · exact ut_dy_cg hd (by omega) (by omega) hC ut_upd_lt ut_un_le (fun j hj => h1 j (by omega)) (fun j hj => h2 j (by omega)) (fun _ _ => rfl) (Nat.le_refl _)
    have R := ut_RRi (f_SAVE := f_SAVE) (f_PUSH := f_PUSH) (f_POP := f_POP) (f_ALLOC := f_ALLOC) (f_FREE := f_FREE) (f_KEEP := f_KEEP) (f_BACK := f_BACK) (f_LOAD := f_LOAD) (f_STORE := f_STORE) (f_SET := f_SET) (f_ADDI := f_ADDI) (f_ADD := f_ADD) (f_CALL := f_CALL) (f_RET := f_RET) (f_IF := f_IF) (f_WHILE := f_WHILE) (f_END := f_END) (f_ADVANCE := f_ADVANCE) (f_OFFSET := f_OFFSET) (f_REGISTER := f_REGISTER) (f_RESTORE := f_RESTORE) (f_REMEMBER := f_REMEMBER) (f_RECALL := f_RECALL) (f_walkPc := f_walkPc) (f_walkSp := f_walkSp) (f_walkBase := f_walkBase) (f_walkState := f_walkState) (a_memory := a_memory) (a_seen := a_seen) H'
    rw [ut_us] at R
    exact R
  · refine ut_em5 H hfc hUc (by omega) hn hr ?_
    unfold wY_emit_63
    exact ut_yrf (wl := wl) (fl := fl) (by omega) (by omega) hb.1.1 hF ho ha (fun _ => by omega) hb11 (fun x => absurd x hf) (fun _ => br_f (by decide) ⟨rfl, ut_RRi H⟩)
end UT23
end
section
/-! emit: the flow -/
section UT24
variable {f_SAVE f_PUSH f_POP f_ALLOC f_FREE f_KEEP f_BACK f_LOAD f_STORE f_SET f_ADDI f_ADD f_CALL f_RET f_IF f_WHILE f_END f_ADVANCE f_OFFSET f_REGISTER f_RESTORE f_REMEMBER f_RECALL f_codeLimit f_functionLimit f_depthLimit f_wordLimit f_used f_functionCount f_tableUsed f_ruleAddress f_now f_reachable f_openCount f_sp f_pc f_active f_walkPc f_walkSp f_walkBase f_walkState : Int32} {a_ops a_firsts a_seconds a_link a_codeStart a_tableStart a_table a_openCell a_openState a_regs a_stack a_memory a_seen : Nat → Int32}
variable {g_codeLimit g_functionsLimit g_depthLimit g_wordsLimit g_used g_open g_depth g_reachable : Int32} {b_cellOp b_cellA b_cellB b_regs b_kinds b_count b_values b_function b_address b_atCall : Nat → Int32}
variable {T S OC CS TS bs ad fn : Nat → Nat} {cl fl dl wl U fc oc t ra D : Nat} {rb : Int32}
variable {o : Nat} {p1 p2 : Int32}
theorem ut_em13 (H : ut_Rel a_ops a_firsts a_seconds a_link a_codeStart a_tableStart a_table a_openCell a_openState a_regs a_stack b_kinds b_count b_values b_function b_address b_atCall f_sp f_pc rb T S OC CS TS bs ad fn cl fl dl wl U fc oc t ra D) (hfc : fc < fl) (hUc : U < cl) (hn : ut_ops fl 13 p1 p2) (hr : ¬ (rb = 0 ∧ 13 ≠ 16)) :
    wX_emit_63 (ut_emP ((nI cl), (nI fl), (nI dl), (nI wl), (nI U), (nI oc), (nI D), rb, a_ops, a_firsts, a_seconds, a_regs, b_kinds, b_count, b_values, b_function, b_address, b_atCall) (nI 13) p1 p2) (nI 13) p1 p2 f_SAVE f_PUSH f_POP f_ALLOC f_FREE f_KEEP f_BACK f_LOAD f_STORE f_SET f_ADDI f_ADD f_CALL f_RET f_IF f_WHILE f_END f_ADVANCE f_OFFSET f_REGISTER f_RESTORE f_REMEMBER f_RECALL (nI cl) (nI fl) (nI dl) (nI wl) (nI U) (nI fc) (nI t) (nI ra) (nI (S U)) rb (nI oc) f_sp f_pc (nI D) f_walkPc f_walkSp f_walkBase f_walkState a_ops a_firsts a_seconds a_link a_codeStart a_tableStart a_table a_openCell a_openState a_regs a_stack a_memory a_seen := by
  obtain ⟨hl, hc, hx, ht, hxo, hb, hd⟩ := id H
  unfold ut_lim at hl
  have hrb : rb = 1 := (ut_rb H).resolve_left (fun x => hr ⟨x, by omega⟩)
  have hF := hb.1.2
  have hC : ∀ f, f ≤ fc → CS f ≤ U := fun f hf => (hc.2.1.2.1 f hf).1
  have hO : ∀ k, k < oc → OC k ≤ U := fun k hk => Nat.le_of_lt (hc.2.2.2.1 k hk).2.1
  have hoc := hc.1.2.2.1
  have hfv : ut_fv 13 p1 = 0 := rfl
  have hsv : ut_sv 13 p2 = 0 := rfl
  unfold wX_emit_63
  refine ut_xrf13 (wl := wl) hF (fun hf => br_t rfl ?_) (fun hf => br_f (by decide) ?_)
  · refine ut_xapd (d := 0) (by omega) (by omega) (fun q ops fi se hq => ut_xdst0 (by omega) hq) ?_
    dsimp only
    refine br_f (by decide) ?_
    rw [hfv, hsv]
    by_cases z : oc = 0
    · subst z
      refine ut_xfl13c (by omega) ?_
      dsimp only
      refine ut_em5 H hfc hUc (by omega) hn hr ?_
      unfold wY_emit_63
      refine ut_yrf13 (wl := wl) (by omega) hb.1.1 hF (fun _ => br_t rfl ?_) (fun x => absurd hf x)
      refine ut_yapp (by omega) (by omega) (ut_y158c (by omega) ⟨rfl, ?_⟩)
      rw [hfv, hsv]
      have H' : ut_Rel (upd a_ops U 13) (upd a_firsts U 0) (upd a_seconds U 0) (upd a_link U 0) (upd a_codeStart (fc + 1) (nI (U + 1))) (upd a_tableStart (fc + 1) (nI t)) a_table a_openCell a_openState a_regs a_stack b_kinds (upd b_count 16 0) b_values b_function b_address b_atCall f_sp f_pc 1 T (ut_un S (U + 1) 0) OC (ut_un CS (fc + 1) (U + 1)) (ut_un TS (fc + 1) t) bs ad fn cl fl dl wl (U + 1) (fc + 1) 0 t (U + 1) D := by
        refine ⟨by unfold ut_lim; omega, ut_e3 hc (by omega) hfc hf, ⟨fun f hf => ?_, fun f hf => ?_, hx.2.2⟩, ut_tab_d ht hC, fun k hk => absurd hk (Nat.not_lt_zero k), ⟨?_, fun k hk => absurd hk (Nat.not_lt_zero k)⟩, ?_⟩
        · by_cases e : f = fc + 1
          · rw [e, pk_us, ut_us]
          · rw [pk_un e, ut_unn e]; exact hx.1 f (by omega)
        · by_cases e : f = fc + 1
          · rw [e, pk_us, ut_us]
          · rw [pk_un e, ut_unn e]; exact hx.2.1 f (by omega)
        · rw [ut_us, pk_us]; exact ⟨rfl, ut_FS0⟩
        · exact ut_dy_cg hd (by omega) (by omega) hC ut_upd_lt ut_un_le (fun j hj => rfl) (fun j hj => pk_un (by omega)) (fun f hf => ut_unn (by omega)) (by omega)
      have R := ut_RRi (f_SAVE := f_SAVE) (f_PUSH := f_PUSH) (f_POP := f_POP) (f_ALLOC := f_ALLOC) (f_FREE := f_FREE) (f_KEEP := f_KEEP) (f_BACK := f_BACK) (f_LOAD := f_LOAD) (f_STORE := f_STORE) (f_SET := f_SET) (f_ADDI := f_ADDI) (f_ADD := f_ADD) (f_CALL := f_CALL) (f_RET := f_RET) (f_IF := f_IF) (f_WHILE := f_WHILE) (f_END := f_END) (f_ADVANCE := f_ADVANCE) (f_OFFSET := f_OFFSET) (f_REGISTER := f_REGISTER) (f_RESTORE := f_RESTORE) (f_REMEMBER := f_REMEMBER) (f_RECALL := f_RECALL) (f_walkPc := f_walkPc) (f_walkSp := f_walkSp) (f_walkBase := f_walkBase) (f_walkState := f_walkState) (a_memory := a_memory) (a_seen := a_seen) H'
      rw [ut_us] at R
      exact R
    · refine ut_xfl13b ⟨by omega, hoc⟩ ?_
      dsimp only
      refine ut_em5 H hfc hUc (by omega) hn hr ?_
      unfold wY_emit_63
      refine ut_yrf13 (wl := wl) (by omega) hb.1.1 hF (fun _ => br_t rfl ?_) (fun x => absurd hf x)
      refine ut_yapp (by omega) (by omega) (ut_y158b (by omega) ⟨by omega, hoc⟩ ⟨rfl, ?_⟩)
      rw [hfv, hsv]
      have H' : ut_Rel (upd a_ops U 13) (upd a_firsts U 0) (upd a_seconds U 0) (upd a_link U 0) a_codeStart a_tableStart a_table a_openCell a_openState a_regs a_stack b_kinds b_count b_values b_function b_address b_atCall f_sp f_pc 0 T (ut_un S (U + 1) (S U)) OC CS TS bs ad fn cl fl dl wl (U + 1) fc oc t ra D := by
        refine ⟨by unfold ut_lim; omega, ut_e2 hc (by omega) (by omega) hf, hx, ut_tab_0 ht hC hO, ut_xo_cg hxo ut_un_le hO, ⟨?_, fun k hk => ?_⟩, ?_⟩
        · rw [ut_us]; exact hb.1
        · exact ut_blk_cg (hb.2 k hk) (by omega) (ut_un_le _ (hO k hk)) (fun j j1 j2 => rfl) rfl
        · exact ut_dy_cg hd (by omega) (by omega) hC ut_upd_lt ut_un_le (fun j hj => rfl) (fun j hj => rfl) (fun _ _ => rfl) (Nat.le_refl _)
      have R := ut_RRi (f_SAVE := f_SAVE) (f_PUSH := f_PUSH) (f_POP := f_POP) (f_ALLOC := f_ALLOC) (f_FREE := f_FREE) (f_KEEP := f_KEEP) (f_BACK := f_BACK) (f_LOAD := f_LOAD) (f_STORE := f_STORE) (f_SET := f_SET) (f_ADDI := f_ADDI) (f_ADD := f_ADD) (f_CALL := f_CALL) (f_RET := f_RET) (f_IF := f_IF) (f_WHILE := f_WHILE) (f_END := f_END) (f_ADVANCE := f_ADVANCE) (f_OFFSET := f_OFFSET) (f_REGISTER := f_REGISTER) (f_RESTORE := f_RESTORE) (f_REMEMBER := f_REMEMBER) (f_RECALL := f_RECALL) (f_walkPc := f_walkPc) (f_walkSp := f_walkSp) (f_walkBase := f_walkBase) (f_walkState := f_walkState) (a_memory := a_memory) (a_seen := a_seen) H'
      rw [ut_us] at R
      exact R
  · refine ut_em5 H hfc hUc (by omega) hn hr ?_
    unfold wY_emit_63
    exact ut_yrf13 (wl := wl) (by omega) hb.1.1 hF (fun x => absurd x hf) (fun _ => br_f (by decide) ⟨rfl, ut_RRi H⟩)
theorem ut_em14 {a : Nat} (H : ut_Rel a_ops a_firsts a_seconds a_link a_codeStart a_tableStart a_table a_openCell a_openState a_regs a_stack b_kinds b_count b_values b_function b_address b_atCall f_sp f_pc rb T S OC CS TS bs ad fn cl fl dl wl U fc oc t ra D) (hfc : fc < fl) (hUc : U < cl) (ho : o = 14 ∨ o = 15) (hn : ut_ops fl o (nI a) p2) (hr : ¬ (rb = 0 ∧ o ≠ 16)) (ha : a ≤ 5) :
    wX_emit_63 (ut_emP ((nI cl), (nI fl), (nI dl), (nI wl), (nI U), (nI oc), (nI D), rb, a_ops, a_firsts, a_seconds, a_regs, b_kinds, b_count, b_values, b_function, b_address, b_atCall) (nI o) (nI a) p2) (nI o) (nI a) p2 f_SAVE f_PUSH f_POP f_ALLOC f_FREE f_KEEP f_BACK f_LOAD f_STORE f_SET f_ADDI f_ADD f_CALL f_RET f_IF f_WHILE f_END f_ADVANCE f_OFFSET f_REGISTER f_RESTORE f_REMEMBER f_RECALL (nI cl) (nI fl) (nI dl) (nI wl) (nI U) (nI fc) (nI t) (nI ra) (nI (S U)) rb (nI oc) f_sp f_pc (nI D) f_walkPc f_walkSp f_walkBase f_walkState a_ops a_firsts a_seconds a_link a_codeStart a_tableStart a_table a_openCell a_openState a_regs a_stack a_memory a_seen := by
  obtain ⟨hl, hc, hx, ht, hxo, hb, hd⟩ := id H
  unfold ut_lim at hl
  have hrb : rb = 1 := (ut_rb H).resolve_left (fun x => hr ⟨x, by omega⟩)
  have hF := hb.1.2
  have hC : ∀ f, f ≤ fc → CS f ≤ U := fun f hf => (hc.2.1.2.1 f hf).1
  have hO : ∀ k, k < oc → OC k ≤ U := fun k hk => Nat.le_of_lt (hc.2.2.2.1 k hk).2.1
  have hoc := hc.1.2.2.1
  have hfv : ut_fv o (nI a) = nI a := if_neg (by omega)
  have hsv : ut_sv o p2 = 0 := if_neg (by omega)
  have h3 := ht.1.1
  have h4 := ht.1.2.2.2
  unfold wX_emit_63
  refine ut_xrf14 ho hoc (fun hf => br_t rfl ?_) (fun hf => br_f (by decide) ?_)
  · refine ut_xapd (d := 0) (by omega) (by omega) (fun q ops fi se hq => ut_xdst0 (by omega) hq) ?_
    dsimp only
    refine br_f (nI_nlt (b := 13) (by omega) (by omega)) ?_
    rw [hfv, hsv]
    refine ut_xfl14 (by omega) (by omega) h4 hf hF.1 ho ?_
    dsimp only
    refine ut_em5 H hfc hUc (by omega) hn hr ?_
    unfold wY_emit_63
    refine ut_yrf14 (wl := wl) (by omega) hb.1.1 hF ho hoc (fun _ => br_t rfl ?_) (fun x => by omega)
    refine ut_yapp (by omega) (by omega) (ut_y158d (by omega) hf ho (fun k' h1 h2 => ⟨rfl, ?_⟩))
    rw [hfv, hsv, hrb]
    have hE := ut_e4 (a := a) (o := nI o) (y := 0) (z := 0) hc (by omega) hf (by rcases ho with rfl | rfl; exact Or.inl rfl; exact Or.inr rfl) ha
    have H' : ut_Rel (upd a_ops U (nI o)) (upd a_firsts U (nI a)) (upd a_seconds U 0) (upd a_link U 0) a_codeStart a_tableStart (upd (upd a_table t (sb_b (U - ra))) (t + 1) (sb_b 196)) (upd a_openCell oc (nI U)) (upd a_openState oc (nI (S U))) a_regs a_stack k' (upd b_count (17 + oc) (b_count 16)) b_values b_function b_address b_atCall f_sp f_pc 1 (ut_T1 T t U ra 196) (ut_un S (U + 1) (S U)) (ut_un OC oc U) CS TS bs ad fn cl fl dl wl (U + 1) fc (oc + 1) (t + 2) (U + 1) D := by
      refine ⟨by unfold ut_lim; omega, hE, ⟨hx.1, hx.2.1, ut_lat2 hx.2.2 (by omega) (by omega)⟩, ut_tab_m ht (by omega) hf hC hO, fun k hk => ?_, ⟨?_, fun k hk => ?_⟩, ?_⟩
      · by_cases e : k = oc
        · subst e; rw [pk_us, pk_us, ut_us, ut_unn (by omega)]; exact ⟨rfl, rfl⟩
        · have hk' := hO k (by omega)
          rw [pk_un e, pk_un e, ut_unn e, ut_unn (by omega)]; exact hxo k (by omega)
      · rw [ut_us, pk_un (by omega)]
        exact ⟨hb.1.1, ut_FS_cg hF (fun j hj => h2 _ (by have := hF.2.1; omega))⟩
      · by_cases e : k = oc
        · subst e
          rw [ut_us, ut_unn (by omega), pk_us]
          exact ⟨hb.1.1, ut_FS_cg hF (fun j hj => h1 _ (by have := hF.2.1; omega))⟩
        · rw [ut_unn e]
          exact ut_blk_cg (hb.2 k (by omega)) (by omega) (ut_un_le _ (hO k (by omega))) (fun j j1 j2 => h2 j (by omega)) (pk_un (by omega))
      · exact ut_dy_cg hd (by omega) (by omega) hC ut_upd_lt ut_un_le (fun j hj => h2 j (by omega)) (fun j hj => pk_un (by omega)) (fun _ _ => rfl) (Nat.le_refl _)
    have R := ut_RRi (f_SAVE := f_SAVE) (f_PUSH := f_PUSH) (f_POP := f_POP) (f_ALLOC := f_ALLOC) (f_FREE := f_FREE) (f_KEEP := f_KEEP) (f_BACK := f_BACK) (f_LOAD := f_LOAD) (f_STORE := f_STORE) (f_SET := f_SET) (f_ADDI := f_ADDI) (f_ADD := f_ADD) (f_CALL := f_CALL) (f_RET := f_RET) (f_IF := f_IF) (f_WHILE := f_WHILE) (f_END := f_END) (f_ADVANCE := f_ADVANCE) (f_OFFSET := f_OFFSET) (f_REGISTER := f_REGISTER) (f_RESTORE := f_RESTORE) (f_REMEMBER := f_REMEMBER) (f_RECALL := f_RECALL) (f_walkPc := f_walkPc) (f_walkSp := f_walkSp) (f_walkBase := f_walkBase) (f_walkState := f_walkState) (a_memory := a_memory) (a_seen := a_seen) H'
    rw [ut_us] at R
    exact R
  · refine ut_em5 H hfc hUc (by omega) hn hr ?_
    unfold wY_emit_63
    exact ut_yrf14 (wl := wl) (by omega) hb.1.1 hF ho hoc (fun x => by omega) (fun _ => br_f (by decide) ⟨rfl, ut_RRi H⟩)
theorem ut_em16 (H : ut_Rel a_ops a_firsts a_seconds a_link a_codeStart a_tableStart a_table a_openCell a_openState a_regs a_stack b_kinds b_count b_values b_function b_address b_atCall f_sp f_pc rb T S OC CS TS bs ad fn cl fl dl wl U fc oc t ra D) (hfc : fc < fl) (hUc : U < cl) (hn : ut_ops fl 16 p1 p2) (hr : ¬ (rb = 0 ∧ 16 ≠ 16)) :
    wX_emit_63 (ut_emP ((nI cl), (nI fl), (nI dl), (nI wl), (nI U), (nI oc), (nI D), rb, a_ops, a_firsts, a_seconds, a_regs, b_kinds, b_count, b_values, b_function, b_address, b_atCall) (nI 16) p1 p2) (nI 16) p1 p2 f_SAVE f_PUSH f_POP f_ALLOC f_FREE f_KEEP f_BACK f_LOAD f_STORE f_SET f_ADDI f_ADD f_CALL f_RET f_IF f_WHILE f_END f_ADVANCE f_OFFSET f_REGISTER f_RESTORE f_REMEMBER f_RECALL (nI cl) (nI fl) (nI dl) (nI wl) (nI U) (nI fc) (nI t) (nI ra) (nI (S U)) rb (nI oc) f_sp f_pc (nI D) f_walkPc f_walkSp f_walkBase f_walkState a_ops a_firsts a_seconds a_link a_codeStart a_tableStart a_table a_openCell a_openState a_regs a_stack a_memory a_seen := by
  obtain ⟨hl, hc, hx, ht, hxo, hb, hd⟩ := id H
  unfold ut_lim at hl
  have hF := hb.1.2
  have hC : ∀ f, f ≤ fc → CS f ≤ U := fun f hf => (hc.2.1.2.1 f hf).1
  have hO : ∀ k, k < oc → OC k ≤ U := fun k hk => Nat.le_of_lt (hc.2.2.2.1 k hk).2.1
  have hoc := hc.1.2.2.1
  have hfv : ut_fv 16 p1 = 0 := rfl
  have hsv : ut_sv 16 p2 = 0 := rfl
  have h3 := ht.1.1
  have h4 := ht.1.2.2.2
  by_cases z : oc = 0
  · subst z
    unfold wX_emit_63
    refine ut_xrf16 (M := 0) hoc hF.1 (by omega) (fun x => by omega) (ut_rb H) (fun _ => br_f (by decide) ?_) (fun x => by omega) (fun x => by omega)
    refine ut_em5 H hfc hUc (by omega) hn hr ?_
    unfold wY_emit_63
    exact ut_yrf16 (wl := wl) (M := 0) (by omega) hb.1.1 hF hoc (fun x => by omega) (fun x => by omega) (ut_rb H) (fun _ => br_f (by decide) ⟨rfl, ut_RRi H⟩) (fun x => by omega) (fun x => by omega)
  · have hB := hb.2 (oc - 1) (by omega)
    have hQ := hxo (oc - 1) (by omega)
    have hcell := hc.2.2.2.1 (oc - 1) (by omega)
    have hM := hB.2.1
    unfold wX_emit_63
    refine ut_xrf16 (M := S (OC (oc - 1))) hoc hF.1 hM (fun _ => hQ.2) (ut_rb H) (fun x => by omega) (fun _ he => br_t rfl ?_) (fun _ h1 h5 => br_f (by decide) ?_)
    · refine ut_xapd (d := 0) (by omega) (by omega) (fun q ops fi se hq => ut_xdst0 (by omega) hq) ?_
      dsimp only
      refine br_f (by decide) ?_
      rw [hfv, hsv]
      refine ut_xfl16 (c := OC (oc - 1)) (by omega) (by omega) h4 ⟨by omega, hoc⟩ hM hcell.2.1 hQ.1 hQ.2 ?_
      dsimp only
      refine ut_em5 H hfc hUc (by omega) hn hr ?_
      unfold wY_emit_63
      refine ut_yrf16 (wl := wl) (M := S (OC (oc - 1))) (by omega) hb.1.1 hF hoc (fun _ => hB.1) (fun _ => hB.2) (ut_rb H) (fun x => by omega) (fun _ _ => br_t rfl ?_) (fun _ h1 h5 => absurd (he h1) h5)
      refine ut_yapp (by omega) (by omega) (ut_y158e (by omega) ⟨by omega, hoc⟩ (fun k' h1 h2 => ⟨rfl, ?_⟩))
      rw [hfv, hsv]
      have hE := ut_e5 (x := 0) (y := 0) hc (by omega) (by omega) he
      have eL : upd (upd (upd a_link U 0) (OC (oc - 1)) (nI (U + 1))) U (nI (if upd a_ops U 16 (OC (oc - 1)) = 15 then OC (oc - 1) else U + 1)) = upd (upd a_link (OC (oc - 1)) (nI (U + 1))) U (nI (if a_ops (OC (oc - 1)) = 15 then OC (oc - 1) else U + 1)) := by
        rw [pk_un (f := a_ops) (k := U) (by omega)]
        funext j
        by_cases e : j = U
        · rw [e, pk_us, pk_us]
        · rw [pk_un e, pk_un e]
          by_cases e2 : j = OC (oc - 1)
          · rw [e2, pk_us, pk_us]
          · rw [pk_un e2, pk_un e2, pk_un e]
      have H' : ut_Rel (upd a_ops U 16) (upd a_firsts U 0) (upd a_seconds U 0) (upd (upd a_link (OC (oc - 1)) (nI (U + 1))) U (nI (if a_ops (OC (oc - 1)) = 15 then OC (oc - 1) else U + 1))) a_codeStart a_tableStart (upd (upd a_table t (sb_b (U - ra))) (t + 1) (sb_b 197)) a_openCell a_openState a_regs a_stack k' (upd b_count 16 (b_count (17 + (oc - 1)))) b_values b_function b_address b_atCall f_sp f_pc 1 (ut_T1 T t U ra 197) (ut_un S (U + 1) (S (OC (oc - 1)))) OC CS TS bs ad fn cl fl dl wl (U + 1) fc (oc - 1) (t + 2) (U + 1) D := by
        refine ⟨by unfold ut_lim; omega, hE, ⟨hx.1, hx.2.1, ut_lat2 hx.2.2 (by omega) (by omega)⟩, ut_tab_c ht (by omega) (by omega) hoc hC hO hM, ut_xo_cg (fun k hk => hxo k (by omega)) ut_un_le (fun k hk => hO k (by omega)), ⟨?_, fun k hk => ?_⟩, ?_⟩
        · rw [ut_us, pk_us]
          exact ⟨hB.1, ut_FS_cg hB.2 (fun j hj => h1 _ (by have := hB.2.2.1; omega))⟩
        · exact ut_blk_cg (hb.2 k (by omega)) (by omega) (ut_un_le _ (hO k (by omega))) (fun j j1 j2 => h2 j (by omega)) (pk_un (by omega))
        · exact ut_dy_cg hd (by omega) (by omega) hC ut_upd_lt ut_un_le (fun j hj => h2 j (by omega)) (fun j hj => pk_un (by omega)) (fun _ _ => rfl) (Nat.le_refl _)
      have R := ut_RRi (f_SAVE := f_SAVE) (f_PUSH := f_PUSH) (f_POP := f_POP) (f_ALLOC := f_ALLOC) (f_FREE := f_FREE) (f_KEEP := f_KEEP) (f_BACK := f_BACK) (f_LOAD := f_LOAD) (f_STORE := f_STORE) (f_SET := f_SET) (f_ADDI := f_ADDI) (f_ADD := f_ADD) (f_CALL := f_CALL) (f_RET := f_RET) (f_IF := f_IF) (f_WHILE := f_WHILE) (f_END := f_END) (f_ADVANCE := f_ADVANCE) (f_OFFSET := f_OFFSET) (f_REGISTER := f_REGISTER) (f_RESTORE := f_RESTORE) (f_REMEMBER := f_REMEMBER) (f_RECALL := f_RECALL) (f_walkPc := f_walkPc) (f_walkSp := f_walkSp) (f_walkBase := f_walkBase) (f_walkState := f_walkState) (a_memory := a_memory) (a_seen := a_seen) H'
      rw [ut_us, ← eL] at R
      exact R
    · refine ut_em5 H hfc hUc (by omega) hn hr ?_
      unfold wY_emit_63
      exact ut_yrf16 (wl := wl) (M := S (OC (oc - 1))) (by omega) hb.1.1 hF hoc (fun _ => hB.1) (fun _ => hB.2) (ut_rb H) (fun x => by omega) (fun _ he => absurd (he h1) h5) (fun _ _ _ => br_f (by decide) ⟨rfl, ut_RRi H⟩)
theorem ut_em63 (H : ut_Rel a_ops a_firsts a_seconds a_link a_codeStart a_tableStart a_table a_openCell a_openState a_regs a_stack b_kinds b_count b_values b_function b_address b_atCall f_sp f_pc rb T S OC CS TS bs ad fn cl fl dl wl U fc oc t ra D) (hfc : fc < fl) (hUc : U < cl) (ho : o ≤ 16) (hn : ut_ops fl o p1 p2) (hr : ¬ (rb = 0 ∧ o ≠ 16)) :
    wX_emit_63 (ut_emP ((nI cl), (nI fl), (nI dl), (nI wl), (nI U), (nI oc), (nI D), rb, a_ops, a_firsts, a_seconds, a_regs, b_kinds, b_count, b_values, b_function, b_address, b_atCall) (nI o) p1 p2) (nI o) p1 p2 f_SAVE f_PUSH f_POP f_ALLOC f_FREE f_KEEP f_BACK f_LOAD f_STORE f_SET f_ADDI f_ADD f_CALL f_RET f_IF f_WHILE f_END f_ADVANCE f_OFFSET f_REGISTER f_RESTORE f_REMEMBER f_RECALL (nI cl) (nI fl) (nI dl) (nI wl) (nI U) (nI fc) (nI t) (nI ra) (nI (S U)) rb (nI oc) f_sp f_pc (nI D) f_walkPc f_walkSp f_walkBase f_walkState a_ops a_firsts a_seconds a_link a_codeStart a_tableStart a_table a_openCell a_openState a_regs a_stack a_memory a_seen := by
  by_cases k : o = 13
  · subst k; exact ut_em13 H hfc hUc hn hr
  by_cases k2 : o = 16
  · subst k2; exact ut_em16 H hfc hUc hn hr
  obtain ⟨a, rfl, h1, h2⟩ := hn.1 k k2
  by_cases k3 : o ≤ 12
  · exact ut_em12 H hfc hUc k3 hn hr ⟨h1, h2⟩
  · have hh : ut_hi fl o = 5 := by
      unfold ut_hi
      rw [if_neg (by omega), if_neg (by omega), if_neg (by omega)]
    exact ut_em14 H hfc hUc (by omega) hn hr (by omega)
theorem ut_emit (H : ut_Rel a_ops a_firsts a_seconds a_link a_codeStart a_tableStart a_table a_openCell a_openState a_regs a_stack b_kinds b_count b_values b_function b_address b_atCall f_sp f_pc rb T S OC CS TS bs ad fn cl fl dl wl U fc oc t ra D) (p0 : Int32) : wpX_emit (fun r u' => wpY_emit (fun r' v' => r' = r ∧ ut_RR u' v') ((nI cl), (nI fl), (nI dl), (nI wl), (nI U), (nI oc), (nI D), rb, a_ops, a_firsts, a_seconds, a_regs, b_kinds, b_count, b_values, b_function, b_address, b_atCall) p0 p1 p2) (f_SAVE, f_PUSH, f_POP, f_ALLOC, f_FREE, f_KEEP, f_BACK, f_LOAD, f_STORE, f_SET, f_ADDI, f_ADD, f_CALL, f_RET, f_IF, f_WHILE, f_END, f_ADVANCE, f_OFFSET, f_REGISTER, f_RESTORE, f_REMEMBER, f_RECALL, (nI cl), (nI fl), (nI dl), (nI wl), (nI U), (nI fc), (nI t), (nI ra), (nI (S U)), rb, (nI oc), f_sp, f_pc, (nI D), f_walkPc, f_walkSp, f_walkBase, f_walkState, a_ops, a_firsts, a_seconds, a_link, a_codeStart, a_tableStart, a_table, a_openCell, a_openState, a_regs, a_stack, a_memory, a_seen) p0 p1 p2 := by
  have hl := H.1
  unfold ut_lim at hl
  by_cases z : p0 < 0
  · exact br_t z (ut_yem1 (Or.inl z) ⟨rfl, ut_RRi H⟩)
  · obtain ⟨o, ho31, rfl⟩ := nI_of z
    refine br_f z ?_
    by_cases ho : o ≤ 16
    · refine br_t (nI_le (b := 16) ho (by omega)) ?_
      refine ut_xof ⟨by omega, by omega⟩ ho (fun hn => br_f (by decide) ?_) (fun hn => br_t rfl ?_)
      · have hz := H.2.1.1.2.2.2.2
        have hfl := H.2.1.1.2.1
        refine pk_le fl fc (fun e => ?_) (fun e => ?_)
        · exact ut_yem3 ⟨by omega, by omega⟩ ho hn (by omega) (by omega) (ut_ge1_of H.2.1) hz (Or.inl (by omega)) ⟨rfl, ut_RRi H⟩
        · refine pk_lt U cl (fun hU => ?_) (fun hU => ?_)
          · by_cases r : rb = 0
            · refine br_t r (pk_eq o 16 (fun e16 => ?_) (fun e16 => ?_))
              · exact ut_em63 H e hU ho hn (fun x => x.2 e16)
              · exact ut_yem5 ⟨by omega, by omega⟩ ho hn hU (by omega) (ut_ge1_of H.2.1) hz e (fun _ _ => ⟨rfl, ut_RRi H⟩) (fun x => absurd ⟨r, e16⟩ x)
            · exact br_f r (ut_em63 H e hU ho hn (fun x => r x.1))
          · exact ut_yem3 ⟨by omega, by omega⟩ ho hn (by omega) (by omega) (ut_ge1_of H.2.1) hz (Or.inr (by omega)) ⟨rfl, ut_RRi H⟩
      · exact ut_yem2 ⟨by omega, by omega⟩ ho hn ⟨rfl, ut_RRi H⟩
    · have hn : ¬ nI o ≤ 16 := nI_ge (a := 16) (by omega) ho31
      exact br_f hn (ut_yem1 (Or.inr hn) ⟨rfl, ut_RRi H⟩)
end UT24
end
section
/-! how the frames change -/
section UT25
variable {wl fc D D' : Nat} {A R R' St St' kinds kinds' cnt cnt' vals vals' fnA fnA' adA adA' atc atc' : Nat → Int32} {sp pc sp' pc' : Int32} {S CS bs bs' ad ad' fn fn' : Nat → Nat}
theorem ut_frm_cg {i : Nat} (h : ut_frm wl A S CS fc R St kinds cnt vals fnA adA atc bs ad fn D i) (hw : wl ≤ 8) (e1 : fnA' i = fnA i) (e2 : adA' i = adA i) (e3 : fn' i = fn i) (e4 : ad' i = ad i) (e5 : 0 < i → ad' (i - 1) = ad (i - 1)) (e6 : bs' i = bs i) (e7 : cnt' i = cnt i)
    (e8 : ∀ j, j < 8 → kinds' (i * 8 + j) = kinds (i * 8 + j)) (e9 : ∀ j, j < 8 → vals' (i * 8 + j) = vals (i * 8 + j)) (e10 : ∀ k, bs i - 1 ≤ k → k < bs i + ut_sz (S (ad i)) → St' k = St k) (hb : 1 ≤ bs i)
    (e11 : ∀ r, r < 4 → atc' (i * 4 + r) = atc (i * 4 + r)) (e12 : ∀ r, r < 4 → ut_nx R' atc' D' i r = ut_nx R atc D i r) :
    ut_frm wl A S CS fc R' St' kinds' cnt' vals' fnA' adA' atc' bs' ad' fn' D' i := by
  obtain ⟨f1, g1, g2, g3, g4, g5, g6⟩ := h
  have hs := g3.2.1
  unfold ut_frm
  rw [e1, e2, e3, e4, e6, e7]
  refine ⟨f1, g1, g2, ut_FS_cg g3 (fun j hj => e8 j (by omega)), fun k hk => ?_, ?_, fun r hr => ?_⟩
  · rw [e10 _ (by omega) (by omega), e9 k (by omega)]; exact g4 k hk
  · rw [e10 _ (Nat.le_refl _) (by omega), g5]
    by_cases z : i = 0
    · rw [if_pos z, if_pos z]
    · rw [if_neg z, if_neg z, e5 (by omega)]
  · have hp := g3.2.2.1 r hr
    rw [e11 r hr, e12 r hr]
    refine ⟨fun x => ?_, (g6 r hr).2⟩
    rw [e9 _ (by omega)]; exact (g6 r hr).1 x
theorem ut_bss_mono {S bs ad : Nat → Nat} {D : Nat} (h : ut_bss S bs ad D) : ∀ {i j : Nat}, i < j → j < D → 1 ≤ bs i ∧ bs i + ut_sz (S (ad i)) + 1 ≤ bs j := by
  have pos : ∀ i, i < D → 1 ≤ bs i := by
    intro i
    induction i with
    | zero => intro _; rw [h.1]; exact Nat.le_refl _
    | succ i ih => intro hi; rw [h.2 i hi]; omega
  intro i j
  induction j with
  | zero => intro hi; omega
  | succ j ih =>
    intro hi hj
    have e := h.2 j hj
    by_cases z : i = j
    · subst z; exact ⟨pos i (by omega), by omega⟩
    · have := ih (by omega) (by omega)
      exact ⟨this.1, by omega⟩
theorem ut_bss_pos {S bs ad : Nat → Nat} {D : Nat} (h : ut_bss S bs ad D) {i : Nat} (hi : i < D) : 1 ≤ bs i := by
  rcases Nat.lt_or_ge (i + 1) D with z | z
  · exact (ut_bss_mono h (Nat.lt_succ_self i) z).1
  · rcases Nat.eq_zero_or_pos i with y | y
    · rw [y, h.1]; exact Nat.le_refl _
    · have := ut_bss_mono h (i := i - 1) (j := i) (by omega) hi
      omega
theorem ut_nx_lo {i r : Nat} (h : i + 1 < D) : ut_nx R atc D i r = atc ((i + 1) * 4 + r) := if_pos h
theorem ut_nx_top {i r : Nat} (h : i + 1 = D) : ut_nx R atc D i r = R r := if_neg (by omega)
/-- the top frame moves -/
theorem ut_dy_top {p' : Nat} (h : ut_dy wl A R St kinds cnt vals fnA adA atc sp pc S CS bs ad fn fc D) (hw : wl ≤ 8) (hD : 0 < D)
    (c1 : CS (fn (D - 1)) ≤ p' ∧ p' < CS (fn (D - 1) + 1)) (c2 : A p' = 16 → S p' = S (p' + 1))
    (c3 : cnt' (D - 1) = nI (ut_sz (S p'))) (c4 : ut_FS wl (S p') (fun j => kinds' ((D - 1) * 8 + j))) (c5 : ∀ k, k < ut_sz (S p') → St' (bs (D - 1) + k) = vals' ((D - 1) * 8 + k))
    (c6 : ∀ r, r < 4 → (ut_pl (S p') r ≠ 0 → vals' ((D - 1) * 8 + (ut_pl (S p') r - 1)) = atc ((D - 1) * 4 + r)) ∧ (ut_pl (S p') r = 0 → R' r = atc ((D - 1) * 4 + r)))
    (e1 : ∀ j, j < bs (D - 1) → St' j = St j) (e2 : ∀ j, j < (D - 1) * 8 → vals' j = vals j) (e3 : ∀ j, j < (D - 1) * 8 → kinds' j = kinds j) (e4 : ∀ j, j < D - 1 → cnt' j = cnt j)
    (e5 : ∀ j, j < D - 1 → adA' j = adA j) (e6 : adA' (D - 1) = nI p') :
    ut_dy wl A R' St' kinds' cnt' vals' fnA adA' atc (nI (bs (D - 1) + ut_sz (S p'))) (nI p') S CS bs (ut_un ad (D - 1) p') fn fc D := by
  obtain ⟨h1, h2, h3⟩ := h
  refine ⟨⟨h1.1, fun i hi => ?_⟩, fun i hi => ?_, fun _ => ?_⟩
  · rw [ut_unn (by omega)]; exact h1.2 i hi
  · by_cases z : i = D - 1
    · subst z
      obtain ⟨f1, g1, g2, g3, g4, g5, g6⟩ := h2 (D - 1) hi
      have hb := ut_bss_pos h1 hi
      unfold ut_frm
      rw [ut_us]
      refine ⟨⟨f1.1, e6, f1.2.2.1, c1.1, c1.2⟩, c2, c3, c4, c5, ?_, fun r hr => ⟨(c6 r hr).1, fun x => ?_⟩⟩
      · rw [e1 _ (by omega), g5]
        by_cases y : D - 1 = 0
        · rw [if_pos y, if_pos y]
        · rw [if_neg y, if_neg y, ut_unn (by omega)]
      · rw [ut_nx_top (by omega)]; exact (c6 r hr).2 x
    · have hm := ut_bss_mono h1 (i := i) (j := D - 1) (by omega) (by omega)
      have hb := ut_bss_pos h1 hi
      exact ut_frm_cg (h2 i hi) hw rfl (e5 i (by omega)) rfl (ut_unn (by omega)) (fun _ => ut_unn (by omega)) rfl (e4 i (by omega)) (fun j hj => e3 _ (by omega)) (fun j hj => e2 _ (by omega)) (fun k k1 k2 => e1 k (by omega)) hb (fun _ _ => rfl)
        (fun r hr => by rw [ut_nx_lo (by omega), ut_nx_lo (by omega)])
  · rw [ut_us]; exact ⟨rfl, rfl⟩
/-- a new frame -/
theorem ut_dy_push {f q : Nat} (h : ut_dy wl A R St kinds cnt vals fnA adA atc sp pc S CS bs ad fn fc D) (hw : wl ≤ 8)
    (hf : f < fc) (hS : S (CS f) = 0) (hA : A (CS f) ≠ 16) (hCS : CS f < CS (f + 1)) (hq : q = if D = 0 then 0 else bs (D - 1) + ut_sz (S (ad (D - 1))))
    (e1 : St' q = if D = 0 then -1 else nI (ad (D - 1))) (e2 : ∀ j, j < q → St' j = St j) (e3 : fnA' D = nI f) (e4 : ∀ j, j < D → fnA' j = fnA j) (e5 : adA' D = nI (CS f)) (e6 : ∀ j, j < D → adA' j = adA j)
    (e7 : cnt' D = 0) (e8 : ∀ j, j < D → cnt' j = cnt j) (e9 : ∀ r, r < 4 → atc' (D * 4 + r) = R r) (e10 : ∀ j, j < D * 4 → atc' j = atc j) :
    ut_dy wl A R St' kinds cnt' vals fnA' adA' atc' (nI (q + 1)) (nI (CS f)) S CS (ut_un bs D (q + 1)) (ut_un ad D (CS f)) (ut_un fn D f) fc (D + 1) := by
  obtain ⟨h1, h2, h3⟩ := h
  have z0 : ∀ r, ut_pl 0 r = 0 := fun r => by unfold ut_pl; rw [Nat.zero_div]
  have s0 : ut_sz 0 = 0 := rfl
  refine ⟨⟨?_, fun i hi => ?_⟩, fun i hi => ?_, fun _ => ?_⟩
  · by_cases z : D = 0
    · subst z; rw [ut_us, hq, if_pos rfl]
    · rw [ut_unn (by omega)]; exact h1.1
  · rw [ut_unn (f := ad) (by omega), ut_unn (f := bs) (k := D) (j := i) (by omega)]
    by_cases z : i + 1 = D
    · rw [z, ut_us, hq, if_neg (by omega), show D - 1 = i by omega]
    · rw [ut_unn z]; exact h1.2 i (by omega)
  · by_cases z : i = D
    · subst z
      unfold ut_frm
      rw [ut_us, ut_us, ut_us, hS]
      refine ⟨⟨e3, e5, hf, Nat.le_refl _, hCS⟩, fun x => absurd x hA, e7, ut_FS0, fun k hk => absurd hk (Nat.not_lt_zero k), ?_, fun r hr => ⟨fun x => absurd (z0 r) x, fun _ => ?_⟩⟩
      · rw [Nat.add_sub_cancel, e1]
        by_cases y : i = 0
        · rw [if_pos y, if_pos y]
        · rw [if_neg y, if_neg y, ut_unn (by omega)]
      · rw [ut_nx_top rfl, e9 r hr]
    · have hb := ut_bss_pos h1 (i := i) (by omega)
      have hqk : bs i + ut_sz (S (ad i)) ≤ q := by
        rw [hq, if_neg (by omega)]
        by_cases y : i = D - 1
        · rw [y]; exact Nat.le_refl _
        · have := ut_bss_mono h1 (i := i) (j := D - 1) (by omega) (by omega)
          omega
      refine ut_frm_cg (h2 i (by omega)) hw (e4 i (by omega)) (e6 i (by omega)) (ut_unn z) (ut_unn z) (fun _ => ut_unn (by omega)) (ut_unn z) (e8 i (by omega)) (fun _ _ => rfl) (fun _ _ => rfl) (fun k k1 k2 => e2 k (by omega)) hb (fun r hr => e10 _ (by omega)) (fun r hr => ?_)
      rw [ut_nx_lo (D := D + 1) (by omega)]
      by_cases y : i + 1 = D
      · rw [ut_nx_top y, y]; exact e9 r hr
      · rw [ut_nx_lo (by omega)]; exact e10 _ (by omega)
  · rw [Nat.add_sub_cancel, ut_us, ut_us, hS]; exact ⟨rfl, rfl⟩
/-- frames are left -/
theorem ut_dy_pop (h : ut_dy wl A R St kinds cnt vals fnA adA atc sp pc S CS bs ad fn fc D) (hw : wl ≤ 8) (hD : D' < D) (e1 : ∀ r, r < 4 → R' r = atc (D' * 4 + r)) (e2 : ∀ j, j < D' → adA' j = adA j)
    (e3 : 0 < D' → sp' = nI (bs (D' - 1) + ut_sz (S (ad (D' - 1)))) ∧ pc' = nI (ad (D' - 1))) :
    ut_dy wl A R' St kinds cnt vals fnA adA' atc sp' pc' S CS bs ad fn fc D' := by
  obtain ⟨h1, h2, h3⟩ := h
  refine ⟨⟨h1.1, fun i hi => h1.2 i (by omega)⟩, fun i hi => ?_, e3⟩
  refine ut_frm_cg (h2 i (by omega)) hw rfl (e2 i hi) rfl rfl (fun _ => rfl) rfl rfl (fun _ _ => rfl) (fun _ _ => rfl) (fun _ _ _ => rfl) (ut_bss_pos h1 (by omega)) (fun _ _ => rfl) (fun r hr => ?_)
  rw [ut_nx_lo (D := D) (by omega)]
  by_cases y : i + 1 = D'
  · rw [ut_nx_top y, e1 r hr, y]
  · rw [ut_nx_lo (by omega)]
/-- other registers -/
theorem ut_dy_regs (h : ut_dy wl A R St kinds cnt vals fnA adA atc sp pc S CS bs ad fn fc D) (hw : wl ≤ 8) (e : 0 < D → ∀ r, r < 4 → ut_pl (S (ad (D - 1))) r = 0 → R' r = R r) :
    ut_dy wl A R' St kinds cnt vals fnA adA atc sp pc S CS bs ad fn fc D := by
  obtain ⟨h1, h2, h3⟩ := h
  refine ⟨h1, fun i hi => ?_, h3⟩
  obtain ⟨f1, g1, g2, g3, g4, g5, g6⟩ := h2 i hi
  refine ⟨f1, g1, g2, g3, g4, g5, fun r hr => ⟨(g6 r hr).1, fun x => ?_⟩⟩
  have k := (g6 r hr).2 x
  by_cases y : i + 1 = D
  · rw [ut_nx_top y] at k ⊢
    rw [e (by omega) r hr (by rw [show D - 1 = i by omega]; exact x)]; exact k
  · rw [ut_nx_lo (by omega)] at k ⊢
    exact k
end UT25
end
section
/-! the questions -/
section UT26
variable {f_SAVE f_PUSH f_POP f_ALLOC f_FREE f_KEEP f_BACK f_LOAD f_STORE f_SET f_ADDI f_ADD f_CALL f_RET f_IF f_WHILE f_END f_ADVANCE f_OFFSET f_REGISTER f_RESTORE f_REMEMBER f_RECALL f_codeLimit f_functionLimit f_depthLimit f_wordLimit f_used f_functionCount f_tableUsed f_ruleAddress f_now f_reachable f_openCount f_sp f_pc f_active f_walkPc f_walkSp f_walkBase f_walkState : Int32} {a_ops a_firsts a_seconds a_link a_codeStart a_tableStart a_table a_openCell a_openState a_regs a_stack a_memory a_seen : Nat → Int32}
variable {g_codeLimit g_functionsLimit g_depthLimit g_wordsLimit g_used g_open g_depth g_reachable : Int32} {b_cellOp b_cellA b_cellB b_regs b_kinds b_count b_values b_function b_address b_atCall : Nat → Int32}
variable {T S OC CS TS bs ad fn : Nat → Nat} {cl fl dl wl U fc oc t ra D : Nat} {rb : Int32}
theorem ut_q_depth (H : ut_Rel a_ops a_firsts a_seconds a_link a_codeStart a_tableStart a_table a_openCell a_openState a_regs a_stack b_kinds b_count b_values b_function b_address b_atCall f_sp f_pc rb T S OC CS TS bs ad fn cl fl dl wl U fc oc t ra D) : wpX_depth (fun r => wpY_depth (fun r' => r' = r ∧ ut_RR (f_SAVE, f_PUSH, f_POP, f_ALLOC, f_FREE, f_KEEP, f_BACK, f_LOAD, f_STORE, f_SET, f_ADDI, f_ADD, f_CALL, f_RET, f_IF, f_WHILE, f_END, f_ADVANCE, f_OFFSET, f_REGISTER, f_RESTORE, f_REMEMBER, f_RECALL, (nI cl), (nI fl), (nI dl), (nI wl), (nI U), (nI fc), (nI t), (nI ra), (nI (S U)), rb, (nI oc), f_sp, f_pc, (nI D), f_walkPc, f_walkSp, f_walkBase, f_walkState, a_ops, a_firsts, a_seconds, a_link, a_codeStart, a_tableStart, a_table, a_openCell, a_openState, a_regs, a_stack, a_memory, a_seen) ((nI cl), (nI fl), (nI dl), (nI wl), (nI U), (nI oc), (nI D), rb, a_ops, a_firsts, a_seconds, a_regs, b_kinds, b_count, b_values, b_function, b_address, b_atCall)) ((nI cl), (nI fl), (nI dl), (nI wl), (nI U), (nI oc), (nI D), rb, a_ops, a_firsts, a_seconds, a_regs, b_kinds, b_count, b_values, b_function, b_address, b_atCall)) (f_SAVE, f_PUSH, f_POP, f_ALLOC, f_FREE, f_KEEP, f_BACK, f_LOAD, f_STORE, f_SET, f_ADDI, f_ADD, f_CALL, f_RET, f_IF, f_WHILE, f_END, f_ADVANCE, f_OFFSET, f_REGISTER, f_RESTORE, f_REMEMBER, f_RECALL, (nI cl), (nI fl), (nI dl), (nI wl), (nI U), (nI fc), (nI t), (nI ra), (nI (S U)), rb, (nI oc), f_sp, f_pc, (nI D), f_walkPc, f_walkSp, f_walkBase, f_walkState, a_ops, a_firsts, a_seconds, a_link, a_codeStart, a_tableStart, a_table, a_openCell, a_openState, a_regs, a_stack, a_memory, a_seen) := ⟨rfl, ut_RRi H⟩
theorem ut_q_used (H : ut_Rel a_ops a_firsts a_seconds a_link a_codeStart a_tableStart a_table a_openCell a_openState a_regs a_stack b_kinds b_count b_values b_function b_address b_atCall f_sp f_pc rb T S OC CS TS bs ad fn cl fl dl wl U fc oc t ra D) : wpX_used (fun r => wpY_used (fun r' => r' = r ∧ ut_RR (f_SAVE, f_PUSH, f_POP, f_ALLOC, f_FREE, f_KEEP, f_BACK, f_LOAD, f_STORE, f_SET, f_ADDI, f_ADD, f_CALL, f_RET, f_IF, f_WHILE, f_END, f_ADVANCE, f_OFFSET, f_REGISTER, f_RESTORE, f_REMEMBER, f_RECALL, (nI cl), (nI fl), (nI dl), (nI wl), (nI U), (nI fc), (nI t), (nI ra), (nI (S U)), rb, (nI oc), f_sp, f_pc, (nI D), f_walkPc, f_walkSp, f_walkBase, f_walkState, a_ops, a_firsts, a_seconds, a_link, a_codeStart, a_tableStart, a_table, a_openCell, a_openState, a_regs, a_stack, a_memory, a_seen) ((nI cl), (nI fl), (nI dl), (nI wl), (nI U), (nI oc), (nI D), rb, a_ops, a_firsts, a_seconds, a_regs, b_kinds, b_count, b_values, b_function, b_address, b_atCall)) ((nI cl), (nI fl), (nI dl), (nI wl), (nI U), (nI oc), (nI D), rb, a_ops, a_firsts, a_seconds, a_regs, b_kinds, b_count, b_values, b_function, b_address, b_atCall)) (f_SAVE, f_PUSH, f_POP, f_ALLOC, f_FREE, f_KEEP, f_BACK, f_LOAD, f_STORE, f_SET, f_ADDI, f_ADD, f_CALL, f_RET, f_IF, f_WHILE, f_END, f_ADVANCE, f_OFFSET, f_REGISTER, f_RESTORE, f_REMEMBER, f_RECALL, (nI cl), (nI fl), (nI dl), (nI wl), (nI U), (nI fc), (nI t), (nI ra), (nI (S U)), rb, (nI oc), f_sp, f_pc, (nI D), f_walkPc, f_walkSp, f_walkBase, f_walkState, a_ops, a_firsts, a_seconds, a_link, a_codeStart, a_tableStart, a_table, a_openCell, a_openState, a_regs, a_stack, a_memory, a_seen) := ⟨rfl, ut_RRi H⟩
theorem ut_q_functions (H : ut_Rel a_ops a_firsts a_seconds a_link a_codeStart a_tableStart a_table a_openCell a_openState a_regs a_stack b_kinds b_count b_values b_function b_address b_atCall f_sp f_pc rb T S OC CS TS bs ad fn cl fl dl wl U fc oc t ra D) : wpX_functions (fun r => wpY_functions (fun r' => r' = r ∧ ut_RR (f_SAVE, f_PUSH, f_POP, f_ALLOC, f_FREE, f_KEEP, f_BACK, f_LOAD, f_STORE, f_SET, f_ADDI, f_ADD, f_CALL, f_RET, f_IF, f_WHILE, f_END, f_ADVANCE, f_OFFSET, f_REGISTER, f_RESTORE, f_REMEMBER, f_RECALL, (nI cl), (nI fl), (nI dl), (nI wl), (nI U), (nI fc), (nI t), (nI ra), (nI (S U)), rb, (nI oc), f_sp, f_pc, (nI D), f_walkPc, f_walkSp, f_walkBase, f_walkState, a_ops, a_firsts, a_seconds, a_link, a_codeStart, a_tableStart, a_table, a_openCell, a_openState, a_regs, a_stack, a_memory, a_seen) ((nI cl), (nI fl), (nI dl), (nI wl), (nI U), (nI oc), (nI D), rb, a_ops, a_firsts, a_seconds, a_regs, b_kinds, b_count, b_values, b_function, b_address, b_atCall)) ((nI cl), (nI fl), (nI dl), (nI wl), (nI U), (nI oc), (nI D), rb, a_ops, a_firsts, a_seconds, a_regs, b_kinds, b_count, b_values, b_function, b_address, b_atCall)) (f_SAVE, f_PUSH, f_POP, f_ALLOC, f_FREE, f_KEEP, f_BACK, f_LOAD, f_STORE, f_SET, f_ADDI, f_ADD, f_CALL, f_RET, f_IF, f_WHILE, f_END, f_ADVANCE, f_OFFSET, f_REGISTER, f_RESTORE, f_REMEMBER, f_RECALL, (nI cl), (nI fl), (nI dl), (nI wl), (nI U), (nI fc), (nI t), (nI ra), (nI (S U)), rb, (nI oc), f_sp, f_pc, (nI D), f_walkPc, f_walkSp, f_walkBase, f_walkState, a_ops, a_firsts, a_seconds, a_link, a_codeStart, a_tableStart, a_table, a_openCell, a_openState, a_regs, a_stack, a_memory, a_seen) := by
  have hl := H.1
  unfold ut_lim at hl
  unfold wpX_functions
  dsimp only
  refine ut_yfn (by omega) (ut_ge1_of H.2.1) ⟨?_, ut_RRi H⟩
  rw [H.2.1.1.2.2.2.2]
theorem ut_q_cell {p0 p1 : Int32} (H : ut_Rel a_ops a_firsts a_seconds a_link a_codeStart a_tableStart a_table a_openCell a_openState a_regs a_stack b_kinds b_count b_values b_function b_address b_atCall f_sp f_pc rb T S OC CS TS bs ad fn cl fl dl wl U fc oc t ra D) : wpX_cell (fun r => wpY_cell (fun r' => r' = r ∧ ut_RR (f_SAVE, f_PUSH, f_POP, f_ALLOC, f_FREE, f_KEEP, f_BACK, f_LOAD, f_STORE, f_SET, f_ADDI, f_ADD, f_CALL, f_RET, f_IF, f_WHILE, f_END, f_ADVANCE, f_OFFSET, f_REGISTER, f_RESTORE, f_REMEMBER, f_RECALL, (nI cl), (nI fl), (nI dl), (nI wl), (nI U), (nI fc), (nI t), (nI ra), (nI (S U)), rb, (nI oc), f_sp, f_pc, (nI D), f_walkPc, f_walkSp, f_walkBase, f_walkState, a_ops, a_firsts, a_seconds, a_link, a_codeStart, a_tableStart, a_table, a_openCell, a_openState, a_regs, a_stack, a_memory, a_seen) ((nI cl), (nI fl), (nI dl), (nI wl), (nI U), (nI oc), (nI D), rb, a_ops, a_firsts, a_seconds, a_regs, b_kinds, b_count, b_values, b_function, b_address, b_atCall)) ((nI cl), (nI fl), (nI dl), (nI wl), (nI U), (nI oc), (nI D), rb, a_ops, a_firsts, a_seconds, a_regs, b_kinds, b_count, b_values, b_function, b_address, b_atCall) p0 p1) (f_SAVE, f_PUSH, f_POP, f_ALLOC, f_FREE, f_KEEP, f_BACK, f_LOAD, f_STORE, f_SET, f_ADDI, f_ADD, f_CALL, f_RET, f_IF, f_WHILE, f_END, f_ADVANCE, f_OFFSET, f_REGISTER, f_RESTORE, f_REMEMBER, f_RECALL, (nI cl), (nI fl), (nI dl), (nI wl), (nI U), (nI fc), (nI t), (nI ra), (nI (S U)), rb, (nI oc), f_sp, f_pc, (nI D), f_walkPc, f_walkSp, f_walkBase, f_walkState, a_ops, a_firsts, a_seconds, a_link, a_codeStart, a_tableStart, a_table, a_openCell, a_openState, a_regs, a_stack, a_memory, a_seen) p0 p1 := by
  have hl := H.1
  unfold ut_lim at hl
  have K := ut_RRi (f_SAVE := f_SAVE) (f_PUSH := f_PUSH) (f_POP := f_POP) (f_ALLOC := f_ALLOC) (f_FREE := f_FREE) (f_KEEP := f_KEEP) (f_BACK := f_BACK) (f_LOAD := f_LOAD) (f_STORE := f_STORE) (f_SET := f_SET) (f_ADDI := f_ADDI) (f_ADD := f_ADD) (f_CALL := f_CALL) (f_RET := f_RET) (f_IF := f_IF) (f_WHILE := f_WHILE) (f_END := f_END) (f_ADVANCE := f_ADVANCE) (f_OFFSET := f_OFFSET) (f_REGISTER := f_REGISTER) (f_RESTORE := f_RESTORE) (f_REMEMBER := f_REMEMBER) (f_RECALL := f_RECALL) (f_walkPc := f_walkPc) (f_walkSp := f_walkSp) (f_walkBase := f_walkBase) (f_walkState := f_walkState) (a_memory := a_memory) (a_seen := a_seen) H
  by_cases z : p0 < 0
  · exact br_t z (br_t z ⟨rfl, K⟩)
  · obtain ⟨q, hq, rfl⟩ := nI_of z
    by_cases hU : U ≤ q
    · have y := nI_le hU hq
      exact br_f z (br_t y (br_f z (br_t y ⟨rfl, K⟩)))
    · have y : ¬ nI U ≤ nI q := nI_ge (by omega) (by omega)
      by_cases w : p1 < 0
      · exact br_f z (br_f y (br_t w (br_f z (br_f y (br_t w ⟨rfl, K⟩)))))
      · by_cases x : p1 ≤ 2
        · have i : vp_in (nI q) 64 := vp_in_nI (by omega) (by omega)
          by_cases e0 : p1 = 0
          · exact br_f z (br_f y (br_f w (br_t x (br_t e0 ⟨i, br_f z (br_f y (br_f w (br_t x (br_t e0 ⟨i, rfl, K⟩))))⟩))))
          · by_cases e1 : p1 = 1
            · exact br_f z (br_f y (br_f w (br_t x (br_f e0 (br_t e1 ⟨i, br_f z (br_f y (br_f w (br_t x (br_f e0 (br_t e1 ⟨i, rfl, K⟩)))))⟩)))))
            · exact br_f z (br_f y (br_f w (br_t x (br_f e0 (br_f e1 ⟨i, br_f z (br_f y (br_f w (br_t x (br_f e0 (br_f e1 ⟨i, rfl, K⟩)))))⟩)))))
        · exact br_f z (br_f y (br_f w (br_f x (br_f z (br_f y (br_f w (br_f x ⟨rfl, K⟩)))))))
/-! levels -/
theorem ut_lev {p0 : Int32} (hD : D ≤ 16) : p0 < 0 ∨ (¬ p0 < 0 ∧ nI D ≤ p0) ∨ ∃ l, l < D ∧ p0 = nI l := by
  rcases pk_ix p0 (n := D) (by omega) with h | h | h
  · exact Or.inl h
  · refine Or.inr (Or.inl ⟨fun x => ?_, h⟩)
    have : nI D < 0 := Int32.lt_of_le_of_lt h x
    exact nI_pos (by omega) this
  · exact Or.inr (Or.inr h)
theorem ut_xil {post : Int32 → Prop} {p0 : Int32} (hD : D ≤ 16) (h0 : (p0 < 0 ∨ (¬ p0 < 0 ∧ nI D ≤ p0)) → post 0) (h1 : ∀ l, l < D → p0 = nI l → post 1) : wpX_isLevel post (f_SAVE, f_PUSH, f_POP, f_ALLOC, f_FREE, f_KEEP, f_BACK, f_LOAD, f_STORE, f_SET, f_ADDI, f_ADD, f_CALL, f_RET, f_IF, f_WHILE, f_END, f_ADVANCE, f_OFFSET, f_REGISTER, f_RESTORE, f_REMEMBER, f_RECALL, f_codeLimit, f_functionLimit, f_depthLimit, f_wordLimit, f_used, f_functionCount, f_tableUsed, f_ruleAddress, f_now, f_reachable, f_openCount, f_sp, f_pc, (nI D), f_walkPc, f_walkSp, f_walkBase, f_walkState, a_ops, a_firsts, a_seconds, a_link, a_codeStart, a_tableStart, a_table, a_openCell, a_openState, a_regs, a_stack, a_memory, a_seen) p0 := by
  rcases ut_lev (p0 := p0) hD with h | h | ⟨l, hl, rfl⟩
  · exact br_t h (h0 (Or.inl h))
  · exact br_f h.1 (br_t h.2 (h0 (Or.inr h)))
  · exact br_f (nI_pos (by omega)) (br_f (nI_ge hl (by omega)) (h1 l hl rfl))
/-- level l of the reference -/
theorem ut_dl {l : Nat} (hl : l < D) : (nI D - 1) - nI l = nI (D - 1 - l) := by
  rw [ut_s1 (by omega), pk_sub (by omega)]
theorem ut_ylv {A B : Prop} {p0 : Int32} (hD : D ≤ 16) (h : p0 < 0 ∨ (¬ p0 < 0 ∧ nI D ≤ p0)) (k : A) : (p0 < 0 → A) ∧ (¬ p0 < 0 → ((p0 < nI D → B) ∧ (¬ p0 < nI D → A))) := by
  rcases h with h | h
  · exact br_t h k
  · exact br_f h.1 (br_f (Int32.not_lt.mpr h.2) k)
theorem ut_ylv1 {A B : Prop} {l : Nat} (hD : D ≤ 16) (hl : l < D) (k : B) : (nI l < 0 → A) ∧ (¬ nI l < 0 → ((nI l < nI D → B) ∧ (¬ nI l < nI D → A))) :=
  br_f (nI_pos (by omega)) (br_t (nI_lt hl (by omega)) k)
theorem ut_q_functionAt {p0 : Int32} (H : ut_Rel a_ops a_firsts a_seconds a_link a_codeStart a_tableStart a_table a_openCell a_openState a_regs a_stack b_kinds b_count b_values b_function b_address b_atCall f_sp f_pc rb T S OC CS TS bs ad fn cl fl dl wl U fc oc t ra D) : wpX_functionAt (fun r u' => wpY_functionAt (fun r' => r' = r ∧ ut_RR u' ((nI cl), (nI fl), (nI dl), (nI wl), (nI U), (nI oc), (nI D), rb, a_ops, a_firsts, a_seconds, a_regs, b_kinds, b_count, b_values, b_function, b_address, b_atCall)) ((nI cl), (nI fl), (nI dl), (nI wl), (nI U), (nI oc), (nI D), rb, a_ops, a_firsts, a_seconds, a_regs, b_kinds, b_count, b_values, b_function, b_address, b_atCall) p0) (f_SAVE, f_PUSH, f_POP, f_ALLOC, f_FREE, f_KEEP, f_BACK, f_LOAD, f_STORE, f_SET, f_ADDI, f_ADD, f_CALL, f_RET, f_IF, f_WHILE, f_END, f_ADVANCE, f_OFFSET, f_REGISTER, f_RESTORE, f_REMEMBER, f_RECALL, (nI cl), (nI fl), (nI dl), (nI wl), (nI U), (nI fc), (nI t), (nI ra), (nI (S U)), rb, (nI oc), f_sp, f_pc, (nI D), f_walkPc, f_walkSp, f_walkBase, f_walkState, a_ops, a_firsts, a_seconds, a_link, a_codeStart, a_tableStart, a_table, a_openCell, a_openState, a_regs, a_stack, a_memory, a_seen) p0 := by
  have hl := H.1
  unfold ut_lim at hl
  have W := ut_Rel_W H
  unfold wpX_functionAt
  dsimp only
  refine ut_xil (by omega) (fun h => br_t rfl ?_) (fun l hlD e => br_f (by decide) ?_)
  · exact ut_ylv (by omega) h ⟨rfl, ut_RRi H⟩
  · subst e
    have hs := H.2.2.2.2.2.2.2.2 (by omega)
    refine ut_xsk W (by omega) (by omega) hs.1 hs.2 (fun wp ws wb wst m s hw => ?_)
    dsimp only
    obtain ⟨_, w2, _⟩ := hw
    have fr := (H.2.2.2.2.2.2.2.1 (D - 1 - l) (by omega)).1
    rw [(w2 hlD).1]
    refine ut_xfo H.2.2.1.1 H.2.1.2.1 (by omega) (by have := H.2.1.1.2.1; omega) fr.2.2.1 fr.2.2.2.1 fr.2.2.2.2 ?_
    refine ut_ylv1 (by omega) hlD ?_
    rw [ut_dl hlD]
    refine ⟨vp_in_nI (by omega) (by omega), ?_⟩
    rw [nI_clamp (by omega)]
    exact ⟨fr.1, ut_RRi H⟩
theorem ut_q_addressAt {p0 : Int32} (H : ut_Rel a_ops a_firsts a_seconds a_link a_codeStart a_tableStart a_table a_openCell a_openState a_regs a_stack b_kinds b_count b_values b_function b_address b_atCall f_sp f_pc rb T S OC CS TS bs ad fn cl fl dl wl U fc oc t ra D) : wpX_addressAt (fun r u' => wpY_addressAt (fun r' => r' = r ∧ ut_RR u' ((nI cl), (nI fl), (nI dl), (nI wl), (nI U), (nI oc), (nI D), rb, a_ops, a_firsts, a_seconds, a_regs, b_kinds, b_count, b_values, b_function, b_address, b_atCall)) ((nI cl), (nI fl), (nI dl), (nI wl), (nI U), (nI oc), (nI D), rb, a_ops, a_firsts, a_seconds, a_regs, b_kinds, b_count, b_values, b_function, b_address, b_atCall) p0) (f_SAVE, f_PUSH, f_POP, f_ALLOC, f_FREE, f_KEEP, f_BACK, f_LOAD, f_STORE, f_SET, f_ADDI, f_ADD, f_CALL, f_RET, f_IF, f_WHILE, f_END, f_ADVANCE, f_OFFSET, f_REGISTER, f_RESTORE, f_REMEMBER, f_RECALL, (nI cl), (nI fl), (nI dl), (nI wl), (nI U), (nI fc), (nI t), (nI ra), (nI (S U)), rb, (nI oc), f_sp, f_pc, (nI D), f_walkPc, f_walkSp, f_walkBase, f_walkState, a_ops, a_firsts, a_seconds, a_link, a_codeStart, a_tableStart, a_table, a_openCell, a_openState, a_regs, a_stack, a_memory, a_seen) p0 := by
  have hl := H.1
  unfold ut_lim at hl
  have W := ut_Rel_W H
  unfold wpX_addressAt
  dsimp only
  refine ut_xil (by omega) (fun h => br_t rfl ?_) (fun l hlD e => br_f (by decide) ?_)
  · exact ut_ylv (by omega) h ⟨rfl, ut_RRi H⟩
  · subst e
    have hs := H.2.2.2.2.2.2.2.2 (by omega)
    refine ut_xsk W (by omega) (by omega) hs.1 hs.2 (fun wp ws wb wst m s hw => ?_)
    dsimp only
    obtain ⟨_, w2, _⟩ := hw
    have fr := (H.2.2.2.2.2.2.2.1 (D - 1 - l) (by omega)).1
    refine ut_ylv1 (by omega) hlD ?_
    rw [ut_dl hlD]
    refine ⟨vp_in_nI (by omega) (by omega), ?_⟩
    rw [nI_clamp (by omega)]
    refine ⟨?_, ut_RRi H⟩
    rw [(w2 hlD).1]; exact fr.2.1
theorem ut_q_wordsAt {p0 : Int32} (H : ut_Rel a_ops a_firsts a_seconds a_link a_codeStart a_tableStart a_table a_openCell a_openState a_regs a_stack b_kinds b_count b_values b_function b_address b_atCall f_sp f_pc rb T S OC CS TS bs ad fn cl fl dl wl U fc oc t ra D) : wpX_wordsAt (fun r u' => wpY_wordsAt (fun r' => r' = r ∧ ut_RR u' ((nI cl), (nI fl), (nI dl), (nI wl), (nI U), (nI oc), (nI D), rb, a_ops, a_firsts, a_seconds, a_regs, b_kinds, b_count, b_values, b_function, b_address, b_atCall)) ((nI cl), (nI fl), (nI dl), (nI wl), (nI U), (nI oc), (nI D), rb, a_ops, a_firsts, a_seconds, a_regs, b_kinds, b_count, b_values, b_function, b_address, b_atCall) p0) (f_SAVE, f_PUSH, f_POP, f_ALLOC, f_FREE, f_KEEP, f_BACK, f_LOAD, f_STORE, f_SET, f_ADDI, f_ADD, f_CALL, f_RET, f_IF, f_WHILE, f_END, f_ADVANCE, f_OFFSET, f_REGISTER, f_RESTORE, f_REMEMBER, f_RECALL, (nI cl), (nI fl), (nI dl), (nI wl), (nI U), (nI fc), (nI t), (nI ra), (nI (S U)), rb, (nI oc), f_sp, f_pc, (nI D), f_walkPc, f_walkSp, f_walkBase, f_walkState, a_ops, a_firsts, a_seconds, a_link, a_codeStart, a_tableStart, a_table, a_openCell, a_openState, a_regs, a_stack, a_memory, a_seen) p0 := by
  have hl := H.1
  unfold ut_lim at hl
  have W := ut_Rel_W H
  unfold wpX_wordsAt
  dsimp only
  refine ut_xil (by omega) (fun h => br_t rfl ?_) (fun l hlD e => br_f (by decide) ?_)
  · exact ut_ylv (by omega) h ⟨rfl, ut_RRi H⟩
  · subst e
    have hs := H.2.2.2.2.2.2.2.2 (by omega)
    refine ut_xsk W (by omega) (by omega) hs.1 hs.2 (fun wp ws wb wst m s hw => ?_)
    dsimp only
    obtain ⟨_, w2, _⟩ := hw
    have fr := H.2.2.2.2.2.2.2.1 (D - 1 - l) (by omega)
    rw [(w2 hlD).2.2.2]
    refine ut_xsz fr.2.2.2.1.1 ?_
    refine ut_ylv1 (by omega) hlD ?_
    rw [ut_dl hlD]
    refine ⟨vp_in_nI (by omega) (by omega), ?_⟩
    rw [nI_clamp (by omega)]
    exact ⟨fr.2.2.1, ut_RRi H⟩
theorem ut_q_reg {p0 p1 : Int32} (H : ut_Rel a_ops a_firsts a_seconds a_link a_codeStart a_tableStart a_table a_openCell a_openState a_regs a_stack b_kinds b_count b_values b_function b_address b_atCall f_sp f_pc rb T S OC CS TS bs ad fn cl fl dl wl U fc oc t ra D) : wpX_reg (fun r u' => wpY_reg (fun r' => r' = r ∧ ut_RR u' ((nI cl), (nI fl), (nI dl), (nI wl), (nI U), (nI oc), (nI D), rb, a_ops, a_firsts, a_seconds, a_regs, b_kinds, b_count, b_values, b_function, b_address, b_atCall)) ((nI cl), (nI fl), (nI dl), (nI wl), (nI U), (nI oc), (nI D), rb, a_ops, a_firsts, a_seconds, a_regs, b_kinds, b_count, b_values, b_function, b_address, b_atCall) p0 p1) (f_SAVE, f_PUSH, f_POP, f_ALLOC, f_FREE, f_KEEP, f_BACK, f_LOAD, f_STORE, f_SET, f_ADDI, f_ADD, f_CALL, f_RET, f_IF, f_WHILE, f_END, f_ADVANCE, f_OFFSET, f_REGISTER, f_RESTORE, f_REMEMBER, f_RECALL, (nI cl), (nI fl), (nI dl), (nI wl), (nI U), (nI fc), (nI t), (nI ra), (nI (S U)), rb, (nI oc), f_sp, f_pc, (nI D), f_walkPc, f_walkSp, f_walkBase, f_walkState, a_ops, a_firsts, a_seconds, a_link, a_codeStart, a_tableStart, a_table, a_openCell, a_openState, a_regs, a_stack, a_memory, a_seen) p0 p1 := by
  have hl := H.1
  unfold ut_lim at hl
  have W := ut_Rel_W H
  have K := ut_RRi (f_SAVE := f_SAVE) (f_PUSH := f_PUSH) (f_POP := f_POP) (f_ALLOC := f_ALLOC) (f_FREE := f_FREE) (f_KEEP := f_KEEP) (f_BACK := f_BACK) (f_LOAD := f_LOAD) (f_STORE := f_STORE) (f_SET := f_SET) (f_ADDI := f_ADDI) (f_ADD := f_ADD) (f_CALL := f_CALL) (f_RET := f_RET) (f_IF := f_IF) (f_WHILE := f_WHILE) (f_END := f_END) (f_ADVANCE := f_ADVANCE) (f_OFFSET := f_OFFSET) (f_REGISTER := f_REGISTER) (f_RESTORE := f_RESTORE) (f_REMEMBER := f_REMEMBER) (f_RECALL := f_RECALL) (f_walkPc := f_walkPc) (f_walkSp := f_walkSp) (f_walkBase := f_walkBase) (f_walkState := f_walkState) (a_memory := a_memory) (a_seen := a_seen) H
  by_cases h1 : p1 < 0
  · exact br_t h1 (br_t h1 ⟨rfl, K⟩)
  by_cases h5 : 5 < p1
  · exact br_f h1 (br_t h5 (br_f h1 (br_t h5 ⟨rfl, K⟩)))
  by_cases h0 : p0 < 0
  · exact br_f h1 (br_f h5 (br_t h0 (br_f h1 (br_f h5 (br_t h0 ⟨rfl, K⟩)))))
  by_cases hd : p0 ≤ nI D
  · by_cases e0 : p0 = 0
    · obtain ⟨r, hr, rfl⟩ := nI_of h1
      have h5' : ¬ 5 < r := fun x => h5 (nI_lt (a := 5) x hr)
      have i : vp_in (nI r) 6 := vp_in_nI (by omega) (by omega)
      exact br_f h1 (br_f h5 (br_f h0 (br_t hd (br_t e0 ⟨i, br_f h1 (br_f h5 (br_f h0 (br_t hd (br_t e0 ⟨i, rfl, K⟩))))⟩))))
    · by_cases h3 : p1 ≤ 3
      · obtain ⟨r, hr, rfl⟩ := nI_of h1
        obtain ⟨l, hl2, rfl⟩ := nI_of h0
        have h3' : r ≤ 3 := (nI_leI (b := 3) hr (by omega)).mp h3
        have hd' : l ≤ D := (nI_leI hl2 (by omega)).mp hd
        have e0' : l ≠ 0 := fun x => e0 (by rw [x]; rfl)
        refine br_f h1 (br_f h5 (br_f h0 (br_t hd (br_f e0 (br_t h3 ?_)))))
        have hs := H.2.2.2.2.2.2.2.2 (by omega)
        refine ut_xsk W hd' (by omega) hs.1 hs.2 (fun wp ws wb wst m s hw => ?_)
        dsimp only
        refine ⟨vp_in_nI (by omega) (by omega), ?_⟩
        refine br_f h1 (br_f h5 (br_f h0 (br_t hd (br_f e0 (br_t h3 ?_)))))
        rw [pk_sub hd', show (4 : Int32) = nI 4 from rfl, pk_mul, nI_add]
        refine ⟨vp_in_nI (by omega) (by omega), ?_⟩
        rw [nI_clamp (by omega), nI_clamp (by omega)]
        refine ⟨?_, ut_RRi H⟩
        rw [hw.1 r (by omega), if_neg e0']
      · exact br_f h1 (br_f h5 (br_f h0 (br_t hd (br_f e0 (br_f h3 (br_f h1 (br_f h5 (br_f h0 (br_t hd (br_f e0 (br_f h3 ⟨rfl, K⟩)))))))))))
  · exact br_f h1 (br_f h5 (br_f h0 (br_f hd (br_f h1 (br_f h5 (br_f h0 (br_f hd ⟨rfl, K⟩)))))))
/-- seekWord -/
theorem ut_xsw {post : Int32 → SX → Prop} {p0 p1 : Int32} (H : ut_Rel a_ops a_firsts a_seconds a_link a_codeStart a_tableStart a_table a_openCell a_openState a_regs a_stack b_kinds b_count b_values b_function b_address b_atCall f_sp f_pc rb T S OC CS TS bs ad fn cl fl dl wl U fc oc t ra D) (h0 : (p0 < 0 ∨ (¬ p0 < 0 ∧ nI D ≤ p0)) → post 0 (f_SAVE, f_PUSH, f_POP, f_ALLOC, f_FREE, f_KEEP, f_BACK, f_LOAD, f_STORE, f_SET, f_ADDI, f_ADD, f_CALL, f_RET, f_IF, f_WHILE, f_END, f_ADVANCE, f_OFFSET, f_REGISTER, f_RESTORE, f_REMEMBER, f_RECALL, (nI cl), (nI fl), (nI dl), (nI wl), (nI U), (nI fc), (nI t), (nI ra), (nI (S U)), rb, (nI oc), f_sp, f_pc, (nI D), f_walkPc, f_walkSp, f_walkBase, f_walkState, a_ops, a_firsts, a_seconds, a_link, a_codeStart, a_tableStart, a_table, a_openCell, a_openState, a_regs, a_stack, a_memory, a_seen))
    (h1 : ∀ l wp ws wb wst m s, l < D → p0 = nI l → ut_wk a_regs b_atCall S bs ad D l wp ws wb wst s → (p1 < 0 ∨ (¬ p1 < 0 ∧ nI (ut_sz (S (ad (D - 1 - l)))) ≤ p1)) → post 0 (f_SAVE, f_PUSH, f_POP, f_ALLOC, f_FREE, f_KEEP, f_BACK, f_LOAD, f_STORE, f_SET, f_ADDI, f_ADD, f_CALL, f_RET, f_IF, f_WHILE, f_END, f_ADVANCE, f_OFFSET, f_REGISTER, f_RESTORE, f_REMEMBER, f_RECALL, (nI cl), (nI fl), (nI dl), (nI wl), (nI U), (nI fc), (nI t), (nI ra), (nI (S U)), rb, (nI oc), f_sp, f_pc, (nI D), wp, ws, wb, wst, a_ops, a_firsts, a_seconds, a_link, a_codeStart, a_tableStart, a_table, a_openCell, a_openState, a_regs, a_stack, m, s))
    (h2 : ∀ l wp ws wb wst m s k, l < D → p0 = nI l → ut_wk a_regs b_atCall S bs ad D l wp ws wb wst s → k < ut_sz (S (ad (D - 1 - l))) → p1 = nI k → post 1 (f_SAVE, f_PUSH, f_POP, f_ALLOC, f_FREE, f_KEEP, f_BACK, f_LOAD, f_STORE, f_SET, f_ADDI, f_ADD, f_CALL, f_RET, f_IF, f_WHILE, f_END, f_ADVANCE, f_OFFSET, f_REGISTER, f_RESTORE, f_REMEMBER, f_RECALL, (nI cl), (nI fl), (nI dl), (nI wl), (nI U), (nI fc), (nI t), (nI ra), (nI (S U)), rb, (nI oc), f_sp, f_pc, (nI D), wp, ws, wb, wst, a_ops, a_firsts, a_seconds, a_link, a_codeStart, a_tableStart, a_table, a_openCell, a_openState, a_regs, a_stack, m, s)) :
    wpX_seekWord post (f_SAVE, f_PUSH, f_POP, f_ALLOC, f_FREE, f_KEEP, f_BACK, f_LOAD, f_STORE, f_SET, f_ADDI, f_ADD, f_CALL, f_RET, f_IF, f_WHILE, f_END, f_ADVANCE, f_OFFSET, f_REGISTER, f_RESTORE, f_REMEMBER, f_RECALL, (nI cl), (nI fl), (nI dl), (nI wl), (nI U), (nI fc), (nI t), (nI ra), (nI (S U)), rb, (nI oc), f_sp, f_pc, (nI D), f_walkPc, f_walkSp, f_walkBase, f_walkState, a_ops, a_firsts, a_seconds, a_link, a_codeStart, a_tableStart, a_table, a_openCell, a_openState, a_regs, a_stack, a_memory, a_seen) p0 p1 := by
  have hl := H.1
  unfold ut_lim at hl
  have W := ut_Rel_W H
  unfold wpX_seekWord
  dsimp only
  refine ut_xil (by omega) (fun h => br_t rfl (h0 h)) (fun l hlD e => br_f (by decide) ?_)
  subst e
  have hs := H.2.2.2.2.2.2.2.2 (by omega)
  refine ut_xsk W (by omega) (by omega) hs.1 hs.2 (fun wp ws wb wst m s hw => ?_)
  dsimp only
  have fr := H.2.2.2.2.2.2.2.1 (D - 1 - l) (by omega)
  have h16 := ut_sz_lt (S (ad (D - 1 - l)))
  by_cases hp : p1 < 0
  · exact br_t hp (h1 l _ _ _ _ _ _ hlD rfl hw (Or.inl hp))
  · refine br_f hp ?_
    have e4 := (hw.2.1 hlD).2.2.2
    subst e4
    refine ut_xsz fr.2.2.2.1.1 ?_
    obtain ⟨k, hk, rfl⟩ := nI_of hp
    refine pk_le (ut_sz (S (ad (D - 1 - l)))) k (fun a => h1 l _ _ _ _ _ _ hlD rfl hw (Or.inr ⟨hp, nI_le a hk⟩)) (fun a => h2 l _ _ _ _ _ _ k hlD rfl hw a rfl)
theorem ut_yws0 {post : Int32 → Prop} {p0 : Int32} (hD : D ≤ 16) (h : p0 < 0 ∨ (¬ p0 < 0 ∧ nI D ≤ p0)) (k : post (-1)) : wpY_wordsAt post (g_codeLimit, g_functionsLimit, g_depthLimit, g_wordsLimit, g_used, g_open, (nI D), g_reachable, b_cellOp, b_cellA, b_cellB, b_regs, b_kinds, b_count, b_values, b_function, b_address, b_atCall) p0 := ut_ylv hD h k
theorem ut_yws1 {post : Int32 → Prop} {l : Nat} (hD : D ≤ 16) (hl : l < D) (k : post (b_count (D - 1 - l))) : wpY_wordsAt post (g_codeLimit, g_functionsLimit, g_depthLimit, g_wordsLimit, g_used, g_open, (nI D), g_reachable, b_cellOp, b_cellA, b_cellB, b_regs, b_kinds, b_count, b_values, b_function, b_address, b_atCall) (nI l) := by
  refine ut_ylv1 hD hl ?_
  rw [ut_dl hl]
  refine ⟨vp_in_nI (by omega) (by omega), ?_⟩
  rw [nI_clamp (by omega)]
  exact k
theorem ut_m1 {p1 : Int32} (h : ¬ p1 < 0) : ¬ p1 < -1 := fun x => h (Int32.lt_trans x (by decide))
theorem ut_q_wordAt {p0 p1 : Int32} (H : ut_Rel a_ops a_firsts a_seconds a_link a_codeStart a_tableStart a_table a_openCell a_openState a_regs a_stack b_kinds b_count b_values b_function b_address b_atCall f_sp f_pc rb T S OC CS TS bs ad fn cl fl dl wl U fc oc t ra D) : wpX_wordAt (fun r u' => wpY_wordAt (fun r' => r' = r ∧ ut_RR u' ((nI cl), (nI fl), (nI dl), (nI wl), (nI U), (nI oc), (nI D), rb, a_ops, a_firsts, a_seconds, a_regs, b_kinds, b_count, b_values, b_function, b_address, b_atCall)) ((nI cl), (nI fl), (nI dl), (nI wl), (nI U), (nI oc), (nI D), rb, a_ops, a_firsts, a_seconds, a_regs, b_kinds, b_count, b_values, b_function, b_address, b_atCall) p0 p1) (f_SAVE, f_PUSH, f_POP, f_ALLOC, f_FREE, f_KEEP, f_BACK, f_LOAD, f_STORE, f_SET, f_ADDI, f_ADD, f_CALL, f_RET, f_IF, f_WHILE, f_END, f_ADVANCE, f_OFFSET, f_REGISTER, f_RESTORE, f_REMEMBER, f_RECALL, (nI cl), (nI fl), (nI dl), (nI wl), (nI U), (nI fc), (nI t), (nI ra), (nI (S U)), rb, (nI oc), f_sp, f_pc, (nI D), f_walkPc, f_walkSp, f_walkBase, f_walkState, a_ops, a_firsts, a_seconds, a_link, a_codeStart, a_tableStart, a_table, a_openCell, a_openState, a_regs, a_stack, a_memory, a_seen) p0 p1 := by
  have hl := H.1
  unfold ut_lim at hl
  have W := ut_Rel_W H
  unfold wpX_wordAt
  dsimp only
  refine ut_xsw H (fun h => ?_) (fun l wp ws wb wst m s hlD e hw h => ?_) (fun l wp ws wb wst m s k hlD e hw hk e1 => ?_)
  · refine br_t rfl ?_
    by_cases hp : p1 < 0
    · exact br_t hp ⟨rfl, ut_RRi H⟩
    · exact br_f hp (ut_yws0 (by omega) h (br_f (ut_m1 hp) ⟨rfl, ut_RRi H⟩))
  · subst e
    refine br_t rfl ?_
    rcases h with h | h
    · exact br_t h ⟨rfl, ut_RRi H⟩
    · refine br_f h.1 (ut_yws1 (by omega) hlD ?_)
      have fr := H.2.2.2.2.2.2.2.1 (D - 1 - l) (by omega)
      rw [fr.2.2.1]
      exact br_f (Int32.not_lt.mpr h.2) ⟨rfl, ut_RRi H⟩
  · subst e e1
    have fr := H.2.2.2.2.2.2.2.1 (D - 1 - l) (by omega)
    obtain ⟨b1, b2, b3, b4, b5⟩ := ut_bs_b W (D - 1 - l) (by omega)
    refine br_f (by decide) ?_
    rw [(hw.2.1 hlD).2.2.1, nI_add]
    refine ⟨vp_in_nI (by omega) (by omega), ?_⟩
    rw [nI_clamp (by omega)]
    refine br_f (nI_pos (by omega)) (ut_yws1 (by omega) hlD ?_)
    rw [fr.2.2.1]
    refine br_t (nI_lt hk (by omega)) ?_
    rw [ut_dl hlD, show (8 : Int32) = nI 8 from rfl, pk_mul, nI_add]
    refine ⟨vp_in_nI (by omega) (by omega), ?_⟩
    rw [nI_clamp (by omega)]
    refine ⟨?_, ut_RRi H⟩
    exact (fr.2.2.2.2.1 k hk).symm
theorem ut_q_kindAt {p0 p1 : Int32} (H : ut_Rel a_ops a_firsts a_seconds a_link a_codeStart a_tableStart a_table a_openCell a_openState a_regs a_stack b_kinds b_count b_values b_function b_address b_atCall f_sp f_pc rb T S OC CS TS bs ad fn cl fl dl wl U fc oc t ra D) : wpX_kindAt (fun r u' => wpY_kindAt (fun r' => r' = r ∧ ut_RR u' ((nI cl), (nI fl), (nI dl), (nI wl), (nI U), (nI oc), (nI D), rb, a_ops, a_firsts, a_seconds, a_regs, b_kinds, b_count, b_values, b_function, b_address, b_atCall)) ((nI cl), (nI fl), (nI dl), (nI wl), (nI U), (nI oc), (nI D), rb, a_ops, a_firsts, a_seconds, a_regs, b_kinds, b_count, b_values, b_function, b_address, b_atCall) p0 p1) (f_SAVE, f_PUSH, f_POP, f_ALLOC, f_FREE, f_KEEP, f_BACK, f_LOAD, f_STORE, f_SET, f_ADDI, f_ADD, f_CALL, f_RET, f_IF, f_WHILE, f_END, f_ADVANCE, f_OFFSET, f_REGISTER, f_RESTORE, f_REMEMBER, f_RECALL, (nI cl), (nI fl), (nI dl), (nI wl), (nI U), (nI fc), (nI t), (nI ra), (nI (S U)), rb, (nI oc), f_sp, f_pc, (nI D), f_walkPc, f_walkSp, f_walkBase, f_walkState, a_ops, a_firsts, a_seconds, a_link, a_codeStart, a_tableStart, a_table, a_openCell, a_openState, a_regs, a_stack, a_memory, a_seen) p0 p1 := by
  have hl := H.1
  unfold ut_lim at hl
  have W := ut_Rel_W H
  unfold wpX_kindAt
  dsimp only
  refine ut_xsw H (fun h => ?_) (fun l wp ws wb wst m s hlD e hw h => ?_) (fun l wp ws wb wst m s k hlD e hw hk e1 => ?_)
  · refine br_t rfl ?_
    by_cases hp : p1 < 0
    · exact br_t hp ⟨rfl, ut_RRi H⟩
    · exact br_f hp (ut_yws0 (by omega) h (br_f (ut_m1 hp) ⟨rfl, ut_RRi H⟩))
  · subst e
    refine br_t rfl ?_
    rcases h with h | h
    · exact br_t h ⟨rfl, ut_RRi H⟩
    · refine br_f h.1 (ut_yws1 (by omega) hlD ?_)
      have fr := H.2.2.2.2.2.2.2.1 (D - 1 - l) (by omega)
      rw [fr.2.2.1]
      exact br_f (Int32.not_lt.mpr h.2) ⟨rfl, ut_RRi H⟩
  · subst e e1
    have fr := H.2.2.2.2.2.2.2.1 (D - 1 - l) (by omega)
    obtain ⟨b1, b2, b3, b4, b5⟩ := ut_bs_b W (D - 1 - l) (by omega)
    refine br_f (by decide) ?_
    rw [(hw.2.1 hlD).2.2.2]
    refine ut_xkd b4 (by omega) ?_
    refine br_f (nI_pos (by omega)) (ut_yws1 (by omega) hlD ?_)
    rw [fr.2.2.1]
    refine br_t (nI_lt hk (by omega)) ?_
    rw [ut_dl hlD, show (8 : Int32) = nI 8 from rfl, pk_mul, nI_add]
    refine ⟨vp_in_nI (by omega) (by omega), ?_⟩
    rw [nI_clamp (by omega)]
    refine ⟨?_, ?_⟩
    · exact ut_kd_FS fr.2.2.2.1 hk
    · exact ut_RRi H
end UT26
end
section
/-! abandon, start, unwind, poke -/
section UT27
variable {f_SAVE f_PUSH f_POP f_ALLOC f_FREE f_KEEP f_BACK f_LOAD f_STORE f_SET f_ADDI f_ADD f_CALL f_RET f_IF f_WHILE f_END f_ADVANCE f_OFFSET f_REGISTER f_RESTORE f_REMEMBER f_RECALL f_codeLimit f_functionLimit f_depthLimit f_wordLimit f_used f_functionCount f_tableUsed f_ruleAddress f_now f_reachable f_openCount f_sp f_pc f_active f_walkPc f_walkSp f_walkBase f_walkState : Int32} {a_ops a_firsts a_seconds a_link a_codeStart a_tableStart a_table a_openCell a_openState a_regs a_stack a_memory a_seen : Nat → Int32}
variable {g_codeLimit g_functionsLimit g_depthLimit g_wordsLimit g_used g_open g_depth g_reachable : Int32} {b_cellOp b_cellA b_cellB b_regs b_kinds b_count b_values b_function b_address b_atCall : Nat → Int32}
variable {T S OC CS TS bs ad fn : Nat → Nat} {cl fl dl wl U fc oc t ra D : Nat} {rb : Int32}
section B
variable {post : SY → Prop} {f c : Nat}
theorem ut_ybg1 (hD : D < 16) (K : ∀ a', (∀ r, r < 4 → a' (D * 4 + r) = b_regs r) → (∀ j, (j < D * 4 ∨ D * 4 + 4 ≤ j) → a' j = b_atCall j) → post (g_codeLimit, g_functionsLimit, g_depthLimit, g_wordsLimit, g_used, g_open, (nI (D + 1)), g_reachable, b_cellOp, b_cellA, b_cellB, b_regs, b_kinds, b_count, b_values, b_function, b_address, a')) :
    ∀ d i a', i + d = 4 → (∀ r, r < i → a' (D * 4 + r) = b_regs r) → (∀ j, (j < D * 4 ∨ D * 4 + 4 ≤ j) → a' j = b_atCall j) → wY_begin_36 post g_codeLimit g_functionsLimit g_depthLimit g_wordsLimit g_used g_open (nI D) g_reachable (d + 1) (nI i) b_cellOp b_cellA b_cellB b_regs b_kinds b_count b_values b_function b_address a' := by
  intro d
  induction d with
  | zero =>
    intro i a' hi h1 h2
    rw [wY_begin_36]
    dsimp only
    exact br_t (nI_le (a := 4) (by omega) (by omega)) (nm_r (nI_1 D) (K a' (fun r hr => h1 r (by omega)) h2))
  | succ d ih =>
    intro i a' hi h1 h2
    rw [wY_begin_36]
    dsimp only
    refine br_f (nI_ge (b := 4) (by omega) (by omega)) ?_
    rw [show (4 : Int32) = nI 4 from rfl, pk_mul, nI_add]
    refine ⟨vp_in_nI (by omega) (by omega), vp_in_nI (by omega) (by omega), ?_⟩
    rw [nI_clamp (by omega), nI_clamp (by omega)]
    refine nm_e (nm_r (nI_1 i) (ih (i + 1) _ (by omega) (fun r hr => ?_) (fun j hj => ?_)))
    · by_cases z : r = i
      · rw [z, pk_us]
      · rw [pk_un (by omega)]; exact h1 r (by omega)
    · rw [pk_un (by omega)]; exact h2 j hj
theorem ut_ybg (hD : D < 16) (hU : U ≤ 64) (hf : f < 1000) (hE : ut_ge1 b_cellOp U) (hc : c ≤ U) (hcf : c < U → ut_zc b_cellOp c = f) (hlt : ∀ i, i < c → ut_zc b_cellOp i ≠ f)
    (K : ∀ a', (∀ r, r < 4 → a' (D * 4 + r) = b_regs r) → (∀ j, (j < D * 4 ∨ D * 4 + 4 ≤ j) → a' j = b_atCall j) →
      post (g_codeLimit, g_functionsLimit, g_depthLimit, g_wordsLimit, (nI U), g_open, (nI (D + 1)), g_reachable, b_cellOp, b_cellA, b_cellB, b_regs, b_kinds, (upd b_count D 0), b_values, (upd b_function D (nI f)), (upd b_address D (nI c)), a')) :
    wpY_begin post (g_codeLimit, g_functionsLimit, g_depthLimit, g_wordsLimit, (nI U), g_open, (nI D), g_reachable, b_cellOp, b_cellA, b_cellB, b_regs, b_kinds, b_count, b_values, b_function, b_address, b_atCall) (nI f) := by
  refine ⟨vp_in_nI hD (by omega), ?_⟩
  rw [nI_clamp (by omega)]
  refine nm_e (ut_yfc hU hf hE hc hcf hlt ⟨vp_in_nI hD (by omega), nm_e ⟨vp_in_nI (by omega) (by omega), nm_e ⟨5, ?_⟩⟩⟩)
  exact ut_ybg1 hD K 4 0 b_atCall (by omega) (fun r hr => absurd hr (Nat.not_lt_zero r)) (fun _ _ => rfl)
end B
theorem ut_m_abandon (H : ut_Rel a_ops a_firsts a_seconds a_link a_codeStart a_tableStart a_table a_openCell a_openState a_regs a_stack b_kinds b_count b_values b_function b_address b_atCall f_sp f_pc rb T S OC CS TS bs ad fn cl fl dl wl U fc oc t ra D) : wpX_abandon (fun r u' => wpY_abandon (fun r' v' => r' = r ∧ ut_RR u' v') ((nI cl), (nI fl), (nI dl), (nI wl), (nI U), (nI oc), (nI D), rb, a_ops, a_firsts, a_seconds, a_regs, b_kinds, b_count, b_values, b_function, b_address, b_atCall)) (f_SAVE, f_PUSH, f_POP, f_ALLOC, f_FREE, f_KEEP, f_BACK, f_LOAD, f_STORE, f_SET, f_ADDI, f_ADD, f_CALL, f_RET, f_IF, f_WHILE, f_END, f_ADVANCE, f_OFFSET, f_REGISTER, f_RESTORE, f_REMEMBER, f_RECALL, (nI cl), (nI fl), (nI dl), (nI wl), (nI U), (nI fc), (nI t), (nI ra), (nI (S U)), rb, (nI oc), f_sp, f_pc, (nI D), f_walkPc, f_walkSp, f_walkBase, f_walkState, a_ops, a_firsts, a_seconds, a_link, a_codeStart, a_tableStart, a_table, a_openCell, a_openState, a_regs, a_stack, a_memory, a_seen) := by
  obtain ⟨hl, hc, hx, ht, hxo, hb, hd⟩ := id H
  unfold ut_lim at hl
  have hfl := hc.1.2.1
  obtain ⟨q1, q2, q3, q4, q5⟩ := hc.2.1.2.1 fc (Nat.le_refl _)
  have YF : ∀ {P : Int32 → SY → Prop}, ((CS fc = U → P 0 ((nI cl), (nI fl), (nI dl), (nI wl), (nI U), (nI oc), (nI D), rb, a_ops, a_firsts, a_seconds, a_regs, b_kinds, b_count, b_values, b_function, b_address, b_atCall)) ∧ (CS fc ≠ U → P 1 ((nI cl), (nI fl), (nI dl), (nI wl), (nI (CS fc)), 0, (nI D), 1, a_ops, a_firsts, a_seconds, a_regs, b_kinds, (upd b_count 16 0), b_values, b_function, b_address, b_atCall))) → wpY_abandon P ((nI cl), (nI fl), (nI dl), (nI wl), (nI U), (nI oc), (nI D), rb, a_ops, a_firsts, a_seconds, a_regs, b_kinds, b_count, b_values, b_function, b_address, b_atCall) := by
    intro P h
    unfold wpY_abandon
    dsimp only
    refine ut_yfn (by omega) (ut_ge1_of hc) ?_
    rw [hc.1.2.2.2.2]
    refine ut_yfc (by omega) (by omega) (ut_ge1_of hc) q1 (fun _ => q3) (fun i hi => by have := q5 i hi; omega) ?_
    exact pk_eq (CS fc) U h.1 (fun e => nm_e (h.2 e))
  refine ⟨vp_in_nI (by omega) (by omega), ?_⟩
  rw [nI_clamp (by omega), hx.1 fc (Nat.le_refl _), hx.2.1 fc (Nat.le_refl _)]
  refine pk_eq U (CS fc) (fun e => ?_) (fun e => ?_)
  · exact YF ⟨fun _ => ⟨rfl, ut_RRi H⟩, fun x => absurd e.symm x⟩
  · refine ⟨vp_in_nI (by omega) (by omega), nm_e ⟨vp_in_nI (by omega) (by omega), nm_e ?_⟩⟩
    unfold wpX_beginFunction
    dsimp only
    refine YF ⟨fun x => absurd x.symm e, fun _ => ⟨rfl, ?_⟩⟩
    have H' : ut_Rel a_ops a_firsts a_seconds a_link a_codeStart a_tableStart a_table a_openCell a_openState a_regs a_stack b_kinds (upd b_count 16 0) b_values b_function b_address b_atCall f_sp f_pc 1 T S OC CS TS bs ad fn cl fl dl wl (CS fc) fc 0 (TS fc) (CS fc) D := by
      refine ⟨by unfold ut_lim; omega, ut_e6 hc, ⟨hx.1, hx.2.1, ut_lat_le hx.2.2 (ht.2.1 fc (Nat.le_refl _)).1⟩, ut_tab_a ht q4, fun k hk => absurd hk (Nat.not_lt_zero k), ⟨?_, fun k hk => absurd hk (Nat.not_lt_zero k)⟩, ?_⟩
      · rw [q4, pk_us]; exact ⟨rfl, ut_FS0⟩
      · exact ut_dy_cg (U := U) hd (by omega) (by omega) (fun f hf => (hc.2.1.2.1 f hf).1) (fun _ _ => rfl) (fun _ _ => rfl) (fun _ _ => rfl) (fun j hj => pk_un (by omega)) (fun _ _ => rfl) (Nat.le_refl _)
    have R := ut_RRi (f_SAVE := f_SAVE) (f_PUSH := f_PUSH) (f_POP := f_POP) (f_ALLOC := f_ALLOC) (f_FREE := f_FREE) (f_KEEP := f_KEEP) (f_BACK := f_BACK) (f_LOAD := f_LOAD) (f_STORE := f_STORE) (f_SET := f_SET) (f_ADDI := f_ADDI) (f_ADD := f_ADD) (f_CALL := f_CALL) (f_RET := f_RET) (f_IF := f_IF) (f_WHILE := f_WHILE) (f_END := f_END) (f_ADVANCE := f_ADVANCE) (f_OFFSET := f_OFFSET) (f_REGISTER := f_REGISTER) (f_RESTORE := f_RESTORE) (f_REMEMBER := f_REMEMBER) (f_RECALL := f_RECALL) (f_walkPc := f_walkPc) (f_walkSp := f_walkSp) (f_walkBase := f_walkBase) (f_walkState := f_walkState) (a_memory := a_memory) (a_seen := a_seen) H'
    rw [q4] at R
    exact R
theorem ut_CS_ne16 {f : Nat} (H : ut_Rel a_ops a_firsts a_seconds a_link a_codeStart a_tableStart a_table a_openCell a_openState a_regs a_stack b_kinds b_count b_values b_function b_address b_atCall f_sp f_pc rb T S OC CS TS bs ad fn cl fl dl wl U fc oc t ra D) (hf : f < fc) : a_ops (CS f) ≠ 16 := by
  intro e
  have q := H.2.1.2.1.2.1 f (by omega)
  have h2 := (H.2.1.2.1.2.2 f hf).1
  have h3 := (H.2.1.2.1.2.1 (f + 1) (by omega)).1
  have := ut_ge1_of H.2.1 (CS f) (by omega) e
  omega
theorem ut_m_start {p0 : Int32} (H : ut_Rel a_ops a_firsts a_seconds a_link a_codeStart a_tableStart a_table a_openCell a_openState a_regs a_stack b_kinds b_count b_values b_function b_address b_atCall f_sp f_pc rb T S OC CS TS bs ad fn cl fl dl wl U fc oc t ra D) : wpX_start (fun r u' => wpY_start (fun r' v' => r' = r ∧ ut_RR u' v') ((nI cl), (nI fl), (nI dl), (nI wl), (nI U), (nI oc), (nI D), rb, a_ops, a_firsts, a_seconds, a_regs, b_kinds, b_count, b_values, b_function, b_address, b_atCall) p0) (f_SAVE, f_PUSH, f_POP, f_ALLOC, f_FREE, f_KEEP, f_BACK, f_LOAD, f_STORE, f_SET, f_ADDI, f_ADD, f_CALL, f_RET, f_IF, f_WHILE, f_END, f_ADVANCE, f_OFFSET, f_REGISTER, f_RESTORE, f_REMEMBER, f_RECALL, (nI cl), (nI fl), (nI dl), (nI wl), (nI U), (nI fc), (nI t), (nI ra), (nI (S U)), rb, (nI oc), f_sp, f_pc, (nI D), f_walkPc, f_walkSp, f_walkBase, f_walkState, a_ops, a_firsts, a_seconds, a_link, a_codeStart, a_tableStart, a_table, a_openCell, a_openState, a_regs, a_stack, a_memory, a_seen) p0 := by
  obtain ⟨hl, hc, hx, ht, hxo, hb, hd⟩ := id H
  unfold ut_lim at hl
  have hfl := hc.1.2.1
  have K := ut_RRi (f_SAVE := f_SAVE) (f_PUSH := f_PUSH) (f_POP := f_POP) (f_ALLOC := f_ALLOC) (f_FREE := f_FREE) (f_KEEP := f_KEEP) (f_BACK := f_BACK) (f_LOAD := f_LOAD) (f_STORE := f_STORE) (f_SET := f_SET) (f_ADDI := f_ADDI) (f_ADD := f_ADD) (f_CALL := f_CALL) (f_RET := f_RET) (f_IF := f_IF) (f_WHILE := f_WHILE) (f_END := f_END) (f_ADVANCE := f_ADVANCE) (f_OFFSET := f_OFFSET) (f_REGISTER := f_REGISTER) (f_RESTORE := f_RESTORE) (f_REMEMBER := f_REMEMBER) (f_RECALL := f_RECALL) (f_walkPc := f_walkPc) (f_walkSp := f_walkSp) (f_walkBase := f_walkBase) (f_walkState := f_walkState) (a_memory := a_memory) (a_seen := a_seen) H
  refine pk_lt 0 D (fun e => ?_) (fun e => ?_)
  · exact br_f (nI_ne0 e (by omega)) ⟨rfl, K⟩
  · have e0 : D = 0 := by omega
    subst e0
    by_cases z : p0 < 0
    · exact br_t z (br_t rfl (br_t z ⟨rfl, K⟩))
    · obtain ⟨f, hf31, rfl⟩ := nI_of z
      refine br_f z (pk_lt f fc (fun hf => ?_) (fun hf => ?_))
      · refine nm_e ⟨vp_in_nI (by omega) (by omega), ?_⟩
        rw [nI_clamp (by omega), hx.1 f (by omega)]
        refine nm_e (br_t rfl (br_f z ?_))
        refine ut_yfn (by omega) (ut_ge1_of hc) ?_
        rw [hc.1.2.2.2.2]
        obtain ⟨q1, q2, q3, q4, q5⟩ := hc.2.1.2.1 f (by omega)
        refine br_t (nI_lt hf (by omega)) ?_
        refine ut_ybg (D := 0) (by omega) (by omega) (by omega) (ut_ge1_of hc) q1 (fun _ => q3) (fun i hi => by have := q5 i hi; omega) (fun a' h1 h2 => ⟨rfl, ?_⟩)
        have hD' := ut_dy_push (f := f) (q := 0) (St' := upd a_stack 0 (-1)) (fnA' := upd b_function 0 (nI f)) (adA' := upd b_address 0 (nI (CS f))) (cnt' := upd b_count 0 0) (atc' := a') hd (by omega) hf q4 (ut_CS_ne16 H hf) (hc.2.1.2.2 f hf).1 (if_pos rfl).symm
          (by rw [pk_us, if_pos rfl]) (fun j hj => absurd hj (Nat.not_lt_zero j)) pk_us (fun j hj => absurd hj (Nat.not_lt_zero j)) pk_us (fun j hj => absurd hj (Nat.not_lt_zero j)) pk_us (fun j hj => absurd hj (Nat.not_lt_zero j)) h1 (fun j hj => by omega)
        have H' : ut_Rel a_ops a_firsts a_seconds a_link a_codeStart a_tableStart a_table a_openCell a_openState a_regs (upd a_stack 0 (-1)) b_kinds (upd b_count 0 0) b_values (upd b_function 0 (nI f)) (upd b_address 0 (nI (CS f))) a' (nI (0 + 1)) (nI (CS f)) rb T S OC CS TS (ut_un bs 0 (0 + 1)) (ut_un ad 0 (CS f)) (ut_un fn 0 f) cl fl dl wl U fc oc t ra (0 + 1) := by
          refine ⟨by unfold ut_lim; omega, hc, hx, ht, hxo, ⟨?_, fun k hk => ?_⟩, hD'⟩
          · rw [pk_un (by omega)]; exact hb.1
          · rw [pk_un (by omega)]; exact hb.2 k hk
        exact ut_RRi (f_SAVE := f_SAVE) (f_PUSH := f_PUSH) (f_POP := f_POP) (f_ALLOC := f_ALLOC) (f_FREE := f_FREE) (f_KEEP := f_KEEP) (f_BACK := f_BACK) (f_LOAD := f_LOAD) (f_STORE := f_STORE) (f_SET := f_SET) (f_ADDI := f_ADDI) (f_ADD := f_ADD) (f_CALL := f_CALL) (f_RET := f_RET) (f_IF := f_IF) (f_WHILE := f_WHILE) (f_END := f_END) (f_ADVANCE := f_ADVANCE) (f_OFFSET := f_OFFSET) (f_REGISTER := f_REGISTER) (f_RESTORE := f_RESTORE) (f_REMEMBER := f_REMEMBER) (f_RECALL := f_RECALL) (f_walkPc := f_walkPc) (f_walkSp := f_walkSp) (f_walkBase := f_walkBase) (f_walkState := f_walkState) (a_memory := a_memory) (a_seen := a_seen) H'
      · refine br_t rfl (br_f z ?_)
        refine ut_yfn (by omega) (ut_ge1_of hc) ?_
        rw [hc.1.2.2.2.2]
        exact br_f (nI_nlt hf (by omega)) ⟨rfl, K⟩
/-! unwind -/
theorem ut_xuw {post : Int32 → SX → Prop} {n : Nat} (hn : n ≤ D) (hD : D ≤ 16) (K : ∀ R', (∀ r, r < 4 → R' r = a_seen r) → (∀ r, 4 ≤ r → R' r = a_regs r) → post 1 (f_SAVE, f_PUSH, f_POP, f_ALLOC, f_FREE, f_KEEP, f_BACK, f_LOAD, f_STORE, f_SET, f_ADDI, f_ADD, f_CALL, f_RET, f_IF, f_WHILE, f_END, f_ADVANCE, f_OFFSET, f_REGISTER, f_RESTORE, f_REMEMBER, f_RECALL, f_codeLimit, f_functionLimit, f_depthLimit, f_wordLimit, f_used, f_functionCount, f_tableUsed, f_ruleAddress, f_now, f_reachable, f_openCount, f_walkSp, f_walkPc, (nI (D - n)), f_walkPc, f_walkSp, f_walkBase, f_walkState, a_ops, a_firsts, a_seconds, a_link, a_codeStart, a_tableStart, a_table, a_openCell, a_openState, R', a_stack, a_memory, a_seen)) :
    ∀ d i R', i + d = 4 → (∀ r, r < i → R' r = a_seen r) → (∀ r, 4 ≤ r → R' r = a_regs r) → wX_unwind_22 post (nI n) f_SAVE f_PUSH f_POP f_ALLOC f_FREE f_KEEP f_BACK f_LOAD f_STORE f_SET f_ADDI f_ADD f_CALL f_RET f_IF f_WHILE f_END f_ADVANCE f_OFFSET f_REGISTER f_RESTORE f_REMEMBER f_RECALL f_codeLimit f_functionLimit f_depthLimit f_wordLimit f_used f_functionCount f_tableUsed f_ruleAddress f_now f_reachable f_openCount f_sp f_pc (nI D) f_walkPc f_walkSp f_walkBase f_walkState (d + 1) (nI i) a_ops a_firsts a_seconds a_link a_codeStart a_tableStart a_table a_openCell a_openState R' a_stack a_memory a_seen := by
  intro d
  induction d with
  | zero =>
    intro i R' hi h1 h2
    rw [wX_unwind_22]
    dsimp only
    exact br_t (nI_le (a := 4) (by omega) (by omega)) (nm_r (pk_sub hn) (K R' (fun r hr => h1 r (by omega)) h2))
  | succ d ih =>
    intro i R' hi h1 h2
    rw [wX_unwind_22]
    dsimp only
    refine br_f (nI_ge (b := 4) (by omega) (by omega)) ⟨vp_in_nI (by omega) (by omega), vp_in_nI (by omega) (by omega), ?_⟩
    rw [nI_clamp (by omega)]
    refine nm_e (nm_r (nI_1 i) (ih (i + 1) _ (by omega) (fun r hr => ?_) (fun r hr => ?_)))
    · by_cases z : r = i
      · rw [z, pk_us]
      · rw [pk_un z]; exact h1 r (by omega)
    · rw [pk_un (by omega)]; exact h2 r hr
theorem ut_yuw {post : Int32 → SY → Prop} {n : Nat} (hn : n ≤ D) (h1n : 1 ≤ n) (hD : D ≤ 16) (K : ∀ R', (∀ r, r < 4 → R' r = b_atCall ((D - n) * 4 + r)) → (∀ r, 4 ≤ r → R' r = b_regs r) → post 1 (g_codeLimit, g_functionsLimit, g_depthLimit, g_wordsLimit, g_used, g_open, (nI (D - n)), g_reachable, b_cellOp, b_cellA, b_cellB, R', b_kinds, b_count, b_values, b_function, b_address, b_atCall)) :
    ∀ d i R', i + d = 4 → (∀ r, r < i → R' r = b_atCall ((D - n) * 4 + r)) → (∀ r, 4 ≤ r → R' r = b_regs r) → wY_unwind_17 post (nI n) g_codeLimit g_functionsLimit g_depthLimit g_wordsLimit g_used g_open (nI D) g_reachable (d + 1) (nI i) b_cellOp b_cellA b_cellB R' b_kinds b_count b_values b_function b_address b_atCall := by
  intro d
  induction d with
  | zero =>
    intro i R' hi h1 h2
    rw [wY_unwind_17]
    dsimp only
    exact br_t (nI_le (a := 4) (by omega) (by omega)) (nm_r (pk_sub hn) (K R' (fun r hr => h1 r (by omega)) h2))
  | succ d ih =>
    intro i R' hi h1 h2
    rw [wY_unwind_17]
    dsimp only
    refine br_f (nI_ge (b := 4) (by omega) (by omega)) ?_
    rw [pk_sub hn, show (4 : Int32) = nI 4 from rfl, pk_mul, nI_add]
    refine ⟨vp_in_nI (by omega) (by omega), vp_in_nI (by omega) (by omega), ?_⟩
    rw [nI_clamp (by omega), nI_clamp (by omega)]
    refine nm_e (nm_r (nI_1 i) (ih (i + 1) _ (by omega) (fun r hr => ?_) (fun r hr => ?_)))
    · by_cases z : r = i
      · rw [z, pk_us]
      · rw [pk_un z]; exact h1 r (by omega)
    · rw [pk_un (by omega)]; exact h2 r hr
theorem ut_m_unwind {p0 : Int32} (H : ut_Rel a_ops a_firsts a_seconds a_link a_codeStart a_tableStart a_table a_openCell a_openState a_regs a_stack b_kinds b_count b_values b_function b_address b_atCall f_sp f_pc rb T S OC CS TS bs ad fn cl fl dl wl U fc oc t ra D) : wpX_unwind (fun r u' => wpY_unwind (fun r' v' => r' = r ∧ ut_RR u' v') ((nI cl), (nI fl), (nI dl), (nI wl), (nI U), (nI oc), (nI D), rb, a_ops, a_firsts, a_seconds, a_regs, b_kinds, b_count, b_values, b_function, b_address, b_atCall) p0) (f_SAVE, f_PUSH, f_POP, f_ALLOC, f_FREE, f_KEEP, f_BACK, f_LOAD, f_STORE, f_SET, f_ADDI, f_ADD, f_CALL, f_RET, f_IF, f_WHILE, f_END, f_ADVANCE, f_OFFSET, f_REGISTER, f_RESTORE, f_REMEMBER, f_RECALL, (nI cl), (nI fl), (nI dl), (nI wl), (nI U), (nI fc), (nI t), (nI ra), (nI (S U)), rb, (nI oc), f_sp, f_pc, (nI D), f_walkPc, f_walkSp, f_walkBase, f_walkState, a_ops, a_firsts, a_seconds, a_link, a_codeStart, a_tableStart, a_table, a_openCell, a_openState, a_regs, a_stack, a_memory, a_seen) p0 := by
  obtain ⟨hl, hc, hx, ht, hxo, hb, hd⟩ := id H
  unfold ut_lim at hl
  have K := ut_RRi (f_SAVE := f_SAVE) (f_PUSH := f_PUSH) (f_POP := f_POP) (f_ALLOC := f_ALLOC) (f_FREE := f_FREE) (f_KEEP := f_KEEP) (f_BACK := f_BACK) (f_LOAD := f_LOAD) (f_STORE := f_STORE) (f_SET := f_SET) (f_ADDI := f_ADDI) (f_ADD := f_ADD) (f_CALL := f_CALL) (f_RET := f_RET) (f_IF := f_IF) (f_WHILE := f_WHILE) (f_END := f_END) (f_ADVANCE := f_ADVANCE) (f_OFFSET := f_OFFSET) (f_REGISTER := f_REGISTER) (f_RESTORE := f_RESTORE) (f_REMEMBER := f_REMEMBER) (f_RECALL := f_RECALL) (f_walkPc := f_walkPc) (f_walkSp := f_walkSp) (f_walkBase := f_walkBase) (f_walkState := f_walkState) (a_memory := a_memory) (a_seen := a_seen) H
  have W := ut_Rel_W H
  by_cases h1 : p0 < 1
  · exact br_t h1 (br_t h1 ⟨rfl, K⟩)
  · by_cases h2 : p0 ≤ nI D
    · have h0 : ¬ p0 < 0 := fun x => h1 (Int32.lt_trans x (by decide))
      obtain ⟨n, hn31, rfl⟩ := nI_of h0
      have hnD : n ≤ D := (nI_leI hn31 (by omega)).mp h2
      have hn1 : 1 ≤ n := by
        rcases Nat.eq_zero_or_pos n with z | z
        · exact absurd (by rw [z]; decide) h1
        · exact z
      refine br_f h1 (br_t h2 ?_)
      have hs := hd.2.2 (by omega)
      refine ut_xsk W hnD (by omega) hs.1 hs.2 (fun wp ws wb wst m s hw => ?_)
      dsimp only
      refine ⟨5, ut_xuw (D := D) hnD (by omega) (fun R' k1 k2 => ?_) 4 0 a_regs (by omega) (fun r hr => absurd hr (Nat.not_lt_zero r)) (fun _ _ => rfl)⟩
      refine br_f h1 (br_t h2 ⟨5, ut_yuw (D := D) hnD hn1 (by omega) (fun R'' y1 y2 => ⟨rfl, ?_⟩) 4 0 a_regs (by omega) (fun r hr => absurd hr (Nat.not_lt_zero r)) (fun _ _ => rfl)⟩)
      have eR : R'' = R' := by
        funext r
        rcases Nat.lt_or_ge r 4 with z | z
        · rw [y1 r z, k1 r z, hw.1 r z, if_neg (by omega)]
        · rw [y2 r z, k2 r z]
      rw [eR]
      have hD' := ut_dy_pop (D' := D - n) (R' := R') (sp' := ws) (pc' := wp) (adA' := b_address) hd (by omega) (by omega) (fun r hr => by rw [← eR]; exact y1 r hr) (fun _ _ => rfl) (fun x => by
        have e := hw.2.1 (by omega)
        rw [show D - 1 - n = D - n - 1 by omega] at e
        exact ⟨e.2.1, e.1⟩)
      have H' : ut_Rel a_ops a_firsts a_seconds a_link a_codeStart a_tableStart a_table a_openCell a_openState R' a_stack b_kinds b_count b_values b_function b_address b_atCall ws wp rb T S OC CS TS bs ad fn cl fl dl wl U fc oc t ra (D - n) := ⟨by unfold ut_lim; omega, hc, hx, ht, hxo, hb, hD'⟩
      exact ut_RRi H'
    · exact br_f h1 (br_f h2 (br_f h1 (br_f h2 ⟨rfl, K⟩)))
/-! poke -/
theorem ut_Rel_regs {r : Nat} {x : Int32} (H : ut_Rel a_ops a_firsts a_seconds a_link a_codeStart a_tableStart a_table a_openCell a_openState a_regs a_stack b_kinds b_count b_values b_function b_address b_atCall f_sp f_pc rb T S OC CS TS bs ad fn cl fl dl wl U fc oc t ra D) (h : r < 4 → 0 < D → ut_pl (S (ad (D - 1))) r ≠ 0) : ut_Rel a_ops a_firsts a_seconds a_link a_codeStart a_tableStart a_table a_openCell a_openState (upd a_regs r x) a_stack b_kinds b_count b_values b_function b_address b_atCall f_sp f_pc rb T S OC CS TS bs ad fn cl fl dl wl U fc oc t ra D := by
  obtain ⟨hl, hc, hx, ht, hxo, hb, hd⟩ := H
  have hw : wl ≤ 8 := by unfold ut_lim at hl; omega
  refine ⟨hl, hc, hx, ht, hxo, hb, ut_dy_regs hd hw (fun hD q hq e => ?_)⟩
  by_cases z : q = r
  · subst z; exact absurd e (h hq hD)
  · exact pk_un z
theorem ut_m_poke {p0 p1 : Int32} (H : ut_Rel a_ops a_firsts a_seconds a_link a_codeStart a_tableStart a_table a_openCell a_openState a_regs a_stack b_kinds b_count b_values b_function b_address b_atCall f_sp f_pc rb T S OC CS TS bs ad fn cl fl dl wl U fc oc t ra D) : wpX_poke (fun r u' => wpY_poke (fun r' v' => r' = r ∧ ut_RR u' v') ((nI cl), (nI fl), (nI dl), (nI wl), (nI U), (nI oc), (nI D), rb, a_ops, a_firsts, a_seconds, a_regs, b_kinds, b_count, b_values, b_function, b_address, b_atCall) p0 p1) (f_SAVE, f_PUSH, f_POP, f_ALLOC, f_FREE, f_KEEP, f_BACK, f_LOAD, f_STORE, f_SET, f_ADDI, f_ADD, f_CALL, f_RET, f_IF, f_WHILE, f_END, f_ADVANCE, f_OFFSET, f_REGISTER, f_RESTORE, f_REMEMBER, f_RECALL, (nI cl), (nI fl), (nI dl), (nI wl), (nI U), (nI fc), (nI t), (nI ra), (nI (S U)), rb, (nI oc), f_sp, f_pc, (nI D), f_walkPc, f_walkSp, f_walkBase, f_walkState, a_ops, a_firsts, a_seconds, a_link, a_codeStart, a_tableStart, a_table, a_openCell, a_openState, a_regs, a_stack, a_memory, a_seen) p0 p1 := by
  obtain ⟨hl, hc, hx, ht, hxo, hb, hd⟩ := id H
  unfold ut_lim at hl
  have K := ut_RRi (f_SAVE := f_SAVE) (f_PUSH := f_PUSH) (f_POP := f_POP) (f_ALLOC := f_ALLOC) (f_FREE := f_FREE) (f_KEEP := f_KEEP) (f_BACK := f_BACK) (f_LOAD := f_LOAD) (f_STORE := f_STORE) (f_SET := f_SET) (f_ADDI := f_ADDI) (f_ADD := f_ADD) (f_CALL := f_CALL) (f_RET := f_RET) (f_IF := f_IF) (f_WHILE := f_WHILE) (f_END := f_END) (f_ADVANCE := f_ADVANCE) (f_OFFSET := f_OFFSET) (f_REGISTER := f_REGISTER) (f_RESTORE := f_RESTORE) (f_REMEMBER := f_REMEMBER) (f_RECALL := f_RECALL) (f_walkPc := f_walkPc) (f_walkSp := f_walkSp) (f_walkBase := f_walkBase) (f_walkState := f_walkState) (a_memory := a_memory) (a_seen := a_seen) H
  have W := ut_Rel_W H
  by_cases h0 : p0 < 0
  · exact br_t h0 (br_t h0 ⟨rfl, K⟩)
  by_cases h5 : p0 ≤ 5
  · obtain ⟨r, hr31, rfl⟩ := nI_of h0
    have hr5 : r ≤ 5 := (nI_leI (b := 5) hr31 (by omega)).mp h5
    have i6 : vp_in (nI r) 6 := vp_in_nI (by omega) (by omega)
    have ec : (nI r).toNatClampNeg = r := nI_clamp (by omega)
    refine br_f h0 (br_t h5 ?_)
    by_cases hD : nI D ≤ 0
    · have hD' : D = 0 := by
        rcases Nat.eq_zero_or_pos D with z | z
        · exact z
        · exact absurd hD (nI_nle z (by omega))
      refine br_t hD ⟨i6, ?_⟩
      rw [ec]
      refine nm_e (br_f h0 (br_t h5 (br_t hD ⟨i6, ?_⟩)))
      rw [ec]
      exact nm_e ⟨rfl, ut_RRi (ut_Rel_regs H (fun _ x => by omega))⟩
    · have hD' : 0 < D := by
        rcases Nat.eq_zero_or_pos D with z | z
        · exact absurd (by rw [z]; decide) hD
        · exact z
      refine br_f hD ?_
      by_cases h4 : 4 ≤ r
      · refine br_t (nI_le (a := 4) h4 (by omega)) ⟨i6, ?_⟩
        rw [ec]
        refine nm_e (br_f h0 (br_t h5 (br_f hD (br_t (nI_lt (a := 3) (by omega) (by omega)) ⟨i6, ?_⟩))))
        rw [ec]
        exact nm_e ⟨rfl, ut_RRi (ut_Rel_regs H (fun x => by omega))⟩
      · refine br_f (nI_ge (b := 4) (by omega) (by omega)) ?_
        have hs := hd.2.2 hD'
        have fr := hd.2.1 (D - 1) (by omega)
        obtain ⟨b1, b2, b3, b4, b5⟩ := ut_bs_b W (D - 1) (by omega)
        have hfc := hc.1.2.1
        rw [hs.2]
        refine ut_xsa hx hc.2.1 ht (by omega) (by omega) fr.1.2.2.1 fr.1.2.2.2.1 fr.1.2.2.2.2 (fun m => ?_)
        dsimp only
        have YK : ∀ {P : Int32 → SY → Prop}, (ut_pl (S (ad (D - 1))) r = 0 → P 0 ((nI cl), (nI fl), (nI dl), (nI wl), (nI U), (nI oc), (nI D), rb, a_ops, a_firsts, a_seconds, a_regs, b_kinds, b_count, b_values, b_function, b_address, b_atCall)) → (ut_pl (S (ad (D - 1))) r ≠ 0 → P 1 ((nI cl), (nI fl), (nI dl), (nI wl), (nI U), (nI oc), (nI D), rb, a_ops, a_firsts, a_seconds, (upd a_regs r p1), b_kinds, b_count, b_values, b_function, b_address, b_atCall)) → wpY_poke P ((nI cl), (nI fl), (nI dl), (nI wl), (nI U), (nI oc), (nI D), rb, a_ops, a_firsts, a_seconds, a_regs, b_kinds, b_count, b_values, b_function, b_address, b_atCall) (nI r) p1 := by
          intro P k0 k1
          refine br_f h0 (br_t h5 (br_f hD (br_f (nI_nlt (a := 3) (b := r) (by omega) (by omega)) ?_)))
          rw [ut_s1 hD']
          have hp := ut_pl_lt (S (ad (D - 1))) r
          refine ut_yfdr (wl := wl) (row := D - 1) (by omega) (by omega) fr.2.2.1 fr.2.2.2.1 (by omega) (fun e => br_f (by decide) (k0 e)) (fun e => br_t (nI_pos' (by omega)) ⟨i6, ?_⟩)
          rw [ec]
          exact nm_e (k1 e)
        refine ut_xkp b4 (by omega) (fun e => br_t rfl ?_) (fun e => br_f (by decide) ⟨i6, ?_⟩)
        · refine YK (fun _ => ⟨rfl, ?_⟩) (fun x => absurd e x)
          rw [← hs.2]; exact ut_RRi H
        · rw [ec]
          refine nm_e (YK (fun x => absurd x e) (fun _ => ⟨rfl, ?_⟩))
          rw [← hs.2]
          exact ut_RRi (ut_Rel_regs H (fun _ _ => e))
  · exact br_f h0 (br_f h5 (br_f h0 (br_f h5 ⟨rfl, K⟩)))
end UT27
end
section
/-! X's steps -/
section UT28
variable {f_SAVE f_PUSH f_POP f_ALLOC f_FREE f_KEEP f_BACK f_LOAD f_STORE f_SET f_ADDI f_ADD f_CALL f_RET f_IF f_WHILE f_END f_ADVANCE f_OFFSET f_REGISTER f_RESTORE f_REMEMBER f_RECALL f_codeLimit f_functionLimit f_depthLimit f_wordLimit f_used f_functionCount f_tableUsed f_ruleAddress f_now f_reachable f_openCount f_sp f_pc f_active f_walkPc f_walkSp f_walkBase f_walkState : Int32} {a_ops a_firsts a_seconds a_link a_codeStart a_tableStart a_table a_openCell a_openState a_regs a_stack a_memory a_seen : Nat → Int32}
variable {post : SX → Prop} {p q o a c L D : Nat} {b : Int32}
theorem ut_xst_r (hp : p < 64) (ho : o ≤ 4) (h1 : a_ops p = nI o) (h2 : a_firsts p = nI a) (K : wpX_stepResize post (f_SAVE, f_PUSH, f_POP, f_ALLOC, f_FREE, f_KEEP, f_BACK, f_LOAD, f_STORE, f_SET, f_ADDI, f_ADD, f_CALL, f_RET, f_IF, f_WHILE, f_END, f_ADVANCE, f_OFFSET, f_REGISTER, f_RESTORE, f_REMEMBER, f_RECALL, f_codeLimit, f_functionLimit, f_depthLimit, f_wordLimit, f_used, f_functionCount, f_tableUsed, f_ruleAddress, f_now, f_reachable, f_openCount, f_sp, (nI (p + 1)), f_active, f_walkPc, f_walkSp, f_walkBase, f_walkState, a_ops, a_firsts, a_seconds, a_link, a_codeStart, a_tableStart, a_table, a_openCell, a_openState, a_regs, a_stack, a_memory, a_seen) (nI o) (nI a)) : wpX_step post (f_SAVE, f_PUSH, f_POP, f_ALLOC, f_FREE, f_KEEP, f_BACK, f_LOAD, f_STORE, f_SET, f_ADDI, f_ADD, f_CALL, f_RET, f_IF, f_WHILE, f_END, f_ADVANCE, f_OFFSET, f_REGISTER, f_RESTORE, f_REMEMBER, f_RECALL, f_codeLimit, f_functionLimit, f_depthLimit, f_wordLimit, f_used, f_functionCount, f_tableUsed, f_ruleAddress, f_now, f_reachable, f_openCount, f_sp, (nI p), f_active, f_walkPc, f_walkSp, f_walkBase, f_walkState, a_ops, a_firsts, a_seconds, a_link, a_codeStart, a_tableStart, a_table, a_openCell, a_openState, a_regs, a_stack, a_memory, a_seen) := by
  have i : vp_in (nI p) 64 := vp_in_nI hp (by omega)
  unfold wpX_step
  dsimp only
  refine nm_r (nI_1 p) ⟨i, ?_⟩
  rw [nI_clamp (by omega), h1, h2]
  exact br_f (nI_nlt (a := 4) (b := o) ho (by omega)) ⟨i, i, K⟩
theorem ut_xst_a (hp : p < 64) (ho : 5 ≤ o ∧ o ≤ 11) (h1 : a_ops p = nI o) (K : wpX_stepAccess post (f_SAVE, f_PUSH, f_POP, f_ALLOC, f_FREE, f_KEEP, f_BACK, f_LOAD, f_STORE, f_SET, f_ADDI, f_ADD, f_CALL, f_RET, f_IF, f_WHILE, f_END, f_ADVANCE, f_OFFSET, f_REGISTER, f_RESTORE, f_REMEMBER, f_RECALL, f_codeLimit, f_functionLimit, f_depthLimit, f_wordLimit, f_used, f_functionCount, f_tableUsed, f_ruleAddress, f_now, f_reachable, f_openCount, f_sp, (nI (p + 1)), f_active, f_walkPc, f_walkSp, f_walkBase, f_walkState, a_ops, a_firsts, a_seconds, a_link, a_codeStart, a_tableStart, a_table, a_openCell, a_openState, a_regs, a_stack, a_memory, a_seen) (nI p)) : wpX_step post (f_SAVE, f_PUSH, f_POP, f_ALLOC, f_FREE, f_KEEP, f_BACK, f_LOAD, f_STORE, f_SET, f_ADDI, f_ADD, f_CALL, f_RET, f_IF, f_WHILE, f_END, f_ADVANCE, f_OFFSET, f_REGISTER, f_RESTORE, f_REMEMBER, f_RECALL, f_codeLimit, f_functionLimit, f_depthLimit, f_wordLimit, f_used, f_functionCount, f_tableUsed, f_ruleAddress, f_now, f_reachable, f_openCount, f_sp, (nI p), f_active, f_walkPc, f_walkSp, f_walkBase, f_walkState, a_ops, a_firsts, a_seconds, a_link, a_codeStart, a_tableStart, a_table, a_openCell, a_openState, a_regs, a_stack, a_memory, a_seen) := by
  have i : vp_in (nI p) 64 := vp_in_nI hp (by omega)
  unfold wpX_step
  dsimp only
  refine nm_r (nI_1 p) ⟨i, ?_⟩
  rw [nI_clamp (by omega), h1]
  exact br_t (nI_lt (a := 4) (by omega) (by omega)) ⟨i, br_f (nI_nlt (a := 11) (b := o) (by omega) (by omega)) K⟩
theorem ut_xst_f (hp : p < 64) (ho : 12 ≤ o ∧ o ≤ 16) (h1 : a_ops p = nI o) (K : wpX_stepFlow post (f_SAVE, f_PUSH, f_POP, f_ALLOC, f_FREE, f_KEEP, f_BACK, f_LOAD, f_STORE, f_SET, f_ADDI, f_ADD, f_CALL, f_RET, f_IF, f_WHILE, f_END, f_ADVANCE, f_OFFSET, f_REGISTER, f_RESTORE, f_REMEMBER, f_RECALL, f_codeLimit, f_functionLimit, f_depthLimit, f_wordLimit, f_used, f_functionCount, f_tableUsed, f_ruleAddress, f_now, f_reachable, f_openCount, f_sp, (nI (p + 1)), f_active, f_walkPc, f_walkSp, f_walkBase, f_walkState, a_ops, a_firsts, a_seconds, a_link, a_codeStart, a_tableStart, a_table, a_openCell, a_openState, a_regs, a_stack, a_memory, a_seen) (nI p)) : wpX_step post (f_SAVE, f_PUSH, f_POP, f_ALLOC, f_FREE, f_KEEP, f_BACK, f_LOAD, f_STORE, f_SET, f_ADDI, f_ADD, f_CALL, f_RET, f_IF, f_WHILE, f_END, f_ADVANCE, f_OFFSET, f_REGISTER, f_RESTORE, f_REMEMBER, f_RECALL, f_codeLimit, f_functionLimit, f_depthLimit, f_wordLimit, f_used, f_functionCount, f_tableUsed, f_ruleAddress, f_now, f_reachable, f_openCount, f_sp, (nI p), f_active, f_walkPc, f_walkSp, f_walkBase, f_walkState, a_ops, a_firsts, a_seconds, a_link, a_codeStart, a_tableStart, a_table, a_openCell, a_openState, a_regs, a_stack, a_memory, a_seen) := by
  have i : vp_in (nI p) 64 := vp_in_nI hp (by omega)
  unfold wpX_step
  dsimp only
  refine nm_r (nI_1 p) ⟨i, ?_⟩
  rw [nI_clamp (by omega), h1]
  exact br_t (nI_lt (a := 4) (by omega) (by omega)) ⟨i, br_t (nI_lt (a := 11) (by omega) (by omega)) K⟩
theorem ut_xs01 (hp : p < 64) (ho : o ≤ 1) (h1 : a_ops p = nI o) (h2 : a_firsts p = nI a) (ha : a ≤ 5) (hq : q < 144)
    (K : post (f_SAVE, f_PUSH, f_POP, f_ALLOC, f_FREE, f_KEEP, f_BACK, f_LOAD, f_STORE, f_SET, f_ADDI, f_ADD, f_CALL, f_RET, f_IF, f_WHILE, f_END, f_ADVANCE, f_OFFSET, f_REGISTER, f_RESTORE, f_REMEMBER, f_RECALL, f_codeLimit, f_functionLimit, f_depthLimit, f_wordLimit, f_used, f_functionCount, f_tableUsed, f_ruleAddress, f_now, f_reachable, f_openCount, (nI (q + 1)), (nI (p + 1)), f_active, f_walkPc, f_walkSp, f_walkBase, f_walkState, a_ops, a_firsts, a_seconds, a_link, a_codeStart, a_tableStart, a_table, a_openCell, a_openState, a_regs, (upd a_stack q (a_regs a)), a_memory, a_seen)) : wpX_step post (f_SAVE, f_PUSH, f_POP, f_ALLOC, f_FREE, f_KEEP, f_BACK, f_LOAD, f_STORE, f_SET, f_ADDI, f_ADD, f_CALL, f_RET, f_IF, f_WHILE, f_END, f_ADVANCE, f_OFFSET, f_REGISTER, f_RESTORE, f_REMEMBER, f_RECALL, f_codeLimit, f_functionLimit, f_depthLimit, f_wordLimit, f_used, f_functionCount, f_tableUsed, f_ruleAddress, f_now, f_reachable, f_openCount, (nI q), (nI p), f_active, f_walkPc, f_walkSp, f_walkBase, f_walkState, a_ops, a_firsts, a_seconds, a_link, a_codeStart, a_tableStart, a_table, a_openCell, a_openState, a_regs, a_stack, a_memory, a_seen) := by
  refine ut_xst_r hp (by omega) h1 h2 ?_
  have G : wX_stepResize_32 post (nI a) f_SAVE f_PUSH f_POP f_ALLOC f_FREE f_KEEP f_BACK f_LOAD f_STORE f_SET f_ADDI f_ADD f_CALL f_RET f_IF f_WHILE f_END f_ADVANCE f_OFFSET f_REGISTER f_RESTORE f_REMEMBER f_RECALL f_codeLimit f_functionLimit f_depthLimit f_wordLimit f_used f_functionCount f_tableUsed f_ruleAddress f_now f_reachable f_openCount (nI q) (nI (p + 1)) f_active f_walkPc f_walkSp f_walkBase f_walkState a_ops a_firsts a_seconds a_link a_codeStart a_tableStart a_table a_openCell a_openState a_regs a_stack a_memory a_seen := by
    unfold wX_stepResize_32
    refine ⟨vp_in_nI (by omega) (by omega), vp_in_nI hq (by omega), ?_⟩
    rw [nI_clamp (by omega), nI_clamp (by omega)]
    exact nm_e (nm_r (nI_1 q) K)
  refine br_f (nI_pos (by omega)) (br_f (nI_nlt (a := 3) (b := o) (by omega) (by omega)) ?_)
  by_cases e : o = 0
  · subst e; exact br_t rfl G
  · have e : o = 1 := by omega
    subst e; exact br_f (by decide) (br_t rfl G)
theorem ut_xs2 (hp : p < 64) (h1 : a_ops p = nI 2) (h2 : a_firsts p = nI a) (ha : a ≤ 5) (h0 : 0 < q) (hq : q ≤ 144)
    (K : post (f_SAVE, f_PUSH, f_POP, f_ALLOC, f_FREE, f_KEEP, f_BACK, f_LOAD, f_STORE, f_SET, f_ADDI, f_ADD, f_CALL, f_RET, f_IF, f_WHILE, f_END, f_ADVANCE, f_OFFSET, f_REGISTER, f_RESTORE, f_REMEMBER, f_RECALL, f_codeLimit, f_functionLimit, f_depthLimit, f_wordLimit, f_used, f_functionCount, f_tableUsed, f_ruleAddress, f_now, f_reachable, f_openCount, (nI (q - 1)), (nI (p + 1)), f_active, f_walkPc, f_walkSp, f_walkBase, f_walkState, a_ops, a_firsts, a_seconds, a_link, a_codeStart, a_tableStart, a_table, a_openCell, a_openState, (upd a_regs a (a_stack (q - 1))), a_stack, a_memory, a_seen)) : wpX_step post (f_SAVE, f_PUSH, f_POP, f_ALLOC, f_FREE, f_KEEP, f_BACK, f_LOAD, f_STORE, f_SET, f_ADDI, f_ADD, f_CALL, f_RET, f_IF, f_WHILE, f_END, f_ADVANCE, f_OFFSET, f_REGISTER, f_RESTORE, f_REMEMBER, f_RECALL, f_codeLimit, f_functionLimit, f_depthLimit, f_wordLimit, f_used, f_functionCount, f_tableUsed, f_ruleAddress, f_now, f_reachable, f_openCount, (nI q), (nI p), f_active, f_walkPc, f_walkSp, f_walkBase, f_walkState, a_ops, a_firsts, a_seconds, a_link, a_codeStart, a_tableStart, a_table, a_openCell, a_openState, a_regs, a_stack, a_memory, a_seen) := by
  refine ut_xst_r hp (by omega) h1 h2 ?_
  refine br_f (by decide) (br_f (by decide) (br_f (by decide) (br_f (by decide) (br_t rfl ?_))))
  refine nm_r (ut_s1 h0) ⟨vp_in_nI (by omega) (by omega), vp_in_nI (by omega) (by omega), ?_⟩
  rw [nI_clamp (by omega), nI_clamp (by omega)]
  exact nm_e K
theorem ut_xs31 (hq : q + a ≤ 144)
    (K : ∀ s', (∀ j, q ≤ j → j < q + a → s' j = 0) → (∀ j, (j < q ∨ q + a ≤ j) → s' j = a_stack j) → post (f_SAVE, f_PUSH, f_POP, f_ALLOC, f_FREE, f_KEEP, f_BACK, f_LOAD, f_STORE, f_SET, f_ADDI, f_ADD, f_CALL, f_RET, f_IF, f_WHILE, f_END, f_ADVANCE, f_OFFSET, f_REGISTER, f_RESTORE, f_REMEMBER, f_RECALL, f_codeLimit, f_functionLimit, f_depthLimit, f_wordLimit, f_used, f_functionCount, f_tableUsed, f_ruleAddress, f_now, f_reachable, f_openCount, (nI (q + a)), f_pc, f_active, f_walkPc, f_walkSp, f_walkBase, f_walkState, a_ops, a_firsts, a_seconds, a_link, a_codeStart, a_tableStart, a_table, a_openCell, a_openState, a_regs, s', a_memory, a_seen)) :
    ∀ d i s', i + d = a → (∀ j, q ≤ j → j < q + i → s' j = 0) → (∀ j, (j < q ∨ q + i ≤ j) → s' j = a_stack j) → wX_stepResize_90 post (nI a) f_SAVE f_PUSH f_POP f_ALLOC f_FREE f_KEEP f_BACK f_LOAD f_STORE f_SET f_ADDI f_ADD f_CALL f_RET f_IF f_WHILE f_END f_ADVANCE f_OFFSET f_REGISTER f_RESTORE f_REMEMBER f_RECALL f_codeLimit f_functionLimit f_depthLimit f_wordLimit f_used f_functionCount f_tableUsed f_ruleAddress f_now f_reachable f_openCount (nI q) f_pc f_active f_walkPc f_walkSp f_walkBase f_walkState (d + 1) (nI i) a_ops a_firsts a_seconds a_link a_codeStart a_tableStart a_table a_openCell a_openState a_regs s' a_memory a_seen := by
  intro d
  induction d with
  | zero =>
    intro i s' hi h1 h2
    have e : i = a := by omega
    subst e
    rw [wX_stepResize_90]
    dsimp only
    exact br_t (nI_le (Nat.le_refl _) (by omega)) (nm_r (nI_add q i) (K s' h1 h2))
  | succ d ih =>
    intro i s' hi h1 h2
    rw [wX_stepResize_90]
    dsimp only
    refine br_f (nI_ge (by omega) (by omega)) ?_
    rw [nI_add]
    refine ⟨vp_in_nI (by omega) (by omega), ?_⟩
    rw [nI_clamp (by omega)]
    refine nm_e (nm_r (nI_1 i) (ih (i + 1) _ (by omega) (fun j j1 j2 => ?_) (fun j hj => ?_)))
    · by_cases z : j = q + i
      · rw [z, pk_us]
      · rw [pk_un z]; exact h1 j j1 (by omega)
    · rw [pk_un (by omega)]; exact h2 j (by omega)
theorem ut_xs3 (hp : p < 64) (h1 : a_ops p = nI 3) (h2 : a_firsts p = nI a) (hq : q + a ≤ 144)
    (K : ∀ s', (∀ j, q ≤ j → j < q + a → s' j = 0) → (∀ j, (j < q ∨ q + a ≤ j) → s' j = a_stack j) → post (f_SAVE, f_PUSH, f_POP, f_ALLOC, f_FREE, f_KEEP, f_BACK, f_LOAD, f_STORE, f_SET, f_ADDI, f_ADD, f_CALL, f_RET, f_IF, f_WHILE, f_END, f_ADVANCE, f_OFFSET, f_REGISTER, f_RESTORE, f_REMEMBER, f_RECALL, f_codeLimit, f_functionLimit, f_depthLimit, f_wordLimit, f_used, f_functionCount, f_tableUsed, f_ruleAddress, f_now, f_reachable, f_openCount, (nI (q + a)), (nI (p + 1)), f_active, f_walkPc, f_walkSp, f_walkBase, f_walkState, a_ops, a_firsts, a_seconds, a_link, a_codeStart, a_tableStart, a_table, a_openCell, a_openState, a_regs, s', a_memory, a_seen)) : wpX_step post (f_SAVE, f_PUSH, f_POP, f_ALLOC, f_FREE, f_KEEP, f_BACK, f_LOAD, f_STORE, f_SET, f_ADDI, f_ADD, f_CALL, f_RET, f_IF, f_WHILE, f_END, f_ADVANCE, f_OFFSET, f_REGISTER, f_RESTORE, f_REMEMBER, f_RECALL, f_codeLimit, f_functionLimit, f_depthLimit, f_wordLimit, f_used, f_functionCount, f_tableUsed, f_ruleAddress, f_now, f_reachable, f_openCount, (nI q), (nI p), f_active, f_walkPc, f_walkSp, f_walkBase, f_walkState, a_ops, a_firsts, a_seconds, a_link, a_codeStart, a_tableStart, a_table, a_openCell, a_openState, a_regs, a_stack, a_memory, a_seen) := by
  refine ut_xst_r hp (by omega) h1 h2 ?_
  refine br_f (by decide) (br_f (by decide) (br_f (by decide) (br_f (by decide) (br_f (by decide) (br_t rfl ⟨a + 1, ?_⟩)))))
  exact ut_xs31 hq K a 0 a_stack (by omega) (fun j j1 j2 => by omega) (fun _ _ => rfl)
theorem ut_xs4 (hp : p < 64) (h1 : a_ops p = nI 4) (h2 : a_firsts p = nI a) (ha : a ≤ q)
    (K : post (f_SAVE, f_PUSH, f_POP, f_ALLOC, f_FREE, f_KEEP, f_BACK, f_LOAD, f_STORE, f_SET, f_ADDI, f_ADD, f_CALL, f_RET, f_IF, f_WHILE, f_END, f_ADVANCE, f_OFFSET, f_REGISTER, f_RESTORE, f_REMEMBER, f_RECALL, f_codeLimit, f_functionLimit, f_depthLimit, f_wordLimit, f_used, f_functionCount, f_tableUsed, f_ruleAddress, f_now, f_reachable, f_openCount, (nI (q - a)), (nI (p + 1)), f_active, f_walkPc, f_walkSp, f_walkBase, f_walkState, a_ops, a_firsts, a_seconds, a_link, a_codeStart, a_tableStart, a_table, a_openCell, a_openState, a_regs, a_stack, a_memory, a_seen)) : wpX_step post (f_SAVE, f_PUSH, f_POP, f_ALLOC, f_FREE, f_KEEP, f_BACK, f_LOAD, f_STORE, f_SET, f_ADDI, f_ADD, f_CALL, f_RET, f_IF, f_WHILE, f_END, f_ADVANCE, f_OFFSET, f_REGISTER, f_RESTORE, f_REMEMBER, f_RECALL, f_codeLimit, f_functionLimit, f_depthLimit, f_wordLimit, f_used, f_functionCount, f_tableUsed, f_ruleAddress, f_now, f_reachable, f_openCount, (nI q), (nI p), f_active, f_walkPc, f_walkSp, f_walkBase, f_walkState, a_ops, a_firsts, a_seconds, a_link, a_codeStart, a_tableStart, a_table, a_openCell, a_openState, a_regs, a_stack, a_memory, a_seen) := by
  refine ut_xst_r hp (by omega) h1 h2 ?_
  exact br_f (by decide) (br_t (by decide) (nm_r (pk_sub ha) K))
theorem ut_xs58 (hp : p < 64) (ho : o = 5 ∨ o = 8) (h1 : a_ops p = nI o) (h2 : a_firsts p = nI a) (h3 : a_link p = nI L) (ha : a ≤ 5) (hL : 0 < L ∧ L ≤ q) (hq : q ≤ 144)
    (K : post (f_SAVE, f_PUSH, f_POP, f_ALLOC, f_FREE, f_KEEP, f_BACK, f_LOAD, f_STORE, f_SET, f_ADDI, f_ADD, f_CALL, f_RET, f_IF, f_WHILE, f_END, f_ADVANCE, f_OFFSET, f_REGISTER, f_RESTORE, f_REMEMBER, f_RECALL, f_codeLimit, f_functionLimit, f_depthLimit, f_wordLimit, f_used, f_functionCount, f_tableUsed, f_ruleAddress, f_now, f_reachable, f_openCount, (nI q), (nI (p + 1)), f_active, f_walkPc, f_walkSp, f_walkBase, f_walkState, a_ops, a_firsts, a_seconds, a_link, a_codeStart, a_tableStart, a_table, a_openCell, a_openState, a_regs, (upd a_stack (q - L) (a_regs a)), a_memory, a_seen)) : wpX_step post (f_SAVE, f_PUSH, f_POP, f_ALLOC, f_FREE, f_KEEP, f_BACK, f_LOAD, f_STORE, f_SET, f_ADDI, f_ADD, f_CALL, f_RET, f_IF, f_WHILE, f_END, f_ADVANCE, f_OFFSET, f_REGISTER, f_RESTORE, f_REMEMBER, f_RECALL, f_codeLimit, f_functionLimit, f_depthLimit, f_wordLimit, f_used, f_functionCount, f_tableUsed, f_ruleAddress, f_now, f_reachable, f_openCount, (nI q), (nI p), f_active, f_walkPc, f_walkSp, f_walkBase, f_walkState, a_ops, a_firsts, a_seconds, a_link, a_codeStart, a_tableStart, a_table, a_openCell, a_openState, a_regs, a_stack, a_memory, a_seen) := by
  have i : vp_in (nI p) 64 := vp_in_nI hp (by omega)
  refine ut_xst_a hp (by omega) h1 ?_
  have G : wX_stepAccess_60 post (nI p) (nI a) f_SAVE f_PUSH f_POP f_ALLOC f_FREE f_KEEP f_BACK f_LOAD f_STORE f_SET f_ADDI f_ADD f_CALL f_RET f_IF f_WHILE f_END f_ADVANCE f_OFFSET f_REGISTER f_RESTORE f_REMEMBER f_RECALL f_codeLimit f_functionLimit f_depthLimit f_wordLimit f_used f_functionCount f_tableUsed f_ruleAddress f_now f_reachable f_openCount (nI q) (nI (p + 1)) f_active f_walkPc f_walkSp f_walkBase f_walkState a_ops a_firsts a_seconds a_link a_codeStart a_tableStart a_table a_openCell a_openState a_regs a_stack a_memory a_seen := by
    unfold wX_stepAccess_60
    refine ⟨i, vp_in_nI (by omega) (by omega), ?_⟩
    rw [nI_clamp (by omega), h3, pk_sub hL.2]
    refine ⟨vp_in_nI (by omega) (by omega), ?_⟩
    rw [nI_clamp (by omega), nI_clamp (by omega)]
    exact nm_e K
  unfold wpX_stepAccess
  dsimp only
  rw [nI_clamp (by omega), h1, h2]
  refine ⟨i, nm_e ⟨i, nm_e ⟨i, nm_e ?_⟩⟩⟩
  refine br_f (nI_nlt (a := o) (b := 5) (by omega) (by omega)) (br_f (nI_nlt (a := 10) (b := o) (by omega) (by omega)) ?_)
  rcases ho with rfl | rfl
  · exact br_t rfl G
  · exact br_f (by decide) (br_f (by decide) (br_f (by decide) (br_t rfl G)))
theorem ut_xs67 (hp : p < 64) (ho : o = 6 ∨ o = 7) (h1 : a_ops p = nI o) (h2 : a_firsts p = nI a) (h3 : a_link p = nI L) (ha : a ≤ 5) (hL : 0 < L ∧ L ≤ q) (hq : q ≤ 144)
    (K : post (f_SAVE, f_PUSH, f_POP, f_ALLOC, f_FREE, f_KEEP, f_BACK, f_LOAD, f_STORE, f_SET, f_ADDI, f_ADD, f_CALL, f_RET, f_IF, f_WHILE, f_END, f_ADVANCE, f_OFFSET, f_REGISTER, f_RESTORE, f_REMEMBER, f_RECALL, f_codeLimit, f_functionLimit, f_depthLimit, f_wordLimit, f_used, f_functionCount, f_tableUsed, f_ruleAddress, f_now, f_reachable, f_openCount, (nI q), (nI (p + 1)), f_active, f_walkPc, f_walkSp, f_walkBase, f_walkState, a_ops, a_firsts, a_seconds, a_link, a_codeStart, a_tableStart, a_table, a_openCell, a_openState, (upd a_regs a (a_stack (q - L))), a_stack, a_memory, a_seen)) : wpX_step post (f_SAVE, f_PUSH, f_POP, f_ALLOC, f_FREE, f_KEEP, f_BACK, f_LOAD, f_STORE, f_SET, f_ADDI, f_ADD, f_CALL, f_RET, f_IF, f_WHILE, f_END, f_ADVANCE, f_OFFSET, f_REGISTER, f_RESTORE, f_REMEMBER, f_RECALL, f_codeLimit, f_functionLimit, f_depthLimit, f_wordLimit, f_used, f_functionCount, f_tableUsed, f_ruleAddress, f_now, f_reachable, f_openCount, (nI q), (nI p), f_active, f_walkPc, f_walkSp, f_walkBase, f_walkState, a_ops, a_firsts, a_seconds, a_link, a_codeStart, a_tableStart, a_table, a_openCell, a_openState, a_regs, a_stack, a_memory, a_seen) := by
  have i : vp_in (nI p) 64 := vp_in_nI hp (by omega)
  refine ut_xst_a hp (by omega) h1 ?_
  have G : wX_stepAccess_85 post (nI p) (nI a) f_SAVE f_PUSH f_POP f_ALLOC f_FREE f_KEEP f_BACK f_LOAD f_STORE f_SET f_ADDI f_ADD f_CALL f_RET f_IF f_WHILE f_END f_ADVANCE f_OFFSET f_REGISTER f_RESTORE f_REMEMBER f_RECALL f_codeLimit f_functionLimit f_depthLimit f_wordLimit f_used f_functionCount f_tableUsed f_ruleAddress f_now f_reachable f_openCount (nI q) (nI (p + 1)) f_active f_walkPc f_walkSp f_walkBase f_walkState a_ops a_firsts a_seconds a_link a_codeStart a_tableStart a_table a_openCell a_openState a_regs a_stack a_memory a_seen := by
    unfold wX_stepAccess_85
    refine ⟨i, ?_⟩
    rw [nI_clamp (by omega), h3, pk_sub hL.2]
    refine ⟨vp_in_nI (by omega) (by omega), vp_in_nI (by omega) (by omega), ?_⟩
    rw [nI_clamp (by omega), nI_clamp (by omega)]
    exact nm_e K
  unfold wpX_stepAccess
  dsimp only
  rw [nI_clamp (by omega), h1, h2]
  refine ⟨i, nm_e ⟨i, nm_e ⟨i, nm_e ?_⟩⟩⟩
  refine br_f (nI_nlt (a := o) (b := 5) (by omega) (by omega)) (br_f (nI_nlt (a := 10) (b := o) (by omega) (by omega)) ?_)
  rcases ho with rfl | rfl
  · exact br_f (by decide) (br_t rfl G)
  · exact br_f (by decide) (br_f (by decide) (br_t rfl G))
theorem ut_xs9 (hp : p < 64) (h1 : a_ops p = nI 9) (h2 : a_firsts p = nI a) (ha : a ≤ 5)
    (K : post (f_SAVE, f_PUSH, f_POP, f_ALLOC, f_FREE, f_KEEP, f_BACK, f_LOAD, f_STORE, f_SET, f_ADDI, f_ADD, f_CALL, f_RET, f_IF, f_WHILE, f_END, f_ADVANCE, f_OFFSET, f_REGISTER, f_RESTORE, f_REMEMBER, f_RECALL, f_codeLimit, f_functionLimit, f_depthLimit, f_wordLimit, f_used, f_functionCount, f_tableUsed, f_ruleAddress, f_now, f_reachable, f_openCount, f_sp, (nI (p + 1)), f_active, f_walkPc, f_walkSp, f_walkBase, f_walkState, a_ops, a_firsts, a_seconds, a_link, a_codeStart, a_tableStart, a_table, a_openCell, a_openState, (upd a_regs a (a_seconds p)), a_stack, a_memory, a_seen)) : wpX_step post (f_SAVE, f_PUSH, f_POP, f_ALLOC, f_FREE, f_KEEP, f_BACK, f_LOAD, f_STORE, f_SET, f_ADDI, f_ADD, f_CALL, f_RET, f_IF, f_WHILE, f_END, f_ADVANCE, f_OFFSET, f_REGISTER, f_RESTORE, f_REMEMBER, f_RECALL, f_codeLimit, f_functionLimit, f_depthLimit, f_wordLimit, f_used, f_functionCount, f_tableUsed, f_ruleAddress, f_now, f_reachable, f_openCount, f_sp, (nI p), f_active, f_walkPc, f_walkSp, f_walkBase, f_walkState, a_ops, a_firsts, a_seconds, a_link, a_codeStart, a_tableStart, a_table, a_openCell, a_openState, a_regs, a_stack, a_memory, a_seen) := by
  have i : vp_in (nI p) 64 := vp_in_nI hp (by omega)
  refine ut_xst_a hp (by omega) h1 ?_
  unfold wpX_stepAccess
  dsimp only
  rw [nI_clamp (by omega), h1, h2]
  refine ⟨i, nm_e ⟨i, nm_e ⟨i, nm_e ?_⟩⟩⟩
  refine br_f (by decide) (br_f (by decide) (br_f (by decide) (br_f (by decide) (br_f (by decide) (br_f (by decide) (br_t rfl ⟨vp_in_nI (by omega) (by omega), ?_⟩))))))
  rw [nI_clamp (by omega)]
  exact nm_e K
theorem ut_xs10 (hp : p < 64) (h1 : a_ops p = nI 10) (h2 : a_firsts p = nI a) (ha : a ≤ 5)
    (K : post (f_SAVE, f_PUSH, f_POP, f_ALLOC, f_FREE, f_KEEP, f_BACK, f_LOAD, f_STORE, f_SET, f_ADDI, f_ADD, f_CALL, f_RET, f_IF, f_WHILE, f_END, f_ADVANCE, f_OFFSET, f_REGISTER, f_RESTORE, f_REMEMBER, f_RECALL, f_codeLimit, f_functionLimit, f_depthLimit, f_wordLimit, f_used, f_functionCount, f_tableUsed, f_ruleAddress, f_now, f_reachable, f_openCount, f_sp, (nI (p + 1)), f_active, f_walkPc, f_walkSp, f_walkBase, f_walkState, a_ops, a_firsts, a_seconds, a_link, a_codeStart, a_tableStart, a_table, a_openCell, a_openState, (upd a_regs a (a_regs a + a_seconds p)), a_stack, a_memory, a_seen)) : wpX_step post (f_SAVE, f_PUSH, f_POP, f_ALLOC, f_FREE, f_KEEP, f_BACK, f_LOAD, f_STORE, f_SET, f_ADDI, f_ADD, f_CALL, f_RET, f_IF, f_WHILE, f_END, f_ADVANCE, f_OFFSET, f_REGISTER, f_RESTORE, f_REMEMBER, f_RECALL, f_codeLimit, f_functionLimit, f_depthLimit, f_wordLimit, f_used, f_functionCount, f_tableUsed, f_ruleAddress, f_now, f_reachable, f_openCount, f_sp, (nI p), f_active, f_walkPc, f_walkSp, f_walkBase, f_walkState, a_ops, a_firsts, a_seconds, a_link, a_codeStart, a_tableStart, a_table, a_openCell, a_openState, a_regs, a_stack, a_memory, a_seen) := by
  have i : vp_in (nI p) 64 := vp_in_nI hp (by omega)
  refine ut_xst_a hp (by omega) h1 ?_
  unfold wpX_stepAccess
  dsimp only
  rw [nI_clamp (by omega), h1, h2]
  refine ⟨i, nm_e ⟨i, nm_e ⟨i, nm_e ?_⟩⟩⟩
  have i6 : vp_in (nI a) 6 := vp_in_nI (by omega) (by omega)
  refine br_f (by decide) (br_f (by decide) (br_f (by decide) (br_f (by decide) (br_f (by decide) (br_f (by decide) (br_f (by decide) (br_t rfl ⟨i6, i6, ?_⟩)))))))
  rw [nI_clamp (by omega)]
  exact nm_e K
theorem ut_xs11 (hp : p < 64) (h1 : a_ops p = nI 11) (h2 : a_firsts p = nI a) (h3 : a_seconds p = nI c) (ha : a ≤ 5) (hc : c ≤ 5)
    (K : post (f_SAVE, f_PUSH, f_POP, f_ALLOC, f_FREE, f_KEEP, f_BACK, f_LOAD, f_STORE, f_SET, f_ADDI, f_ADD, f_CALL, f_RET, f_IF, f_WHILE, f_END, f_ADVANCE, f_OFFSET, f_REGISTER, f_RESTORE, f_REMEMBER, f_RECALL, f_codeLimit, f_functionLimit, f_depthLimit, f_wordLimit, f_used, f_functionCount, f_tableUsed, f_ruleAddress, f_now, f_reachable, f_openCount, f_sp, (nI (p + 1)), f_active, f_walkPc, f_walkSp, f_walkBase, f_walkState, a_ops, a_firsts, a_seconds, a_link, a_codeStart, a_tableStart, a_table, a_openCell, a_openState, (upd a_regs a (a_regs a + a_regs c)), a_stack, a_memory, a_seen)) : wpX_step post (f_SAVE, f_PUSH, f_POP, f_ALLOC, f_FREE, f_KEEP, f_BACK, f_LOAD, f_STORE, f_SET, f_ADDI, f_ADD, f_CALL, f_RET, f_IF, f_WHILE, f_END, f_ADVANCE, f_OFFSET, f_REGISTER, f_RESTORE, f_REMEMBER, f_RECALL, f_codeLimit, f_functionLimit, f_depthLimit, f_wordLimit, f_used, f_functionCount, f_tableUsed, f_ruleAddress, f_now, f_reachable, f_openCount, f_sp, (nI p), f_active, f_walkPc, f_walkSp, f_walkBase, f_walkState, a_ops, a_firsts, a_seconds, a_link, a_codeStart, a_tableStart, a_table, a_openCell, a_openState, a_regs, a_stack, a_memory, a_seen) := by
  have i : vp_in (nI p) 64 := vp_in_nI hp (by omega)
  refine ut_xst_a hp (by omega) h1 ?_
  unfold wpX_stepAccess
  dsimp only
  rw [nI_clamp (by omega), h1, h2, h3]
  refine ⟨i, nm_e ⟨i, nm_e ⟨i, nm_e ?_⟩⟩⟩
  have i6 : vp_in (nI a) 6 := vp_in_nI (by omega) (by omega)
  refine br_f (by decide) (br_t (by decide) ⟨i6, vp_in_nI (by omega) (by omega), i6, ?_⟩)
  rw [nI_clamp (by omega), nI_clamp (by omega)]
  exact nm_e K
theorem ut_xs12 {x : Int32} (hp : p < 64) (h1 : a_ops p = nI 12) (h2 : a_firsts p = nI a) (ha : a < 9) (h3 : a_codeStart a = x) (hq : q < 144)
    (K : post (f_SAVE, f_PUSH, f_POP, f_ALLOC, f_FREE, f_KEEP, f_BACK, f_LOAD, f_STORE, f_SET, f_ADDI, f_ADD, f_CALL, f_RET, f_IF, f_WHILE, f_END, f_ADVANCE, f_OFFSET, f_REGISTER, f_RESTORE, f_REMEMBER, f_RECALL, f_codeLimit, f_functionLimit, f_depthLimit, f_wordLimit, f_used, f_functionCount, f_tableUsed, f_ruleAddress, f_now, f_reachable, f_openCount, (nI (q + 1)), x, (nI (D + 1)), f_walkPc, f_walkSp, f_walkBase, f_walkState, a_ops, a_firsts, a_seconds, a_link, a_codeStart, a_tableStart, a_table, a_openCell, a_openState, a_regs, (upd a_stack q (nI (p + 1))), a_memory, a_seen)) : wpX_step post (f_SAVE, f_PUSH, f_POP, f_ALLOC, f_FREE, f_KEEP, f_BACK, f_LOAD, f_STORE, f_SET, f_ADDI, f_ADD, f_CALL, f_RET, f_IF, f_WHILE, f_END, f_ADVANCE, f_OFFSET, f_REGISTER, f_RESTORE, f_REMEMBER, f_RECALL, f_codeLimit, f_functionLimit, f_depthLimit, f_wordLimit, f_used, f_functionCount, f_tableUsed, f_ruleAddress, f_now, f_reachable, f_openCount, (nI q), (nI p), (nI D), f_walkPc, f_walkSp, f_walkBase, f_walkState, a_ops, a_firsts, a_seconds, a_link, a_codeStart, a_tableStart, a_table, a_openCell, a_openState, a_regs, a_stack, a_memory, a_seen) := by
  have i : vp_in (nI p) 64 := vp_in_nI hp (by omega)
  refine ut_xst_f hp (by omega) h1 ?_
  unfold wpX_stepFlow
  dsimp only
  rw [nI_clamp (by omega), nI_clamp (by omega), h1, h2]
  refine ⟨i, nm_e (br_f (by decide) (br_f (by decide) (br_t rfl ⟨vp_in_nI hq (by omega), nm_e (nm_r (nI_1 q) ⟨i, vp_in_nI ha (by omega), ?_⟩)⟩)))⟩
  rw [nI_clamp (by omega), h3]
  exact nm_e (nm_r (nI_1 D) K)
theorem ut_xs13 {x : Int32} (hp : p < 64) (h1 : a_ops p = nI 13) (h0 : 0 < q) (hq : q ≤ 144) (h3 : a_stack (q - 1) = x) (hD : 0 < D)
    (K : post (f_SAVE, f_PUSH, f_POP, f_ALLOC, f_FREE, f_KEEP, f_BACK, f_LOAD, f_STORE, f_SET, f_ADDI, f_ADD, f_CALL, f_RET, f_IF, f_WHILE, f_END, f_ADVANCE, f_OFFSET, f_REGISTER, f_RESTORE, f_REMEMBER, f_RECALL, f_codeLimit, f_functionLimit, f_depthLimit, f_wordLimit, f_used, f_functionCount, f_tableUsed, f_ruleAddress, f_now, f_reachable, f_openCount, (nI (q - 1)), x, (nI (D - 1)), f_walkPc, f_walkSp, f_walkBase, f_walkState, a_ops, a_firsts, a_seconds, a_link, a_codeStart, a_tableStart, a_table, a_openCell, a_openState, a_regs, a_stack, a_memory, a_seen)) : wpX_step post (f_SAVE, f_PUSH, f_POP, f_ALLOC, f_FREE, f_KEEP, f_BACK, f_LOAD, f_STORE, f_SET, f_ADDI, f_ADD, f_CALL, f_RET, f_IF, f_WHILE, f_END, f_ADVANCE, f_OFFSET, f_REGISTER, f_RESTORE, f_REMEMBER, f_RECALL, f_codeLimit, f_functionLimit, f_depthLimit, f_wordLimit, f_used, f_functionCount, f_tableUsed, f_ruleAddress, f_now, f_reachable, f_openCount, (nI q), (nI p), (nI D), f_walkPc, f_walkSp, f_walkBase, f_walkState, a_ops, a_firsts, a_seconds, a_link, a_codeStart, a_tableStart, a_table, a_openCell, a_openState, a_regs, a_stack, a_memory, a_seen) := by
  have i : vp_in (nI p) 64 := vp_in_nI hp (by omega)
  refine ut_xst_f hp (by omega) h1 ?_
  unfold wpX_stepFlow
  dsimp only
  rw [nI_clamp (by omega), h1]
  refine ⟨i, nm_e (br_f (by decide) (br_f (by decide) (br_f (by decide) (br_t rfl (nm_r (ut_s1 h0) ⟨vp_in_nI (by omega) (by omega), ?_⟩)))))⟩
  rw [nI_clamp (by omega), h3]
  exact nm_e (nm_r (ut_s1 hD) K)
theorem ut_xs14 {x : Int32} (hp : p < 64) (ho : o = 14 ∨ o = 15) (h1 : a_ops p = nI o) (h2 : a_firsts p = nI a) (ha : a ≤ 5) (h3 : a_link p = x)
    (K0 : a_regs a = 0 → post (f_SAVE, f_PUSH, f_POP, f_ALLOC, f_FREE, f_KEEP, f_BACK, f_LOAD, f_STORE, f_SET, f_ADDI, f_ADD, f_CALL, f_RET, f_IF, f_WHILE, f_END, f_ADVANCE, f_OFFSET, f_REGISTER, f_RESTORE, f_REMEMBER, f_RECALL, f_codeLimit, f_functionLimit, f_depthLimit, f_wordLimit, f_used, f_functionCount, f_tableUsed, f_ruleAddress, f_now, f_reachable, f_openCount, f_sp, x, f_active, f_walkPc, f_walkSp, f_walkBase, f_walkState, a_ops, a_firsts, a_seconds, a_link, a_codeStart, a_tableStart, a_table, a_openCell, a_openState, a_regs, a_stack, a_memory, a_seen)) (K1 : ¬ a_regs a = 0 → post (f_SAVE, f_PUSH, f_POP, f_ALLOC, f_FREE, f_KEEP, f_BACK, f_LOAD, f_STORE, f_SET, f_ADDI, f_ADD, f_CALL, f_RET, f_IF, f_WHILE, f_END, f_ADVANCE, f_OFFSET, f_REGISTER, f_RESTORE, f_REMEMBER, f_RECALL, f_codeLimit, f_functionLimit, f_depthLimit, f_wordLimit, f_used, f_functionCount, f_tableUsed, f_ruleAddress, f_now, f_reachable, f_openCount, f_sp, (nI (p + 1)), f_active, f_walkPc, f_walkSp, f_walkBase, f_walkState, a_ops, a_firsts, a_seconds, a_link, a_codeStart, a_tableStart, a_table, a_openCell, a_openState, a_regs, a_stack, a_memory, a_seen)) : wpX_step post (f_SAVE, f_PUSH, f_POP, f_ALLOC, f_FREE, f_KEEP, f_BACK, f_LOAD, f_STORE, f_SET, f_ADDI, f_ADD, f_CALL, f_RET, f_IF, f_WHILE, f_END, f_ADVANCE, f_OFFSET, f_REGISTER, f_RESTORE, f_REMEMBER, f_RECALL, f_codeLimit, f_functionLimit, f_depthLimit, f_wordLimit, f_used, f_functionCount, f_tableUsed, f_ruleAddress, f_now, f_reachable, f_openCount, f_sp, (nI p), f_active, f_walkPc, f_walkSp, f_walkBase, f_walkState, a_ops, a_firsts, a_seconds, a_link, a_codeStart, a_tableStart, a_table, a_openCell, a_openState, a_regs, a_stack, a_memory, a_seen) := by
  have i : vp_in (nI p) 64 := vp_in_nI hp (by omega)
  refine ut_xst_f hp (by omega) h1 ?_
  have G : wX_stepFlow_140 post (nI p) f_SAVE f_PUSH f_POP f_ALLOC f_FREE f_KEEP f_BACK f_LOAD f_STORE f_SET f_ADDI f_ADD f_CALL f_RET f_IF f_WHILE f_END f_ADVANCE f_OFFSET f_REGISTER f_RESTORE f_REMEMBER f_RECALL f_codeLimit f_functionLimit f_depthLimit f_wordLimit f_used f_functionCount f_tableUsed f_ruleAddress f_now f_reachable f_openCount f_sp (nI (p + 1)) f_active f_walkPc f_walkSp f_walkBase f_walkState a_ops a_firsts a_seconds a_link a_codeStart a_tableStart a_table a_openCell a_openState a_regs a_stack a_memory a_seen := by
    unfold wX_stepFlow_140
    refine ⟨i, ?_⟩
    rw [nI_clamp (by omega), h2]
    refine ⟨vp_in_nI (by omega) (by omega), ?_⟩
    rw [nI_clamp (by omega), h3]
    exact br_c (fun e => ⟨i, nm_e (K0 e)⟩) K1
  unfold wpX_stepFlow
  dsimp only
  rw [nI_clamp (by omega), h1]
  refine ⟨i, nm_e (br_f (nI_nlt (a := o) (b := 12) (by omega) (by omega)) (br_f (nI_nlt (a := 16) (b := o) (by omega) (by omega)) ?_))⟩
  rcases ho with rfl | rfl
  · exact br_f (by decide) (br_f (by decide) (br_t rfl G))
  · exact br_f (by decide) (br_f (by decide) (br_f (by decide) (br_t rfl G)))
theorem ut_xs16 {x : Int32} (hp : p < 64) (h1 : a_ops p = nI 16) (h3 : a_link p = x)
    (K : post (f_SAVE, f_PUSH, f_POP, f_ALLOC, f_FREE, f_KEEP, f_BACK, f_LOAD, f_STORE, f_SET, f_ADDI, f_ADD, f_CALL, f_RET, f_IF, f_WHILE, f_END, f_ADVANCE, f_OFFSET, f_REGISTER, f_RESTORE, f_REMEMBER, f_RECALL, f_codeLimit, f_functionLimit, f_depthLimit, f_wordLimit, f_used, f_functionCount, f_tableUsed, f_ruleAddress, f_now, f_reachable, f_openCount, f_sp, x, f_active, f_walkPc, f_walkSp, f_walkBase, f_walkState, a_ops, a_firsts, a_seconds, a_link, a_codeStart, a_tableStart, a_table, a_openCell, a_openState, a_regs, a_stack, a_memory, a_seen)) : wpX_step post (f_SAVE, f_PUSH, f_POP, f_ALLOC, f_FREE, f_KEEP, f_BACK, f_LOAD, f_STORE, f_SET, f_ADDI, f_ADD, f_CALL, f_RET, f_IF, f_WHILE, f_END, f_ADVANCE, f_OFFSET, f_REGISTER, f_RESTORE, f_REMEMBER, f_RECALL, f_codeLimit, f_functionLimit, f_depthLimit, f_wordLimit, f_used, f_functionCount, f_tableUsed, f_ruleAddress, f_now, f_reachable, f_openCount, f_sp, (nI p), f_active, f_walkPc, f_walkSp, f_walkBase, f_walkState, a_ops, a_firsts, a_seconds, a_link, a_codeStart, a_tableStart, a_table, a_openCell, a_openState, a_regs, a_stack, a_memory, a_seen) := by
  have i : vp_in (nI p) 64 := vp_in_nI hp (by omega)
  refine ut_xst_f hp (by omega) h1 ?_
  unfold wpX_stepFlow
  dsimp only
  rw [nI_clamp (by omega), h1, h3]
  exact ⟨i, nm_e (br_f (by decide) (br_f (by decide) (br_f (by decide) (br_f (by decide) (br_f (by decide) (br_f (by decide) (br_t rfl ⟨i, nm_e K⟩)))))))⟩
end UT28
end
section
/-! run: the frame of the induction -/
section UT29
section Z
def ut_fz (f : Nat → Int32) (l h : Nat) (x : Int32) : Nat → Int32 := fun j => if l ≤ j ∧ j < h then x else f j
theorem ut_fz_in {f : Nat → Int32} {l h j : Nat} {x : Int32} (h1 : l ≤ j) (h2 : j < h) : ut_fz f l h x j = x := if_pos ⟨h1, h2⟩
theorem ut_fz_out {f : Nat → Int32} {l h j : Nat} {x : Int32} (h1 : j < l ∨ h ≤ j) : ut_fz f l h x j = f j := if_neg (by omega)
theorem ut_fz_eq {f s : Nat → Int32} {l h : Nat} {x : Int32} (h1 : ∀ j, l ≤ j → j < h → s j = x) (h2 : ∀ j, (j < l ∨ h ≤ j) → s j = f j) : s = ut_fz f l h x := by
  funext j
  by_cases z : l ≤ j ∧ j < h
  · rw [ut_fz_in z.1 z.2, h1 j z.1 z.2]
  · rw [ut_fz_out (by omega), h2 j (by omega)]
end Z
variable {g_codeLimit g_functionsLimit g_depthLimit g_wordsLimit g_used g_open g_depth g_reachable : Int32} {b_cellOp b_cellA b_cellB b_regs b_kinds b_count b_values b_function b_address b_atCall : Nat → Int32}
section K
variable {wl fl N row o a : Nat} {b : Int32}
/-- changeKinds, its end named -/
theorem ut_ycx (hw : wl ≤ 8) (hrow : row < 21) (hc : b_count row = nI (ut_sz N)) (hF : ut_FS wl N (fun j => b_kinds (row * 8 + j))) (ho : o ≤ 12) (hf : ut_fit fl wl o a b N) :
    ∃ k' c', (∀ j, (j < row * 8 ∨ row * 8 + 8 ≤ j) → k' j = b_kinds j) ∧ (∀ j, j ≠ row → c' j = b_count j) ∧ c' row = nI (ut_sz (ut_eff o a b N)) ∧ ut_FS wl (ut_eff o a b N) (fun j => k' (row * 8 + j)) ∧
      ∀ post : SY → Prop, post (g_codeLimit, g_functionsLimit, g_depthLimit, g_wordsLimit, g_used, g_open, g_depth, g_reachable, b_cellOp, b_cellA, b_cellB, b_regs, k', c', b_values, b_function, b_address, b_atCall) → wpY_changeKinds post (g_codeLimit, g_functionsLimit, g_depthLimit, g_wordsLimit, g_used, g_open, g_depth, g_reachable, b_cellOp, b_cellA, b_cellB, b_regs, b_kinds, b_count, b_values, b_function, b_address, b_atCall) (nI row) (nI o) (nI a) b := by
  have h16 := ut_sz_lt N
  have hs := hF.2.1
  obtain ⟨f0, f1, f2, f3, f4, f5, f6, f7, f8, f9, f10, f11, f12⟩ := hf
  by_cases e7 : 7 ≤ o
  · have e : ut_eff o a b N = N := by
      unfold ut_eff
      rw [if_neg (by omega), if_neg (by omega), if_neg (by omega), if_neg (by omega), if_neg (by omega), if_neg (by omega), if_neg (by omega)]
    rw [e]
    exact ⟨b_kinds, b_count, fun _ _ => rfl, fun _ _ => rfl, hc, hF, fun post hp => ut_ckh hw hrow hc hF ho (by omega) (by omega) (fun x7 => ut_ck60 ho (by omega) (by omega) (by omega) (by omega) (by omega) hp)⟩
  by_cases e0 : o = 0
  · subst e0
    obtain ⟨a3, pa, nw⟩ := f0 rfl
    have e : ut_eff 0 a b N = ut_sp (ut_ss N (ut_sz N + 1)) a (ut_sz N + 1) := if_pos rfl
    have es : ut_sz (ut_sp (ut_ss N (ut_sz N + 1)) a (ut_sz N + 1)) = ut_sz N + 1 := by rw [ut_sz_sp (by omega)]; exact ut_sz_ss (by omega)
    rw [e]
    refine ⟨_, _, fun j hj => pk_un (by omega), fun j hj => pk_un hj, by rw [pk_us, es], ?_, fun post hp => ut_ck01 hw hrow hc hF nw (Or.inl ⟨rfl, rfl⟩) hp⟩
    exact ut_ap_save hw hF (by omega) pa nw (fun i hi => pk_un (by omega)) pk_us
  by_cases e1 : o = 1
  · subst e1
    obtain ⟨a3, nw⟩ := f1 rfl
    have e : ut_eff 1 a b N = ut_ss N (ut_sz N + 1) := rfl
    have es : ut_sz (ut_ss N (ut_sz N + 1)) = ut_sz N + 1 := ut_sz_ss (by omega)
    rw [e]
    refine ⟨_, _, fun j hj => pk_un (by omega), fun j hj => pk_un hj, by rw [pk_us, es], ?_, fun post hp => ut_ck01 hw hrow hc hF nw (Or.inr ⟨rfl, rfl⟩) hp⟩
    exact ut_ap_push hw hF nw (fun i hi => pk_un (by omega)) pk_us
  by_cases e2 : o = 2
  · subst e2
    obtain ⟨a3, n0, hk⟩ := f2 rfl
    have e : ut_eff 2 a b N = (if a < 4 ∧ ut_pl N a = ut_sz N then ut_sp (ut_ss N (ut_sz N - 1)) a 0 else ut_ss N (ut_sz N - 1)) := rfl
    rw [e]
    by_cases z : a < 4 ∧ ut_pl N a = ut_sz N
    · have es : ut_sz (ut_sp (ut_ss N (ut_sz N - 1)) a 0) = ut_sz N - 1 := by rw [ut_sz_sp z.1]; exact ut_sz_ss (by omega)
      rw [if_pos z]
      refine ⟨b_kinds, _, fun _ _ => rfl, fun j hj => pk_un hj, by rw [pk_us, es], ?_, fun post hp => ut_ck2 hw hrow hc hF n0 hp⟩
      exact ut_ap_popk hF z.1 z.2 n0 (fun _ _ => rfl)
    · have es : ut_sz (ut_ss N (ut_sz N - 1)) = ut_sz N - 1 := ut_sz_ss (by omega)
      rw [if_neg z]
      refine ⟨b_kinds, _, fun _ _ => rfl, fun j hj => pk_un hj, by rw [pk_us, es], ?_, fun post hp => ut_ck2 hw hrow hc hF n0 hp⟩
      refine ut_ap_cut hF (by omega) (fun r hr => ?_) (fun _ _ => rfl)
      rcases hk with ⟨hk, _⟩ | hk
      · have k1 := hk r hr
        have k2 := hF.2.2.1 r hr
        omega
      · exact absurd ⟨by omega, hk.2⟩ z
  by_cases e3 : o = 3
  · subst e3
    obtain ⟨a1, a8, nw⟩ := f3 rfl
    have e : ut_eff 3 a b N = ut_ss N (ut_sz N + a) := rfl
    have es : ut_sz (ut_ss N (ut_sz N + a)) = ut_sz N + a := ut_sz_ss (by omega)
    rw [e]
    refine ⟨ut_fz b_kinds (row * 8 + ut_sz N) (row * 8 + (ut_sz N + a)) 4, _, fun j hj => ut_fz_out (by omega), fun j hj => pk_un hj, by rw [pk_us, es], ?_, fun post hp => ut_ck3 hw hrow hc hF (by omega) (fun k' h1 h2 => ?_)⟩
    · exact ut_ap_alloc hw hF nw (fun i hi => ut_fz_out (by omega)) (fun i i1 i2 => ut_fz_in (by omega) (by omega))
    · have ek : k' = ut_fz b_kinds (row * 8 + ut_sz N) (row * 8 + (ut_sz N + a)) 4 := ut_fz_eq (fun j j1 j2 => by
        have := h1 (j - row * 8) (by omega) (by omega)
        rw [show row * 8 + (j - row * 8) = j by omega] at this
        exact this) h2
      rw [ek]; exact hp
  by_cases e4 : o = 4
  · subst e4
    obtain ⟨a1, a8, na, nk⟩ := f4 rfl
    have e : ut_eff 4 a b N = ut_ss N (ut_sz N - a) := rfl
    have es : ut_sz (ut_ss N (ut_sz N - a)) = ut_sz N - a := ut_sz_ss (by omega)
    rw [e]
    refine ⟨b_kinds, _, fun _ _ => rfl, fun j hj => pk_un hj, by rw [pk_us, es], ?_, fun post hp => ut_ck4 hw hrow hc hF na hp⟩
    exact ut_ap_cut hF (by omega) nk (fun _ _ => rfl)
  by_cases e5 : o = 5
  · subst e5
    obtain ⟨a3, pa, c, hb, hc8, hk⟩ := f5 rfl
    subst hb
    have e : ut_eff 5 a (nI c) N = ut_sp N a (c + 1) := by
      show ut_sp N a ((nI c).toNatClampNeg + 1) = _
      rw [nI_clamp (by omega)]
    have es : ut_sz (ut_sp N a (c + 1)) = ut_sz N := ut_sz_sp (by omega)
    rw [e]
    refine ⟨_, b_count, fun j hj => pk_un (by omega), fun _ _ => rfl, by rw [es]; exact hc, ?_, fun post hp => ut_ck5 hw hrow hc hF (by omega) hp⟩
    exact ut_ap_keep hw hF (by omega) pa hc8 hk (fun i hi hn => pk_un (by omega)) pk_us
  · have e6 : o = 6 := by omega
    subst e6
    obtain ⟨a3, pa⟩ := f6 rfl
    have h1 := hF.2.2.1 a (by omega)
    have e : ut_eff 6 a b N = ut_sp N a 0 := rfl
    have es : ut_sz (ut_sp N a 0) = ut_sz N := ut_sz_sp (by omega)
    rw [e]
    refine ⟨_, b_count, fun j hj => pk_un (by omega), fun _ _ => rfl, by rw [es]; exact hc, ?_, fun post hp => ut_ck6 hw hrow hc hF (by omega) pa hp⟩
    exact ut_ap_back hF (by omega) pa (fun i hi hn => pk_un (by omega)) pk_us
end K
variable {f_SAVE f_PUSH f_POP f_ALLOC f_FREE f_KEEP f_BACK f_LOAD f_STORE f_SET f_ADDI f_ADD f_CALL f_RET f_IF f_WHILE f_END f_ADVANCE f_OFFSET f_REGISTER f_RESTORE f_REMEMBER f_RECALL f_codeLimit f_functionLimit f_depthLimit f_wordLimit f_used f_functionCount f_tableUsed f_ruleAddress f_now f_reachable f_openCount f_sp f_pc f_active f_walkPc f_walkSp f_walkBase f_walkState : Int32} {a_ops a_firsts a_seconds a_link a_codeStart a_tableStart a_table a_openCell a_openState a_regs a_stack a_memory a_seen : Nat → Int32}
def ut_act (u : SX) : Int32 := match u with | (f_SAVE, f_PUSH, f_POP, f_ALLOC, f_FREE, f_KEEP, f_BACK, f_LOAD, f_STORE, f_SET, f_ADDI, f_ADD, f_CALL, f_RET, f_IF, f_WHILE, f_END, f_ADVANCE, f_OFFSET, f_REGISTER, f_RESTORE, f_REMEMBER, f_RECALL, f_codeLimit, f_functionLimit, f_depthLimit, f_wordLimit, f_used, f_functionCount, f_tableUsed, f_ruleAddress, f_now, f_reachable, f_openCount, f_sp, f_pc, f_active, f_walkPc, f_walkSp, f_walkBase, f_walkState, a_ops, a_firsts, a_seconds, a_link, a_codeStart, a_tableStart, a_table, a_openCell, a_openState, a_regs, a_stack, a_memory, a_seen) => f_active
def ut_xrun (post : Int32 → SX → Prop) (x2 : Int32) (n : Nat) (x3 : Int32) (u : SX) : Prop := match u with | (f_SAVE, f_PUSH, f_POP, f_ALLOC, f_FREE, f_KEEP, f_BACK, f_LOAD, f_STORE, f_SET, f_ADDI, f_ADD, f_CALL, f_RET, f_IF, f_WHILE, f_END, f_ADVANCE, f_OFFSET, f_REGISTER, f_RESTORE, f_REMEMBER, f_RECALL, f_codeLimit, f_functionLimit, f_depthLimit, f_wordLimit, f_used, f_functionCount, f_tableUsed, f_ruleAddress, f_now, f_reachable, f_openCount, f_sp, f_pc, f_active, f_walkPc, f_walkSp, f_walkBase, f_walkState, a_ops, a_firsts, a_seconds, a_link, a_codeStart, a_tableStart, a_table, a_openCell, a_openState, a_regs, a_stack, a_memory, a_seen) => wX_run_21 post x2 n x3 f_SAVE f_PUSH f_POP f_ALLOC f_FREE f_KEEP f_BACK f_LOAD f_STORE f_SET f_ADDI f_ADD f_CALL f_RET f_IF f_WHILE f_END f_ADVANCE f_OFFSET f_REGISTER f_RESTORE f_REMEMBER f_RECALL f_codeLimit f_functionLimit f_depthLimit f_wordLimit f_used f_functionCount f_tableUsed f_ruleAddress f_now f_reachable f_openCount f_sp f_pc f_active f_walkPc f_walkSp f_walkBase f_walkState a_ops a_firsts a_seconds a_link a_codeStart a_tableStart a_table a_openCell a_openState a_regs a_stack a_memory a_seen
def ut_yrun (post : Int32 → SY → Prop) (x2 : Int32) (n : Nat) (x3 : Int32) (v : SY) : Prop := match v with | (g_codeLimit, g_functionsLimit, g_depthLimit, g_wordsLimit, g_used, g_open, g_depth, g_reachable, b_cellOp, b_cellA, b_cellB, b_regs, b_kinds, b_count, b_values, b_function, b_address, b_atCall) => wY_run_21 post x2 n x3 g_codeLimit g_functionsLimit g_depthLimit g_wordsLimit g_used g_open g_depth g_reachable b_cellOp b_cellA b_cellB b_regs b_kinds b_count b_values b_function b_address b_atCall
def ut_G (st n i : Nat) (u : SX) (v : SY) : Prop :=
  ∃ r u' v', ut_RR u' v' ∧ (∀ post, post r u' → ut_xrun post (nI st) n (nI i) u) ∧ (∀ post, post r v' → ut_yrun post (nI st) n (nI i) v)
theorem ut_xr1 {post : Int32 → SX → Prop} {st n i : Nat} {u u1 : SX} (hi : i < st) (hst : st ≤ 500) (hcs : ∀ q : Int32 → Prop, q 0 → wpX_callStop q u) (hs : ∀ q : SX → Prop, q u1 → wpX_step q u)
    (ha : ut_act u1 ≠ 0) (h2 : ut_xrun post (nI st) n (nI (i + 1)) u1) : ut_xrun post (nI st) (n + 1) (nI i) u := by
  obtain ⟨f_SAVE, f_PUSH, f_POP, f_ALLOC, f_FREE, f_KEEP, f_BACK, f_LOAD, f_STORE, f_SET, f_ADDI, f_ADD, f_CALL, f_RET, f_IF, f_WHILE, f_END, f_ADVANCE, f_OFFSET, f_REGISTER, f_RESTORE, f_REMEMBER, f_RECALL, f_codeLimit, f_functionLimit, f_depthLimit, f_wordLimit, f_used, f_functionCount, f_tableUsed, f_ruleAddress, f_now, f_reachable, f_openCount, f_sp, f_pc, f_active, f_walkPc, f_walkSp, f_walkBase, f_walkState, a_ops, a_firsts, a_seconds, a_link, a_codeStart, a_tableStart, a_table, a_openCell, a_openState, a_regs, a_stack, a_memory, a_seen⟩ := u
  obtain ⟨f_SAVE1, f_PUSH1, f_POP1, f_ALLOC1, f_FREE1, f_KEEP1, f_BACK1, f_LOAD1, f_STORE1, f_SET1, f_ADDI1, f_ADD1, f_CALL1, f_RET1, f_IF1, f_WHILE1, f_END1, f_ADVANCE1, f_OFFSET1, f_REGISTER1, f_RESTORE1, f_REMEMBER1, f_RECALL1, f_codeLimit1, f_functionLimit1, f_depthLimit1, f_wordLimit1, f_used1, f_functionCount1, f_tableUsed1, f_ruleAddress1, f_now1, f_reachable1, f_openCount1, f_sp1, f_pc1, f_active1, f_walkPc1, f_walkSp1, f_walkBase1, f_walkState1, a_ops1, a_firsts1, a_seconds1, a_link1, a_codeStart1, a_tableStart1, a_table1, a_openCell1, a_openState1, a_regs1, a_stack1, a_memory1, a_seen1⟩ := u1
  show wX_run_21 post (nI st) (n + 1) (nI i) f_SAVE f_PUSH f_POP f_ALLOC f_FREE f_KEEP f_BACK f_LOAD f_STORE f_SET f_ADDI f_ADD f_CALL f_RET f_IF f_WHILE f_END f_ADVANCE f_OFFSET f_REGISTER f_RESTORE f_REMEMBER f_RECALL f_codeLimit f_functionLimit f_depthLimit f_wordLimit f_used f_functionCount f_tableUsed f_ruleAddress f_now f_reachable f_openCount f_sp f_pc f_active f_walkPc f_walkSp f_walkBase f_walkState a_ops a_firsts a_seconds a_link a_codeStart a_tableStart a_table a_openCell a_openState a_regs a_stack a_memory a_seen
  rw [wX_run_21]
  dsimp only
  refine br_f (nI_ge hi (by omega)) (hcs _ (br_t rfl (hs _ ?_)))
  dsimp only
  exact br_f ha (nm_r (nI_1 i) h2)
theorem ut_xr2 {post : Int32 → SX → Prop} {st n i : Nat} {u u1 : SX} (hi : i < st) (hst : st ≤ 500) (hcs : ∀ q : Int32 → Prop, q 0 → wpX_callStop q u) (hs : ∀ q : SX → Prop, q u1 → wpX_step q u)
    (ha : ut_act u1 = 0) (h2 : post 1 u1) : ut_xrun post (nI st) (n + 1) (nI i) u := by
  obtain ⟨f_SAVE, f_PUSH, f_POP, f_ALLOC, f_FREE, f_KEEP, f_BACK, f_LOAD, f_STORE, f_SET, f_ADDI, f_ADD, f_CALL, f_RET, f_IF, f_WHILE, f_END, f_ADVANCE, f_OFFSET, f_REGISTER, f_RESTORE, f_REMEMBER, f_RECALL, f_codeLimit, f_functionLimit, f_depthLimit, f_wordLimit, f_used, f_functionCount, f_tableUsed, f_ruleAddress, f_now, f_reachable, f_openCount, f_sp, f_pc, f_active, f_walkPc, f_walkSp, f_walkBase, f_walkState, a_ops, a_firsts, a_seconds, a_link, a_codeStart, a_tableStart, a_table, a_openCell, a_openState, a_regs, a_stack, a_memory, a_seen⟩ := u
  obtain ⟨f_SAVE1, f_PUSH1, f_POP1, f_ALLOC1, f_FREE1, f_KEEP1, f_BACK1, f_LOAD1, f_STORE1, f_SET1, f_ADDI1, f_ADD1, f_CALL1, f_RET1, f_IF1, f_WHILE1, f_END1, f_ADVANCE1, f_OFFSET1, f_REGISTER1, f_RESTORE1, f_REMEMBER1, f_RECALL1, f_codeLimit1, f_functionLimit1, f_depthLimit1, f_wordLimit1, f_used1, f_functionCount1, f_tableUsed1, f_ruleAddress1, f_now1, f_reachable1, f_openCount1, f_sp1, f_pc1, f_active1, f_walkPc1, f_walkSp1, f_walkBase1, f_walkState1, a_ops1, a_firsts1, a_seconds1, a_link1, a_codeStart1, a_tableStart1, a_table1, a_openCell1, a_openState1, a_regs1, a_stack1, a_memory1, a_seen1⟩ := u1
  show wX_run_21 post (nI st) (n + 1) (nI i) f_SAVE f_PUSH f_POP f_ALLOC f_FREE f_KEEP f_BACK f_LOAD f_STORE f_SET f_ADDI f_ADD f_CALL f_RET f_IF f_WHILE f_END f_ADVANCE f_OFFSET f_REGISTER f_RESTORE f_REMEMBER f_RECALL f_codeLimit f_functionLimit f_depthLimit f_wordLimit f_used f_functionCount f_tableUsed f_ruleAddress f_now f_reachable f_openCount f_sp f_pc f_active f_walkPc f_walkSp f_walkBase f_walkState a_ops a_firsts a_seconds a_link a_codeStart a_tableStart a_table a_openCell a_openState a_regs a_stack a_memory a_seen
  rw [wX_run_21]
  dsimp only
  refine br_f (nI_ge hi (by omega)) (hcs _ (br_t rfl (hs _ ?_)))
  dsimp only
  exact br_t ha h2
theorem ut_xr3 {post : Int32 → SX → Prop} {st n i : Nat} {u : SX} {r : Int32} (hi : i < st) (hst : st ≤ 500) (hr : r ≠ 0) (hcs : ∀ q : Int32 → Prop, q r → wpX_callStop q u) (h2 : post r u) : ut_xrun post (nI st) (n + 1) (nI i) u := by
  obtain ⟨f_SAVE, f_PUSH, f_POP, f_ALLOC, f_FREE, f_KEEP, f_BACK, f_LOAD, f_STORE, f_SET, f_ADDI, f_ADD, f_CALL, f_RET, f_IF, f_WHILE, f_END, f_ADVANCE, f_OFFSET, f_REGISTER, f_RESTORE, f_REMEMBER, f_RECALL, f_codeLimit, f_functionLimit, f_depthLimit, f_wordLimit, f_used, f_functionCount, f_tableUsed, f_ruleAddress, f_now, f_reachable, f_openCount, f_sp, f_pc, f_active, f_walkPc, f_walkSp, f_walkBase, f_walkState, a_ops, a_firsts, a_seconds, a_link, a_codeStart, a_tableStart, a_table, a_openCell, a_openState, a_regs, a_stack, a_memory, a_seen⟩ := u
  show wX_run_21 post (nI st) (n + 1) (nI i) f_SAVE f_PUSH f_POP f_ALLOC f_FREE f_KEEP f_BACK f_LOAD f_STORE f_SET f_ADDI f_ADD f_CALL f_RET f_IF f_WHILE f_END f_ADVANCE f_OFFSET f_REGISTER f_RESTORE f_REMEMBER f_RECALL f_codeLimit f_functionLimit f_depthLimit f_wordLimit f_used f_functionCount f_tableUsed f_ruleAddress f_now f_reachable f_openCount f_sp f_pc f_active f_walkPc f_walkSp f_walkBase f_walkState a_ops a_firsts a_seconds a_link a_codeStart a_tableStart a_table a_openCell a_openState a_regs a_stack a_memory a_seen
  rw [wX_run_21]
  dsimp only
  exact br_f (nI_ge hi (by omega)) (hcs _ (br_f hr h2))
theorem ut_xcs {q : Int32 → Prop} {p o : Nat} (hp : p < 64) (h1 : a_ops p = nI o) (ho : o ≠ 12) (ho2 : o ≤ 16) (k : q 0) : wpX_callStop q (f_SAVE, f_PUSH, f_POP, f_ALLOC, f_FREE, f_KEEP, f_BACK, f_LOAD, f_STORE, f_SET, f_ADDI, f_ADD, f_CALL, f_RET, f_IF, f_WHILE, f_END, f_ADVANCE, f_OFFSET, f_REGISTER, f_RESTORE, f_REMEMBER, f_RECALL, f_codeLimit, f_functionLimit, f_depthLimit, f_wordLimit, f_used, f_functionCount, f_tableUsed, f_ruleAddress, f_now, f_reachable, f_openCount, f_sp, (nI p), f_active, f_walkPc, f_walkSp, f_walkBase, f_walkState, a_ops, a_firsts, a_seconds, a_link, a_codeStart, a_tableStart, a_table, a_openCell, a_openState, a_regs, a_stack, a_memory, a_seen) := by
  refine ⟨vp_in_nI hp (by omega), ?_⟩
  rw [nI_clamp (by omega), h1]
  exact br_f (ut_ne (k := 12) ho (by omega) (by omega)) k
section Y
variable {post : Int32 → SY → Prop} {st n i D p o : Nat} {x7 x8 : Int32}
theorem ut_yr1 (hi : i < st) (hst : st ≤ 500) (hD : 0 < D ∧ D ≤ 16) (hp : p < 64) (h0 : b_address (D - 1) = nI p) (h1 : b_cellOp p = nI o) (h2 : b_cellA p = x7) (h3 : b_cellB p = x8) (ho : o ≤ 16) (hn : o ≠ 12)
    (K : wY_run_108 post (wY_run_21 post (nI st) n) (nI st) (nI i) (nI (D - 1)) (nI p) (nI o) x7 x8 g_codeLimit g_functionsLimit g_depthLimit g_wordsLimit g_used g_open (nI D) g_reachable b_cellOp b_cellA b_cellB b_regs b_kinds b_count b_values b_function b_address b_atCall) : ut_yrun post (nI st) (n + 1) (nI i) (g_codeLimit, g_functionsLimit, g_depthLimit, g_wordsLimit, g_used, g_open, (nI D), g_reachable, b_cellOp, b_cellA, b_cellB, b_regs, b_kinds, b_count, b_values, b_function, b_address, b_atCall) := by
  have ip : vp_in (nI p) 64 := vp_in_nI hp (by omega)
  have n12 : ¬ nI o = 12 := ut_ne (k := 12) hn (by omega) (by omega)
  show wY_run_21 post (nI st) (n + 1) (nI i) g_codeLimit g_functionsLimit g_depthLimit g_wordsLimit g_used g_open (nI D) g_reachable b_cellOp b_cellA b_cellB b_regs b_kinds b_count b_values b_function b_address b_atCall
  rw [wY_run_21]
  dsimp only
  refine br_f (nI_ge hi (by omega)) (nm_r (ut_s1 hD.1) ⟨vp_in_nI (by omega) (by omega), ?_⟩)
  rw [nI_clamp (by omega), h0]
  refine nm_e ⟨ip, ?_⟩
  rw [nI_clamp (by omega), h1, h2, h3]
  exact nm_e ⟨ip, nm_e ⟨ip, nm_e (br_f n12 (br_f n12 K))⟩⟩
theorem ut_yr12 {U fc dl a : Nat} (hi : i < st) (hst : st ≤ 500) (hD : 0 < D ∧ D ≤ 16) (hp : p < 64) (h0 : b_address (D - 1) = nI p) (h1 : b_cellOp p = nI 12) (h2 : b_cellA p = nI a) (h3 : b_cellB p = x8)
    (hU : U ≤ 64) (hE : ut_ge1 b_cellOp U) (hz : ut_zc b_cellOp U = fc) (ha : a < 100) (hdl : dl ≤ 16)
    (K3 : fc ≤ a → post 3 (g_codeLimit, g_functionsLimit, (nI dl), g_wordsLimit, (nI U), g_open, (nI D), g_reachable, b_cellOp, b_cellA, b_cellB, b_regs, b_kinds, b_count, b_values, b_function, b_address, b_atCall)) (K4 : a < fc → D = dl → post 4 (g_codeLimit, g_functionsLimit, (nI dl), g_wordsLimit, (nI U), g_open, (nI D), g_reachable, b_cellOp, b_cellA, b_cellB, b_regs, b_kinds, b_count, b_values, b_function, b_address, b_atCall))
    (K : a < fc → D ≠ dl → wY_run_108 post (wY_run_21 post (nI st) n) (nI st) (nI i) (nI (D - 1)) (nI p) (nI 12) (nI a) x8 g_codeLimit g_functionsLimit (nI dl) g_wordsLimit (nI U) g_open (nI D) g_reachable b_cellOp b_cellA b_cellB b_regs b_kinds b_count b_values b_function b_address b_atCall) :
    ut_yrun post (nI st) (n + 1) (nI i) (g_codeLimit, g_functionsLimit, (nI dl), g_wordsLimit, (nI U), g_open, (nI D), g_reachable, b_cellOp, b_cellA, b_cellB, b_regs, b_kinds, b_count, b_values, b_function, b_address, b_atCall) := by
  have ip : vp_in (nI p) 64 := vp_in_nI hp (by omega)
  have hzl := ut_zc_le (A := b_cellOp) U
  show wY_run_21 post (nI st) (n + 1) (nI i) g_codeLimit g_functionsLimit (nI dl) g_wordsLimit (nI U) g_open (nI D) g_reachable b_cellOp b_cellA b_cellB b_regs b_kinds b_count b_values b_function b_address b_atCall
  rw [wY_run_21]
  dsimp only
  refine br_f (nI_ge hi (by omega)) (nm_r (ut_s1 hD.1) ⟨vp_in_nI (by omega) (by omega), ?_⟩)
  rw [nI_clamp (by omega), h0]
  refine nm_e ⟨ip, ?_⟩
  rw [nI_clamp (by omega), h1, h2, h3]
  refine nm_e ⟨ip, nm_e ⟨ip, nm_e (br_t rfl (ut_yfn hU hE ?_))⟩⟩
  rw [hz]
  refine pk_lt a fc (fun e => br_t rfl ?_) (fun e => K3 e)
  exact pk_eq D dl (fun e2 => K4 e e2) (fun e2 => K e e2)
end Y
end UT29
end
section
/-! run: instructions of the frame -/
section UT30
variable {f_SAVE f_PUSH f_POP f_ALLOC f_FREE f_KEEP f_BACK f_LOAD f_STORE f_SET f_ADDI f_ADD f_CALL f_RET f_IF f_WHILE f_END f_ADVANCE f_OFFSET f_REGISTER f_RESTORE f_REMEMBER f_RECALL f_codeLimit f_functionLimit f_depthLimit f_wordLimit f_used f_functionCount f_tableUsed f_ruleAddress f_now f_reachable f_openCount f_sp f_pc f_active f_walkPc f_walkSp f_walkBase f_walkState : Int32} {a_ops a_firsts a_seconds a_link a_codeStart a_tableStart a_table a_openCell a_openState a_regs a_stack a_memory a_seen : Nat → Int32}
variable {g_codeLimit g_functionsLimit g_depthLimit g_wordsLimit g_used g_open g_depth g_reachable : Int32} {b_cellOp b_cellA b_cellB b_regs b_kinds b_count b_values b_function b_address b_atCall : Nat → Int32}
variable {T S OC CS TS bs ad fn : Nat → Nat} {cl fl dl wl U fc oc t ra D : Nat} {rb : Int32}
variable {st n i p o a : Nat} {R' St' vals' : Nat → Int32}
theorem ut_nxt (H : ut_Rel a_ops a_firsts a_seconds a_link a_codeStart a_tableStart a_table a_openCell a_openState a_regs a_stack b_kinds b_count b_values b_function b_address b_atCall f_sp f_pc rb T S OC CS TS bs ad fn cl fl dl wl U fc oc t ra D) {f p : Nat} (hf : f < fc) (h1 : CS f ≤ p) (h2 : p < CS (f + 1)) (h3 : a_ops p ≠ 13) : p + 1 < CS (f + 1) ∧ (a_ops (p + 1) = 16 → S (p + 1) = S (p + 2)) := by
  have a := (H.2.1.2.1.2.2 f hf).2
  have b := (H.2.1.2.1.2.1 (f + 1) (by omega)).1
  have c : p + 1 < CS (f + 1) := by
    rcases Nat.lt_or_ge (p + 1) (CS (f + 1)) with z | z
    · exact z
    · rw [show CS (f + 1) - 1 = p by omega] at a
      exact absurd a h3
  exact ⟨c, H.2.1.2.2.2.2.1 p (by omega) h3⟩
theorem ut_rn_fin (hpe : p = ad (D - 1)) (H : ut_Rel a_ops a_firsts a_seconds a_link a_codeStart a_tableStart a_table a_openCell a_openState a_regs a_stack b_kinds b_count b_values b_function b_address b_atCall (nI (bs (D - 1) + ut_sz (S p))) (nI p) rb T S OC CS TS bs ad fn cl fl dl wl U fc oc t ra D) (hD : 0 < D) (hi : i < st) (hst : st ≤ 500) (ho : o ≤ 11) (h1 : a_ops p = nI o) (h2 : a_firsts p = nI a)
    (hf : ut_fit fl wl o a (a_seconds p) (S p)) (hS : S (p + 1) = ut_eff o a (a_seconds p) (S p))
    (c5 : ∀ k, k < ut_sz (S (p + 1)) → St' (bs (D - 1) + k) = vals' ((D - 1) * 8 + k))
    (c6 : ∀ r, r < 4 → (ut_pl (S (p + 1)) r ≠ 0 → vals' ((D - 1) * 8 + (ut_pl (S (p + 1)) r - 1)) = b_atCall ((D - 1) * 4 + r)) ∧ (ut_pl (S (p + 1)) r = 0 → R' r = b_atCall ((D - 1) * 4 + r)))
    (e1 : ∀ j, j < bs (D - 1) → St' j = a_stack j) (e2 : ∀ j, j < (D - 1) * 8 → vals' j = b_values j)
    (hX : ∀ q : SX → Prop, q (f_SAVE, f_PUSH, f_POP, f_ALLOC, f_FREE, f_KEEP, f_BACK, f_LOAD, f_STORE, f_SET, f_ADDI, f_ADD, f_CALL, f_RET, f_IF, f_WHILE, f_END, f_ADVANCE, f_OFFSET, f_REGISTER, f_RESTORE, f_REMEMBER, f_RECALL, (nI cl), (nI fl), (nI dl), (nI wl), (nI U), (nI fc), (nI t), (nI ra), (nI (S U)), rb, (nI oc), (nI (bs (D - 1) + ut_sz (S (p + 1)))), (nI (p + 1)), (nI D), f_walkPc, f_walkSp, f_walkBase, f_walkState, a_ops, a_firsts, a_seconds, a_link, a_codeStart, a_tableStart, a_table, a_openCell, a_openState, R', St', a_memory, a_seen) → wpX_step q (f_SAVE, f_PUSH, f_POP, f_ALLOC, f_FREE, f_KEEP, f_BACK, f_LOAD, f_STORE, f_SET, f_ADDI, f_ADD, f_CALL, f_RET, f_IF, f_WHILE, f_END, f_ADVANCE, f_OFFSET, f_REGISTER, f_RESTORE, f_REMEMBER, f_RECALL, (nI cl), (nI fl), (nI dl), (nI wl), (nI U), (nI fc), (nI t), (nI ra), (nI (S U)), rb, (nI oc), (nI (bs (D - 1) + ut_sz (S p))), (nI p), (nI D), f_walkPc, f_walkSp, f_walkBase, f_walkState, a_ops, a_firsts, a_seconds, a_link, a_codeStart, a_tableStart, a_table, a_openCell, a_openState, a_regs, a_stack, a_memory, a_seen))
    (hY : ∀ q : SY → Prop, q ((nI cl), (nI fl), (nI dl), (nI wl), (nI U), (nI oc), (nI D), rb, a_ops, a_firsts, a_seconds, R', b_kinds, b_count, vals', b_function, (upd b_address (D - 1) (nI (p + 1))), b_atCall) → wpY_moveValues q ((nI cl), (nI fl), (nI dl), (nI wl), (nI U), (nI oc), (nI D), rb, a_ops, a_firsts, a_seconds, a_regs, b_kinds, b_count, b_values, b_function, (upd b_address (D - 1) (nI (p + 1))), b_atCall) (nI (D - 1)) (nI o) (nI a) (a_seconds p))
    (IH : ∀ u v, ut_RR u v → ut_act u ≠ 0 → ut_G st n (i + 1) u v) : ut_G st (n + 1) i (f_SAVE, f_PUSH, f_POP, f_ALLOC, f_FREE, f_KEEP, f_BACK, f_LOAD, f_STORE, f_SET, f_ADDI, f_ADD, f_CALL, f_RET, f_IF, f_WHILE, f_END, f_ADVANCE, f_OFFSET, f_REGISTER, f_RESTORE, f_REMEMBER, f_RECALL, (nI cl), (nI fl), (nI dl), (nI wl), (nI U), (nI fc), (nI t), (nI ra), (nI (S U)), rb, (nI oc), (nI (bs (D - 1) + ut_sz (S p))), (nI p), (nI D), f_walkPc, f_walkSp, f_walkBase, f_walkState, a_ops, a_firsts, a_seconds, a_link, a_codeStart, a_tableStart, a_table, a_openCell, a_openState, a_regs, a_stack, a_memory, a_seen) ((nI cl), (nI fl), (nI dl), (nI wl), (nI U), (nI oc), (nI D), rb, a_ops, a_firsts, a_seconds, a_regs, b_kinds, b_count, b_values, b_function, b_address, b_atCall) := by
  obtain ⟨hl, hc, hx, ht, hxo, hb, hd⟩ := id H
  have W := ut_Rel_W H
  unfold ut_lim at hl
  have fr := hd.2.1 (D - 1) (by omega)
  obtain ⟨b1, b2, b3, b4, b5⟩ := ut_bs_b W (D - 1) (by omega)
  rw [← hpe] at b5 b4 b3
  have fr1 := fr.1
  have fr3 := fr.2.2.1
  have fr4 := fr.2.2.2.1
  rw [← hpe] at fr1 fr3 fr4
  have n13 : a_ops p ≠ 13 := by rw [h1]; exact ut_nIl (k := 13) (by omega) (by omega) (by omega)
  have nx := ut_nxt H fr1.2.2.1 fr1.2.2.2.1 fr1.2.2.2.2 n13
  obtain ⟨k', c', k1, k2, k3, k4, k5⟩ := ut_ycx (fl := fl) (row := D - 1) (o := o) (a := a) (b := a_seconds p) (g_codeLimit := nI cl) (g_functionsLimit := nI fl) (g_depthLimit := nI dl) (g_wordsLimit := nI wl) (g_used := nI U) (g_open := nI oc) (g_depth := nI D) (g_reachable := rb) (b_cellOp := a_ops) (b_cellA := a_firsts) (b_cellB := a_seconds) (b_regs := R') (b_values := vals') (b_function := b_function) (b_address := upd b_address (D - 1) (nI (p + 1))) (b_atCall := b_atCall)
    (show wl ≤ 8 by omega) (by omega) fr3 fr4 (by omega) hf
  rw [← hS] at k3 k4
  have hd' := ut_dy_top (p' := p + 1) (R' := R') (St' := St') (kinds' := k') (cnt' := c') (vals' := vals') (adA' := upd b_address (D - 1) (nI (p + 1))) hd (by omega) hD ⟨by omega, nx.1⟩ nx.2 k3 k4 c5 c6 e1 e2 (fun j hj => k1 j (by omega)) (fun j hj => k2 j (by omega)) (fun j hj => pk_un (by omega)) pk_us
  have H1 : ut_Rel a_ops a_firsts a_seconds a_link a_codeStart a_tableStart a_table a_openCell a_openState R' St' k' c' vals' b_function (upd b_address (D - 1) (nI (p + 1))) b_atCall (nI (bs (D - 1) + ut_sz (S (p + 1)))) (nI (p + 1)) rb T S OC CS TS bs (ut_un ad (D - 1) (p + 1)) fn cl fl dl wl U fc oc t ra D := by
    refine ⟨by unfold ut_lim; omega, hc, hx, ht, hxo, ⟨?_, fun k hk => ?_⟩, hd'⟩
    · rw [k2 _ (by omega)]
      exact ⟨hb.1.1, ut_FS_cg hb.1.2 (fun j hj => k1 _ (by omega))⟩
    · rw [k2 _ (by omega)]
      exact ⟨(hb.2 k hk).1, ut_FS_cg (hb.2 k hk).2 (fun j hj => k1 _ (by omega))⟩
  obtain ⟨r, u', v', g1, g2, g3⟩ := IH _ _ (ut_RRi (f_SAVE := f_SAVE) (f_PUSH := f_PUSH) (f_POP := f_POP) (f_ALLOC := f_ALLOC) (f_FREE := f_FREE) (f_KEEP := f_KEEP) (f_BACK := f_BACK) (f_LOAD := f_LOAD) (f_STORE := f_STORE) (f_SET := f_SET) (f_ADDI := f_ADDI) (f_ADD := f_ADD) (f_CALL := f_CALL) (f_RET := f_RET) (f_IF := f_IF) (f_WHILE := f_WHILE) (f_END := f_END) (f_ADVANCE := f_ADVANCE) (f_OFFSET := f_OFFSET) (f_REGISTER := f_REGISTER) (f_RESTORE := f_RESTORE) (f_REMEMBER := f_REMEMBER) (f_RECALL := f_RECALL) (f_walkPc := f_walkPc) (f_walkSp := f_walkSp) (f_walkBase := f_walkBase) (f_walkState := f_walkState) (a_memory := a_memory) (a_seen := a_seen) H1) (nI_ne0 hD (by omega))
  refine ⟨r, u', v', g1, fun post hp => ut_xr1 hi hst (fun q hq => ut_xcs (by omega) h1 (by omega) (by omega) hq) hX (nI_ne0 hD (by omega)) (g2 post hp), fun post hp => ut_yr1 hi hst ⟨hD, by omega⟩ (by omega) fr1.2.1 h1 h2 rfl (by omega) (by omega) ?_⟩
  unfold wY_run_108
  refine ⟨vp_in_nI (by omega) (by omega), ?_⟩
  rw [nI_clamp (by omega), nI_1]
  refine nm_e (br_f (ut_ne (k := 12) (by omega) (by omega) (by omega)) (br_f (ut_ne (k := 13) (by omega) (by omega) (by omega)) (br_f (ut_ne (k := 14) (by omega) (by omega) (by omega)) (br_f (ut_ne (k := 15) (by omega) (by omega) (by omega)) (br_f (ut_ne (k := 16) (by omega) (by omega) (by omega)) ?_)))))
  refine hY _ ?_
  dsimp only
  refine k5 _ ?_
  dsimp only
  exact nm_r (nI_1 i) (g3 post hp)
theorem ut_rn_frame (hpe : p = ad (D - 1)) (H : ut_Rel a_ops a_firsts a_seconds a_link a_codeStart a_tableStart a_table a_openCell a_openState a_regs a_stack b_kinds b_count b_values b_function b_address b_atCall (nI (bs (D - 1) + ut_sz (S p))) (nI p) rb T S OC CS TS bs ad fn cl fl dl wl U fc oc t ra D) (hD : 0 < D) (hi : i < st) (hst : st ≤ 500) (ho : o ≤ 11) (h1 : a_ops p = nI o) (h2 : a_firsts p = nI a)
    (hf : ut_fit fl wl o a (a_seconds p) (S p)) (hS : S (p + 1) = ut_eff o a (a_seconds p) (S p)) (hL : a_link p = nI (ut_dst o a (a_seconds p) (S p)))
    (IH : ∀ u v, ut_RR u v → ut_act u ≠ 0 → ut_G st n (i + 1) u v) : ut_G st (n + 1) i (f_SAVE, f_PUSH, f_POP, f_ALLOC, f_FREE, f_KEEP, f_BACK, f_LOAD, f_STORE, f_SET, f_ADDI, f_ADD, f_CALL, f_RET, f_IF, f_WHILE, f_END, f_ADVANCE, f_OFFSET, f_REGISTER, f_RESTORE, f_REMEMBER, f_RECALL, (nI cl), (nI fl), (nI dl), (nI wl), (nI U), (nI fc), (nI t), (nI ra), (nI (S U)), rb, (nI oc), (nI (bs (D - 1) + ut_sz (S p))), (nI p), (nI D), f_walkPc, f_walkSp, f_walkBase, f_walkState, a_ops, a_firsts, a_seconds, a_link, a_codeStart, a_tableStart, a_table, a_openCell, a_openState, a_regs, a_stack, a_memory, a_seen) ((nI cl), (nI fl), (nI dl), (nI wl), (nI U), (nI oc), (nI D), rb, a_ops, a_firsts, a_seconds, a_regs, b_kinds, b_count, b_values, b_function, b_address, b_atCall) := by
  obtain ⟨hl, hc, hx, ht, hxo, hb, hd⟩ := id H
  have W := ut_Rel_W H
  unfold ut_lim at hl
  have hw : wl ≤ 8 := by omega
  have hT : D - 1 < 16 := by omega
  have fr := hd.2.1 (D - 1) (by omega)
  obtain ⟨b1, b2, b3, b4, b5⟩ := ut_bs_b W (D - 1) (by omega)
  obtain ⟨fr1, fr2, fr3, fr4, fr5, fr6, fr7⟩ := fr
  rw [← hpe] at b3 b4 b5 fr1 fr2 fr3 fr4 fr5 fr7
  have g6 : ∀ r, r < 4 → (ut_pl (S p) r ≠ 0 → b_values ((D - 1) * 8 + (ut_pl (S p) r - 1)) = b_atCall ((D - 1) * 4 + r)) ∧ (ut_pl (S p) r = 0 → a_regs r = b_atCall ((D - 1) * 4 + r)) := fun r hr =>
    ⟨(fr7 r hr).1, fun x => by have := (fr7 r hr).2 x; rw [ut_nx_top (by omega)] at this; exact this⟩
  have hs16 := ut_sz_lt (S p)
  have hsw := fr4.2.1
  have hpl := fr4.2.2.1
  clear fr7
  by_cases k : o = 0
  · subst k
    have hf' := hf
    rw [ut_fit_0] at hf'
    obtain ⟨a3, pa, nw⟩ := hf'
    have hS' : S (p + 1) = ut_sp (ut_ss (S p) (ut_sz (S p) + 1)) a (ut_sz (S p) + 1) := hS
    have es : ut_sz (S (p + 1)) = ut_sz (S p) + 1 := by rw [hS', ut_sz_sp (by omega)]; exact ut_sz_ss (by omega)
    have ep : ∀ r, r < 4 → r ≠ a → ut_pl (S (p + 1)) r = ut_pl (S p) r := fun r hr hn => by rw [hS', ut_pl_sp_n (by omega) hr (by omega) hn, ut_pl_ss hr (by omega)]
    have epa : ut_pl (S (p + 1)) a = ut_sz (S p) + 1 := by rw [hS', ut_pl_sp_s (by omega) (by omega)]
    refine ut_rn_fin (R' := a_regs) (St' := upd a_stack (bs (D - 1) + ut_sz (S p)) (a_regs a)) (vals' := upd b_values ((D - 1) * 8 + ut_sz (S p)) (a_regs a)) hpe H hD hi hst ho h1 h2 hf hS (fun k hk => ?_) (fun r hr => ?_) (fun j hj => pk_un (by omega)) (fun j hj => pk_un (by omega)) (fun q hq => ?_) (fun q hq => ?_) IH
    · by_cases z : k = ut_sz (S p)
      · rw [z, pk_us, pk_us]
      · rw [pk_un (by omega), pk_un (by omega)]; exact fr5 k (by omega)
    · by_cases z : r = a
      · subst z
        rw [epa]
        refine ⟨fun _ => ?_, fun x => by omega⟩
        rw [Nat.add_sub_cancel, pk_us]; exact (g6 r hr).2 pa
      · rw [ep r hr z]
        have := hpl r hr
        refine ⟨fun x => ?_, (g6 r hr).2⟩
        rw [pk_un (by omega)]; exact (g6 r hr).1 x
    · rw [es, ← Nat.add_assoc] at hq
      exact ut_xs01 (by omega) (by omega) h1 h2 (by omega) (by omega) hq
    · exact ut_mv01 hw hT fr3 fr4 nw (by omega) (by omega) hq
  by_cases k : o = 1
  · subst k
    have hf' := hf
    rw [ut_fit_1] at hf'
    obtain ⟨a3, nw⟩ := hf'
    have hS' : S (p + 1) = ut_ss (S p) (ut_sz (S p) + 1) := hS
    have es : ut_sz (S (p + 1)) = ut_sz (S p) + 1 := by rw [hS']; exact ut_sz_ss (by omega)
    have ep : ∀ r, r < 4 → ut_pl (S (p + 1)) r = ut_pl (S p) r := fun r hr => by rw [hS', ut_pl_ss hr (by omega)]
    refine ut_rn_fin (R' := a_regs) (St' := upd a_stack (bs (D - 1) + ut_sz (S p)) (a_regs a)) (vals' := upd b_values ((D - 1) * 8 + ut_sz (S p)) (a_regs a)) hpe H hD hi hst ho h1 h2 hf hS (fun k hk => ?_) (fun r hr => ?_) (fun j hj => pk_un (by omega)) (fun j hj => pk_un (by omega)) (fun q hq => ?_) (fun q hq => ?_) IH
    · by_cases z : k = ut_sz (S p)
      · rw [z, pk_us, pk_us]
      · rw [pk_un (by omega), pk_un (by omega)]; exact fr5 k (by omega)
    · rw [ep r hr]
      have := hpl r hr
      refine ⟨fun x => ?_, (g6 r hr).2⟩
      rw [pk_un (by omega)]; exact (g6 r hr).1 x
    · rw [es, ← Nat.add_assoc] at hq
      exact ut_xs01 (by omega) (by omega) h1 h2 (by omega) (by omega) hq
    · exact ut_mv01 hw hT fr3 fr4 nw (by omega) (by omega) hq
  by_cases k : o = 2
  · subst k
    have hf' := hf
    rw [ut_fit_2] at hf'
    obtain ⟨a5, n0, hk⟩ := hf'
    have hS' : S (p + 1) = (if a < 4 ∧ ut_pl (S p) a = ut_sz (S p) then ut_sp (ut_ss (S p) (ut_sz (S p) - 1)) a 0 else ut_ss (S p) (ut_sz (S p) - 1)) := hS
    have es : ut_sz (S (p + 1)) = ut_sz (S p) - 1 := by
      rw [hS']
      by_cases z : a < 4 ∧ ut_pl (S p) a = ut_sz (S p)
      · rw [if_pos z, ut_sz_sp z.1]; exact ut_sz_ss (by omega)
      · rw [if_neg z]; exact ut_sz_ss (by omega)
    refine ut_rn_fin (R' := upd a_regs a (b_values ((D - 1) * 8 + (ut_sz (S p) - 1)))) (St' := a_stack) (vals' := b_values) hpe H hD hi hst ho h1 h2 hf hS (fun k hk => fr5 k (by omega)) (fun r hr => ?_) (fun _ _ => rfl) (fun _ _ => rfl) (fun q hq => ?_) (fun q hq => ?_) IH
    · by_cases z : a < 4 ∧ ut_pl (S p) a = ut_sz (S p)
      · rw [if_pos z] at hS'
        by_cases y : r = a
        · subst y
          have e0 : ut_pl (S (p + 1)) r = 0 := by rw [hS', ut_pl_sp_s hr (by omega)]
          rw [e0]
          refine ⟨fun x => absurd rfl x, fun _ => ?_⟩
          rw [pk_us, ← z.2]; exact (g6 r hr).1 (by omega)
        · have e0 : ut_pl (S (p + 1)) r = ut_pl (S p) r := by rw [hS', ut_pl_sp_n z.1 hr (by omega) y, ut_pl_ss hr (by omega)]
          rw [e0, pk_un y]
          exact g6 r hr
      · rw [if_neg z] at hS'
        have e0 : ut_pl (S (p + 1)) r = ut_pl (S p) r := by rw [hS', ut_pl_ss hr (by omega)]
        rw [e0]
        refine ⟨(g6 r hr).1, fun x => ?_⟩
        by_cases y : r = a
        · subst y
          rcases hk with ⟨_, hk⟩ | hk
          · exact absurd x (hk.2 hr)
          · exact absurd ⟨hr, hk.2⟩ z
        · rw [pk_un y]; exact (g6 r hr).2 x
    · have ev := fr5 (ut_sz (S p) - 1) (by omega)
      rw [es, ← ev, show bs (D - 1) + (ut_sz (S p) - 1) = bs (D - 1) + ut_sz (S p) - 1 by omega] at hq
      exact ut_xs2 (by omega) h1 h2 a5 (by omega) (by omega) hq
    · exact ut_mv2 hw hT fr3 fr4 n0 a5 hq
  by_cases k : o = 3
  · subst k
    have hf' := hf
    rw [ut_fit_3] at hf'
    obtain ⟨a1, a8, nw⟩ := hf'
    have hS' : S (p + 1) = ut_ss (S p) (ut_sz (S p) + a) := hS
    have es : ut_sz (S (p + 1)) = ut_sz (S p) + a := by rw [hS']; exact ut_sz_ss (by omega)
    have ep : ∀ r, r < 4 → ut_pl (S (p + 1)) r = ut_pl (S p) r := fun r hr => by rw [hS', ut_pl_ss hr (by omega)]
    refine ut_rn_fin (R' := a_regs) (St' := ut_fz a_stack (bs (D - 1) + ut_sz (S p)) (bs (D - 1) + ut_sz (S p) + a) 0) (vals' := ut_fz b_values ((D - 1) * 8 + ut_sz (S p)) ((D - 1) * 8 + (ut_sz (S p) + a)) 0) hpe H hD hi hst ho h1 h2 hf hS (fun k hk => ?_) (fun r hr => ?_) (fun j hj => ut_fz_out (by omega)) (fun j hj => ut_fz_out (by omega)) (fun q hq => ?_) (fun q hq => ?_) IH
    · by_cases z : ut_sz (S p) ≤ k
      · rw [ut_fz_in (by omega) (by omega), ut_fz_in (by omega) (by omega)]
      · rw [ut_fz_out (by omega), ut_fz_out (by omega)]; exact fr5 k (by omega)
    · rw [ep r hr]
      have := hpl r hr
      refine ⟨fun x => ?_, (g6 r hr).2⟩
      rw [ut_fz_out (by omega)]; exact (g6 r hr).1 x
    · rw [es, ← Nat.add_assoc] at hq
      refine ut_xs3 (by omega) h1 h2 (by omega) (fun s' z1 z2 => ?_)
      rw [ut_fz_eq z1 z2]; exact hq
    · refine ut_mv3 hw hT fr3 fr4 (by omega) (fun s' z1 z2 => ?_)
      rw [ut_fz_eq (s := s') (f := b_values) (l := (D - 1) * 8 + ut_sz (S p)) (h := (D - 1) * 8 + (ut_sz (S p) + a)) (x := 0) (fun j j1 j2 => by
        have := z1 (j - (D - 1) * 8) (by omega) (by omega)
        rw [show (D - 1) * 8 + (j - (D - 1) * 8) = j by omega] at this
        exact this) z2]
      exact hq
  by_cases k : o = 4
  · subst k
    have hf' := hf
    rw [ut_fit_4] at hf'
    obtain ⟨a1, a8, na, nk⟩ := hf'
    have hS' : S (p + 1) = ut_ss (S p) (ut_sz (S p) - a) := hS
    have es : ut_sz (S (p + 1)) = ut_sz (S p) - a := by rw [hS']; exact ut_sz_ss (by omega)
    have ep : ∀ r, r < 4 → ut_pl (S (p + 1)) r = ut_pl (S p) r := fun r hr => by rw [hS', ut_pl_ss hr (by omega)]
    refine ut_rn_fin (R' := a_regs) (St' := a_stack) (vals' := b_values) hpe H hD hi hst ho h1 h2 hf hS (fun k hk => fr5 k (by omega)) (fun r hr => ?_) (fun _ _ => rfl) (fun _ _ => rfl) (fun q hq => ?_) (fun q hq => ?_) IH
    · rw [ep r hr]; exact g6 r hr
    · rw [es, show bs (D - 1) + (ut_sz (S p) - a) = bs (D - 1) + ut_sz (S p) - a by omega] at hq
      exact ut_xs4 (by omega) h1 h2 (by omega) hq
    · exact ut_mv4 hw hT fr3 fr4 hq
  by_cases k : o = 5
  · subst k
    have hf' := hf
    rw [ut_fit_5] at hf'
    obtain ⟨a3, pa, c, hcb, hc8, hk⟩ := hf'
    have eL : ut_dst 5 a (a_seconds p) (S p) = ut_sz (S p) - c := by
      rw [hcb]
      show ut_sz (S p) - (nI c).toNatClampNeg = _
      rw [nI_clamp (by omega)]
    rw [eL] at hL
    have hS' : S (p + 1) = ut_sp (S p) a (c + 1) := by
      rw [hS, hcb]
      show ut_sp (S p) a ((nI c).toNatClampNeg + 1) = _
      rw [nI_clamp (by omega)]
    have es : ut_sz (S (p + 1)) = ut_sz (S p) := by rw [hS', ut_sz_sp (by omega)]
    refine ut_rn_fin (R' := a_regs) (St' := upd a_stack (bs (D - 1) + c) (a_regs a)) (vals' := upd b_values ((D - 1) * 8 + c) (a_regs a)) hpe H hD hi hst ho h1 h2 hf hS (fun k hk => ?_) (fun r hr => ?_) (fun j hj => pk_un (by omega)) (fun j hj => pk_un (by omega)) (fun q hq => ?_) (fun q hq => ?_) IH
    · by_cases z : k = c
      · rw [z, pk_us, pk_us]
      · rw [pk_un (by omega), pk_un (by omega)]; exact fr5 k (by omega)
    · by_cases z : r = a
      · subst z
        have e0 : ut_pl (S (p + 1)) r = c + 1 := by rw [hS', ut_pl_sp_s hr (by omega)]
        rw [e0]
        refine ⟨fun _ => ?_, fun x => by omega⟩
        rw [Nat.add_sub_cancel, pk_us]; exact (g6 r hr).2 pa
      · have e0 : ut_pl (S (p + 1)) r = ut_pl (S p) r := by rw [hS', ut_pl_sp_n (by omega) hr (by omega) z]
        rw [e0]
        have := hk r hr
        refine ⟨fun x => ?_, (g6 r hr).2⟩
        rw [pk_un (by omega)]; exact (g6 r hr).1 x
    · rw [es, show bs (D - 1) + c = bs (D - 1) + ut_sz (S p) - (ut_sz (S p) - c) by omega] at hq
      exact ut_xs58 (by omega) (Or.inl rfl) h1 h2 hL (by omega) ⟨by omega, by omega⟩ (by omega) hq
    · rw [hcb]; exact ut_mv58 hw hT fr3 fr4 (by omega) (by omega) (Or.inl rfl) hq
  by_cases k : o = 6
  · subst k
    have hf' := hf
    rw [ut_fit_6] at hf'
    obtain ⟨a3, pa⟩ := hf'
    have hpa := hpl a (by omega)
    have eL : ut_dst 6 a (a_seconds p) (S p) = ut_sz (S p) - (ut_pl (S p) a - 1) := rfl
    rw [eL] at hL
    have hS' : S (p + 1) = ut_sp (S p) a 0 := hS
    have es : ut_sz (S (p + 1)) = ut_sz (S p) := by rw [hS', ut_sz_sp (by omega)]
    refine ut_rn_fin (R' := upd a_regs a (b_values ((D - 1) * 8 + (ut_pl (S p) a - 1)))) (St' := a_stack) (vals' := b_values) hpe H hD hi hst ho h1 h2 hf hS (fun k hk => fr5 k (by omega)) (fun r hr => ?_) (fun _ _ => rfl) (fun _ _ => rfl) (fun q hq => ?_) (fun q hq => ?_) IH
    · by_cases z : r = a
      · subst z
        have e0 : ut_pl (S (p + 1)) r = 0 := by rw [hS', ut_pl_sp_s hr (by omega)]
        rw [e0]
        refine ⟨fun x => absurd rfl x, fun _ => ?_⟩
        rw [pk_us]; exact (g6 r hr).1 pa
      · have e0 : ut_pl (S (p + 1)) r = ut_pl (S p) r := by rw [hS', ut_pl_sp_n (by omega) hr (by omega) z]
        rw [e0, pk_un z]; exact g6 r hr
    · have ev := fr5 (ut_pl (S p) a - 1) (by omega)
      rw [es, ← ev, show bs (D - 1) + (ut_pl (S p) a - 1) = bs (D - 1) + ut_sz (S p) - (ut_sz (S p) - (ut_pl (S p) a - 1)) by omega] at hq
      exact ut_xs67 (by omega) (Or.inl rfl) h1 h2 hL (by omega) ⟨by omega, by omega⟩ (by omega) hq
    · exact ut_mv6 hw hT fr3 fr4 (by omega) pa hq
  have hS' : S (p + 1) = S p := by
    rw [hS]
    unfold ut_eff
    rw [if_neg (by omega), if_neg (by omega), if_neg (by omega), if_neg (by omega), if_neg (by omega), if_neg (by omega), if_neg (by omega)]
  have GR : ∀ x : Int32, ut_wr (S p) a → ∀ r, r < 4 → (ut_pl (S (p + 1)) r ≠ 0 → b_values ((D - 1) * 8 + (ut_pl (S (p + 1)) r - 1)) = b_atCall ((D - 1) * 4 + r)) ∧ (ut_pl (S (p + 1)) r = 0 → upd a_regs a x r = b_atCall ((D - 1) * 4 + r)) := by
    intro x hwr r hr
    rw [hS']
    refine ⟨(g6 r hr).1, fun y => ?_⟩
    by_cases z : r = a
    · subst z; exact absurd y (hwr.2 hr)
    · rw [pk_un z]; exact (g6 r hr).2 y
  by_cases k : o = 7
  · subst k
    have hf' := hf
    rw [ut_fit_7] at hf'
    obtain ⟨hwr, c, hcb, hc8⟩ := hf'
    have eL : ut_dst 7 a (a_seconds p) (S p) = ut_sz (S p) - c := by
      rw [hcb]
      show ut_sz (S p) - (nI c).toNatClampNeg = _
      rw [nI_clamp (by omega)]
    rw [eL] at hL
    refine ut_rn_fin (R' := upd a_regs a (b_values ((D - 1) * 8 + c))) (St' := a_stack) (vals' := b_values) hpe H hD hi hst ho h1 h2 hf hS (fun k hk => fr5 k (by rw [hS'] at hk; omega)) (GR _ hwr) (fun _ _ => rfl) (fun _ _ => rfl) (fun q hq => ?_) (fun q hq => ?_) IH
    · have ev := fr5 c hc8
      rw [hS', ← ev, show bs (D - 1) + c = bs (D - 1) + ut_sz (S p) - (ut_sz (S p) - c) by omega] at hq
      exact ut_xs67 (by omega) (Or.inr rfl) h1 h2 hL hwr.1 ⟨by omega, by omega⟩ (by omega) hq
    · rw [hcb]; exact ut_mv7 hw hT fr3 fr4 (by omega) hwr.1 hq
  by_cases k : o = 8
  · subst k
    have hf' := hf
    rw [ut_fit_8] at hf'
    obtain ⟨a5, c, hcb, hc8, hk⟩ := hf'
    have eL : ut_dst 8 a (a_seconds p) (S p) = ut_sz (S p) - c := by
      rw [hcb]
      show ut_sz (S p) - (nI c).toNatClampNeg = _
      rw [nI_clamp (by omega)]
    rw [eL] at hL
    refine ut_rn_fin (R' := a_regs) (St' := upd a_stack (bs (D - 1) + c) (a_regs a)) (vals' := upd b_values ((D - 1) * 8 + c) (a_regs a)) hpe H hD hi hst ho h1 h2 hf hS (fun k hk => ?_) (fun r hr => ?_) (fun j hj => pk_un (by omega)) (fun j hj => pk_un (by omega)) (fun q hq => ?_) (fun q hq => ?_) IH
    · by_cases z : k = c
      · rw [z, pk_us, pk_us]
      · rw [pk_un (by omega), pk_un (by omega)]; exact fr5 k (by rw [hS'] at hk; omega)
    · rw [hS']
      have := hk r hr
      refine ⟨fun x => ?_, (g6 r hr).2⟩
      rw [pk_un (by omega)]; exact (g6 r hr).1 x
    · rw [hS', show bs (D - 1) + c = bs (D - 1) + ut_sz (S p) - (ut_sz (S p) - c) by omega] at hq
      exact ut_xs58 (by omega) (Or.inr rfl) h1 h2 hL a5 ⟨by omega, by omega⟩ (by omega) hq
    · rw [hcb]; exact ut_mv58 hw hT fr3 fr4 (by omega) a5 (Or.inr rfl) hq
  by_cases k : o = 9
  · subst k
    have hf' := hf
    rw [ut_fit_9] at hf'
    refine ut_rn_fin (R' := upd a_regs a (a_seconds p)) (St' := a_stack) (vals' := b_values) hpe H hD hi hst ho h1 h2 hf hS (fun k hk => fr5 k (by rw [hS'] at hk; omega)) (GR _ hf') (fun _ _ => rfl) (fun _ _ => rfl) (fun q hq => ?_) (fun q hq => ?_) IH
    · rw [hS'] at hq
      exact ut_xs9 (by omega) h1 h2 hf'.1 hq
    · exact ut_mv9 hw hT fr3 fr4 hf'.1 hq
  by_cases k : o = 10
  · subst k
    have hf' := hf
    rw [ut_fit_10] at hf'
    refine ut_rn_fin (R' := upd a_regs a (a_regs a + a_seconds p)) (St' := a_stack) (vals' := b_values) hpe H hD hi hst ho h1 h2 hf hS (fun k hk => fr5 k (by rw [hS'] at hk; omega)) (GR _ hf') (fun _ _ => rfl) (fun _ _ => rfl) (fun q hq => ?_) (fun q hq => ?_) IH
    · rw [hS'] at hq
      exact ut_xs10 (by omega) h1 h2 hf'.1 hq
    · exact ut_mv10 hw hT fr3 fr4 hf'.1 hq
  · have k : o = 11 := by omega
    subst k
    have hf' := hf
    rw [ut_fit_11] at hf'
    obtain ⟨hwr, c, hcb, hc5⟩ := hf'
    refine ut_rn_fin (R' := upd a_regs a (a_regs a + a_regs c)) (St' := a_stack) (vals' := b_values) hpe H hD hi hst ho h1 h2 hf hS (fun k hk => fr5 k (by rw [hS'] at hk; omega)) (GR _ hwr) (fun _ _ => rfl) (fun _ _ => rfl) (fun q hq => ?_) (fun q hq => ?_) IH
    · rw [hS'] at hq
      exact ut_xs11 (by omega) h1 h2 hcb hwr.1 hc5 hq
    · rw [hcb]; exact ut_mv11 hw hT fr3 fr4 hwr.1 hc5 hq
end UT30
end
section
/-! run: the flow -/
section UT31
variable {f_SAVE f_PUSH f_POP f_ALLOC f_FREE f_KEEP f_BACK f_LOAD f_STORE f_SET f_ADDI f_ADD f_CALL f_RET f_IF f_WHILE f_END f_ADVANCE f_OFFSET f_REGISTER f_RESTORE f_REMEMBER f_RECALL f_codeLimit f_functionLimit f_depthLimit f_wordLimit f_used f_functionCount f_tableUsed f_ruleAddress f_now f_reachable f_openCount f_sp f_pc f_active f_walkPc f_walkSp f_walkBase f_walkState : Int32} {a_ops a_firsts a_seconds a_link a_codeStart a_tableStart a_table a_openCell a_openState a_regs a_stack a_memory a_seen : Nat → Int32}
variable {g_codeLimit g_functionsLimit g_depthLimit g_wordsLimit g_used g_open g_depth g_reachable : Int32} {b_cellOp b_cellA b_cellB b_regs b_kinds b_count b_values b_function b_address b_atCall : Nat → Int32}
variable {T S OC CS TS bs ad fn : Nat → Nat} {cl fl dl wl U fc oc t ra D : Nat} {rb : Int32}
variable {st n i p o a : Nat} {ad1 : Nat → Int32}
/-- the top frame goes to p' with the same words -/
theorem ut_rn_dy {p' : Nat} (hpe : p = ad (D - 1)) (H : ut_Rel a_ops a_firsts a_seconds a_link a_codeStart a_tableStart a_table a_openCell a_openState a_regs a_stack b_kinds b_count b_values b_function b_address b_atCall (nI (bs (D - 1) + ut_sz (S p))) (nI p) rb T S OC CS TS bs ad fn cl fl dl wl U fc oc t ra D) (hD : 0 < D) (hS : S p' = S p)
    (hr : CS (fn (D - 1)) ≤ p' ∧ p' < CS (fn (D - 1) + 1)) (hlv : a_ops p' = 16 → S p' = S (p' + 1)) (e5 : ∀ j, j < D - 1 → ad1 j = b_address j) (e6 : ad1 (D - 1) = nI p') :
    ut_dy wl a_ops a_regs a_stack b_kinds b_count b_values b_function ad1 b_atCall (nI (bs (D - 1) + ut_sz (S p))) (nI p') S CS bs (ut_un ad (D - 1) p') fn fc D := by
  obtain ⟨hl, hc, hx, ht, hxo, hb, hd⟩ := id H
  unfold ut_lim at hl
  obtain ⟨fr1, fr2, fr3, fr4, fr5, fr6, fr7⟩ := hd.2.1 (D - 1) (by omega)
  rw [← hpe] at fr3 fr4 fr5 fr7
  have := ut_dy_top (p' := p') (R' := a_regs) (St' := a_stack) (kinds' := b_kinds) (cnt' := b_count) (vals' := b_values) (adA' := ad1) hd (by omega) hD hr hlv (by rw [hS]; exact fr3) (by rw [hS]; exact fr4) (by rw [hS]; exact fr5)
    (fun r hr => by
      rw [hS]
      refine ⟨(fr7 r hr).1, fun x => ?_⟩
      have := (fr7 r hr).2 x
      rw [ut_nx_top (by omega)] at this
      exact this) (fun _ _ => rfl) (fun _ _ => rfl) (fun _ _ => rfl) (fun _ _ => rfl) e5 e6
  rw [hS] at this
  exact this
theorem ut_rn_jmp {p' : Nat} (hpe : p = ad (D - 1)) (H : ut_Rel a_ops a_firsts a_seconds a_link a_codeStart a_tableStart a_table a_openCell a_openState a_regs a_stack b_kinds b_count b_values b_function b_address b_atCall (nI (bs (D - 1) + ut_sz (S p))) (nI p) rb T S OC CS TS bs ad fn cl fl dl wl U fc oc t ra D) (hD : 0 < D) (hi : i < st) (hst : st ≤ 500) (ho : 13 ≤ o ∧ o ≤ 16) (h1 : a_ops p = nI o) (hS : S p' = S p)
    (hr : CS (fn (D - 1)) ≤ p' ∧ p' < CS (fn (D - 1) + 1)) (hlv : a_ops p' = 16 → S p' = S (p' + 1)) (e5 : ∀ j, j < D - 1 → ad1 j = b_address j) (e6 : ad1 (D - 1) = nI p')
    (hX : ∀ q : SX → Prop, q (f_SAVE, f_PUSH, f_POP, f_ALLOC, f_FREE, f_KEEP, f_BACK, f_LOAD, f_STORE, f_SET, f_ADDI, f_ADD, f_CALL, f_RET, f_IF, f_WHILE, f_END, f_ADVANCE, f_OFFSET, f_REGISTER, f_RESTORE, f_REMEMBER, f_RECALL, (nI cl), (nI fl), (nI dl), (nI wl), (nI U), (nI fc), (nI t), (nI ra), (nI (S U)), rb, (nI oc), (nI (bs (D - 1) + ut_sz (S p))), (nI p'), (nI D), f_walkPc, f_walkSp, f_walkBase, f_walkState, a_ops, a_firsts, a_seconds, a_link, a_codeStart, a_tableStart, a_table, a_openCell, a_openState, a_regs, a_stack, a_memory, a_seen) → wpX_step q (f_SAVE, f_PUSH, f_POP, f_ALLOC, f_FREE, f_KEEP, f_BACK, f_LOAD, f_STORE, f_SET, f_ADDI, f_ADD, f_CALL, f_RET, f_IF, f_WHILE, f_END, f_ADVANCE, f_OFFSET, f_REGISTER, f_RESTORE, f_REMEMBER, f_RECALL, (nI cl), (nI fl), (nI dl), (nI wl), (nI U), (nI fc), (nI t), (nI ra), (nI (S U)), rb, (nI oc), (nI (bs (D - 1) + ut_sz (S p))), (nI p), (nI D), f_walkPc, f_walkSp, f_walkBase, f_walkState, a_ops, a_firsts, a_seconds, a_link, a_codeStart, a_tableStart, a_table, a_openCell, a_openState, a_regs, a_stack, a_memory, a_seen))
    (hY : ∀ post : Int32 → SY → Prop, wY_run_21 post (nI st) n (nI (i + 1)) (nI cl) (nI fl) (nI dl) (nI wl) (nI U) (nI oc) (nI D) rb a_ops a_firsts a_seconds a_regs b_kinds b_count b_values b_function ad1 b_atCall → wY_run_108 post (wY_run_21 post (nI st) n) (nI st) (nI i) (nI (D - 1)) (nI p) (nI o) (a_firsts p) (a_seconds p) (nI cl) (nI fl) (nI dl) (nI wl) (nI U) (nI oc) (nI D) rb a_ops a_firsts a_seconds a_regs b_kinds b_count b_values b_function b_address b_atCall)
    (IH : ∀ u v, ut_RR u v → ut_act u ≠ 0 → ut_G st n (i + 1) u v) : ut_G st (n + 1) i (f_SAVE, f_PUSH, f_POP, f_ALLOC, f_FREE, f_KEEP, f_BACK, f_LOAD, f_STORE, f_SET, f_ADDI, f_ADD, f_CALL, f_RET, f_IF, f_WHILE, f_END, f_ADVANCE, f_OFFSET, f_REGISTER, f_RESTORE, f_REMEMBER, f_RECALL, (nI cl), (nI fl), (nI dl), (nI wl), (nI U), (nI fc), (nI t), (nI ra), (nI (S U)), rb, (nI oc), (nI (bs (D - 1) + ut_sz (S p))), (nI p), (nI D), f_walkPc, f_walkSp, f_walkBase, f_walkState, a_ops, a_firsts, a_seconds, a_link, a_codeStart, a_tableStart, a_table, a_openCell, a_openState, a_regs, a_stack, a_memory, a_seen) ((nI cl), (nI fl), (nI dl), (nI wl), (nI U), (nI oc), (nI D), rb, a_ops, a_firsts, a_seconds, a_regs, b_kinds, b_count, b_values, b_function, b_address, b_atCall) := by
  have hd' := ut_rn_dy hpe H hD hS hr hlv e5 e6
  obtain ⟨hl, hc, hx, ht, hxo, hb, hd⟩ := id H
  have W := ut_Rel_W H
  unfold ut_lim at hl
  have fr1 := (hd.2.1 (D - 1) (by omega)).1
  have b5 := (ut_bs_b W (D - 1) (by omega)).2.2.2.2
  rw [← hpe] at b5 fr1
  have H1 : ut_Rel a_ops a_firsts a_seconds a_link a_codeStart a_tableStart a_table a_openCell a_openState a_regs a_stack b_kinds b_count b_values b_function ad1 b_atCall (nI (bs (D - 1) + ut_sz (S p))) (nI p') rb T S OC CS TS bs (ut_un ad (D - 1) p') fn cl fl dl wl U fc oc t ra D := ⟨by unfold ut_lim; omega, hc, hx, ht, hxo, hb, hd'⟩
  obtain ⟨r, u', v', g1, g2, g3⟩ := IH _ _ (ut_RRi (f_SAVE := f_SAVE) (f_PUSH := f_PUSH) (f_POP := f_POP) (f_ALLOC := f_ALLOC) (f_FREE := f_FREE) (f_KEEP := f_KEEP) (f_BACK := f_BACK) (f_LOAD := f_LOAD) (f_STORE := f_STORE) (f_SET := f_SET) (f_ADDI := f_ADDI) (f_ADD := f_ADD) (f_CALL := f_CALL) (f_RET := f_RET) (f_IF := f_IF) (f_WHILE := f_WHILE) (f_END := f_END) (f_ADVANCE := f_ADVANCE) (f_OFFSET := f_OFFSET) (f_REGISTER := f_REGISTER) (f_RESTORE := f_RESTORE) (f_REMEMBER := f_REMEMBER) (f_RECALL := f_RECALL) (f_walkPc := f_walkPc) (f_walkSp := f_walkSp) (f_walkBase := f_walkBase) (f_walkState := f_walkState) (a_memory := a_memory) (a_seen := a_seen) H1) (nI_ne0 hD (by omega))
  exact ⟨r, u', v', g1, fun post hp => ut_xr1 hi hst (fun q hq => ut_xcs (by omega) h1 (by omega) (by omega) hq) hX (nI_ne0 hD (by omega)) (g2 post hp), fun post hp => ut_yr1 hi hst ⟨hD, by omega⟩ (by omega) fr1.2.1 h1 rfl rfl (by omega) (by omega) (hY post (g3 post hp))⟩
theorem ut_rn14 (hpe : p = ad (D - 1)) (H : ut_Rel a_ops a_firsts a_seconds a_link a_codeStart a_tableStart a_table a_openCell a_openState a_regs a_stack b_kinds b_count b_values b_function b_address b_atCall (nI (bs (D - 1) + ut_sz (S p))) (nI p) rb T S OC CS TS bs ad fn cl fl dl wl U fc oc t ra D) (hD : 0 < D) (hi : i < st) (hst : st ≤ 500) (ho : o = 14 ∨ o = 15) (h1 : a_ops p = nI o) (h2 : a_firsts p = nI a) (ha : a ≤ 5)
    (hS : S (p + 1) = S p) {e : Nat} (he : p < e) (heU : e < U) (h16 : a_ops e = 16) (hm : ut_mt a_ops p e) (hL : a_link p = nI (e + 1)) (hSe : S (e + 1) = S p)
    (IH : ∀ u v, ut_RR u v → ut_act u ≠ 0 → ut_G st n (i + 1) u v) : ut_G st (n + 1) i (f_SAVE, f_PUSH, f_POP, f_ALLOC, f_FREE, f_KEEP, f_BACK, f_LOAD, f_STORE, f_SET, f_ADDI, f_ADD, f_CALL, f_RET, f_IF, f_WHILE, f_END, f_ADVANCE, f_OFFSET, f_REGISTER, f_RESTORE, f_REMEMBER, f_RECALL, (nI cl), (nI fl), (nI dl), (nI wl), (nI U), (nI fc), (nI t), (nI ra), (nI (S U)), rb, (nI oc), (nI (bs (D - 1) + ut_sz (S p))), (nI p), (nI D), f_walkPc, f_walkSp, f_walkBase, f_walkState, a_ops, a_firsts, a_seconds, a_link, a_codeStart, a_tableStart, a_table, a_openCell, a_openState, a_regs, a_stack, a_memory, a_seen) ((nI cl), (nI fl), (nI dl), (nI wl), (nI U), (nI oc), (nI D), rb, a_ops, a_firsts, a_seconds, a_regs, b_kinds, b_count, b_values, b_function, b_address, b_atCall) := by
  obtain ⟨hl, hc, hx, ht, hxo, hb, hd⟩ := id H
  have W := ut_Rel_W H
  unfold ut_lim at hl
  have fr1 := (hd.2.1 (D - 1) (by omega)).1
  have b5 := (ut_bs_b W (D - 1) (by omega)).2.2.2.2
  rw [← hpe] at b5 fr1
  have ho' : a_ops p = 14 ∨ a_ops p = 15 := by
    rw [h1]
    rcases ho with rfl | rfl
    · exact Or.inl rfl
    · exact Or.inr rfl
  have n13 : a_ops p ≠ 13 := by rcases ho' with x | x <;> rw [x] <;> decide
  have nx := ut_nxt H fr1.2.2.1 fr1.2.2.2.1 fr1.2.2.2.2 n13
  have iT : vp_in (nI (D - 1)) 16 := vp_in_nI (by omega) (by omega)
  have Y175 : ∀ (post : Int32 → SY → Prop) (J : Prop → Prop), True := fun _ _ => trivial
  by_cases z : a_regs a = 0
  · have q := hc.2.1.2.1 (fn (D - 1) + 1) (by omega)
    have heC := ut_mt_out hm q.2.1 fr1.2.2.2.2
    have nxe := ut_nxt H (p := e) fr1.2.2.1 (by omega) heC (by rw [h16]; decide)
    refine ut_rn_jmp (p' := e + 1) (ad1 := upd (upd b_address (D - 1) (nI (p + 1))) (D - 1) (nI (e + 1))) hpe H hD hi hst (by omega) h1 hSe ⟨by omega, nxe.1⟩ nxe.2 (fun j hj => by rw [pk_un (by omega), pk_un (by omega)]) pk_us (fun q hq => ?_) (fun post hJ => ?_) IH
    · exact ut_xs14 (by omega) ho h1 h2 ha hL (fun _ => hq) (fun x => absurd z x)
    · unfold wY_run_108
      refine ⟨iT, ?_⟩
      rw [nI_clamp (by omega), nI_1]
      refine nm_e ?_
      have G : wY_run_175 post (wY_run_21 post (nI st) n) (nI st) (nI i) (nI (D - 1)) (nI p) (a_firsts p) (nI cl) (nI fl) (nI dl) (nI wl) (nI U) (nI oc) (nI D) rb a_ops a_firsts a_seconds a_regs b_kinds b_count b_values b_function (upd b_address (D - 1) (nI (p + 1))) b_atCall := by
        unfold wY_run_175
        rw [h2]
        refine ⟨vp_in_nI (by omega) (by omega), ?_⟩
        rw [nI_clamp (by omega)]
        refine br_t z (ut_yeo (by omega) heU he ho' hm ⟨iT, ?_⟩)
        rw [nI_clamp (by omega), nI_1]
        exact nm_e (nm_r (nI_1 i) hJ)
      rcases ho with rfl | rfl
      · exact br_f (by decide) (br_f (by decide) (br_t rfl G))
      · exact br_f (by decide) (br_f (by decide) (br_f (by decide) (br_t rfl G)))
  · refine ut_rn_jmp (p' := p + 1) (ad1 := upd b_address (D - 1) (nI (p + 1))) hpe H hD hi hst (by omega) h1 hS ⟨by omega, nx.1⟩ nx.2 (fun j hj => pk_un (by omega)) pk_us (fun q hq => ?_) (fun post hJ => ?_) IH
    · exact ut_xs14 (by omega) ho h1 h2 ha hL (fun x => absurd x z) (fun _ => hq)
    · unfold wY_run_108
      refine ⟨iT, ?_⟩
      rw [nI_clamp (by omega), nI_1]
      refine nm_e ?_
      have G : wY_run_175 post (wY_run_21 post (nI st) n) (nI st) (nI i) (nI (D - 1)) (nI p) (a_firsts p) (nI cl) (nI fl) (nI dl) (nI wl) (nI U) (nI oc) (nI D) rb a_ops a_firsts a_seconds a_regs b_kinds b_count b_values b_function (upd b_address (D - 1) (nI (p + 1))) b_atCall := by
        unfold wY_run_175
        rw [h2]
        refine ⟨vp_in_nI (by omega) (by omega), ?_⟩
        rw [nI_clamp (by omega)]
        exact br_f z (nm_r (nI_1 i) hJ)
      rcases ho with rfl | rfl
      · exact br_f (by decide) (br_f (by decide) (br_t rfl G))
      · exact br_f (by decide) (br_f (by decide) (br_f (by decide) (br_t rfl G)))
theorem ut_rn16 (hpe : p = ad (D - 1)) (H : ut_Rel a_ops a_firsts a_seconds a_link a_codeStart a_tableStart a_table a_openCell a_openState a_regs a_stack b_kinds b_count b_values b_function b_address b_atCall (nI (bs (D - 1) + ut_sz (S p))) (nI p) rb T S OC CS TS bs ad fn cl fl dl wl U fc oc t ra D) (hD : 0 < D) (hi : i < st) (hst : st ≤ 500) (h1 : a_ops p = 16)
    {c : Nat} (hcp : c < p) (hco : a_ops c = 14 ∨ a_ops c = 15) (hm : ut_mt a_ops c p) (hS : S (p + 1) = S c) (hL : a_link p = nI (if a_ops c = 15 then c else p + 1))
    (IH : ∀ u v, ut_RR u v → ut_act u ≠ 0 → ut_G st n (i + 1) u v) : ut_G st (n + 1) i (f_SAVE, f_PUSH, f_POP, f_ALLOC, f_FREE, f_KEEP, f_BACK, f_LOAD, f_STORE, f_SET, f_ADDI, f_ADD, f_CALL, f_RET, f_IF, f_WHILE, f_END, f_ADVANCE, f_OFFSET, f_REGISTER, f_RESTORE, f_REMEMBER, f_RECALL, (nI cl), (nI fl), (nI dl), (nI wl), (nI U), (nI fc), (nI t), (nI ra), (nI (S U)), rb, (nI oc), (nI (bs (D - 1) + ut_sz (S p))), (nI p), (nI D), f_walkPc, f_walkSp, f_walkBase, f_walkState, a_ops, a_firsts, a_seconds, a_link, a_codeStart, a_tableStart, a_table, a_openCell, a_openState, a_regs, a_stack, a_memory, a_seen) ((nI cl), (nI fl), (nI dl), (nI wl), (nI U), (nI oc), (nI D), rb, a_ops, a_firsts, a_seconds, a_regs, b_kinds, b_count, b_values, b_function, b_address, b_atCall) := by
  obtain ⟨hl, hc, hx, ht, hxo, hb, hd⟩ := id H
  have W := ut_Rel_W H
  unfold ut_lim at hl
  obtain ⟨fr1, fr2, _⟩ := hd.2.1 (D - 1) (by omega)
  have b5 := (ut_bs_b W (D - 1) (by omega)).2.2.2.2
  rw [← hpe] at b5 fr1 fr2
  have hlive := fr2 h1
  have nx := ut_nxt H fr1.2.2.1 fr1.2.2.2.1 fr1.2.2.2.2 (by rw [h1]; decide)
  have iT : vp_in (nI (D - 1)) 16 := vp_in_nI (by omega) (by omega)
  have hcC : CS (fn (D - 1)) ≤ c := by
    rcases Nat.lt_or_ge c (CS (fn (D - 1))) with z | z
    · have q := hc.2.1.2.1 (fn (D - 1)) (by omega)
      have := ut_mt_out hm q.2.1 z
      omega
    · exact z
  have h1' : a_ops p = nI 16 := h1
  by_cases z : a_ops c = 15
  · rw [if_pos z] at hL
    refine ut_rn_jmp (p' := c) (o := 16) (ad1 := upd (upd b_address (D - 1) (nI (p + 1))) (D - 1) (nI c)) hpe H hD hi hst (by omega) h1' (by omega) ⟨hcC, by omega⟩ (fun x => by rw [z] at x; exact absurd x (by decide)) (fun j hj => by rw [pk_un (by omega), pk_un (by omega)]) pk_us (fun q hq => ?_) (fun post hJ => ?_) IH
    · exact ut_xs16 (by omega) h1' hL hq
    · unfold wY_run_108
      refine ⟨iT, ?_⟩
      rw [nI_clamp (by omega), nI_1]
      refine nm_e (br_f (by decide) (br_f (by decide) (br_f (by decide) (br_f (by decide) (br_t rfl (ut_yoo (by omega) hcp hco hm ⟨vp_in_nI (by omega) (by omega), ?_⟩))))))
      rw [nI_clamp (n := c) (by omega)]
      exact br_t z ⟨iT, nm_e (nm_r (nI_1 i) hJ)⟩
  · rw [if_neg z] at hL
    refine ut_rn_jmp (p' := p + 1) (o := 16) (ad1 := upd b_address (D - 1) (nI (p + 1))) hpe H hD hi hst (by omega) h1' hlive.symm ⟨by omega, nx.1⟩ nx.2 (fun j hj => pk_un (by omega)) pk_us (fun q hq => ?_) (fun post hJ => ?_) IH
    · exact ut_xs16 (by omega) h1' hL hq
    · unfold wY_run_108
      refine ⟨iT, ?_⟩
      rw [nI_clamp (by omega), nI_1]
      refine nm_e (br_f (by decide) (br_f (by decide) (br_f (by decide) (br_f (by decide) (br_t rfl (ut_yoo (by omega) hcp hco hm ⟨vp_in_nI (by omega) (by omega), ?_⟩))))))
      rw [nI_clamp (n := c) (by omega)]
      exact br_f z (nm_r (nI_1 i) hJ)
theorem ut_rn13 (hpe : p = ad (D - 1)) (H : ut_Rel a_ops a_firsts a_seconds a_link a_codeStart a_tableStart a_table a_openCell a_openState a_regs a_stack b_kinds b_count b_values b_function b_address b_atCall (nI (bs (D - 1) + ut_sz (S p))) (nI p) rb T S OC CS TS bs ad fn cl fl dl wl U fc oc t ra D) (hD : 0 < D) (hi : i < st) (hst : st ≤ 500) (h1 : a_ops p = 13) (hs0 : ut_sz (S p) = 0)
    (IH : ∀ u v, ut_RR u v → ut_act u ≠ 0 → ut_G st n (i + 1) u v) : ut_G st (n + 1) i (f_SAVE, f_PUSH, f_POP, f_ALLOC, f_FREE, f_KEEP, f_BACK, f_LOAD, f_STORE, f_SET, f_ADDI, f_ADD, f_CALL, f_RET, f_IF, f_WHILE, f_END, f_ADVANCE, f_OFFSET, f_REGISTER, f_RESTORE, f_REMEMBER, f_RECALL, (nI cl), (nI fl), (nI dl), (nI wl), (nI U), (nI fc), (nI t), (nI ra), (nI (S U)), rb, (nI oc), (nI (bs (D - 1) + ut_sz (S p))), (nI p), (nI D), f_walkPc, f_walkSp, f_walkBase, f_walkState, a_ops, a_firsts, a_seconds, a_link, a_codeStart, a_tableStart, a_table, a_openCell, a_openState, a_regs, a_stack, a_memory, a_seen) ((nI cl), (nI fl), (nI dl), (nI wl), (nI U), (nI oc), (nI D), rb, a_ops, a_firsts, a_seconds, a_regs, b_kinds, b_count, b_values, b_function, b_address, b_atCall) := by
  obtain ⟨hl, hc, hx, ht, hxo, hb, hd⟩ := id H
  have W := ut_Rel_W H
  unfold ut_lim at hl
  obtain ⟨fr1, fr2, fr3, fr4, fr5, fr6, fr7⟩ := hd.2.1 (D - 1) (by omega)
  obtain ⟨b1, b2, b3, b4, b5⟩ := ut_bs_b W (D - 1) (by omega)
  rw [← hpe] at b5 fr1 fr4 fr7
  have iT : vp_in (nI (D - 1)) 16 := vp_in_nI (by omega) (by omega)
  have h1' : a_ops p = nI 13 := h1
  have hR : ∀ r, r < 4 → a_regs r = b_atCall ((D - 1) * 4 + r) := fun r hr => by
    have k := fr4.2.2.1 r hr
    have := (fr7 r hr).2 (by omega)
    rw [ut_nx_top (by omega)] at this
    exact this
  have hd' := ut_dy_pop (D' := D - 1) (R' := a_regs) (sp' := nI (bs (D - 1) + ut_sz (S p) - 1)) (pc' := if D - 1 = 0 then -1 else nI (ad (D - 1 - 1))) (adA' := upd b_address (D - 1) (nI (p + 1))) hd (by omega) (by omega) hR (fun j hj => pk_un (by omega)) (fun x => by
    have e := hd.1.2 (D - 1 - 1) (by omega)
    rw [show D - 1 - 1 + 1 = D - 1 by omega] at e
    refine ⟨congrArg nI (by omega), if_neg (by omega)⟩)
  have H1 : ut_Rel a_ops a_firsts a_seconds a_link a_codeStart a_tableStart a_table a_openCell a_openState a_regs a_stack b_kinds b_count b_values b_function (upd b_address (D - 1) (nI (p + 1))) b_atCall (nI (bs (D - 1) + ut_sz (S p) - 1)) (if D - 1 = 0 then -1 else nI (ad (D - 1 - 1))) rb T S OC CS TS bs ad fn cl fl dl wl U fc oc t ra (D - 1) := ⟨by unfold ut_lim; omega, hc, hx, ht, hxo, hb, hd'⟩
  have hX : ∀ q : SX → Prop, q (f_SAVE, f_PUSH, f_POP, f_ALLOC, f_FREE, f_KEEP, f_BACK, f_LOAD, f_STORE, f_SET, f_ADDI, f_ADD, f_CALL, f_RET, f_IF, f_WHILE, f_END, f_ADVANCE, f_OFFSET, f_REGISTER, f_RESTORE, f_REMEMBER, f_RECALL, (nI cl), (nI fl), (nI dl), (nI wl), (nI U), (nI fc), (nI t), (nI ra), (nI (S U)), rb, (nI oc), (nI (bs (D - 1) + ut_sz (S p) - 1)), (if D - 1 = 0 then -1 else nI (ad (D - 1 - 1))), (nI (D - 1)), f_walkPc, f_walkSp, f_walkBase, f_walkState, a_ops, a_firsts, a_seconds, a_link, a_codeStart, a_tableStart, a_table, a_openCell, a_openState, a_regs, a_stack, a_memory, a_seen) → wpX_step q (f_SAVE, f_PUSH, f_POP, f_ALLOC, f_FREE, f_KEEP, f_BACK, f_LOAD, f_STORE, f_SET, f_ADDI, f_ADD, f_CALL, f_RET, f_IF, f_WHILE, f_END, f_ADVANCE, f_OFFSET, f_REGISTER, f_RESTORE, f_REMEMBER, f_RECALL, (nI cl), (nI fl), (nI dl), (nI wl), (nI U), (nI fc), (nI t), (nI ra), (nI (S U)), rb, (nI oc), (nI (bs (D - 1) + ut_sz (S p))), (nI p), (nI D), f_walkPc, f_walkSp, f_walkBase, f_walkState, a_ops, a_firsts, a_seconds, a_link, a_codeStart, a_tableStart, a_table, a_openCell, a_openState, a_regs, a_stack, a_memory, a_seen) := fun q hq =>
    ut_xs13 (by omega) h1' (by omega) (by omega) (by rw [hs0]; exact fr6) hD hq
  by_cases z : D - 1 = 0
  · refine ⟨1, _, _, ut_RRi (f_SAVE := f_SAVE) (f_PUSH := f_PUSH) (f_POP := f_POP) (f_ALLOC := f_ALLOC) (f_FREE := f_FREE) (f_KEEP := f_KEEP) (f_BACK := f_BACK) (f_LOAD := f_LOAD) (f_STORE := f_STORE) (f_SET := f_SET) (f_ADDI := f_ADDI) (f_ADD := f_ADD) (f_CALL := f_CALL) (f_RET := f_RET) (f_IF := f_IF) (f_WHILE := f_WHILE) (f_END := f_END) (f_ADVANCE := f_ADVANCE) (f_OFFSET := f_OFFSET) (f_REGISTER := f_REGISTER) (f_RESTORE := f_RESTORE) (f_REMEMBER := f_REMEMBER) (f_RECALL := f_RECALL) (f_walkPc := f_walkPc) (f_walkSp := f_walkSp) (f_walkBase := f_walkBase) (f_walkState := f_walkState) (a_memory := a_memory) (a_seen := a_seen) H1, fun post hp => ut_xr2 hi hst (fun q hq => ut_xcs (by omega) h1' (by omega) (by omega) hq) hX ?_ hp, fun post hp => ut_yr1 hi hst ⟨hD, by omega⟩ (by omega) fr1.2.1 h1' rfl rfl (by omega) (by omega) ?_⟩
    · show nI (D - 1) = 0
      rw [z]; rfl
    · unfold wY_run_108
      refine ⟨iT, ?_⟩
      rw [nI_clamp (by omega), nI_1]
      refine nm_e (br_f (by decide) (br_t rfl (nm_r (ut_s1 hD) (br_t ?_ hp))))
      rw [z]; rfl
  · obtain ⟨r, u', v', g1, g2, g3⟩ := IH _ _ (ut_RRi (f_SAVE := f_SAVE) (f_PUSH := f_PUSH) (f_POP := f_POP) (f_ALLOC := f_ALLOC) (f_FREE := f_FREE) (f_KEEP := f_KEEP) (f_BACK := f_BACK) (f_LOAD := f_LOAD) (f_STORE := f_STORE) (f_SET := f_SET) (f_ADDI := f_ADDI) (f_ADD := f_ADD) (f_CALL := f_CALL) (f_RET := f_RET) (f_IF := f_IF) (f_WHILE := f_WHILE) (f_END := f_END) (f_ADVANCE := f_ADVANCE) (f_OFFSET := f_OFFSET) (f_REGISTER := f_REGISTER) (f_RESTORE := f_RESTORE) (f_REMEMBER := f_REMEMBER) (f_RECALL := f_RECALL) (f_walkPc := f_walkPc) (f_walkSp := f_walkSp) (f_walkBase := f_walkBase) (f_walkState := f_walkState) (a_memory := a_memory) (a_seen := a_seen) H1) (nI_ne0 (by omega) (by omega))
    refine ⟨r, u', v', g1, fun post hp => ut_xr1 hi hst (fun q hq => ut_xcs (by omega) h1' (by omega) (by omega) hq) hX (nI_ne0 (by omega) (by omega)) (g2 post hp), fun post hp => ut_yr1 hi hst ⟨hD, by omega⟩ (by omega) fr1.2.1 h1' rfl rfl (by omega) (by omega) ?_⟩
    unfold wY_run_108
    refine ⟨iT, ?_⟩
    rw [nI_clamp (by omega), nI_1]
    exact nm_e (br_f (by decide) (br_t rfl (nm_r (ut_s1 hD) (br_f (nI_ne0 (by omega) (by omega)) (nm_r (nI_1 i) (g3 post hp))))))
def ut_fa (f : Nat → Int32) (D : Nat) (R : Nat → Int32) : Nat → Int32 := fun j => if D * 4 ≤ j ∧ j < D * 4 + 4 then R (j - D * 4) else f j
theorem ut_fa_eq {f s R : Nat → Int32} {D : Nat} (h1 : ∀ r, r < 4 → s (D * 4 + r) = R r) (h2 : ∀ j, (j < D * 4 ∨ D * 4 + 4 ≤ j) → s j = f j) : s = ut_fa f D R := by
  funext j
  unfold ut_fa
  by_cases z : D * 4 ≤ j ∧ j < D * 4 + 4
  · rw [if_pos z]
    have := h1 (j - D * 4) (by omega)
    rw [show D * 4 + (j - D * 4) = j by omega] at this
    exact this
  · rw [if_neg z]; exact h2 j (by omega)
theorem ut_rn12 (hpe : p = ad (D - 1)) (H : ut_Rel a_ops a_firsts a_seconds a_link a_codeStart a_tableStart a_table a_openCell a_openState a_regs a_stack b_kinds b_count b_values b_function b_address b_atCall (nI (bs (D - 1) + ut_sz (S p))) (nI p) rb T S OC CS TS bs ad fn cl fl dl wl U fc oc t ra D) (hD : 0 < D) (hi : i < st) (hst : st ≤ 500) (h1 : a_ops p = nI 12) (h2 : a_firsts p = nI a) (ha : a < fl) (hS : S (p + 1) = S p)
    (IH : ∀ u v, ut_RR u v → ut_act u ≠ 0 → ut_G st n (i + 1) u v) : ut_G st (n + 1) i (f_SAVE, f_PUSH, f_POP, f_ALLOC, f_FREE, f_KEEP, f_BACK, f_LOAD, f_STORE, f_SET, f_ADDI, f_ADD, f_CALL, f_RET, f_IF, f_WHILE, f_END, f_ADVANCE, f_OFFSET, f_REGISTER, f_RESTORE, f_REMEMBER, f_RECALL, (nI cl), (nI fl), (nI dl), (nI wl), (nI U), (nI fc), (nI t), (nI ra), (nI (S U)), rb, (nI oc), (nI (bs (D - 1) + ut_sz (S p))), (nI p), (nI D), f_walkPc, f_walkSp, f_walkBase, f_walkState, a_ops, a_firsts, a_seconds, a_link, a_codeStart, a_tableStart, a_table, a_openCell, a_openState, a_regs, a_stack, a_memory, a_seen) ((nI cl), (nI fl), (nI dl), (nI wl), (nI U), (nI oc), (nI D), rb, a_ops, a_firsts, a_seconds, a_regs, b_kinds, b_count, b_values, b_function, b_address, b_atCall) := by
  obtain ⟨hl, hc, hx, ht, hxo, hb, hd⟩ := id H
  have W := ut_Rel_W H
  unfold ut_lim at hl
  obtain ⟨fr1, fr2, fr3, fr4, fr5, fr6, fr7⟩ := hd.2.1 (D - 1) (by omega)
  obtain ⟨b1, b2, b3, b4, b5⟩ := ut_bs_b W (D - 1) (by omega)
  rw [← hpe] at b3 b5 fr1
  have iT : vp_in (nI (D - 1)) 16 := vp_in_nI (by omega) (by omega)
  have ip : vp_in (nI p) 64 := vp_in_nI (by omega) (by omega)
  have hfl := hc.1.2.1
  have nx := ut_nxt H fr1.2.2.1 fr1.2.2.2.1 fr1.2.2.2.2 (by rw [h1]; decide)
  by_cases zf : fc ≤ a
  · refine ⟨3, _, _, ut_RRi H, fun post hp => ut_xr3 hi hst (by decide) (fun q hq => ?_) hp, fun post hp => ut_yr12 (fc := fc) hi hst ⟨hD, by omega⟩ (by omega) fr1.2.1 h1 h2 rfl (by omega) (ut_ge1_of hc) hc.1.2.2.2.2 (by omega) (by omega) (fun _ => hp) (fun x => by omega) (fun x => by omega)⟩
    refine ⟨ip, ?_⟩
    rw [nI_clamp (by omega), h1, h2]
    exact br_t rfl ⟨ip, br_f (nI_nlt zf (by omega)) hq⟩
  · by_cases zd : D = dl
    · refine ⟨4, _, _, ut_RRi H, fun post hp => ut_xr3 hi hst (by decide) (fun q hq => ?_) hp, fun post hp => ut_yr12 (fc := fc) hi hst ⟨hD, by omega⟩ (by omega) fr1.2.1 h1 h2 rfl (by omega) (ut_ge1_of hc) hc.1.2.2.2.2 (by omega) (by omega) (fun x => by omega) (fun _ _ => hp) (fun _ x => absurd zd x)⟩
      refine ⟨ip, ?_⟩
      rw [nI_clamp (by omega), h1, h2]
      exact br_t rfl ⟨ip, br_t (nI_lt (by omega) (by omega)) (br_f (nI_nlt (by omega) (by omega)) hq)⟩
    · obtain ⟨q1, q2, q3, q4, q5⟩ := hc.2.1.2.1 a (by omega)
      have hd1 := ut_rn_dy (p' := p + 1) (ad1 := upd b_address (D - 1) (nI (p + 1))) hpe H hD hS ⟨by omega, nx.1⟩ nx.2 (fun j hj => pk_un (by omega)) pk_us
      have hd2 := ut_dy_push (f := a) (q := bs (D - 1) + ut_sz (S p)) (St' := upd a_stack (bs (D - 1) + ut_sz (S p)) (nI (p + 1))) (fnA' := upd b_function D (nI a)) (adA' := upd (upd b_address (D - 1) (nI (p + 1))) D (nI (CS a))) (cnt' := upd b_count D 0) (atc' := ut_fa b_atCall D a_regs) hd1 (by omega) (by omega) q4 (ut_CS_ne16 H (by omega)) (hc.2.1.2.2 a (by omega)).1
        (by rw [if_neg (by omega), ut_us, hS]) (by rw [pk_us, if_neg (by omega), ut_us]) (fun j hj => pk_un (by omega)) pk_us (fun j hj => pk_un (by omega)) pk_us (fun j hj => pk_un (by omega)) pk_us (fun j hj => pk_un (by omega))
        (fun r hr => by unfold ut_fa; rw [if_pos (by omega), Nat.add_sub_cancel_left]) (fun j hj => by unfold ut_fa; rw [if_neg (by omega)])
      have H1 : ut_Rel a_ops a_firsts a_seconds a_link a_codeStart a_tableStart a_table a_openCell a_openState a_regs (upd a_stack (bs (D - 1) + ut_sz (S p)) (nI (p + 1))) b_kinds (upd b_count D 0) b_values (upd b_function D (nI a)) (upd (upd b_address (D - 1) (nI (p + 1))) D (nI (CS a))) (ut_fa b_atCall D a_regs) (nI (bs (D - 1) + ut_sz (S p) + 1)) (nI (CS a)) rb T S OC CS TS (ut_un bs D (bs (D - 1) + ut_sz (S p) + 1)) (ut_un (ut_un ad (D - 1) (p + 1)) D (CS a)) (ut_un fn D a) cl fl dl wl U fc oc t ra (D + 1) := by
        refine ⟨by unfold ut_lim; omega, hc, hx, ht, hxo, ⟨?_, fun k hk => ?_⟩, hd2⟩
        · rw [pk_un (by omega)]; exact hb.1
        · rw [pk_un (by omega)]; exact hb.2 k hk
      obtain ⟨r, u', v', g1, g2, g3⟩ := IH _ _ (ut_RRi (f_SAVE := f_SAVE) (f_PUSH := f_PUSH) (f_POP := f_POP) (f_ALLOC := f_ALLOC) (f_FREE := f_FREE) (f_KEEP := f_KEEP) (f_BACK := f_BACK) (f_LOAD := f_LOAD) (f_STORE := f_STORE) (f_SET := f_SET) (f_ADDI := f_ADDI) (f_ADD := f_ADD) (f_CALL := f_CALL) (f_RET := f_RET) (f_IF := f_IF) (f_WHILE := f_WHILE) (f_END := f_END) (f_ADVANCE := f_ADVANCE) (f_OFFSET := f_OFFSET) (f_REGISTER := f_REGISTER) (f_RESTORE := f_RESTORE) (f_REMEMBER := f_REMEMBER) (f_RECALL := f_RECALL) (f_walkPc := f_walkPc) (f_walkSp := f_walkSp) (f_walkBase := f_walkBase) (f_walkState := f_walkState) (a_memory := a_memory) (a_seen := a_seen) H1) (nI_ne0 (by omega) (by omega))
      refine ⟨r, u', v', g1, fun post hp => ut_xr1 hi hst (fun q hq => ?_) (fun q hq => ut_xs12 (by omega) h1 h2 (by omega) (hx.1 a (by omega)) (by omega) hq) (nI_ne0 (n := D + 1) (by omega) (by omega)) (g2 post hp), fun post hp => ut_yr12 (fc := fc) hi hst ⟨hD, by omega⟩ (by omega) fr1.2.1 h1 h2 rfl (by omega) (ut_ge1_of hc) hc.1.2.2.2.2 (by omega) (by omega) (fun x => by omega) (fun _ x => absurd x zd) (fun _ _ => ?_)⟩
      · refine ⟨ip, ?_⟩
        rw [nI_clamp (by omega), h1, h2]
        exact br_t rfl ⟨ip, br_t (nI_lt (by omega) (by omega)) (br_t (nI_lt (by omega) (by omega)) hq)⟩
      · unfold wY_run_108
        refine ⟨iT, ?_⟩
        rw [nI_clamp (by omega), nI_1]
        refine nm_e (br_t rfl ?_)
        refine ut_ybg (D := D) (by omega) (by omega) (by omega) (ut_ge1_of hc) q1 (fun _ => q3) (fun i hi => by have := q5 i hi; omega) (fun a' w1 w2 => ?_)
        dsimp only
        rw [ut_fa_eq w1 w2]
        exact nm_r (nI_1 i) (g3 post hp)
end UT31
end
section
/-! run, and the constructors -/
section UT32
theorem ut_clamp {lo hi : Nat} (p : Int32) (hlh : lo ≤ hi) (hh : hi < 1000) :
    ∃ c, lo ≤ c ∧ c ≤ hi ∧ (∀ (post : Int32 → Prop) (u : SX), post (nI c) → wpX_clamp post u p (nI lo) (nI hi)) ∧ (∀ (post : Int32 → Prop) (v : SY), post (nI c) → wpY_clamp post v p (nI lo) (nI hi)) := by
  have X : ∀ (post : Int32 → Prop) (u : SX), ((nI lo ≤ p → (((p ≤ nI hi → (post p)) ∧ (¬ p ≤ nI hi → (post (nI hi)))))) ∧ (¬ nI lo ≤ p → (post (nI lo)))) → wpX_clamp post u p (nI lo) (nI hi) := by
    intro post u h
    obtain ⟨f_SAVE, f_PUSH, f_POP, f_ALLOC, f_FREE, f_KEEP, f_BACK, f_LOAD, f_STORE, f_SET, f_ADDI, f_ADD, f_CALL, f_RET, f_IF, f_WHILE, f_END, f_ADVANCE, f_OFFSET, f_REGISTER, f_RESTORE, f_REMEMBER, f_RECALL, f_codeLimit, f_functionLimit, f_depthLimit, f_wordLimit, f_used, f_functionCount, f_tableUsed, f_ruleAddress, f_now, f_reachable, f_openCount, f_sp, f_pc, f_active, f_walkPc, f_walkSp, f_walkBase, f_walkState, a_ops, a_firsts, a_seconds, a_link, a_codeStart, a_tableStart, a_table, a_openCell, a_openState, a_regs, a_stack, a_memory, a_seen⟩ := u
    exact h
  have Y : ∀ (post : Int32 → Prop) (v : SY), ((nI lo ≤ p → (((p ≤ nI hi → (post p)) ∧ (¬ p ≤ nI hi → (post (nI hi)))))) ∧ (¬ nI lo ≤ p → (post (nI lo)))) → wpY_clamp post v p (nI lo) (nI hi) := by
    intro post v h
    obtain ⟨g_codeLimit, g_functionsLimit, g_depthLimit, g_wordsLimit, g_used, g_open, g_depth, g_reachable, b_cellOp, b_cellA, b_cellB, b_regs, b_kinds, b_count, b_values, b_function, b_address, b_atCall⟩ := v
    exact h
  by_cases h1 : nI lo ≤ p
  · by_cases h2 : p ≤ nI hi
    · have h0 : ¬ p < 0 := fun x => by
        have := Int32.lt_of_le_of_lt h1 x
        exact nI_pos (by omega) this
      obtain ⟨c, hc, rfl⟩ := nI_of h0
      exact ⟨c, (nI_leI (by omega) hc).mp h1, (nI_leI hc (by omega)).mp h2, fun post u k => X post u (br_t h1 (br_t h2 k)), fun post v k => Y post v (br_t h1 (br_t h2 k))⟩
    · exact ⟨hi, hlh, Nat.le_refl _, fun post u k => X post u (br_t h1 (br_f h2 k)), fun post v k => Y post v (br_t h1 (br_f h2 k))⟩
  · exact ⟨lo, Nat.le_refl _, hlh, fun post u k => X post u (br_f h1 k), fun post v k => Y post v (br_f h1 k)⟩
variable {f_SAVE f_PUSH f_POP f_ALLOC f_FREE f_KEEP f_BACK f_LOAD f_STORE f_SET f_ADDI f_ADD f_CALL f_RET f_IF f_WHILE f_END f_ADVANCE f_OFFSET f_REGISTER f_RESTORE f_REMEMBER f_RECALL f_codeLimit f_functionLimit f_depthLimit f_wordLimit f_used f_functionCount f_tableUsed f_ruleAddress f_now f_reachable f_openCount f_sp f_pc f_active f_walkPc f_walkSp f_walkBase f_walkState : Int32} {a_ops a_firsts a_seconds a_link a_codeStart a_tableStart a_table a_openCell a_openState a_regs a_stack a_memory a_seen : Nat → Int32}
variable {g_codeLimit g_functionsLimit g_depthLimit g_wordsLimit g_used g_open g_depth g_reachable : Int32} {b_cellOp b_cellA b_cellB b_regs b_kinds b_count b_values b_function b_address b_atCall : Nat → Int32}
variable {T S OC CS TS bs ad fn : Nat → Nat} {cl fl dl wl U fc oc t ra D : Nat} {rb : Int32}
theorem ut_rn1 {st n i : Nat} (H : ut_Rel a_ops a_firsts a_seconds a_link a_codeStart a_tableStart a_table a_openCell a_openState a_regs a_stack b_kinds b_count b_values b_function b_address b_atCall f_sp f_pc rb T S OC CS TS bs ad fn cl fl dl wl U fc oc t ra D) (hD : 0 < D) (hi : i < st) (hst : st ≤ 500) (IH : ∀ u v, ut_RR u v → ut_act u ≠ 0 → ut_G st n (i + 1) u v) : ut_G st (n + 1) i (f_SAVE, f_PUSH, f_POP, f_ALLOC, f_FREE, f_KEEP, f_BACK, f_LOAD, f_STORE, f_SET, f_ADDI, f_ADD, f_CALL, f_RET, f_IF, f_WHILE, f_END, f_ADVANCE, f_OFFSET, f_REGISTER, f_RESTORE, f_REMEMBER, f_RECALL, (nI cl), (nI fl), (nI dl), (nI wl), (nI U), (nI fc), (nI t), (nI ra), (nI (S U)), rb, (nI oc), f_sp, f_pc, (nI D), f_walkPc, f_walkSp, f_walkBase, f_walkState, a_ops, a_firsts, a_seconds, a_link, a_codeStart, a_tableStart, a_table, a_openCell, a_openState, a_regs, a_stack, a_memory, a_seen) ((nI cl), (nI fl), (nI dl), (nI wl), (nI U), (nI oc), (nI D), rb, a_ops, a_firsts, a_seconds, a_regs, b_kinds, b_count, b_values, b_function, b_address, b_atCall) := by
  have hsp := H.2.2.2.2.2.2.2.2 hD
  obtain ⟨es, ep⟩ := hsp
  subst es ep
  have hc := H.2.1
  have fr := (H.2.2.2.2.2.2.2.1 (D - 1) (by omega)).1
  have hF := hc.2.1.2.1 (fn (D - 1) + 1) (by omega)
  have hFc := hc.2.1.2.1 fc (Nat.le_refl _)
  have hmono := ut_CS_mono hc.2.1 (j := fn (D - 1) + 1) (f := fc) (by omega) (Nat.le_refl _)
  rcases hc.2.2.1 (ad (D - 1)) (by omega) with ⟨o, a, h0, h1, h2, h3, h4, h5⟩ | ⟨h1, h2⟩ | ⟨h1, ⟨a, h2, h3⟩, h4, h5⟩ | ⟨h1, c, h2, h3, h4, h5, h6⟩
  · by_cases z : o = 12
    · subst z
      rw [ut_fit_12] at h3
      exact ut_rn12 rfl H hD hi hst h1 h2 h3 h4 IH
    · exact ut_rn_frame rfl H hD hi hst (by omega) h1 h2 h3 h4 h5 IH
  · exact ut_rn13 rfl H hD hi hst h1 h2 IH
  · rcases h5 with ⟨k, hk, hk2⟩ | ⟨e, e1, e2, e3, e4, e5, e6⟩
    · have := (hc.2.2.2.1 k hk).1
      omega
    · rcases h1 with h1 | h1
      · exact ut_rn14 (o := 14) rfl H hD hi hst (Or.inl rfl) h1 h3 h2 h4 e1 e2 e3 e4 e5 e6 IH
      · exact ut_rn14 (o := 15) rfl H hD hi hst (Or.inr rfl) h1 h3 h2 h4 e1 e2 e3 e4 e5 e6 IH
  · exact ut_rn16 rfl H hD hi hst h1 h2 h3 h4 h5 h6 IH
theorem ut_rnI {st : Nat} (hst : st ≤ 500) : ∀ n i, i + n = st → ∀ u v, ut_RR u v → ut_act u ≠ 0 → ut_G st (n + 1) i u v := by
  intro n
  induction n with
  | zero =>
    intro i hi u v h _
    have e : i = st := by omega
    subst e
    refine ⟨0, u, v, h, fun post hp => ?_, fun post hp => ?_⟩
    · obtain ⟨f_SAVE, f_PUSH, f_POP, f_ALLOC, f_FREE, f_KEEP, f_BACK, f_LOAD, f_STORE, f_SET, f_ADDI, f_ADD, f_CALL, f_RET, f_IF, f_WHILE, f_END, f_ADVANCE, f_OFFSET, f_REGISTER, f_RESTORE, f_REMEMBER, f_RECALL, f_codeLimit, f_functionLimit, f_depthLimit, f_wordLimit, f_used, f_functionCount, f_tableUsed, f_ruleAddress, f_now, f_reachable, f_openCount, f_sp, f_pc, f_active, f_walkPc, f_walkSp, f_walkBase, f_walkState, a_ops, a_firsts, a_seconds, a_link, a_codeStart, a_tableStart, a_table, a_openCell, a_openState, a_regs, a_stack, a_memory, a_seen⟩ := u
      show wX_run_21 post (nI i) (0 + 1) (nI i) f_SAVE f_PUSH f_POP f_ALLOC f_FREE f_KEEP f_BACK f_LOAD f_STORE f_SET f_ADDI f_ADD f_CALL f_RET f_IF f_WHILE f_END f_ADVANCE f_OFFSET f_REGISTER f_RESTORE f_REMEMBER f_RECALL f_codeLimit f_functionLimit f_depthLimit f_wordLimit f_used f_functionCount f_tableUsed f_ruleAddress f_now f_reachable f_openCount f_sp f_pc f_active f_walkPc f_walkSp f_walkBase f_walkState a_ops a_firsts a_seconds a_link a_codeStart a_tableStart a_table a_openCell a_openState a_regs a_stack a_memory a_seen
      rw [wX_run_21]
      dsimp only
      exact br_t (nI_le (Nat.le_refl _) (by omega)) hp
    · obtain ⟨g_codeLimit, g_functionsLimit, g_depthLimit, g_wordsLimit, g_used, g_open, g_depth, g_reachable, b_cellOp, b_cellA, b_cellB, b_regs, b_kinds, b_count, b_values, b_function, b_address, b_atCall⟩ := v
      show wY_run_21 post (nI i) (0 + 1) (nI i) g_codeLimit g_functionsLimit g_depthLimit g_wordsLimit g_used g_open g_depth g_reachable b_cellOp b_cellA b_cellB b_regs b_kinds b_count b_values b_function b_address b_atCall
      rw [wY_run_21]
      dsimp only
      exact br_t (nI_le (Nat.le_refl _) (by omega)) hp
  | succ n ih =>
    intro i hi u v h
    refine h (fun u v => ut_act u ≠ 0 → ut_G st (n + 1 + 1) i u v) ?_
    intros
    rename_i D rb H ha
    have hD : 0 < D := by
      rcases Nat.eq_zero_or_pos D with z | z
      · exact absurd (show nI D = 0 by rw [z]; rfl) ha
      · exact z
    exact ut_rn1 H hD (by omega) hst (ih (i + 1) (by omega))
theorem ut_m_run {p0 : Int32} (H : ut_Rel a_ops a_firsts a_seconds a_link a_codeStart a_tableStart a_table a_openCell a_openState a_regs a_stack b_kinds b_count b_values b_function b_address b_atCall f_sp f_pc rb T S OC CS TS bs ad fn cl fl dl wl U fc oc t ra D) : wpX_run (fun r u' => wpY_run (fun r' v' => r' = r ∧ ut_RR u' v') ((nI cl), (nI fl), (nI dl), (nI wl), (nI U), (nI oc), (nI D), rb, a_ops, a_firsts, a_seconds, a_regs, b_kinds, b_count, b_values, b_function, b_address, b_atCall) p0) (f_SAVE, f_PUSH, f_POP, f_ALLOC, f_FREE, f_KEEP, f_BACK, f_LOAD, f_STORE, f_SET, f_ADDI, f_ADD, f_CALL, f_RET, f_IF, f_WHILE, f_END, f_ADVANCE, f_OFFSET, f_REGISTER, f_RESTORE, f_REMEMBER, f_RECALL, (nI cl), (nI fl), (nI dl), (nI wl), (nI U), (nI fc), (nI t), (nI ra), (nI (S U)), rb, (nI oc), f_sp, f_pc, (nI D), f_walkPc, f_walkSp, f_walkBase, f_walkState, a_ops, a_firsts, a_seconds, a_link, a_codeStart, a_tableStart, a_table, a_openCell, a_openState, a_regs, a_stack, a_memory, a_seen) p0 := by
  have hl := H.1
  unfold ut_lim at hl
  by_cases z : D = 0
  · subst z
    exact br_t rfl (br_t rfl ⟨rfl, ut_RRi H⟩)
  · have nz : ¬ nI D = 0 := nI_ne0 (by omega) (by omega)
    obtain ⟨st, s1, s2, cX, cY⟩ := ut_clamp (lo := 1) (hi := 500) p0 (by omega) (by omega)
    obtain ⟨r, u', v', g1, g2, g3⟩ := ut_rnI s2 st 0 (by omega) _ _ (ut_RRi (f_SAVE := f_SAVE) (f_PUSH := f_PUSH) (f_POP := f_POP) (f_ALLOC := f_ALLOC) (f_FREE := f_FREE) (f_KEEP := f_KEEP) (f_BACK := f_BACK) (f_LOAD := f_LOAD) (f_STORE := f_STORE) (f_SET := f_SET) (f_ADDI := f_ADDI) (f_ADD := f_ADD) (f_CALL := f_CALL) (f_RET := f_RET) (f_IF := f_IF) (f_WHILE := f_WHILE) (f_END := f_END) (f_ADVANCE := f_ADVANCE) (f_OFFSET := f_OFFSET) (f_REGISTER := f_REGISTER) (f_RESTORE := f_RESTORE) (f_REMEMBER := f_REMEMBER) (f_RECALL := f_RECALL) (f_walkPc := f_walkPc) (f_walkSp := f_walkSp) (f_walkBase := f_walkBase) (f_walkState := f_walkState) (a_memory := a_memory) (a_seen := a_seen) H) nz
    have Y : wpY_run (fun r' v' => r' = r ∧ ut_RR u' v') ((nI cl), (nI fl), (nI dl), (nI wl), (nI U), (nI oc), (nI D), rb, a_ops, a_firsts, a_seconds, a_regs, b_kinds, b_count, b_values, b_function, b_address, b_atCall) p0 := br_f nz (cY _ _ ⟨st + 1, g3 (fun r' v' => r' = r ∧ ut_RR u' v') ⟨rfl, g1⟩⟩)
    exact br_f nz (cX _ _ ⟨st + 1, g2 (fun r u' => wpY_run (fun r' v' => r' = r ∧ ut_RR u' v') ((nI cl), (nI fl), (nI dl), (nI wl), (nI U), (nI oc), (nI D), rb, a_ops, a_firsts, a_seconds, a_regs, b_kinds, b_count, b_values, b_function, b_address, b_atCall) p0) Y⟩)
theorem ut_init {cl fl dl wl : Nat} (h1 : 16 ≤ cl ∧ cl ≤ 64) (h2 : 1 ≤ fl ∧ fl ≤ 8) (h3 : 2 ≤ dl ∧ dl ≤ 16) (h4 : 1 ≤ wl ∧ wl ≤ 8) :
    ut_Rel (fun _ => 0) (fun _ => 0) (fun _ => 0) (fun _ => 0) (fun _ => 0) (fun _ => 0) (fun _ => 0) (fun _ => 0) (fun _ => 0) (fun _ => 0) (fun _ => 0) (fun _ => 0) (fun _ => 0) (fun _ => 0) (fun _ => 0) (fun _ => 0) (fun _ => 0) 0 (-1) 1
      (fun _ => 0) (fun _ => 0) (fun _ => 0) (fun _ => 0) (fun _ => 0) (fun _ => 1) (fun _ => 0) (fun _ => 0) cl fl dl wl 0 0 0 0 0 0 := by
  have no : ∀ {P : Prop} (k : Nat), k < 0 → P := fun k hk => absurd hk (Nat.not_lt_zero k)
  refine ⟨by unfold ut_lim; omega, ⟨⟨by omega, by omega, by omega, rfl, rfl⟩, ⟨rfl, fun f hf => ?_, fun f hf => no f hf⟩, fun i hi => no i hi, fun k hk => no k hk, fun i hi => by omega, Or.inl rfl⟩, ⟨fun f hf => rfl, fun f hf => rfl, fun j hj => no j hj⟩, ?_, fun k hk => no k hk, ⟨⟨rfl, ut_FS0⟩, fun k hk => no k hk⟩, ⟨⟨rfl, fun i hi => by omega⟩, fun i hi => no i hi, fun x => by omega⟩⟩
  · have e : f = 0 := by omega
    subst e
    exact ⟨Nat.le_refl _, rfl, rfl, rfl, fun i hi => no i hi⟩
  · exact ⟨⟨by omega, rfl, Nat.le_refl _, Nat.le_refl _⟩, fun f hf => ⟨Nat.le_refl _, Nat.zero_le _⟩, fun f hf => no f hf, ut_bt_0, fun _ _ _ => rfl⟩
end UT32
end
section
/-! what is owed -/
theorem i_vc0 (k0 : Int32) (k1 : Int32) (k2 : Int32) (k3 : Int32) : wpX_init (fun u => wpY_init (fun v => i_Rel 4 u v) k0 k1 k2 k3) k0 k1 k2 k3 := by
  obtain ⟨cl, a1, a2, aX, aY⟩ := ut_clamp (lo := 16) (hi := 64) k0 (by omega) (by omega)
  obtain ⟨fl, b1, b2, bX, bY⟩ := ut_clamp (lo := 1) (hi := 8) k1 (by omega) (by omega)
  obtain ⟨dl, c1, c2, cX, cY⟩ := ut_clamp (lo := 2) (hi := 16) k2 (by omega) (by omega)
  obtain ⟨wl, d1, d2, dX, dY⟩ := ut_clamp (lo := 1) (hi := 8) k3 (by omega) (by omega)
  unfold wpX_init
  refine aX _ _ (bX _ _ (cX _ _ (dX _ _ ?_)))
  unfold wpY_init
  refine aY _ _ (bY _ _ (cY _ _ (dY _ _ ?_)))
  exact ut_RRi (ut_init ⟨a1, a2⟩ ⟨b1, b2⟩ ⟨c1, c2⟩ ⟨d1, d2⟩)
theorem i_vc_emit {k : Nat} {u : SX} {v : SY} (I : i_Rel k u v) (hk : k + 4 ≤ 2052) (v1 : Int32) (v2 : Int32) (v3 : Int32) : wpX_emit (fun r u' => wpY_emit (fun r' v' => r' = r ∧ i_Rel (k + 4) u' v') v v1 v2 v3) u v1 v2 v3 :=
  I (fun u v => wpX_emit (fun r u' => wpY_emit (fun r' v' => r' = r ∧ i_Rel (k + 4) u' v') v v1 v2 v3) u v1 v2 v3) (fun H => ut_emit H v1)
theorem i_vc_abandon {k : Nat} {u : SX} {v : SY} (I : i_Rel k u v) (hk : k + 4 ≤ 2052) : wpX_abandon (fun r u' => wpY_abandon (fun r' v' => r' = r ∧ i_Rel (k + 4) u' v') v) u :=
  I (fun u v => wpX_abandon (fun r u' => wpY_abandon (fun r' v' => r' = r ∧ i_Rel (k + 4) u' v') v) u) (fun H => ut_m_abandon H)
theorem i_vc_start {k : Nat} {u : SX} {v : SY} (I : i_Rel k u v) (hk : k + 4 ≤ 2052) (v1 : Int32) : wpX_start (fun r u' => wpY_start (fun r' v' => r' = r ∧ i_Rel (k + 4) u' v') v v1) u v1 :=
  I (fun u v => wpX_start (fun r u' => wpY_start (fun r' v' => r' = r ∧ i_Rel (k + 4) u' v') v v1) u v1) (fun H => ut_m_start H)
theorem i_vc_run {k : Nat} {u : SX} {v : SY} (I : i_Rel k u v) (hk : k + 4 ≤ 2052) (v1 : Int32) : wpX_run (fun r u' => wpY_run (fun r' v' => r' = r ∧ i_Rel (k + 4) u' v') v v1) u v1 :=
  I (fun u v => wpX_run (fun r u' => wpY_run (fun r' v' => r' = r ∧ i_Rel (k + 4) u' v') v v1) u v1) (fun H => ut_m_run H)
theorem i_vc_unwind {k : Nat} {u : SX} {v : SY} (I : i_Rel k u v) (hk : k + 4 ≤ 2052) (v1 : Int32) : wpX_unwind (fun r u' => wpY_unwind (fun r' v' => r' = r ∧ i_Rel (k + 4) u' v') v v1) u v1 :=
  I (fun u v => wpX_unwind (fun r u' => wpY_unwind (fun r' v' => r' = r ∧ i_Rel (k + 4) u' v') v v1) u v1) (fun H => ut_m_unwind H)
theorem i_vc_poke {k : Nat} {u : SX} {v : SY} (I : i_Rel k u v) (hk : k + 4 ≤ 2052) (v1 : Int32) (v2 : Int32) : wpX_poke (fun r u' => wpY_poke (fun r' v' => r' = r ∧ i_Rel (k + 4) u' v') v v1 v2) u v1 v2 :=
  I (fun u v => wpX_poke (fun r u' => wpY_poke (fun r' v' => r' = r ∧ i_Rel (k + 4) u' v') v v1 v2) u v1 v2) (fun H => ut_m_poke H)
theorem i_vc_depth {k : Nat} {u : SX} {v : SY} (I : i_Rel k u v) (hk : k + 4 ≤ 2052) : wpX_depth (fun r => wpY_depth (fun r' => r' = r ∧ i_Rel (k + 4) u v) v) u :=
  I (fun u v => wpX_depth (fun r => wpY_depth (fun r' => r' = r ∧ i_Rel (k + 4) u v) v) u) (fun H => ut_q_depth H)
theorem i_vc_functionAt {k : Nat} {u : SX} {v : SY} (I : i_Rel k u v) (hk : k + 4 ≤ 2052) (v1 : Int32) : wpX_functionAt (fun r u' => wpY_functionAt (fun r' => r' = r ∧ i_Rel (k + 4) u' v) v v1) u v1 :=
  I (fun u v => wpX_functionAt (fun r u' => wpY_functionAt (fun r' => r' = r ∧ i_Rel (k + 4) u' v) v v1) u v1) (fun H => ut_q_functionAt H)
theorem i_vc_addressAt {k : Nat} {u : SX} {v : SY} (I : i_Rel k u v) (hk : k + 4 ≤ 2052) (v1 : Int32) : wpX_addressAt (fun r u' => wpY_addressAt (fun r' => r' = r ∧ i_Rel (k + 4) u' v) v v1) u v1 :=
  I (fun u v => wpX_addressAt (fun r u' => wpY_addressAt (fun r' => r' = r ∧ i_Rel (k + 4) u' v) v v1) u v1) (fun H => ut_q_addressAt H)
theorem i_vc_reg {k : Nat} {u : SX} {v : SY} (I : i_Rel k u v) (hk : k + 4 ≤ 2052) (v1 : Int32) (v2 : Int32) : wpX_reg (fun r u' => wpY_reg (fun r' => r' = r ∧ i_Rel (k + 4) u' v) v v1 v2) u v1 v2 :=
  I (fun u v => wpX_reg (fun r u' => wpY_reg (fun r' => r' = r ∧ i_Rel (k + 4) u' v) v v1 v2) u v1 v2) (fun H => ut_q_reg H)
theorem i_vc_wordsAt {k : Nat} {u : SX} {v : SY} (I : i_Rel k u v) (hk : k + 4 ≤ 2052) (v1 : Int32) : wpX_wordsAt (fun r u' => wpY_wordsAt (fun r' => r' = r ∧ i_Rel (k + 4) u' v) v v1) u v1 :=
  I (fun u v => wpX_wordsAt (fun r u' => wpY_wordsAt (fun r' => r' = r ∧ i_Rel (k + 4) u' v) v v1) u v1) (fun H => ut_q_wordsAt H)
theorem i_vc_wordAt {k : Nat} {u : SX} {v : SY} (I : i_Rel k u v) (hk : k + 4 ≤ 2052) (v1 : Int32) (v2 : Int32) : wpX_wordAt (fun r u' => wpY_wordAt (fun r' => r' = r ∧ i_Rel (k + 4) u' v) v v1 v2) u v1 v2 :=
  I (fun u v => wpX_wordAt (fun r u' => wpY_wordAt (fun r' => r' = r ∧ i_Rel (k + 4) u' v) v v1 v2) u v1 v2) (fun H => ut_q_wordAt H)
theorem i_vc_kindAt {k : Nat} {u : SX} {v : SY} (I : i_Rel k u v) (hk : k + 4 ≤ 2052) (v1 : Int32) (v2 : Int32) : wpX_kindAt (fun r u' => wpY_kindAt (fun r' => r' = r ∧ i_Rel (k + 4) u' v) v v1 v2) u v1 v2 :=
  I (fun u v => wpX_kindAt (fun r u' => wpY_kindAt (fun r' => r' = r ∧ i_Rel (k + 4) u' v) v v1 v2) u v1 v2) (fun H => ut_q_kindAt H)
theorem i_vc_functions {k : Nat} {u : SX} {v : SY} (I : i_Rel k u v) (hk : k + 4 ≤ 2052) : wpX_functions (fun r => wpY_functions (fun r' => r' = r ∧ i_Rel (k + 4) u v) v) u :=
  I (fun u v => wpX_functions (fun r => wpY_functions (fun r' => r' = r ∧ i_Rel (k + 4) u v) v) u) (fun H => ut_q_functions H)
theorem i_vc_used {k : Nat} {u : SX} {v : SY} (I : i_Rel k u v) (hk : k + 4 ≤ 2052) : wpX_used (fun r => wpY_used (fun r' => r' = r ∧ i_Rel (k + 4) u v) v) u :=
  I (fun u v => wpX_used (fun r => wpY_used (fun r' => r' = r ∧ i_Rel (k + 4) u v) v) u) (fun H => ut_q_used H)
theorem i_vc_cell {k : Nat} {u : SX} {v : SY} (I : i_Rel k u v) (hk : k + 4 ≤ 2052) (v1 : Int32) (v2 : Int32) : wpX_cell (fun r => wpY_cell (fun r' => r' = r ∧ i_Rel (k + 4) u v) v v1 v2) u v1 v2 :=
  I (fun u v => wpX_cell (fun r => wpY_cell (fun r' => r' = r ∧ i_Rel (k + 4) u v) v v1 v2) u v1 v2) (fun H => ut_q_cell H)
end
