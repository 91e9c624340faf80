section
/-! pure rows to paste: stores, nI and lN arithmetic, masks, shifts, narrowing, branches by naturals (pk_le, pk_lt, pk_eq), loops (lp1 .. lp16: the measure of the state; rp1 ..: recursion), negatives. Take what you need -/
theorem pk_us {f : Nat → Int32} {k : Nat} {x : Int32} : upd f k x k = x := if_pos rfl
theorem pk_un {f : Nat → Int32} {k j : Nat} {x : Int32} (h : j ≠ k) : upd f k x j = f j := if_neg h
theorem pk_uLs {f : Nat → Int64} {k : Nat} {x : Int64} : vp_updL f k x k = x := if_pos rfl
theorem pk_uLn {f : Nat → Int64} {k j : Nat} {x : Int64} (h : j ≠ k) : vp_updL f k x j = f j := if_neg h
theorem pk_sub {a b : Nat} (h : b ≤ a) : nI a - nI b = nI (a - b) := by
  obtain ⟨c, rfl⟩ : ∃ c, a = c + b := ⟨a - b, by omega⟩
  rw [← nI_add, Int32.add_sub_cancel, Nat.add_sub_cancel]
theorem pk_m1 (n : Nat) : nI (n + 1) + (-1) = nI n := by
  rw [← nI_1, Int32.add_assoc, show (1 : Int32) + (-1) = 0 from rfl, Int32.add_zero]
theorem pk_mul (a b : Nat) : nI a * nI b = nI (a * b) := (Int32.ofNat_mul a b).symm
theorem pk_div {a d : Nat} (ha : a < 2 ^ 31) (h0 : 0 < d) (hd : d < 2 ^ 31) : nI a / nI d = nI (a / d) := by
  apply Int32.toInt_inj.mp
  rw [lg_idiv_nonneg (by rw [nI_toInt ha]; omega) (by rw [nI_toInt hd]; omega), nI_toInt ha, nI_toInt hd, nI_toInt (Nat.lt_of_le_of_lt (Nat.div_le_self a d) ha)]
  first | rfl | exact (Int.natCast_ediv _ _).symm
theorem pk_rem {a d : Nat} (ha : a < 2 ^ 31) (h0 : 0 < d) (hd : d < 2 ^ 31) : nI a - nI a / nI d * nI d = nI (a % d) := by
  rw [pk_div ha h0 hd, pk_mul, pk_sub (Nat.div_mul_le_self a d)]
  exact congrArg nI (by have := Nat.div_add_mod' a d; omega)
theorem pk_sub_toInt {a b : Nat} (ha : a < 2 ^ 30) (hb : b < 2 ^ 30) : (nI a - nI b).toInt = (a : Int) - b := by
  rw [Int32.toInt_sub, nI_toInt (by omega), nI_toInt (by omega)]
  exact Int.bmod_eq_of_le (by omega) (by omega)
theorem pk_sneg {a b : Nat} (hb : b < 2 ^ 30) (h : a < b) : nI a - nI b < 0 := by
  rw [Int32.lt_iff_toInt_lt, pk_sub_toInt (by omega) hb, show (0 : Int32).toInt = 0 from by decide]
  omega
theorem pk_ix (x : Int32) {n : Nat} (hn : n < 2 ^ 31) : x < 0 ∨ nI n ≤ x ∨ ∃ j : Nat, j < n ∧ x = nI j := by
  by_cases h : x < 0
  · exact Or.inl h
  · obtain ⟨j, hj, rfl⟩ := nI_of h
    by_cases h2 : j < n
    · exact Or.inr (Or.inr ⟨j, h2, rfl⟩)
    · exact Or.inr (Or.inl (nI_le (by omega) hj))
theorem pk_le {x y : Int32} {A B : Prop} (a b : Nat) (f : a ≤ b → A) (g : b < a → B) (hx : x = nI a := by rfl) (hy : y = nI b := by rfl) (ha : a < 2 ^ 31 := by omega) (hb : b < 2 ^ 31 := by omega) : (x ≤ y → A) ∧ (¬ x ≤ y → B) := by
  subst hx hy
  rw [nI_leI ha hb]
  exact ⟨f, fun z => g (by omega)⟩
theorem pk_lt {x y : Int32} {A B : Prop} (a b : Nat) (f : a < b → A) (g : b ≤ a → B) (hx : x = nI a := by rfl) (hy : y = nI b := by rfl) (ha : a < 2 ^ 31 := by omega) (hb : b < 2 ^ 31 := by omega) : (x < y → A) ∧ (¬ x < y → B) := by
  subst hx hy
  rw [nI_ltI ha hb]
  exact ⟨f, fun z => g (by omega)⟩
theorem pk_eq {x y : Int32} {A B : Prop} (a b : Nat) (f : a = b → A) (g : a ≠ b → B) (hx : x = nI a := by rfl) (hy : y = nI b := by rfl) (ha : a < 2 ^ 31 := by omega) (hb : b < 2 ^ 31 := by omega) : (x = y → A) ∧ (¬ x = y → B) := by
  subst hx hy
  rw [nI_eq ha hb]
  exact ⟨f, g⟩
theorem pk_in {x : Int32} (n N : Nat) (h : n < N) (hx : x = nI n := by rfl) (hN : N < 2 ^ 31 := by omega) : vp_in x N := by
  subst hx
  exact vp_in_nI h hN
theorem pk_cl {x : Int32} (n : Nat) (hx : x = nI n := by rfl) (h : n < 2 ^ 31 := by omega) : x.toNatClampNeg = n := by
  subst hx
  exact nI_clamp h
theorem pk_tn {n : Nat} (h : n < 2 ^ 32) : (nI n).toBitVec.toNat = n := Nat.mod_eq_of_lt h
theorem pk_and (x : Int32) {m : Int32} (k : Nat) (hm : m.toBitVec.toNat = 2 ^ k - 1) : x &&& m = nI (x.toBitVec.toNat % 2 ^ k) := by
  apply Int32.toBitVec_inj.mp
  apply BitVec.eq_of_toNat_eq
  rw [Int32.toBitVec_and, BitVec.toNat_and, hm, Nat.and_two_pow_sub_one_eq_mod]
  show _ = (BitVec.ofNat 32 _).toNat
  rw [BitVec.toNat_ofNat]
  exact (Nat.mod_eq_of_lt (Nat.lt_of_le_of_lt (Nat.mod_le _ _) x.toBitVec.isLt)).symm
theorem pk_andN {n : Nat} (h : n < 2 ^ 32) {m : Int32} (k : Nat) (hm : m.toBitVec.toNat = 2 ^ k - 1) : nI n &&& m = nI (n % 2 ^ k) := by
  rw [pk_and _ k hm, pk_tn h]
theorem pk_andE (x : Int32) {m : Int32} (k : Nat) (hm : m.toBitVec.toNat = 2 ^ k - 1) : ∃ j : Nat, j < 2 ^ k ∧ x &&& m = nI j := ⟨_, Nat.mod_lt _ (Nat.two_pow_pos k), pk_and x k hm⟩
theorem pk_andIn (x : Int32) {m : Int32} (k : Nat) (hm : m.toBitVec.toNat = 2 ^ k - 1) (hk : k ≤ 30) : vp_in (x &&& m) (2 ^ k) := by
  obtain ⟨j, hj, e⟩ := pk_andE x k hm
  rw [e]
  exact vp_in_nI hj (Nat.lt_of_le_of_lt (Nat.pow_le_pow_right (by decide) hk) (by decide))
theorem pk_shl (a s : Int32) (k : Nat) (hs : (s.toBitVec.smod 32).toNat = k) : (a <<< s).toBitVec.toNat = a.toBitVec.toNat * 2 ^ k % 2 ^ 32 := by
  show (a.toBitVec <<< (s.toBitVec.smod 32).toNat).toNat = _
  rw [hs, BitVec.toNat_shiftLeft, Nat.shiftLeft_eq]
theorem pk_shlN {n : Nat} (s : Int32) (k : Nat) (hs : (s.toBitVec.smod 32).toNat = k) (h : n * 2 ^ k < 2 ^ 32) : nI n <<< s = nI (n * 2 ^ k) := by
  apply Int32.toBitVec_inj.mp
  apply BitVec.eq_of_toNat_eq
  have hn : n < 2 ^ 32 := Nat.lt_of_le_of_lt (Nat.le_mul_of_pos_right n (Nat.two_pow_pos k)) h
  rw [pk_shl _ _ k hs, pk_tn hn, pk_tn h, Nat.mod_eq_of_lt h]
theorem pk_shr (a s : Int32) (k : Nat) (hs : (s.toBitVec.smod 32).toNat = k) : (a >>> s).toInt = a.toInt >>> k := by
  show (a.toBitVec.sshiftRight (s.toBitVec.smod 32).toNat).toInt = _
  rw [hs, BitVec.toInt_sshiftRight]
  rfl
theorem pk_shrN {n : Nat} (h : n < 2 ^ 31) (s : Int32) (k : Nat) (hs : (s.toBitVec.smod 32).toNat = k) : nI n >>> s = nI (n / 2 ^ k) := by
  apply Int32.toInt_inj.mp
  have h2 : n / 2 ^ k ≤ n := Nat.div_le_self _ _
  rw [pk_shr _ _ k hs, nI_toInt h, nI_toInt (by omega), Int.shiftRight_eq_div_pow]
  rfl
theorem pk_ushr (x s : Int32) (k : Nat) (hs : ((s.toUInt32 &&& Int32.toUInt32 31).toBitVec % 32).toNat = k) : (x.toUInt32 >>> (s.toUInt32 &&& Int32.toUInt32 31)).toInt32.toBitVec.toNat = x.toBitVec.toNat / 2 ^ k := by
  have e : (x.toUInt32 >>> (s.toUInt32 &&& Int32.toUInt32 31)).toInt32.toBitVec = x.toBitVec >>> k := by
    rw [← hs]
    exact UInt32.toBitVec_shiftRight _ _
  rw [e, BitVec.toNat_ushiftRight, Nat.shiftRight_eq_div_pow]
theorem pk_ushrN {n : Nat} (hn : n < 2 ^ 32) (s : Int32) (k : Nat) (hs : ((s.toUInt32 &&& Int32.toUInt32 31).toBitVec % 32).toNat = k) : ((nI n).toUInt32 >>> (s.toUInt32 &&& Int32.toUInt32 31)).toInt32 = nI (n / 2 ^ k) := by
  apply Int32.toBitVec_inj.mp
  apply BitVec.eq_of_toNat_eq
  rw [pk_ushr _ s k hs, pk_tn hn, pk_tn (Nat.lt_of_le_of_lt (Nat.div_le_self _ _) hn)]
theorem pk_nb (z : Int32) : narrow .byte (.int z.toInt8.toInt32) = .int z.toInt8.toInt32 := congrArg Value.int (by simp)
theorem pk_ns (z : Int32) : narrow .short (.int z.toInt16.toInt32) = .int z.toInt16.toInt32 := congrArg Value.int (by simp)
theorem pk_fb (r : Int32) : fits .byte (.int r.toInt8.toInt32) = true := by
  have ⟨a, b⟩ := lg_i2b_range r
  have h1 : (-128 : Int32).toInt = -128 := by decide
  have h2 : (127 : Int32).toInt = 127 := by decide
  simp only [fits, Bool.and_eq_true, decide_eq_true_eq, Int32.le_iff_toInt_le, h1, h2]
  omega
theorem pk_fs (r : Int32) : fits .short (.int r.toInt16.toInt32) = true := by
  have ⟨a, b⟩ := lg_i2s_range r
  have h1 : (-32768 : Int32).toInt = -32768 := by decide
  have h2 : (32767 : Int32).toInt = 32767 := by decide
  simp only [fits, Bool.and_eq_true, decide_eq_true_eq, Int32.le_iff_toInt_le, h1, h2]
  omega
theorem pk_charN {q : Nat} (hq : q < 65536) : narrow .char (.int (nI q)) = .int (nI q) ∧ fits .char (.int (nI q)) = true := by
  constructor
  · have e : (nI q).toUInt32.toUInt16.toUInt32.toInt32 = nI q := by
      apply Int32.toBitVec_inj.mp
      apply BitVec.eq_of_toNat_eq
      show (nI q).toUInt32.toUInt16.toUInt32.toNat = q % 2 ^ 32
      rw [UInt16.toNat_toUInt32, UInt32.toNat_toUInt16, show (nI q).toUInt32.toNat = q % 2 ^ 32 from rfl]
      omega
    exact congrArg Value.int e
  · have a : (0 : Int32) ≤ nI q := nI_pos' (by omega)
    have b : nI q ≤ 65535 := nI_le (b := 65535) (by omega) (by decide)
    show (decide ((0 : Int32) ≤ nI q) && decide (nI q ≤ 65535)) = true
    rw [decide_eq_true a, decide_eq_true b]
    rfl
theorem pk_char (x : Int32) : (x.toUInt32 % 65536).toInt32 = nI (x.toBitVec.toNat % 65536) := by
  apply Int32.toBitVec_inj.mp
  apply BitVec.eq_of_toNat_eq
  rw [pk_tn (by omega)]
  show (x.toUInt32 % 65536).toNat = _
  rw [UInt32.toNat_mod]
  rfl
theorem pk_nc (x : Int32) : narrow .char (.int (x.toUInt32 % 65536).toInt32) = .int (x.toUInt32 % 65536).toInt32 := by
  rw [pk_char]
  exact (pk_charN (Nat.mod_lt _ (by decide))).1
theorem pk_fc (x : Int32) : fits .char (.int (x.toUInt32 % 65536).toInt32) = true := by
  rw [pk_char]
  exact (pk_charN (Nat.mod_lt _ (by decide))).2
theorem pk_vb (z : Int32) : vp_nar .byte z.toInt8.toInt32 = z.toInt8.toInt32 := by rw [vp_nar_byte]; simp
theorem pk_vs (z : Int32) : vp_nar .short z.toInt16.toInt32 = z.toInt16.toInt32 := by rw [vp_nar_short]; simp
theorem pk_vc (z : Int32) : vp_nar .char (z.toUInt32 % 65536).toInt32 = (z.toUInt32 % 65536).toInt32 := Value.int.inj (pk_nc z)
theorem pk_lT {n : Nat} (h : n < 2 ^ 63) : (lN n).toInt = (n : Int) := lg_ofNat_toInt h
theorem pk_lLT {a b : Nat} (ha : a < 2 ^ 63) (hb : b < 2 ^ 63) : lN a < lN b ↔ a < b := by
  rw [Int64.lt_iff_toInt_lt, pk_lT ha, pk_lT hb]; omega
theorem pk_lLE {a b : Nat} (ha : a < 2 ^ 63) (hb : b < 2 ^ 63) : lN a ≤ lN b ↔ a ≤ b := by
  rw [Int64.le_iff_toInt_le, pk_lT ha, pk_lT hb]; omega
theorem pk_lEQ {a b : Nat} (ha : a < 2 ^ 63) (hb : b < 2 ^ 63) : lN a = lN b ↔ a = b := by
  rw [← Int64.toInt_inj, pk_lT ha, pk_lT hb]; omega
theorem pk_lOf {x : Int64} (h : ¬ x < 0) : ∃ k : Nat, k < 2 ^ 63 ∧ x = lN k := by
  rw [Int64.lt_iff_toInt_lt] at h
  have h0 : (0 : Int64).toInt = 0 := by decide
  have hx := Int64.toInt_lt x
  refine ⟨x.toInt.toNat, by omega, Int64.toInt_inj.mp ?_⟩
  rw [pk_lT (by omega)]
  omega
theorem pk_lDiv {a b : Nat} (ha : a < 2 ^ 63) (h0 : 0 < b) (hb : b < 2 ^ 63) : lN a / lN b = lN (a / b) := by
  apply Int64.toInt_inj.mp
  rw [lg_ldiv_nonneg (by rw [pk_lT ha]; omega) (by rw [pk_lT hb]; omega), pk_lT ha, pk_lT hb, pk_lT (Nat.lt_of_le_of_lt (Nat.div_le_self a b) ha)]
  rfl
theorem pk_lRem {a b : Nat} (ha : a < 2 ^ 63) (h0 : 0 < b) (hb : b < 2 ^ 63) : lN a - lN a / lN b * lN b = lN (a % b) := by
  rw [pk_lDiv ha h0 hb, lN_mul, lN_sub (Nat.div_mul_le_self a b)]
  exact congrArg lN (by have := Nat.div_add_mod' a b; omega)
theorem pk_loop {σ : Type} (W : Nat → Nat → σ → Prop) (I : Nat → σ → Prop) (e i0 : Nat) (s : σ) (hi : i0 ≤ e) (h0 : I i0 s) (hx : ∀ n s, I e s → W (n + 1) e s)
    (hs : ∀ n i s, i < e → I i s → (∀ s', I (i + 1) s' → W n (i + 1) s') → W (n + 1) i s) : ∃ n, W n i0 s :=
  ⟨e + 1, loop_i W I e hx hs (e + 1) i0 s hi (by omega) h0⟩
theorem pk_loopD {σ : Type} (W : Nat → Nat → σ → Prop) (I : Nat → σ → Prop) (hx : ∀ n s, I 0 s → W (n + 1) 0 s)
    (hs : ∀ n i s, I (i + 1) s → (∀ s', I i s' → W n i s') → W (n + 1) (i + 1) s) : ∀ (e : Nat) (s : σ), I e s → W (e + 1) e s := by
  intro e
  induction e with
  | zero => exact fun s h => hx 0 s h
  | succ e ih => exact fun s h => hs (e + 1) e s h (fun s' h' => ih s' h')
theorem lp1 {A1 : Type} (W : Nat → A1 → Prop) (I : A1 → Prop) (μ : A1 → Nat) (hs : ∀ (n : Nat) (a1 : A1), I a1 → (∀ (b1 : A1), I b1 → μ b1 < μ a1 → W n b1) → W (n + 1) a1) (a1 : A1) (h : I a1) : ∃ n, W n a1 :=
  loop_m (σ := A1) (fun n s => W n s) (fun s => I s) (fun s => μ s) (fun n s hI hk => hs n s hI (fun b1 h9 hm => hk b1 h9 hm)) a1 h
theorem lp2 {A1 A2 : Type} (W : Nat → A1 → A2 → Prop) (I : A1 → A2 → Prop) (μ : A1 → A2 → Nat) (hs : ∀ (n : Nat) (a1 : A1) (a2 : A2), I a1 a2 → (∀ (b1 : A1) (b2 : A2), I b1 b2 → μ b1 b2 < μ a1 a2 → W n b1 b2) → W (n + 1) a1 a2) (a1 : A1) (a2 : A2) (h : I a1 a2) : ∃ n, W n a1 a2 :=
  loop_m (σ := A1 × A2) (fun n s => W n s.1 s.2) (fun s => I s.1 s.2) (fun s => μ s.1 s.2) (fun n s hI hk => hs n s.1 s.2 hI (fun b1 b2 h9 hm => hk (b1, b2) h9 hm)) (a1, a2) h
theorem lp3 {A1 A2 A3 : Type} (W : Nat → A1 → A2 → A3 → Prop) (I : A1 → A2 → A3 → Prop) (μ : A1 → A2 → A3 → Nat) (hs : ∀ (n : Nat) (a1 : A1) (a2 : A2) (a3 : A3), I a1 a2 a3 → (∀ (b1 : A1) (b2 : A2) (b3 : A3), I b1 b2 b3 → μ b1 b2 b3 < μ a1 a2 a3 → W n b1 b2 b3) → W (n + 1) a1 a2 a3) (a1 : A1) (a2 : A2) (a3 : A3) (h : I a1 a2 a3) : ∃ n, W n a1 a2 a3 :=
  loop_m (σ := A1 × A2 × A3) (fun n s => W n s.1 s.2.1 s.2.2) (fun s => I s.1 s.2.1 s.2.2) (fun s => μ s.1 s.2.1 s.2.2) (fun n s hI hk => hs n s.1 s.2.1 s.2.2 hI (fun b1 b2 b3 h9 hm => hk (b1, b2, b3) h9 hm)) (a1, a2, a3) h
theorem lp4 {A1 A2 A3 A4 : Type} (W : Nat → A1 → A2 → A3 → A4 → Prop) (I : A1 → A2 → A3 → A4 → Prop) (μ : A1 → A2 → A3 → A4 → Nat) (hs : ∀ (n : Nat) (a1 : A1) (a2 : A2) (a3 : A3) (a4 : A4), I a1 a2 a3 a4 → (∀ (b1 : A1) (b2 : A2) (b3 : A3) (b4 : A4), I b1 b2 b3 b4 → μ b1 b2 b3 b4 < μ a1 a2 a3 a4 → W n b1 b2 b3 b4) → W (n + 1) a1 a2 a3 a4) (a1 : A1) (a2 : A2) (a3 : A3) (a4 : A4) (h : I a1 a2 a3 a4) : ∃ n, W n a1 a2 a3 a4 :=
  loop_m (σ := A1 × A2 × A3 × A4) (fun n s => W n s.1 s.2.1 s.2.2.1 s.2.2.2) (fun s => I s.1 s.2.1 s.2.2.1 s.2.2.2) (fun s => μ s.1 s.2.1 s.2.2.1 s.2.2.2) (fun n s hI hk => hs n s.1 s.2.1 s.2.2.1 s.2.2.2 hI (fun b1 b2 b3 b4 h9 hm => hk (b1, b2, b3, b4) h9 hm)) (a1, a2, a3, a4) h
theorem lp5 {A1 A2 A3 A4 A5 : Type} (W : Nat → A1 → A2 → A3 → A4 → A5 → Prop) (I : A1 → A2 → A3 → A4 → A5 → Prop) (μ : A1 → A2 → A3 → A4 → A5 → Nat) (hs : ∀ (n : Nat) (a1 : A1) (a2 : A2) (a3 : A3) (a4 : A4) (a5 : A5), I a1 a2 a3 a4 a5 → (∀ (b1 : A1) (b2 : A2) (b3 : A3) (b4 : A4) (b5 : A5), I b1 b2 b3 b4 b5 → μ b1 b2 b3 b4 b5 < μ a1 a2 a3 a4 a5 → W n b1 b2 b3 b4 b5) → W (n + 1) a1 a2 a3 a4 a5) (a1 : A1) (a2 : A2) (a3 : A3) (a4 : A4) (a5 : A5) (h : I a1 a2 a3 a4 a5) : ∃ n, W n a1 a2 a3 a4 a5 :=
  loop_m (σ := A1 × A2 × A3 × A4 × A5) (fun n s => W n s.1 s.2.1 s.2.2.1 s.2.2.2.1 s.2.2.2.2) (fun s => I s.1 s.2.1 s.2.2.1 s.2.2.2.1 s.2.2.2.2) (fun s => μ s.1 s.2.1 s.2.2.1 s.2.2.2.1 s.2.2.2.2) (fun n s hI hk => hs n s.1 s.2.1 s.2.2.1 s.2.2.2.1 s.2.2.2.2 hI (fun b1 b2 b3 b4 b5 h9 hm => hk (b1, b2, b3, b4, b5) h9 hm)) (a1, a2, a3, a4, a5) h
theorem lp6 {A1 A2 A3 A4 A5 A6 : Type} (W : Nat → A1 → A2 → A3 → A4 → A5 → A6 → Prop) (I : A1 → A2 → A3 → A4 → A5 → A6 → Prop) (μ : A1 → A2 → A3 → A4 → A5 → A6 → Nat) (hs : ∀ (n : Nat) (a1 : A1) (a2 : A2) (a3 : A3) (a4 : A4) (a5 : A5) (a6 : A6), I a1 a2 a3 a4 a5 a6 → (∀ (b1 : A1) (b2 : A2) (b3 : A3) (b4 : A4) (b5 : A5) (b6 : A6), I b1 b2 b3 b4 b5 b6 → μ b1 b2 b3 b4 b5 b6 < μ a1 a2 a3 a4 a5 a6 → W n b1 b2 b3 b4 b5 b6) → W (n + 1) a1 a2 a3 a4 a5 a6) (a1 : A1) (a2 : A2) (a3 : A3) (a4 : A4) (a5 : A5) (a6 : A6) (h : I a1 a2 a3 a4 a5 a6) : ∃ n, W n a1 a2 a3 a4 a5 a6 :=
  loop_m (σ := A1 × A2 × A3 × A4 × A5 × A6) (fun n s => W n s.1 s.2.1 s.2.2.1 s.2.2.2.1 s.2.2.2.2.1 s.2.2.2.2.2) (fun s => I s.1 s.2.1 s.2.2.1 s.2.2.2.1 s.2.2.2.2.1 s.2.2.2.2.2) (fun s => μ s.1 s.2.1 s.2.2.1 s.2.2.2.1 s.2.2.2.2.1 s.2.2.2.2.2) (fun n s hI hk => hs n s.1 s.2.1 s.2.2.1 s.2.2.2.1 s.2.2.2.2.1 s.2.2.2.2.2 hI (fun b1 b2 b3 b4 b5 b6 h9 hm => hk (b1, b2, b3, b4, b5, b6) h9 hm)) (a1, a2, a3, a4, a5, a6) h
theorem lp7 {A1 A2 A3 A4 A5 A6 A7 : Type} (W : Nat → A1 → A2 → A3 → A4 → A5 → A6 → A7 → Prop) (I : A1 → A2 → A3 → A4 → A5 → A6 → A7 → Prop) (μ : A1 → A2 → A3 → A4 → A5 → A6 → A7 → Nat) (hs : ∀ (n : Nat) (a1 : A1) (a2 : A2) (a3 : A3) (a4 : A4) (a5 : A5) (a6 : A6) (a7 : A7), I a1 a2 a3 a4 a5 a6 a7 → (∀ (b1 : A1) (b2 : A2) (b3 : A3) (b4 : A4) (b5 : A5) (b6 : A6) (b7 : A7), I b1 b2 b3 b4 b5 b6 b7 → μ b1 b2 b3 b4 b5 b6 b7 < μ a1 a2 a3 a4 a5 a6 a7 → W n b1 b2 b3 b4 b5 b6 b7) → W (n + 1) a1 a2 a3 a4 a5 a6 a7) (a1 : A1) (a2 : A2) (a3 : A3) (a4 : A4) (a5 : A5) (a6 : A6) (a7 : A7) (h : I a1 a2 a3 a4 a5 a6 a7) : ∃ n, W n a1 a2 a3 a4 a5 a6 a7 :=
  loop_m (σ := A1 × A2 × A3 × A4 × A5 × A6 × A7) (fun n s => W n s.1 s.2.1 s.2.2.1 s.2.2.2.1 s.2.2.2.2.1 s.2.2.2.2.2.1 s.2.2.2.2.2.2) (fun s => I s.1 s.2.1 s.2.2.1 s.2.2.2.1 s.2.2.2.2.1 s.2.2.2.2.2.1 s.2.2.2.2.2.2) (fun s => μ s.1 s.2.1 s.2.2.1 s.2.2.2.1 s.2.2.2.2.1 s.2.2.2.2.2.1 s.2.2.2.2.2.2) (fun n s hI hk => hs n s.1 s.2.1 s.2.2.1 s.2.2.2.1 s.2.2.2.2.1 s.2.2.2.2.2.1 s.2.2.2.2.2.2 hI (fun b1 b2 b3 b4 b5 b6 b7 h9 hm => hk (b1, b2, b3, b4, b5, b6, b7) h9 hm)) (a1, a2, a3, a4, a5, a6, a7) h
theorem lp8 {A1 A2 A3 A4 A5 A6 A7 A8 : Type} (W : Nat → A1 → A2 → A3 → A4 → A5 → A6 → A7 → A8 → Prop) (I : A1 → A2 → A3 → A4 → A5 → A6 → A7 → A8 → Prop) (μ : A1 → A2 → A3 → A4 → A5 → A6 → A7 → A8 → Nat) (hs : ∀ (n : Nat) (a1 : A1) (a2 : A2) (a3 : A3) (a4 : A4) (a5 : A5) (a6 : A6) (a7 : A7) (a8 : A8), I a1 a2 a3 a4 a5 a6 a7 a8 → (∀ (b1 : A1) (b2 : A2) (b3 : A3) (b4 : A4) (b5 : A5) (b6 : A6) (b7 : A7) (b8 : A8), I b1 b2 b3 b4 b5 b6 b7 b8 → μ b1 b2 b3 b4 b5 b6 b7 b8 < μ a1 a2 a3 a4 a5 a6 a7 a8 → W n b1 b2 b3 b4 b5 b6 b7 b8) → W (n + 1) a1 a2 a3 a4 a5 a6 a7 a8) (a1 : A1) (a2 : A2) (a3 : A3) (a4 : A4) (a5 : A5) (a6 : A6) (a7 : A7) (a8 : A8) (h : I a1 a2 a3 a4 a5 a6 a7 a8) : ∃ n, W n a1 a2 a3 a4 a5 a6 a7 a8 :=
  loop_m (σ := A1 × A2 × A3 × A4 × A5 × A6 × A7 × A8) (fun n s => W n s.1 s.2.1 s.2.2.1 s.2.2.2.1 s.2.2.2.2.1 s.2.2.2.2.2.1 s.2.2.2.2.2.2.1 s.2.2.2.2.2.2.2) (fun s => I s.1 s.2.1 s.2.2.1 s.2.2.2.1 s.2.2.2.2.1 s.2.2.2.2.2.1 s.2.2.2.2.2.2.1 s.2.2.2.2.2.2.2) (fun s => μ s.1 s.2.1 s.2.2.1 s.2.2.2.1 s.2.2.2.2.1 s.2.2.2.2.2.1 s.2.2.2.2.2.2.1 s.2.2.2.2.2.2.2) (fun n s hI hk => hs n s.1 s.2.1 s.2.2.1 s.2.2.2.1 s.2.2.2.2.1 s.2.2.2.2.2.1 s.2.2.2.2.2.2.1 s.2.2.2.2.2.2.2 hI (fun b1 b2 b3 b4 b5 b6 b7 b8 h9 hm => hk (b1, b2, b3, b4, b5, b6, b7, b8) h9 hm)) (a1, a2, a3, a4, a5, a6, a7, a8) h
theorem lp9 {A1 A2 A3 A4 A5 A6 A7 A8 A9 : Type} (W : Nat → A1 → A2 → A3 → A4 → A5 → A6 → A7 → A8 → A9 → Prop) (I : A1 → A2 → A3 → A4 → A5 → A6 → A7 → A8 → A9 → Prop) (μ : A1 → A2 → A3 → A4 → A5 → A6 → A7 → A8 → A9 → Nat) (hs : ∀ (n : Nat) (a1 : A1) (a2 : A2) (a3 : A3) (a4 : A4) (a5 : A5) (a6 : A6) (a7 : A7) (a8 : A8) (a9 : A9), I a1 a2 a3 a4 a5 a6 a7 a8 a9 → (∀ (b1 : A1) (b2 : A2) (b3 : A3) (b4 : A4) (b5 : A5) (b6 : A6) (b7 : A7) (b8 : A8) (b9 : A9), I b1 b2 b3 b4 b5 b6 b7 b8 b9 → μ b1 b2 b3 b4 b5 b6 b7 b8 b9 < μ a1 a2 a3 a4 a5 a6 a7 a8 a9 → W n b1 b2 b3 b4 b5 b6 b7 b8 b9) → W (n + 1) a1 a2 a3 a4 a5 a6 a7 a8 a9) (a1 : A1) (a2 : A2) (a3 : A3) (a4 : A4) (a5 : A5) (a6 : A6) (a7 : A7) (a8 : A8) (a9 : A9) (h : I a1 a2 a3 a4 a5 a6 a7 a8 a9) : ∃ n, W n a1 a2 a3 a4 a5 a6 a7 a8 a9 :=
  loop_m (σ := A1 × A2 × A3 × A4 × A5 × A6 × A7 × A8 × A9) (fun n s => W n s.1 s.2.1 s.2.2.1 s.2.2.2.1 s.2.2.2.2.1 s.2.2.2.2.2.1 s.2.2.2.2.2.2.1 s.2.2.2.2.2.2.2.1 s.2.2.2.2.2.2.2.2) (fun s => I s.1 s.2.1 s.2.2.1 s.2.2.2.1 s.2.2.2.2.1 s.2.2.2.2.2.1 s.2.2.2.2.2.2.1 s.2.2.2.2.2.2.2.1 s.2.2.2.2.2.2.2.2) (fun s => μ s.1 s.2.1 s.2.2.1 s.2.2.2.1 s.2.2.2.2.1 s.2.2.2.2.2.1 s.2.2.2.2.2.2.1 s.2.2.2.2.2.2.2.1 s.2.2.2.2.2.2.2.2) (fun n s hI hk => hs n s.1 s.2.1 s.2.2.1 s.2.2.2.1 s.2.2.2.2.1 s.2.2.2.2.2.1 s.2.2.2.2.2.2.1 s.2.2.2.2.2.2.2.1 s.2.2.2.2.2.2.2.2 hI (fun b1 b2 b3 b4 b5 b6 b7 b8 b9 h9 hm => hk (b1, b2, b3, b4, b5, b6, b7, b8, b9) h9 hm)) (a1, a2, a3, a4, a5, a6, a7, a8, a9) h
theorem lp10 {A1 A2 A3 A4 A5 A6 A7 A8 A9 A10 : Type} (W : Nat → A1 → A2 → A3 → A4 → A5 → A6 → A7 → A8 → A9 → A10 → Prop) (I : A1 → A2 → A3 → A4 → A5 → A6 → A7 → A8 → A9 → A10 → Prop) (μ : A1 → A2 → A3 → A4 → A5 → A6 → A7 → A8 → A9 → A10 → Nat) (hs : ∀ (n : Nat) (a1 : A1) (a2 : A2) (a3 : A3) (a4 : A4) (a5 : A5) (a6 : A6) (a7 : A7) (a8 : A8) (a9 : A9) (a10 : A10), I a1 a2 a3 a4 a5 a6 a7 a8 a9 a10 → (∀ (b1 : A1) (b2 : A2) (b3 : A3) (b4 : A4) (b5 : A5) (b6 : A6) (b7 : A7) (b8 : A8) (b9 : A9) (b10 : A10), I b1 b2 b3 b4 b5 b6 b7 b8 b9 b10 → μ b1 b2 b3 b4 b5 b6 b7 b8 b9 b10 < μ a1 a2 a3 a4 a5 a6 a7 a8 a9 a10 → W n b1 b2 b3 b4 b5 b6 b7 b8 b9 b10) → W (n + 1) a1 a2 a3 a4 a5 a6 a7 a8 a9 a10) (a1 : A1) (a2 : A2) (a3 : A3) (a4 : A4) (a5 : A5) (a6 : A6) (a7 : A7) (a8 : A8) (a9 : A9) (a10 : A10) (h : I a1 a2 a3 a4 a5 a6 a7 a8 a9 a10) : ∃ n, W n a1 a2 a3 a4 a5 a6 a7 a8 a9 a10 :=
  loop_m (σ := A1 × A2 × A3 × A4 × A5 × A6 × A7 × A8 × A9 × A10) (fun n s => W n s.1 s.2.1 s.2.2.1 s.2.2.2.1 s.2.2.2.2.1 s.2.2.2.2.2.1 s.2.2.2.2.2.2.1 s.2.2.2.2.2.2.2.1 s.2.2.2.2.2.2.2.2.1 s.2.2.2.2.2.2.2.2.2) (fun s => I s.1 s.2.1 s.2.2.1 s.2.2.2.1 s.2.2.2.2.1 s.2.2.2.2.2.1 s.2.2.2.2.2.2.1 s.2.2.2.2.2.2.2.1 s.2.2.2.2.2.2.2.2.1 s.2.2.2.2.2.2.2.2.2) (fun s => μ s.1 s.2.1 s.2.2.1 s.2.2.2.1 s.2.2.2.2.1 s.2.2.2.2.2.1 s.2.2.2.2.2.2.1 s.2.2.2.2.2.2.2.1 s.2.2.2.2.2.2.2.2.1 s.2.2.2.2.2.2.2.2.2) (fun n s hI hk => hs n s.1 s.2.1 s.2.2.1 s.2.2.2.1 s.2.2.2.2.1 s.2.2.2.2.2.1 s.2.2.2.2.2.2.1 s.2.2.2.2.2.2.2.1 s.2.2.2.2.2.2.2.2.1 s.2.2.2.2.2.2.2.2.2 hI (fun b1 b2 b3 b4 b5 b6 b7 b8 b9 b10 h9 hm => hk (b1, b2, b3, b4, b5, b6, b7, b8, b9, b10) h9 hm)) (a1, a2, a3, a4, a5, a6, a7, a8, a9, a10) h
theorem lp11 {A1 A2 A3 A4 A5 A6 A7 A8 A9 A10 A11 : Type} (W : Nat → A1 → A2 → A3 → A4 → A5 → A6 → A7 → A8 → A9 → A10 → A11 → Prop) (I : A1 → A2 → A3 → A4 → A5 → A6 → A7 → A8 → A9 → A10 → A11 → Prop) (μ : A1 → A2 → A3 → A4 → A5 → A6 → A7 → A8 → A9 → A10 → A11 → Nat) (hs : ∀ (n : Nat) (a1 : A1) (a2 : A2) (a3 : A3) (a4 : A4) (a5 : A5) (a6 : A6) (a7 : A7) (a8 : A8) (a9 : A9) (a10 : A10) (a11 : A11), I a1 a2 a3 a4 a5 a6 a7 a8 a9 a10 a11 → (∀ (b1 : A1) (b2 : A2) (b3 : A3) (b4 : A4) (b5 : A5) (b6 : A6) (b7 : A7) (b8 : A8) (b9 : A9) (b10 : A10) (b11 : A11), I b1 b2 b3 b4 b5 b6 b7 b8 b9 b10 b11 → μ b1 b2 b3 b4 b5 b6 b7 b8 b9 b10 b11 < μ a1 a2 a3 a4 a5 a6 a7 a8 a9 a10 a11 → W n b1 b2 b3 b4 b5 b6 b7 b8 b9 b10 b11) → W (n + 1) a1 a2 a3 a4 a5 a6 a7 a8 a9 a10 a11) (a1 : A1) (a2 : A2) (a3 : A3) (a4 : A4) (a5 : A5) (a6 : A6) (a7 : A7) (a8 : A8) (a9 : A9) (a10 : A10) (a11 : A11) (h : I a1 a2 a3 a4 a5 a6 a7 a8 a9 a10 a11) : ∃ n, W n a1 a2 a3 a4 a5 a6 a7 a8 a9 a10 a11 :=
  loop_m (σ := A1 × A2 × A3 × A4 × A5 × A6 × A7 × A8 × A9 × A10 × A11) (fun n s => W n s.1 s.2.1 s.2.2.1 s.2.2.2.1 s.2.2.2.2.1 s.2.2.2.2.2.1 s.2.2.2.2.2.2.1 s.2.2.2.2.2.2.2.1 s.2.2.2.2.2.2.2.2.1 s.2.2.2.2.2.2.2.2.2.1 s.2.2.2.2.2.2.2.2.2.2) (fun s => I s.1 s.2.1 s.2.2.1 s.2.2.2.1 s.2.2.2.2.1 s.2.2.2.2.2.1 s.2.2.2.2.2.2.1 s.2.2.2.2.2.2.2.1 s.2.2.2.2.2.2.2.2.1 s.2.2.2.2.2.2.2.2.2.1 s.2.2.2.2.2.2.2.2.2.2) (fun s => μ s.1 s.2.1 s.2.2.1 s.2.2.2.1 s.2.2.2.2.1 s.2.2.2.2.2.1 s.2.2.2.2.2.2.1 s.2.2.2.2.2.2.2.1 s.2.2.2.2.2.2.2.2.1 s.2.2.2.2.2.2.2.2.2.1 s.2.2.2.2.2.2.2.2.2.2) (fun n s hI hk => hs n s.1 s.2.1 s.2.2.1 s.2.2.2.1 s.2.2.2.2.1 s.2.2.2.2.2.1 s.2.2.2.2.2.2.1 s.2.2.2.2.2.2.2.1 s.2.2.2.2.2.2.2.2.1 s.2.2.2.2.2.2.2.2.2.1 s.2.2.2.2.2.2.2.2.2.2 hI (fun b1 b2 b3 b4 b5 b6 b7 b8 b9 b10 b11 h9 hm => hk (b1, b2, b3, b4, b5, b6, b7, b8, b9, b10, b11) h9 hm)) (a1, a2, a3, a4, a5, a6, a7, a8, a9, a10, a11) h
theorem lp12 {A1 A2 A3 A4 A5 A6 A7 A8 A9 A10 A11 A12 : Type} (W : Nat → A1 → A2 → A3 → A4 → A5 → A6 → A7 → A8 → A9 → A10 → A11 → A12 → Prop) (I : A1 → A2 → A3 → A4 → A5 → A6 → A7 → A8 → A9 → A10 → A11 → A12 → Prop) (μ : A1 → A2 → A3 → A4 → A5 → A6 → A7 → A8 → A9 → A10 → A11 → A12 → Nat) (hs : ∀ (n : Nat) (a1 : A1) (a2 : A2) (a3 : A3) (a4 : A4) (a5 : A5) (a6 : A6) (a7 : A7) (a8 : A8) (a9 : A9) (a10 : A10) (a11 : A11) (a12 : A12), I a1 a2 a3 a4 a5 a6 a7 a8 a9 a10 a11 a12 → (∀ (b1 : A1) (b2 : A2) (b3 : A3) (b4 : A4) (b5 : A5) (b6 : A6) (b7 : A7) (b8 : A8) (b9 : A9) (b10 : A10) (b11 : A11) (b12 : A12), I b1 b2 b3 b4 b5 b6 b7 b8 b9 b10 b11 b12 → μ b1 b2 b3 b4 b5 b6 b7 b8 b9 b10 b11 b12 < μ a1 a2 a3 a4 a5 a6 a7 a8 a9 a10 a11 a12 → W n b1 b2 b3 b4 b5 b6 b7 b8 b9 b10 b11 b12) → W (n + 1) a1 a2 a3 a4 a5 a6 a7 a8 a9 a10 a11 a12) (a1 : A1) (a2 : A2) (a3 : A3) (a4 : A4) (a5 : A5) (a6 : A6) (a7 : A7) (a8 : A8) (a9 : A9) (a10 : A10) (a11 : A11) (a12 : A12) (h : I a1 a2 a3 a4 a5 a6 a7 a8 a9 a10 a11 a12) : ∃ n, W n a1 a2 a3 a4 a5 a6 a7 a8 a9 a10 a11 a12 :=
  loop_m (σ := A1 × A2 × A3 × A4 × A5 × A6 × A7 × A8 × A9 × A10 × A11 × A12) (fun n s => W n s.1 s.2.1 s.2.2.1 s.2.2.2.1 s.2.2.2.2.1 s.2.2.2.2.2.1 s.2.2.2.2.2.2.1 s.2.2.2.2.2.2.2.1 s.2.2.2.2.2.2.2.2.1 s.2.2.2.2.2.2.2.2.2.1 s.2.2.2.2.2.2.2.2.2.2.1 s.2.2.2.2.2.2.2.2.2.2.2) (fun s => I s.1 s.2.1 s.2.2.1 s.2.2.2.1 s.2.2.2.2.1 s.2.2.2.2.2.1 s.2.2.2.2.2.2.1 s.2.2.2.2.2.2.2.1 s.2.2.2.2.2.2.2.2.1 s.2.2.2.2.2.2.2.2.2.1 s.2.2.2.2.2.2.2.2.2.2.1 s.2.2.2.2.2.2.2.2.2.2.2) (fun s => μ s.1 s.2.1 s.2.2.1 s.2.2.2.1 s.2.2.2.2.1 s.2.2.2.2.2.1 s.2.2.2.2.2.2.1 s.2.2.2.2.2.2.2.1 s.2.2.2.2.2.2.2.2.1 s.2.2.2.2.2.2.2.2.2.1 s.2.2.2.2.2.2.2.2.2.2.1 s.2.2.2.2.2.2.2.2.2.2.2) (fun n s hI hk => hs n s.1 s.2.1 s.2.2.1 s.2.2.2.1 s.2.2.2.2.1 s.2.2.2.2.2.1 s.2.2.2.2.2.2.1 s.2.2.2.2.2.2.2.1 s.2.2.2.2.2.2.2.2.1 s.2.2.2.2.2.2.2.2.2.1 s.2.2.2.2.2.2.2.2.2.2.1 s.2.2.2.2.2.2.2.2.2.2.2 hI (fun b1 b2 b3 b4 b5 b6 b7 b8 b9 b10 b11 b12 h9 hm => hk (b1, b2, b3, b4, b5, b6, b7, b8, b9, b10, b11, b12) h9 hm)) (a1, a2, a3, a4, a5, a6, a7, a8, a9, a10, a11, a12) h
theorem lp13 {A1 A2 A3 A4 A5 A6 A7 A8 A9 A10 A11 A12 A13 : Type} (W : Nat → A1 → A2 → A3 → A4 → A5 → A6 → A7 → A8 → A9 → A10 → A11 → A12 → A13 → Prop) (I : A1 → A2 → A3 → A4 → A5 → A6 → A7 → A8 → A9 → A10 → A11 → A12 → A13 → Prop) (μ : A1 → A2 → A3 → A4 → A5 → A6 → A7 → A8 → A9 → A10 → A11 → A12 → A13 → Nat) (hs : ∀ (n : Nat) (a1 : A1) (a2 : A2) (a3 : A3) (a4 : A4) (a5 : A5) (a6 : A6) (a7 : A7) (a8 : A8) (a9 : A9) (a10 : A10) (a11 : A11) (a12 : A12) (a13 : A13), I a1 a2 a3 a4 a5 a6 a7 a8 a9 a10 a11 a12 a13 → (∀ (b1 : A1) (b2 : A2) (b3 : A3) (b4 : A4) (b5 : A5) (b6 : A6) (b7 : A7) (b8 : A8) (b9 : A9) (b10 : A10) (b11 : A11) (b12 : A12) (b13 : A13), I b1 b2 b3 b4 b5 b6 b7 b8 b9 b10 b11 b12 b13 → μ b1 b2 b3 b4 b5 b6 b7 b8 b9 b10 b11 b12 b13 < μ a1 a2 a3 a4 a5 a6 a7 a8 a9 a10 a11 a12 a13 → W n b1 b2 b3 b4 b5 b6 b7 b8 b9 b10 b11 b12 b13) → W (n + 1) a1 a2 a3 a4 a5 a6 a7 a8 a9 a10 a11 a12 a13) (a1 : A1) (a2 : A2) (a3 : A3) (a4 : A4) (a5 : A5) (a6 : A6) (a7 : A7) (a8 : A8) (a9 : A9) (a10 : A10) (a11 : A11) (a12 : A12) (a13 : A13) (h : I a1 a2 a3 a4 a5 a6 a7 a8 a9 a10 a11 a12 a13) : ∃ n, W n a1 a2 a3 a4 a5 a6 a7 a8 a9 a10 a11 a12 a13 :=
  loop_m (σ := A1 × A2 × A3 × A4 × A5 × A6 × A7 × A8 × A9 × A10 × A11 × A12 × A13) (fun n s => W n s.1 s.2.1 s.2.2.1 s.2.2.2.1 s.2.2.2.2.1 s.2.2.2.2.2.1 s.2.2.2.2.2.2.1 s.2.2.2.2.2.2.2.1 s.2.2.2.2.2.2.2.2.1 s.2.2.2.2.2.2.2.2.2.1 s.2.2.2.2.2.2.2.2.2.2.1 s.2.2.2.2.2.2.2.2.2.2.2.1 s.2.2.2.2.2.2.2.2.2.2.2.2) (fun s => I s.1 s.2.1 s.2.2.1 s.2.2.2.1 s.2.2.2.2.1 s.2.2.2.2.2.1 s.2.2.2.2.2.2.1 s.2.2.2.2.2.2.2.1 s.2.2.2.2.2.2.2.2.1 s.2.2.2.2.2.2.2.2.2.1 s.2.2.2.2.2.2.2.2.2.2.1 s.2.2.2.2.2.2.2.2.2.2.2.1 s.2.2.2.2.2.2.2.2.2.2.2.2) (fun s => μ s.1 s.2.1 s.2.2.1 s.2.2.2.1 s.2.2.2.2.1 s.2.2.2.2.2.1 s.2.2.2.2.2.2.1 s.2.2.2.2.2.2.2.1 s.2.2.2.2.2.2.2.2.1 s.2.2.2.2.2.2.2.2.2.1 s.2.2.2.2.2.2.2.2.2.2.1 s.2.2.2.2.2.2.2.2.2.2.2.1 s.2.2.2.2.2.2.2.2.2.2.2.2) (fun n s hI hk => hs n s.1 s.2.1 s.2.2.1 s.2.2.2.1 s.2.2.2.2.1 s.2.2.2.2.2.1 s.2.2.2.2.2.2.1 s.2.2.2.2.2.2.2.1 s.2.2.2.2.2.2.2.2.1 s.2.2.2.2.2.2.2.2.2.1 s.2.2.2.2.2.2.2.2.2.2.1 s.2.2.2.2.2.2.2.2.2.2.2.1 s.2.2.2.2.2.2.2.2.2.2.2.2 hI (fun b1 b2 b3 b4 b5 b6 b7 b8 b9 b10 b11 b12 b13 h9 hm => hk (b1, b2, b3, b4, b5, b6, b7, b8, b9, b10, b11, b12, b13) h9 hm)) (a1, a2, a3, a4, a5, a6, a7, a8, a9, a10, a11, a12, a13) h
theorem lp14 {A1 A2 A3 A4 A5 A6 A7 A8 A9 A10 A11 A12 A13 A14 : Type} (W : Nat → A1 → A2 → A3 → A4 → A5 → A6 → A7 → A8 → A9 → A10 → A11 → A12 → A13 → A14 → Prop) (I : A1 → A2 → A3 → A4 → A5 → A6 → A7 → A8 → A9 → A10 → A11 → A12 → A13 → A14 → Prop) (μ : A1 → A2 → A3 → A4 → A5 → A6 → A7 → A8 → A9 → A10 → A11 → A12 → A13 → A14 → Nat) (hs : ∀ (n : Nat) (a1 : A1) (a2 : A2) (a3 : A3) (a4 : A4) (a5 : A5) (a6 : A6) (a7 : A7) (a8 : A8) (a9 : A9) (a10 : A10) (a11 : A11) (a12 : A12) (a13 : A13) (a14 : A14), I a1 a2 a3 a4 a5 a6 a7 a8 a9 a10 a11 a12 a13 a14 → (∀ (b1 : A1) (b2 : A2) (b3 : A3) (b4 : A4) (b5 : A5) (b6 : A6) (b7 : A7) (b8 : A8) (b9 : A9) (b10 : A10) (b11 : A11) (b12 : A12) (b13 : A13) (b14 : A14), I b1 b2 b3 b4 b5 b6 b7 b8 b9 b10 b11 b12 b13 b14 → μ b1 b2 b3 b4 b5 b6 b7 b8 b9 b10 b11 b12 b13 b14 < μ a1 a2 a3 a4 a5 a6 a7 a8 a9 a10 a11 a12 a13 a14 → W n b1 b2 b3 b4 b5 b6 b7 b8 b9 b10 b11 b12 b13 b14) → W (n + 1) a1 a2 a3 a4 a5 a6 a7 a8 a9 a10 a11 a12 a13 a14) (a1 : A1) (a2 : A2) (a3 : A3) (a4 : A4) (a5 : A5) (a6 : A6) (a7 : A7) (a8 : A8) (a9 : A9) (a10 : A10) (a11 : A11) (a12 : A12) (a13 : A13) (a14 : A14) (h : I a1 a2 a3 a4 a5 a6 a7 a8 a9 a10 a11 a12 a13 a14) : ∃ n, W n a1 a2 a3 a4 a5 a6 a7 a8 a9 a10 a11 a12 a13 a14 :=
  loop_m (σ := A1 × A2 × A3 × A4 × A5 × A6 × A7 × A8 × A9 × A10 × A11 × A12 × A13 × A14) (fun n s => W n s.1 s.2.1 s.2.2.1 s.2.2.2.1 s.2.2.2.2.1 s.2.2.2.2.2.1 s.2.2.2.2.2.2.1 s.2.2.2.2.2.2.2.1 s.2.2.2.2.2.2.2.2.1 s.2.2.2.2.2.2.2.2.2.1 s.2.2.2.2.2.2.2.2.2.2.1 s.2.2.2.2.2.2.2.2.2.2.2.1 s.2.2.2.2.2.2.2.2.2.2.2.2.1 s.2.2.2.2.2.2.2.2.2.2.2.2.2) (fun s => I s.1 s.2.1 s.2.2.1 s.2.2.2.1 s.2.2.2.2.1 s.2.2.2.2.2.1 s.2.2.2.2.2.2.1 s.2.2.2.2.2.2.2.1 s.2.2.2.2.2.2.2.2.1 s.2.2.2.2.2.2.2.2.2.1 s.2.2.2.2.2.2.2.2.2.2.1 s.2.2.2.2.2.2.2.2.2.2.2.1 s.2.2.2.2.2.2.2.2.2.2.2.2.1 s.2.2.2.2.2.2.2.2.2.2.2.2.2) (fun s => μ s.1 s.2.1 s.2.2.1 s.2.2.2.1 s.2.2.2.2.1 s.2.2.2.2.2.1 s.2.2.2.2.2.2.1 s.2.2.2.2.2.2.2.1 s.2.2.2.2.2.2.2.2.1 s.2.2.2.2.2.2.2.2.2.1 s.2.2.2.2.2.2.2.2.2.2.1 s.2.2.2.2.2.2.2.2.2.2.2.1 s.2.2.2.2.2.2.2.2.2.2.2.2.1 s.2.2.2.2.2.2.2.2.2.2.2.2.2) (fun n s hI hk => hs n s.1 s.2.1 s.2.2.1 s.2.2.2.1 s.2.2.2.2.1 s.2.2.2.2.2.1 s.2.2.2.2.2.2.1 s.2.2.2.2.2.2.2.1 s.2.2.2.2.2.2.2.2.1 s.2.2.2.2.2.2.2.2.2.1 s.2.2.2.2.2.2.2.2.2.2.1 s.2.2.2.2.2.2.2.2.2.2.2.1 s.2.2.2.2.2.2.2.2.2.2.2.2.1 s.2.2.2.2.2.2.2.2.2.2.2.2.2 hI (fun b1 b2 b3 b4 b5 b6 b7 b8 b9 b10 b11 b12 b13 b14 h9 hm => hk (b1, b2, b3, b4, b5, b6, b7, b8, b9, b10, b11, b12, b13, b14) h9 hm)) (a1, a2, a3, a4, a5, a6, a7, a8, a9, a10, a11, a12, a13, a14) h
theorem lp15 {A1 A2 A3 A4 A5 A6 A7 A8 A9 A10 A11 A12 A13 A14 A15 : Type} (W : Nat → A1 → A2 → A3 → A4 → A5 → A6 → A7 → A8 → A9 → A10 → A11 → A12 → A13 → A14 → A15 → Prop) (I : A1 → A2 → A3 → A4 → A5 → A6 → A7 → A8 → A9 → A10 → A11 → A12 → A13 → A14 → A15 → Prop) (μ : A1 → A2 → A3 → A4 → A5 → A6 → A7 → A8 → A9 → A10 → A11 → A12 → A13 → A14 → A15 → Nat) (hs : ∀ (n : Nat) (a1 : A1) (a2 : A2) (a3 : A3) (a4 : A4) (a5 : A5) (a6 : A6) (a7 : A7) (a8 : A8) (a9 : A9) (a10 : A10) (a11 : A11) (a12 : A12) (a13 : A13) (a14 : A14) (a15 : A15), I a1 a2 a3 a4 a5 a6 a7 a8 a9 a10 a11 a12 a13 a14 a15 → (∀ (b1 : A1) (b2 : A2) (b3 : A3) (b4 : A4) (b5 : A5) (b6 : A6) (b7 : A7) (b8 : A8) (b9 : A9) (b10 : A10) (b11 : A11) (b12 : A12) (b13 : A13) (b14 : A14) (b15 : A15), I b1 b2 b3 b4 b5 b6 b7 b8 b9 b10 b11 b12 b13 b14 b15 → μ b1 b2 b3 b4 b5 b6 b7 b8 b9 b10 b11 b12 b13 b14 b15 < μ a1 a2 a3 a4 a5 a6 a7 a8 a9 a10 a11 a12 a13 a14 a15 → W n b1 b2 b3 b4 b5 b6 b7 b8 b9 b10 b11 b12 b13 b14 b15) → W (n + 1) a1 a2 a3 a4 a5 a6 a7 a8 a9 a10 a11 a12 a13 a14 a15) (a1 : A1) (a2 : A2) (a3 : A3) (a4 : A4) (a5 : A5) (a6 : A6) (a7 : A7) (a8 : A8) (a9 : A9) (a10 : A10) (a11 : A11) (a12 : A12) (a13 : A13) (a14 : A14) (a15 : A15) (h : I a1 a2 a3 a4 a5 a6 a7 a8 a9 a10 a11 a12 a13 a14 a15) : ∃ n, W n a1 a2 a3 a4 a5 a6 a7 a8 a9 a10 a11 a12 a13 a14 a15 :=
  loop_m (σ := A1 × A2 × A3 × A4 × A5 × A6 × A7 × A8 × A9 × A10 × A11 × A12 × A13 × A14 × A15) (fun n s => W n s.1 s.2.1 s.2.2.1 s.2.2.2.1 s.2.2.2.2.1 s.2.2.2.2.2.1 s.2.2.2.2.2.2.1 s.2.2.2.2.2.2.2.1 s.2.2.2.2.2.2.2.2.1 s.2.2.2.2.2.2.2.2.2.1 s.2.2.2.2.2.2.2.2.2.2.1 s.2.2.2.2.2.2.2.2.2.2.2.1 s.2.2.2.2.2.2.2.2.2.2.2.2.1 s.2.2.2.2.2.2.2.2.2.2.2.2.2.1 s.2.2.2.2.2.2.2.2.2.2.2.2.2.2) (fun s => I s.1 s.2.1 s.2.2.1 s.2.2.2.1 s.2.2.2.2.1 s.2.2.2.2.2.1 s.2.2.2.2.2.2.1 s.2.2.2.2.2.2.2.1 s.2.2.2.2.2.2.2.2.1 s.2.2.2.2.2.2.2.2.2.1 s.2.2.2.2.2.2.2.2.2.2.1 s.2.2.2.2.2.2.2.2.2.2.2.1 s.2.2.2.2.2.2.2.2.2.2.2.2.1 s.2.2.2.2.2.2.2.2.2.2.2.2.2.1 s.2.2.2.2.2.2.2.2.2.2.2.2.2.2) (fun s => μ s.1 s.2.1 s.2.2.1 s.2.2.2.1 s.2.2.2.2.1 s.2.2.2.2.2.1 s.2.2.2.2.2.2.1 s.2.2.2.2.2.2.2.1 s.2.2.2.2.2.2.2.2.1 s.2.2.2.2.2.2.2.2.2.1 s.2.2.2.2.2.2.2.2.2.2.1 s.2.2.2.2.2.2.2.2.2.2.2.1 s.2.2.2.2.2.2.2.2.2.2.2.2.1 s.2.2.2.2.2.2.2.2.2.2.2.2.2.1 s.2.2.2.2.2.2.2.2.2.2.2.2.2.2) (fun n s hI hk => hs n s.1 s.2.1 s.2.2.1 s.2.2.2.1 s.2.2.2.2.1 s.2.2.2.2.2.1 s.2.2.2.2.2.2.1 s.2.2.2.2.2.2.2.1 s.2.2.2.2.2.2.2.2.1 s.2.2.2.2.2.2.2.2.2.1 s.2.2.2.2.2.2.2.2.2.2.1 s.2.2.2.2.2.2.2.2.2.2.2.1 s.2.2.2.2.2.2.2.2.2.2.2.2.1 s.2.2.2.2.2.2.2.2.2.2.2.2.2.1 s.2.2.2.2.2.2.2.2.2.2.2.2.2.2 hI (fun b1 b2 b3 b4 b5 b6 b7 b8 b9 b10 b11 b12 b13 b14 b15 h9 hm => hk (b1, b2, b3, b4, b5, b6, b7, b8, b9, b10, b11, b12, b13, b14, b15) h9 hm)) (a1, a2, a3, a4, a5, a6, a7, a8, a9, a10, a11, a12, a13, a14, a15) h
theorem lp16 {A1 A2 A3 A4 A5 A6 A7 A8 A9 A10 A11 A12 A13 A14 A15 A16 : Type} (W : Nat → A1 → A2 → A3 → A4 → A5 → A6 → A7 → A8 → A9 → A10 → A11 → A12 → A13 → A14 → A15 → A16 → Prop) (I : A1 → A2 → A3 → A4 → A5 → A6 → A7 → A8 → A9 → A10 → A11 → A12 → A13 → A14 → A15 → A16 → Prop) (μ : A1 → A2 → A3 → A4 → A5 → A6 → A7 → A8 → A9 → A10 → A11 → A12 → A13 → A14 → A15 → A16 → Nat) (hs : ∀ (n : Nat) (a1 : A1) (a2 : A2) (a3 : A3) (a4 : A4) (a5 : A5) (a6 : A6) (a7 : A7) (a8 : A8) (a9 : A9) (a10 : A10) (a11 : A11) (a12 : A12) (a13 : A13) (a14 : A14) (a15 : A15) (a16 : A16), I a1 a2 a3 a4 a5 a6 a7 a8 a9 a10 a11 a12 a13 a14 a15 a16 → (∀ (b1 : A1) (b2 : A2) (b3 : A3) (b4 : A4) (b5 : A5) (b6 : A6) (b7 : A7) (b8 : A8) (b9 : A9) (b10 : A10) (b11 : A11) (b12 : A12) (b13 : A13) (b14 : A14) (b15 : A15) (b16 : A16), I b1 b2 b3 b4 b5 b6 b7 b8 b9 b10 b11 b12 b13 b14 b15 b16 → μ b1 b2 b3 b4 b5 b6 b7 b8 b9 b10 b11 b12 b13 b14 b15 b16 < μ a1 a2 a3 a4 a5 a6 a7 a8 a9 a10 a11 a12 a13 a14 a15 a16 → W n b1 b2 b3 b4 b5 b6 b7 b8 b9 b10 b11 b12 b13 b14 b15 b16) → W (n + 1) a1 a2 a3 a4 a5 a6 a7 a8 a9 a10 a11 a12 a13 a14 a15 a16) (a1 : A1) (a2 : A2) (a3 : A3) (a4 : A4) (a5 : A5) (a6 : A6) (a7 : A7) (a8 : A8) (a9 : A9) (a10 : A10) (a11 : A11) (a12 : A12) (a13 : A13) (a14 : A14) (a15 : A15) (a16 : A16) (h : I a1 a2 a3 a4 a5 a6 a7 a8 a9 a10 a11 a12 a13 a14 a15 a16) : ∃ n, W n a1 a2 a3 a4 a5 a6 a7 a8 a9 a10 a11 a12 a13 a14 a15 a16 :=
  loop_m (σ := A1 × A2 × A3 × A4 × A5 × A6 × A7 × A8 × A9 × A10 × A11 × A12 × A13 × A14 × A15 × A16) (fun n s => W n s.1 s.2.1 s.2.2.1 s.2.2.2.1 s.2.2.2.2.1 s.2.2.2.2.2.1 s.2.2.2.2.2.2.1 s.2.2.2.2.2.2.2.1 s.2.2.2.2.2.2.2.2.1 s.2.2.2.2.2.2.2.2.2.1 s.2.2.2.2.2.2.2.2.2.2.1 s.2.2.2.2.2.2.2.2.2.2.2.1 s.2.2.2.2.2.2.2.2.2.2.2.2.1 s.2.2.2.2.2.2.2.2.2.2.2.2.2.1 s.2.2.2.2.2.2.2.2.2.2.2.2.2.2.1 s.2.2.2.2.2.2.2.2.2.2.2.2.2.2.2) (fun s => I s.1 s.2.1 s.2.2.1 s.2.2.2.1 s.2.2.2.2.1 s.2.2.2.2.2.1 s.2.2.2.2.2.2.1 s.2.2.2.2.2.2.2.1 s.2.2.2.2.2.2.2.2.1 s.2.2.2.2.2.2.2.2.2.1 s.2.2.2.2.2.2.2.2.2.2.1 s.2.2.2.2.2.2.2.2.2.2.2.1 s.2.2.2.2.2.2.2.2.2.2.2.2.1 s.2.2.2.2.2.2.2.2.2.2.2.2.2.1 s.2.2.2.2.2.2.2.2.2.2.2.2.2.2.1 s.2.2.2.2.2.2.2.2.2.2.2.2.2.2.2) (fun s => μ s.1 s.2.1 s.2.2.1 s.2.2.2.1 s.2.2.2.2.1 s.2.2.2.2.2.1 s.2.2.2.2.2.2.1 s.2.2.2.2.2.2.2.1 s.2.2.2.2.2.2.2.2.1 s.2.2.2.2.2.2.2.2.2.1 s.2.2.2.2.2.2.2.2.2.2.1 s.2.2.2.2.2.2.2.2.2.2.2.1 s.2.2.2.2.2.2.2.2.2.2.2.2.1 s.2.2.2.2.2.2.2.2.2.2.2.2.2.1 s.2.2.2.2.2.2.2.2.2.2.2.2.2.2.1 s.2.2.2.2.2.2.2.2.2.2.2.2.2.2.2) (fun n s hI hk => hs n s.1 s.2.1 s.2.2.1 s.2.2.2.1 s.2.2.2.2.1 s.2.2.2.2.2.1 s.2.2.2.2.2.2.1 s.2.2.2.2.2.2.2.1 s.2.2.2.2.2.2.2.2.1 s.2.2.2.2.2.2.2.2.2.1 s.2.2.2.2.2.2.2.2.2.2.1 s.2.2.2.2.2.2.2.2.2.2.2.1 s.2.2.2.2.2.2.2.2.2.2.2.2.1 s.2.2.2.2.2.2.2.2.2.2.2.2.2.1 s.2.2.2.2.2.2.2.2.2.2.2.2.2.2.1 s.2.2.2.2.2.2.2.2.2.2.2.2.2.2.2 hI (fun b1 b2 b3 b4 b5 b6 b7 b8 b9 b10 b11 b12 b13 b14 b15 b16 h9 hm => hk (b1, b2, b3, b4, b5, b6, b7, b8, b9, b10, b11, b12, b13, b14, b15, b16) h9 hm)) (a1, a2, a3, a4, a5, a6, a7, a8, a9, a10, a11, a12, a13, a14, a15, a16) h
theorem pk_least (P : Nat → Prop) (h : ∃ k, P k) : ∃ k, P k ∧ ∀ j, j < k → ¬ P j := by
  obtain ⟨k, hk⟩ := h
  induction k using Nat.strongRecOn with
  | ind k ih =>
    by_cases e : ∃ j, j < k ∧ P j
    · obtain ⟨j, hj, pj⟩ := e
      exact ih j hj pj
    · exact ⟨k, hk, fun j hj pj => e ⟨j, hj, pj⟩⟩
theorem rp1 {ρ A1 : Type} (W : Nat → (ρ → Prop) → A1 → Prop) (ok : A1 → Prop) (μ : A1 → Nat) (val : A1 → ρ)
    (hs : ∀ (d : Nat) (post : ρ → Prop) (a1 : A1), ok a1 → post (val a1) → (∀ (post' : ρ → Prop) (b1 : A1), ok b1 → μ b1 < μ a1 → post' (val b1) → W d post' b1) → W (d + 1) post a1) :
    ∀ (d : Nat) (post : ρ → Prop) (a1 : A1), ok a1 → μ a1 < d → post (val a1) → W d post a1 := by
  intro d
  induction d with
  | zero => intro post a1 _ h; omega
  | succ d ih =>
    intro post a1 ho hm hp
    exact hs d post a1 ho hp (fun post' b1 ho' hm' hp' => ih post' b1 ho' (by omega) hp')
theorem rp2 {ρ A1 A2 : Type} (W : Nat → (ρ → Prop) → A1 → A2 → Prop) (ok : A1 → A2 → Prop) (μ : A1 → A2 → Nat) (val : A1 → A2 → ρ)
    (hs : ∀ (d : Nat) (post : ρ → Prop) (a1 : A1) (a2 : A2), ok a1 a2 → post (val a1 a2) → (∀ (post' : ρ → Prop) (b1 : A1) (b2 : A2), ok b1 b2 → μ b1 b2 < μ a1 a2 → post' (val b1 b2) → W d post' b1 b2) → W (d + 1) post a1 a2) :
    ∀ (d : Nat) (post : ρ → Prop) (a1 : A1) (a2 : A2), ok a1 a2 → μ a1 a2 < d → post (val a1 a2) → W d post a1 a2 := by
  intro d
  induction d with
  | zero => intro post a1 a2 _ h; omega
  | succ d ih =>
    intro post a1 a2 ho hm hp
    exact hs d post a1 a2 ho hp (fun post' b1 b2 ho' hm' hp' => ih post' b1 b2 ho' (by omega) hp')
theorem rp3 {ρ A1 A2 A3 : Type} (W : Nat → (ρ → Prop) → A1 → A2 → A3 → Prop) (ok : A1 → A2 → A3 → Prop) (μ : A1 → A2 → A3 → Nat) (val : A1 → A2 → A3 → ρ)
    (hs : ∀ (d : Nat) (post : ρ → Prop) (a1 : A1) (a2 : A2) (a3 : A3), ok a1 a2 a3 → post (val a1 a2 a3) → (∀ (post' : ρ → Prop) (b1 : A1) (b2 : A2) (b3 : A3), ok b1 b2 b3 → μ b1 b2 b3 < μ a1 a2 a3 → post' (val b1 b2 b3) → W d post' b1 b2 b3) → W (d + 1) post a1 a2 a3) :
    ∀ (d : Nat) (post : ρ → Prop) (a1 : A1) (a2 : A2) (a3 : A3), ok a1 a2 a3 → μ a1 a2 a3 < d → post (val a1 a2 a3) → W d post a1 a2 a3 := by
  intro d
  induction d with
  | zero => intro post a1 a2 a3 _ h; omega
  | succ d ih =>
    intro post a1 a2 a3 ho hm hp
    exact hs d post a1 a2 a3 ho hp (fun post' b1 b2 b3 ho' hm' hp' => ih post' b1 b2 b3 ho' (by omega) hp')
theorem rp4 {ρ A1 A2 A3 A4 : Type} (W : Nat → (ρ → Prop) → A1 → A2 → A3 → A4 → Prop) (ok : A1 → A2 → A3 → A4 → Prop) (μ : A1 → A2 → A3 → A4 → Nat) (val : A1 → A2 → A3 → A4 → ρ)
    (hs : ∀ (d : Nat) (post : ρ → Prop) (a1 : A1) (a2 : A2) (a3 : A3) (a4 : A4), ok a1 a2 a3 a4 → post (val a1 a2 a3 a4) → (∀ (post' : ρ → Prop) (b1 : A1) (b2 : A2) (b3 : A3) (b4 : A4), ok b1 b2 b3 b4 → μ b1 b2 b3 b4 < μ a1 a2 a3 a4 → post' (val b1 b2 b3 b4) → W d post' b1 b2 b3 b4) → W (d + 1) post a1 a2 a3 a4) :
    ∀ (d : Nat) (post : ρ → Prop) (a1 : A1) (a2 : A2) (a3 : A3) (a4 : A4), ok a1 a2 a3 a4 → μ a1 a2 a3 a4 < d → post (val a1 a2 a3 a4) → W d post a1 a2 a3 a4 := by
  intro d
  induction d with
  | zero => intro post a1 a2 a3 a4 _ h; omega
  | succ d ih =>
    intro post a1 a2 a3 a4 ho hm hp
    exact hs d post a1 a2 a3 a4 ho hp (fun post' b1 b2 b3 b4 ho' hm' hp' => ih post' b1 b2 b3 b4 ho' (by omega) hp')
theorem rp5 {ρ A1 A2 A3 A4 A5 : Type} (W : Nat → (ρ → Prop) → A1 → A2 → A3 → A4 → A5 → Prop) (ok : A1 → A2 → A3 → A4 → A5 → Prop) (μ : A1 → A2 → A3 → A4 → A5 → Nat) (val : A1 → A2 → A3 → A4 → A5 → ρ)
    (hs : ∀ (d : Nat) (post : ρ → Prop) (a1 : A1) (a2 : A2) (a3 : A3) (a4 : A4) (a5 : A5), ok a1 a2 a3 a4 a5 → post (val a1 a2 a3 a4 a5) → (∀ (post' : ρ → Prop) (b1 : A1) (b2 : A2) (b3 : A3) (b4 : A4) (b5 : A5), ok b1 b2 b3 b4 b5 → μ b1 b2 b3 b4 b5 < μ a1 a2 a3 a4 a5 → post' (val b1 b2 b3 b4 b5) → W d post' b1 b2 b3 b4 b5) → W (d + 1) post a1 a2 a3 a4 a5) :
    ∀ (d : Nat) (post : ρ → Prop) (a1 : A1) (a2 : A2) (a3 : A3) (a4 : A4) (a5 : A5), ok a1 a2 a3 a4 a5 → μ a1 a2 a3 a4 a5 < d → post (val a1 a2 a3 a4 a5) → W d post a1 a2 a3 a4 a5 := by
  intro d
  induction d with
  | zero => intro post a1 a2 a3 a4 a5 _ h; omega
  | succ d ih =>
    intro post a1 a2 a3 a4 a5 ho hm hp
    exact hs d post a1 a2 a3 a4 a5 ho hp (fun post' b1 b2 b3 b4 b5 ho' hm' hp' => ih post' b1 b2 b3 b4 b5 ho' (by omega) hp')
theorem rp6 {ρ A1 A2 A3 A4 A5 A6 : Type} (W : Nat → (ρ → Prop) → A1 → A2 → A3 → A4 → A5 → A6 → Prop) (ok : A1 → A2 → A3 → A4 → A5 → A6 → Prop) (μ : A1 → A2 → A3 → A4 → A5 → A6 → Nat) (val : A1 → A2 → A3 → A4 → A5 → A6 → ρ)
    (hs : ∀ (d : Nat) (post : ρ → Prop) (a1 : A1) (a2 : A2) (a3 : A3) (a4 : A4) (a5 : A5) (a6 : A6), ok a1 a2 a3 a4 a5 a6 → post (val a1 a2 a3 a4 a5 a6) → (∀ (post' : ρ → Prop) (b1 : A1) (b2 : A2) (b3 : A3) (b4 : A4) (b5 : A5) (b6 : A6), ok b1 b2 b3 b4 b5 b6 → μ b1 b2 b3 b4 b5 b6 < μ a1 a2 a3 a4 a5 a6 → post' (val b1 b2 b3 b4 b5 b6) → W d post' b1 b2 b3 b4 b5 b6) → W (d + 1) post a1 a2 a3 a4 a5 a6) :
    ∀ (d : Nat) (post : ρ → Prop) (a1 : A1) (a2 : A2) (a3 : A3) (a4 : A4) (a5 : A5) (a6 : A6), ok a1 a2 a3 a4 a5 a6 → μ a1 a2 a3 a4 a5 a6 < d → post (val a1 a2 a3 a4 a5 a6) → W d post a1 a2 a3 a4 a5 a6 := by
  intro d
  induction d with
  | zero => intro post a1 a2 a3 a4 a5 a6 _ h; omega
  | succ d ih =>
    intro post a1 a2 a3 a4 a5 a6 ho hm hp
    exact hs d post a1 a2 a3 a4 a5 a6 ho hp (fun post' b1 b2 b3 b4 b5 b6 ho' hm' hp' => ih post' b1 b2 b3 b4 b5 b6 ho' (by omega) hp')
theorem rec_p {σ ρ : Type} (W : Nat → (ρ → Prop) → σ → Prop) (ok : σ → Prop) (μ : σ → Nat) (val : σ → ρ)
    (hs : ∀ d s post, ok s → post (val s) → (∀ s' post', ok s' → μ s' < μ s → post' (val s') → W d post' s') → W (d + 1) post s) :
    ∀ d s post, ok s → μ s < d → post (val s) → W d post s := by
  intro d
  induction d with
  | zero => intro s post _ h; omega
  | succ d ih =>
    intro s post ho hm hp
    exact hs d s post ho hp (fun s' post' ho' hm' hp' => ih s' post' ho' (by omega) hp')
theorem rec_q {σ ρ : Type} (W : Nat → (ρ → Prop) → σ → Prop) (ok : σ → Prop) (μ : σ → Nat) (Q : σ → ρ → Prop)
    (hs : ∀ d s post, ok s → (∀ r, Q s r → post r) → (∀ s' post', ok s' → μ s' < μ s → (∀ r, Q s' r → post' r) → W d post' s') → W (d + 1) post s) :
    ∀ d s post, ok s → μ s < d → (∀ r, Q s r → post r) → W d post s := by
  intro d
  induction d with
  | zero => intro s post _ h; omega
  | succ d ih =>
    intro s post ho hm hp
    exact hs d s post ho hp (fun s' post' ho' hm' hp' => ih s' post' ho' (by omega) hp')
def bx_sum (f : Nat → Int32) : Nat → Int32
  | 0 => 0
  | n + 1 => bx_sum f n + f n
theorem ek_u {A : Prop} {B : Nat → Prop} {k N : Nat} (hk : k < N) (h : B k) : (some k = none → A) ∧ (∀ y : Nat, some k = some y → (y < N ∧ B y)) :=
  ⟨fun z => absurd z (Option.some_ne_none k), fun _ e => (by cases e; exact ⟨hk, h⟩)⟩
theorem ek_nu {A : Prop} {B : Nat → Prop} (h : A) : ((none : Option Nat) = none → A) ∧ (∀ y : Nat, (none : Option Nat) = some y → B y) :=
  ⟨fun _ => h, fun _ e => (by cases e)⟩
theorem ek_if {c d A B : Prop} (e : c ↔ d) (f : d → A) (g : ¬ d → B) : (c → A) ∧ (¬ c → B) :=
  ⟨fun z => f (e.mp z), fun z => g (fun y => z (e.mpr y))⟩
theorem ek_v {α : Sort _} {P : α → Prop} {a b : α} (e : a = b) (h : P b) : P a := e ▸ h
theorem co_some {x : Option Nat} {A : Prop} {B : Nat → Prop} (i : Nat) (h : B i) (hx : x = some i := by rfl) : (x = none → A) ∧ (∀ y : Nat, x = some y → B y) := by
  subst hx
  exact ⟨fun e => (nomatch e), fun y e => Option.some.inj e ▸ h⟩
theorem co_none {x : Option Nat} {A : Prop} {B : Nat → Prop} (h : A) (hx : x = none := by rfl) : (x = none → A) ∧ (∀ y : Nat, x = some y → B y) := by
  subst hx
  exact ⟨fun _ => h, fun y e => (nomatch e)⟩
theorem co_any {x : Option Nat} {A : Prop} {B : Nat → Prop} (hn : x = none → A) (hs : ∀ i : Nat, x = some i → B i) : (x = none → A) ∧ (∀ y : Nat, x = some y → B y) := ⟨hn, hs⟩
theorem co_2 {P : Nat → Prop} (h0 : P 0) (h1 : P 1) {i : Nat} (hi : i < 2) : P i :=
  match i, hi with
  | 0, _ => h0
  | 1, _ => h1
theorem co_3 {P : Nat → Prop} (h0 : P 0) (h1 : P 1) (h2 : P 2) {i : Nat} (hi : i < 3) : P i :=
  match i, hi with
  | 0, _ => h0
  | 1, _ => h1
  | 2, _ => h2
theorem co_4 {P : Nat → Prop} (h0 : P 0) (h1 : P 1) (h2 : P 2) (h3 : P 3) {i : Nat} (hi : i < 4) : P i :=
  match i, hi with
  | 0, _ => h0
  | 1, _ => h1
  | 2, _ => h2
  | 3, _ => h3
theorem co_dec {N : Nat} {P : Nat → Prop} [DecidablePred P] (h : (List.range N).all (fun i => decide (P i)) = true) {i : Nat} (hi : i < N) : P i := by
  have := List.all_eq_true.mp h i (List.mem_range.mpr hi)
  exact of_decide_eq_true this
theorem co_tab {α : Type} {l : List α} {d : α} {P : α → Prop} (h : ∀ a, a ∈ l → P a) {i : Nat} (hi : i < l.length) : P (l.getD i d) := by
  rw [List.getD_eq_getElem?_getD, List.getElem?_eq_getElem hi]
  exact h _ (List.getElem_mem hi)
theorem pk_mu {x : Int32} {L : Nat} (h0 : ¬ x < 0) (h : ¬ nI L ≤ x) (hL : L < 2 ^ 31) : ∃ j : Nat, j < L ∧ x = nI j ∧ x + 1 = nI (j + 1) ∧ x.toNatClampNeg = j ∧ L - (x + 1).toNatClampNeg < L - x.toNatClampNeg := by
  obtain ⟨j, hj, rfl⟩ := nI_of h0
  have hl : j < L := Nat.not_le.mp fun q => h (nI_le q hj)
  refine ⟨j, hl, rfl, nI_1 j, nI_clamp hj, ?_⟩
  rw [nI_1, nI_clamp (by omega), nI_clamp hj]
  omega
theorem op_s {α : Type} {r : Option α} {A : Prop} {B : α → Prop} {y : α} (h : r = some y) (b : B y) : (r = none → A) ∧ ∀ z, r = some z → B z :=
  ⟨fun e => (by rw [h] at e; cases e), fun z e => (by rw [h] at e; cases e; exact b)⟩
def l_holds {α : Type} (a : Nat → Option Nat) (LP : List Nat) (p : Nat → α) (c : Nat) (b : Nat → α) : Prop :=
  ∀ j, j < c → ∃ y, a j = some y ∧ y ∈ LP ∧ p y = b j
theorem l_holds_0 {α : Type} {a : Nat → Option Nat} {LP : List Nat} {p b : Nat → α} : l_holds a LP p 0 b := fun j h => absurd h (Nat.not_lt_zero j)
theorem l_in_new (LP : List Nat) (q : Nat) : q ∈ LP ++ [q] := List.mem_append.mpr (Or.inr (List.mem_singleton.mpr rfl))
def l_sum (b : Nat → Int32) : Nat → Int32
  | 0 => 0
  | k + 1 => l_sum b k + b k
theorem sb_shr0 (x : Int32) : x >>> ((0 : Int32) &&& 31) = x := by
  rw [show ((0 : Int32) &&& 31) = 0 by decide]
  simp
theorem sb_shl0 (x : Int32) : x <<< ((0 : Int32) &&& 31) = x := by
  rw [show ((0 : Int32) &&& 31) = 0 by decide]
  simp
theorem sb_cl0 : (0 : Int32).toNatClampNeg = 0 := by decide
theorem sb_m1 {p : Nat} (h : 0 < p) : nI p + (-1) = nI (p - 1) := by
  obtain ⟨q, rfl⟩ : ∃ q, p = q + 1 := ⟨p - 1, by omega⟩
  exact pk_m1 q
def sb_b (c : Nat) : Int32 := (nI c).toInt8.toInt32
theorem sb_byte : ∀ c, c < 256 → sb_b c &&& 255 = nI c ∧ ((nI c).toUInt32 % 65536).toInt32 = nI c ∧ nI c ≤ 255 := by decide +kernel
def sb_Fit (a : Nat → Int32) : Prop := ∀ j, fits .byte (.int (a j)) = true
def sb_Lat (t : Nat → Nat) (n : Nat) (a : Nat → Int32) : Prop := ∀ j, j < n → t j < 256 ∧ a j = sb_b (t j)
theorem sb_fitB (c : Nat) : fits .byte (.int (sb_b c)) = true := pk_fb _
theorem sb_fit0 : sb_Fit (fun _ => 0) := fun _ => by
  show fits .byte (.int 0) = true
  decide
theorem sb_fitU {a : Nat → Int32} {k : Nat} {x : Int32} (h : sb_Fit a) (hx : fits .byte (.int x) = true) : sb_Fit (upd a k x) := by
  intro j
  by_cases e : j = k
  · subst e
    rw [pk_us]
    exact hx
  · rw [pk_un e]
    exact h j
def sb_cat (t : Nat → Nat) (n : Nat) (s : Nat → Nat) : Nat → Nat := fun j => if j < n then t j else s (j - n)
theorem sb_cat_lo {t s : Nat → Nat} {n j : Nat} (h : j < n) : sb_cat t n s j = t j := if_pos h
theorem sb_cat_hi {t s : Nat → Nat} {n j : Nat} : sb_cat t n s (n + j) = s j := by
  show (if n + j < n then t (n + j) else s (n + j - n)) = s j
  rw [if_neg (by omega), Nat.add_sub_cancel_left]
theorem sb_latPut {t s : Nat → Nat} {n w : Nat} {a a' : Nat → Int32} (h : sb_Lat t n a) (hk : ∀ j, j < n → a' j = a j) (hs : ∀ i, i < w → s i < 256 ∧ a' (n + i) = sb_b (s i)) : sb_Lat (sb_cat t n s) (n + w) a' := by
  intro j hj
  by_cases e : j < n
  · rw [sb_cat_lo e, hk j e]
    exact h j e
  · obtain ⟨i, rfl⟩ : ∃ i, j = n + i := ⟨j - n, by omega⟩
    rw [sb_cat_hi]
    exact hs i (by omega)
theorem sb_latKeep {t : Nat → Nat} {n : Nat} {a a' : Nat → Int32} (h : sb_Lat t n a) (hk : ∀ j, j < n → a' j = a j) : sb_Lat t n a' := fun j hj => by
  rw [hk j hj]
  exact h j hj
def sb_cap (q m : Nat) : Nat := if q ≤ m then m else if 2 * m + 2 < q then q else 2 * m + 2
def sb_Room (q m mc ms : Nat) : Prop := q ≤ m ∨ (1 ≤ mc ∧ sb_cap q m ≤ ms ∧ sb_cap q m ≤ 65536)
theorem sb_cap_ge (q m : Nat) : q ≤ sb_cap q m := by
  unfold sb_cap
  split
  · omega
  · split <;> omega
theorem sb_cap_gem (q m : Nat) : m ≤ sb_cap q m := by
  unfold sb_cap
  split
  · omega
  · split <;> omega
theorem sb_cap_le {q m mc ms : Nat} (hm : m ≤ 65536) (hr : sb_Room q m mc ms) : sb_cap q m ≤ 65536 := by
  rcases hr with h | h
  · rw [sb_cap, if_pos h]
    exact hm
  · exact h.2.2
theorem sb_at {P : Int32 → Prop} {x y : Int32} (e : x = y) (h : P y) : P x := e ▸ h
def sb_dg (w : Nat) : Nat := if w < 10 then 1 else if w < 100 then 2 else if w < 1000 then 3 else if w < 10000 then 4 else if w < 100000 then 5 else if w < 1000000 then 6 else if w < 10000000 then 7 else if w < 100000000 then 8 else if w < 1000000000 then 9 else 10
def sb_dec (v : Nat) : Nat → Nat := fun i => 48 + v / 10 ^ (sb_dg v - 1 - i) % 10
theorem sb_dg_in (w : Nat) : 1 ≤ sb_dg w ∧ sb_dg w ≤ 10 := by
  unfold sb_dg
  constructor <;> (repeat' split) <;> omega
theorem sb_dg100 {w : Nat} (h : 100 ≤ w) (hw : w < 2 ^ 31) : sb_dg w = sb_dg (w / 100) + 2 := by
  rw [sb_dg, sb_dg, if_neg (show ¬ w < 10 by omega), if_neg (show ¬ w < 100 by omega)]
  by_cases h3 : w < 1000
  · rw [if_pos h3, if_pos (show w / 100 < 10 by omega)]
  rw [if_neg h3, if_neg (show ¬ w / 100 < 10 by omega)]
  by_cases h4 : w < 10000
  · rw [if_pos h4, if_pos (show w / 100 < 100 by omega)]
  rw [if_neg h4, if_neg (show ¬ w / 100 < 100 by omega)]
  by_cases h5 : w < 100000
  · rw [if_pos h5, if_pos (show w / 100 < 1000 by omega)]
  rw [if_neg h5, if_neg (show ¬ w / 100 < 1000 by omega)]
  by_cases h6 : w < 1000000
  · rw [if_pos h6, if_pos (show w / 100 < 10000 by omega)]
  rw [if_neg h6, if_neg (show ¬ w / 100 < 10000 by omega)]
  by_cases h7 : w < 10000000
  · rw [if_pos h7, if_pos (show w / 100 < 100000 by omega)]
  rw [if_neg h7, if_neg (show ¬ w / 100 < 100000 by omega)]
  by_cases h8 : w < 100000000
  · rw [if_pos h8, if_pos (show w / 100 < 1000000 by omega)]
  rw [if_neg h8, if_neg (show ¬ w / 100 < 1000000 by omega)]
  by_cases h9 : w < 1000000000
  · rw [if_pos h9, if_pos (show w / 100 < 10000000 by omega)]
  rw [if_neg h9, if_neg (show ¬ w / 100 < 10000000 by omega)]
  rw [if_pos (show w / 100 < 100000000 by omega)]
theorem sb_negT {w : Nat} (h : w < 2 ^ 31) : (-nI w).toInt = -(w : Int) := by
  rw [Int32.toInt_neg, nI_toInt h]
  exact Int.bmod_eq_of_le (by omega) (by omega)
theorem sb_nle {a b : Nat} (ha : a < 2 ^ 31) (hb : b < 2 ^ 31) : -nI a ≤ -nI b ↔ b ≤ a := by
  rw [Int32.le_iff_toInt_le, sb_negT ha, sb_negT hb]
  omega
theorem sb_nlt {a b : Nat} (ha : a < 2 ^ 31) (hb : b < 2 ^ 31) : -nI a < -nI b ↔ b < a := by
  rw [Int32.lt_iff_toInt_lt, sb_negT ha, sb_negT hb]
  omega
theorem sb_cmp {A B : Prop} {x : Int32} (v c : Nat) (f : c ≤ v → A) (g : v < c → B) (hv : v < 2 ^ 31) (hx : x = -nI c := by rfl) (hc : c < 2 ^ 31 := by omega) : (-nI v ≤ x → A) ∧ (¬ -nI v ≤ x → B) := by
  subst hx
  rw [sb_nle hv hc]
  exact ⟨f, fun z => g (by omega)⟩
theorem sb_ndiv {w : Nat} (hw : w < 2 ^ 31) : (-nI w) / 100 = -nI (w / 100) := by
  apply Int32.toInt_inj.mp
  have h100 : (100 : Int32).toInt = 100 := by decide
  rw [Int32.toInt_div, sb_negT hw, h100, sb_negT (by omega), Int.neg_tdiv, Int.tdiv_eq_ediv_of_nonneg (by omega), Int.bmod_eq_of_le (by omega) (by omega)]
  omega
theorem sb_nrem {w : Nat} (hw : w < 2 ^ 31) : (-nI (w / 100)) * 100 - (-nI w) = nI (w % 100) := by
  have h := pk_rem (a := w) (d := 100) hw (by decide) (by decide)
  rw [pk_div hw (by decide) (by decide)] at h
  rw [← h]
  show (-nI (w / 100)) * nI 100 - (-nI w) = nI w - nI (w / 100) * nI 100
  rw [Int32.neg_mul, Int32.sub_neg, Int32.add_comm, ← Int32.sub_eq_add_neg]
/-! rows on bits, shifts and unsigned numbers, to paste: each family out of a closed proof of our own, whole with what it rests on; each by itself clean at Lean in its own claim (generation 39, form 5). Take a family whole -/
/-! ===== Int32 by its bits: bt x i ===== -/
def bt (x : Int32) (i : Nat) : Bool := x.toBitVec.getLsbD i
theorem b_ext {x y : Int32} (h : ∀ i, i < 32 → bt x i = bt y i) : x = y := Int32.toBitVec_inj.mp (BitVec.eq_of_getLsbD_eq (fun i hi => h i hi))
theorem b_or (x y : Int32) (i : Nat) : bt (x ||| y) i = (bt x i || bt y i) := by unfold bt; rw [Int32.toBitVec_or, BitVec.getLsbD_or]
theorem b_and (x y : Int32) (i : Nat) : bt (x &&& y) i = (bt x i && bt y i) := by unfold bt; rw [Int32.toBitVec_and, BitVec.getLsbD_and]
theorem b_xor (x y : Int32) (i : Nat) : bt (x ^^^ y) i = (bt x i ^^ bt y i) := by unfold bt; rw [Int32.toBitVec_xor, BitVec.getLsbD_xor]
theorem b_big {x : Int32} {i : Nat} (h : 32 ≤ i) : bt x i = false := BitVec.getLsbD_of_ge _ _ h
theorem b_255 (i : Nat) : bt 255 i = decide (i < 8) := by
  rcases Nat.lt_or_ge i 32 with h | h
  · exact (by decide +kernel : ∀ i, i < 32 → bt 255 i = decide (i < 8)) i h
  · rw [b_big h, decide_eq_false (by omega)]
theorem b_65535 (i : Nat) : bt 65535 i = decide (i < 16) := by
  rcases Nat.lt_or_ge i 32 with h | h
  · exact (by decide +kernel : ∀ i, i < 32 → bt 65535 i = decide (i < 16)) i h
  · rw [b_big h, decide_eq_false (by omega)]
theorem b_m1 : ∀ i, i < 32 → bt (-1) i = true := by decide +kernel
theorem b_0 (i : Nat) : bt 0 i = false := BitVec.getLsbD_zero
theorem s_l : ∀ n, n < 32 → ((nI n &&& 31).toBitVec.smod 32).toNat = n := by decide +kernel
theorem s_u : ∀ n, n < 32 → (((nI n).toUInt32 &&& Int32.toUInt32 31).toBitVec % 32).toNat = n := by decide +kernel
theorem b_shl (n : Nat) (hn : n < 32) (x : Int32) {i : Nat} (hi : i < 32) : bt (x <<< (nI n &&& 31)) i = (decide (n ≤ i) && bt x (i - n)) := by
  unfold bt
  rw [Int32.toBitVec_shiftLeft]
  show (x.toBitVec <<< ((nI n &&& 31).toBitVec.smod 32).toNat).getLsbD i = _
  rw [s_l n hn, BitVec.getLsbD_shiftLeft]
  rcases Nat.lt_or_ge i n with h | h
  · simp [h, Nat.not_le.mpr h]
  · simp [hi, h, Nat.not_lt.mpr h]
theorem b_ushr (n : Nat) (hn : n < 32) (x : Int32) (i : Nat) : bt ((x.toUInt32 >>> ((nI n).toUInt32 &&& Int32.toUInt32 31)).toInt32) i = bt x (n + i) := by
  show (x.toUInt32 >>> ((nI n).toUInt32 &&& Int32.toUInt32 31)).toBitVec.getLsbD i = x.toUInt32.toBitVec.getLsbD (n + i)
  rw [UInt32.toBitVec_shiftRight]
  show (x.toUInt32.toBitVec >>> (((nI n).toUInt32 &&& Int32.toUInt32 31).toBitVec % 32).toNat).getLsbD i = _
  rw [s_u n hn, BitVec.getLsbD_ushiftRight]
theorem b_sshr (n : Nat) (hn : n < 32) (x : Int32) {i : Nat} (hi : i < 32) : bt (x >>> (nI n &&& 31)) i = if n + i < 32 then bt x (n + i) else bt x 31 := by
  unfold bt
  rw [Int32.toBitVec_shiftRight]
  show (x.toBitVec.sshiftRight ((nI n &&& 31).toBitVec.smod 32).toNat).getLsbD i = _
  rw [s_l n hn, BitVec.getLsbD_sshiftRight, BitVec.msb_eq_getLsbD_last]
  simp [hi]
theorem b_shl8 (x : Int32) {i : Nat} (hi : i < 32) : bt (x <<< ((8 : Int32) &&& 31)) i = (decide (8 ≤ i) && bt x (i - 8)) := b_shl 8 (by omega) x hi
theorem b_shl16 (x : Int32) {i : Nat} (hi : i < 32) : bt (x <<< ((16 : Int32) &&& 31)) i = (decide (16 ≤ i) && bt x (i - 16)) := b_shl 16 (by omega) x hi
theorem b_shl24 (x : Int32) {i : Nat} (hi : i < 32) : bt (x <<< ((24 : Int32) &&& 31)) i = (decide (24 ≤ i) && bt x (i - 24)) := b_shl 24 (by omega) x hi
theorem b_sshr8 (x : Int32) {i : Nat} (hi : i < 32) : bt (x >>> ((8 : Int32) &&& 31)) i = if 8 + i < 32 then bt x (8 + i) else bt x 31 := b_sshr 8 (by omega) x hi
/-! ===== nI under and, xor, >>>, one bit, 65535 ===== -/
theorem nx_and (a b : Nat) : nI a &&& nI b = nI (a &&& b) := by
  apply Int32.toBitVec_inj.1
  show BitVec.ofNat 32 a &&& BitVec.ofNat 32 b = BitVec.ofNat 32 (a &&& b)
  apply BitVec.eq_of_getLsbD_eq
  intro i hi
  simp [hi]
theorem nx_xor (a b : Nat) : nI a ^^^ nI b = nI (a ^^^ b) := by
  apply Int32.toBitVec_inj.1
  show BitVec.ofNat 32 a ^^^ BitVec.ofNat 32 b = BitVec.ofNat 32 (a ^^^ b)
  apply BitVec.eq_of_getLsbD_eq
  intro i hi
  simp [hi]
theorem nx_cnt : ∀ j : Fin 32, (UInt32.ofNat j.val &&& Int32.toUInt32 31).toNat % 32 = j.val := by decide +kernel
theorem nx_ush {k j : Nat} (hk : k < 65536) (hj : j < 32) : ((nI k).toUInt32 >>> ((nI j).toUInt32 &&& Int32.toUInt32 31)).toInt32 = nI (k >>> j) := by
  have hs : k >>> j ≤ k := by
    rw [Nat.shiftRight_eq_div_pow]
    exact Nat.div_le_self _ _
  have e2 : UInt32.ofNat k >>> (UInt32.ofNat j &&& Int32.toUInt32 31) = UInt32.ofNat (k >>> j) := by
    apply UInt32.toNat_inj.1
    have h1 : (UInt32.ofNat k).toNat = k := Nat.mod_eq_of_lt (by omega)
    have h2 : (UInt32.ofNat (k >>> j)).toNat = k >>> j := Nat.mod_eq_of_lt (by omega)
    rw [UInt32.toNat_shiftRight, nx_cnt ⟨j, hj⟩, h1, h2]
  show (UInt32.ofNat k >>> (UInt32.ofNat j &&& Int32.toUInt32 31)).toInt32 = _
  rw [e2]
  rfl
theorem nx_bit {k j : Nat} (hk : k < 65536) (hj : j < 16) : (((nI k).toUInt32 >>> ((nI j).toUInt32 &&& Int32.toUInt32 31)).toInt32 &&& 1) = 0 ↔ k.testBit j = false := by
  rw [nx_ush hk (by omega)]
  show nI (k >>> j) &&& nI 1 = 0 ↔ _
  rw [nx_and, Nat.and_one_is_mod, ← nI_0, nI_eq (by omega) (by omega), Nat.testBit_eq_decide_div_mod_eq, Nat.shiftRight_eq_div_pow, decide_eq_false_iff_not]
  generalize k / 2 ^ j = z
  omega
theorem nx_mod (k : Nat) : nI k &&& 65535 = nI (k % 65536) := by
  show nI k &&& nI 65535 = _
  rw [nx_and, show (65535 : Nat) = 2 ^ 16 - 1 from rfl, Nat.and_two_pow_sub_one_eq_mod]
theorem nx_m16 {k : Nat} (h : k < 65536) : nI k &&& 65535 = nI k := by rw [nx_mod, Nat.mod_eq_of_lt h]
theorem nx_mask (x : Int32) : ∃ k, k < 65536 ∧ x &&& 65535 = nI k := by
  have e : x = nI x.toBitVec.toNat := by
    apply Int32.toBitVec_inj.1
    show x.toBitVec = BitVec.ofNat 32 x.toBitVec.toNat
    simp
  refine ⟨x.toBitVec.toNat % 65536, Nat.mod_lt _ (by omega), ?_⟩
  rw [← nx_mod, ← e]
/-! ===== Int32 as a set of bits: test, set ===== -/
def nf_M (m : Int32) : Nat := 4294967296 - m.toBitVec.toNat
theorem nf_sh : ∀ l, l < 32 → ((1 : Int32) <<< (nI l &&& 31)).toBitVec = BitVec.twoPow 32 l := by decide +kernel
theorem nf_sl : ∀ l, l < 32 → (((nI l).toUInt32 &&& Int32.toUInt32 31).toBitVec % 32).toNat = l := by decide +kernel
theorem nf_tp : ∀ l, l < 32 → BitVec.twoPow 32 l ≠ 0#32 := by decide +kernel
theorem nf_bit (m : Int32) (l : Nat) (hl : l < 32) : ((m.toUInt32 >>> ((nI l).toUInt32 &&& Int32.toUInt32 31)).toInt32 &&& 1) = 0 ↔ (m &&& ((1 : Int32) <<< (nI l &&& 31))) = 0 := by
  have e : ((m.toUInt32 >>> ((nI l).toUInt32 &&& Int32.toUInt32 31)).toInt32).toBitVec = m.toBitVec >>> l := by
    show m.toBitVec >>> (((nI l).toUInt32 &&& Int32.toUInt32 31).toBitVec % 32) = m.toBitVec >>> l
    rw [BitVec.ushiftRight_eq', nf_sl l hl]
  rw [← Int32.toBitVec_inj, ← Int32.toBitVec_inj, Int32.toBitVec_and, Int32.toBitVec_and, nf_sh l hl, e, BitVec.and_twoPow]
  show (m.toBitVec >>> l &&& 1#32) = 0#32 ↔ _ = 0#32
  rw [BitVec.and_one_eq_setWidth_ofBool_getLsbD, BitVec.getLsbD_ushiftRight, Nat.add_zero]
  cases hb : m.toBitVec.getLsbD l
  · exact ⟨fun _ => by simp, fun _ => by decide⟩
  · exact ⟨fun z => absurd z (by decide), fun z => absurd ((if_pos rfl).symm.trans z) (nf_tp l hl)⟩
theorem nf_gr (m k : Int32) (h : m &&& k = 0) (hk : k ≠ 0) : nf_M (m ||| k) < nf_M m := by
  have hm := m.toBitVec.isLt
  have hm' := (m ||| k).toBitVec.isLt
  have h1 : m.toBitVec.toNat ≤ (m ||| k).toBitVec.toNat := by
    rw [Int32.toBitVec_or, BitVec.toNat_or]
    exact Nat.left_le_or
  have h2 : m.toBitVec.toNat ≠ (m ||| k).toBitVec.toNat := by
    intro e
    have e2 : m = m ||| k := Int32.toBitVec_inj.mp (BitVec.eq_of_toNat_eq e)
    apply hk
    apply Int32.toBitVec_inj.mp
    show k.toBitVec = 0#32
    apply BitVec.eq_of_getLsbD_eq
    intro i hi
    have a : m.toBitVec.getLsbD i = (m.toBitVec.getLsbD i || k.toBitVec.getLsbD i) := by rw [← BitVec.getLsbD_or, ← Int32.toBitVec_or, ← e2]
    have b : (m.toBitVec.getLsbD i && k.toBitVec.getLsbD i) = false := by
      rw [← BitVec.getLsbD_and, ← Int32.toBitVec_and, h]
      exact BitVec.getLsbD_zero
    rw [BitVec.getLsbD_zero]
    revert a b
    cases m.toBitVec.getLsbD i <;> cases k.toBitVec.getLsbD i <;> simp
  unfold nf_M
  omega
/-! ===== a byte read unsigned ===== -/
theorem bp_b (x : Int32) : x.toInt8.toInt32 &&& 255 = x &&& 255 := by
  apply Int32.toBitVec_inj.mp
  rw [Int32.toBitVec_and, Int32.toBitVec_and, Int8.toBitVec_toInt32, Int32.toBitVec_toInt8]
  apply BitVec.eq_of_getLsbD_eq
  intro i hi
  rw [BitVec.getLsbD_and, BitVec.getLsbD_and]
  have hm : ∀ i < 32, 8 ≤ i → (255 : Int32).toBitVec.getLsbD i = false := by decide
  rcases Nat.lt_or_ge i 8 with z | z
  · rw [BitVec.getLsbD_signExtend, BitVec.getLsbD_signExtend, if_pos z, if_pos hi]
    simp only [z, hi, decide_true, Bool.true_and]
  · rw [hm i hi z]; simp
/-! ===== the char cast and 65535 ===== -/
theorem em_w (v : Int32) : ∃ w : Nat, w < 65536 ∧ (v.toUInt32 % 65536).toInt32 = nI w ∧ v &&& 65535 = nI w := by
  have hr := lw_u16_r v
  have h0 : (0 : Int32).toInt = 0 := by decide
  obtain ⟨w, h1, h2⟩ := nI_of (x := lw_u16 v) (by rw [Int32.lt_iff_toInt_lt]; omega)
  have h3 : (v.toUInt32 % 65536).toInt32 = nI w := h2
  rw [h2, nI_toInt h1] at hr
  exact ⟨w, by omega, h3, by rw [← lg_i2c_mask, ← lg_i2c_nf, h3]⟩
/-! ===== Int64 as a set of bits: test, set, clear ===== -/
theorem ts_nf {x : Bool} (h : ¬ x = false) : x = true := by cases x <;> first | rfl | exact absurd rfl h
theorem ts_nt {x : Bool} (h : ¬ x = true) : x = false := by cases x <;> first | rfl | exact absurd rfl h
theorem ts_bit {w : Int64} {s : UInt64} {j : Nat} (hj : j < 64) (hs : s.toNat = j) : ((w.toUInt64 >>> s).toInt64 &&& 1) = 0 ↔ w.toBitVec.getLsbD j = false := by
  have e : (w.toUInt64 >>> s).toInt64.toBitVec = w.toBitVec >>> j := by
    apply BitVec.eq_of_toNat_eq
    show (w.toUInt64 >>> s).toNat = _
    rw [UInt64.toNat_shiftRight, hs, Nat.mod_eq_of_lt hj, BitVec.toNat_ushiftRight]
    rfl
  rw [← Int64.toBitVec_inj, Int64.toBitVec_and, e]
  show w.toBitVec >>> j &&& 1#64 = 0#64 ↔ _
  constructor
  · intro h
    have t := congrArg (fun x => x.getLsbD 0) h
    simpa using t
  · intro h
    apply BitVec.eq_of_getLsbD_eq
    intro i hi
    cases i with
    | zero => simp [h]
    | succ i => simp
theorem ts_or {w m : Int64} {j : Nat} (hj : j < 64) (hm : m.toBitVec = BitVec.twoPow 64 j) : (w ||| m) = w ↔ w.toBitVec.getLsbD j = true := by
  rw [← Int64.toBitVec_inj, Int64.toBitVec_or, hm]
  constructor
  · intro h
    have t := congrArg (fun x => x.getLsbD j) h
    simp only [BitVec.getLsbD_or, BitVec.getLsbD_twoPow] at t
    simpa [hj] using t.symm
  · intro h
    apply BitVec.eq_of_getLsbD_eq
    intro i hi
    rw [BitVec.getLsbD_or, BitVec.getLsbD_twoPow]
    by_cases e : j = i
    · subst e; rw [h, Bool.true_or]
    · simp [e]
theorem ts_and {w m : Int64} {j : Nat} (hj : j < 64) (hm : m.toBitVec = BitVec.twoPow 64 j) : (w &&& (m ^^^ (-1))) = w ↔ w.toBitVec.getLsbD j = false := by
  have ha : (-1 : Int64).toBitVec = BitVec.allOnes 64 := by decide
  rw [← Int64.toBitVec_inj, Int64.toBitVec_and, Int64.toBitVec_xor, hm, ha]
  constructor
  · intro h
    have t := congrArg (fun x => x.getLsbD j) h
    simp only [BitVec.getLsbD_and, BitVec.getLsbD_xor, BitVec.getLsbD_twoPow, BitVec.getLsbD_allOnes] at t
    simpa [hj] using t.symm
  · intro h
    apply BitVec.eq_of_getLsbD_eq
    intro i hi
    rw [BitVec.getLsbD_and, BitVec.getLsbD_xor, BitVec.getLsbD_twoPow, BitVec.getLsbD_allOnes]
    by_cases e : j = i
    · subst e; rw [h, Bool.false_and]
    · simp [e, hi]
/-! ===== lN n to 2^64: shifts, and, or, masks, one bit ===== -/
theorem wb_tb (n : Nat) : (lN n).toBitVec = BitVec.ofNat 64 n := rfl
theorem wb_inj {a b : Int64} (h : a.toBitVec = b.toBitVec) : a = b := Int64.toBitVec_inj.mp h
theorem wb_tn {n : Nat} (h : n < 2 ^ 64) : (lN n).toBitVec.toNat = n := by rw [wb_tb, BitVec.toNat_ofNat, Nat.mod_eq_of_lt h]
theorem wb_of (x : Int64) : ∃ n, n < 2 ^ 64 ∧ x = lN n := ⟨x.toBitVec.toNat, x.toBitVec.isLt, wb_inj (by rw [wb_tb]; simp)⟩
theorem wb_of32 (x : Int32) : ∃ n, n < 2 ^ 32 ∧ x = nI n := ⟨x.toBitVec.toNat, x.toBitVec.isLt, Int32.toBitVec_inj.mp (by show _ = BitVec.ofNat 32 _; simp)⟩
theorem wb_c : ∀ k, k < 64 → ((nI k).toInt64 &&& 63) = lN k := by decide +kernel
theorem wb_cu : ∀ k, k < 64 → ((nI k).toInt64.toUInt64 &&& Int64.toUInt64 63) = UInt64.ofNat k := by decide +kernel
theorem wb_sm : ∀ k, k < 64 → (BitVec.ofNat 64 k).smod 64 = BitVec.ofNat 64 k := by decide +kernel
theorem wb_pw {a b : Nat} (h : a ≤ b) : 2 ^ b = 2 ^ a * 2 ^ (b - a) := by rw [← Nat.pow_add]; congr 1; omega
theorem wb_lt2 {a b : Nat} (h : a < b) : 2 ^ a < 2 ^ b := Nat.pow_lt_pow_right (by decide) h
theorem wb_mod (n : Nat) : lN n = lN (n % 2 ^ 64) := wb_inj (by rw [wb_tb, wb_tb]; apply BitVec.eq_of_toNat_eq; rw [BitVec.toNat_ofNat, BitVec.toNat_ofNat, Nat.mod_mod])
theorem wb_shr {n k : Nat} (hn : n < 2 ^ 64) (hk : k < 64) : ((lN n).toUInt64 >>> ((nI k).toInt64.toUInt64 &&& Int64.toUInt64 63)).toInt64 = lN (n / 2 ^ k) := by
  rw [wb_cu k hk]
  apply wb_inj
  apply BitVec.eq_of_toNat_eq
  show ((lN n).toUInt64 >>> UInt64.ofNat k).toNat = (BitVec.ofNat 64 _).toNat
  have h1 : (UInt64.ofNat k).toNat = k := by
    show (BitVec.ofNat 64 k).toNat = k
    rw [BitVec.toNat_ofNat, Nat.mod_eq_of_lt (by omega)]
  have h2 : (lN n).toUInt64.toNat = n := wb_tn hn
  rw [UInt64.toNat_shiftRight, h1, h2, Nat.mod_eq_of_lt hk, Nat.shiftRight_eq_div_pow, BitVec.toNat_ofNat, Nat.mod_eq_of_lt (Nat.lt_of_le_of_lt (Nat.div_le_self _ _) hn)]
theorem wb_shl (n : Nat) {k : Nat} (hk : k < 64) : lN n <<< ((nI k).toInt64 &&& 63) = lN (n * 2 ^ k) := by
  rw [wb_c k hk]
  apply wb_inj
  rw [Int64.toBitVec_shiftLeft, wb_tb, wb_tb, wb_tb, wb_sm k hk]
  apply BitVec.eq_of_toNat_eq
  rw [BitVec.shiftLeft_eq', BitVec.toNat_shiftLeft, BitVec.toNat_ofNat, BitVec.toNat_ofNat, BitVec.toNat_ofNat, Nat.mod_eq_of_lt (show k < 2 ^ 64 by omega), Nat.shiftLeft_eq, Nat.mul_mod, Nat.mod_mod, ← Nat.mul_mod]
theorem wb_and {a b : Nat} (ha : a < 2 ^ 64) (hb : b < 2 ^ 64) : lN a &&& lN b = lN (a &&& b) := by
  apply wb_inj
  rw [Int64.toBitVec_and, wb_tb, wb_tb, wb_tb]
  apply BitVec.eq_of_toNat_eq
  rw [BitVec.toNat_and, BitVec.toNat_ofNat, BitVec.toNat_ofNat, BitVec.toNat_ofNat, Nat.mod_eq_of_lt ha, Nat.mod_eq_of_lt hb, Nat.mod_eq_of_lt (Nat.and_lt_two_pow _ hb)]
theorem wb_or {a b : Nat} (ha : a < 2 ^ 64) (hb : b < 2 ^ 64) : lN a ||| lN b = lN (a ||| b) := by
  apply wb_inj
  rw [Int64.toBitVec_or, wb_tb, wb_tb, wb_tb]
  apply BitVec.eq_of_toNat_eq
  rw [BitVec.toNat_or, BitVec.toNat_ofNat, BitVec.toNat_ofNat, BitVec.toNat_ofNat, Nat.mod_eq_of_lt ha, Nat.mod_eq_of_lt hb, Nat.mod_eq_of_lt (Nat.or_lt_two_pow ha hb)]
theorem wb_mask {n k : Nat} (hn : n < 2 ^ 64) (hk : k < 64) : lN n &&& lN (2 ^ k - 1) = lN (n % 2 ^ k) := by
  rw [wb_and hn (by have := wb_lt2 hk; omega), Nat.and_two_pow_sub_one_eq_mod]
theorem wb_a1 {n : Nat} (hn : n < 2 ^ 64) : lN n &&& 1 = lN (n % 2) := wb_mask (k := 1) hn (by decide)
theorem wb_bit {n k : Nat} (hn : n < 2 ^ 64) (hk : k < 64) : ((lN n).toUInt64 >>> ((nI k).toInt64.toUInt64 &&& Int64.toUInt64 63)).toInt64 &&& 1 = lN (n / 2 ^ k % 2) := by
  rw [wb_shr hn hk, wb_a1 (Nat.lt_of_le_of_lt (Nat.div_le_self _ _) hn)]
theorem wb_xor {q k : Nat} (hk : k < 63) (h : 2 ^ k ≤ q) (h2 : q < 2 ^ (k + 1)) : lN q ^^^ lN (2 ^ k) = lN (q - 2 ^ k) := by
  obtain ⟨r, rfl⟩ : ∃ r, q = 2 ^ k + r := ⟨q - 2 ^ k, by omega⟩
  have hr : r < 2 ^ k := by rw [Nat.pow_succ] at h2; omega
  have hx : (2 ^ k + r) ^^^ 2 ^ k = r := by
    apply Nat.eq_of_testBit_eq
    intro i
    rw [Nat.testBit_xor, Nat.testBit_two_pow]
    rcases Nat.lt_trichotomy i k with h | h | h
    · rw [Nat.testBit_two_pow_add_gt h]
      simp [show ¬ k = i by omega]
    · subst h
      rw [Nat.testBit_two_pow_add_eq]
      simp
    · have a1 : 2 ^ (k + 1) ≤ 2 ^ i := Nat.pow_le_pow_right (by decide) h
      rw [Nat.testBit_lt_two_pow (show 2 ^ k + r < 2 ^ i by omega), Nat.testBit_lt_two_pow (show r < 2 ^ i by omega)]
      simp [show ¬ k = i by omega]
  have b1 := wb_lt2 (show k + 1 < 64 by omega)
  have b2 := wb_lt2 (show k < 64 by omega)
  apply wb_inj
  rw [Int64.toBitVec_xor, wb_tb, wb_tb, wb_tb]
  apply BitVec.eq_of_toNat_eq
  rw [BitVec.toNat_xor, BitVec.toNat_ofNat, BitVec.toNat_ofNat, BitVec.toNat_ofNat, Nat.mod_eq_of_lt (by omega : 2 ^ k + r < 2 ^ 64), Nat.mod_eq_of_lt b2, hx, Nat.add_sub_cancel_left, Nat.mod_eq_of_lt (by omega)]
/-! ===== lN: masks, 'or' of parts that don't overlap is a sum ===== -/
theorem u_tn {n : Nat} (h : n < 2 ^ 64) : (UInt64.ofNat n).toNat = n := Nat.mod_eq_of_lt h
theorem g_and {a b c : Nat} (ha : a < 2 ^ 64) (hb : b < 2 ^ 64) (hc : a &&& b = c) : lN a &&& lN b = lN c := by
  subst hc
  have h : UInt64.ofNat a &&& UInt64.ofNat b = UInt64.ofNat (a &&& b) := UInt64.toNat_inj.mp (by rw [UInt64.toNat_and, u_tn ha, u_tn hb, u_tn (Nat.and_lt_two_pow a hb)])
  have h2 := congrArg UInt64.toInt64 h
  exact h2
theorem g_and1 {a : Nat} (ha : a < 2 ^ 64) : lN a &&& 1 = lN (a % 2) := g_and (b := 1) ha (by decide) (Nat.and_two_pow_sub_one_eq_mod a 1)
theorem g_mask {a s p : Nat} (hp : 2 ^ s = p) (hs : s < 64) (ha : a < 2 ^ 64) : lN a &&& lN (p - 1) = lN (a % p) := by
  subst hp
  have := Nat.pow_lt_pow_right (show 1 < 2 by decide) hs
  exact g_and ha (by omega) (Nat.and_two_pow_sub_one_eq_mod a s)
theorem g_or {k p a b : Nat} (hp : 2 ^ k = p) (ha : a < p) (h : b * p + a < 2 ^ 64) : lN (b * p) ||| lN a = lN (b * p + a) := by
  subst hp
  have h1 : b * 2 ^ k ||| a = b * 2 ^ k + a := by rw [← Nat.shiftLeft_eq, Nat.shiftLeft_add_eq_or_of_lt ha]
  have h3 : UInt64.ofNat (b * 2 ^ k) ||| UInt64.ofNat a = UInt64.ofNat (b * 2 ^ k + a) := UInt64.toNat_inj.mp (by rw [UInt64.toNat_or, u_tn (by omega), u_tn (by omega), u_tn h, h1])
  have h2 := congrArg UInt64.toInt64 h3
  exact h2
theorem g_or' {k p a b : Nat} (hp : 2 ^ k = p) (ha : a < p) (h : a + b * p < 2 ^ 64) : lN a ||| lN (b * p) = lN (a + b * p) := by
  rw [Int64.or_comm, g_or hp ha (by omega), Nat.add_comm]
theorem g_ushr {a k p : Nat} {y : UInt64} (hy : y = UInt64.ofNat k) (hk : k < 64) (hp : 2 ^ k = p) (ha : a < 2 ^ 64) : ((lN a).toUInt64 >>> y).toInt64 = lN (a / p) := by
  subst hy hp
  have h : UInt64.ofNat a >>> UInt64.ofNat k = UInt64.ofNat (a / 2 ^ k) := UInt64.toNat_inj.mp (by rw [UInt64.toNat_shiftRight, u_tn ha, u_tn (by omega), u_tn (Nat.lt_of_le_of_lt (Nat.div_le_self _ _) ha), Nat.mod_eq_of_lt hk, Nat.shiftRight_eq_div_pow])
  have h2 := congrArg UInt64.toInt64 h
  exact h2
theorem g_shl {a k p : Nat} {y : Int64} (hy : y.toBitVec.smod 64 = BitVec.ofNat 64 k) (hk : k < 64) (hp : 2 ^ k = p) (ha : a < 2 ^ 64) : lN a <<< y = lN (a * p) := by
  subst hp
  apply Int64.toBitVec_inj.mp
  rw [Int64.toBitVec_shiftLeft, hy]
  apply BitVec.eq_of_toNat_eq
  have hb : (lN a).toBitVec.toNat = a := Nat.mod_eq_of_lt ha
  have hk' : (BitVec.ofNat 64 k).toNat = k := Nat.mod_eq_of_lt (by omega)
  have h : ((lN a).toBitVec <<< BitVec.ofNat 64 k).toNat = (a * 2 ^ k) % 2 ^ 64 := by simp only [BitVec.shiftLeft_eq', BitVec.toNat_shiftLeft, hb, hk', Nat.shiftLeft_eq]
  exact h
/-! ===== lN to 2^62 under >> and >>> ===== -/
theorem pf_lI {a : Nat} (h : a < 2 ^ 63) : (lN a).toInt = (a : Int) := lg_ofNat_toInt h
theorem pf_shr {a d : Nat} {D : Int64} (hD : (D.toBitVec.smod 64).toNat = d) (h : a < 2 ^ 62) : lN a >>> D = lN (a / 2 ^ d) := by
  have hd : a / 2 ^ d ≤ a := Nat.div_le_self _ _
  apply Int64.toInt_inj.mp
  have e : (lN a >>> D).toInt = (lN a).toInt >>> d := by
    rw [← hD]
    exact BitVec.toInt_sshiftRight ..
  rw [e, Int.shiftRight_eq_div_pow, pf_lI (by omega), pf_lI (by omega)]
  rfl
theorem pf_ushr {a d : Nat} {D : UInt64} (hD : D.toNat % 64 = d) (h : a < 2 ^ 62) : ((lN a).toUInt64 >>> D).toInt64 = lN (a / 2 ^ d) := by
  have hd : a / 2 ^ d ≤ a := Nat.div_le_self _ _
  have e : (lN a).toUInt64 >>> D = UInt64.ofNat (a / 2 ^ d) := UInt64.toNat_inj.mp (by
    rw [UInt64.toNat_shiftRight, hD, Nat.shiftRight_eq_div_pow, UInt64.toNat_ofNat']
    show (UInt64.ofNat a).toNat / 2 ^ d = _
    rw [UInt64.toNat_ofNat', Nat.mod_eq_of_lt (by omega), Nat.mod_eq_of_lt (by omega)])
  rw [e]
  rfl
theorem pf_andw (x : Int64) : ∃ m, m < 2 ^ 32 ∧ x &&& 4294967295 = lN m := ⟨x.toBitVec.toNat % 2 ^ 32, Nat.mod_lt _ (by decide), Int64.toBitVec_inj.mp (BitVec.eq_of_toNat_eq (by
  show (x.toBitVec &&& 4294967295#64).toNat = (BitVec.ofNat 64 (x.toBitVec.toNat % 2 ^ 32)).toNat
  rw [BitVec.toNat_and, show (4294967295#64).toNat = 2 ^ 32 - 1 from by decide, Nat.and_two_pow_sub_one_eq_mod, BitVec.toNat_ofNat]
  omega))⟩
/-! ===== Int64 as an unsigned number: uN x ===== -/
def uN (x : Int64) : Nat := x.toUInt64.toNat
theorem uN_lt (x : Int64) : uN x < 18446744073709551616 := x.toUInt64.toNat_lt
theorem uN_inj {x y : Int64} (h : uN x = uN y) : x = y := congrArg UInt64.toInt64 (UInt64.toNat_inj.mp h)
theorem uN_add (x y : Int64) : uN (x + y) = (uN x + uN y) % 18446744073709551616 := by
  show (x.toUInt64 + y.toUInt64).toNat = _
  exact UInt64.toNat_add _ _
theorem uN_mul (x y : Int64) : uN (x * y) = (uN x * uN y) % 18446744073709551616 := by
  show (x.toUInt64 * y.toUInt64).toNat = _
  exact UInt64.toNat_mul _ _
theorem uN_shl (x : Int64) : uN (x <<< ((1 : Int32).toInt64 &&& 63)) = (2 * uN x) % 18446744073709551616 := by
  have h : (((1 : Int32).toInt64 &&& 63).toBitVec.smod 64).toNat = 1 := by decide
  show (x.toBitVec <<< (((1 : Int32).toInt64 &&& 63).toBitVec.smod 64).toNat).toNat = _
  rw [h, BitVec.toNat_shiftLeft, Nat.shiftLeft_eq, Nat.mul_comm]
  rfl
theorem uN_shr (x : Int64) (s : UInt64) : uN (x.toUInt64 >>> s).toInt64 = uN x / 2 ^ (s.toNat % 64) := by
  show (x.toUInt64 >>> s).toNat = _
  rw [UInt64.toNat_shiftRight, Nat.shiftRight_eq_div_pow]
  rfl
theorem uN_s32 (x : Int64) : uN (x.toUInt64 >>> ((32 : Int32).toInt64.toUInt64 &&& Int64.toUInt64 63)).toInt64 = uN x / 4294967296 := by
  have h : ((32 : Int32).toInt64.toUInt64 &&& Int64.toUInt64 63).toNat % 64 = 32 := by decide
  rw [uN_shr, h]
theorem uN_s63 (x : Int64) : uN (x.toUInt64 >>> ((63 : Int32).toInt64.toUInt64 &&& Int64.toUInt64 63)).toInt64 = uN x / 9223372036854775808 := by
  have h : ((63 : Int32).toInt64.toUInt64 &&& Int64.toUInt64 63).toNat % 64 = 63 := by decide
  rw [uN_shr, h]
theorem uN_lo (x : Int64) : uN (x &&& 4294967295) = uN x % 4294967296 := by
  show (x.toUInt64 &&& Int64.toUInt64 4294967295).toNat = _
  rw [UInt64.toNat_and]
  exact Nat.and_two_pow_sub_one_eq_mod _ 32
theorem uN_bit (x : Int64) : (x &&& 1) = 0 ↔ uN x % 2 = 0 := by
  have h : uN (x &&& 1) = uN x % 2 := by
    show (x.toUInt64 &&& Int64.toUInt64 1).toNat = _
    rw [UInt64.toNat_and]
    exact Nat.and_two_pow_sub_one_eq_mod _ 1
  rw [← h]
  exact ⟨fun z => by rw [z]; rfl, fun z => uN_inj (z.trans rfl)⟩
theorem uN_or {x y : Int64} (hy : uN y < 2) : uN ((x <<< ((1 : Int32).toInt64 &&& 63)) ||| y) = (2 * uN x) % 18446744073709551616 + uN y := by
  have h1 : uN ((x <<< ((1 : Int32).toInt64 &&& 63)) ||| y) = uN (x <<< ((1 : Int32).toInt64 &&& 63)) ||| uN y := UInt64.toNat_or _ _
  have h2 : (2 * uN x) % 18446744073709551616 = 2 ^ 1 * (uN x % 9223372036854775808) := by omega
  rw [h1, uN_shl, h2]
  exact (Nat.two_pow_add_eq_or_of_lt (i := 1) hy _).symm
theorem nat_xor {a : Nat} (h : a < 18446744073709551616) : a ^^^ 2 ^ 63 = (a + 9223372036854775808) % 18446744073709551616 := by
  have h1 : (a ^^^ 2 ^ 63) % 2 ^ 63 = a % 2 ^ 63 := by rw [Nat.xor_mod_two_pow, Nat.mod_self, Nat.xor_zero]
  have h2 : (a ^^^ 2 ^ 63) / 2 ^ 63 = (a / 2 ^ 63) ^^^ 1 := by rw [Nat.xor_div_two_pow, Nat.div_self (Nat.two_pow_pos 63)]
  have h3 : a / 2 ^ 63 = 0 ∨ a / 2 ^ 63 = 1 := by omega
  generalize a ^^^ 2 ^ 63 = t at h1 h2
  rcases h3 with h3 | h3
  · rw [h3] at h2
    have h2 : t / 2 ^ 63 = 1 := h2
    omega
  · rw [h3] at h2
    have h2 : t / 2 ^ 63 = 0 := h2
    omega
theorem uN_xor (x : Int64) : uN (x ^^^ (-9223372036854775808)) = (uN x + 9223372036854775808) % 18446744073709551616 := by
  rw [← nat_xor (uN_lt x)]
  exact UInt64.toNat_xor _ _
theorem uN_int (x : Int64) : x.toInt = if 2 * uN x < 18446744073709551616 then (uN x : Int) else (uN x : Int) - 18446744073709551616 := BitVec.toInt_eq_toNat_cond _
theorem uN_le (x y : Int64) : (x ^^^ (-9223372036854775808)) ≤ (y ^^^ (-9223372036854775808)) ↔ uN x ≤ uN y := by
  have hx := uN_lt x
  have hy := uN_lt y
  rw [Int64.le_iff_toInt_le, uN_int, uN_int, uN_xor, uN_xor]
  omega
theorem uN_sk (x : Int64) {k : Nat} (hk : k < 64) : uN (x.toUInt64 >>> ((nI k).toInt64.toUInt64 &&& Int64.toUInt64 63)).toInt64 = uN x / 2 ^ k := by
  have h : ((nI k).toInt64.toUInt64 &&& Int64.toUInt64 63).toNat % 64 = k := by
    rw [nI_l (by omega), UInt64.toNat_and]
    have e : (lN k).toUInt64.toNat = k % 2 ^ 64 := rfl
    have e2 : (Int64.toUInt64 63).toNat = 2 ^ 6 - 1 := by decide
    rw [e, e2, Nat.and_two_pow_sub_one_eq_mod]
    omega
  rw [uN_shr, h]
/-! ===== unsigned comparison by xor with the least ===== -/
theorem lN_bv (n : Nat) : (lN n).toBitVec = BitVec.ofNat 64 n := rfl
theorem lN_nat {n : Nat} (h : n < 2 ^ 64) : (lN n).toBitVec.toNat = n := by rw [lN_bv, BitVec.toNat_ofNat]; exact Nat.mod_eq_of_lt h
theorem lN_xor (a b : Nat) : lN a ^^^ lN b = lN (a ^^^ b) := by
  apply Int64.toBitVec_inj.mp; rw [Int64.toBitVec_xor, lN_bv, lN_bv, lN_bv]; apply BitVec.eq_of_getLsbD_eq; intro i hi; simp [BitVec.getLsbD_ofNat, Nat.testBit_xor, hi]
theorem lN_ti {m : Nat} (h : m < 2 ^ 64) : (lN m).toInt = if m < 2 ^ 63 then (m : Int) else (m : Int) - 2 ^ 64 := by
  have c := BitVec.toInt_eq_toNat_cond (lN m).toBitVec
  rw [lN_nat h] at c
  show (lN m).toBitVec.toInt = _
  rw [c]
  split <;> split <;> omega
theorem xor63 {x : Nat} (h : x < 2 ^ 63) : x ^^^ 2 ^ 63 = 2 ^ 63 + x := by
  apply Nat.eq_of_testBit_eq
  intro i
  rw [Nat.testBit_xor, Nat.testBit_two_pow]
  rcases Nat.lt_trichotomy i 63 with z | z | z
  · rw [Nat.testBit_two_pow_add_gt z, decide_eq_false (by omega)]; simp
  · subst z; rw [Nat.testBit_two_pow_add_eq]; simp
  · have hp : 2 ^ 64 ≤ 2 ^ i := Nat.pow_le_pow_right (by decide) z
    rw [Nat.testBit_lt_two_pow (show x < 2 ^ i by omega), Nat.testBit_lt_two_pow (show 2 ^ 63 + x < 2 ^ i by omega), decide_eq_false (by omega)]; rfl
theorem xorS {a : Nat} (h : a < 2 ^ 64) : (lN a ^^^ (-9223372036854775808)).toInt = (a : Int) - 2 ^ 63 := by
  rw [show (-9223372036854775808 : Int64) = lN (2 ^ 63) from by decide +kernel, lN_xor]
  rcases Nat.lt_or_ge a (2 ^ 63) with z | z
  · rw [xor63 z, lN_ti (by omega), if_neg (by omega)]; omega
  · obtain ⟨x, rfl⟩ : ∃ x, a = 2 ^ 63 + x := ⟨a - 2 ^ 63, by omega⟩
    rw [← xor63 (by omega), Nat.xor_assoc, Nat.xor_self, Nat.xor_zero, lN_ti (by omega), if_pos (by omega), xor63 (by omega)]; omega
theorem ultL {a b : Nat} (ha : a < 2 ^ 64) (hb : b < 2 ^ 64) : ((lN b ^^^ (-9223372036854775808)) ≤ (lN a ^^^ (-9223372036854775808))) ↔ b ≤ a := by
  rw [Int64.le_iff_toInt_le, xorS ha, xorS hb]; omega
/-! ===== Int64 masks of n low bits ===== -/
theorem cr_bits (W U M : BitVec 64) : ((W &&& U) &&& (U &&& (M ^^^ BitVec.allOnes 64))) = 0#64 ↔ (W &&& U) &&& M = W &&& U := by
  constructor
  · intro h
    apply BitVec.eq_of_getLsbD_eq
    intro i hi
    have e := congrArg (fun x => BitVec.getLsbD x i) h
    simp only [BitVec.getLsbD_and, BitVec.getLsbD_xor, BitVec.getLsbD_allOnes, BitVec.getLsbD_zero, hi, decide_true] at e ⊢
    revert e
    cases W.getLsbD i <;> cases U.getLsbD i <;> cases M.getLsbD i <;> decide
  · intro h
    apply BitVec.eq_of_getLsbD_eq
    intro i hi
    have e := congrArg (fun x => BitVec.getLsbD x i) h
    simp only [BitVec.getLsbD_and, BitVec.getLsbD_xor, BitVec.getLsbD_allOnes, BitVec.getLsbD_zero, hi, decide_true] at e ⊢
    revert e
    cases W.getLsbD i <;> cases U.getLsbD i <;> cases M.getLsbD i <;> decide
theorem cr_mask (w U m : Int64) (n : Nat) (hm : m.toBitVec.toNat = 2 ^ n - 1) : ((w &&& U) &&& (U &&& (m ^^^ (-1)))) = 0 ↔ (w &&& U).toBitVec.toNat < 2 ^ n := by
  have e0 : (-1 : Int64).toBitVec = BitVec.allOnes 64 := by decide
  have z0 : (0 : Int64).toBitVec = 0#64 := by decide
  rw [← Int64.toBitVec_inj, z0, Int64.toBitVec_and, Int64.toBitVec_and, Int64.toBitVec_and, Int64.toBitVec_xor, e0, cr_bits]
  generalize w.toBitVec &&& U.toBitVec = T
  rw [← BitVec.toNat_inj, BitVec.toNat_and, hm, Nat.and_two_pow_sub_one_eq_mod]
  constructor
  · intro h
    have t := Nat.mod_lt T.toNat (Nat.two_pow_pos n)
    rw [h] at t
    exact t
  · exact Nat.mod_eq_of_lt
theorem cr_shr (t : Int64) (x : UInt64) (n : Nat) (hx : x.toNat % 64 = n) : (t.toUInt64 >>> x).toInt64 = 0 ↔ t.toBitVec.toNat < 2 ^ n := by
  rw [← Int64.toBitVec_inj, ← BitVec.toNat_inj]
  show (t.toUInt64 >>> x).toNat = 0 ↔ t.toUInt64.toNat < 2 ^ n
  rw [UInt64.toNat_shiftRight, hx, Nat.shiftRight_eq_div_pow]
  constructor
  · intro h
    have d : t.toUInt64.toNat / 2 ^ n < 1 := by
      rw [h]
      decide
    have e := (Nat.div_lt_iff_lt_mul (Nat.two_pow_pos n)).mp d
    rw [Nat.one_mul] at e
    exact e
  · exact Nat.div_eq_of_lt
theorem cr_amt (s : Int64) : ∃ n, n < 64 ∧ s &&& 63 = lN n ∧ (s.toUInt64 &&& Int64.toUInt64 63).toNat % 64 = n := by
  have e : (s.toUInt64 &&& Int64.toUInt64 63).toNat = s.toUInt64.toNat % 2 ^ 6 := by
    rw [UInt64.toNat_and, show (Int64.toUInt64 63).toNat = 2 ^ 6 - 1 from by decide, Nat.and_two_pow_sub_one_eq_mod]
  refine ⟨s.toUInt64.toNat % 2 ^ 6, by omega, ?_, by omega⟩
  rw [← Int64.toBitVec_inj, ← BitVec.toNat_inj]
  show (s.toUInt64 &&& Int64.toUInt64 63).toNat = (BitVec.ofNat 64 (s.toUInt64.toNat % 2 ^ 6)).toNat
  rw [e, BitVec.toNat_ofNat]
  omega
end
section
/-! basics: counts, bits, first index, the program's shape -/
noncomputable def sf_b01 (P : Prop) : Nat := @ite Nat P (Classical.propDecidable P) 1 0
theorem sf_b01t {P : Prop} (h : P) : sf_b01 P = 1 := by unfold sf_b01; rw [if_pos h]
theorem sf_b01f {P : Prop} (h : ¬ P) : sf_b01 P = 0 := by unfold sf_b01; rw [if_neg h]
theorem sf_b01le (P : Prop) : sf_b01 P ≤ 1 := by
  rcases Classical.em P with h | h
  · rw [sf_b01t h]; omega
  · rw [sf_b01f h]; omega
theorem sf_b01m {P Q : Prop} (h : P → Q) : sf_b01 P ≤ sf_b01 Q := by
  rcases Classical.em P with hp | hp
  · rw [sf_b01t hp, sf_b01t (h hp)]; omega
  · rw [sf_b01f hp]; omega
noncomputable def sf_cn (P : Nat → Prop) : Nat → Nat
  | 0 => 0
  | k + 1 => sf_cn P k + sf_b01 (P k)
theorem sf_cn_mono {P Q : Nat → Prop} : ∀ {N : Nat}, (∀ k, k < N → P k → Q k) → sf_cn P N ≤ sf_cn Q N
  | 0, _ => Nat.le_refl _
  | N + 1, h => by
    have a := sf_cn_mono (P := P) (Q := Q) (N := N) (fun k hk => h k (by omega))
    have b := sf_b01m (h N (by omega))
    simp only [sf_cn]; omega
theorem sf_cn_lt {P Q : Nat → Prop} {a : Nat} (hp : ¬ P a) (hq : Q a) : ∀ {N : Nat}, (∀ k, k < N → P k → Q k) → a < N → sf_cn P N < sf_cn Q N
  | 0, _, h => by omega
  | N + 1, h, ha => by
    simp only [sf_cn]
    rcases Nat.lt_or_ge a N with z | z
    · have x := sf_cn_lt hp hq (N := N) (fun k hk => h k (by omega)) z
      have b := sf_b01m (h N (by omega))
      omega
    · have e : a = N := by omega
      subst e
      have x := sf_cn_mono (P := P) (Q := Q) (N := a) (fun k hk => h k (by omega))
      rw [sf_b01t hq, sf_b01f hp]; omega
theorem sf_cn_le (P : Nat → Prop) : ∀ N, sf_cn P N ≤ N
  | 0 => Nat.le_refl _
  | N + 1 => by have := sf_cn_le P N; have := sf_b01le (P N); simp only [sf_cn]; omega
theorem sf_cn_eq {P Q : Nat → Prop} {N : Nat} (h : ∀ k, k < N → (P k ↔ Q k)) : sf_cn P N = sf_cn Q N :=
  Nat.le_antisymm (sf_cn_mono fun k hk => (h k hk).mp) (sf_cn_mono fun k hk => (h k hk).mpr)
theorem sf_cn_add {P : Nat → Prop} {a : Nat} (hp : ¬ P a) : ∀ {N : Nat}, a < N → sf_cn (fun k => P k ∨ k = a) N = sf_cn P N + 1
  | 0, h => by omega
  | N + 1, h => by
    simp only [sf_cn]
    rcases Nat.lt_or_ge a N with z | z
    · rw [sf_cn_add hp z]
      have : sf_b01 (P N ∨ N = a) = sf_b01 (P N) := Nat.le_antisymm (sf_b01m fun q => q.elim id (fun e => by omega)) (sf_b01m Or.inl)
      omega
    · have e : a = N := by omega
      subst e
      rw [sf_cn_eq (P := fun k => P k ∨ k = a) (Q := P) (fun k hk => ⟨fun q => q.elim id (fun e => by omega), Or.inl⟩), sf_b01t (Or.inr rfl), sf_b01f hp]
theorem sf_cn_all {P : Nat → Prop} {N : Nat} (h : ∀ k, k < N → P k) : sf_cn P N = N := by
  induction N with
  | zero => rfl
  | succ N ih => simp only [sf_cn]; rw [ih (fun k hk => h k (by omega)), sf_b01t (h N (by omega))]
theorem sf_cn_full {P : Nat → Prop} {N : Nat} (h : sf_cn P N = N) : ∀ k, k < N → P k := by
  intro k hk
  apply Classical.byContradiction
  intro hn
  have := sf_cn_lt (P := P) (Q := fun _ => True) hn trivial (N := N) (fun _ _ _ => trivial) hk
  have := sf_cn_le (fun _ => True) N
  omega
theorem sf_cn_pos {P : Nat → Prop} {N a : Nat} (ha : a < N) (h : P a) : 0 < sf_cn P N := by
  have := sf_cn_lt (P := fun _ => False) (Q := P) (a := a) id h (N := N) (fun _ _ z => z.elim) ha
  omega
theorem sf_cn_z {N : Nat} : sf_cn (fun _ => False) N = 0 := by
  induction N with
  | zero => rfl
  | succ N ih => simp only [sf_cn]; rw [ih, sf_b01f id]
/-! bits -/
theorem sf_b1 (i : Nat) : bt 1 i = decide (i = 0) := by
  rcases Nat.lt_or_ge i 32 with h | h
  · exact (by decide +kernel : ∀ i, i < 32 → bt 1 i = decide (i = 0)) i h
  · rw [b_big h, decide_eq_false (by omega)]
theorem sf_b24 {i : Nat} (h : i < 32) : bt 16777216 i = decide (i = 24) :=
  (by decide +kernel : ∀ i, i < 32 → bt 16777216 i = decide (i = 24)) i h
theorem sf_z {x : Int32} (h : ∀ i, i < 32 → bt x i = false) : x = 0 := b_ext (fun i hi => by rw [h i hi, b_0])
theorem sf_nz {x : Int32} {i : Nat} (h : bt x i = true) : ¬ x = 0 := fun e => by rw [e, b_0] at h; exact absurd h (by decide)
theorem sf_lt32 {x : Int32} {i : Nat} (h : bt x i = true) : i < 32 := by
  rcases Nat.lt_or_ge i 32 with z | z
  · exact z
  · rw [b_big z] at h; exact absurd h (by decide)
theorem sf_zi {x : Int32} : x = 0 ↔ ∀ i, i < 32 → bt x i = false := ⟨fun e i _ => by rw [e, b_0], sf_z⟩
theorem sf_nzi {x : Int32} (h : ¬ x = 0) : ∃ i, i < 32 ∧ bt x i = true := by
  apply Classical.byContradiction
  intro hn
  exact h (sf_z (fun i hi => by
    cases hb : bt x i with
    | false => rfl
    | true => exact absurd ⟨i, hi, hb⟩ hn))
theorem sf_tv (x : Int32) {n : Nat} (hn : n < 32) : ((x.toUInt32 >>> ((nI n).toUInt32 &&& Int32.toUInt32 31)).toInt32 &&& 1) = if bt x n = true then 1 else 0 := by
  apply b_ext
  intro i hi
  rw [b_and, b_ushr n hn, sf_b1]
  by_cases h0 : i = 0
  · subst h0
    cases h : bt x n <;> simp [h, b_0, sf_b1]
  · cases h : bt x n <;> simp [h0, b_0, sf_b1]
theorem sf_t1 {x : Int32} {n : Nat} (hn : n < 32) (h : bt x n = true) : ¬ ((x.toUInt32 >>> ((nI n).toUInt32 &&& Int32.toUInt32 31)).toInt32 &&& 1) = 0 := by
  rw [sf_tv x hn, if_pos h]; decide
theorem sf_t0 {x : Int32} {n : Nat} (hn : n < 32) (h : ¬ bt x n = true) : ((x.toUInt32 >>> ((nI n).toUInt32 &&& Int32.toUInt32 31)).toInt32 &&& 1) = 0 := by
  rw [sf_tv x hn, if_neg h]
theorem sf_ti (x : Int32) {n : Nat} (hn : n < 32) : ((x.toUInt32 >>> ((nI n).toUInt32 &&& Int32.toUInt32 31)).toInt32 &&& 1) = 0 ↔ ¬ bt x n = true :=
  ⟨fun h hb => sf_t1 hn hb h, sf_t0 hn⟩
/-- a branch on a bit -/
theorem sf_bb {x : Int32} {n : Nat} {P Q : Prop} (hn : n < 32) (f : ¬ bt x n = true → P) (g : bt x n = true → Q) :
    (((x.toUInt32 >>> ((nI n).toUInt32 &&& Int32.toUInt32 31)).toInt32 &&& 1) = 0 → P) ∧ (¬ ((x.toUInt32 >>> ((nI n).toUInt32 &&& Int32.toUInt32 31)).toInt32 &&& 1) = 0 → Q) :=
  ⟨fun h => f ((sf_ti x hn).mp h), fun h => g (Classical.byContradiction fun z => h (sf_t0 hn z))⟩
theorem sf_one {n i : Nat} (hn : n < 32) (hi : i < 32) : bt ((1 : Int32) <<< (nI n &&& 31)) i = decide (i = n) := by
  rw [b_shl n hn 1 hi, sf_b1, Bool.eq_iff_iff]
  simp only [Bool.and_eq_true, decide_eq_true_eq]
  omega
theorem sf_cpl (x : Int32) {i : Nat} (hi : i < 32) : bt (x ^^^ (-1)) i = !bt x i := by
  rw [b_xor, b_m1 i hi]; cases bt x i <;> rfl
theorem sf_set (x : Int32) {n i : Nat} (hn : n < 32) : bt (x ||| ((1 : Int32) <<< (nI n &&& 31))) i = true ↔ (bt x i = true ∨ i = n) := by
  rcases Nat.lt_or_ge i 32 with hi | hi
  · rw [b_or, sf_one hn hi]; simp
  · rw [b_big hi, b_big hi]; simp; omega
theorem sf_clr (x : Int32) {n i : Nat} (hn : n < 32) : bt (x &&& (((1 : Int32) <<< (nI n &&& 31)) ^^^ (-1))) i = true ↔ (bt x i = true ∧ i ≠ n) := by
  rcases Nat.lt_or_ge i 32 with hi | hi
  · rw [b_and, sf_cpl _ hi, sf_one hn hi]; simp
  · rw [b_big hi, b_big hi]; simp
theorem sf_oneb {n i : Nat} (hn : n < 32) : bt ((1 : Int32) <<< (nI n &&& 31)) i = true ↔ i = n := by
  rcases Nat.lt_or_ge i 32 with hi | hi
  · rw [sf_one hn hi]; simp
  · rw [b_big hi]; simp; omega
theorem sf_p2s : ∀ n, n < 32 → (((1 : Int32) <<< (nI n &&& 31)) &&& (((1 : Int32) <<< (nI n &&& 31)) - 1)) = 0 := by decide +kernel
theorem sf_p2a {x : Int32} {i j : Nat} (hij : i < j) (hi : bt x i = true) (hj : bt x j = true) : ¬ (x &&& (x - 1)) = 0 := by
  have hj32 := sf_lt32 hj
  apply sf_nz (i := j)
  rw [b_and, hj, Bool.true_and]
  have ei : x.toBitVec.toNat.testBit i = true := hi
  have ej : x.toBitVec.toNat.testBit j = true := hj
  show (x - 1).toBitVec.toNat.testBit j = true
  have e1 : (x - 1).toBitVec = x.toBitVec - 1#32 := rfl
  have hm : x.toBitVec.toNat < 2 ^ 32 := x.toBitVec.isLt
  rw [e1, BitVec.toNat_sub]
  generalize x.toBitVec.toNat = m at *
  have hr : (m % 2 ^ j).testBit i = true := by rw [Nat.testBit_mod_two_pow]; simp [hij, ei]
  have hr0 : m % 2 ^ j ≠ 0 := fun z => by rw [z, Nat.zero_testBit] at hr; exact absurd hr (by decide)
  have hd := Nat.div_add_mod m (2 ^ j)
  have hp : 0 < 2 ^ j := Nat.two_pow_pos j
  have hlt := Nat.mod_lt m hp
  have hm1 : 1 ≤ m := by
    rcases Nat.eq_zero_or_pos m with z | z
    · rw [z, Nat.zero_mod] at hr0; exact absurd rfl hr0
    · exact z
  have e2 : (2 ^ 32 - (1#32).toNat + m) % 2 ^ 32 = m - 1 := by
    have : (1#32).toNat = 1 := rfl
    rw [this]
    have : 2 ^ 32 - 1 + m = (m - 1) + 2 ^ 32 := by omega
    rw [this, Nat.add_mod_right, Nat.mod_eq_of_lt (by omega)]
  rw [e2]
  have e3 : (m - 1) / 2 ^ j = m / 2 ^ j := by
    have : m - 1 = (m % 2 ^ j - 1) + 2 ^ j * (m / 2 ^ j) := by omega
    rw [this, Nat.add_mul_div_left _ _ hp, Nat.div_eq_of_lt (by omega), Nat.zero_add]
  rw [Nat.testBit_eq_decide_div_mod_eq] at ej ⊢
  rw [e3]; exact ej
theorem sf_p2b {x : Int32} (h : ∀ i j, bt x i = true → bt x j = true → i = j) : (x &&& (x - 1)) = 0 := by
  by_cases hx : x = 0
  · rw [hx]; decide
  · obtain ⟨i, hi, hb⟩ := sf_nzi hx
    have e : x = (1 : Int32) <<< (nI i &&& 31) := by
      apply b_ext
      intro j hj
      rw [sf_one hi hj]
      by_cases hji : j = i
      · rw [hji, hb]; simp
      · rw [decide_eq_false hji]
        cases hz : bt x j with
        | false => rfl
        | true => exact absurd (h j i hz hb) hji
    rw [e]; exact sf_p2s i hi
/-! the first index -/
def sf_FI (c : Nat) (p : Nat → Prop) (r : Int32) : Prop := (r = -1 ∧ ∀ i, i < c → ¬ p i) ∨ (∃ i, i < c ∧ r = nI i ∧ p i ∧ ∀ j, j < i → ¬ p j)
theorem sf_FI_n {c : Nat} {p : Nat → Prop} (h : ∀ i, i < c → ¬ p i) : sf_FI c p (-1) := Or.inl ⟨rfl, h⟩
theorem sf_FI_s {c i : Nat} {p : Nat → Prop} (hi : i < c) (h : p i) (hj : ∀ j, j < i → ¬ p j) : sf_FI c p (nI i) := Or.inr ⟨i, hi, rfl, h, hj⟩
theorem sf_m1lt : (-1 : Int32) < 0 := by decide
theorem sf_FI_none {c : Nat} {p : Nat → Prop} {r : Int32} (h : sf_FI c p r) (hr : r < 0) (hc : c ≤ 24) : r = -1 ∧ ∀ i, i < c → ¬ p i := by
  rcases h with h | ⟨i, hi, rfl, _⟩
  · exact h
  · exact absurd hr (nI_pos (by omega))
theorem sf_FI_some {c : Nat} {p : Nat → Prop} {r : Int32} (h : sf_FI c p r) (hr : ¬ r < 0) : ∃ i, i < c ∧ r = nI i ∧ p i ∧ ∀ j, j < i → ¬ p j := by
  rcases h with ⟨rfl, _⟩ | h
  · exact absurd sf_m1lt hr
  · exact h
theorem sf_FI_u {c : Nat} {p q : Nat → Prop} {r s : Int32} (hpq : ∀ i, i < c → (p i ↔ q i)) (h : sf_FI c p r) (g : sf_FI c q s) : r = s := by
  rcases h with ⟨rfl, h⟩ | ⟨i, hi, rfl, h, hj⟩ <;> rcases g with ⟨rfl, g⟩ | ⟨k, hk, rfl, g, hl⟩
  · rfl
  · exact absurd ((hpq k hk).mpr g) (h k hk)
  · exact absurd ((hpq i hi).mp h) (g i hi)
  · have : i = k := by
      rcases Nat.lt_trichotomy i k with z | z | z
      · exact absurd ((hpq i hi).mp h) (hl i z)
      · exact z
      · exact absurd ((hpq k hk).mpr g) (hj k z)
    rw [this]
/-! numbers -/
theorem sf_ix3 {i w : Nat} (h : 1 ≤ w) : nI i * 3 + nI w - 1 = nI (i * 3 + w - 1) := by
  obtain ⟨v, rfl⟩ : ∃ v, w = v + 1 := ⟨w - 1, by omega⟩
  rw [show (3 : Int32) = nI 3 from rfl, pk_mul, nI_add, ← Nat.add_assoc, nI_pred]
  rfl
theorem sf_i3 (i : Nat) : nI i * 3 = nI (i * 3) := by rw [show (3 : Int32) = nI 3 from rfl, pk_mul]
theorem sf_i31 (i : Nat) : nI i * 3 + 1 = nI (i * 3 + 1) := by rw [sf_i3, nI_1]
theorem sf_i32 (i : Nat) : nI i * 3 + 2 = nI (i * 3 + 2) := by rw [sf_i3, show (2 : Int32) = nI 2 from rfl, nI_add]
theorem sf_i25 (i q : Nat) : nI i * 25 + nI q = nI (i * 25 + q) := by rw [show (25 : Int32) = nI 25 from rfl, pk_mul, nI_add]
theorem sf_i24 (i q : Nat) : nI i * 24 + nI q = nI (i * 24 + q) := by rw [show (24 : Int32) = nI 24 from rfl, pk_mul, nI_add]
theorem sf_m24 (i : Nat) : nI i * 24 = nI (i * 24) := by rw [show (24 : Int32) = nI 24 from rfl, pk_mul]
theorem sf_m25 (i : Nat) : nI i * 25 = nI (i * 25) := by rw [show (25 : Int32) = nI 25 from rfl, pk_mul]
theorem sf_cl {n : Nat} (h : n < 6000) : (nI n).toNatClampNeg = n := nI_clamp (by omega)
theorem sf_in {n N : Nat} (h : n < N) (hN : N ≤ 6000) : vp_in (nI n) N := vp_in_nI h (by omega)
theorem sf_le {a b : Nat} (h : a ≤ b) (hb : b ≤ 6000) : nI a ≤ nI b := nI_le h (by omega)
theorem sf_nle {a b : Nat} (h : a < b) (hb : b ≤ 6000) : ¬ nI b ≤ nI a := nI_ge h (by omega)
theorem sf_eqI {a b : Nat} (ha : a ≤ 6000) (hb : b ≤ 6000) : nI a = nI b ↔ a = b := nI_eq (by omega) (by omega)
theorem sf_ninj {a b : Nat} (ha : a ≤ 6000) (hb : b ≤ 6000) (h : nI a = nI b) : a = b := (sf_eqI ha hb).mp h
theorem sf_nm1 {a : Nat} (ha : a ≤ 6000) : ¬ nI a = -1 := fun e => nI_pos (n := a) (by omega) (by rw [e]; decide)
theorem sf_lt {a b : Nat} (h : a < b) (hb : b ≤ 6000) : nI a < nI b := nI_lt h (by omega)
theorem sf_nlt {a b : Nat} (h : b ≤ a) (hb : a ≤ 6000) : ¬ nI a < nI b := nI_nlt h (by omega)
theorem sf_npos {a : Nat} (h : a ≤ 6000) : ¬ nI a < 0 := nI_pos (by omega)
/-- a branch by naturals -/
theorem sf_bl {a b : Nat} {P Q : Prop} (ha : a ≤ 6000) (hb : b ≤ 6000) (f : a ≤ b → P) (g : b < a → Q) : (nI a ≤ nI b → P) ∧ (¬ nI a ≤ nI b → Q) :=
  ⟨fun h => f ((nI_leI (by omega) (by omega)).mp h), fun h => g (Nat.lt_of_not_le fun z => h (sf_le z hb))⟩
theorem sf_blt {a b : Nat} {P Q : Prop} (ha : a ≤ 6000) (hb : b ≤ 6000) (f : a < b → P) (g : b ≤ a → Q) : (nI a < nI b → P) ∧ (¬ nI a < nI b → Q) :=
  ⟨fun h => f ((nI_ltI (by omega) (by omega)).mp h), fun h => g (Nat.le_of_not_lt fun z => h (sf_lt z hb))⟩
theorem sf_be {a b : Nat} {P Q : Prop} (ha : a ≤ 6000) (hb : b ≤ 6000) (f : a = b → P) (g : ¬ a = b → Q) : (nI a = nI b → P) ∧ (¬ nI a = nI b → Q) :=
  ⟨fun h => f (sf_ninj ha hb h), fun h => g (fun z => h (by rw [z]))⟩
theorem sf_us {f : Nat → Int32} {k : Nat} {x : Int32} : upd f k x k = x := pk_us
theorem sf_un {f : Nat → Int32} {k j : Nat} {x : Int32} (h : j ≠ k) : upd f k x j = f j := pk_un h
theorem sf_ub0 : vp_nar .boolean 0 = 0 := rfl
theorem sf_ub1 : vp_nar .boolean 1 = 1 := rfl
theorem sf_nb {x : Int32} (h : x = 0 ∨ x = 1) : narrow .boolean (.int x) = .int x := by rcases h with rfl | rfl <;> rfl
theorem sf_vb {x : Int32} (h : x = 0 ∨ x = 1) : vp_nar .boolean x = x := by rcases h with rfl | rfl <;> rfl
/-! the program -/
def sf_ro (k : Int32) (w : Nat) : Int32 :=
  if w = 1 then (if k = 0 then 0 else if k = 1 then 2 else 1)
  else if w = 2 then (if k = 5 then 2 else if k = 0 then 0 else if k = 1 then 0 else if k = 2 then 0 else if k = 12 then 0 else 1)
  else (if k = 13 then 1 else 0)
def sf_od (A B C : Nat → Int32) (i w : Nat) : Int32 := if w = 1 then A i else if w = 2 then B i else C i
def sf_tg (A B C : Nat → Int32) (i w : Nat) : Nat := (sf_od A B C i w).toNatClampNeg
def sf_kd (k : Int32) : Prop := ∃ d, d ≤ 13 ∧ k = nI d
def sf_W (w : Nat) : Prop := 1 ≤ w ∧ w ≤ 3
def sf_Pg (c cap : Nat) (K A B C : Nat → Int32) : Prop := ∀ i, i < c → sf_kd (K i) ∧ ∀ w, sf_W w →
  (sf_ro (K i) w = 1 → ∃ t, t < cap ∧ sf_od A B C i w = nI t) ∧ (sf_ro (K i) w = 0 → sf_od A B C i w = 0)
def sf_Op (O A B C : Nat → Int32) : Prop := ∀ i, i < 24 → O (i * 3) = A i ∧ O (i * 3 + 1) = B i ∧ O (i * 3 + 2) = C i
theorem sf_Op_w {O A B C : Nat → Int32} (h : sf_Op O A B C) {i w : Nat} (hi : i < 24) (hw : sf_W w) : O (i * 3 + w - 1) = sf_od A B C i w := by
  obtain ⟨h1, h2, h3⟩ := h i hi
  obtain ⟨w1, w3⟩ := hw
  have : w = 1 ∨ w = 2 ∨ w = 3 := by omega
  rcases this with rfl | rfl | rfl
  · exact h1
  · exact h2
  · exact h3
/-- no operand dangles -/
def sf_ND (c : Nat) (K A B C : Nat → Int32) : Prop := ∀ i, i < c → ∀ w, sf_W w → sf_ro (K i) w = 1 → sf_tg A B C i w < c ∧ sf_od A B C i w = nI (sf_tg A B C i w)
def sf_dang (c : Nat) (K A B C : Nat → Int32) (i : Nat) : Prop := ∃ w, sf_W w ∧ sf_ro (K i) w = 1 ∧ ¬ sf_od A B C i w < nI c
theorem sf_ND_of {c cap : Nat} {K A B C : Nat → Int32} (hP : sf_Pg c cap K A B C) (hcap : cap ≤ 24) (hc : c ≤ 24) (h : ∀ i, i < c → ¬ sf_dang c K A B C i) : sf_ND c K A B C := by
  intro i hi w hw hr
  obtain ⟨t, ht, e⟩ := ((hP i hi).2 w hw).1 hr
  have e2 : sf_tg A B C i w = t := by unfold sf_tg; rw [e, sf_cl (by omega)]
  rw [e2]
  refine ⟨?_, e⟩
  rcases Nat.lt_or_ge t c with z | z
  · exact z
  · exact absurd ⟨w, hw, hr, by rw [e]; exact sf_nlt z (by omega)⟩ (h i hi)
theorem sf_kd_in {k : Int32} (h : sf_kd k) : k = 0 ∨ k = 1 ∨ k = 2 ∨ k = 3 ∨ k = 4 ∨ k = 5 ∨ k = 6 ∨ k = 7 ∨ k = 8 ∨ k = 9 ∨ k = 10 ∨ k = 11 ∨ k = 12 ∨ k = 13 := by
  obtain ⟨d, hd, rfl⟩ := h
  have : d = 0 ∨ d = 1 ∨ d = 2 ∨ d = 3 ∨ d = 4 ∨ d = 5 ∨ d = 6 ∨ d = 7 ∨ d = 8 ∨ d = 9 ∨ d = 10 ∨ d = 11 ∨ d = 12 ∨ d = 13 := by omega
  rcases this with rfl | rfl | rfl | rfl | rfl | rfl | rfl | rfl | rfl | rfl | rfl | rfl | rfl | rfl <;> decide
theorem sf_w123 {w : Nat} (h : sf_W w) : w = 1 ∨ w = 2 ∨ w = 3 := by obtain ⟨a, b⟩ := h; omega
theorem sf_W1 : sf_W 1 := ⟨by omega, by omega⟩
theorem sf_W2 : sf_W 2 := ⟨by omega, by omega⟩
theorem sf_W3 : sf_W 3 := ⟨by omega, by omega⟩
theorem sf_tg1 {A B C : Nat → Int32} {i : Nat} : sf_tg A B C i 1 = (A i).toNatClampNeg := rfl
theorem sf_tg2 {A B C : Nat → Int32} {i : Nat} : sf_tg A B C i 2 = (B i).toNatClampNeg := rfl
theorem sf_tg3 {A B C : Nat → Int32} {i : Nat} : sf_tg A B C i 3 = (C i).toNatClampNeg := rfl
theorem sf_od1 {A B C : Nat → Int32} {i : Nat} : sf_od A B C i 1 = A i := rfl
theorem sf_od2 {A B C : Nat → Int32} {i : Nat} : sf_od A B C i 2 = B i := rfl
theorem sf_od3 {A B C : Nat → Int32} {i : Nat} : sf_od A B C i 3 = C i := rfl
end
section
/-! the component's small methods -/
section
variable {f_capacity f_horizon f_count f_verdict f_errorNode f_outputs f_late f_codeLen f_openGuard f_guardClock f_memCount f_presence f_tickCount f_digestValue f_hasSnapshot f_savedPresence f_savedTicks f_savedDigest : Int32} {a_kinds a_opA a_opB a_opC a_parent a_facts a_clocks a_needs a_reach a_order a_levels a_codeOp a_codeDst a_codeX a_codeY a_codeZ a_memSlot a_memInit a_mem a_latched a_vals a_savedMem a_savedLatched a_savedVals : Nat → Int32}
theorem xs_use {post : Int32 → Prop} {k : Int32} {w : Nat} (hk : sf_kd k) (hw : sf_W w) (h : post (sf_ro k w)) : wpX_operandUse post (f_capacity, f_horizon, f_count, f_verdict, f_errorNode, f_outputs, f_late, f_codeLen, f_openGuard, f_guardClock, f_memCount, f_presence, f_tickCount, f_digestValue, f_hasSnapshot, f_savedPresence, f_savedTicks, f_savedDigest, a_kinds, a_opA, a_opB, a_opC, a_parent, a_facts, a_clocks, a_needs, a_reach, a_order, a_levels, a_codeOp, a_codeDst, a_codeX, a_codeY, a_codeZ, a_memSlot, a_memInit, a_mem, a_latched, a_vals, a_savedMem, a_savedLatched, a_savedVals) k (nI w) := by
  rcases sf_w123 hw with rfl | rfl | rfl
  · rcases sf_kd_in hk with rfl | rfl | rfl | rfl | rfl | rfl | rfl | rfl | rfl | rfl | rfl | rfl | rfl | rfl
    · rw [show sf_ro 0 1 = 0 by decide] at h; exact br_t (by decide) (br_t (by decide) (h))
    · rw [show sf_ro 1 1 = 2 by decide] at h; exact br_t (by decide) (br_f (by decide) (br_t (by decide) (h)))
    · rw [show sf_ro 2 1 = 1 by decide] at h; exact br_t (by decide) (br_f (by decide) (br_f (by decide) (h)))
    · rw [show sf_ro 3 1 = 1 by decide] at h; exact br_t (by decide) (br_f (by decide) (br_f (by decide) (h)))
    · rw [show sf_ro 4 1 = 1 by decide] at h; exact br_t (by decide) (br_f (by decide) (br_f (by decide) (h)))
    · rw [show sf_ro 5 1 = 1 by decide] at h; exact br_t (by decide) (br_f (by decide) (br_f (by decide) (h)))
    · rw [show sf_ro 6 1 = 1 by decide] at h; exact br_t (by decide) (br_f (by decide) (br_f (by decide) (h)))
    · rw [show sf_ro 7 1 = 1 by decide] at h; exact br_t (by decide) (br_f (by decide) (br_f (by decide) (h)))
    · rw [show sf_ro 8 1 = 1 by decide] at h; exact br_t (by decide) (br_f (by decide) (br_f (by decide) (h)))
    · rw [show sf_ro 9 1 = 1 by decide] at h; exact br_t (by decide) (br_f (by decide) (br_f (by decide) (h)))
    · rw [show sf_ro 10 1 = 1 by decide] at h; exact br_t (by decide) (br_f (by decide) (br_f (by decide) (h)))
    · rw [show sf_ro 11 1 = 1 by decide] at h; exact br_t (by decide) (br_f (by decide) (br_f (by decide) (h)))
    · rw [show sf_ro 12 1 = 1 by decide] at h; exact br_t (by decide) (br_f (by decide) (br_f (by decide) (h)))
    · rw [show sf_ro 13 1 = 1 by decide] at h; exact br_t (by decide) (br_f (by decide) (br_f (by decide) (h)))
  · rcases sf_kd_in hk with rfl | rfl | rfl | rfl | rfl | rfl | rfl | rfl | rfl | rfl | rfl | rfl | rfl | rfl
    · rw [show sf_ro 0 2 = 0 by decide] at h; exact br_f (by decide) (br_t (by decide) (br_f (by decide) (br_t (by decide) (br_t (by decide) (br_f (by decide) (br_f (by decide) (br_f (by decide) (h))))))))
    · rw [show sf_ro 1 2 = 0 by decide] at h; exact br_f (by decide) (br_t (by decide) (br_f (by decide) (br_t (by decide) (br_t (by decide) (br_f (by decide) (br_f (by decide) (br_f (by decide) (h))))))))
    · rw [show sf_ro 2 2 = 0 by decide] at h; exact br_f (by decide) (br_t (by decide) (br_f (by decide) (br_t (by decide) (br_t (by decide) (br_f (by decide) (br_f (by decide) (br_f (by decide) (h))))))))
    · rw [show sf_ro 3 2 = 1 by decide] at h; exact br_f (by decide) (br_t (by decide) (br_f (by decide) (br_t (by decide) (br_t (by decide) (br_t (by decide) (h))))))
    · rw [show sf_ro 4 2 = 1 by decide] at h; exact br_f (by decide) (br_t (by decide) (br_f (by decide) (br_t (by decide) (br_t (by decide) (br_f (by decide) (br_t (by decide) (h)))))))
    · rw [show sf_ro 5 2 = 2 by decide] at h; exact br_f (by decide) (br_t (by decide) (br_t (by decide) (h)))
    · rw [show sf_ro 6 2 = 1 by decide] at h; exact br_f (by decide) (br_t (by decide) (br_f (by decide) (br_f (by decide) (br_f (by decide) (br_f (by decide) (h))))))
    · rw [show sf_ro 7 2 = 1 by decide] at h; exact br_f (by decide) (br_t (by decide) (br_f (by decide) (br_f (by decide) (br_f (by decide) (br_f (by decide) (h))))))
    · rw [show sf_ro 8 2 = 1 by decide] at h; exact br_f (by decide) (br_t (by decide) (br_f (by decide) (br_f (by decide) (br_f (by decide) (br_f (by decide) (h))))))
    · rw [show sf_ro 9 2 = 1 by decide] at h; exact br_f (by decide) (br_t (by decide) (br_f (by decide) (br_f (by decide) (br_f (by decide) (br_f (by decide) (h))))))
    · rw [show sf_ro 10 2 = 1 by decide] at h; exact br_f (by decide) (br_t (by decide) (br_f (by decide) (br_f (by decide) (br_f (by decide) (br_f (by decide) (h))))))
    · rw [show sf_ro 11 2 = 1 by decide] at h; exact br_f (by decide) (br_t (by decide) (br_f (by decide) (br_f (by decide) (br_f (by decide) (br_f (by decide) (h))))))
    · rw [show sf_ro 12 2 = 0 by decide] at h; exact br_f (by decide) (br_t (by decide) (br_f (by decide) (br_f (by decide) (br_t (by decide) (br_t (by decide) (br_f (by decide) (br_f (by decide) (br_f (by decide) (h)))))))))
    · rw [show sf_ro 13 2 = 1 by decide] at h; exact br_f (by decide) (br_t (by decide) (br_f (by decide) (br_f (by decide) (br_t (by decide) (br_t (by decide) (br_f (by decide) (br_f (by decide) (br_t (by decide) (h)))))))))
  · rcases sf_kd_in hk with rfl | rfl | rfl | rfl | rfl | rfl | rfl | rfl | rfl | rfl | rfl | rfl | rfl | rfl
    · rw [show sf_ro 0 3 = 0 by decide] at h; exact br_f (by decide) (br_f (by decide) (br_f (by decide) (h)))
    · rw [show sf_ro 1 3 = 0 by decide] at h; exact br_f (by decide) (br_f (by decide) (br_f (by decide) (h)))
    · rw [show sf_ro 2 3 = 0 by decide] at h; exact br_f (by decide) (br_f (by decide) (br_f (by decide) (h)))
    · rw [show sf_ro 3 3 = 0 by decide] at h; exact br_f (by decide) (br_f (by decide) (br_f (by decide) (h)))
    · rw [show sf_ro 4 3 = 0 by decide] at h; exact br_f (by decide) (br_f (by decide) (br_f (by decide) (h)))
    · rw [show sf_ro 5 3 = 0 by decide] at h; exact br_f (by decide) (br_f (by decide) (br_f (by decide) (h)))
    · rw [show sf_ro 6 3 = 0 by decide] at h; exact br_f (by decide) (br_f (by decide) (br_f (by decide) (h)))
    · rw [show sf_ro 7 3 = 0 by decide] at h; exact br_f (by decide) (br_f (by decide) (br_f (by decide) (h)))
    · rw [show sf_ro 8 3 = 0 by decide] at h; exact br_f (by decide) (br_f (by decide) (br_f (by decide) (h)))
    · rw [show sf_ro 9 3 = 0 by decide] at h; exact br_f (by decide) (br_f (by decide) (br_f (by decide) (h)))
    · rw [show sf_ro 10 3 = 0 by decide] at h; exact br_f (by decide) (br_f (by decide) (br_f (by decide) (h)))
    · rw [show sf_ro 11 3 = 0 by decide] at h; exact br_f (by decide) (br_f (by decide) (br_f (by decide) (h)))
    · rw [show sf_ro 12 3 = 0 by decide] at h; exact br_f (by decide) (br_f (by decide) (br_f (by decide) (h)))
    · rw [show sf_ro 13 3 = 1 by decide] at h; exact br_f (by decide) (br_f (by decide) (br_t (by decide) (h)))
theorem xs_opd {post : Int32 → Prop} {i w : Nat} (hi : i < 24) (hw : sf_W w) (h : post (sf_od a_opA a_opB a_opC i w)) : wpX_operand post (f_capacity, f_horizon, f_count, f_verdict, f_errorNode, f_outputs, f_late, f_codeLen, f_openGuard, f_guardClock, f_memCount, f_presence, f_tickCount, f_digestValue, f_hasSnapshot, f_savedPresence, f_savedTicks, f_savedDigest, a_kinds, a_opA, a_opB, a_opC, a_parent, a_facts, a_clocks, a_needs, a_reach, a_order, a_levels, a_codeOp, a_codeDst, a_codeX, a_codeY, a_codeZ, a_memSlot, a_memInit, a_mem, a_latched, a_vals, a_savedMem, a_savedLatched, a_savedVals) (nI i) (nI w) := by
  have hin : vp_in (nI i) 24 := sf_in hi (by omega)
  have hcl : (nI i).toNatClampNeg = i := sf_cl (by omega)
  rcases sf_w123 hw with rfl | rfl | rfl
  · exact br_t (by decide) (And.intro hin (by rw [hcl]; exact h))
  · exact br_f (by decide) (br_t (by decide) (And.intro hin (by rw [hcl]; exact h)))
  · exact br_f (by decide) (br_f (by decide) (And.intro hin (by rw [hcl]; exact h)))
theorem xs_acc {post : Int32 → Prop} (h1 : f_verdict = 1 → post 1) (h0 : ¬ f_verdict = 1 → post 0) : wpX_accepted post (f_capacity, f_horizon, f_count, f_verdict, f_errorNode, f_outputs, f_late, f_codeLen, f_openGuard, f_guardClock, f_memCount, f_presence, f_tickCount, f_digestValue, f_hasSnapshot, f_savedPresence, f_savedTicks, f_savedDigest, a_kinds, a_opA, a_opB, a_opC, a_parent, a_facts, a_clocks, a_needs, a_reach, a_order, a_levels, a_codeOp, a_codeDst, a_codeX, a_codeY, a_codeZ, a_memSlot, a_memInit, a_mem, a_latched, a_vals, a_savedMem, a_savedLatched, a_savedVals) := br_c h1 h0
theorem xs_node {post : Int32 → Prop} {c : Nat} {x : Int32} (hc : c ≤ 24) (h0 : (x < 0 ∨ nI c ≤ x) → post 0) (h1 : ∀ i, i < c → x = nI i → post 1) : wpX_isNode post (f_capacity, f_horizon, nI c, f_verdict, f_errorNode, f_outputs, f_late, f_codeLen, f_openGuard, f_guardClock, f_memCount, f_presence, f_tickCount, f_digestValue, f_hasSnapshot, f_savedPresence, f_savedTicks, f_savedDigest, a_kinds, a_opA, a_opB, a_opC, a_parent, a_facts, a_clocks, a_needs, a_reach, a_order, a_levels, a_codeOp, a_codeDst, a_codeX, a_codeY, a_codeZ, a_memSlot, a_memInit, a_mem, a_latched, a_vals, a_savedMem, a_savedLatched, a_savedVals) x := by
  by_cases z : x < 0
  · exact br_t z (h0 (Or.inl z))
  · by_cases y : nI c ≤ x
    · exact br_f z (br_t y (h0 (Or.inr y)))
    · rcases pk_ix x (n := c) (by omega) with q | q | ⟨j, hj, e⟩
      · exact absurd q z
      · exact absurd q y
      · exact br_f z (br_f y (h1 j hj e))
theorem xs_fits {post : Int32 → Prop} {x y : Int32} (h0 : x = 1 → (y < 0 ∨ f_capacity ≤ y) → post 0) (h1 : (x = 1 → ¬ y < 0 ∧ ¬ f_capacity ≤ y) → post 1) : wpX_fits post (f_capacity, f_horizon, f_count, f_verdict, f_errorNode, f_outputs, f_late, f_codeLen, f_openGuard, f_guardClock, f_memCount, f_presence, f_tickCount, f_digestValue, f_hasSnapshot, f_savedPresence, f_savedTicks, f_savedDigest, a_kinds, a_opA, a_opB, a_opC, a_parent, a_facts, a_clocks, a_needs, a_reach, a_order, a_levels, a_codeOp, a_codeDst, a_codeX, a_codeY, a_codeZ, a_memSlot, a_memInit, a_mem, a_latched, a_vals, a_savedMem, a_savedLatched, a_savedVals) x y := by
  by_cases hx : x = 1
  · by_cases z : y < 0
    · exact br_t hx (br_t z (h0 hx (Or.inl z)))
    · by_cases q : f_capacity ≤ y
      · exact br_t hx (br_f z (br_t q (h0 hx (Or.inr q))))
      · exact br_t hx (br_f z (br_f q (h1 fun _ => ⟨z, q⟩)))
  · exact br_f hx (h1 fun e => absurd e hx)
theorem xs_clamp {post : Int32 → Prop} {x lo hi : Int32} (h : post (if lo ≤ x then (if x ≤ hi then x else hi) else lo)) : wpX_clamp post (f_capacity, f_horizon, f_count, f_verdict, f_errorNode, f_outputs, f_late, f_codeLen, f_openGuard, f_guardClock, f_memCount, f_presence, f_tickCount, f_digestValue, f_hasSnapshot, f_savedPresence, f_savedTicks, f_savedDigest, a_kinds, a_opA, a_opB, a_opC, a_parent, a_facts, a_clocks, a_needs, a_reach, a_order, a_levels, a_codeOp, a_codeDst, a_codeX, a_codeY, a_codeZ, a_memSlot, a_memInit, a_mem, a_latched, a_vals, a_savedMem, a_savedLatched, a_savedVals) x lo hi := by
  by_cases h1 : lo ≤ x
  · rw [if_pos h1] at h
    by_cases h2 : x ≤ hi
    · rw [if_pos h2] at h; exact br_t h1 (br_t h2 h)
    · rw [if_neg h2] at h; exact br_t h1 (br_f h2 h)
  · rw [if_neg h1] at h; exact br_f h1 h
theorem xs_reset_2 {post : SX → Prop} {mc : Nat} (hmc : mc ≤ 24)
    (K : ∀ M L V, (∀ j, j < 24 → M j = (if j < mc then a_memInit j else 0) ∧ L j = 0 ∧ V j = 0) → post (f_capacity, f_horizon, f_count, f_verdict, f_errorNode, f_outputs, f_late, f_codeLen, f_openGuard, f_guardClock, nI mc, 0, 0, 0, f_hasSnapshot, f_savedPresence, f_savedTicks, f_savedDigest, a_kinds, a_opA, a_opB, a_opC, a_parent, a_facts, a_clocks, a_needs, a_reach, a_order, a_levels, a_codeOp, a_codeDst, a_codeX, a_codeY, a_codeZ, a_memSlot, a_memInit, M, L, V, a_savedMem, a_savedLatched, a_savedVals)) :
    ∀ n i M L V, i ≤ 24 → 24 - i < n → (∀ j, j < i → M j = (if j < mc then a_memInit j else 0) ∧ L j = 0 ∧ V j = 0) → wX_resetRun_2 post f_capacity f_horizon f_count f_verdict f_errorNode f_outputs f_late f_codeLen f_openGuard f_guardClock (nI mc) f_presence f_tickCount f_digestValue f_hasSnapshot f_savedPresence f_savedTicks f_savedDigest n (nI i) a_kinds a_opA a_opB a_opC a_parent a_facts a_clocks a_needs a_reach a_order a_levels a_codeOp a_codeDst a_codeX a_codeY a_codeZ a_memSlot a_memInit M L V a_savedMem a_savedLatched a_savedVals := by
  intro n
  induction n with
  | zero => intro i M L V hi hn; omega
  | succ n ih =>
    intro i M L V hi hn hI
    rcases Nat.lt_or_ge i 24 with h | h
    · have hin : vp_in (nI i) 24 := sf_in h (by omega)
      have hcl : (nI i).toNatClampNeg = i := sf_cl (by omega)
      refine br_f (sf_nle (b := 24) h (by omega)) ?_
      refine sf_bl (by omega) (by omega) (fun hm => ?_) (fun hm => And.intro hin ?_)
      · refine And.intro hin (nm_e (And.intro hin (nm_e (And.intro hin (nm_e (nm_r (nI_1 i) (ih (i + 1) _ _ _ (by omega) (by omega) ?_)))))))
        intro j hj
        rw [hcl]
        rcases (by omega : j < i ∨ j = i) with z | rfl
        · rw [sf_un (by omega), sf_un (by omega), sf_un (by omega)]; exact hI j z
        · rw [sf_us, sf_us, sf_us, if_neg (by omega)]; exact ⟨rfl, rfl, rfl⟩
      · refine And.intro hin (nm_e (And.intro hin (nm_e (And.intro hin (nm_e (nm_r (nI_1 i) (ih (i + 1) _ _ _ (by omega) (by omega) ?_)))))))
        intro j hj
        rw [hcl]
        rcases (by omega : j < i ∨ j = i) with z | rfl
        · rw [sf_un (by omega), sf_un (by omega), sf_un (by omega)]; exact hI j z
        · rw [sf_us, sf_us, sf_us, if_pos (by omega)]; exact ⟨rfl, rfl, rfl⟩
    · have : i = 24 := by omega
      subst this
      exact br_t (by decide) (K M L V hI)
theorem xs_reset {post : SX → Prop} {mc : Nat} (hmc : mc ≤ 24)
    (K : ∀ M L V, (∀ j, j < 24 → M j = (if j < mc then a_memInit j else 0) ∧ L j = 0 ∧ V j = 0) → post (f_capacity, f_horizon, f_count, f_verdict, f_errorNode, f_outputs, f_late, f_codeLen, f_openGuard, f_guardClock, nI mc, 0, 0, 0, f_hasSnapshot, f_savedPresence, f_savedTicks, f_savedDigest, a_kinds, a_opA, a_opB, a_opC, a_parent, a_facts, a_clocks, a_needs, a_reach, a_order, a_levels, a_codeOp, a_codeDst, a_codeX, a_codeY, a_codeZ, a_memSlot, a_memInit, M, L, V, a_savedMem, a_savedLatched, a_savedVals)) :
    wpX_resetRun post (f_capacity, f_horizon, f_count, f_verdict, f_errorNode, f_outputs, f_late, f_codeLen, f_openGuard, f_guardClock, nI mc, f_presence, f_tickCount, f_digestValue, f_hasSnapshot, f_savedPresence, f_savedTicks, f_savedDigest, a_kinds, a_opA, a_opB, a_opC, a_parent, a_facts, a_clocks, a_needs, a_reach, a_order, a_levels, a_codeOp, a_codeDst, a_codeX, a_codeY, a_codeZ, a_memSlot, a_memInit, a_mem, a_latched, a_vals, a_savedMem, a_savedLatched, a_savedVals) := Exists.intro 25 (xs_reset_2 hmc K 25 0 _ _ _ (by omega) (by omega) (fun j hj => absurd hj (by omega)))
end
end
section
/-! the reference's small methods -/
section
variable {g_capacity g_horizon g_count g_verdict g_errorNode g_ticks g_saved g_savedTicks : Int32} {b_kind b_op b_out b_fact b_clock b_reach b_late b_depth b_latched b_there b_val b_savedLatched b_savedThere b_savedVal : Nat → Int32}
theorem ys_role {post : Int32 → Prop} {k : Int32} {w : Nat} (hk : sf_kd k) (hw : sf_W w) (h : post (sf_ro k w)) : wpY_role post (g_capacity, g_horizon, g_count, g_verdict, g_errorNode, g_ticks, g_saved, g_savedTicks, b_kind, b_op, b_out, b_fact, b_clock, b_reach, b_late, b_depth, b_latched, b_there, b_val, b_savedLatched, b_savedThere, b_savedVal) k (nI w) := by
  rcases sf_w123 hw with rfl | rfl | rfl
  · rcases sf_kd_in hk with rfl | rfl | rfl | rfl | rfl | rfl | rfl | rfl | rfl | rfl | rfl | rfl | rfl | rfl
    · rw [show sf_ro 0 1 = 0 by decide] at h; exact br_t (by decide) (br_t (by decide) (h))
    · rw [show sf_ro 1 1 = 2 by decide] at h; exact br_t (by decide) (br_f (by decide) (br_t (by decide) (h)))
    · rw [show sf_ro 2 1 = 1 by decide] at h; exact br_t (by decide) (br_f (by decide) (br_f (by decide) (h)))
    · rw [show sf_ro 3 1 = 1 by decide] at h; exact br_t (by decide) (br_f (by decide) (br_f (by decide) (h)))
    · rw [show sf_ro 4 1 = 1 by decide] at h; exact br_t (by decide) (br_f (by decide) (br_f (by decide) (h)))
    · rw [show sf_ro 5 1 = 1 by decide] at h; exact br_t (by decide) (br_f (by decide) (br_f (by decide) (h)))
    · rw [show sf_ro 6 1 = 1 by decide] at h; exact br_t (by decide) (br_f (by decide) (br_f (by decide) (h)))
    · rw [show sf_ro 7 1 = 1 by decide] at h; exact br_t (by decide) (br_f (by decide) (br_f (by decide) (h)))
    · rw [show sf_ro 8 1 = 1 by decide] at h; exact br_t (by decide) (br_f (by decide) (br_f (by decide) (h)))
    · rw [show sf_ro 9 1 = 1 by decide] at h; exact br_t (by decide) (br_f (by decide) (br_f (by decide) (h)))
    · rw [show sf_ro 10 1 = 1 by decide] at h; exact br_t (by decide) (br_f (by decide) (br_f (by decide) (h)))
    · rw [show sf_ro 11 1 = 1 by decide] at h; exact br_t (by decide) (br_f (by decide) (br_f (by decide) (h)))
    · rw [show sf_ro 12 1 = 1 by decide] at h; exact br_t (by decide) (br_f (by decide) (br_f (by decide) (h)))
    · rw [show sf_ro 13 1 = 1 by decide] at h; exact br_t (by decide) (br_f (by decide) (br_f (by decide) (h)))
  · rcases sf_kd_in hk with rfl | rfl | rfl | rfl | rfl | rfl | rfl | rfl | rfl | rfl | rfl | rfl | rfl | rfl
    · rw [show sf_ro 0 2 = 0 by decide] at h; exact br_f (by decide) (br_t (by decide) (br_f (by decide) (br_t (by decide) (h))))
    · rw [show sf_ro 1 2 = 0 by decide] at h; exact br_f (by decide) (br_t (by decide) (br_f (by decide) (br_f (by decide) (br_t (by decide) (h)))))
    · rw [show sf_ro 2 2 = 0 by decide] at h; exact br_f (by decide) (br_t (by decide) (br_f (by decide) (br_f (by decide) (br_f (by decide) (br_t (by decide) (h))))))
    · rw [show sf_ro 3 2 = 1 by decide] at h; exact br_f (by decide) (br_t (by decide) (br_f (by decide) (br_f (by decide) (br_f (by decide) (br_f (by decide) (br_f (by decide) (h)))))))
    · rw [show sf_ro 4 2 = 1 by decide] at h; exact br_f (by decide) (br_t (by decide) (br_f (by decide) (br_f (by decide) (br_f (by decide) (br_f (by decide) (br_f (by decide) (h)))))))
    · rw [show sf_ro 5 2 = 2 by decide] at h; exact br_f (by decide) (br_t (by decide) (br_t (by decide) (h)))
    · rw [show sf_ro 6 2 = 1 by decide] at h; exact br_f (by decide) (br_t (by decide) (br_f (by decide) (br_f (by decide) (br_f (by decide) (br_f (by decide) (br_f (by decide) (h)))))))
    · rw [show sf_ro 7 2 = 1 by decide] at h; exact br_f (by decide) (br_t (by decide) (br_f (by decide) (br_f (by decide) (br_f (by decide) (br_f (by decide) (br_f (by decide) (h)))))))
    · rw [show sf_ro 8 2 = 1 by decide] at h; exact br_f (by decide) (br_t (by decide) (br_f (by decide) (br_f (by decide) (br_f (by decide) (br_f (by decide) (br_f (by decide) (h)))))))
    · rw [show sf_ro 9 2 = 1 by decide] at h; exact br_f (by decide) (br_t (by decide) (br_f (by decide) (br_f (by decide) (br_f (by decide) (br_f (by decide) (br_f (by decide) (h)))))))
    · rw [show sf_ro 10 2 = 1 by decide] at h; exact br_f (by decide) (br_t (by decide) (br_f (by decide) (br_f (by decide) (br_f (by decide) (br_f (by decide) (br_f (by decide) (h)))))))
    · rw [show sf_ro 11 2 = 1 by decide] at h; exact br_f (by decide) (br_t (by decide) (br_f (by decide) (br_f (by decide) (br_f (by decide) (br_f (by decide) (br_f (by decide) (h)))))))
    · rw [show sf_ro 12 2 = 0 by decide] at h; exact br_f (by decide) (br_t (by decide) (br_f (by decide) (br_f (by decide) (br_f (by decide) (br_f (by decide) (br_t (by decide) (h)))))))
    · rw [show sf_ro 13 2 = 1 by decide] at h; exact br_f (by decide) (br_t (by decide) (br_f (by decide) (br_f (by decide) (br_f (by decide) (br_f (by decide) (br_f (by decide) (h)))))))
  · rcases sf_kd_in hk with rfl | rfl | rfl | rfl | rfl | rfl | rfl | rfl | rfl | rfl | rfl | rfl | rfl | rfl
    · rw [show sf_ro 0 3 = 0 by decide] at h; exact br_f (by decide) (br_f (by decide) (br_f (by decide) (h)))
    · rw [show sf_ro 1 3 = 0 by decide] at h; exact br_f (by decide) (br_f (by decide) (br_f (by decide) (h)))
    · rw [show sf_ro 2 3 = 0 by decide] at h; exact br_f (by decide) (br_f (by decide) (br_f (by decide) (h)))
    · rw [show sf_ro 3 3 = 0 by decide] at h; exact br_f (by decide) (br_f (by decide) (br_f (by decide) (h)))
    · rw [show sf_ro 4 3 = 0 by decide] at h; exact br_f (by decide) (br_f (by decide) (br_f (by decide) (h)))
    · rw [show sf_ro 5 3 = 0 by decide] at h; exact br_f (by decide) (br_f (by decide) (br_f (by decide) (h)))
    · rw [show sf_ro 6 3 = 0 by decide] at h; exact br_f (by decide) (br_f (by decide) (br_f (by decide) (h)))
    · rw [show sf_ro 7 3 = 0 by decide] at h; exact br_f (by decide) (br_f (by decide) (br_f (by decide) (h)))
    · rw [show sf_ro 8 3 = 0 by decide] at h; exact br_f (by decide) (br_f (by decide) (br_f (by decide) (h)))
    · rw [show sf_ro 9 3 = 0 by decide] at h; exact br_f (by decide) (br_f (by decide) (br_f (by decide) (h)))
    · rw [show sf_ro 10 3 = 0 by decide] at h; exact br_f (by decide) (br_f (by decide) (br_f (by decide) (h)))
    · rw [show sf_ro 11 3 = 0 by decide] at h; exact br_f (by decide) (br_f (by decide) (br_f (by decide) (h)))
    · rw [show sf_ro 12 3 = 0 by decide] at h; exact br_f (by decide) (br_f (by decide) (br_f (by decide) (h)))
    · rw [show sf_ro 13 3 = 1 by decide] at h; exact br_f (by decide) (br_f (by decide) (br_t (by decide) (h)))
theorem ys_bad {post : Int32 → Prop} {k x : Int32} {w : Nat} (hk : sf_kd k) (hw : sf_W w) (h1 : sf_ro k w = 1 → (x < 0 ∨ ¬ x < g_capacity) → post 1) (h0 : (sf_ro k w = 1 → ¬ x < 0 ∧ x < g_capacity) → post 0) : wpY_badOperand post (g_capacity, g_horizon, g_count, g_verdict, g_errorNode, g_ticks, g_saved, g_savedTicks, b_kind, b_op, b_out, b_fact, b_clock, b_reach, b_late, b_depth, b_latched, b_there, b_val, b_savedLatched, b_savedThere, b_savedVal) k (nI w) x := by
  unfold wpY_badOperand
  refine ys_role hk hw ?_
  by_cases hx : sf_ro k w = 1
  · by_cases z : x < 0
    · exact br_t hx (br_t z (h1 hx (Or.inl z)))
    · by_cases q : x < g_capacity
      · exact br_t hx (br_f z (br_t q (h0 fun _ => ⟨z, q⟩)))
      · exact br_t hx (br_f z (br_f q (h1 hx (Or.inr q))))
  · exact br_f hx (h0 fun e => absurd e hx)
theorem ys_node {post : Int32 → Prop} {c : Nat} {x : Int32} (hc : c ≤ 24) (h0 : (x < 0 ∨ nI c ≤ x) → post 0) (h1 : ∀ i, i < c → x = nI i → post 1) : wpY_isNode post (g_capacity, g_horizon, nI c, g_verdict, g_errorNode, g_ticks, g_saved, g_savedTicks, b_kind, b_op, b_out, b_fact, b_clock, b_reach, b_late, b_depth, b_latched, b_there, b_val, b_savedLatched, b_savedThere, b_savedVal) x := by
  by_cases z : x < 0
  · exact br_t z (h0 (Or.inl z))
  · by_cases y : nI c ≤ x
    · exact br_f z (br_t y (h0 (Or.inr y)))
    · rcases pk_ix x (n := c) (by omega) with q | q | ⟨j, hj, e⟩
      · exact absurd q z
      · exact absurd q y
      · exact br_f z (br_f y (h1 j hj e))
theorem ys_start_7 {post : SY → Prop} (K : ∀ L, (∀ j, j < 24 → L j = 0) → post (g_capacity, g_horizon, g_count, g_verdict, g_errorNode, g_ticks, g_saved, g_savedTicks, b_kind, b_op, b_out, b_fact, b_clock, b_reach, b_late, b_depth, L, b_there, b_val, b_savedLatched, b_savedThere, b_savedVal)) :
    ∀ n i L, i ≤ 24 → 24 - i < n → (∀ j, j < i → L j = 0) → wY_startState_7 post g_capacity g_horizon g_count g_verdict g_errorNode g_ticks g_saved g_savedTicks n (nI i) b_kind b_op b_out b_fact b_clock b_reach b_late b_depth L b_there b_val b_savedLatched b_savedThere b_savedVal := by
  intro n
  induction n with
  | zero => intro i L hi hn; omega
  | succ n ih =>
    intro i L hi hn hI
    rcases Nat.lt_or_ge i 24 with h | h
    · have hin : vp_in (nI i) 24 := sf_in h (by omega)
      have hcl : (nI i).toNatClampNeg = i := sf_cl (by omega)
      refine br_f (sf_nle (b := 24) h (by omega)) (And.intro hin (nm_e (nm_r (nI_1 i) (ih (i + 1) _ (by omega) (by omega) ?_))))
      intro j hj
      rw [hcl]
      rcases (by omega : j < i ∨ j = i) with z | rfl
      · rw [sf_un (by omega)]; exact hI j z
      · rw [sf_us]
    · have : i = 24 := by omega
      subst this
      exact br_t (by decide) (K L hI)
theorem ys_start {post : SY → Prop} (K : ∀ L, (∀ j, j < 24 → L j = 0) → post (g_capacity, g_horizon, g_count, g_verdict, g_errorNode, 0, g_saved, g_savedTicks, b_kind, b_op, b_out, b_fact, b_clock, b_reach, b_late, b_depth, L, b_there, b_val, b_savedLatched, b_savedThere, b_savedVal)) : wpY_startState post (g_capacity, g_horizon, g_count, g_verdict, g_errorNode, g_ticks, g_saved, g_savedTicks, b_kind, b_op, b_out, b_fact, b_clock, b_reach, b_late, b_depth, b_latched, b_there, b_val, b_savedLatched, b_savedThere, b_savedVal) :=
  Exists.intro 25 (ys_start_7 K 25 0 _ (by omega) (by omega) (fun j hj => absurd hj (by omega)))
end
end
section
/-! union-find: the pure side -/
def uf_I (c : Nat) (p : Nat → Int32) (R d : Nat → Nat) (m : Nat) : Prop :=
  ∀ z, z < c → R z < c ∧ R (R z) = R z ∧ p (R z) = nI (R z) ∧ d (R z) = 0 ∧ d z ≤ m ∧
    ∃ q, q < c ∧ p z = nI q ∧ R q = R z ∧ (q = z → R z = z) ∧ (q ≠ z → d q < d z)
theorem uf_half {c m z q q2 : Nat} {p : Nat → Int32} {R d : Nat → Nat} (hc : c ≤ 24) (h : uf_I c p R d m) (hz : z < c) (hq : q < c) (hpq : p z = nI q) (hne : q ≠ z)
    (hq2 : q2 < c) (hpq2 : p q = nI q2) : uf_I c (upd p z (nI q2)) R d m ∧ d q2 < d z ∧ R q2 = R z := by
  obtain ⟨_, _, _, _, _, q', hq', hp', hR', hz', hd'⟩ := h z hz
  have eq' : q' = q := sf_ninj (by omega) (by omega) (hp'.symm.trans hpq)
  subst eq'
  obtain ⟨_, _, _, _, _, r', hr', hpr', hRr', hzr', hdr'⟩ := h q' hq
  have er' : r' = q2 := sf_ninj (by omega) (by omega) (hpr'.symm.trans hpq2)
  subst er'
  have d1 : d q' < d z := hd' hne
  have d2 : d r' ≤ d q' := by
    by_cases e : r' = q'
    · rw [e]; exact Nat.le_refl _
    · exact Nat.le_of_lt (hdr' e)
  have d3 : d r' < d z := by omega
  have hR : R r' = R z := hRr'.trans hR'
  refine ⟨?_, d3, hR⟩
  intro y hy
  obtain ⟨a1, a2, a3, a4, a5, s, hs, hps, hRs, hsy, hds⟩ := h y hy
  refine ⟨a1, a2, ?_, a4, a5, ?_⟩
  · have : R y ≠ z := by
      intro e
      rw [e] at a3
      exact hne (sf_ninj (by omega) (by omega) (hpq.symm.trans a3))
    rw [sf_un this]; exact a3
  · by_cases e : y = z
    · subst e
      refine ⟨r', hr', sf_us, hR, fun e => ?_, fun _ => d3⟩
      rw [e] at d3; omega
    · exact ⟨s, hs, by rw [sf_un e]; exact hps, hRs, hsy, hds⟩
def uf_R (R : Nat → Nat) (a b : Nat) : Nat → Nat := fun z => if R z = b then a else R z
def uf_d (R d : Nat → Nat) (b : Nat) : Nat → Nat := fun z => if R z = b then d z + 1 else d z
theorem uf_link {c m x y : Nat} {p : Nat → Int32} {R d : Nat → Nat} (h : uf_I c p R d m) (hx : x < c) (hy : y < c) (hne : R x ≠ R y) :
    uf_I c (upd p (R y) (nI (R x))) (uf_R R (R x) (R y)) (uf_d R d (R y)) (m + 1) := by
  obtain ⟨x1, x2, x3, x4, _⟩ := h x hx
  obtain ⟨y1, y2, y3, y4, _⟩ := h y hy
  intro z hz
  obtain ⟨a1, a2, a3, a4, a5, s, hs, hps, hRs, hsz, hds⟩ := h z hz
  unfold uf_R uf_d
  by_cases e : R z = R y
  · simp only [if_pos e, x2, if_neg hne]
    refine ⟨x1, by first | trivial | rfl, by rw [sf_un hne]; exact x3, x4, by omega, ?_⟩
    by_cases ez : z = R y
    · subst ez
      refine ⟨R x, x1, sf_us, by rw [x2, if_neg hne], fun e' => e', fun _ => ?_⟩
      rw [x2, if_neg hne, x4]; omega
    · refine ⟨s, hs, by rw [sf_un ez]; exact hps, by rw [hRs, if_pos e], fun es => ?_, fun es => ?_⟩
      · exact absurd ((hsz es).symm.trans e) ez
      · rw [hRs, if_pos e]; have := hds es; omega
  · have e2 : ¬ R z = R y := e
    simp only [if_neg e, a2]
    refine ⟨a1, by first | trivial | rfl, by rw [sf_un e]; exact a3, a4, by omega, ?_⟩
    have ez : z ≠ R y := fun ez => e (by rw [ez, y2])
    refine ⟨s, hs, by rw [sf_un ez]; exact hps, by rw [hRs, if_neg e], hsz, fun es => ?_⟩
    rw [hRs, if_neg e]; exact hds es
theorem uf_roots {c m x y : Nat} {p : Nat → Int32} {R d : Nat → Nat} (h : uf_I c p R d m) (hx : x < c) (hy : y < c) (hne : R x ≠ R y) :
    sf_cn (fun z => uf_R R (R x) (R y) z = z) c + 1 ≤ sf_cn (fun z => R z = z) c := by
  obtain ⟨x1, x2, _⟩ := h x hx
  obtain ⟨y1, y2, _⟩ := h y hy
  refine sf_cn_lt (P := fun z => uf_R R (R x) (R y) z = z) (Q := fun z => R z = z) (a := R y) ?_ y2 ?_ y1
  · unfold uf_R; rw [if_pos y2]; exact hne
  · intro z hz e
    unfold uf_R at e
    by_cases q : R z = R y
    · rw [if_pos q] at e
      rw [← e, x2] at q
      exact absurd q hne
    · rw [if_neg q] at e; exact e
/-- closed sets of facts; the bit 24 is the base clock -/
def sf_Cl (c : Nat) (K A B C : Nat → Int32) (G : Nat → Nat → Prop) : Prop := ∀ i, i < c →
  (K i = 0 → G i 24) ∧ (K i = 4 → G i (sf_tg A B C i 2)) ∧
  (K i = 4 → ∀ q, q < 25 → (G (sf_tg A B C i 1) q ↔ G (sf_tg A B C i 2) q)) ∧
  (K i = 5 → ∀ k, k < c → G (sf_tg A B C i 1) k → ∀ q, q < 25 → (G i q ↔ G k q)) ∧
  (¬ K i = 4 → ¬ K i = 5 → ∀ w, sf_W w → sf_ro (K i) w = 1 → ∀ q, q < 25 → (G i q ↔ G (sf_tg A B C i w) q))
def sf_Lst (c : Nat) (K A B C : Nat → Int32) (F : Nat → Nat → Prop) : Prop :=
  sf_Cl c K A B C F ∧ (∀ G, sf_Cl c K A B C G → ∀ i, i < c → ∀ q, q < 25 → F i q → G i q) ∧ (∀ i, i < c → ∀ q, F i q → q = 24 ∨ q < c)
def uf_M (c : Nat) (K A B C f : Nat → Int32) (R : Nat → Nat) : Prop :=
  (∀ z, z < c → ∀ q, bt (f (R z)) q = true → q = 24 ∨ q < c) ∧
  (∀ G, sf_Cl c K A B C G → (∀ z, z < c → ∀ q, q < 25 → bt (f (R z)) q = true → G z q) ∧ (∀ z y, z < c → y < c → R z = R y → ∀ q, q < 25 → (G z q ↔ G y q))) ∧
  (∀ z, z < c → (K z = 0 → bt (f (R z)) 24 = true) ∧ (K z = 4 → bt (f (R z)) (sf_tg A B C z 2) = true))
theorem uf_fb {f : Nat → Int32} {R : Nat → Nat} {a b z q : Nat} (hab : a ≠ b) :
    bt (upd f a (f a ||| f b) (uf_R R a b z)) q = true ↔ ((R z = a ∨ R z = b) ∧ (bt (f a) q = true ∨ bt (f b) q = true)) ∨ (R z ≠ a ∧ R z ≠ b ∧ bt (f (R z)) q = true) := by
  unfold uf_R
  by_cases e : R z = b
  · rw [if_pos e, sf_us, b_or, Bool.or_eq_true]
    constructor
    · intro h; exact Or.inl ⟨Or.inr e, h⟩
    · intro h
      rcases h with ⟨_, h⟩ | ⟨_, h, _⟩
      · exact h
      · exact absurd e h
  · rw [if_neg e]
    by_cases e2 : R z = a
    · rw [e2, sf_us, b_or, Bool.or_eq_true]
      constructor
      · intro h; exact Or.inl ⟨Or.inl rfl, h⟩
      · intro h
        rcases h with ⟨_, h⟩ | ⟨h, _, _⟩
        · exact h
        · exact absurd rfl h
    · rw [sf_un e2]
      constructor
      · intro h; exact Or.inr ⟨e2, e, h⟩
      · intro h
        rcases h with ⟨h, _⟩ | ⟨_, _, h⟩
        · rcases h with h | h
          · exact absurd h e2
          · exact absurd h e
        · exact h
theorem uf_Mlink {c m x y : Nat} {K A B C p f : Nat → Int32} {R d : Nat → Nat} (hI : uf_I c p R d m) (hM : uf_M c K A B C f R) (hx : x < c) (hy : y < c) (hne : R x ≠ R y)
    (hj : ∀ G, sf_Cl c K A B C G → ∀ q, q < 25 → (G x q ↔ G y q)) : uf_M c K A B C (upd f (R x) (f (R x) ||| f (R y))) (uf_R R (R x) (R y)) := by
  obtain ⟨m1, m2, m3⟩ := hM
  have keep : ∀ z q, z < c → bt (f (R z)) q = true → bt (upd f (R x) (f (R x) ||| f (R y)) (uf_R R (R x) (R y) z)) q = true := by
    intro z q hz hb
    rw [uf_fb hne]
    by_cases e1 : R z = R x
    · rw [e1] at hb; exact Or.inl ⟨Or.inl e1, Or.inl hb⟩
    · by_cases e2 : R z = R y
      · rw [e2] at hb; exact Or.inl ⟨Or.inr e2, Or.inr hb⟩
      · exact Or.inr ⟨e1, e2, hb⟩
  refine ⟨?_, ?_, ?_⟩
  · intro z hz q hb
    rw [uf_fb hne] at hb
    rcases hb with ⟨_, h | h⟩ | ⟨_, _, h⟩
    · exact m1 x hx q h
    · exact m1 y hy q h
    · exact m1 z hz q h
  · intro G hG
    obtain ⟨g1, g2⟩ := m2 G hG
    have hxy := hj G hG
    have cls : ∀ z, z < c → (R z = R x ∨ R z = R y) → ∀ q, q < 25 → (G z q ↔ G x q) := by
      intro z hz h q hq
      rcases h with h | h
      · exact g2 z x hz hx h q hq
      · exact (g2 z y hz hy h q hq).trans (hxy q hq).symm
    refine ⟨?_, ?_⟩
    · intro z hz q hq hb
      rw [uf_fb hne] at hb
      rcases hb with ⟨hz2, h | h⟩ | ⟨_, _, h⟩
      · exact (cls z hz hz2 q hq).mpr (g1 x hx q hq h)
      · exact (cls z hz hz2 q hq).mpr ((hxy q hq).mpr (g1 y hy q hq h))
      · exact g1 z hz q hq h
    · intro z z' hz hz' e q hq
      unfold uf_R at e
      by_cases a1 : R z = R y
      · by_cases a2 : R z' = R y
        · exact g2 z z' hz hz' (a1.trans a2.symm) q hq
        · rw [if_pos a1, if_neg a2] at e
          exact (cls z hz (Or.inr a1) q hq).trans (cls z' hz' (Or.inl e.symm) q hq).symm
      · by_cases a2 : R z' = R y
        · rw [if_neg a1, if_pos a2] at e
          exact (cls z hz (Or.inl e) q hq).trans (cls z' hz' (Or.inr a2) q hq).symm
        · rw [if_neg a1, if_neg a2] at e
          exact g2 z z' hz hz' e q hq
  · intro z hz
    exact ⟨fun h => keep z _ hz ((m3 z hz).1 h), fun h => keep z _ hz ((m3 z hz).2 h)⟩
def uf_S (c : Nat) (K A B C p f : Nat → Int32) (R : Nat → Nat) : Prop := ∃ d m, uf_I c p R d m ∧ m + sf_cn (fun z => R z = z) c ≤ c ∧ uf_M c K A B C f R
def uf_co (c : Nat) (R R' : Nat → Nat) : Prop := ∀ z y, z < c → y < c → R z = R y → R' z = R' y
theorem uf_co_rf {c : Nat} {R : Nat → Nat} : uf_co c R R := fun _ _ _ _ h => h
theorem uf_co_tr {c : Nat} {R R' R'' : Nat → Nat} (h : uf_co c R R') (g : uf_co c R' R'') : uf_co c R R'' := fun z y hz hy e => g z y hz hy (h z y hz hy e)
def uf_fx (K A B C : Nat → Int32) (R : Nat → Nat) (i : Nat) : Prop :=
  (K i = 4 → R (sf_tg A B C i 1) = R (sf_tg A B C i 2)) ∧ (¬ K i = 4 → ¬ K i = 5 → ∀ w, sf_W w → sf_ro (K i) w = 1 → R i = R (sf_tg A B C i w))
def uf_hd (c : Nat) (K A B C f : Nat → Int32) (R : Nat → Nat) (i : Nat) : Prop := K i = 5 → ∀ k, k < c → bt (f (R (sf_tg A B C i 1))) k = true → R i = R k
theorem sf_r4_1 : sf_ro 4 1 = 1 := by decide
theorem sf_r4_2 : sf_ro 4 2 = 1 := by decide
theorem sf_r5_1 : sf_ro 5 1 = 1 := by decide
theorem uf_fx_co {c i : Nat} {K A B C : Nat → Int32} {R R' : Nat → Nat} (hN : sf_ND c K A B C) (hi : i < c) (h : uf_co c R R') (g : uf_fx K A B C R i) : uf_fx K A B C R' i := by
  refine ⟨fun e => ?_, fun e4 e5 w hw hr => ?_⟩
  · exact h _ _ (hN i hi 1 sf_W1 (by rw [e]; decide)).1 (hN i hi 2 sf_W2 (by rw [e]; decide)).1 (g.1 e)
  · exact h _ _ hi (hN i hi w hw hr).1 (g.2 e4 e5 w hw hr)
theorem uf_done {c : Nat} {K A B C p f : Nat → Int32} {R : Nat → Nat} (hS : uf_S c K A B C p f R) (hN : sf_ND c K A B C) (hf : ∀ i, i < c → uf_fx K A B C R i) (hh : ∀ i, i < c → uf_hd c K A B C f R i) :
    sf_Lst c K A B C (fun z q => bt (f (R z)) q = true) := by
  obtain ⟨d, m, hI, hm, m1, m2, m3⟩ := hS
  refine ⟨?_, ?_, m1⟩
  · intro i hi
    refine ⟨(m3 i hi).1, (m3 i hi).2, fun e q _ => ?_, fun e k hk hb q _ => ?_, fun e4 e5 w hw hr q _ => ?_⟩
    · show bt (f (R _)) q = true ↔ bt (f (R _)) q = true
      rw [(hf i hi).1 e]
    · show bt (f (R _)) q = true ↔ bt (f (R _)) q = true
      rw [hh i hi e k hk hb]
    · show bt (f (R _)) q = true ↔ bt (f (R _)) q = true
      rw [(hf i hi).2 e4 e5 w hw hr]
  · intro G hG i hi q hq hb
    exact (m2 G hG).1 i hi q hq hb
theorem uf_init {c : Nat} {K A B C p f : Nat → Int32} (hc : c ≤ 24) (hN : sf_ND c K A B C) (hp : ∀ i, i < c → p i = nI i)
    (hf : ∀ i, i < c → ∀ q, bt (f i) q = true ↔ ((K i = 0 ∧ q = 24) ∨ (K i = 4 ∧ q = sf_tg A B C i 2))) : uf_S c K A B C p f id := by
  refine ⟨fun _ => 0, 0, ?_, ?_, ?_, ?_, ?_⟩
  · intro z hz
    exact ⟨hz, rfl, hp z hz, rfl, Nat.le_refl _, z, hz, hp z hz, rfl, fun _ => rfl, fun h => absurd rfl h⟩
  · have := sf_cn_le (fun z => id z = z) c; omega
  · intro z hz q hb
    rcases (hf z hz q).mp hb with ⟨_, h⟩ | ⟨h4, h⟩
    · exact Or.inl h
    · right; rw [h]; exact (hN z hz 2 sf_W2 (by rw [h4]; decide)).1
  · intro G hG
    refine ⟨fun z hz q hq hb => ?_, fun z y hz hy e q hq => ?_⟩
    · rcases (hf z hz q).mp hb with ⟨h0, h⟩ | ⟨h4, h⟩
      · rw [h]; exact (hG z hz).1 h0
      · rw [h]; exact (hG z hz).2.1 h4
    · have e' : z = y := e
      rw [e']
  · intro z hz
    exact ⟨fun h => (hf z hz 24).mpr (Or.inl ⟨h, rfl⟩), fun h => (hf z hz _).mpr (Or.inr ⟨h, rfl⟩)⟩
end
section
/-! the component's clock classes -/
section
variable {f_capacity f_horizon f_count f_verdict f_errorNode f_outputs f_late f_codeLen f_openGuard f_guardClock f_memCount f_presence f_tickCount f_digestValue f_hasSnapshot f_savedPresence f_savedTicks f_savedDigest : Int32} {a_kinds a_opA a_opB a_opC a_parent a_facts a_clocks a_needs a_reach a_order a_levels a_codeOp a_codeDst a_codeX a_codeY a_codeZ a_memSlot a_memInit a_mem a_latched a_vals a_savedMem a_savedLatched a_savedVals : Nat → Int32}
theorem xu_find_4 {c m z0 : Nat} {R d : Nat → Nat} {post : Int32 → SX → Prop} (hc : c ≤ 24) (hm : m < 24)
    (K : ∀ p, uf_I c p R d m → post (nI (R z0)) (f_capacity, f_horizon, nI c, f_verdict, f_errorNode, f_outputs, f_late, f_codeLen, f_openGuard, f_guardClock, f_memCount, f_presence, f_tickCount, f_digestValue, f_hasSnapshot, f_savedPresence, f_savedTicks, f_savedDigest, a_kinds, a_opA, a_opB, a_opC, p, a_facts, a_clocks, a_needs, a_reach, a_order, a_levels, a_codeOp, a_codeDst, a_codeX, a_codeY, a_codeZ, a_memSlot, a_memInit, a_mem, a_latched, a_vals, a_savedMem, a_savedLatched, a_savedVals)) :
    ∀ n t r p, uf_I c p R d m → r < c → R r = R z0 → d r + t ≤ m → 24 - t < n → wX_find_4 post f_capacity f_horizon (nI c) f_verdict f_errorNode f_outputs f_late f_codeLen f_openGuard f_guardClock f_memCount f_presence f_tickCount f_digestValue f_hasSnapshot f_savedPresence f_savedTicks f_savedDigest n (nI r) (nI t) a_kinds a_opA a_opB a_opC p a_facts a_clocks a_needs a_reach a_order a_levels a_codeOp a_codeDst a_codeX a_codeY a_codeZ a_memSlot a_memInit a_mem a_latched a_vals a_savedMem a_savedLatched a_savedVals := by
  intro n
  induction n with
  | zero => intro t r p _ _ _ _ hn; omega
  | succ n ih =>
    intro t r p hU hr hR hd hn
    obtain ⟨_, _, _, _, _, q, hq, hpq, hRq, hqz, hdq⟩ := hU r hr
    have hcl : (nI r).toNatClampNeg = r := sf_cl (by omega)
    have hin : vp_in (nI r) 24 := sf_in (by omega) (by omega)
    refine br_f (sf_nle (b := 24) (by omega) (by omega)) (And.intro hin ?_)
    rw [hcl]
    by_cases e : q = r
    · have e2 : R z0 = r := hR.symm.trans (hqz e)
      refine br_t (by rw [hpq, e]) ?_
      have := K p hU
      rw [e2] at this
      exact this
    · obtain ⟨_, _, _, _, _, q2, hq2, hpq2, _⟩ := hU q hq
      obtain ⟨hU', hd', hR'⟩ := uf_half hc hU hr hq hpq e hq2 hpq2
      have e1 : (p r).toNatClampNeg = q := by rw [hpq, sf_cl (by omega)]
      refine br_f (by rw [hpq]; exact fun z => e (sf_ninj (by omega) (by omega) z)) ?_
      refine And.intro hin (And.intro (by rw [hpq]; exact sf_in (by omega) (by omega)) (And.intro hin ?_))
      refine nm_r (e' := upd p r (nI q2)) (by rw [e1, hpq2]) (And.intro hin ?_)
      refine nm_r (e' := nI q2) sf_us (nm_r (nI_1 t) ?_)
      exact ih (t + 1) q2 _ hU' hq2 (hR'.trans hR) (by omega) (by omega)
theorem xu_find {c m z : Nat} {R d : Nat → Nat} {post : Int32 → SX → Prop} (hc : c ≤ 24) (hm : m < 24) (hU : uf_I c a_parent R d m) (hz : z < c)
    (K : ∀ p, uf_I c p R d m → post (nI (R z)) (f_capacity, f_horizon, nI c, f_verdict, f_errorNode, f_outputs, f_late, f_codeLen, f_openGuard, f_guardClock, f_memCount, f_presence, f_tickCount, f_digestValue, f_hasSnapshot, f_savedPresence, f_savedTicks, f_savedDigest, a_kinds, a_opA, a_opB, a_opC, p, a_facts, a_clocks, a_needs, a_reach, a_order, a_levels, a_codeOp, a_codeDst, a_codeX, a_codeY, a_codeZ, a_memSlot, a_memInit, a_mem, a_latched, a_vals, a_savedMem, a_savedLatched, a_savedVals)) : wpX_find post (f_capacity, f_horizon, nI c, f_verdict, f_errorNode, f_outputs, f_late, f_codeLen, f_openGuard, f_guardClock, f_memCount, f_presence, f_tickCount, f_digestValue, f_hasSnapshot, f_savedPresence, f_savedTicks, f_savedDigest, a_kinds, a_opA, a_opB, a_opC, a_parent, a_facts, a_clocks, a_needs, a_reach, a_order, a_levels, a_codeOp, a_codeDst, a_codeX, a_codeY, a_codeZ, a_memSlot, a_memInit, a_mem, a_latched, a_vals, a_savedMem, a_savedLatched, a_savedVals) (nI z) :=
  Exists.intro 25 (xu_find_4 hc hm K 25 0 z a_parent hU hz rfl (by have := (hU z hz).2.2.2.2.1; omega) (by omega))
theorem xu_mlt {c m z : Nat} {K A B C p : Nat → Int32} {R d : Nat → Nat} (hc : c ≤ 24) (hz : z < c) (hU : uf_I c p R d m) (hm : m + sf_cn (fun z => R z = z) c ≤ c) : m < 24 := by
  have := sf_cn_pos (P := fun z => R z = z) (hU z hz).1 (hU z hz).2.1
  omega
theorem xu_fd {c z : Nat} {K A B C : Nat → Int32} {R : Nat → Nat} {post : Int32 → SX → Prop} (hc : c ≤ 24) (hS : uf_S c K A B C a_parent a_facts R) (hz : z < c)
    (Kp : ∀ p, uf_S c K A B C p a_facts R → R z < c → post (nI (R z)) (f_capacity, f_horizon, nI c, f_verdict, f_errorNode, f_outputs, f_late, f_codeLen, f_openGuard, f_guardClock, f_memCount, f_presence, f_tickCount, f_digestValue, f_hasSnapshot, f_savedPresence, f_savedTicks, f_savedDigest, a_kinds, a_opA, a_opB, a_opC, p, a_facts, a_clocks, a_needs, a_reach, a_order, a_levels, a_codeOp, a_codeDst, a_codeX, a_codeY, a_codeZ, a_memSlot, a_memInit, a_mem, a_latched, a_vals, a_savedMem, a_savedLatched, a_savedVals)) : wpX_find post (f_capacity, f_horizon, nI c, f_verdict, f_errorNode, f_outputs, f_late, f_codeLen, f_openGuard, f_guardClock, f_memCount, f_presence, f_tickCount, f_digestValue, f_hasSnapshot, f_savedPresence, f_savedTicks, f_savedDigest, a_kinds, a_opA, a_opB, a_opC, a_parent, a_facts, a_clocks, a_needs, a_reach, a_order, a_levels, a_codeOp, a_codeDst, a_codeX, a_codeY, a_codeZ, a_memSlot, a_memInit, a_mem, a_latched, a_vals, a_savedMem, a_savedLatched, a_savedVals) (nI z) := by
  obtain ⟨d, m, hI, hm, hM⟩ := hS
  exact xu_find hc (xu_mlt (K := K) (A := A) (B := B) (C := C) hc hz hI hm) hI hz (fun p hp => Kp p ⟨d, m, hp, hm, hM⟩ (hI z hz).1)
theorem xu_lk {c x y : Nat} {K A B C : Nat → Int32} {R : Nat → Nat} {post : Int32 → SX → Prop} (hc : c ≤ 24) (hS : uf_S c K A B C a_parent a_facts R) (hx : x < c) (hy : y < c)
    (hj : ∀ G, sf_Cl c K A B C G → ∀ q, q < 25 → (G x q ↔ G y q))
    (K0 : R x = R y → ∀ p, uf_S c K A B C p a_facts R → post 0 (f_capacity, f_horizon, nI c, f_verdict, f_errorNode, f_outputs, f_late, f_codeLen, f_openGuard, f_guardClock, f_memCount, f_presence, f_tickCount, f_digestValue, f_hasSnapshot, f_savedPresence, f_savedTicks, f_savedDigest, a_kinds, a_opA, a_opB, a_opC, p, a_facts, a_clocks, a_needs, a_reach, a_order, a_levels, a_codeOp, a_codeDst, a_codeX, a_codeY, a_codeZ, a_memSlot, a_memInit, a_mem, a_latched, a_vals, a_savedMem, a_savedLatched, a_savedVals))
    (K1 : ∀ p f R', uf_S c K A B C p f R' → uf_co c R R' → R' x = R' y → sf_cn (fun z => R' z = z) c < sf_cn (fun z => R z = z) c → post 1 (f_capacity, f_horizon, nI c, f_verdict, f_errorNode, f_outputs, f_late, f_codeLen, f_openGuard, f_guardClock, f_memCount, f_presence, f_tickCount, f_digestValue, f_hasSnapshot, f_savedPresence, f_savedTicks, f_savedDigest, a_kinds, a_opA, a_opB, a_opC, p, f, a_clocks, a_needs, a_reach, a_order, a_levels, a_codeOp, a_codeDst, a_codeX, a_codeY, a_codeZ, a_memSlot, a_memInit, a_mem, a_latched, a_vals, a_savedMem, a_savedLatched, a_savedVals)) :
    wpX_link post (f_capacity, f_horizon, nI c, f_verdict, f_errorNode, f_outputs, f_late, f_codeLen, f_openGuard, f_guardClock, f_memCount, f_presence, f_tickCount, f_digestValue, f_hasSnapshot, f_savedPresence, f_savedTicks, f_savedDigest, a_kinds, a_opA, a_opB, a_opC, a_parent, a_facts, a_clocks, a_needs, a_reach, a_order, a_levels, a_codeOp, a_codeDst, a_codeX, a_codeY, a_codeZ, a_memSlot, a_memInit, a_mem, a_latched, a_vals, a_savedMem, a_savedLatched, a_savedVals) (nI x) (nI y) := by
  obtain ⟨d, m, hI, hm, hM⟩ := hS
  have hm24 := xu_mlt (K := K) (A := A) (B := B) (C := C) hc hx hI hm
  unfold wpX_link
  refine xu_find hc hm24 hI hx (fun p hp => ?_)
  refine xu_find hc hm24 hp hy (fun p' hp' => ?_)
  have hx1 := (hI x hx).1
  have hy1 := (hI y hy).1
  by_cases e : R x = R y
  · exact br_t (by rw [e]) (K0 e p' ⟨d, m, hp', hm, hM⟩)
  · refine br_f (fun z => e (sf_ninj (by omega) (by omega) z)) ?_
    have hix : vp_in (nI (R x)) 24 := sf_in (by omega) (by omega)
    have hiy : vp_in (nI (R y)) 24 := sf_in (by omega) (by omega)
    refine And.intro hiy ?_
    rw [sf_cl (n := R x) (by omega), sf_cl (n := R y) (by omega)]
    refine nm_e (And.intro hix (And.intro hiy (And.intro hix (nm_e ?_))))
    have hr := uf_roots hI hx hy e
    refine K1 _ _ (uf_R R (R x) (R y)) ⟨_, _, uf_link hp' hx hy e, by omega, uf_Mlink hI hM hx hy e hj⟩ ?_ ?_ (by omega)
    · intro z z' hz hz' ez
      unfold uf_R
      rw [ez]
    · unfold uf_R
      rw [if_neg e, if_pos rfl]
theorem xu_fixed_47 {c i : Nat} {R : Nat → Nat} {post : SX → Prop} (hc : c ≤ 24) (hi : i < c) (hk : sf_kd (a_kinds i)) (h4 : ¬ a_kinds i = 4) (h5 : ¬ a_kinds i = 5)
    (hN : sf_ND c a_kinds a_opA a_opB a_opC)
    (Kp : ∀ p f R', uf_S c a_kinds a_opA a_opB a_opC p f R' → uf_co c R R' → uf_fx a_kinds a_opA a_opB a_opC R' i → post (f_capacity, f_horizon, nI c, f_verdict, f_errorNode, f_outputs, f_late, f_codeLen, f_openGuard, f_guardClock, f_memCount, f_presence, f_tickCount, f_digestValue, f_hasSnapshot, f_savedPresence, f_savedTicks, f_savedDigest, a_kinds, a_opA, a_opB, a_opC, p, f, a_clocks, a_needs, a_reach, a_order, a_levels, a_codeOp, a_codeDst, a_codeX, a_codeY, a_codeZ, a_memSlot, a_memInit, a_mem, a_latched, a_vals, a_savedMem, a_savedLatched, a_savedVals)) :
    ∀ n w p f R', 1 ≤ w → w ≤ 4 → 4 - w < n → uf_S c a_kinds a_opA a_opB a_opC p f R' → uf_co c R R' →
      (∀ v, 1 ≤ v → v < w → sf_ro (a_kinds i) v = 1 → R' i = R' (sf_tg a_opA a_opB a_opC i v)) →
      wX_linkFixed_47 post (nI i) (a_kinds i) n (nI w) f_capacity f_horizon (nI c) f_verdict f_errorNode f_outputs f_late f_codeLen f_openGuard f_guardClock f_memCount f_presence f_tickCount f_digestValue f_hasSnapshot f_savedPresence f_savedTicks f_savedDigest a_kinds a_opA a_opB a_opC p f a_clocks a_needs a_reach a_order a_levels a_codeOp a_codeDst a_codeX a_codeY a_codeZ a_memSlot a_memInit a_mem a_latched a_vals a_savedMem a_savedLatched a_savedVals := by
  intro n
  induction n with
  | zero => intro w p f R' _ _ hn; omega
  | succ n ih =>
    intro w p f R' hw1 hw4 hn hS hco hv
    by_cases e : w = 4
    · subst e
      exact br_t (by decide) (Kp p f R' hS hco ⟨fun z => absurd z h4, fun _ _ v hv' hr => hv v hv'.1 (by have := hv'.2; omega) hr⟩)
    · have hW : sf_W w := ⟨hw1, by omega⟩
      refine br_f (sf_nlt (a := 3) (by omega) (by omega)) ?_
      refine xs_use hk hW ?_
      refine xs_opd (by omega) hW ?_
      by_cases hr : sf_ro (a_kinds i) w = 1
      · obtain ⟨ht, ho⟩ := hN i hi w hW hr
        rw [ho]
        refine br_t hr ?_
        refine xu_lk hc hS hi ht (fun G hG => (hG i hi).2.2.2.2 h4 h5 w hW hr) (fun e0 p' hS' => ?_) (fun p' f' R'' hS' hco' e1 _ => ?_)
        · refine nm_r (nI_1 w) (ih (w + 1) _ _ R' (by omega) (by omega) (by omega) hS' hco (fun v h1 h2 hr' => ?_))
          rcases (by omega : v < w ∨ v = w) with z | rfl
          · exact hv v h1 z hr'
          · exact e0
        · refine nm_r (nI_1 w) (ih (w + 1) _ _ R'' (by omega) (by omega) (by omega) hS' (uf_co_tr hco hco') (fun v h1 h2 hr' => ?_))
          rcases (by omega : v < w ∨ v = w) with z | rfl
          · exact hco' _ _ hi (hN i hi v ⟨h1, by omega⟩ hr').1 (hv v h1 z hr')
          · exact e1
      · refine br_f hr (nm_r (nI_1 w) (ih (w + 1) _ _ R' (by omega) (by omega) (by omega) hS hco (fun v h1 h2 hr' => ?_)))
        rcases (by omega : v < w ∨ v = w) with z | rfl
        · exact hv v h1 z hr'
        · exact absurd hr' hr
theorem xu_fixed {c i : Nat} {R : Nat → Nat} {post : SX → Prop} (hc : c ≤ 24) (hi : i < c) (hk : sf_kd (a_kinds i))
    (hN : sf_ND c a_kinds a_opA a_opB a_opC) (hS : uf_S c a_kinds a_opA a_opB a_opC a_parent a_facts R)
    (Kp : ∀ p f R', uf_S c a_kinds a_opA a_opB a_opC p f R' → uf_co c R R' → uf_fx a_kinds a_opA a_opB a_opC R' i → post (f_capacity, f_horizon, nI c, f_verdict, f_errorNode, f_outputs, f_late, f_codeLen, f_openGuard, f_guardClock, f_memCount, f_presence, f_tickCount, f_digestValue, f_hasSnapshot, f_savedPresence, f_savedTicks, f_savedDigest, a_kinds, a_opA, a_opB, a_opC, p, f, a_clocks, a_needs, a_reach, a_order, a_levels, a_codeOp, a_codeDst, a_codeX, a_codeY, a_codeZ, a_memSlot, a_memInit, a_mem, a_latched, a_vals, a_savedMem, a_savedLatched, a_savedVals)) :
    wpX_linkFixed post (f_capacity, f_horizon, nI c, f_verdict, f_errorNode, f_outputs, f_late, f_codeLen, f_openGuard, f_guardClock, f_memCount, f_presence, f_tickCount, f_digestValue, f_hasSnapshot, f_savedPresence, f_savedTicks, f_savedDigest, a_kinds, a_opA, a_opB, a_opC, a_parent, a_facts, a_clocks, a_needs, a_reach, a_order, a_levels, a_codeOp, a_codeDst, a_codeX, a_codeY, a_codeZ, a_memSlot, a_memInit, a_mem, a_latched, a_vals, a_savedMem, a_savedLatched, a_savedVals) (nI i) := by
  have hcl : (nI i).toNatClampNeg = i := sf_cl (by omega)
  have hin : vp_in (nI i) 24 := sf_in (by omega) (by omega)
  refine And.intro hin ?_
  rw [hcl]
  refine nm_e ?_
  by_cases h0 : a_kinds i = 0
  · exact br_t h0 (Kp _ _ R hS uf_co_rf ⟨fun z => absurd (h0.symm.trans z) (by decide), fun _ _ w hw hr => by
      rw [h0] at hr; rcases sf_w123 hw with rfl | rfl | rfl <;> exact absurd hr (by decide)⟩)
  refine br_f h0 ?_
  by_cases h1 : a_kinds i = 1
  · exact br_t h1 (Kp _ _ R hS uf_co_rf ⟨fun z => absurd (h1.symm.trans z) (by decide), fun _ _ w hw hr => by
      rw [h1] at hr; rcases sf_w123 hw with rfl | rfl | rfl <;> exact absurd hr (by decide)⟩)
  refine br_f h1 ?_
  by_cases h5 : a_kinds i = 5
  · exact br_t h5 (Kp _ _ R hS uf_co_rf ⟨fun z => absurd (h5.symm.trans z) (by decide), fun _ z => absurd h5 z⟩)
  refine br_f h5 ?_
  by_cases h4 : a_kinds i = 4
  · refine br_t h4 (And.intro hin (And.intro hin ?_))
    obtain ⟨t1, o1⟩ := hN i hi 1 sf_W1 (by rw [h4]; decide)
    obtain ⟨t2, o2⟩ := hN i hi 2 sf_W2 (by rw [h4]; decide)
    rw [show a_opA i = nI (sf_tg a_opA a_opB a_opC i 1) from o1, show a_opB i = nI (sf_tg a_opA a_opB a_opC i 2) from o2]
    refine xu_lk hc hS t1 t2 (fun G hG => (hG i hi).2.2.1 h4) (fun e0 p' hS' => ?_) (fun p' f' R'' hS' hco' e1 _ => ?_)
    · exact Kp _ _ R hS' uf_co_rf ⟨fun _ => e0, fun z => absurd h4 z⟩
    · exact Kp _ _ R'' hS' hco' ⟨fun _ => e1, fun z => absurd h4 z⟩
  · refine br_f h4 (Exists.intro 5 ?_)
    exact xu_fixed_47 (R := R) hc hi hk h4 h5 hN Kp 5 1 _ _ R (by omega) (by omega) (by omega) hS uf_co_rf (fun v h1 h2 => absurd h2 (by omega))
def xu_Fl (c : Nat) (R0 : Nat → Nat) (f0 : Nat → Int32) (fl : Int32) (R : Nat → Nat) (f : Nat → Int32) : Prop :=
  (fl = 0 ∧ R = R0 ∧ f = f0) ∨ (fl = 1 ∧ sf_cn (fun z => R z = z) c < sf_cn (fun z => R0 z = z) c)
theorem xu_holds_44 {Q : Prop} {c i : Nat} {R0 : Nat → Nat} {f0 : Nat → Int32} {set : Int32} {post : Int32 → SX → Prop} {J4 : Int32 → Int32 → Int32 → Int32 → Int32 → Int32 → Int32 → Int32 → Int32 → Int32 → Int32 → Int32 → Int32 → Int32 → Int32 → Int32 → Int32 → Int32 → Int32 → Int32 → (Nat → Int32) → (Nat → Int32) → (Nat → Int32) → (Nat → Int32) → (Nat → Int32) → (Nat → Int32) → (Nat → Int32) → (Nat → Int32) → (Nat → Int32) → (Nat → Int32) → (Nat → Int32) → (Nat → Int32) → (Nat → Int32) → (Nat → Int32) → (Nat → Int32) → (Nat → Int32) → (Nat → Int32) → (Nat → Int32) → (Nat → Int32) → (Nat → Int32) → (Nat → Int32) → (Nat → Int32) → (Nat → Int32) → (Nat → Int32) → Prop} (hc : c ≤ 24) (hi : i < c) (hK : a_kinds i = 5)
    (hset : ∀ G, sf_Cl c a_kinds a_opA a_opB a_opC G → ∀ k, k < c → bt set k = true → G (sf_tg a_opA a_opB a_opC i 1) k)
    (KJ : ∀ fl p f R, uf_S c a_kinds a_opA a_opB a_opC p f R → uf_co c R0 R → xu_Fl c R0 f0 fl R f → (fl = 0 → Q) → (fl = 0 → ∀ k, k < c → bt set k = true → R0 i = R0 k) → J4 fl (nI (i + 1)) f_capacity f_horizon (nI c) f_verdict f_errorNode f_outputs f_late f_codeLen f_openGuard f_guardClock f_memCount f_presence f_tickCount f_digestValue f_hasSnapshot f_savedPresence f_savedTicks f_savedDigest a_kinds a_opA a_opB a_opC p f a_clocks a_needs a_reach a_order a_levels a_codeOp a_codeDst a_codeX a_codeY a_codeZ a_memSlot a_memInit a_mem a_latched a_vals a_savedMem a_savedLatched a_savedVals) :
    ∀ n k fl p f R, k ≤ c → c - k < n → uf_S c a_kinds a_opA a_opB a_opC p f R → uf_co c R0 R → xu_Fl c R0 f0 fl R f → (fl = 0 → Q) → (fl = 0 → ∀ k', k' < k → bt set k' = true → R0 i = R0 k') →
      wX_linkHolds_44 post J4 (nI i) set n fl (nI k) f_capacity f_horizon (nI c) f_verdict f_errorNode f_outputs f_late f_codeLen f_openGuard f_guardClock f_memCount f_presence f_tickCount f_digestValue f_hasSnapshot f_savedPresence f_savedTicks f_savedDigest a_kinds a_opA a_opB a_opC p f a_clocks a_needs a_reach a_order a_levels a_codeOp a_codeDst a_codeX a_codeY a_codeZ a_memSlot a_memInit a_mem a_latched a_vals a_savedMem a_savedLatched a_savedVals := by
  intro n
  induction n with
  | zero => intro k fl p f R _ hn; omega
  | succ n ih =>
    intro k fl p f R hk hn hS hco hF hQ hk'
    rcases Nat.lt_or_ge k c with h | h
    · refine br_f (sf_nle h (by omega)) ?_
      refine sf_bb (by omega) (fun hb => ?_) (fun hb => ?_)
      · refine nm_r (nI_1 k) (ih (k + 1) _ _ _ R (by omega) (by omega) hS hco hF hQ (fun e j hj hbj => ?_))
        rcases (by omega : j < k ∨ j = k) with z | rfl
        · exact hk' e j z hbj
        · exact absurd hbj hb
      · refine xu_lk hc hS hi h (fun G hG => (hG i hi).2.2.2.1 hK k h (hset G hG k h hb)) (fun e0 p' hS' => ?_) (fun p' f' R' hS' hco' e1 hlt => ?_)
        · rcases hF with ⟨hf0, hR, hf⟩ | ⟨hf1, hr⟩
          · refine br_t hf0 (br_t rfl (nm_r (nI_1 k) (ih (k + 1) 0 _ _ R (by omega) (by omega) hS' hco (Or.inl ⟨rfl, hR, hf⟩) (fun _ => hQ hf0) (fun _ j hj hbj => ?_))))
            rcases (by omega : j < k ∨ j = k) with z | rfl
            · exact hk' hf0 j z hbj
            · rw [← hR]; exact e0
          · refine br_f (by rw [hf1]; decide) (nm_r (nI_1 k) (ih (k + 1) 1 _ _ R (by omega) (by omega) hS' hco (Or.inr ⟨rfl, hr⟩) (fun z => absurd z (by decide)) (fun z => absurd z (by decide))))
        · have hr2 : sf_cn (fun z => R' z = z) c < sf_cn (fun z => R0 z = z) c := by
            rcases hF with ⟨_, hR, _⟩ | ⟨_, hr⟩
            · rw [← hR]; exact hlt
            · omega
          by_cases hf0 : fl = 0
          · refine br_t hf0 (br_f (by decide) (nm_r (nI_1 k) (ih (k + 1) 1 _ _ R' (by omega) (by omega) hS' (uf_co_tr hco hco') (Or.inr ⟨rfl, hr2⟩) (fun z => absurd z (by decide)) (fun z => absurd z (by decide)))))
          · refine br_f hf0 (nm_r (nI_1 k) (ih (k + 1) 1 _ _ R' (by omega) (by omega) hS' (uf_co_tr hco hco') (Or.inr ⟨rfl, hr2⟩) (fun z => absurd z (by decide)) (fun z => absurd z (by decide))))
    · have : k = c := by omega
      subst this
      exact br_t (sf_le (by omega) (by omega)) (nm_r (nI_1 i) (KJ fl p f R hS hco hF hQ hk'))
theorem xu_holds_4 {c : Nat} {R0 : Nat → Nat} {f0 : Nat → Int32} {post : Int32 → SX → Prop} (hc : c ≤ 24) (hN : sf_ND c a_kinds a_opA a_opB a_opC)
    (Kp : ∀ fl p f R, uf_S c a_kinds a_opA a_opB a_opC p f R → uf_co c R0 R → xu_Fl c R0 f0 fl R f → (fl = 0 → ∀ i, i < c → uf_hd c a_kinds a_opA a_opB a_opC f0 R0 i) → post fl (f_capacity, f_horizon, nI c, f_verdict, f_errorNode, f_outputs, f_late, f_codeLen, f_openGuard, f_guardClock, f_memCount, f_presence, f_tickCount, f_digestValue, f_hasSnapshot, f_savedPresence, f_savedTicks, f_savedDigest, a_kinds, a_opA, a_opB, a_opC, p, f, a_clocks, a_needs, a_reach, a_order, a_levels, a_codeOp, a_codeDst, a_codeX, a_codeY, a_codeZ, a_memSlot, a_memInit, a_mem, a_latched, a_vals, a_savedMem, a_savedLatched, a_savedVals)) :
    ∀ n i fl p f R, i ≤ c → c - i < n → uf_S c a_kinds a_opA a_opB a_opC p f R → uf_co c R0 R → xu_Fl c R0 f0 fl R f → (fl = 0 → ∀ j, j < i → uf_hd c a_kinds a_opA a_opB a_opC f0 R0 j) →
      wX_linkHolds_4 post n fl (nI i) f_capacity f_horizon (nI c) f_verdict f_errorNode f_outputs f_late f_codeLen f_openGuard f_guardClock f_memCount f_presence f_tickCount f_digestValue f_hasSnapshot f_savedPresence f_savedTicks f_savedDigest a_kinds a_opA a_opB a_opC p f a_clocks a_needs a_reach a_order a_levels a_codeOp a_codeDst a_codeX a_codeY a_codeZ a_memSlot a_memInit a_mem a_latched a_vals a_savedMem a_savedLatched a_savedVals := by
  intro n
  induction n with
  | zero => intro i fl p f R _ hn; omega
  | succ n ih =>
    intro i fl p f R hi hn hS hco hF hh
    have hcl : (nI i).toNatClampNeg = i := sf_cl (by omega)
    rcases Nat.lt_or_ge i c with h | h
    · have hin : vp_in (nI i) 24 := sf_in (by omega) (by omega)
      refine br_f (sf_nle h (by omega)) (And.intro hin ?_)
      rw [hcl]
      by_cases hK : a_kinds i = 5
      · obtain ⟨t1, o1⟩ := hN i h 1 sf_W1 (by rw [hK]; decide)
        refine br_t hK (And.intro hin ?_)
        rw [show a_opA i = nI (sf_tg a_opA a_opB a_opC i 1) from o1]
        refine xu_fd hc hS t1 (fun p' hS' hRc => ?_)
        refine And.intro (sf_in (by omega) (by omega)) (nm_r (e' := f (R (sf_tg a_opA a_opB a_opC i 1))) (by rw [sf_cl (by omega)]) (Exists.intro (c + 1) ?_))
        refine xu_holds_44 (Q := fl = 0) (R0 := R0) (f0 := f0) hc h hK (fun G hG k hk hb => ?_) (fun fl' p'' f'' R'' hS'' hco'' hF'' hQ'' hk'' => ?_) (c + 1) 0 fl p' f R (by omega) (by omega) hS' hco hF id (fun _ k' z => absurd z (by omega))
        · obtain ⟨d, m, _, _, _, m2, _⟩ := hS
          exact (m2 G hG).1 _ t1 k (by omega) hb
        · refine ih (i + 1) fl' p'' f'' R'' (by omega) (by omega) hS'' hco'' hF'' (fun e j hj => ?_)
          have hfl : fl = 0 := hQ'' e
          rcases (by omega : j < i ∨ j = i) with z | rfl
          · exact hh hfl j z
          · intro _ k hk hb
            rcases hF with ⟨_, hR, hf⟩ | ⟨h1, _⟩
            · rw [← hR, ← hf] at hb
              exact hk'' e k hk hb
            · exact absurd (hfl.symm.trans h1) (by decide)
      · refine br_f hK (nm_r (nI_1 i) (ih (i + 1) fl p f R (by omega) (by omega) hS hco hF (fun e j hj => ?_)))
        rcases (by omega : j < i ∨ j = i) with z | rfl
        · exact hh e j z
        · exact fun z => absurd z hK
    · have : i = c := by omega
      subst this
      refine br_t (sf_le (by omega) (by omega)) (And.intro (sf_nb ?_) (Kp fl p f R hS hco hF hh))
      rcases hF with ⟨h, _⟩ | ⟨h, _⟩
      · exact Or.inl h
      · exact Or.inr h
theorem xu_holds {c : Nat} {R : Nat → Nat} {post : Int32 → SX → Prop} (hc : c ≤ 24) (hN : sf_ND c a_kinds a_opA a_opB a_opC) (hS : uf_S c a_kinds a_opA a_opB a_opC a_parent a_facts R)
    (Kp : ∀ fl p f R', uf_S c a_kinds a_opA a_opB a_opC p f R' → uf_co c R R' → xu_Fl c R a_facts fl R' f → (fl = 0 → ∀ i, i < c → uf_hd c a_kinds a_opA a_opB a_opC a_facts R i) → post fl (f_capacity, f_horizon, nI c, f_verdict, f_errorNode, f_outputs, f_late, f_codeLen, f_openGuard, f_guardClock, f_memCount, f_presence, f_tickCount, f_digestValue, f_hasSnapshot, f_savedPresence, f_savedTicks, f_savedDigest, a_kinds, a_opA, a_opB, a_opC, p, f, a_clocks, a_needs, a_reach, a_order, a_levels, a_codeOp, a_codeDst, a_codeX, a_codeY, a_codeZ, a_memSlot, a_memInit, a_mem, a_latched, a_vals, a_savedMem, a_savedLatched, a_savedVals)) :
    wpX_linkHolds post (f_capacity, f_horizon, nI c, f_verdict, f_errorNode, f_outputs, f_late, f_codeLen, f_openGuard, f_guardClock, f_memCount, f_presence, f_tickCount, f_digestValue, f_hasSnapshot, f_savedPresence, f_savedTicks, f_savedDigest, a_kinds, a_opA, a_opB, a_opC, a_parent, a_facts, a_clocks, a_needs, a_reach, a_order, a_levels, a_codeOp, a_codeDst, a_codeX, a_codeY, a_codeZ, a_memSlot, a_memInit, a_mem, a_latched, a_vals, a_savedMem, a_savedLatched, a_savedVals) := Exists.intro (c + 1) (xu_holds_4 hc hN Kp (c + 1) 0 0 _ _ R (by omega) (by omega) hS uf_co_rf (Or.inl ⟨rfl, rfl, rfl⟩) (fun _ j z => absurd z (by omega)))
theorem xu_merge_99 {c : Nat} {post : SX → Prop} (hc : c ≤ 24) (hc0 : 0 < c) (hN : sf_ND c a_kinds a_opA a_opB a_opC)
    (Kp : ∀ p f R, uf_S c a_kinds a_opA a_opB a_opC p f R → sf_Lst c a_kinds a_opA a_opB a_opC (fun z q => bt (f (R z)) q = true) → post (f_capacity, f_horizon, nI c, f_verdict, f_errorNode, f_outputs, f_late, f_codeLen, f_openGuard, f_guardClock, f_memCount, f_presence, f_tickCount, f_digestValue, f_hasSnapshot, f_savedPresence, f_savedTicks, f_savedDigest, a_kinds, a_opA, a_opB, a_opC, p, f, a_clocks, a_needs, a_reach, a_order, a_levels, a_codeOp, a_codeDst, a_codeX, a_codeY, a_codeZ, a_memSlot, a_memInit, a_mem, a_latched, a_vals, a_savedMem, a_savedLatched, a_savedVals)) :
    ∀ n t fl p f R, t ≤ 24 → 24 - t < n → uf_S c a_kinds a_opA a_opB a_opC p f R → (∀ i, i < c → uf_fx a_kinds a_opA a_opB a_opC R i) →
      ((fl = 1 ∧ sf_cn (fun z => R z = z) c + t ≤ c) ∨ (fl = 0 ∧ ∀ i, i < c → uf_hd c a_kinds a_opA a_opB a_opC f R i)) →
      wX_mergeClockClasses_99 post n fl (nI t) f_capacity f_horizon (nI c) f_verdict f_errorNode f_outputs f_late f_codeLen f_openGuard f_guardClock f_memCount f_presence f_tickCount f_digestValue f_hasSnapshot f_savedPresence f_savedTicks f_savedDigest a_kinds a_opA a_opB a_opC p f a_clocks a_needs a_reach a_order a_levels a_codeOp a_codeDst a_codeX a_codeY a_codeZ a_memSlot a_memInit a_mem a_latched a_vals a_savedMem a_savedLatched a_savedVals := by
  intro n
  induction n with
  | zero => intro t fl p f R _ hn; omega
  | succ n ih =>
    intro t fl p f R ht hn hS hfx hF
    have hpos : 0 < sf_cn (fun z => R z = z) c := by
      obtain ⟨d, m, hI, _⟩ := hS
      exact sf_cn_pos (P := fun z => R z = z) (hI 0 hc0).1 (hI 0 hc0).2.1
    rcases hF with ⟨h1, hr⟩ | ⟨h0, hh⟩
    · refine br_f (sf_nle (b := 24) (by omega) (by omega)) (br_f (by rw [h1]; decide) ?_)
      refine xu_holds hc hN hS (fun fl' p' f' R' hS' hco hFl hh => ?_)
      refine nm_r (nI_1 t) (ih (t + 1) fl' p' f' R' (by omega) (by omega) hS' (fun i hi => uf_fx_co hN hi hco (hfx i hi)) ?_)
      rcases hFl with ⟨e0, eR, ef⟩ | ⟨e1, hlt⟩
      · exact Or.inr ⟨e0, by rw [eR, ef]; exact hh e0⟩
      · exact Or.inl ⟨e1, by omega⟩
    · have hfin := Kp p f R hS (uf_done hS hN hfx hh)
      rcases Nat.lt_or_ge t 24 with h | h
      · exact br_f (sf_nle (b := 24) h (by omega)) (br_t h0 hfin)
      · have : t = 24 := by omega
        subst this
        exact br_t (by decide) hfin
theorem xu_merge_76 {c : Nat} {post : SX → Prop} (hc : c ≤ 24) (hc0 : 0 < c) (hN : sf_ND c a_kinds a_opA a_opB a_opC) (hk : ∀ i, i < c → sf_kd (a_kinds i))
    (Kp : ∀ p f R, uf_S c a_kinds a_opA a_opB a_opC p f R → sf_Lst c a_kinds a_opA a_opB a_opC (fun z q => bt (f (R z)) q = true) → post (f_capacity, f_horizon, nI c, f_verdict, f_errorNode, f_outputs, f_late, f_codeLen, f_openGuard, f_guardClock, f_memCount, f_presence, f_tickCount, f_digestValue, f_hasSnapshot, f_savedPresence, f_savedTicks, f_savedDigest, a_kinds, a_opA, a_opB, a_opC, p, f, a_clocks, a_needs, a_reach, a_order, a_levels, a_codeOp, a_codeDst, a_codeX, a_codeY, a_codeZ, a_memSlot, a_memInit, a_mem, a_latched, a_vals, a_savedMem, a_savedLatched, a_savedVals)) :
    ∀ n i p f R, i ≤ c → c - i < n → uf_S c a_kinds a_opA a_opB a_opC p f R → (∀ j, j < i → uf_fx a_kinds a_opA a_opB a_opC R j) →
      wX_mergeClockClasses_76 post n (nI i) f_capacity f_horizon (nI c) f_verdict f_errorNode f_outputs f_late f_codeLen f_openGuard f_guardClock f_memCount f_presence f_tickCount f_digestValue f_hasSnapshot f_savedPresence f_savedTicks f_savedDigest a_kinds a_opA a_opB a_opC p f a_clocks a_needs a_reach a_order a_levels a_codeOp a_codeDst a_codeX a_codeY a_codeZ a_memSlot a_memInit a_mem a_latched a_vals a_savedMem a_savedLatched a_savedVals := by
  intro n
  induction n with
  | zero => intro i p f R _ hn; omega
  | succ n ih =>
    intro i p f R hi hn hS hfx
    rcases Nat.lt_or_ge i c with h | h
    · refine br_f (sf_nle h (by omega)) ?_
      refine xu_fixed hc h (hk i h) hN hS (fun p' f' R' hS' hco hx => ?_)
      refine nm_r (nI_1 i) (ih (i + 1) p' f' R' (by omega) (by omega) hS' (fun j hj => ?_))
      rcases (by omega : j < i ∨ j = i) with z | rfl
      · exact uf_fx_co hN (by omega) hco (hfx j z)
      · exact hx
    · have : i = c := by omega
      subst this
      refine br_t (sf_le (by omega) (by omega)) (Exists.intro 25 ?_)
      refine xu_merge_99 hc hc0 hN Kp 25 0 1 p f R (by omega) (by omega) hS hfx (Or.inl ⟨rfl, ?_⟩)
      have := sf_cn_le (fun z => R z = z) i
      omega
theorem xu_merge_2 {c : Nat} {post : SX → Prop} (hc : c ≤ 24) (hc0 : 0 < c) (hN : sf_ND c a_kinds a_opA a_opB a_opC) (hk : ∀ i, i < c → sf_kd (a_kinds i))
    (Kp : ∀ p f R, uf_S c a_kinds a_opA a_opB a_opC p f R → sf_Lst c a_kinds a_opA a_opB a_opC (fun z q => bt (f (R z)) q = true) → post (f_capacity, f_horizon, nI c, f_verdict, f_errorNode, f_outputs, f_late, f_codeLen, f_openGuard, f_guardClock, f_memCount, f_presence, f_tickCount, f_digestValue, f_hasSnapshot, f_savedPresence, f_savedTicks, f_savedDigest, a_kinds, a_opA, a_opB, a_opC, p, f, a_clocks, a_needs, a_reach, a_order, a_levels, a_codeOp, a_codeDst, a_codeX, a_codeY, a_codeZ, a_memSlot, a_memInit, a_mem, a_latched, a_vals, a_savedMem, a_savedLatched, a_savedVals)) :
    ∀ n i p f, i ≤ c → c - i < n → (∀ j, j < i → p j = nI j ∧ ∀ q, bt (f j) q = true ↔ ((a_kinds j = 0 ∧ q = 24) ∨ (a_kinds j = 4 ∧ q = sf_tg a_opA a_opB a_opC j 2))) →
      wX_mergeClockClasses_2 post f_capacity f_horizon (nI c) f_verdict f_errorNode f_outputs f_late f_codeLen f_openGuard f_guardClock f_memCount f_presence f_tickCount f_digestValue f_hasSnapshot f_savedPresence f_savedTicks f_savedDigest n (nI i) a_kinds a_opA a_opB a_opC p f a_clocks a_needs a_reach a_order a_levels a_codeOp a_codeDst a_codeX a_codeY a_codeZ a_memSlot a_memInit a_mem a_latched a_vals a_savedMem a_savedLatched a_savedVals := by
  intro n
  induction n with
  | zero => intro i p f _ hn; omega
  | succ n ih =>
    intro i p f hi hn hI
    have hcl : (nI i).toNatClampNeg = i := sf_cl (by omega)
    rcases Nat.lt_or_ge i c with h | h
    · have hin : vp_in (nI i) 24 := sf_in (by omega) (by omega)
      have step : ∀ (x : Int32) (g : Nat → Int32), (∀ q, bt x q = true ↔ ((a_kinds i = 0 ∧ q = 24) ∨ (a_kinds i = 4 ∧ q = sf_tg a_opA a_opB a_opC i 2))) → (∀ j, j < i → g j = f j) → g i = x →
          ∀ j, j < i + 1 → upd p i (nI i) j = nI j ∧ ∀ q, bt (g j) q = true ↔ ((a_kinds j = 0 ∧ q = 24) ∨ (a_kinds j = 4 ∧ q = sf_tg a_opA a_opB a_opC j 2)) := by
        intro x g hx hg hgi j hj
        rcases (by omega : j < i ∨ j = i) with z | rfl
        · rw [sf_un (by omega), hg j z]; exact hI j z
        · rw [sf_us, hgi]; exact ⟨rfl, hx⟩
      refine br_f (sf_nle h (by omega)) (And.intro hin ?_)
      rw [hcl]
      refine nm_e (And.intro hin (nm_e (And.intro hin ?_)))
      by_cases h0 : a_kinds i = 0
      · refine br_t h0 (And.intro hin (nm_e (nm_r (nI_1 i) (ih (i + 1) _ _ (by omega) (by omega) (step 16777216 _ ?_ ?_ sf_us)))))
        · intro q
          constructor
          · intro hb
            have := sf_lt32 hb
            rw [sf_b24 this] at hb
            exact Or.inl ⟨h0, of_decide_eq_true hb⟩
          · rintro (⟨_, rfl⟩ | ⟨h4, _⟩)
            · decide
            · exact absurd (h0.symm.trans h4) (by decide)
        · intro j hj
          rw [sf_un (by omega), sf_un (by omega)]
      · refine br_f h0 (And.intro hin ?_)
        by_cases h4 : a_kinds i = 4
        · obtain ⟨t2, o2⟩ := hN i h 2 sf_W2 (by rw [h4]; decide)
          refine br_t h4 (And.intro hin (And.intro hin (nm_e (nm_r (nI_1 i) (ih (i + 1) _ _ (by omega) (by omega) (step _ _ ?_ ?_ sf_us))))))
          · intro q
            rw [show a_opB i = nI (sf_tg a_opA a_opB a_opC i 2) from o2, sf_oneb (by omega)]
            constructor
            · intro e; exact Or.inr ⟨h4, e⟩
            · rintro (⟨h0', _⟩ | ⟨_, e⟩)
              · exact absurd h0' h0
              · exact e
          · intro j hj
            rw [sf_un (by omega), sf_un (by omega)]
        · refine br_f h4 (nm_r (nI_1 i) (ih (i + 1) _ _ (by omega) (by omega) (step 0 _ ?_ ?_ sf_us)))
          · intro q
            rw [b_0]
            constructor
            · intro z; exact absurd z (by decide)
            · rintro (⟨z, _⟩ | ⟨z, _⟩)
              · exact absurd z h0
              · exact absurd z h4
          · intro j hj
            rw [sf_un (by omega)]
    · have : i = c := by omega
      subst this
      refine br_t (sf_le (by omega) (by omega)) (Exists.intro (i + 1) ?_)
      exact xu_merge_76 hc hc0 hN hk Kp (i + 1) 0 p f id (by omega) (by omega) (uf_init hc hN (fun j hj => (hI j hj).1) (fun j hj => (hI j hj).2)) (fun j z => absurd z (by omega))
theorem xu_merge {c : Nat} {post : SX → Prop} (hc : c ≤ 24) (hc0 : 0 < c) (hN : sf_ND c a_kinds a_opA a_opB a_opC) (hk : ∀ i, i < c → sf_kd (a_kinds i))
    (Kp : ∀ p f R, uf_S c a_kinds a_opA a_opB a_opC p f R → sf_Lst c a_kinds a_opA a_opB a_opC (fun z q => bt (f (R z)) q = true) → post (f_capacity, f_horizon, nI c, f_verdict, f_errorNode, f_outputs, f_late, f_codeLen, f_openGuard, f_guardClock, f_memCount, f_presence, f_tickCount, f_digestValue, f_hasSnapshot, f_savedPresence, f_savedTicks, f_savedDigest, a_kinds, a_opA, a_opB, a_opC, p, f, a_clocks, a_needs, a_reach, a_order, a_levels, a_codeOp, a_codeDst, a_codeX, a_codeY, a_codeZ, a_memSlot, a_memInit, a_mem, a_latched, a_vals, a_savedMem, a_savedLatched, a_savedVals)) :
    wpX_mergeClockClasses post (f_capacity, f_horizon, nI c, f_verdict, f_errorNode, f_outputs, f_late, f_codeLen, f_openGuard, f_guardClock, f_memCount, f_presence, f_tickCount, f_digestValue, f_hasSnapshot, f_savedPresence, f_savedTicks, f_savedDigest, a_kinds, a_opA, a_opB, a_opC, a_parent, a_facts, a_clocks, a_needs, a_reach, a_order, a_levels, a_codeOp, a_codeDst, a_codeX, a_codeY, a_codeZ, a_memSlot, a_memInit, a_mem, a_latched, a_vals, a_savedMem, a_savedLatched, a_savedVals) := Exists.intro (c + 1) (xu_merge_2 hc hc0 hN hk Kp (c + 1) 0 _ _ (by omega) (by omega) (fun j z => absurd z (by omega)))
end
end
section
/-! the analysis: what each pass decides -/
def sf_clash (F : Nat → Nat → Prop) (i : Nat) : Prop := ∃ a b, a ≠ b ∧ F i a ∧ F i b
def sf_CKi (c : Nat) (F : Nat → Nat → Prop) (i : Nat) (x : Int32) : Prop := (∃ k, k < c ∧ F i k ∧ x = nI k) ∨ ((∀ k, k < c → ¬ F i k) ∧ x = -1)
def sf_CK (c : Nat) (F : Nat → Nat → Prop) (ck : Nat → Int32) : Prop := ∀ i, i < c → sf_CKi c F i (ck i)
theorem sf_CK_u {c : Nat} {F G : Nat → Nat → Prop} {ck dk : Nat → Int32} (hc : c ≤ 24) (hFG : ∀ i, i < c → ∀ q, q < 25 → (F i q ↔ G i q)) (hn : ∀ i, i < c → ¬ sf_clash F i) (h : sf_CK c F ck) (g : sf_CK c G dk) :
    ∀ i, i < c → ck i = dk i := by
  intro i hi
  rcases h i hi with ⟨k, hk, hF, e⟩ | ⟨hF, e⟩ <;> rcases g i hi with ⟨l, hl, hG, e'⟩ | ⟨hG, e'⟩
  · have : k = l := Classical.byContradiction fun z => hn i hi ⟨k, l, z, hF, (hFG i hi l (by omega)).mpr hG⟩
    rw [e, e', this]
  · exact absurd ((hFG i hi k (by omega)).mp hF) (hG k hk)
  · exact absurd ((hFG i hi l (by omega)).mpr hG) (hF l hl)
  · rw [e, e']
def sf_cob (K A B C ck : Nat → Int32) (i : Nat) : Prop := K i = 5 ∧ ck (sf_tg A B C i 1) = -1
def sf_Os (K A B C : Nat → Int32) (i k : Nat) : Prop := ∃ w, sf_W w ∧ sf_ro (K i) w = 1 ∧ sf_tg A B C i w = k
def sf_Ne (K A B C ck : Nat → Int32) (i k : Nat) : Prop := ck i = nI k ∨ (¬ K i = 2 ∧ sf_Os K A B C i k)
def sf_N (c : Nat) (K A B C ck : Nat → Int32) (i k : Nat) : Prop := i < c ∧ k < c ∧ sf_Ne K A B C ck i k
/-- the transitive closure: the least transitive relation above N -/
def sf_TC (N : Nat → Nat → Prop) (i j : Nat) : Prop := ∀ S : Nat → Nat → Prop, (∀ a b, N a b → S a b) → (∀ a b d, S a b → S b d → S a d) → S i j
theorem sf_TC_b {N : Nat → Nat → Prop} {i j : Nat} (h : N i j) : sf_TC N i j := fun _ b _ => b i j h
theorem sf_TC_t {N : Nat → Nat → Prop} {i j k : Nat} (h : sf_TC N i j) (g : sf_TC N j k) : sf_TC N i k := fun S b t => t i j k (h S b t) (g S b t)
/-- a nonempty finite set has an element that reaches none of it -/
theorem sf_min {T : Nat → Nat → Prop} {U : Nat → Prop} (ht : ∀ a b d, T a b → T b d → T a d) (hi : ∀ a, U a → ¬ T a a) :
    ∀ n, (∃ u, u < n ∧ U u) → ∃ u, u < n ∧ U u ∧ ∀ v, v < n → U v → ¬ T u v := by
  intro n
  induction n with
  | zero => rintro ⟨u, hu, _⟩; omega
  | succ n ih =>
    rintro ⟨u, hu, hU⟩
    by_cases he : ∃ u, u < n ∧ U u
    · obtain ⟨m, hm, hUm, hmin⟩ := ih he
      by_cases hN : U n ∧ T m n
      · refine ⟨n, by omega, hN.1, fun v hv hUv hT => ?_⟩
        rcases (by omega : v < n ∨ v = n) with z | rfl
        · exact hmin v z hUv (ht _ _ _ hN.2 hT)
        · exact hi v hUv hT
      · refine ⟨m, by omega, hUm, fun v hv hUv hT => ?_⟩
        rcases (by omega : v < n ∨ v = n) with z | rfl
        · exact hmin v z hUv hT
        · exact hN ⟨hUv, hT⟩
    · have : u = n := by
        rcases (by omega : u < n ∨ u = n) with z | z
        · exact absurd ⟨u, z, hU⟩ he
        · exact z
      subst this
      refine ⟨u, by omega, hU, fun v hv hUv hT => ?_⟩
      rcases (by omega : v < u ∨ v = u) with z | rfl
      · exact he ⟨v, z, hUv⟩
      · exact hi v hUv hT
/-- Warshall's stages -/
def sf_WI (c : Nat) (N Q : Nat → Nat → Prop) (k : Nat) : Prop :=
  (∀ i j, N i j → Q i j) ∧ (∀ i j, i < c → j < c → Q i j → sf_TC N i j) ∧ (∀ m, m < k → ∀ i j, i < c → j < c → Q i m → Q m j → Q i j)
theorem sf_WI_s {c k : Nat} {N Q Q' : Nat → Nat → Prop} (hk : k < c) (hN : ∀ i j, N i j → i < c ∧ j < c) (h : sf_WI c N Q k) (hQ : ∀ i j, i < c → j < c → (Q' i j ↔ (Q i j ∨ (Q i k ∧ Q k j)))) : sf_WI c N Q' (k + 1) := by
  obtain ⟨h1, h2, h3⟩ := h
  refine ⟨fun i j hn => ?_, fun i j hi hj hq => ?_, fun m hm i j hi hj ha hb => ?_⟩
  · obtain ⟨hi, hj⟩ := hN i j hn
    exact (hQ i j hi hj).mpr (Or.inl (h1 i j hn))
  · rcases (hQ i j hi hj).mp hq with q | ⟨q, q'⟩
    · exact h2 i j hi hj q
    · exact sf_TC_t (h2 i k hi hk q) (h2 k j hk hj q')
  · have hmc : m < c := by omega
    rw [hQ i m hi hmc] at ha
    rw [hQ m j hmc hj] at hb
    rw [hQ i j hi hj]
    rcases (by omega : m < k ∨ m = k) with z | rfl
    · rcases ha with a | ⟨a, a'⟩ <;> rcases hb with b | ⟨b, b'⟩
      · exact Or.inl (h3 m z i j hi hj a b)
      · exact Or.inr ⟨h3 m z i k hi hk a b, b'⟩
      · exact Or.inr ⟨a, h3 m z k j hk hj a' b⟩
      · exact Or.inr ⟨a, b'⟩
    · have a1 : Q i m := by rcases ha with a | ⟨a, _⟩ <;> exact a
      have b1 : Q m j := by rcases hb with b | ⟨_, b⟩ <;> exact b
      exact Or.inr ⟨a1, b1⟩
theorem sf_WI_TC {c : Nat} {N Q : Nat → Nat → Prop} (hN : ∀ i j, N i j → i < c ∧ j < c) (h : sf_WI c N Q c) {i j : Nat} (hi : i < c) (hj : j < c) : Q i j ↔ sf_TC N i j := by
  refine ⟨h.2.1 i j hi hj, fun ht => ?_⟩
  have := ht (fun a b => a < c ∧ b < c ∧ Q a b) (fun a b hn => ⟨(hN a b hn).1, (hN a b hn).2, h.1 a b hn⟩)
    (fun a b d p q => ⟨p.1, q.2.1, h.2.2 b p.2.1 a d p.1 q.2.1 p.2.2 q.2.2⟩)
  exact this.2.2
/-- places in an order -/
def sf_Or (c : Nat) (N : Nat → Nat → Prop) (o : Nat → Nat) : Prop :=
  (∀ j, j < c → o j < c) ∧ (∀ i j, i < c → j < c → o i = o j → i = j) ∧ (∀ z, z < c → ∃ j, j < c ∧ o j = z) ∧ (∀ j, j < c → ∀ k, N (o j) k → ∃ i, i < j ∧ o i = k)
def sf_Po (c : Nat) (N : Nat → Nat → Prop) (pos : Nat → Nat) : Prop := ∀ z, z < c → pos z < c ∧ ∀ k, N z k → pos k < pos z
theorem sf_Po_ex {c : Nat} {N : Nat → Nat → Prop} {o : Nat → Nat} (h : sf_Or c N o) (hN : ∀ i j, N i j → i < c ∧ j < c) : ∃ pos, sf_Po c N pos ∧ (∀ z, z < c → o (pos z) = z) ∧ (∀ j, j < c → pos (o j) = j) := by
  obtain ⟨h1, h2, h3, h4⟩ := h
  have hch : ∀ z, ∃ j, z < c → (j < c ∧ o j = z) := by
    intro z
    by_cases hz : z < c
    · obtain ⟨j, hj⟩ := h3 z hz
      exact ⟨j, fun _ => hj⟩
    · exact ⟨0, fun q => absurd q hz⟩
  refine ⟨fun z => (hch z).choose, ?_, ?_, ?_⟩
  · intro z hz
    have hz' := (hch z).choose_spec hz
    refine ⟨hz'.1, fun k hk => ?_⟩
    have hkc := (hN z k hk).2
    have hk' := (hch k).choose_spec hkc
    obtain ⟨i, hi, e⟩ := h4 _ hz'.1 k (by rw [hz'.2]; exact hk)
    have : (hch k).choose = i := h2 _ _ hk'.1 (by omega) (hk'.2.trans e.symm)
    show (hch k).choose < (hch z).choose
    rw [this]; exact hi
  · intro z hz; exact ((hch z).choose_spec hz).2
  · intro j hj
    have := (hch (o j)).choose_spec (h1 j hj)
    exact h2 _ _ this.1 hj this.2
/-- the depth of the needs -/
def sf_Lv (c : Nat) (N : Nat → Nat → Prop) (L : Nat → Nat) : Prop := ∀ z, z < c → L z < 24 ∧ (∀ k, N z k → L k + 1 ≤ L z) ∧ (L z = 0 ∨ ∃ k, N z k ∧ L z = L k + 1)
/-- lateness -/
def sf_lr (K A B C : Nat → Int32) (lt : Nat → Prop) (i : Nat) : Prop :=
  K i = 2 ∨ ((K i = 3 ∨ K i = 4) ∧ lt (sf_tg A B C i 1)) ∨ (¬ K i = 2 ∧ ¬ K i = 5 ∧ ¬ K i = 3 ∧ ¬ K i = 4 ∧ ∃ w, sf_W w ∧ sf_ro (K i) w = 1 ∧ lt (sf_tg A B C i w))
def sf_Lt (c : Nat) (K A B C : Nat → Int32) (lt : Nat → Prop) : Prop := ∀ z, z < c → (lt z ↔ sf_lr K A B C lt z)
theorem sf_lr_cg {c z : Nat} {K A B C ck : Nat → Int32} {lt lt' : Nat → Prop} (hz : z < c) (hN : sf_ND c K A B C) (h : ∀ k, sf_N c K A B C ck z k → (lt k ↔ lt' k)) : sf_lr K A B C lt z ↔ sf_lr K A B C lt' z := by
  have key : ∀ w, sf_W w → sf_ro (K z) w = 1 → ¬ K z = 2 → (lt (sf_tg A B C z w) ↔ lt' (sf_tg A B C z w)) := by
    intro w hw hr h2
    exact h _ ⟨hz, (hN z hz w hw hr).1, Or.inr ⟨h2, w, hw, hr, rfl⟩⟩
  have k1 : (K z = 3 ∨ K z = 4) → (lt (sf_tg A B C z 1) ↔ lt' (sf_tg A B C z 1)) := by
    rintro (e | e)
    · exact key 1 sf_W1 (by rw [e]; decide) (by rw [e]; decide)
    · exact key 1 sf_W1 (by rw [e]; decide) (by rw [e]; decide)
  unfold sf_lr
  constructor
  · rintro (h | ⟨h, g⟩ | ⟨h2, h5, h3, h4, w, hw, hr, g⟩)
    · exact Or.inl h
    · exact Or.inr (Or.inl ⟨h, (k1 h).mp g⟩)
    · exact Or.inr (Or.inr ⟨h2, h5, h3, h4, w, hw, hr, (key w hw hr h2).mp g⟩)
  · rintro (h | ⟨h, g⟩ | ⟨h2, h5, h3, h4, w, hw, hr, g⟩)
    · exact Or.inl h
    · exact Or.inr (Or.inl ⟨h, (k1 h).mpr g⟩)
    · exact Or.inr (Or.inr ⟨h2, h5, h3, h4, w, hw, hr, (key w hw hr h2).mpr g⟩)
def sf_uni (K A B C : Nat → Int32) (out lt : Nat → Prop) (i : Nat) : Prop := (out i ∧ lt i) ∨ ((K i = 2 ∨ K i = 5) ∧ lt (sf_tg A B C i 1)) ∨ (K i = 4 ∧ lt (sf_tg A B C i 2))
/-- the verdict v and the error node e; ck, L: clocks and levels if the verdict is 1 -/
def sf_Ana (c : Nat) (K A B C : Nat → Int32) (out : Nat → Prop) (ck : Nat → Int32) (L : Nat → Nat) (v e : Int32) : Prop :=
  (c = 0 ∧ v = 2 ∧ e = -1) ∨ (0 < c ∧ (∀ i, i < c → ¬ out i) ∧ v = 3 ∧ e = -1) ∨
  (0 < c ∧ (∃ i, i < c ∧ out i) ∧ ((v = 4 ∧ ¬ e < 0 ∧ sf_FI c (sf_dang c K A B C) e) ∨
    (sf_ND c K A B C ∧ sf_FI c (sf_dang c K A B C) (-1) ∧ ∃ F, sf_Lst c K A B C F ∧ ((v = 5 ∧ ¬ e < 0 ∧ sf_FI c (sf_clash F) e) ∨
      (sf_FI c (sf_clash F) (-1) ∧ sf_CK c F ck ∧ ((v = 6 ∧ ¬ e < 0 ∧ sf_FI c (sf_cob K A B C ck) e) ∨
        (sf_FI c (sf_cob K A B C ck) (-1) ∧ ((v = 7 ∧ ¬ e < 0 ∧ sf_FI c (fun i => sf_TC (sf_N c K A B C ck) i i) e) ∨
          (sf_FI c (fun i => sf_TC (sf_N c K A B C ck) i i) (-1) ∧ (∃ pos, sf_Po c (sf_N c K A B C ck) pos) ∧ sf_Lv c (sf_N c K A B C ck) L ∧
            ∃ lt, sf_Lt c K A B C lt ∧ ((v = 8 ∧ ¬ e < 0 ∧ sf_FI c (sf_uni K A B C out lt) e) ∨ (v = 1 ∧ e = -1 ∧ sf_FI c (sf_uni K A B C out lt) (-1))))))))))))
end
section
/-! the component's checks up to the cycles -/
section
variable {f_capacity f_horizon f_count f_verdict f_errorNode f_outputs f_late f_codeLen f_openGuard f_guardClock f_memCount f_presence f_tickCount f_digestValue f_hasSnapshot f_savedPresence f_savedTicks f_savedDigest : Int32} {a_kinds a_opA a_opB a_opC a_parent a_facts a_clocks a_needs a_reach a_order a_levels a_codeOp a_codeDst a_codeX a_codeY a_codeZ a_memSlot a_memInit a_mem a_latched a_vals a_savedMem a_savedLatched a_savedVals : Nat → Int32}
theorem xa_dang_12 {c i : Nat} {post J2 : Int32 → Prop} (hc : c ≤ 24) (hi : i < c) (hk : sf_kd (a_kinds i)) (hP : ∀ w, sf_W w → sf_ro (a_kinds i) w = 1 → ∃ t, t < 24 ∧ sf_od a_opA a_opB a_opC i w = nI t)
    (K1 : sf_dang c a_kinds a_opA a_opB a_opC i → post (nI i)) (K0 : ¬ sf_dang c a_kinds a_opA a_opB a_opC i → J2 (nI (i + 1))) :
    ∀ n w, 1 ≤ w → w ≤ 4 → 4 - w < n → (∀ v, 1 ≤ v → v < w → sf_ro (a_kinds i) v = 1 → sf_od a_opA a_opB a_opC i v < nI c) → wX_firstDangling_12 post J2 (nI i) f_capacity f_horizon (nI c) f_verdict f_errorNode f_outputs f_late f_codeLen f_openGuard f_guardClock f_memCount f_presence f_tickCount f_digestValue f_hasSnapshot f_savedPresence f_savedTicks f_savedDigest a_kinds a_opA a_opB a_opC a_parent a_facts a_clocks a_needs a_reach a_order a_levels a_codeOp a_codeDst a_codeX a_codeY a_codeZ a_memSlot a_memInit a_mem a_latched a_vals a_savedMem a_savedLatched a_savedVals n (nI w) := by
  intro n
  induction n with
  | zero => intro w _ _ hn; omega
  | succ n ih =>
    intro w hw1 hw4 hn hv
    by_cases e : w = 4
    · subst e
      refine br_t (by decide) (nm_r (nI_1 i) (K0 ?_))
      rintro ⟨v, hv', hr, ho⟩
      exact ho (hv v hv'.1 (by have := hv'.2; omega) hr)
    · have hW : sf_W w := ⟨hw1, by omega⟩
      have hcl : (nI i).toNatClampNeg = i := sf_cl (by omega)
      have hin : vp_in (nI i) 24 := sf_in (by omega) (by omega)
      refine br_f (sf_nlt (a := 3) (by omega) (by omega)) (And.intro hin ?_)
      rw [hcl]
      refine xs_use hk hW ?_
      refine xs_opd (by omega) hW ?_
      have go : (sf_ro (a_kinds i) w = 1 → sf_od a_opA a_opB a_opC i w < nI c) → wX_firstDangling_12 post J2 (nI i) f_capacity f_horizon (nI c) f_verdict f_errorNode f_outputs f_late f_codeLen f_openGuard f_guardClock f_memCount f_presence f_tickCount f_digestValue f_hasSnapshot f_savedPresence f_savedTicks f_savedDigest a_kinds a_opA a_opB a_opC a_parent a_facts a_clocks a_needs a_reach a_order a_levels a_codeOp a_codeDst a_codeX a_codeY a_codeZ a_memSlot a_memInit a_mem a_latched a_vals a_savedMem a_savedLatched a_savedVals n (nI (w + 1)) := by
        intro hw
        refine ih (w + 1) (by omega) (by omega) (by omega) (fun v h1 h2 hr => ?_)
        rcases (by omega : v < w ∨ v = w) with z | rfl
        · exact hv v h1 z hr
        · exact hw hr
      by_cases hr : sf_ro (a_kinds i) w = 1
      · refine br_t hr ?_
        by_cases ho : sf_od a_opA a_opB a_opC i w < nI c
        · exact br_t ho (nm_r (nI_1 w) (go fun _ => ho))
        · exact br_f ho (K1 ⟨w, hW, hr, ho⟩)
      · exact br_f hr (nm_r (nI_1 w) (go fun z => absurd z hr))
theorem xa_dang_2 {c : Nat} {post : Int32 → Prop} (hc : c ≤ 24) (hP : sf_Pg c 24 a_kinds a_opA a_opB a_opC) (Kp : ∀ r, sf_FI c (sf_dang c a_kinds a_opA a_opB a_opC) r → post r) :
    ∀ n i, i ≤ c → c - i < n → (∀ j, j < i → ¬ sf_dang c a_kinds a_opA a_opB a_opC j) → wX_firstDangling_2 post f_capacity f_horizon (nI c) f_verdict f_errorNode f_outputs f_late f_codeLen f_openGuard f_guardClock f_memCount f_presence f_tickCount f_digestValue f_hasSnapshot f_savedPresence f_savedTicks f_savedDigest a_kinds a_opA a_opB a_opC a_parent a_facts a_clocks a_needs a_reach a_order a_levels a_codeOp a_codeDst a_codeX a_codeY a_codeZ a_memSlot a_memInit a_mem a_latched a_vals a_savedMem a_savedLatched a_savedVals n (nI i) := by
  intro n
  induction n with
  | zero => intro i _ hn; omega
  | succ n ih =>
    intro i hi hn hj
    rcases Nat.lt_or_ge i c with h | h
    · refine br_f (sf_nle h (by omega)) (Exists.intro 5 ?_)
      refine xa_dang_12 hc h (hP i h).1 (fun w hw => ((hP i h).2 w hw).1) (fun hd => Kp _ (sf_FI_s h hd hj)) (fun hd => ?_) 5 1 (by omega) (by omega) (by omega) (fun v h1 h2 => absurd h2 (by omega))
      refine ih (i + 1) (by omega) (by omega) (fun j hj' => ?_)
      rcases (by omega : j < i ∨ j = i) with z | rfl
      · exact hj j z
      · exact hd
    · have : i = c := by omega
      subst this
      exact br_t (sf_le (by omega) (by omega)) (Kp _ (sf_FI_n hj))
theorem xa_dang {c : Nat} {post : Int32 → Prop} (hc : c ≤ 24) (hP : sf_Pg c 24 a_kinds a_opA a_opB a_opC) (Kp : ∀ r, sf_FI c (sf_dang c a_kinds a_opA a_opB a_opC) r → post r) : wpX_firstDangling post (f_capacity, f_horizon, nI c, f_verdict, f_errorNode, f_outputs, f_late, f_codeLen, f_openGuard, f_guardClock, f_memCount, f_presence, f_tickCount, f_digestValue, f_hasSnapshot, f_savedPresence, f_savedTicks, f_savedDigest, a_kinds, a_opA, a_opB, a_opC, a_parent, a_facts, a_clocks, a_needs, a_reach, a_order, a_levels, a_codeOp, a_codeDst, a_codeX, a_codeY, a_codeZ, a_memSlot, a_memInit, a_mem, a_latched, a_vals, a_savedMem, a_savedLatched, a_savedVals) :=
  Exists.intro (c + 1) (xa_dang_2 hc hP Kp (c + 1) 0 (by omega) (by omega) (fun j z => absurd z (by omega)))
theorem xa_clash_2 {c : Nat} {R : Nat → Nat} {post : Int32 → SX → Prop} (hc : c ≤ 24)
    (Kp : ∀ r p, uf_S c a_kinds a_opA a_opB a_opC p a_facts R → sf_FI c (sf_clash (fun z q => bt (a_facts (R z)) q = true)) r → post r (f_capacity, f_horizon, nI c, f_verdict, f_errorNode, f_outputs, f_late, f_codeLen, f_openGuard, f_guardClock, f_memCount, f_presence, f_tickCount, f_digestValue, f_hasSnapshot, f_savedPresence, f_savedTicks, f_savedDigest, a_kinds, a_opA, a_opB, a_opC, p, a_facts, a_clocks, a_needs, a_reach, a_order, a_levels, a_codeOp, a_codeDst, a_codeX, a_codeY, a_codeZ, a_memSlot, a_memInit, a_mem, a_latched, a_vals, a_savedMem, a_savedLatched, a_savedVals)) :
    ∀ n i p, i ≤ c → c - i < n → uf_S c a_kinds a_opA a_opB a_opC p a_facts R → (∀ j, j < i → ¬ sf_clash (fun z q => bt (a_facts (R z)) q = true) j) → wX_firstClash_2 post n (nI i) f_capacity f_horizon (nI c) f_verdict f_errorNode f_outputs f_late f_codeLen f_openGuard f_guardClock f_memCount f_presence f_tickCount f_digestValue f_hasSnapshot f_savedPresence f_savedTicks f_savedDigest a_kinds a_opA a_opB a_opC p a_facts a_clocks a_needs a_reach a_order a_levels a_codeOp a_codeDst a_codeX a_codeY a_codeZ a_memSlot a_memInit a_mem a_latched a_vals a_savedMem a_savedLatched a_savedVals := by
  intro n
  induction n with
  | zero => intro i p _ hn; omega
  | succ n ih =>
    intro i p hi hn hS hj
    rcases Nat.lt_or_ge i c with h | h
    · refine br_f (sf_nle h (by omega)) ?_
      refine xu_fd hc hS h (fun p' hS' hR => ?_)
      refine And.intro (sf_in (by omega) (by omega)) (nm_r (e' := a_facts (R i)) (by rw [sf_cl (by omega)]) ?_)
      by_cases hcl : sf_clash (fun z q => bt (a_facts (R z)) q = true) i
      · refine br_f ?_ (Kp _ p' hS' (sf_FI_s h hcl hj))
        obtain ⟨a, b, hab, ha, hb⟩ := hcl
        rcases Nat.lt_or_gt_of_ne hab with z | z
        · exact sf_p2a z ha hb
        · exact sf_p2a z hb ha
      · refine br_t (sf_p2b fun a b ha hb => ?_) (nm_r (nI_1 i) (ih (i + 1) p' (by omega) (by omega) hS' (fun j hj' => ?_)))
        · exact Classical.byContradiction fun z => hcl ⟨a, b, z, ha, hb⟩
        · rcases (by omega : j < i ∨ j = i) with z | rfl
          · exact hj j z
          · exact hcl
    · have : i = c := by omega
      subst this
      exact br_t (sf_le (by omega) (by omega)) (Kp _ p hS (sf_FI_n hj))
theorem xa_clash {c : Nat} {R : Nat → Nat} {post : Int32 → SX → Prop} (hc : c ≤ 24) (hS : uf_S c a_kinds a_opA a_opB a_opC a_parent a_facts R)
    (Kp : ∀ r p, uf_S c a_kinds a_opA a_opB a_opC p a_facts R → sf_FI c (sf_clash (fun z q => bt (a_facts (R z)) q = true)) r → post r (f_capacity, f_horizon, nI c, f_verdict, f_errorNode, f_outputs, f_late, f_codeLen, f_openGuard, f_guardClock, f_memCount, f_presence, f_tickCount, f_digestValue, f_hasSnapshot, f_savedPresence, f_savedTicks, f_savedDigest, a_kinds, a_opA, a_opB, a_opC, p, a_facts, a_clocks, a_needs, a_reach, a_order, a_levels, a_codeOp, a_codeDst, a_codeX, a_codeY, a_codeZ, a_memSlot, a_memInit, a_mem, a_latched, a_vals, a_savedMem, a_savedLatched, a_savedVals)) : wpX_firstClash post (f_capacity, f_horizon, nI c, f_verdict, f_errorNode, f_outputs, f_late, f_codeLen, f_openGuard, f_guardClock, f_memCount, f_presence, f_tickCount, f_digestValue, f_hasSnapshot, f_savedPresence, f_savedTicks, f_savedDigest, a_kinds, a_opA, a_opB, a_opC, a_parent, a_facts, a_clocks, a_needs, a_reach, a_order, a_levels, a_codeOp, a_codeDst, a_codeX, a_codeY, a_codeZ, a_memSlot, a_memInit, a_mem, a_latched, a_vals, a_savedMem, a_savedLatched, a_savedVals) :=
  Exists.intro (c + 1) (xa_clash_2 hc Kp (c + 1) 0 _ (by omega) (by omega) hS (fun j z => absurd z (by omega)))
theorem xa_ck_33 {c i : Nat} {set : Int32} {ck : Nat → Int32} {post : SX → Prop} {J2 : Int32 → Int32 → Int32 → Int32 → Int32 → Int32 → Int32 → Int32 → Int32 → Int32 → Int32 → Int32 → Int32 → Int32 → Int32 → Int32 → Int32 → Int32 → Int32 → (Nat → Int32) → (Nat → Int32) → (Nat → Int32) → (Nat → Int32) → (Nat → Int32) → (Nat → Int32) → (Nat → Int32) → (Nat → Int32) → (Nat → Int32) → (Nat → Int32) → (Nat → Int32) → (Nat → Int32) → (Nat → Int32) → (Nat → Int32) → (Nat → Int32) → (Nat → Int32) → (Nat → Int32) → (Nat → Int32) → (Nat → Int32) → (Nat → Int32) → (Nat → Int32) → (Nat → Int32) → (Nat → Int32) → (Nat → Int32) → Prop} (hc : c ≤ 24) (hi : i < c)
    (KJ : ∀ g, (∀ j, j ≠ i → g j = ck j) → ((∃ k, k < c ∧ bt set k = true ∧ g i = nI k) ∨ ((∀ k, k < c → ¬ bt set k = true) ∧ g i = -1)) → J2 (nI (i + 1)) f_capacity f_horizon (nI c) f_verdict f_errorNode f_outputs f_late f_codeLen f_openGuard f_guardClock f_memCount f_presence f_tickCount f_digestValue f_hasSnapshot f_savedPresence f_savedTicks f_savedDigest a_kinds a_opA a_opB a_opC a_parent a_facts g a_needs a_reach a_order a_levels a_codeOp a_codeDst a_codeX a_codeY a_codeZ a_memSlot a_memInit a_mem a_latched a_vals a_savedMem a_savedLatched a_savedVals) :
    ∀ n k g, k ≤ c → c - k < n → (∀ j, j ≠ i → g j = ck j) → ((∃ l, l < k ∧ bt set l = true ∧ g i = nI l) ∨ ((∀ l, l < k → ¬ bt set l = true) ∧ g i = -1)) →
      wX_assignClocks_33 post J2 (nI i) set f_capacity f_horizon (nI c) f_verdict f_errorNode f_outputs f_late f_codeLen f_openGuard f_guardClock f_memCount f_presence f_tickCount f_digestValue f_hasSnapshot f_savedPresence f_savedTicks f_savedDigest n (nI k) a_kinds a_opA a_opB a_opC a_parent a_facts g a_needs a_reach a_order a_levels a_codeOp a_codeDst a_codeX a_codeY a_codeZ a_memSlot a_memInit a_mem a_latched a_vals a_savedMem a_savedLatched a_savedVals := by
  intro n
  induction n with
  | zero => intro k g _ hn; omega
  | succ n ih =>
    intro k g hk hn hg hI
    have hcl : (nI i).toNatClampNeg = i := sf_cl (by omega)
    have hin : vp_in (nI i) 24 := sf_in (by omega) (by omega)
    rcases Nat.lt_or_ge k c with h | h
    · refine br_f (sf_nle h (by omega)) ?_
      refine sf_bb (by omega) (fun hb => ?_) (fun hb => ?_)
      · refine nm_r (nI_1 k) (ih (k + 1) g (by omega) (by omega) hg ?_)
        rcases hI with ⟨l, hl, hbl, e⟩ | ⟨hl, e⟩
        · exact Or.inl ⟨l, by omega, hbl, e⟩
        · refine Or.inr ⟨fun l hl' => ?_, e⟩
          rcases (by omega : l < k ∨ l = k) with z | rfl
          · exact hl l z
          · exact hb
      · refine And.intro hin ?_
        rw [hcl]
        refine nm_e (nm_r (nI_1 k) (ih (k + 1) _ (by omega) (by omega) (fun j hj => by rw [sf_un hj]; exact hg j hj) (Or.inl ⟨k, by omega, hb, sf_us⟩)))
    · have : k = c := by omega
      subst this
      exact br_t (sf_le (by omega) (by omega)) (nm_r (nI_1 i) (KJ g hg hI))
theorem xa_ck_2 {c : Nat} {R : Nat → Nat} {post : SX → Prop} (hc : c ≤ 24)
    (Kp : ∀ p ck, uf_S c a_kinds a_opA a_opB a_opC p a_facts R → sf_CK c (fun z q => bt (a_facts (R z)) q = true) ck → post (f_capacity, f_horizon, nI c, f_verdict, f_errorNode, f_outputs, f_late, f_codeLen, f_openGuard, f_guardClock, f_memCount, f_presence, f_tickCount, f_digestValue, f_hasSnapshot, f_savedPresence, f_savedTicks, f_savedDigest, a_kinds, a_opA, a_opB, a_opC, p, a_facts, ck, a_needs, a_reach, a_order, a_levels, a_codeOp, a_codeDst, a_codeX, a_codeY, a_codeZ, a_memSlot, a_memInit, a_mem, a_latched, a_vals, a_savedMem, a_savedLatched, a_savedVals)) :
    ∀ n i p ck, i ≤ c → c - i < n → uf_S c a_kinds a_opA a_opB a_opC p a_facts R → (∀ j, j < i → sf_CKi c (fun z q => bt (a_facts (R z)) q = true) j (ck j)) → wX_assignClocks_2 post n (nI i) f_capacity f_horizon (nI c) f_verdict f_errorNode f_outputs f_late f_codeLen f_openGuard f_guardClock f_memCount f_presence f_tickCount f_digestValue f_hasSnapshot f_savedPresence f_savedTicks f_savedDigest a_kinds a_opA a_opB a_opC p a_facts ck a_needs a_reach a_order a_levels a_codeOp a_codeDst a_codeX a_codeY a_codeZ a_memSlot a_memInit a_mem a_latched a_vals a_savedMem a_savedLatched a_savedVals := by
  intro n
  induction n with
  | zero => intro i p ck _ hn; omega
  | succ n ih =>
    intro i p ck hi hn hS hI
    rcases Nat.lt_or_ge i c with h | h
    · have hcl : (nI i).toNatClampNeg = i := sf_cl (by omega)
      have hin : vp_in (nI i) 24 := sf_in (by omega) (by omega)
      refine br_f (sf_nle h (by omega)) ?_
      refine xu_fd hc hS h (fun p' hS' hR => ?_)
      refine And.intro (sf_in (by omega) (by omega)) (nm_r (e' := a_facts (R i)) (by rw [sf_cl (by omega)]) (And.intro hin ?_))
      rw [hcl]
      refine nm_e (Exists.intro (c + 1) ?_)
      refine xa_ck_33 (ck := ck) hc h (fun g hg hgi => ?_) (c + 1) 0 _ (by omega) (by omega) (fun j hj => sf_un hj) (Or.inr ⟨fun l z => absurd z (by omega), sf_us⟩)
      refine ih (i + 1) p' g (by omega) (by omega) hS' (fun j hj => ?_)
      rcases (by omega : j < i ∨ j = i) with z | rfl
      · rw [hg j (by omega)]; exact hI j z
      · exact hgi
    · have : i = c := by omega
      subst this
      exact br_t (sf_le (by omega) (by omega)) (Kp p ck hS hI)
theorem xa_ck {c : Nat} {R : Nat → Nat} {post : SX → Prop} (hc : c ≤ 24) (hS : uf_S c a_kinds a_opA a_opB a_opC a_parent a_facts R)
    (Kp : ∀ p ck, uf_S c a_kinds a_opA a_opB a_opC p a_facts R → sf_CK c (fun z q => bt (a_facts (R z)) q = true) ck → post (f_capacity, f_horizon, nI c, f_verdict, f_errorNode, f_outputs, f_late, f_codeLen, f_openGuard, f_guardClock, f_memCount, f_presence, f_tickCount, f_digestValue, f_hasSnapshot, f_savedPresence, f_savedTicks, f_savedDigest, a_kinds, a_opA, a_opB, a_opC, p, a_facts, ck, a_needs, a_reach, a_order, a_levels, a_codeOp, a_codeDst, a_codeX, a_codeY, a_codeZ, a_memSlot, a_memInit, a_mem, a_latched, a_vals, a_savedMem, a_savedLatched, a_savedVals)) : wpX_assignClocks post (f_capacity, f_horizon, nI c, f_verdict, f_errorNode, f_outputs, f_late, f_codeLen, f_openGuard, f_guardClock, f_memCount, f_presence, f_tickCount, f_digestValue, f_hasSnapshot, f_savedPresence, f_savedTicks, f_savedDigest, a_kinds, a_opA, a_opB, a_opC, a_parent, a_facts, a_clocks, a_needs, a_reach, a_order, a_levels, a_codeOp, a_codeDst, a_codeX, a_codeY, a_codeZ, a_memSlot, a_memInit, a_mem, a_latched, a_vals, a_savedMem, a_savedLatched, a_savedVals) :=
  Exists.intro (c + 1) (xa_ck_2 hc Kp (c + 1) 0 _ _ (by omega) (by omega) hS (fun j z => absurd z (by omega)))
theorem xa_cob_2 {c : Nat} {post : Int32 → Prop} (hc : c ≤ 24) (hN : sf_ND c a_kinds a_opA a_opB a_opC) (Kp : ∀ r, sf_FI c (sf_cob a_kinds a_opA a_opB a_opC a_clocks) r → post r) :
    ∀ n i, i ≤ c → c - i < n → (∀ j, j < i → ¬ sf_cob a_kinds a_opA a_opB a_opC a_clocks j) → wX_firstCurrentOnBase_2 post f_capacity f_horizon (nI c) f_verdict f_errorNode f_outputs f_late f_codeLen f_openGuard f_guardClock f_memCount f_presence f_tickCount f_digestValue f_hasSnapshot f_savedPresence f_savedTicks f_savedDigest a_kinds a_opA a_opB a_opC a_parent a_facts a_clocks a_needs a_reach a_order a_levels a_codeOp a_codeDst a_codeX a_codeY a_codeZ a_memSlot a_memInit a_mem a_latched a_vals a_savedMem a_savedLatched a_savedVals n (nI i) := by
  intro n
  induction n with
  | zero => intro i _ hn; omega
  | succ n ih =>
    intro i hi hn hj
    rcases Nat.lt_or_ge i c with h | h
    · have hcl : (nI i).toNatClampNeg = i := sf_cl (by omega)
      have hin : vp_in (nI i) 24 := sf_in (by omega) (by omega)
      have go : ¬ sf_cob a_kinds a_opA a_opB a_opC a_clocks i → wX_firstCurrentOnBase_2 post f_capacity f_horizon (nI c) f_verdict f_errorNode f_outputs f_late f_codeLen f_openGuard f_guardClock f_memCount f_presence f_tickCount f_digestValue f_hasSnapshot f_savedPresence f_savedTicks f_savedDigest a_kinds a_opA a_opB a_opC a_parent a_facts a_clocks a_needs a_reach a_order a_levels a_codeOp a_codeDst a_codeX a_codeY a_codeZ a_memSlot a_memInit a_mem a_latched a_vals a_savedMem a_savedLatched a_savedVals n (nI (i + 1)) := by
        intro hx
        refine ih (i + 1) (by omega) (by omega) (fun j hj' => ?_)
        rcases (by omega : j < i ∨ j = i) with z | rfl
        · exact hj j z
        · exact hx
      refine br_f (sf_nle h (by omega)) (And.intro hin ?_)
      rw [hcl]
      by_cases hK : a_kinds i = 5
      · obtain ⟨t1, o1⟩ := hN i h 1 sf_W1 (by rw [hK]; decide)
        have o1' : a_opA i = nI (sf_tg a_opA a_opB a_opC i 1) := o1
        refine br_t hK (And.intro hin (And.intro (by rw [o1']; exact sf_in (by omega) (by omega)) ?_))
        by_cases hb : a_clocks (sf_tg a_opA a_opB a_opC i 1) = -1
        · exact br_t hb (Kp _ (sf_FI_s h ⟨hK, hb⟩ hj))
        · exact br_f hb (nm_r (nI_1 i) (go fun z => hb z.2))
      · exact br_f hK (nm_r (nI_1 i) (go fun z => hK z.1))
    · have : i = c := by omega
      subst this
      exact br_t (sf_le (by omega) (by omega)) (Kp _ (sf_FI_n hj))
theorem xa_cob {c : Nat} {post : Int32 → Prop} (hc : c ≤ 24) (hN : sf_ND c a_kinds a_opA a_opB a_opC) (Kp : ∀ r, sf_FI c (sf_cob a_kinds a_opA a_opB a_opC a_clocks) r → post r) : wpX_firstCurrentOnBase post (f_capacity, f_horizon, nI c, f_verdict, f_errorNode, f_outputs, f_late, f_codeLen, f_openGuard, f_guardClock, f_memCount, f_presence, f_tickCount, f_digestValue, f_hasSnapshot, f_savedPresence, f_savedTicks, f_savedDigest, a_kinds, a_opA, a_opB, a_opC, a_parent, a_facts, a_clocks, a_needs, a_reach, a_order, a_levels, a_codeOp, a_codeDst, a_codeX, a_codeY, a_codeZ, a_memSlot, a_memInit, a_mem, a_latched, a_vals, a_savedMem, a_savedLatched, a_savedVals) :=
  Exists.intro (c + 1) (xa_cob_2 hc hN Kp (c + 1) 0 (by omega) (by omega) (fun j z => absurd z (by omega)))
theorem xa_oset_4 {c i : Nat} {post : Int32 → Prop} (hc : c ≤ 24) (hi : i < c) (hk : sf_kd (a_kinds i)) (hN : sf_ND c a_kinds a_opA a_opB a_opC)
    (Kp : ∀ s, (∀ q, bt s q = true ↔ sf_Os a_kinds a_opA a_opB a_opC i q) → post s) :
    ∀ n w s, 1 ≤ w → w ≤ 4 → 4 - w < n → (∀ q, bt s q = true ↔ ∃ v, 1 ≤ v ∧ v < w ∧ sf_ro (a_kinds i) v = 1 ∧ sf_tg a_opA a_opB a_opC i v = q) → wX_operandSet_4 post (nI i) f_capacity f_horizon (nI c) f_verdict f_errorNode f_outputs f_late f_codeLen f_openGuard f_guardClock f_memCount f_presence f_tickCount f_digestValue f_hasSnapshot f_savedPresence f_savedTicks f_savedDigest a_kinds a_opA a_opB a_opC a_parent a_facts a_clocks a_needs a_reach a_order a_levels a_codeOp a_codeDst a_codeX a_codeY a_codeZ a_memSlot a_memInit a_mem a_latched a_vals a_savedMem a_savedLatched a_savedVals n s (nI w) := by
  intro n
  induction n with
  | zero => intro w s _ _ hn; omega
  | succ n ih =>
    intro w s hw1 hw4 hn hs
    by_cases e : w = 4
    · subst e
      refine br_t (by decide) (Kp s fun q => ?_)
      rw [hs q]
      constructor
      · rintro ⟨v, h1, h2, h3, h4⟩; exact ⟨v, ⟨h1, by omega⟩, h3, h4⟩
      · rintro ⟨v, ⟨h1, h2⟩, h3, h4⟩; exact ⟨v, h1, by omega, h3, h4⟩
    · have hW : sf_W w := ⟨hw1, by omega⟩
      have hcl : (nI i).toNatClampNeg = i := sf_cl (by omega)
      have hin : vp_in (nI i) 24 := sf_in (by omega) (by omega)
      refine br_f (sf_nlt (a := 3) (by omega) (by omega)) (And.intro hin ?_)
      rw [hcl]
      refine xs_use hk hW ?_
      refine xs_opd (by omega) hW ?_
      by_cases hr : sf_ro (a_kinds i) w = 1
      · obtain ⟨ht, ho⟩ := hN i hi w hW hr
        refine br_t hr ?_
        rw [ho]
        refine nm_e (nm_r (nI_1 w) (ih (w + 1) _ (by omega) (by omega) (by omega) (fun q => ?_)))
        rw [sf_set _ (by omega), hs q]
        constructor
        · rintro (⟨v, h1, h2, h3, h4⟩ | e')
          · exact ⟨v, h1, by omega, h3, h4⟩
          · exact ⟨w, hw1, by omega, hr, e'.symm⟩
        · rintro ⟨v, h1, h2, h3, h4⟩
          rcases (by omega : v < w ∨ v = w) with z | rfl
          · exact Or.inl ⟨v, h1, z, h3, h4⟩
          · exact Or.inr h4.symm
      · refine br_f hr (nm_r (nI_1 w) (ih (w + 1) s (by omega) (by omega) (by omega) (fun q => ?_)))
        rw [hs q]
        constructor
        · rintro ⟨v, h1, h2, h3, h4⟩; exact ⟨v, h1, by omega, h3, h4⟩
        · rintro ⟨v, h1, h2, h3, h4⟩
          rcases (by omega : v < w ∨ v = w) with z | rfl
          · exact ⟨v, h1, z, h3, h4⟩
          · exact absurd h3 hr
theorem xa_oset {c i : Nat} {post : Int32 → Prop} (hc : c ≤ 24) (hi : i < c) (hk : sf_kd (a_kinds i)) (hN : sf_ND c a_kinds a_opA a_opB a_opC)
    (Kp : ∀ s, (∀ q, bt s q = true ↔ sf_Os a_kinds a_opA a_opB a_opC i q) → post s) : wpX_operandSet post (f_capacity, f_horizon, nI c, f_verdict, f_errorNode, f_outputs, f_late, f_codeLen, f_openGuard, f_guardClock, f_memCount, f_presence, f_tickCount, f_digestValue, f_hasSnapshot, f_savedPresence, f_savedTicks, f_savedDigest, a_kinds, a_opA, a_opB, a_opC, a_parent, a_facts, a_clocks, a_needs, a_reach, a_order, a_levels, a_codeOp, a_codeDst, a_codeX, a_codeY, a_codeZ, a_memSlot, a_memInit, a_mem, a_latched, a_vals, a_savedMem, a_savedLatched, a_savedVals) (nI i) :=
  Exists.intro 5 (xa_oset_4 hc hi hk hN Kp 5 1 0 (by omega) (by omega) (by omega) (fun q => by
    rw [b_0]
    exact ⟨fun z => absurd z (by decide), fun ⟨v, h1, h2, _⟩ => absurd h2 (by omega)⟩))
def xa_NB (c : Nat) (K A B C ck nd : Nat → Int32) (i : Nat) : Prop := ∀ q, bt (nd i) q = true ↔ (q < c ∧ sf_Ne K A B C ck i q)
theorem xa_Os_lt {c i q : Nat} {K A B C : Nat → Int32} (hN : sf_ND c K A B C) (hi : i < c) (h : sf_Os K A B C i q) : q < c := by
  obtain ⟨w, hw, hr, e⟩ := h
  rw [← e]; exact (hN i hi w hw hr).1
theorem xa_need_28 {c i : Nat} {s : Int32} {post : SX → Prop} {J2 : Int32 → (Nat → Int32) → (Nat → Int32) → (Nat → Int32) → (Nat → Int32) → (Nat → Int32) → (Nat → Int32) → (Nat → Int32) → (Nat → Int32) → (Nat → Int32) → (Nat → Int32) → (Nat → Int32) → (Nat → Int32) → (Nat → Int32) → (Nat → Int32) → (Nat → Int32) → (Nat → Int32) → (Nat → Int32) → (Nat → Int32) → (Nat → Int32) → (Nat → Int32) → (Nat → Int32) → (Nat → Int32) → (Nat → Int32) → (Nat → Int32) → Prop} (hc : c ≤ 24) (hi : i < c)
    (hck : a_clocks i = -1 ∨ ∃ k, k < c ∧ a_clocks i = nI k) (hs : ∀ q, bt s q = true ↔ (q < c ∧ ¬ a_kinds i = 2 ∧ sf_Os a_kinds a_opA a_opB a_opC i q))
    (KJ : ∀ x, (∀ q, bt x q = true ↔ (q < c ∧ sf_Ne a_kinds a_opA a_opB a_opC a_clocks i q)) → J2 (nI (i + 1)) a_kinds a_opA a_opB a_opC a_parent a_facts a_clocks (upd a_needs i x) a_reach a_order a_levels a_codeOp a_codeDst a_codeX a_codeY a_codeZ a_memSlot a_memInit a_mem a_latched a_vals a_savedMem a_savedLatched a_savedVals) : wX_collectNeeds_28 post J2 (nI i) s f_capacity f_horizon (nI c) f_verdict f_errorNode f_outputs f_late f_codeLen f_openGuard f_guardClock f_memCount f_presence f_tickCount f_digestValue f_hasSnapshot f_savedPresence f_savedTicks f_savedDigest a_kinds a_opA a_opB a_opC a_parent a_facts a_clocks a_needs a_reach a_order a_levels a_codeOp a_codeDst a_codeX a_codeY a_codeZ a_memSlot a_memInit a_mem a_latched a_vals a_savedMem a_savedLatched a_savedVals := by
  have hcl : (nI i).toNatClampNeg = i := sf_cl (by omega)
  have hin : vp_in (nI i) 24 := sf_in (by omega) (by omega)
  refine And.intro hin ?_
  rw [hcl]
  rcases hck with e | ⟨k, hk, e⟩
  · refine br_t (by rw [e]; decide) (And.intro hin (nm_e (nm_r (nI_1 i) (KJ s fun q => ?_))))
    rw [hs q]
    constructor
    · rintro ⟨h1, h2, h3⟩; exact ⟨h1, Or.inr ⟨h2, h3⟩⟩
    · rintro ⟨h1, h2 | ⟨h2, h3⟩⟩
      · rw [e] at h2; exact absurd h2.symm (sf_nm1 (by omega))
      · exact ⟨h1, h2, h3⟩
  · refine br_f (by rw [e]; exact sf_npos (by omega)) (And.intro hin ?_)
    refine nm_e (And.intro hin (nm_e (nm_r (nI_1 i) (KJ _ fun q => ?_))))
    rw [e, sf_set _ (by omega), hs q]
    constructor
    · rintro (⟨h1, h2, h3⟩ | rfl)
      · exact ⟨h1, Or.inr ⟨h2, h3⟩⟩
      · exact ⟨hk, Or.inl e⟩
    · rintro ⟨h1, h2 | ⟨h2, h3⟩⟩
      · right; rw [e] at h2; exact (sf_ninj (by omega) (by omega) h2).symm
      · exact Or.inl ⟨h1, h2, h3⟩
theorem xa_need_2 {c : Nat} {post : SX → Prop} (hc : c ≤ 24) (hk : ∀ i, i < c → sf_kd (a_kinds i)) (hN : sf_ND c a_kinds a_opA a_opB a_opC) (hck : ∀ i, i < c → a_clocks i = -1 ∨ ∃ k, k < c ∧ a_clocks i = nI k)
    (Kp : ∀ nd, (∀ i, i < c → xa_NB c a_kinds a_opA a_opB a_opC a_clocks nd i) → post (f_capacity, f_horizon, nI c, f_verdict, f_errorNode, f_outputs, f_late, f_codeLen, f_openGuard, f_guardClock, f_memCount, f_presence, f_tickCount, f_digestValue, f_hasSnapshot, f_savedPresence, f_savedTicks, f_savedDigest, a_kinds, a_opA, a_opB, a_opC, a_parent, a_facts, a_clocks, nd, a_reach, a_order, a_levels, a_codeOp, a_codeDst, a_codeX, a_codeY, a_codeZ, a_memSlot, a_memInit, a_mem, a_latched, a_vals, a_savedMem, a_savedLatched, a_savedVals)) :
    ∀ n i nd, i ≤ c → c - i < n → (∀ j, j < i → xa_NB c a_kinds a_opA a_opB a_opC a_clocks nd j) → wX_collectNeeds_2 post f_capacity f_horizon (nI c) f_verdict f_errorNode f_outputs f_late f_codeLen f_openGuard f_guardClock f_memCount f_presence f_tickCount f_digestValue f_hasSnapshot f_savedPresence f_savedTicks f_savedDigest n (nI i) a_kinds a_opA a_opB a_opC a_parent a_facts a_clocks nd a_reach a_order a_levels a_codeOp a_codeDst a_codeX a_codeY a_codeZ a_memSlot a_memInit a_mem a_latched a_vals a_savedMem a_savedLatched a_savedVals := by
  intro n
  induction n with
  | zero => intro i nd _ hn; omega
  | succ n ih =>
    intro i nd hi hn hI
    rcases Nat.lt_or_ge i c with h | h
    · have hcl : (nI i).toNatClampNeg = i := sf_cl (by omega)
      have hin : vp_in (nI i) 24 := sf_in (by omega) (by omega)
      have go : ∀ x, (∀ q, bt x q = true ↔ (q < c ∧ sf_Ne a_kinds a_opA a_opB a_opC a_clocks i q)) → wX_collectNeeds_2 post f_capacity f_horizon (nI c) f_verdict f_errorNode f_outputs f_late f_codeLen f_openGuard f_guardClock f_memCount f_presence f_tickCount f_digestValue f_hasSnapshot f_savedPresence f_savedTicks f_savedDigest n (nI (i + 1)) a_kinds a_opA a_opB a_opC a_parent a_facts a_clocks (upd nd i x) a_reach a_order a_levels a_codeOp a_codeDst a_codeX a_codeY a_codeZ a_memSlot a_memInit a_mem a_latched a_vals a_savedMem a_savedLatched a_savedVals := by
        intro x hx
        refine ih (i + 1) _ (by omega) (by omega) (fun j hj => ?_)
        rcases (by omega : j < i ∨ j = i) with z | rfl
        · intro q; rw [sf_un (by omega)]; exact hI j z q
        · intro q; rw [sf_us]; exact hx q
      refine br_f (sf_nle h (by omega)) (And.intro hin ?_)
      rw [hcl]
      by_cases h2 : a_kinds i = 2
      · refine br_t h2 (xa_need_28 hc h (hck i h) (fun q => ?_) go)
        rw [b_0]
        exact ⟨fun z => absurd z (by decide), fun z => absurd h2 z.2.1⟩
      · refine br_f h2 (xa_oset hc h (hk i h) hN (fun s hs => ?_))
        refine xa_need_28 hc h (hck i h) (fun q => ?_) go
        rw [hs q]
        exact ⟨fun z => ⟨xa_Os_lt hN h z, h2, z⟩, fun z => z.2.2⟩
    · have : i = c := by omega
      subst this
      exact br_t (sf_le (by omega) (by omega)) (Kp nd hI)
theorem xa_need {c : Nat} {post : SX → Prop} (hc : c ≤ 24) (hk : ∀ i, i < c → sf_kd (a_kinds i)) (hN : sf_ND c a_kinds a_opA a_opB a_opC) (hck : ∀ i, i < c → a_clocks i = -1 ∨ ∃ k, k < c ∧ a_clocks i = nI k)
    (Kp : ∀ nd, (∀ i, i < c → xa_NB c a_kinds a_opA a_opB a_opC a_clocks nd i) → post (f_capacity, f_horizon, nI c, f_verdict, f_errorNode, f_outputs, f_late, f_codeLen, f_openGuard, f_guardClock, f_memCount, f_presence, f_tickCount, f_digestValue, f_hasSnapshot, f_savedPresence, f_savedTicks, f_savedDigest, a_kinds, a_opA, a_opB, a_opC, a_parent, a_facts, a_clocks, nd, a_reach, a_order, a_levels, a_codeOp, a_codeDst, a_codeX, a_codeY, a_codeZ, a_memSlot, a_memInit, a_mem, a_latched, a_vals, a_savedMem, a_savedLatched, a_savedVals)) : wpX_collectNeeds post (f_capacity, f_horizon, nI c, f_verdict, f_errorNode, f_outputs, f_late, f_codeLen, f_openGuard, f_guardClock, f_memCount, f_presence, f_tickCount, f_digestValue, f_hasSnapshot, f_savedPresence, f_savedTicks, f_savedDigest, a_kinds, a_opA, a_opB, a_opC, a_parent, a_facts, a_clocks, a_needs, a_reach, a_order, a_levels, a_codeOp, a_codeDst, a_codeX, a_codeY, a_codeZ, a_memSlot, a_memInit, a_mem, a_latched, a_vals, a_savedMem, a_savedLatched, a_savedVals) :=
  Exists.intro (c + 1) (xa_need_2 hc hk hN hck Kp (c + 1) 0 _ (by omega) (by omega) (fun j z => absurd z (by omega)))
theorem xa_cyc_90 {c : Nat} {post : Int32 → SX → Prop} (hc : c ≤ 24) (Kp : ∀ r, sf_FI c (fun i => bt (a_reach i) i = true) r → post r (f_capacity, f_horizon, nI c, f_verdict, f_errorNode, f_outputs, f_late, f_codeLen, f_openGuard, f_guardClock, f_memCount, f_presence, f_tickCount, f_digestValue, f_hasSnapshot, f_savedPresence, f_savedTicks, f_savedDigest, a_kinds, a_opA, a_opB, a_opC, a_parent, a_facts, a_clocks, a_needs, a_reach, a_order, a_levels, a_codeOp, a_codeDst, a_codeX, a_codeY, a_codeZ, a_memSlot, a_memInit, a_mem, a_latched, a_vals, a_savedMem, a_savedLatched, a_savedVals)) :
    ∀ n i, i ≤ c → c - i < n → (∀ j, j < i → ¬ bt (a_reach j) j = true) → wX_firstOnCycle_90 post f_capacity f_horizon (nI c) f_verdict f_errorNode f_outputs f_late f_codeLen f_openGuard f_guardClock f_memCount f_presence f_tickCount f_digestValue f_hasSnapshot f_savedPresence f_savedTicks f_savedDigest a_kinds a_opA a_opB a_opC a_parent a_facts a_clocks a_needs a_reach a_order a_levels a_codeOp a_codeDst a_codeX a_codeY a_codeZ a_memSlot a_memInit a_mem a_latched a_vals a_savedMem a_savedLatched a_savedVals n (nI i) := by
  intro n
  induction n with
  | zero => intro i _ hn; omega
  | succ n ih =>
    intro i hi hn hj
    rcases Nat.lt_or_ge i c with h | h
    · have hcl : (nI i).toNatClampNeg = i := sf_cl (by omega)
      have hin : vp_in (nI i) 24 := sf_in (by omega) (by omega)
      refine br_f (sf_nle h (by omega)) (And.intro hin ?_)
      rw [hcl]
      refine sf_bb (by omega) (fun hb => nm_r (nI_1 i) (ih (i + 1) (by omega) (by omega) (fun j hj' => ?_))) (fun hb => Kp _ (sf_FI_s h hb hj))
      rcases (by omega : j < i ∨ j = i) with z | rfl
      · exact hj j z
      · exact hb
    · have : i = c := by omega
      subst this
      exact br_t (sf_le (by omega) (by omega)) (Kp _ (sf_FI_n hj))
theorem xa_orself (x : Int32) : x ||| x = x := b_ext fun i _ => by rw [b_or, Bool.or_self]
theorem xa_cyc_40 {c k : Nat} {ρ : Nat → Int32} {post : Int32 → SX → Prop} {J30 : Int32 → (Nat → Int32) → (Nat → Int32) → (Nat → Int32) → (Nat → Int32) → (Nat → Int32) → (Nat → Int32) → (Nat → Int32) → (Nat → Int32) → (Nat → Int32) → (Nat → Int32) → (Nat → Int32) → (Nat → Int32) → (Nat → Int32) → (Nat → Int32) → (Nat → Int32) → (Nat → Int32) → (Nat → Int32) → (Nat → Int32) → (Nat → Int32) → (Nat → Int32) → (Nat → Int32) → (Nat → Int32) → (Nat → Int32) → (Nat → Int32) → Prop} (hc : c ≤ 24) (hk : k < c)
    (KJ : ∀ g, (∀ i, i < c → g i = if bt (ρ i) k = true then ρ i ||| ρ k else ρ i) → J30 (nI (k + 1)) a_kinds a_opA a_opB a_opC a_parent a_facts a_clocks a_needs g a_order a_levels a_codeOp a_codeDst a_codeX a_codeY a_codeZ a_memSlot a_memInit a_mem a_latched a_vals a_savedMem a_savedLatched a_savedVals) :
    ∀ n i g, i ≤ c → c - i < n → (∀ j, j < c → g j = if j < i ∧ bt (ρ j) k = true then ρ j ||| ρ k else ρ j) → wX_firstOnCycle_40 post J30 (nI k) f_capacity f_horizon (nI c) f_verdict f_errorNode f_outputs f_late f_codeLen f_openGuard f_guardClock f_memCount f_presence f_tickCount f_digestValue f_hasSnapshot f_savedPresence f_savedTicks f_savedDigest n (nI i) a_kinds a_opA a_opB a_opC a_parent a_facts a_clocks a_needs g a_order a_levels a_codeOp a_codeDst a_codeX a_codeY a_codeZ a_memSlot a_memInit a_mem a_latched a_vals a_savedMem a_savedLatched a_savedVals := by
  intro n
  induction n with
  | zero => intro i g _ hn; omega
  | succ n ih =>
    intro i g hi hn hI
    rcases Nat.lt_or_ge i c with h | h
    · have hcl : (nI i).toNatClampNeg = i := sf_cl (by omega)
      have hclk : (nI k).toNatClampNeg = k := sf_cl (by omega)
      have hin : vp_in (nI i) 24 := sf_in (by omega) (by omega)
      have hink : vp_in (nI k) 24 := sf_in (by omega) (by omega)
      have gi : g i = ρ i := by rw [hI i h, if_neg (fun z => absurd z.1 (by omega))]
      have gk : g k = ρ k := by
        rw [hI k hk]
        by_cases z : k < i ∧ bt (ρ k) k = true
        · rw [if_pos z, xa_orself]
        · rw [if_neg z]
      refine br_f (sf_nle h (by omega)) (And.intro hin ?_)
      rw [hcl, hclk, gi, gk]
      refine sf_bb (by omega) (fun hb => nm_r (nI_1 i) (ih (i + 1) g (by omega) (by omega) (fun j hj => ?_)))
        (fun hb => And.intro hin (And.intro hink (And.intro hin (nm_e (nm_r (nI_1 i) (ih (i + 1) _ (by omega) (by omega) (fun j hj => ?_)))))))
      · rw [hI j hj]
        by_cases ej : j = i
        · subst ej
          rw [if_neg (fun z => absurd z.1 (by omega)), if_neg (fun z => hb z.2)]
        · by_cases z : j < i ∧ bt (ρ j) k = true
          · rw [if_pos z, if_pos ⟨by omega, z.2⟩]
          · rw [if_neg z, if_neg (fun y => z ⟨by omega, y.2⟩)]
      · by_cases ej : j = i
        · subst ej
          rw [sf_us, if_pos ⟨by omega, hb⟩]
        · rw [sf_un ej, hI j hj]
          by_cases z : j < i ∧ bt (ρ j) k = true
          · rw [if_pos z, if_pos ⟨by omega, z.2⟩]
          · rw [if_neg z, if_neg (fun y => z ⟨by omega, y.2⟩)]
    · have : i = c := by omega
      subst this
      refine br_t (sf_le (by omega) (by omega)) (nm_r (nI_1 k) (KJ g fun j hj => ?_))
      rw [hI j hj]
      by_cases z : bt (ρ j) k = true
      · rw [if_pos ⟨hj, z⟩, if_pos z]
      · rw [if_neg (fun y => z y.2), if_neg z]
theorem xa_cyc_30 {c : Nat} {N : Nat → Nat → Prop} {post : Int32 → SX → Prop} (hc : c ≤ 24) (hN : ∀ i j, N i j → i < c ∧ j < c)
    (Kp : ∀ r g, sf_FI c (fun i => sf_TC N i i) r → post r (f_capacity, f_horizon, nI c, f_verdict, f_errorNode, f_outputs, f_late, f_codeLen, f_openGuard, f_guardClock, f_memCount, f_presence, f_tickCount, f_digestValue, f_hasSnapshot, f_savedPresence, f_savedTicks, f_savedDigest, a_kinds, a_opA, a_opB, a_opC, a_parent, a_facts, a_clocks, a_needs, g, a_order, a_levels, a_codeOp, a_codeDst, a_codeX, a_codeY, a_codeZ, a_memSlot, a_memInit, a_mem, a_latched, a_vals, a_savedMem, a_savedLatched, a_savedVals)) :
    ∀ n k g, k ≤ c → c - k < n → sf_WI c N (fun i j => bt (g i) j = true) k → wX_firstOnCycle_30 post f_capacity f_horizon (nI c) f_verdict f_errorNode f_outputs f_late f_codeLen f_openGuard f_guardClock f_memCount f_presence f_tickCount f_digestValue f_hasSnapshot f_savedPresence f_savedTicks f_savedDigest n (nI k) a_kinds a_opA a_opB a_opC a_parent a_facts a_clocks a_needs g a_order a_levels a_codeOp a_codeDst a_codeX a_codeY a_codeZ a_memSlot a_memInit a_mem a_latched a_vals a_savedMem a_savedLatched a_savedVals := by
  intro n
  induction n with
  | zero => intro k g _ hn; omega
  | succ n ih =>
    intro k g hk hn hW
    rcases Nat.lt_or_ge k c with h | h
    · refine br_f (sf_nle h (by omega)) (Exists.intro (c + 1) ?_)
      refine xa_cyc_40 (ρ := g) hc h (fun g' hg' => ?_) (c + 1) 0 g (by omega) (by omega) (fun j _ => by rw [if_neg (fun z => absurd z.1 (by omega))])
      refine ih (k + 1) g' (by omega) (by omega) (sf_WI_s h hN hW fun i j hi hj => ?_)
      show bt (g' i) j = true ↔ _
      rw [hg' i hi]
      by_cases z : bt (g i) k = true
      · rw [if_pos z, b_or, Bool.or_eq_true]
        exact ⟨fun y => y.elim Or.inl (fun q => Or.inr ⟨z, q⟩), fun y => y.elim Or.inl (fun q => Or.inr q.2)⟩
      · rw [if_neg z]
        exact ⟨Or.inl, fun y => y.elim id (fun q => absurd q.1 z)⟩
    · have : k = c := by omega
      subst this
      refine br_t (sf_le (by omega) (by omega)) (Exists.intro (k + 1) ?_)
      refine xa_cyc_90 hc (fun r hr => Kp r g ?_) (k + 1) 0 (by omega) (by omega) (fun j z => absurd z (by omega))
      rcases hr with ⟨e, hr⟩ | ⟨i, hi, e, hr, hj⟩
      · exact Or.inl ⟨e, fun i hi z => hr i hi ((sf_WI_TC hN hW hi hi).mpr z)⟩
      · exact Or.inr ⟨i, hi, e, (sf_WI_TC hN hW hi hi).mp hr, fun j hj' z => hj j hj' ((sf_WI_TC hN hW (by omega) (by omega)).mpr z)⟩
theorem xa_cyc_2 {c : Nat} {N : Nat → Nat → Prop} {post : Int32 → SX → Prop} (hc : c ≤ 24) (hN : ∀ i j, N i j → i < c ∧ j < c) (hb : ∀ i, i < c → ∀ q, bt (a_needs i) q = true ↔ N i q)
    (Kp : ∀ r g, sf_FI c (fun i => sf_TC N i i) r → post r (f_capacity, f_horizon, nI c, f_verdict, f_errorNode, f_outputs, f_late, f_codeLen, f_openGuard, f_guardClock, f_memCount, f_presence, f_tickCount, f_digestValue, f_hasSnapshot, f_savedPresence, f_savedTicks, f_savedDigest, a_kinds, a_opA, a_opB, a_opC, a_parent, a_facts, a_clocks, a_needs, g, a_order, a_levels, a_codeOp, a_codeDst, a_codeX, a_codeY, a_codeZ, a_memSlot, a_memInit, a_mem, a_latched, a_vals, a_savedMem, a_savedLatched, a_savedVals)) :
    ∀ n i g, i ≤ c → c - i < n → (∀ j, j < i → g j = a_needs j) → wX_firstOnCycle_2 post f_capacity f_horizon (nI c) f_verdict f_errorNode f_outputs f_late f_codeLen f_openGuard f_guardClock f_memCount f_presence f_tickCount f_digestValue f_hasSnapshot f_savedPresence f_savedTicks f_savedDigest n (nI i) a_kinds a_opA a_opB a_opC a_parent a_facts a_clocks a_needs g a_order a_levels a_codeOp a_codeDst a_codeX a_codeY a_codeZ a_memSlot a_memInit a_mem a_latched a_vals a_savedMem a_savedLatched a_savedVals := by
  intro n
  induction n with
  | zero => intro i g _ hn; omega
  | succ n ih =>
    intro i g hi hn hI
    rcases Nat.lt_or_ge i c with h | h
    · have hcl : (nI i).toNatClampNeg = i := sf_cl (by omega)
      have hin : vp_in (nI i) 24 := sf_in (by omega) (by omega)
      refine br_f (sf_nle h (by omega)) (And.intro hin (And.intro hin ?_))
      rw [hcl]
      refine nm_e (nm_r (nI_1 i) (ih (i + 1) _ (by omega) (by omega) (fun j hj => ?_)))
      rcases (by omega : j < i ∨ j = i) with z | rfl
      · rw [sf_un (by omega)]; exact hI j z
      · rw [sf_us]
    · have : i = c := by omega
      subst this
      refine br_t (sf_le (by omega) (by omega)) (Exists.intro (i + 1) ?_)
      refine xa_cyc_30 hc hN Kp (i + 1) 0 g (by omega) (by omega) ⟨fun a b hn' => ?_, fun a b ha hb' hq => ?_, fun m z => absurd z (by omega)⟩
      · show bt (g a) b = true
        rw [hI a (hN a b hn').1]; exact (hb a (hN a b hn').1 b).mpr hn'
      · have hq' : bt (g a) b = true := hq
        rw [hI a ha] at hq'
        exact sf_TC_b ((hb a ha b).mp hq')
theorem xa_cyc {c : Nat} {N : Nat → Nat → Prop} {post : Int32 → SX → Prop} (hc : c ≤ 24) (hN : ∀ i j, N i j → i < c ∧ j < c) (hb : ∀ i, i < c → ∀ q, bt (a_needs i) q = true ↔ N i q)
    (Kp : ∀ r g, sf_FI c (fun i => sf_TC N i i) r → post r (f_capacity, f_horizon, nI c, f_verdict, f_errorNode, f_outputs, f_late, f_codeLen, f_openGuard, f_guardClock, f_memCount, f_presence, f_tickCount, f_digestValue, f_hasSnapshot, f_savedPresence, f_savedTicks, f_savedDigest, a_kinds, a_opA, a_opB, a_opC, a_parent, a_facts, a_clocks, a_needs, g, a_order, a_levels, a_codeOp, a_codeDst, a_codeX, a_codeY, a_codeZ, a_memSlot, a_memInit, a_mem, a_latched, a_vals, a_savedMem, a_savedLatched, a_savedVals)) : wpX_firstOnCycle post (f_capacity, f_horizon, nI c, f_verdict, f_errorNode, f_outputs, f_late, f_codeLen, f_openGuard, f_guardClock, f_memCount, f_presence, f_tickCount, f_digestValue, f_hasSnapshot, f_savedPresence, f_savedTicks, f_savedDigest, a_kinds, a_opA, a_opB, a_opC, a_parent, a_facts, a_clocks, a_needs, a_reach, a_order, a_levels, a_codeOp, a_codeDst, a_codeX, a_codeY, a_codeZ, a_memSlot, a_memInit, a_mem, a_latched, a_vals, a_savedMem, a_savedLatched, a_savedVals) :=
  Exists.intro (c + 1) (xa_cyc_2 hc hN hb Kp (c + 1) 0 _ (by omega) (by omega) (fun j z => absurd z (by omega)))
end
end
section
/-! the component's order, levels and lateness -/
section
variable {f_capacity f_horizon f_count f_verdict f_errorNode f_outputs f_late f_codeLen f_openGuard f_guardClock f_memCount f_presence f_tickCount f_digestValue f_hasSnapshot f_savedPresence f_savedTicks f_savedDigest : Int32} {a_kinds a_opA a_opB a_opC a_parent a_facts a_clocks a_needs a_reach a_order a_levels a_codeOp a_codeDst a_codeX a_codeY a_codeZ a_memSlot a_memInit a_mem a_latched a_vals a_savedMem a_savedLatched a_savedVals : Nat → Int32}
def xo_rdy (c : Nat) (N : Nat → Nat → Prop) (done : Nat → Prop) (i : Nat) : Prop := i < c ∧ ¬ done i ∧ ∀ k, N i k → done k
theorem xo_nd {c : Nat} {N : Nat → Nat → Prop} {nd dn : Int32} {i : Nat} (hb : ∀ q, bt nd q = true ↔ N i q) : (nd &&& (dn ^^^ (-1))) = 0 ↔ ∀ k, N i k → bt dn k = true := by
  rw [sf_zi]
  constructor
  · intro h k hk
    have hk' := (hb k).mpr hk
    have h32 := sf_lt32 hk'
    have := h k h32
    rw [b_and, sf_cpl _ h32, hk'] at this
    cases hd : bt dn k with
    | true => rfl
    | false => rw [hd] at this; exact absurd this (by decide)
  · intro h k h32
    rw [b_and, sf_cpl _ h32]
    cases hn : bt nd k with
    | false => rfl
    | true => rw [h k ((hb k).mp hn)]; rfl
theorem xo_pick_5 {c : Nat} {N : Nat → Nat → Prop} {dn lst : Int32} {post : Int32 → Prop} (hc : c ≤ 24) (hb : ∀ i, i < c → ∀ q, bt (a_needs i) q = true ↔ N i q)
    (K1 : ∀ i, xo_rdy c N (fun k => bt dn k = true) i → post (nI i)) (K0 : (∀ i, ¬ xo_rdy c N (fun k => bt dn k = true) i) → post (-1)) :
    ∀ n i b, i ≤ c → c - i < n → ((b = -1 ∧ ∀ j, j < i → ¬ xo_rdy c N (fun k => bt dn k = true) j) ∨ ∃ j, b = nI j ∧ xo_rdy c N (fun k => bt dn k = true) j) → wX_pickReady_5 post dn lst f_capacity f_horizon (nI c) f_verdict f_errorNode f_outputs f_late f_codeLen f_openGuard f_guardClock f_memCount f_presence f_tickCount f_digestValue f_hasSnapshot f_savedPresence f_savedTicks f_savedDigest a_kinds a_opA a_opB a_opC a_parent a_facts a_clocks a_needs a_reach a_order a_levels a_codeOp a_codeDst a_codeX a_codeY a_codeZ a_memSlot a_memInit a_mem a_latched a_vals a_savedMem a_savedLatched a_savedVals n b (nI i) := by
  intro n
  induction n with
  | zero => intro i b _ hn; omega
  | succ n ih =>
    intro i b hi hn hI
    rcases Nat.lt_or_ge i c with h | h
    · have hcl : (nI i).toNatClampNeg = i := sf_cl (by omega)
      have hin : vp_in (nI i) 24 := sf_in (by omega) (by omega)
      have go : ¬ xo_rdy c N (fun k => bt dn k = true) i → wX_pickReady_5 post dn lst f_capacity f_horizon (nI c) f_verdict f_errorNode f_outputs f_late f_codeLen f_openGuard f_guardClock f_memCount f_presence f_tickCount f_digestValue f_hasSnapshot f_savedPresence f_savedTicks f_savedDigest a_kinds a_opA a_opB a_opC a_parent a_facts a_clocks a_needs a_reach a_order a_levels a_codeOp a_codeDst a_codeX a_codeY a_codeZ a_memSlot a_memInit a_mem a_latched a_vals a_savedMem a_savedLatched a_savedVals n b (nI (i + 1)) := by
        intro hx
        refine ih (i + 1) b (by omega) (by omega) ?_
        rcases hI with ⟨e, hI⟩ | hI
        · refine Or.inl ⟨e, fun j hj => ?_⟩
          rcases (by omega : j < i ∨ j = i) with z | rfl
          · exact hI j z
          · exact hx
        · exact Or.inr hI
      refine br_f (sf_nle h (by omega)) ?_
      refine sf_bb (by omega) (fun hb0 => ?_) (fun hb1 => ?_)
      · refine br_f (by decide) (And.intro hin ?_)
        rw [hcl]
        by_cases hr : (a_needs i &&& (dn ^^^ (-1))) = 0
        · have hrd : xo_rdy c N (fun k => bt dn k = true) i := ⟨h, hb0, (xo_nd (c := c) (hb i h)).mp hr⟩
          refine br_t hr (And.intro hin ?_)
          by_cases hl : a_clocks i = lst
          · exact br_t hl (K1 i hrd)
          · refine br_f hl ?_
            rcases hI with ⟨e, hI⟩ | ⟨j, e, hj⟩
            · refine br_f (by rw [e]; decide) (nm_r (nI_1 i) (ih (i + 1) _ (by omega) (by omega) (Or.inr ⟨i, rfl, hrd⟩)))
            · refine br_t (by rw [e]; exact nI_pos' (by have := hj.1; omega)) (nm_r (nI_1 i) (ih (i + 1) b (by omega) (by omega) (Or.inr ⟨j, e, hj⟩)))
        · exact br_f hr (nm_r (nI_1 i) (go fun z => hr ((xo_nd (c := c) (hb i h)).mpr z.2.2)))
      · exact br_t rfl (nm_r (nI_1 i) (go fun z => z.2.1 hb1))
    · have : i = c := by omega
      subst this
      refine br_t (sf_le (by omega) (by omega)) ?_
      rcases hI with ⟨e, hI⟩ | ⟨j, e, hj⟩
      · rw [e]; exact K0 (fun j z => hI j z.1 z)
      · rw [e]; exact K1 j hj
theorem xo_pick {c : Nat} {N : Nat → Nat → Prop} {dn lst : Int32} {post : Int32 → Prop} (hc : c ≤ 24) (hb : ∀ i, i < c → ∀ q, bt (a_needs i) q = true ↔ N i q)
    (K1 : ∀ i, xo_rdy c N (fun k => bt dn k = true) i → post (nI i)) (K0 : (∀ i, ¬ xo_rdy c N (fun k => bt dn k = true) i) → post (-1)) : wpX_pickReady post (f_capacity, f_horizon, nI c, f_verdict, f_errorNode, f_outputs, f_late, f_codeLen, f_openGuard, f_guardClock, f_memCount, f_presence, f_tickCount, f_digestValue, f_hasSnapshot, f_savedPresence, f_savedTicks, f_savedDigest, a_kinds, a_opA, a_opB, a_opC, a_parent, a_facts, a_clocks, a_needs, a_reach, a_order, a_levels, a_codeOp, a_codeDst, a_codeX, a_codeY, a_codeZ, a_memSlot, a_memInit, a_mem, a_latched, a_vals, a_savedMem, a_savedLatched, a_savedVals) dn lst :=
  Exists.intro (c + 1) (xo_pick_5 hc hb K1 K0 (c + 1) 0 (-1) (by omega) (by omega) (Or.inl ⟨rfl, fun j z => absurd z (by omega)⟩))
def xo_P (c : Nat) (N : Nat → Nat → Prop) (od : Nat → Int32) (dn : Int32) (n : Nat) (o : Nat → Nat) : Prop :=
  (∀ j, j < n → od j = nI (o j) ∧ o j < c) ∧ (∀ i j, i < n → j < n → o i = o j → i = j) ∧ (∀ z, z < c → (bt dn z = true ↔ ∃ j, j < n ∧ o j = z)) ∧
  (∀ j, j < n → ∀ k, N (o j) k → ∃ i, i < j ∧ o i = k) ∧ sf_cn (fun z => bt dn z = true) c = n
theorem xo_ord_6 {c : Nat} {N : Nat → Nat → Prop} {post : SX → Prop} (hc : c ≤ 24) (hN : ∀ i j, N i j → i < c ∧ j < c) (hb : ∀ i, i < c → ∀ q, bt (a_needs i) q = true ↔ N i q)
    (hac : ∀ i, i < c → ¬ sf_TC N i i) (Kp : ∀ od o, (∀ j, j < c → od j = nI (o j)) → sf_Or c N o → post (f_capacity, f_horizon, nI c, f_verdict, f_errorNode, f_outputs, f_late, f_codeLen, f_openGuard, f_guardClock, f_memCount, f_presence, f_tickCount, f_digestValue, f_hasSnapshot, f_savedPresence, f_savedTicks, f_savedDigest, a_kinds, a_opA, a_opB, a_opC, a_parent, a_facts, a_clocks, a_needs, a_reach, od, a_levels, a_codeOp, a_codeDst, a_codeX, a_codeY, a_codeZ, a_memSlot, a_memInit, a_mem, a_latched, a_vals, a_savedMem, a_savedLatched, a_savedVals)) :
    ∀ m n dn lst od o, n ≤ c → c - n < m → xo_P c N od dn n o → wX_orderNodes_6 post f_capacity f_horizon (nI c) f_verdict f_errorNode f_outputs f_late f_codeLen f_openGuard f_guardClock f_memCount f_presence f_tickCount f_digestValue f_hasSnapshot f_savedPresence f_savedTicks f_savedDigest m dn lst (nI n) a_kinds a_opA a_opB a_opC a_parent a_facts a_clocks a_needs a_reach od a_levels a_codeOp a_codeDst a_codeX a_codeY a_codeZ a_memSlot a_memInit a_mem a_latched a_vals a_savedMem a_savedLatched a_savedVals := by
  intro m
  induction m with
  | zero => intro n dn lst od o _ hn; omega
  | succ m ih =>
    intro n dn lst od o hn hm hP
    obtain ⟨p1, p2, p3, p4, p5⟩ := hP
    rcases Nat.lt_or_ge n c with h | h
    · refine br_f (sf_nle h (by omega)) ?_
      refine xo_pick (N := N) hc hb (fun i hi => ?_) (fun h0 => ?_)
      · obtain ⟨hic, hnd, hrd⟩ := hi
        have hcl : (nI n).toNatClampNeg = n := sf_cl (by omega)
        have hin : vp_in (nI n) 24 := sf_in (by omega) (by omega)
        refine br_f (sf_npos (by omega)) (And.intro hin ?_)
        rw [hcl]
        refine nm_e (nm_e (And.intro (sf_in (by omega) (by omega)) (nm_e (nm_r (nI_1 n) ?_))))
        refine ih (n + 1) _ _ _ (fun j => if j = n then i else o j) (by omega) (by omega) ⟨?_, ?_, ?_, ?_, ?_⟩
        · intro j hj
          by_cases e : j = n
          · simp only [e, sf_us, if_true]; exact ⟨trivial, hic⟩
          · simp only [sf_un e, if_neg e]; exact p1 j (by omega)
        · intro a b ha hb' e
          have hne : ∀ j, j < n → o j ≠ i := fun j hj e' => hnd ((p3 i hic).mpr ⟨j, hj, e'⟩)
          by_cases ea : a = n <;> by_cases eb : b = n
          · omega
          · simp only [if_pos ea, if_neg eb] at e; exact absurd e.symm (hne b (by omega))
          · simp only [if_neg ea, if_pos eb] at e; exact absurd e (hne a (by omega))
          · simp only [if_neg ea, if_neg eb] at e; exact p2 a b (by omega) (by omega) e
        · intro z hz
          rw [sf_set _ (by omega), p3 z hz]
          constructor
          · rintro (⟨j, hj, e⟩ | e)
            · exact ⟨j, by omega, (if_neg (by omega)).trans e⟩
            · exact ⟨n, by omega, (if_pos rfl).trans e.symm⟩
          · rintro ⟨j, hj, e⟩
            dsimp only at e
            by_cases ej : j = n
            · rw [if_pos ej] at e; exact Or.inr e.symm
            · rw [if_neg ej] at e; exact Or.inl ⟨j, by omega, e⟩
        · intro j hj k hk
          by_cases ej : j = n
          · simp only [if_pos ej] at hk
            obtain ⟨q, hq, e⟩ := (p3 k (hN i k hk).2).mp (hrd k hk)
            exact ⟨q, by omega, (if_neg (by omega)).trans e⟩
          · simp only [if_neg ej] at hk
            obtain ⟨q, hq, e⟩ := p4 j (by omega) k hk
            exact ⟨q, hq, (if_neg (by omega)).trans e⟩
        · rw [sf_cn_eq (Q := fun z => bt dn z = true ∨ z = i) (fun k _ => sf_set _ (by omega)), sf_cn_add hnd hic, p5]
      · exfalso
        have hex : ∃ u, u < c ∧ ¬ bt dn u = true := by
          apply Classical.byContradiction
          intro hne
          have := sf_cn_all (P := fun z => bt dn z = true) (N := c) (fun k hk => Classical.byContradiction fun z => hne ⟨k, hk, z⟩)
          omega
        obtain ⟨u, hu, hU, hmin⟩ := sf_min (T := sf_TC N) (U := fun u => u < c ∧ ¬ bt dn u = true) (fun a b d => sf_TC_t) (fun a ha => hac a ha.1) c (by
          obtain ⟨u, hu, hd⟩ := hex
          exact ⟨u, hu, hu, hd⟩)
        refine h0 u ⟨hu, hU.2, fun k hk => ?_⟩
        apply Classical.byContradiction
        intro hd
        exact hmin k (hN u k hk).2 ⟨(hN u k hk).2, hd⟩ (sf_TC_b hk)
    · have : n = c := by omega
      subst this
      refine br_t (sf_le (by omega) (by omega)) (Kp od o (fun j hj => (p1 j hj).1) ⟨fun j hj => (p1 j hj).2, p2, fun z hz => ?_, p4⟩)
      exact (p3 z hz).mp (sf_cn_full p5 z hz)
theorem xo_ord {c : Nat} {N : Nat → Nat → Prop} {post : SX → Prop} (hc : c ≤ 24) (hN : ∀ i j, N i j → i < c ∧ j < c) (hb : ∀ i, i < c → ∀ q, bt (a_needs i) q = true ↔ N i q)
    (hac : ∀ i, i < c → ¬ sf_TC N i i) (Kp : ∀ od o, (∀ j, j < c → od j = nI (o j)) → sf_Or c N o → post (f_capacity, f_horizon, nI c, f_verdict, f_errorNode, f_outputs, f_late, f_codeLen, f_openGuard, f_guardClock, f_memCount, f_presence, f_tickCount, f_digestValue, f_hasSnapshot, f_savedPresence, f_savedTicks, f_savedDigest, a_kinds, a_opA, a_opB, a_opC, a_parent, a_facts, a_clocks, a_needs, a_reach, od, a_levels, a_codeOp, a_codeDst, a_codeX, a_codeY, a_codeZ, a_memSlot, a_memInit, a_mem, a_latched, a_vals, a_savedMem, a_savedLatched, a_savedVals)) : wpX_orderNodes post (f_capacity, f_horizon, nI c, f_verdict, f_errorNode, f_outputs, f_late, f_codeLen, f_openGuard, f_guardClock, f_memCount, f_presence, f_tickCount, f_digestValue, f_hasSnapshot, f_savedPresence, f_savedTicks, f_savedDigest, a_kinds, a_opA, a_opB, a_opC, a_parent, a_facts, a_clocks, a_needs, a_reach, a_order, a_levels, a_codeOp, a_codeDst, a_codeX, a_codeY, a_codeZ, a_memSlot, a_memInit, a_mem, a_latched, a_vals, a_savedMem, a_savedLatched, a_savedVals) :=
  Exists.intro (c + 1) (xo_ord_6 hc hN hb hac Kp (c + 1) 0 0 (-1) _ (fun _ => 0) (by omega) (by omega)
    ⟨fun j z => absurd z (by omega), fun i j z => absurd z (by omega), fun z hz => by
      rw [b_0]; exact ⟨fun y => absurd y (by decide), fun ⟨j, y, _⟩ => absurd y (by omega)⟩, fun j z => absurd z (by omega), by
      rw [sf_cn_eq (Q := fun _ => False) (fun k _ => by rw [b_0]; exact ⟨fun y => absurd y (by decide), fun y => y.elim⟩), sf_cn_z]⟩)
/-- levels of the first n nodes in order -/
theorem xo_lev_22 {c j i : Nat} {N : Nat → Nat → Prop} {L : Nat → Nat} {post : SX → Prop} {J2 : Int32 → (Nat → Int32) → (Nat → Int32) → (Nat → Int32) → (Nat → Int32) → (Nat → Int32) → (Nat → Int32) → (Nat → Int32) → (Nat → Int32) → (Nat → Int32) → (Nat → Int32) → (Nat → Int32) → (Nat → Int32) → (Nat → Int32) → (Nat → Int32) → (Nat → Int32) → (Nat → Int32) → (Nat → Int32) → (Nat → Int32) → (Nat → Int32) → (Nat → Int32) → (Nat → Int32) → (Nat → Int32) → (Nat → Int32) → (Nat → Int32) → Prop} (hc : c ≤ 24) (hi : i < c) (hN : ∀ i j, N i j → i < c ∧ j < c)
    (hb : ∀ q, bt (a_needs i) q = true ↔ N i q) (hL : ∀ k, N i k → a_levels k = nI (L k) ∧ L k < j) (hj : j < 24)
    (KJ : ∀ d, d ≤ j → (∀ k, N i k → L k + 1 ≤ d) → (d = 0 ∨ ∃ k, N i k ∧ d = L k + 1) → J2 (nI (j + 1)) a_kinds a_opA a_opB a_opC a_parent a_facts a_clocks a_needs a_reach a_order (upd a_levels i (nI d)) a_codeOp a_codeDst a_codeX a_codeY a_codeZ a_memSlot a_memInit a_mem a_latched a_vals a_savedMem a_savedLatched a_savedVals) :
    ∀ n k d, k ≤ c → c - k < n → d ≤ j → (∀ l, l < k → N i l → L l + 1 ≤ d) → (d = 0 ∨ ∃ l, N i l ∧ d = L l + 1) → wX_computeLevels_22 post J2 (nI j) (nI i) f_capacity f_horizon (nI c) f_verdict f_errorNode f_outputs f_late f_codeLen f_openGuard f_guardClock f_memCount f_presence f_tickCount f_digestValue f_hasSnapshot f_savedPresence f_savedTicks f_savedDigest a_kinds a_opA a_opB a_opC a_parent a_facts a_clocks a_needs a_reach a_order a_levels a_codeOp a_codeDst a_codeX a_codeY a_codeZ a_memSlot a_memInit a_mem a_latched a_vals a_savedMem a_savedLatched a_savedVals n (nI d) (nI k) := by
  intro n
  induction n with
  | zero => intro k d _ hn; omega
  | succ n ih =>
    intro k d hk hn hd h1 h2
    have hcl : (nI i).toNatClampNeg = i := sf_cl (by omega)
    have hin : vp_in (nI i) 24 := sf_in (by omega) (by omega)
    rcases Nat.lt_or_ge k c with h | h
    · have hclk : (nI k).toNatClampNeg = k := sf_cl (by omega)
      have hink : vp_in (nI k) 24 := sf_in (by omega) (by omega)
      refine br_f (sf_nle h (by omega)) (And.intro hin ?_)
      rw [hcl, hclk]
      refine sf_bb (by omega) (fun hb0 => nm_r (nI_1 k) (ih (k + 1) d (by omega) (by omega) hd (fun l hl hN' => ?_) h2)) (fun hb1 => And.intro hink ?_)
      · rcases (by omega : l < k ∨ l = k) with z | rfl
        · exact h1 l z hN'
        · exact absurd ((hb l).mpr hN') hb0
      · have hNk := (hb k).mp hb1
        obtain ⟨e, hlt⟩ := hL k hNk
        rw [e, nI_1]
        refine sf_bl (by omega) (by omega) (fun hle => nm_r (nI_1 k) (ih (k + 1) d (by omega) (by omega) hd (fun l hl hN' => ?_) h2))
          (fun hgt => And.intro hink (nm_e (nm_r (nI_1 k) (ih (k + 1) (L k + 1) (by omega) (by omega) (by omega) (fun l hl hN' => ?_) (Or.inr ⟨k, hNk, rfl⟩)))))
        · rcases (by omega : l < k ∨ l = k) with z | rfl
          · exact h1 l z hN'
          · exact hle
        · rcases (by omega : l < k ∨ l = k) with z | rfl
          · have := h1 l z hN'; omega
          · exact Nat.le_refl _
    · have : k = c := by omega
      subst this
      refine br_t (sf_le (by omega) (by omega)) (And.intro hin ?_)
      rw [hcl]
      exact nm_e (nm_r (nI_1 j) (KJ d hd (fun l hl => h1 l (hN i l hl).2 hl) h2))
def xo_LI (N : Nat → Nat → Prop) (o : Nat → Nat) (lv : Nat → Int32) (L : Nat → Nat) (n : Nat) : Prop :=
  ∀ j, j < n → lv (o j) = nI (L (o j)) ∧ L (o j) ≤ j ∧ (∀ k, N (o j) k → L k + 1 ≤ L (o j)) ∧ (L (o j) = 0 ∨ ∃ k, N (o j) k ∧ L (o j) = L k + 1)
theorem xo_lev_2 {c : Nat} {N : Nat → Nat → Prop} {o : Nat → Nat} {post : SX → Prop} (hc : c ≤ 24) (hN : ∀ i j, N i j → i < c ∧ j < c)
    (hb : ∀ i, i < c → ∀ q, bt (a_needs i) q = true ↔ N i q) (ho : ∀ j, j < c → a_order j = nI (o j)) (hO : sf_Or c N o)
    (Kp : ∀ lv L, (∀ z, z < c → lv z = nI (L z)) → sf_Lv c N L → post (f_capacity, f_horizon, nI c, f_verdict, f_errorNode, f_outputs, f_late, f_codeLen, f_openGuard, f_guardClock, f_memCount, f_presence, f_tickCount, f_digestValue, f_hasSnapshot, f_savedPresence, f_savedTicks, f_savedDigest, a_kinds, a_opA, a_opB, a_opC, a_parent, a_facts, a_clocks, a_needs, a_reach, a_order, lv, a_codeOp, a_codeDst, a_codeX, a_codeY, a_codeZ, a_memSlot, a_memInit, a_mem, a_latched, a_vals, a_savedMem, a_savedLatched, a_savedVals)) :
    ∀ m n lv L, n ≤ c → c - n < m → xo_LI N o lv L n → wX_computeLevels_2 post f_capacity f_horizon (nI c) f_verdict f_errorNode f_outputs f_late f_codeLen f_openGuard f_guardClock f_memCount f_presence f_tickCount f_digestValue f_hasSnapshot f_savedPresence f_savedTicks f_savedDigest m (nI n) a_kinds a_opA a_opB a_opC a_parent a_facts a_clocks a_needs a_reach a_order lv a_codeOp a_codeDst a_codeX a_codeY a_codeZ a_memSlot a_memInit a_mem a_latched a_vals a_savedMem a_savedLatched a_savedVals := by
  obtain ⟨o1, o2, o3, o4⟩ := hO
  intro m
  induction m with
  | zero => intro n lv L _ hn; omega
  | succ m ih =>
    intro n lv L hn hm hI
    rcases Nat.lt_or_ge n c with h | h
    · have hcl : (nI n).toNatClampNeg = n := sf_cl (by omega)
      have hin : vp_in (nI n) 24 := sf_in (by omega) (by omega)
      refine br_f (sf_nle h (by omega)) (And.intro hin ?_)
      rw [hcl]
      refine nm_r (ho n h) (Exists.intro (c + 1) ?_)
      have hne : ∀ j, j < n → o j ≠ o n := fun j hj e => absurd (o2 j n (by omega) h e) (by omega)
      refine xo_lev_22 (N := N) (L := L) hc (o1 n h) hN (hb _ (o1 n h)) (fun k hk => ?_) (by omega) (fun d hd d1 d2 => ?_) (c + 1) 0 0 (by omega) (by omega) (by omega) (fun l z => absurd z (by omega)) (Or.inl rfl)
      · obtain ⟨j, hj, e⟩ := o4 n h k hk
        have := hI j hj
        rw [e] at this
        exact ⟨this.1, by omega⟩
      · refine ih (n + 1) _ (fun z => if z = o n then d else L z) (by omega) (by omega) (fun j hj => ?_)
        have hkn : ∀ a k, a < n + 1 → N (o a) k → k ≠ o n := by
          intro a k ha hk e
          obtain ⟨j', hj', e'⟩ := o4 a (by omega) k hk
          exact hne j' (by omega) (e'.trans e)
        by_cases ej : j = n
        · subst ej
          simp only [if_true, sf_us]
          refine ⟨trivial, hd, fun k hk => ?_, ?_⟩
          · rw [if_neg (hkn j k (by omega) hk)]; exact d1 k hk
          · rcases d2 with z | ⟨k, hk, e⟩
            · exact Or.inl z
            · exact Or.inr ⟨k, hk, by rw [if_neg (hkn j k (by omega) hk)]; exact e⟩
        · have hj' : j < n := by omega
          obtain ⟨i1, i2, i3, i4⟩ := hI j hj'
          have hje := hne j hj'
          simp only [if_neg hje, sf_un hje]
          refine ⟨i1, i2, fun k hk => ?_, ?_⟩
          · rw [if_neg (hkn j k (by omega) hk)]; exact i3 k hk
          · rcases i4 with z | ⟨k, hk, e⟩
            · exact Or.inl z
            · exact Or.inr ⟨k, hk, by rw [if_neg (hkn j k (by omega) hk)]; exact e⟩
    · have : n = c := by omega
      subst this
      refine br_t (sf_le (by omega) (by omega)) (Kp lv L (fun z hz => ?_) (fun z hz => ?_))
      · obtain ⟨j, hj, e⟩ := o3 z hz
        rw [← e]; exact (hI j hj).1
      · obtain ⟨j, hj, e⟩ := o3 z hz
        obtain ⟨i1, i2, i3, i4⟩ := hI j hj
        rw [← e]
        exact ⟨by omega, i3, i4⟩
theorem xo_lev {c : Nat} {N : Nat → Nat → Prop} {o : Nat → Nat} {post : SX → Prop} (hc : c ≤ 24) (hN : ∀ i j, N i j → i < c ∧ j < c)
    (hb : ∀ i, i < c → ∀ q, bt (a_needs i) q = true ↔ N i q) (ho : ∀ j, j < c → a_order j = nI (o j)) (hO : sf_Or c N o)
    (Kp : ∀ lv L, (∀ z, z < c → lv z = nI (L z)) → sf_Lv c N L → post (f_capacity, f_horizon, nI c, f_verdict, f_errorNode, f_outputs, f_late, f_codeLen, f_openGuard, f_guardClock, f_memCount, f_presence, f_tickCount, f_digestValue, f_hasSnapshot, f_savedPresence, f_savedTicks, f_savedDigest, a_kinds, a_opA, a_opB, a_opC, a_parent, a_facts, a_clocks, a_needs, a_reach, a_order, lv, a_codeOp, a_codeDst, a_codeX, a_codeY, a_codeZ, a_memSlot, a_memInit, a_mem, a_latched, a_vals, a_savedMem, a_savedLatched, a_savedVals)) : wpX_computeLevels post (f_capacity, f_horizon, nI c, f_verdict, f_errorNode, f_outputs, f_late, f_codeLen, f_openGuard, f_guardClock, f_memCount, f_presence, f_tickCount, f_digestValue, f_hasSnapshot, f_savedPresence, f_savedTicks, f_savedDigest, a_kinds, a_opA, a_opB, a_opC, a_parent, a_facts, a_clocks, a_needs, a_reach, a_order, a_levels, a_codeOp, a_codeDst, a_codeX, a_codeY, a_codeZ, a_memSlot, a_memInit, a_mem, a_latched, a_vals, a_savedMem, a_savedLatched, a_savedVals) :=
  Exists.intro (c + 1) (xo_lev_2 hc hN hb ho hO Kp (c + 1) 0 _ (fun _ => 0) (by omega) (by omega) (fun j z => absurd z (by omega)))
theorem xo_andz {x y : Int32} : (x &&& y) = 0 ↔ ¬ ∃ q, bt x q = true ∧ bt y q = true := by
  rw [sf_zi]
  constructor
  · rintro h ⟨q, hx, hy⟩
    have := h q (sf_lt32 hx)
    rw [b_and, hx, hy] at this
    exact absurd this (by decide)
  · intro h i hi
    rw [b_and]
    cases hx : bt x i with
    | false => rfl
    | true =>
      cases hy : bt y i with
      | false => rfl
      | true => exact absurd ⟨i, hx, hy⟩ h
theorem xo_late1 {c i : Nat} {post : Int32 → Prop} (hc : c ≤ 24) (hi : i < c) (hk : sf_kd (a_kinds i)) (hN : sf_ND c a_kinds a_opA a_opB a_opC)
    (K1 : sf_lr a_kinds a_opA a_opB a_opC (fun k => bt f_late k = true) i → post 1) (K0 : ¬ sf_lr a_kinds a_opA a_opB a_opC (fun k => bt f_late k = true) i → post 0) : wpX_lateNow post (f_capacity, f_horizon, nI c, f_verdict, f_errorNode, f_outputs, f_late, f_codeLen, f_openGuard, f_guardClock, f_memCount, f_presence, f_tickCount, f_digestValue, f_hasSnapshot, f_savedPresence, f_savedTicks, f_savedDigest, a_kinds, a_opA, a_opB, a_opC, a_parent, a_facts, a_clocks, a_needs, a_reach, a_order, a_levels, a_codeOp, a_codeDst, a_codeX, a_codeY, a_codeZ, a_memSlot, a_memInit, a_mem, a_latched, a_vals, a_savedMem, a_savedLatched, a_savedVals) (nI i) := by
  have hcl : (nI i).toNatClampNeg = i := sf_cl (by omega)
  have hin : vp_in (nI i) 24 := sf_in (by omega) (by omega)
  refine And.intro hin ?_
  rw [hcl]
  refine nm_e ?_
  by_cases h2 : a_kinds i = 2
  · exact br_t h2 (K1 (Or.inl h2))
  refine br_f h2 ?_
  have nor : (a_kinds i = 0 ∨ a_kinds i = 1 ∨ a_kinds i = 5) → ¬ sf_lr a_kinds a_opA a_opB a_opC (fun k => bt f_late k = true) i := by
    rintro he (h | ⟨h, _⟩ | ⟨_, h5, _, _, w, hw, hr, _⟩)
    · exact h2 h
    · rcases he with e | e | e <;> rcases h with h | h <;> exact absurd (e.symm.trans h) (by decide)
    · rcases he with e | e | e
      · rw [e] at hr; rcases sf_w123 hw with rfl | rfl | rfl <;> exact absurd hr (by decide)
      · rw [e] at hr; rcases sf_w123 hw with rfl | rfl | rfl <;> exact absurd hr (by decide)
      · exact h5 e
  by_cases h0 : a_kinds i = 0
  · exact br_t h0 (K0 (nor (Or.inl h0)))
  refine br_f h0 ?_
  by_cases h1 : a_kinds i = 1
  · exact br_t h1 (K0 (nor (Or.inr (Or.inl h1))))
  refine br_f h1 ?_
  by_cases h5 : a_kinds i = 5
  · exact br_t h5 (K0 (nor (Or.inr (Or.inr h5))))
  refine br_f h5 ?_
  have l40 : (a_kinds i = 3 ∨ a_kinds i = 4) → wX_lateNow_40 post (nI i) f_capacity f_horizon (nI c) f_verdict f_errorNode f_outputs f_late f_codeLen f_openGuard f_guardClock f_memCount f_presence f_tickCount f_digestValue f_hasSnapshot f_savedPresence f_savedTicks f_savedDigest a_kinds a_opA a_opB a_opC a_parent a_facts a_clocks a_needs a_reach a_order a_levels a_codeOp a_codeDst a_codeX a_codeY a_codeZ a_memSlot a_memInit a_mem a_latched a_vals a_savedMem a_savedLatched a_savedVals := by
    intro he
    obtain ⟨t1, o1⟩ := hN i hi 1 sf_W1 (by rcases he with e | e <;> rw [e] <;> decide)
    have o1' : a_opA i = nI (sf_tg a_opA a_opB a_opC i 1) := o1
    refine And.intro hin ?_
    rw [hcl, o1']
    refine sf_bb (by omega) (fun hb => K0 ?_) (fun hb => K1 (Or.inr (Or.inl ⟨he, hb⟩)))
    rintro (h | ⟨_, h⟩ | ⟨_, _, h3, h4, _⟩)
    · exact h2 h
    · exact hb h
    · rcases he with e | e
      · exact h3 e
      · exact h4 e
  by_cases h3 : a_kinds i = 3
  · exact br_t h3 (l40 (Or.inl h3))
  refine br_f h3 ?_
  by_cases h4 : a_kinds i = 4
  · exact br_t h4 (l40 (Or.inr h4))
  refine br_f h4 (xa_oset hc hi hk hN (fun s hs => ?_))
  by_cases hz : (s &&& f_late) = 0
  · refine br_t hz (K0 ?_)
    rintro (h | ⟨h, _⟩ | ⟨_, _, _, _, w, hw, hr, hl⟩)
    · exact h2 h
    · rcases h with h | h
      · exact h3 h
      · exact h4 h
    · exact xo_andz.mp hz ⟨_, (hs _).mpr ⟨w, hw, hr, rfl⟩, hl⟩
  · refine br_f hz (K1 ?_)
    apply Classical.byContradiction
    intro hn
    refine hz (xo_andz.mpr ?_)
    rintro ⟨q, hq, hl⟩
    obtain ⟨w, hw, hr, e⟩ := (hs q).mp hq
    exact hn (Or.inr (Or.inr ⟨h2, h5, h3, h4, w, hw, hr, by rw [e]; exact hl⟩))
theorem xo_late_7 {c : Nat} {ck : Nat → Int32} {o : Nat → Nat} {post : SX → Prop} (hc : c ≤ 24) (hk : ∀ i, i < c → sf_kd (a_kinds i)) (hN : sf_ND c a_kinds a_opA a_opB a_opC)
    (ho : ∀ j, j < c → a_order j = nI (o j)) (hO : sf_Or c (sf_N c a_kinds a_opA a_opB a_opC ck) o)
    (Kp : ∀ lt, sf_Lt c a_kinds a_opA a_opB a_opC (fun k => bt lt k = true) → post (f_capacity, f_horizon, nI c, f_verdict, f_errorNode, f_outputs, lt, f_codeLen, f_openGuard, f_guardClock, f_memCount, f_presence, f_tickCount, f_digestValue, f_hasSnapshot, f_savedPresence, f_savedTicks, f_savedDigest, a_kinds, a_opA, a_opB, a_opC, a_parent, a_facts, a_clocks, a_needs, a_reach, a_order, a_levels, a_codeOp, a_codeDst, a_codeX, a_codeY, a_codeZ, a_memSlot, a_memInit, a_mem, a_latched, a_vals, a_savedMem, a_savedLatched, a_savedVals)) :
    ∀ m n lt, n ≤ c → c - n < m → (∀ j, j < n → (bt lt (o j) = true ↔ sf_lr a_kinds a_opA a_opB a_opC (fun k => bt lt k = true) (o j))) → (∀ j, n ≤ j → j < c → ¬ bt lt (o j) = true) →
      wX_computeLate_7 post f_capacity f_horizon (nI c) f_verdict f_errorNode f_outputs f_codeLen f_openGuard f_guardClock f_memCount f_presence f_tickCount f_digestValue f_hasSnapshot f_savedPresence f_savedTicks f_savedDigest a_kinds a_opA a_opB a_opC a_parent a_facts a_clocks a_needs a_reach a_order a_levels a_codeOp a_codeDst a_codeX a_codeY a_codeZ a_memSlot a_memInit a_mem a_latched a_vals a_savedMem a_savedLatched a_savedVals m (nI n) lt := by
  obtain ⟨o1, o2, o3, o4⟩ := hO
  intro m
  induction m with
  | zero => intro n lt _ hn; omega
  | succ m ih =>
    intro n lt hn hm hI hz
    rcases Nat.lt_or_ge n c with h | h
    · have hcl : (nI n).toNatClampNeg = n := sf_cl (by omega)
      have hin : vp_in (nI n) 24 := sf_in (by omega) (by omega)
      refine br_f (sf_nle h (by omega)) (And.intro hin ?_)
      rw [hcl]
      refine nm_r (ho n h) ?_
      refine xo_late1 hc (o1 n h) (hk _ (o1 n h)) hN (fun hl => ?_) (fun hl => ?_)
      · refine br_f (by decide) (nm_e (nm_r (nI_1 n) ?_))
        have hne : ∀ j, j < c → j ≠ n → o j ≠ o n := fun j hj e e' => e (o2 j n hj h e')
        have hset : ∀ q, bt (lt ||| ((1 : Int32) <<< (nI (o n) &&& 31))) q = true ↔ (bt lt q = true ∨ q = o n) := fun q => sf_set _ (by have := o1 n h; omega)
        have key : ∀ j, j < n + 1 → (sf_lr a_kinds a_opA a_opB a_opC (fun k => bt lt k = true) (o j) ↔ sf_lr a_kinds a_opA a_opB a_opC (fun k => bt (lt ||| ((1 : Int32) <<< (nI (o n) &&& 31))) k = true) (o j)) := by
          intro j hj
          refine sf_lr_cg (ck := ck) (o1 j (by omega)) hN (fun k hk' => ?_)
          rw [hset k]
          obtain ⟨i, hi, e⟩ := o4 j (by omega) k hk'
          have : k ≠ o n := by rw [← e]; exact hne i (by omega) (by omega)
          exact ⟨Or.inl, fun y => y.elim id (fun q => absurd q this)⟩
        refine ih (n + 1) _ (by omega) (by omega) (fun j hj => ?_) (fun j hj hjc => ?_)
        · rw [← key j hj, hset]
          rcases (by omega : j < n ∨ j = n) with z | rfl
          · rw [← hI j z]
            exact ⟨fun y => y.elim id (fun q => absurd q (hne j (by omega) (by omega))), Or.inl⟩
          · exact ⟨fun _ => hl, fun _ => Or.inr rfl⟩
        · rw [hset]
          rintro (y | y)
          · exact hz j (by omega) hjc y
          · exact hne j hjc (by omega) y
      · refine br_t rfl (nm_r (nI_1 n) (ih (n + 1) lt (by omega) (by omega) (fun j hj => ?_) (fun j hj hjc => hz j (by omega) hjc)))
        rcases (by omega : j < n ∨ j = n) with z | rfl
        · exact hI j z
        · exact ⟨fun y => absurd y (hz j (by omega) h), fun y => absurd y hl⟩
    · have : n = c := by omega
      subst this
      refine br_t (sf_le (by omega) (by omega)) (Kp lt (fun z hz' => ?_))
      obtain ⟨j, hj, e⟩ := o3 z hz'
      rw [← e]; exact hI j hj
theorem xo_late {c : Nat} {ck : Nat → Int32} {o : Nat → Nat} {post : SX → Prop} (hc : c ≤ 24) (hk : ∀ i, i < c → sf_kd (a_kinds i)) (hN : sf_ND c a_kinds a_opA a_opB a_opC)
    (ho : ∀ j, j < c → a_order j = nI (o j)) (hO : sf_Or c (sf_N c a_kinds a_opA a_opB a_opC ck) o)
    (Kp : ∀ lt, sf_Lt c a_kinds a_opA a_opB a_opC (fun k => bt lt k = true) → post (f_capacity, f_horizon, nI c, f_verdict, f_errorNode, f_outputs, lt, f_codeLen, f_openGuard, f_guardClock, f_memCount, f_presence, f_tickCount, f_digestValue, f_hasSnapshot, f_savedPresence, f_savedTicks, f_savedDigest, a_kinds, a_opA, a_opB, a_opC, a_parent, a_facts, a_clocks, a_needs, a_reach, a_order, a_levels, a_codeOp, a_codeDst, a_codeX, a_codeY, a_codeZ, a_memSlot, a_memInit, a_mem, a_latched, a_vals, a_savedMem, a_savedLatched, a_savedVals)) : wpX_computeLate post (f_capacity, f_horizon, nI c, f_verdict, f_errorNode, f_outputs, f_late, f_codeLen, f_openGuard, f_guardClock, f_memCount, f_presence, f_tickCount, f_digestValue, f_hasSnapshot, f_savedPresence, f_savedTicks, f_savedDigest, a_kinds, a_opA, a_opB, a_opC, a_parent, a_facts, a_clocks, a_needs, a_reach, a_order, a_levels, a_codeOp, a_codeDst, a_codeX, a_codeY, a_codeZ, a_memSlot, a_memInit, a_mem, a_latched, a_vals, a_savedMem, a_savedLatched, a_savedVals) :=
  Exists.intro (c + 1) (xo_late_7 hc hk hN ho hO Kp (c + 1) 0 0 (by omega) (by omega) (fun j z => absurd z (by omega)) (fun j _ _ => by rw [b_0]; decide))
theorem xo_uni_2 {c : Nat} {post : Int32 → Prop} (hc : c ≤ 24) (hN : sf_ND c a_kinds a_opA a_opB a_opC) (Kp : ∀ r, sf_FI c (sf_uni a_kinds a_opA a_opB a_opC (fun k => bt f_outputs k = true) (fun k => bt f_late k = true)) r → post r) :
    ∀ n i, i ≤ c → c - i < n → (∀ j, j < i → ¬ sf_uni a_kinds a_opA a_opB a_opC (fun k => bt f_outputs k = true) (fun k => bt f_late k = true) j) → wX_firstUninitialised_2 post f_capacity f_horizon (nI c) f_verdict f_errorNode f_outputs f_late f_codeLen f_openGuard f_guardClock f_memCount f_presence f_tickCount f_digestValue f_hasSnapshot f_savedPresence f_savedTicks f_savedDigest a_kinds a_opA a_opB a_opC a_parent a_facts a_clocks a_needs a_reach a_order a_levels a_codeOp a_codeDst a_codeX a_codeY a_codeZ a_memSlot a_memInit a_mem a_latched a_vals a_savedMem a_savedLatched a_savedVals n (nI i) := by
  intro n
  induction n with
  | zero => intro i _ hn; omega
  | succ n ih =>
    intro i hi hn hj
    rcases Nat.lt_or_ge i c with h | h
    · have hcl : (nI i).toNatClampNeg = i := sf_cl (by omega)
      have hin : vp_in (nI i) 24 := sf_in (by omega) (by omega)
      have go : ¬ sf_uni a_kinds a_opA a_opB a_opC (fun k => bt f_outputs k = true) (fun k => bt f_late k = true) i → wX_firstUninitialised_2 post f_capacity f_horizon (nI c) f_verdict f_errorNode f_outputs f_late f_codeLen f_openGuard f_guardClock f_memCount f_presence f_tickCount f_digestValue f_hasSnapshot f_savedPresence f_savedTicks f_savedDigest a_kinds a_opA a_opB a_opC a_parent a_facts a_clocks a_needs a_reach a_order a_levels a_codeOp a_codeDst a_codeX a_codeY a_codeZ a_memSlot a_memInit a_mem a_latched a_vals a_savedMem a_savedLatched a_savedVals n (nI (i + 1)) := by
        intro hx
        refine ih (i + 1) (by omega) (by omega) (fun j hj' => ?_)
        rcases (by omega : j < i ∨ j = i) with z | rfl
        · exact hj j z
        · exact hx
      have yes : sf_uni a_kinds a_opA a_opB a_opC (fun k => bt f_outputs k = true) (fun k => bt f_late k = true) i → post (nI i) := fun hx => Kp _ (sf_FI_s h hx hj)
      have fin0 : ¬ sf_uni a_kinds a_opA a_opB a_opC (fun k => bt f_outputs k = true) (fun k => bt f_late k = true) i → wX_firstUninitialised_109 post (wX_firstUninitialised_2 post f_capacity f_horizon (nI c) f_verdict f_errorNode f_outputs f_late f_codeLen f_openGuard f_guardClock f_memCount f_presence f_tickCount f_digestValue f_hasSnapshot f_savedPresence f_savedTicks f_savedDigest a_kinds a_opA a_opB a_opC a_parent a_facts a_clocks a_needs a_reach a_order a_levels a_codeOp a_codeDst a_codeX a_codeY a_codeZ a_memSlot a_memInit a_mem a_latched a_vals a_savedMem a_savedLatched a_savedVals n) (nI i) 0 f_capacity f_horizon (nI c) f_verdict f_errorNode f_outputs f_late f_codeLen f_openGuard f_guardClock f_memCount f_presence f_tickCount f_digestValue f_hasSnapshot f_savedPresence f_savedTicks f_savedDigest a_kinds a_opA a_opB a_opC a_parent a_facts a_clocks a_needs a_reach a_order a_levels a_codeOp a_codeDst a_codeX a_codeY a_codeZ a_memSlot a_memInit a_mem a_latched a_vals a_savedMem a_savedLatched a_savedVals :=
        fun hx => br_t rfl (nm_r (nI_1 i) (go hx))
      have fin1 : sf_uni a_kinds a_opA a_opB a_opC (fun k => bt f_outputs k = true) (fun k => bt f_late k = true) i → wX_firstUninitialised_109 post (wX_firstUninitialised_2 post f_capacity f_horizon (nI c) f_verdict f_errorNode f_outputs f_late f_codeLen f_openGuard f_guardClock f_memCount f_presence f_tickCount f_digestValue f_hasSnapshot f_savedPresence f_savedTicks f_savedDigest a_kinds a_opA a_opB a_opC a_parent a_facts a_clocks a_needs a_reach a_order a_levels a_codeOp a_codeDst a_codeX a_codeY a_codeZ a_memSlot a_memInit a_mem a_latched a_vals a_savedMem a_savedLatched a_savedVals n) (nI i) 1 f_capacity f_horizon (nI c) f_verdict f_errorNode f_outputs f_late f_codeLen f_openGuard f_guardClock f_memCount f_presence f_tickCount f_digestValue f_hasSnapshot f_savedPresence f_savedTicks f_savedDigest a_kinds a_opA a_opB a_opC a_parent a_facts a_clocks a_needs a_reach a_order a_levels a_codeOp a_codeDst a_codeX a_codeY a_codeZ a_memSlot a_memInit a_mem a_latched a_vals a_savedMem a_savedLatched a_savedVals :=
        fun hx => br_f (by decide) (yes hx)
      have j38 : ∀ z : Int32, ((z = 0 ∧ ¬ (bt f_outputs i = true ∧ bt f_late i = true)) ∨ (z = 1 ∧ bt f_outputs i = true ∧ bt f_late i = true)) →
          wX_firstUninitialised_38 post (wX_firstUninitialised_2 post f_capacity f_horizon (nI c) f_verdict f_errorNode f_outputs f_late f_codeLen f_openGuard f_guardClock f_memCount f_presence f_tickCount f_digestValue f_hasSnapshot f_savedPresence f_savedTicks f_savedDigest a_kinds a_opA a_opB a_opC a_parent a_facts a_clocks a_needs a_reach a_order a_levels a_codeOp a_codeDst a_codeX a_codeY a_codeZ a_memSlot a_memInit a_mem a_latched a_vals a_savedMem a_savedLatched a_savedVals n) (nI i) (a_kinds i) z f_capacity f_horizon (nI c) f_verdict f_errorNode f_outputs f_late f_codeLen f_openGuard f_guardClock f_memCount f_presence f_tickCount f_digestValue f_hasSnapshot f_savedPresence f_savedTicks f_savedDigest a_kinds a_opA a_opB a_opC a_parent a_facts a_clocks a_needs a_reach a_order a_levels a_codeOp a_codeDst a_codeX a_codeY a_codeZ a_memSlot a_memInit a_mem a_latched a_vals a_savedMem a_savedLatched a_savedVals := by
        intro z hz
        have j49 : (a_kinds i = 2 ∨ a_kinds i = 5) → wX_firstUninitialised_49 post (wX_firstUninitialised_2 post f_capacity f_horizon (nI c) f_verdict f_errorNode f_outputs f_late f_codeLen f_openGuard f_guardClock f_memCount f_presence f_tickCount f_digestValue f_hasSnapshot f_savedPresence f_savedTicks f_savedDigest a_kinds a_opA a_opB a_opC a_parent a_facts a_clocks a_needs a_reach a_order a_levels a_codeOp a_codeDst a_codeX a_codeY a_codeZ a_memSlot a_memInit a_mem a_latched a_vals a_savedMem a_savedLatched a_savedVals n) (nI i) z f_capacity f_horizon (nI c) f_verdict f_errorNode f_outputs f_late f_codeLen f_openGuard f_guardClock f_memCount f_presence f_tickCount f_digestValue f_hasSnapshot f_savedPresence f_savedTicks f_savedDigest a_kinds a_opA a_opB a_opC a_parent a_facts a_clocks a_needs a_reach a_order a_levels a_codeOp a_codeDst a_codeX a_codeY a_codeZ a_memSlot a_memInit a_mem a_latched a_vals a_savedMem a_savedLatched a_savedVals := by
          intro he
          obtain ⟨t1, o1⟩ := hN i h 1 sf_W1 (by rcases he with e | e <;> rw [e] <;> decide)
          have o1' : a_opA i = nI (sf_tg a_opA a_opB a_opC i 1) := o1
          rcases hz with ⟨rfl, hz⟩ | ⟨rfl, hz⟩
          · refine br_t rfl (And.intro hin ?_)
            rw [hcl, o1']
            refine sf_bb (by omega) (fun hb => fin0 ?_) (fun hb => fin1 (Or.inr (Or.inl ⟨he, hb⟩)))
            rintro (y | ⟨_, y⟩ | ⟨y, _⟩)
            · exact hz y
            · exact hb y
            · rcases he with e | e <;> exact absurd (e.symm.trans y) (by decide)
          · exact br_f (by decide) (fin1 (Or.inl hz))
        by_cases h2 : a_kinds i = 2
        · exact br_t h2 (j49 (Or.inl h2))
        refine br_f h2 ?_
        by_cases h5 : a_kinds i = 5
        · exact br_t h5 (j49 (Or.inr h5))
        refine br_f h5 ?_
        by_cases h4 : a_kinds i = 4
        · refine br_t h4 ?_
          obtain ⟨t2, o2⟩ := hN i h 2 sf_W2 (by rw [h4]; decide)
          have o2' : a_opB i = nI (sf_tg a_opA a_opB a_opC i 2) := o2
          rcases hz with ⟨rfl, hz⟩ | ⟨rfl, hz⟩
          · refine br_t rfl (And.intro hin ?_)
            rw [hcl, o2']
            refine sf_bb (by omega) (fun hb => fin0 ?_) (fun hb => fin1 (Or.inr (Or.inr ⟨h4, hb⟩)))
            rintro (y | ⟨y, _⟩ | ⟨_, y⟩)
            · exact hz y
            · rcases y with y | y
              · exact h2 y
              · exact h5 y
            · exact hb y
          · exact br_f (by decide) (fin1 (Or.inl hz))
        · refine br_f h4 ?_
          rcases hz with ⟨rfl, hz⟩ | ⟨rfl, hz⟩
          · refine fin0 ?_
            rintro (y | ⟨y, _⟩ | ⟨y, _⟩)
            · exact hz y
            · rcases y with y | y
              · exact h2 y
              · exact h5 y
            · exact h4 y
          · exact fin1 (Or.inl hz)
      refine br_f (sf_nle h (by omega)) (And.intro hin ?_)
      rw [hcl]
      refine nm_e ?_
      by_cases hz : ((f_outputs &&& f_late) &&& ((1 : Int32) <<< (nI i &&& 31))) = 0
      · refine br_t hz (j38 0 (Or.inl ⟨rfl, fun y => ?_⟩))
        exact xo_andz.mp hz ⟨i, by rw [b_and, y.1, y.2]; rfl, (sf_oneb (by omega)).mpr rfl⟩
      · refine br_f hz (j38 1 (Or.inr ⟨rfl, ?_⟩))
        apply Classical.byContradiction
        intro hn'
        refine hz (xo_andz.mpr ?_)
        rintro ⟨q, hq, hq1⟩
        have e := (sf_oneb (by omega)).mp hq1
        subst e
        rw [b_and, Bool.and_eq_true] at hq
        exact hn' hq
    · have : i = c := by omega
      subst this
      exact br_t (sf_le (by omega) (by omega)) (Kp _ (sf_FI_n hj))
theorem xo_uni {c : Nat} {post : Int32 → Prop} (hc : c ≤ 24) (hN : sf_ND c a_kinds a_opA a_opB a_opC) (Kp : ∀ r, sf_FI c (sf_uni a_kinds a_opA a_opB a_opC (fun k => bt f_outputs k = true) (fun k => bt f_late k = true)) r → post r) : wpX_firstUninitialised post (f_capacity, f_horizon, nI c, f_verdict, f_errorNode, f_outputs, f_late, f_codeLen, f_openGuard, f_guardClock, f_memCount, f_presence, f_tickCount, f_digestValue, f_hasSnapshot, f_savedPresence, f_savedTicks, f_savedDigest, a_kinds, a_opA, a_opB, a_opC, a_parent, a_facts, a_clocks, a_needs, a_reach, a_order, a_levels, a_codeOp, a_codeDst, a_codeX, a_codeY, a_codeZ, a_memSlot, a_memInit, a_mem, a_latched, a_vals, a_savedMem, a_savedLatched, a_savedVals) :=
  Exists.intro (c + 1) (xo_uni_2 hc hN Kp (c + 1) 0 (by omega) (by omega) (fun j z => absurd z (by omega)))
end
end
section
/-! the component's analysis as a whole -/
def sf_RC (c : Nat) (K A B C ck : Nat → Int32) : Prop := ∀ i, i < c → (ck i = -1 ∨ ∃ k, k < c ∧ ck i = nI k) ∧
  (K i = 4 → ck i = nI (sf_tg A B C i 2) ∧ ck (sf_tg A B C i 1) = ck (sf_tg A B C i 2)) ∧
  (K i = 5 → ∃ k, k < c ∧ ck (sf_tg A B C i 1) = nI k ∧ ck i = ck k) ∧
  (¬ K i = 4 → ¬ K i = 5 → ∀ w, sf_W w → sf_ro (K i) w = 1 → ck (sf_tg A B C i w) = ck i)
theorem sf_CK_in {c : Nat} {F : Nat → Nat → Prop} {ck : Nat → Int32} (h : sf_CK c F ck) {i : Nat} (hi : i < c) : ck i = -1 ∨ ∃ k, k < c ∧ ck i = nI k := by
  rcases h i hi with ⟨k, hk, _, e⟩ | ⟨_, e⟩
  · exact Or.inr ⟨k, hk, e⟩
  · exact Or.inl e
theorem sf_RC_of {c : Nat} {K A B C ck : Nat → Int32} {F : Nat → Nat → Prop} (hc : c ≤ 24) (hN : sf_ND c K A B C) (hL : sf_Lst c K A B C F) (hcl : ∀ i, i < c → ¬ sf_clash F i) (hck : sf_CK c F ck)
    (hcb : ∀ i, i < c → ¬ sf_cob K A B C ck i) : sf_RC c K A B C ck := by
  have ceq : ∀ x y, x < c → y < c → (∀ q, q < 25 → (F x q ↔ F y q)) → ck x = ck y := by
    intro x y hx hy h
    rcases hck x hx with ⟨k, hk, hF, e⟩ | ⟨hF, e⟩ <;> rcases hck y hy with ⟨l, hl, hG, e'⟩ | ⟨hG, e'⟩
    · have : k = l := Classical.byContradiction fun z => hcl x hx ⟨k, l, z, hF, (h l (by omega)).mpr hG⟩
      rw [e, e', this]
    · exact absurd ((h k (by omega)).mp hF) (hG k hk)
    · exact absurd ((h l (by omega)).mpr hG) (hF l hl)
    · rw [e, e']
  intro i hi
  obtain ⟨_, c4, l4, l5, lo⟩ := hL.1 i hi
  refine ⟨sf_CK_in hck hi, fun e => ?_, fun e => ?_, fun e4 e5 w hw hr => ?_⟩
  · have t1 := (hN i hi 1 sf_W1 (by rw [e]; decide)).1
    have t2 := (hN i hi 2 sf_W2 (by rw [e]; decide)).1
    refine ⟨?_, ceq _ _ t1 t2 (l4 e)⟩
    rcases hck i hi with ⟨k, hk, hF, ek⟩ | ⟨hF, _⟩
    · have : k = sf_tg A B C i 2 := Classical.byContradiction fun z => hcl i hi ⟨k, _, z, hF, c4 e⟩
      rw [ek, this]
    · exact absurd (c4 e) (hF _ t2)
  · have t1 := (hN i hi 1 sf_W1 (by rw [e]; decide)).1
    rcases hck _ t1 with ⟨k, hk, hF, ek⟩ | ⟨_, ek⟩
    · exact ⟨k, hk, ek, ceq _ _ hi hk (l5 e k hk hF)⟩
    · exact absurd ⟨e, ek⟩ (hcb i hi)
  · exact (ceq _ _ hi (hN i hi w hw hr).1 (lo e4 e5 w hw hr)).symm
section
variable {f_capacity f_horizon f_count f_verdict f_errorNode f_outputs f_late f_codeLen f_openGuard f_guardClock f_memCount f_presence f_tickCount f_digestValue f_hasSnapshot f_savedPresence f_savedTicks f_savedDigest : Int32} {a_kinds a_opA a_opB a_opC a_parent a_facts a_clocks a_needs a_reach a_order a_levels a_codeOp a_codeDst a_codeX a_codeY a_codeZ a_memSlot a_memInit a_mem a_latched a_vals a_savedMem a_savedLatched a_savedVals : Nat → Int32}
theorem xz_ana {c : Nat} {post : Int32 → SX → Prop} (hc : c ≤ 24) (hP : sf_Pg c 24 a_kinds a_opA a_opB a_opC) (hO : ∀ k, bt f_outputs k = true → k < c)
    (Kp : ∀ v e p f ck nd g od lv lt L, sf_Ana c a_kinds a_opA a_opB a_opC (fun k => bt f_outputs k = true) ck L v e →
      (v = 1 → (∀ z, z < c → lv z = nI (L z)) ∧ ∃ o, (∀ j, j < c → od j = nI (o j)) ∧ sf_Or c (sf_N c a_kinds a_opA a_opB a_opC ck) o) →
      post v (f_capacity, f_horizon, nI c, f_verdict, e, f_outputs, lt, f_codeLen, f_openGuard, f_guardClock, f_memCount, f_presence, f_tickCount, f_digestValue, f_hasSnapshot, f_savedPresence, f_savedTicks, f_savedDigest, a_kinds, a_opA, a_opB, a_opC, p, f, ck, nd, g, od, lv, a_codeOp, a_codeDst, a_codeX, a_codeY, a_codeZ, a_memSlot, a_memInit, a_mem, a_latched, a_vals, a_savedMem, a_savedLatched, a_savedVals)) :
    wpX_analyse post (f_capacity, f_horizon, nI c, f_verdict, -1, f_outputs, f_late, f_codeLen, f_openGuard, f_guardClock, f_memCount, f_presence, f_tickCount, f_digestValue, f_hasSnapshot, f_savedPresence, f_savedTicks, f_savedDigest, a_kinds, a_opA, a_opB, a_opC, a_parent, a_facts, a_clocks, a_needs, a_reach, a_order, a_levels, a_codeOp, a_codeDst, a_codeX, a_codeY, a_codeZ, a_memSlot, a_memInit, a_mem, a_latched, a_vals, a_savedMem, a_savedLatched, a_savedVals) := by
  by_cases h0 : c = 0
  · exact br_t (by rw [h0]; rfl) (Kp 2 (-1) _ _ _ _ _ _ _ _ (fun _ => 0) (Or.inl ⟨h0, rfl, rfl⟩) (fun z => absurd z (by decide)))
  have hc0 : 0 < c := by omega
  refine br_f (nI_ne0 hc0 (by omega)) ?_
  by_cases ho : f_outputs = 0
  · refine br_t ho (Kp 3 (-1) _ _ _ _ _ _ _ _ (fun _ => 0) (Or.inr (Or.inl ⟨hc0, fun i _ z => ?_, rfl, rfl⟩)) (fun z => absurd z (by decide)))
    exact sf_nz z ho
  have hex : ∃ i, i < c ∧ bt f_outputs i = true := by
    obtain ⟨i, _, hb⟩ := sf_nzi ho
    exact ⟨i, hO i hb, hb⟩
  refine br_f ho ?_
  refine xa_dang hc hP (fun r hr => ?_)
  by_cases hr0 : r < 0
  rotate_left
  · exact br_f hr0 (Kp 4 r _ _ _ _ _ _ _ _ (fun _ => 0) (Or.inr (Or.inr ⟨hc0, hex, Or.inl ⟨rfl, hr0, hr⟩⟩)) (fun z => absurd z (by decide)))
  refine br_t hr0 ?_
  obtain ⟨e1, hnd⟩ := sf_FI_none hr hr0 hc
  subst e1
  have hN := sf_ND_of hP (by omega) hc hnd
  have hk : ∀ i, i < c → sf_kd (a_kinds i) := fun i hi => (hP i hi).1
  refine xu_merge hc hc0 hN hk (fun p f R hS hL => ?_)
  refine xa_clash hc hS (fun r2 p2 hS2 hr2 => ?_)
  by_cases hr20 : r2 < 0
  rotate_left
  · exact br_f hr20 (Kp 5 r2 _ _ _ _ _ _ _ _ (fun _ => 0) (Or.inr (Or.inr ⟨hc0, hex, Or.inr ⟨hN, hr, _, hL, Or.inl ⟨rfl, hr20, hr2⟩⟩⟩)) (fun z => absurd z (by decide)))
  refine br_t hr20 ?_
  obtain ⟨e2, hcl⟩ := sf_FI_none hr2 hr20 hc
  subst e2
  refine xa_ck hc hS2 (fun p3 ck hS3 hck => ?_)
  refine xa_cob hc hN (fun r3 hr3 => ?_)
  by_cases hr30 : r3 < 0
  rotate_left
  · exact br_f hr30 (Kp 6 r3 _ _ _ _ _ _ _ _ (fun _ => 0) (Or.inr (Or.inr ⟨hc0, hex, Or.inr ⟨hN, hr, _, hL, Or.inr ⟨hr2, hck, Or.inl ⟨rfl, hr30, hr3⟩⟩⟩⟩)) (fun z => absurd z (by decide)))
  refine br_t hr30 ?_
  obtain ⟨e3, hcb⟩ := sf_FI_none hr3 hr30 hc
  subst e3
  refine xa_need hc hk hN (fun i hi => sf_CK_in hck hi) (fun nd hnb => ?_)
  have hb : ∀ i, i < c → ∀ q, bt (nd i) q = true ↔ sf_N c a_kinds a_opA a_opB a_opC ck i q := fun i hi q => (hnb i hi q).trans ⟨fun z => ⟨hi, z⟩, fun z => z.2⟩
  have hNN : ∀ i j, sf_N c a_kinds a_opA a_opB a_opC ck i j → i < c ∧ j < c := fun i j z => ⟨z.1, z.2.1⟩
  refine xa_cyc hc hNN hb (fun r4 g hr4 => ?_)
  by_cases hr40 : r4 < 0
  rotate_left
  · exact br_f hr40 (Kp 7 r4 _ _ _ _ _ _ _ _ (fun _ => 0) (Or.inr (Or.inr ⟨hc0, hex, Or.inr ⟨hN, hr, _, hL, Or.inr ⟨hr2, hck, Or.inr ⟨hr3, Or.inl ⟨rfl, hr40, hr4⟩⟩⟩⟩⟩)) (fun z => absurd z (by decide)))
  refine br_t hr40 ?_
  obtain ⟨e4, hac⟩ := sf_FI_none hr4 hr40 hc
  subst e4
  refine xo_ord hc hNN hb hac (fun od o hod hOr => ?_)
  refine xo_lev hc hNN hb hod hOr (fun lv L hlv hLv => ?_)
  refine xo_late (ck := ck) hc hk hN hod hOr (fun lt hlt => ?_)
  obtain ⟨pos, hpos, _⟩ := sf_Po_ex hOr hNN
  refine xo_uni hc hN (fun r5 hr5 => ?_)
  by_cases hr50 : r5 < 0
  · obtain ⟨e5, _⟩ := sf_FI_none hr5 hr50 hc
    subst e5
    exact br_t hr50 (Kp 1 (-1) _ _ _ _ _ _ _ _ L (Or.inr (Or.inr ⟨hc0, hex, Or.inr ⟨hN, hr, _, hL, Or.inr ⟨hr2, hck, Or.inr ⟨hr3, Or.inr ⟨hr4, ⟨pos, hpos⟩, hLv, _, hlt, Or.inr ⟨rfl, rfl, hr5⟩⟩⟩⟩⟩⟩)) (fun _ => ⟨hlv, o, hod, hOr⟩))
  · exact br_f hr50 (Kp 8 r5 _ _ _ _ _ _ _ _ L (Or.inr (Or.inr ⟨hc0, hex, Or.inr ⟨hN, hr, _, hL, Or.inr ⟨hr2, hck, Or.inr ⟨hr3, Or.inr ⟨hr4, ⟨pos, hpos⟩, hLv, _, hlt, Or.inl ⟨rfl, hr50, hr5⟩⟩⟩⟩⟩⟩)) (fun z => absurd z (by decide)))
end
end
section
/-! the reference's facts -/
def yf_q (b : Nat) : Nat := if b = 24 then 0 else b + 1
def yf_b (q : Nat) : Nat := if q = 0 then 24 else q - 1
theorem yf_qb {q : Nat} (h : q < 25) : yf_b q < 25 ∧ yf_q (yf_b q) = q := by
  unfold yf_q yf_b
  by_cases e : q = 0
  · rw [if_pos e, if_pos rfl]; omega
  · rw [if_neg e, if_neg (by omega)]; omega
theorem yf_bq {b : Nat} (h : b < 25) : yf_q b < 25 ∧ yf_b (yf_q b) = b := by
  unfold yf_q yf_b
  by_cases e : b = 24
  · rw [if_pos e, if_pos rfl]; omega
  · rw [if_neg e, if_neg (by omega)]; omega
def yf_ok (c : Nat) (K A B C f : Nat → Int32) : Prop := (∀ j, j < 600 → f j = 0 ∨ f j = 1) ∧
  (∀ G, sf_Cl c K A B C G → ∀ i, i < c → ∀ q, q < 25 → ¬ f (i * 25 + q) = 0 → G i (yf_b q)) ∧
  (∀ i, i < c → (K i = 0 → ¬ f (i * 25) = 0) ∧ (K i = 4 → ¬ f (i * 25 + (sf_tg A B C i 2 + 1)) = 0))
noncomputable def yf_z (f : Nat → Int32) : Nat := sf_cn (fun j => f j = 0) 600
def yf_Fl (f0 : Nat → Int32) (r : Int32) (f : Nat → Int32) : Prop := (r = 0 ∧ f = f0) ∨ (r = 1 ∧ yf_z f < yf_z f0)
theorem yf_Fl_b {f0 f : Nat → Int32} {r : Int32} (h : yf_Fl f0 r f) : r = 0 ∨ r = 1 := by
  rcases h with ⟨h, _⟩ | ⟨h, _⟩
  · exact Or.inl h
  · exact Or.inr h
theorem yf_Fl_1 {f0 f f' : Nat → Int32} {fl r : Int32} (h : yf_Fl f0 fl f) (g : yf_Fl f r f') (hr : ¬ r = 0) : yf_Fl f0 1 f' := by
  rcases g with ⟨z, _⟩ | ⟨_, g⟩
  · exact absurd z hr
  · rcases h with ⟨_, rfl⟩ | ⟨_, h⟩
    · exact Or.inr ⟨rfl, g⟩
    · exact Or.inr ⟨rfl, by omega⟩
theorem yf_Fl_0 {f0 f f' : Nat → Int32} {fl r : Int32} (h : yf_Fl f0 fl f) (g : yf_Fl f r f') (hr : r = 0) : yf_Fl f0 fl f' := by
  rcases g with ⟨_, rfl⟩ | ⟨z, _⟩
  · exact h
  · exact absurd (hr.symm.trans z) (by decide)
theorem yf_Fl_e {f0 f : Nat → Int32} {fl : Int32} (h : yf_Fl f0 fl f) (e : fl = 0) : f = f0 := by
  rcases h with ⟨_, h⟩ | ⟨z, _⟩
  · exact h
  · exact absurd (e.symm.trans z) (by decide)
theorem yf_set {c x y q : Nat} {K A B C f : Nat → Int32} (hc : c ≤ 24) (hx : x < c) (hy : y < c) (hq : q < 25) (hj : ∀ G, sf_Cl c K A B C G → ∀ b, b < 25 → (G x b ↔ G y b))
    (h : yf_ok c K A B C f) (hne : ¬ f (x * 25 + q) = f (y * 25 + q)) : yf_ok c K A B C (upd (upd f (x * 25 + q) 1) (y * 25 + q) 1) ∧ yf_z (upd (upd f (x * 25 + q) 1) (y * 25 + q) 1) < yf_z f := by
  obtain ⟨h1, h2, h3⟩ := h
  have hv : ∀ j, upd (upd f (x * 25 + q) 1) (y * 25 + q) 1 j = if j = y * 25 + q then 1 else if j = x * 25 + q then 1 else f j := fun j => rfl
  have hnz : ∀ j, ¬ f j = 0 → ¬ upd (upd f (x * 25 + q) 1) (y * 25 + q) 1 j = 0 := by
    intro j hj'
    rw [hv j]
    by_cases e1 : j = y * 25 + q
    · rw [if_pos e1]; decide
    · rw [if_neg e1]
      by_cases e2 : j = x * 25 + q
      · rw [if_pos e2]; decide
      · rw [if_neg e2]; exact hj'
  refine ⟨⟨?_, ?_, ?_⟩, ?_⟩
  · intro j hj'
    rw [hv j]
    by_cases e1 : j = y * 25 + q
    · rw [if_pos e1]; exact Or.inr rfl
    · rw [if_neg e1]
      by_cases e2 : j = x * 25 + q
      · rw [if_pos e2]; exact Or.inr rfl
      · rw [if_neg e2]; exact h1 j hj'
  · intro G hG i hi q' hq' hn
    have one : G x (yf_b q) ∧ G y (yf_b q) := by
      have hb := (yf_qb hq).1
      by_cases ex : f (x * 25 + q) = 0
      · have ey : ¬ f (y * 25 + q) = 0 := fun ey => hne (ex.trans ey.symm)
        have := h2 G hG y hy q hq ey
        exact ⟨(hj G hG _ hb).mpr this, this⟩
      · have := h2 G hG x hx q hq ex
        exact ⟨this, (hj G hG _ hb).mp this⟩
    rw [hv] at hn
    by_cases e1 : i * 25 + q' = y * 25 + q
    · have e : i = y ∧ q' = q := by omega
      rw [e.1, e.2]; exact one.2
    · rw [if_neg e1] at hn
      by_cases e2 : i * 25 + q' = x * 25 + q
      · have e : i = x ∧ q' = q := by omega
        rw [e.1, e.2]; exact one.1
      · rw [if_neg e2] at hn
        exact h2 G hG i hi q' hq' hn
  · intro i hi
    exact ⟨fun e => hnz _ ((h3 i hi).1 e), fun e => hnz _ ((h3 i hi).2 e)⟩
  · have key : ∀ a, a < 600 → f a = 0 → (a = y * 25 + q ∨ a = x * 25 + q) → yf_z (upd (upd f (x * 25 + q) 1) (y * 25 + q) 1) < yf_z f := by
      intro a ha hz he
      refine sf_cn_lt (P := fun j => upd (upd f (x * 25 + q) 1) (y * 25 + q) 1 j = 0) (Q := fun j => f j = 0) (a := a) ?_ hz ?_ ha
      · show ¬ upd (upd f (x * 25 + q) 1) (y * 25 + q) 1 a = 0
        rw [hv a]
        rcases he with e | e
        · rw [if_pos e]; decide
        · by_cases e1 : a = y * 25 + q
          · rw [if_pos e1]; decide
          · rw [if_neg e1, if_pos e]; decide
      · intro k _ hk
        apply Classical.byContradiction
        intro hn
        exact hnz k hn hk
    by_cases ex : f (x * 25 + q) = 0
    · exact key _ (by omega) ex (Or.inr rfl)
    · rcases h1 (y * 25 + q) (by omega) with ey | ey
      · exact key _ (by omega) ey (Or.inl rfl)
      · rcases h1 (x * 25 + q) (by omega) with ex' | ex'
        · exact absurd ex' ex
        · exact absurd (ex'.trans ey.symm) hne
def yf_lk (c : Nat) (K A B C f : Nat → Int32) (i : Nat) : Prop :=
  (K i = 4 → ∀ q, q < 25 → f (sf_tg A B C i 1 * 25 + q) = f (sf_tg A B C i 2 * 25 + q)) ∧
  (K i = 5 → ∀ k, k < c → ¬ f (sf_tg A B C i 1 * 25 + (k + 1)) = 0 → ∀ q, q < 25 → f (i * 25 + q) = f (k * 25 + q)) ∧
  (¬ K i = 4 → ¬ K i = 5 → ∀ w, sf_W w → sf_ro (K i) w = 1 → ∀ q, q < 25 → f (i * 25 + q) = f (sf_tg A B C i w * 25 + q))
theorem yf_done {c : Nat} {K A B C f : Nat → Int32} {F : Nat → Nat → Prop} (hc : c ≤ 24) (hN : sf_ND c K A B C) (hL : sf_Lst c K A B C F) (h : yf_ok c K A B C f) (hl : ∀ i, i < c → yf_lk c K A B C f i) :
    ∀ i, i < c → ∀ b, b < 25 → (¬ f (i * 25 + yf_q b) = 0 ↔ F i b) := by
  obtain ⟨h1, h2, h3⟩ := h
  have hcl : sf_Cl c K A B C (fun i b => ¬ f (i * 25 + yf_q b) = 0) := by
    intro i hi
    obtain ⟨l1, l2, l3⟩ := hl i hi
    refine ⟨fun e => (h3 i hi).1 e, fun e => ?_, fun e b hb => ?_, fun e k hk hn b hb => ?_, fun e4 e5 w hw hr b hb => ?_⟩
    · have := (hN i hi 2 sf_W2 (by rw [e]; decide)).1
      have h' := (h3 i hi).2 e
      have e' : yf_q (sf_tg A B C i 2) = sf_tg A B C i 2 + 1 := by unfold yf_q; rw [if_neg (by omega)]
      show ¬ f (i * 25 + yf_q (sf_tg A B C i 2)) = 0
      rw [e']; exact h'
    · show ¬ f (_ * 25 + yf_q b) = 0 ↔ ¬ f (_ * 25 + yf_q b) = 0
      rw [l1 e _ (yf_bq hb).1]
    · show ¬ f (_ * 25 + yf_q b) = 0 ↔ ¬ f (_ * 25 + yf_q b) = 0
      have e' : yf_q k = k + 1 := by unfold yf_q; rw [if_neg (by omega)]
      have hn' : ¬ f (sf_tg A B C i 1 * 25 + yf_q k) = 0 := hn
      rw [e'] at hn'
      rw [l2 e k hk hn' _ (yf_bq hb).1]
    · show ¬ f (_ * 25 + yf_q b) = 0 ↔ ¬ f (_ * 25 + yf_q b) = 0
      rw [l3 e4 e5 w hw hr _ (yf_bq hb).1]
  intro i hi b hb
  constructor
  · intro hn
    have := h2 F hL.1 i hi (yf_q b) (yf_bq hb).1 hn
    rw [(yf_bq hb).2] at this
    exact this
  · intro hF
    exact hL.2.1 _ hcl i hi b hb hF
section
variable {g_capacity g_horizon g_count g_verdict g_errorNode g_ticks g_saved g_savedTicks : Int32} {b_kind b_op b_out b_fact b_clock b_reach b_late b_depth b_latched b_there b_val b_savedLatched b_savedThere b_savedVal : Nat → Int32} {A B C : Nat → Int32} {c : Nat}
theorem yf_join_5 {x y : Nat} {f0 : Nat → Int32} {post : Int32 → SY → Prop} (hc : c ≤ 24) (hx : x < c) (hy : y < c) (hj : ∀ G, sf_Cl c b_kind A B C G → ∀ b, b < 25 → (G x b ↔ G y b))
    (Kp : ∀ r f, yf_ok c b_kind A B C f → yf_Fl f0 r f → (r = 0 → ∀ q, q < 25 → f0 (x * 25 + q) = f0 (y * 25 + q)) → post r (g_capacity, g_horizon, nI c, g_verdict, g_errorNode, g_ticks, g_saved, g_savedTicks, b_kind, b_op, b_out, f, b_clock, b_reach, b_late, b_depth, b_latched, b_there, b_val, b_savedLatched, b_savedThere, b_savedVal)) :
    ∀ n q r f, q ≤ 25 → 25 - q < n → yf_ok c b_kind A B C f → yf_Fl f0 r f → (r = 0 → ∀ p, p < q → f0 (x * 25 + p) = f0 (y * 25 + p)) → wY_join_5 post (nI x) (nI y) g_capacity g_horizon (nI c) g_verdict g_errorNode g_ticks g_saved g_savedTicks n r (nI q) b_kind b_op b_out f b_clock b_reach b_late b_depth b_latched b_there b_val b_savedLatched b_savedThere b_savedVal := by
  intro n
  induction n with
  | zero => intro q r f _ hn; omega
  | succ n ih =>
    intro q r f hq hn hok hF hp
    rcases Nat.lt_or_ge q 25 with h | h
    · refine br_f (sf_nle (b := 25) h (by omega)) ?_
      rw [sf_i25, sf_i25]
      have hcx : (nI (x * 25 + q)).toNatClampNeg = x * 25 + q := sf_cl (by omega)
      have hcy : (nI (y * 25 + q)).toNatClampNeg = y * 25 + q := sf_cl (by omega)
      have hix : vp_in (nI (x * 25 + q)) 600 := sf_in (by omega) (by omega)
      have hiy : vp_in (nI (y * 25 + q)) 600 := sf_in (by omega) (by omega)
      rw [hcx, hcy]
      refine And.intro hix (And.intro hiy ?_)
      by_cases e : f (x * 25 + q) = f (y * 25 + q)
      · refine br_t e (nm_r (nI_1 q) (ih (q + 1) r f (by omega) (by omega) hok hF (fun e0 p hp' => ?_)))
        rcases (by omega : p < q ∨ p = q) with z | rfl
        · exact hp e0 p z
        · rw [← yf_Fl_e hF e0]; exact e
      · refine br_f e (And.intro hix (nm_e (And.intro hiy (nm_e (nm_r (nI_1 q) ?_)))))
        obtain ⟨k1, k2⟩ := yf_set hc hx hy h hj hok e
        refine ih (q + 1) 1 _ (by omega) (by omega) k1 ?_ (fun z => absurd z (by decide))
        rcases hF with ⟨_, rfl⟩ | ⟨_, hF⟩
        · exact Or.inr ⟨rfl, k2⟩
        · refine Or.inr ⟨rfl, Nat.lt_trans k2 hF⟩
    · have : q = 25 := by omega
      subst this
      exact br_t (by decide) (And.intro (sf_nb (yf_Fl_b hF)) (Kp r f hok hF hp))
theorem yf_join {x y : Nat} {post : Int32 → SY → Prop} (hc : c ≤ 24) (hx : x < c) (hy : y < c) (hj : ∀ G, sf_Cl c b_kind A B C G → ∀ b, b < 25 → (G x b ↔ G y b)) (hok : yf_ok c b_kind A B C b_fact)
    (Kp : ∀ r f, yf_ok c b_kind A B C f → yf_Fl b_fact r f → (r = 0 → ∀ q, q < 25 → b_fact (x * 25 + q) = b_fact (y * 25 + q)) → post r (g_capacity, g_horizon, nI c, g_verdict, g_errorNode, g_ticks, g_saved, g_savedTicks, b_kind, b_op, b_out, f, b_clock, b_reach, b_late, b_depth, b_latched, b_there, b_val, b_savedLatched, b_savedThere, b_savedVal)) : wpY_join post (g_capacity, g_horizon, nI c, g_verdict, g_errorNode, g_ticks, g_saved, g_savedTicks, b_kind, b_op, b_out, b_fact, b_clock, b_reach, b_late, b_depth, b_latched, b_there, b_val, b_savedLatched, b_savedThere, b_savedVal) (nI x) (nI y) :=
  Exists.intro 26 (yf_join_5 hc hx hy hj Kp 26 0 0 _ (by omega) (by omega) hok (Or.inl ⟨rfl, rfl⟩) (fun _ p z => absurd z (by omega)))
theorem yf_lk_99 {i : Nat} {f0 : Nat → Int32} {post : Int32 → SY → Prop} (hc : c ≤ 24) (hi : i < c) (hk : sf_kd (b_kind i)) (h4 : ¬ b_kind i = 4) (h5 : ¬ b_kind i = 5) (hN : sf_ND c b_kind A B C) (hO : sf_Op b_op A B C)
    (Kp : ∀ r f, yf_ok c b_kind A B C f → yf_Fl f0 r f → (r = 0 → yf_lk c b_kind A B C f0 i) → post r (g_capacity, g_horizon, nI c, g_verdict, g_errorNode, g_ticks, g_saved, g_savedTicks, b_kind, b_op, b_out, f, b_clock, b_reach, b_late, b_depth, b_latched, b_there, b_val, b_savedLatched, b_savedThere, b_savedVal)) :
    ∀ n w r f, 1 ≤ w → w ≤ 4 → 4 - w < n → yf_ok c b_kind A B C f → yf_Fl f0 r f → (r = 0 → ∀ v, 1 ≤ v → v < w → sf_ro (b_kind i) v = 1 → ∀ q, q < 25 → f0 (i * 25 + q) = f0 (sf_tg A B C i v * 25 + q)) →
      wY_joinLinks_99 post (nI i) n r (nI w) g_capacity g_horizon (nI c) g_verdict g_errorNode g_ticks g_saved g_savedTicks b_kind b_op b_out f b_clock b_reach b_late b_depth b_latched b_there b_val b_savedLatched b_savedThere b_savedVal := by
  intro n
  induction n with
  | zero => intro w r f _ _ hn; omega
  | succ n ih =>
    intro w r f hw1 hw4 hn hok hF hv
    by_cases e : w = 4
    · subst e
      refine br_t (by decide) (And.intro (sf_nb (yf_Fl_b hF)) (Kp r f hok hF (fun e0 => ⟨fun z => absurd z h4, fun z => absurd z h5, fun _ _ v hv' hr => hv e0 v hv'.1 (by have := hv'.2; omega) hr⟩)))
    · have hW : sf_W w := ⟨hw1, by omega⟩
      have hcl : (nI i).toNatClampNeg = i := sf_cl (by omega)
      have hin : vp_in (nI i) 24 := sf_in (by omega) (by omega)
      refine br_f (sf_nlt (a := 3) (by omega) (by omega)) (And.intro hin ?_)
      rw [hcl]
      refine ys_role hk hW ?_
      by_cases hr : sf_ro (b_kind i) w = 1
      · obtain ⟨ht, ho⟩ := hN i hi w hW hr
        refine br_t hr ?_
        rw [sf_ix3 hw1, sf_cl (n := i * 3 + w - 1) (by omega), sf_Op_w hO (by omega) hW, ho]
        refine And.intro (sf_in (by omega) (by omega)) ?_
        refine yf_join hc hi ht (fun G hG => (hG i hi).2.2.2.2 h4 h5 w hW hr) hok (fun r' f' hok' hF' hq => ?_)
        by_cases e0 : r' = 0
        · refine br_t e0 (nm_r (nI_1 w) (ih (w + 1) r f' (by omega) (by omega) (by omega) hok' (yf_Fl_0 hF hF' e0) (fun er v h1 h2 hr' => ?_)))
          rcases (by omega : v < w ∨ v = w) with z | rfl
          · exact hv er v h1 z hr'
          · have := hq e0
            rw [yf_Fl_e hF er] at this
            exact this
        · exact br_f e0 (nm_r (nI_1 w) (ih (w + 1) 1 f' (by omega) (by omega) (by omega) hok' (yf_Fl_1 hF hF' e0) (fun z => absurd z (by decide))))
      · refine br_f hr (nm_r (nI_1 w) (ih (w + 1) r f (by omega) (by omega) (by omega) hok hF (fun er v h1 h2 hr' => ?_)))
        rcases (by omega : v < w ∨ v = w) with z | rfl
        · exact hv er v h1 z hr'
        · exact absurd hr' hr
theorem yf_lk_50 {i : Nat} {f0 : Nat → Int32} {post : Int32 → SY → Prop} (hc : c ≤ 24) (hi : i < c) (h5 : b_kind i = 5) (hN : sf_ND c b_kind A B C)
    (Kp : ∀ r f, yf_ok c b_kind A B C f → yf_Fl f0 r f → (r = 0 → yf_lk c b_kind A B C f0 i) → post r (g_capacity, g_horizon, nI c, g_verdict, g_errorNode, g_ticks, g_saved, g_savedTicks, b_kind, b_op, b_out, f, b_clock, b_reach, b_late, b_depth, b_latched, b_there, b_val, b_savedLatched, b_savedThere, b_savedVal)) :
    ∀ n k r f, k ≤ c → c - k < n → yf_ok c b_kind A B C f → yf_Fl f0 r f → (r = 0 → ∀ l, l < k → ¬ f0 (sf_tg A B C i 1 * 25 + (l + 1)) = 0 → ∀ q, q < 25 → f0 (i * 25 + q) = f0 (l * 25 + q)) →
      wY_joinLinks_50 post (nI i) (nI (sf_tg A B C i 1)) n r (nI k) g_capacity g_horizon (nI c) g_verdict g_errorNode g_ticks g_saved g_savedTicks b_kind b_op b_out f b_clock b_reach b_late b_depth b_latched b_there b_val b_savedLatched b_savedThere b_savedVal := by
  obtain ⟨ht, ho⟩ := hN i hi 1 sf_W1 (by rw [h5]; decide)
  intro n
  induction n with
  | zero => intro k r f _ hn; omega
  | succ n ih =>
    intro k r f hk hn hok hF hv
    rcases Nat.lt_or_ge k c with h | h
    · refine br_f (sf_nle h (by omega)) ?_
      rw [sf_i25, nI_1, sf_cl (n := sf_tg A B C i 1 * 25 + k + 1) (by omega)]
      refine And.intro (sf_in (by omega) (by omega)) ?_
      by_cases e : f (sf_tg A B C i 1 * 25 + k + 1) = 0
      · refine br_t e (nm_r (nI_1 k) (ih (k + 1) r f (by omega) (by omega) hok hF (fun er l hl hne => ?_)))
        rcases (by omega : l < k ∨ l = k) with z | rfl
        · exact hv er l z hne
        · rw [← yf_Fl_e hF er] at hne
          exact absurd e hne
      · refine br_f e ?_
        refine yf_join hc hi h (fun G hG => (hG i hi).2.2.2.1 h5 k h ?_) hok (fun r' f' hok' hF' hq => ?_)
        · have := hok.2.1 G hG _ ht (k + 1) (by omega) e
          have e' : yf_b (k + 1) = k := by unfold yf_b; rw [if_neg (by omega)]; omega
          rw [e'] at this
          exact this
        · by_cases e0 : r' = 0
          · refine br_t e0 (nm_r (nI_1 k) (ih (k + 1) r f' (by omega) (by omega) hok' (yf_Fl_0 hF hF' e0) (fun er l hl hne => ?_)))
            rcases (by omega : l < k ∨ l = k) with z | rfl
            · exact hv er l z hne
            · have := hq e0
              rw [yf_Fl_e hF er] at this
              exact this
          · exact br_f e0 (nm_r (nI_1 k) (ih (k + 1) 1 f' (by omega) (by omega) hok' (yf_Fl_1 hF hF' e0) (fun z => absurd z (by decide))))
    · have : k = c := by omega
      subst this
      refine br_t (sf_le (by omega) (by omega)) (And.intro (sf_nb (yf_Fl_b hF)) (Kp r f hok hF (fun e0 => ⟨fun z => absurd (h5.symm.trans z) (by decide), fun _ l hl hne => hv e0 l hl hne, fun _ z => absurd h5 z⟩)))
theorem yf_links {i : Nat} {post : Int32 → SY → Prop} (hc : c ≤ 24) (hi : i < c) (hk : sf_kd (b_kind i)) (hN : sf_ND c b_kind A B C) (hO : sf_Op b_op A B C) (hok : yf_ok c b_kind A B C b_fact)
    (Kp : ∀ r f, yf_ok c b_kind A B C f → yf_Fl b_fact r f → (r = 0 → yf_lk c b_kind A B C b_fact i) → post r (g_capacity, g_horizon, nI c, g_verdict, g_errorNode, g_ticks, g_saved, g_savedTicks, b_kind, b_op, b_out, f, b_clock, b_reach, b_late, b_depth, b_latched, b_there, b_val, b_savedLatched, b_savedThere, b_savedVal)) : wpY_joinLinks post (g_capacity, g_horizon, nI c, g_verdict, g_errorNode, g_ticks, g_saved, g_savedTicks, b_kind, b_op, b_out, b_fact, b_clock, b_reach, b_late, b_depth, b_latched, b_there, b_val, b_savedLatched, b_savedThere, b_savedVal) (nI i) := by
  have hcl : (nI i).toNatClampNeg = i := sf_cl (by omega)
  have hin : vp_in (nI i) 24 := sf_in (by omega) (by omega)
  obtain ⟨o1, o2, _⟩ := hO i (by omega)
  unfold wpY_joinLinks
  dsimp only
  rw [sf_i3, nI_1, sf_cl (n := i * 3) (by omega), sf_cl (n := i * 3 + 1) (by omega), hcl, o1, o2]
  refine And.intro (sf_in (by omega) (by omega)) (nm_e (And.intro hin ?_))
  by_cases h4 : b_kind i = 4
  · obtain ⟨t1, p1⟩ := hN i hi 1 sf_W1 (by rw [h4]; decide)
    obtain ⟨t2, p2⟩ := hN i hi 2 sf_W2 (by rw [h4]; decide)
    have p1' : A i = nI (sf_tg A B C i 1) := p1
    have p2' : B i = nI (sf_tg A B C i 2) := p2
    refine br_t h4 (And.intro (sf_in (by omega) (by omega)) ?_)
    rw [p1', p2']
    refine yf_join hc t1 t2 (fun G hG => (hG i hi).2.2.1 h4) hok (fun r' f' hok' hF' hq => ?_)
    exact And.intro (sf_nb (yf_Fl_b hF')) (Kp r' f' hok' hF' (fun e0 => ⟨fun _ => hq e0, fun z => absurd (h4.symm.trans z) (by decide), fun z => absurd h4 z⟩))
  · refine br_f h4 (And.intro hin ?_)
    by_cases h5 : b_kind i = 5
    · obtain ⟨t1, p1⟩ := hN i hi 1 sf_W1 (by rw [h5]; decide)
      have p1' : A i = nI (sf_tg A B C i 1) := p1
      refine br_t h5 ?_
      rw [p1']
      exact Exists.intro (c + 1) (yf_lk_50 hc hi h5 hN Kp (c + 1) 0 0 _ (by omega) (by omega) hok (Or.inl ⟨rfl, rfl⟩) (fun _ l z => absurd z (by omega)))
    · refine br_f h5 (Exists.intro 5 ?_)
      exact yf_lk_99 hc hi hk h4 h5 hN hO Kp 5 1 0 _ (by omega) (by omega) (by omega) hok (Or.inl ⟨rfl, rfl⟩) (fun _ v h1 h2 => absurd h2 (by omega))
theorem yf_109 {p : Nat} {f0 : Nat → Int32} {post : SY → Prop} {J94 : Int32 → Int32 → Int32 → Int32 → Int32 → Int32 → Int32 → Int32 → Int32 → Int32 → (Nat → Int32) → (Nat → Int32) → (Nat → Int32) → (Nat → Int32) → (Nat → Int32) → (Nat → Int32) → (Nat → Int32) → (Nat → Int32) → (Nat → Int32) → (Nat → Int32) → (Nat → Int32) → (Nat → Int32) → (Nat → Int32) → (Nat → Int32) → Prop} (hc : c ≤ 24) (hk : ∀ i, i < c → sf_kd (b_kind i)) (hN : sf_ND c b_kind A B C) (hO : sf_Op b_op A B C)
    (KJ : ∀ r f, yf_ok c b_kind A B C f → yf_Fl f0 r f → (r = 0 → ∀ i, i < c → yf_lk c b_kind A B C f0 i) → J94 r (nI (p + 1)) g_capacity g_horizon (nI c) g_verdict g_errorNode g_ticks g_saved g_savedTicks b_kind b_op b_out f b_clock b_reach b_late b_depth b_latched b_there b_val b_savedLatched b_savedThere b_savedVal) :
    ∀ n i r f, i ≤ c → c - i < n → yf_ok c b_kind A B C f → yf_Fl f0 r f → (r = 0 → ∀ j, j < i → yf_lk c b_kind A B C f0 j) → wY_closeFacts_109 post J94 (nI p) n r (nI i) g_capacity g_horizon (nI c) g_verdict g_errorNode g_ticks g_saved g_savedTicks b_kind b_op b_out f b_clock b_reach b_late b_depth b_latched b_there b_val b_savedLatched b_savedThere b_savedVal := by
  intro n
  induction n with
  | zero => intro i r f _ hn; omega
  | succ n ih =>
    intro i r f hi hn hok hF hv
    rcases Nat.lt_or_ge i c with h | h
    · refine br_f (sf_nle h (by omega)) ?_
      refine yf_links hc h (hk i h) hN hO hok (fun r' f' hok' hF' hq => ?_)
      by_cases e0 : r' = 0
      · refine br_t e0 (nm_r (nI_1 i) (ih (i + 1) r f' (by omega) (by omega) hok' (yf_Fl_0 hF hF' e0) (fun er j hj => ?_)))
        rcases (by omega : j < i ∨ j = i) with z | rfl
        · exact hv er j z
        · have := hq e0
          rw [yf_Fl_e hF er] at this
          exact this
      · exact br_f e0 (nm_r (nI_1 i) (ih (i + 1) 1 f' (by omega) (by omega) hok' (yf_Fl_1 hF hF' e0) (fun z => absurd z (by decide))))
    · have : i = c := by omega
      subst this
      exact br_t (sf_le (by omega) (by omega)) (nm_r (nI_1 p) (KJ r f hok hF hv))
theorem yf_94 {F : Nat → Nat → Prop} {post : SY → Prop} (hc : c ≤ 24) (hk : ∀ i, i < c → sf_kd (b_kind i)) (hN : sf_ND c b_kind A B C) (hO : sf_Op b_op A B C) (hL : sf_Lst c b_kind A B C F)
    (Kp : ∀ f, (∀ i, i < c → ∀ b, b < 25 → (¬ f (i * 25 + yf_q b) = 0 ↔ F i b)) → post (g_capacity, g_horizon, nI c, g_verdict, g_errorNode, g_ticks, g_saved, g_savedTicks, b_kind, b_op, b_out, f, b_clock, b_reach, b_late, b_depth, b_latched, b_there, b_val, b_savedLatched, b_savedThere, b_savedVal)) :
    ∀ n p r f, p ≤ 601 → 601 - p < n → yf_ok c b_kind A B C f → ((r = 1 ∧ yf_z f + p ≤ 600) ∨ (r = 0 ∧ ∀ i, i < c → yf_lk c b_kind A B C f i)) → wY_closeFacts_94 post n r (nI p) g_capacity g_horizon (nI c) g_verdict g_errorNode g_ticks g_saved g_savedTicks b_kind b_op b_out f b_clock b_reach b_late b_depth b_latched b_there b_val b_savedLatched b_savedThere b_savedVal := by
  intro n
  induction n with
  | zero => intro p r f _ hn; omega
  | succ n ih =>
    intro p r f hp hn hok hI
    rcases hI with ⟨e1, hz⟩ | ⟨e0, hl⟩
    · refine br_f (sf_nlt (a := 600) (by omega) (by omega)) (br_f (by rw [e1]; decide) (Exists.intro (c + 1) ?_))
      refine yf_109 (f0 := f) hc hk hN hO (fun r' f' hok' hF' hl' => ?_) (c + 1) 0 0 f (by omega) (by omega) hok (Or.inl ⟨rfl, rfl⟩) (fun _ j z => absurd z (by omega))
      refine ih (p + 1) r' f' (by omega) (by omega) hok' ?_
      rcases hF' with ⟨z, e⟩ | ⟨z, hlt⟩
      · exact Or.inr ⟨z, by rw [e]; exact hl' z⟩
      · exact Or.inl ⟨z, by omega⟩
    · have fin := Kp f (yf_done hc hN hL hok hl)
      rcases Nat.lt_or_ge 600 p with h | h
      · exact br_t (sf_lt (a := 600) h (by omega)) fin
      · exact br_f (sf_nlt (a := 600) h (by omega)) (br_t e0 fin)
theorem yf_51 {i : Nat} {post : SY → Prop} {J24 : Int32 → (Nat → Int32) → (Nat → Int32) → (Nat → Int32) → (Nat → Int32) → (Nat → Int32) → (Nat → Int32) → (Nat → Int32) → (Nat → Int32) → (Nat → Int32) → (Nat → Int32) → (Nat → Int32) → (Nat → Int32) → (Nat → Int32) → (Nat → Int32) → Prop} (hc : c ≤ 24) (hi : i < c) (hN : sf_ND c b_kind A B C) (hO : sf_Op b_op A B C)
    (K4 : b_kind i = 4 → J24 (nI (i + 1)) b_kind b_op b_out (upd b_fact (i * 25 + (sf_tg A B C i 2 + 1)) 1) b_clock b_reach b_late b_depth b_latched b_there b_val b_savedLatched b_savedThere b_savedVal) (K0 : ¬ b_kind i = 4 → J24 (nI (i + 1)) b_kind b_op b_out b_fact b_clock b_reach b_late b_depth b_latched b_there b_val b_savedLatched b_savedThere b_savedVal) : wY_closeFacts_51 post J24 (nI i) g_capacity g_horizon (nI c) g_verdict g_errorNode g_ticks g_saved g_savedTicks b_kind b_op b_out b_fact b_clock b_reach b_late b_depth b_latched b_there b_val b_savedLatched b_savedThere b_savedVal := by
  have hcl : (nI i).toNatClampNeg = i := sf_cl (by omega)
  have hin : vp_in (nI i) 24 := sf_in (by omega) (by omega)
  obtain ⟨o1, o2, _⟩ := hO i (by omega)
  unfold wY_closeFacts_51
  rw [hcl]
  refine And.intro hin ?_
  by_cases h4 : b_kind i = 4
  · obtain ⟨t2, p2⟩ := hN i hi 2 sf_W2 (by rw [h4]; decide)
    have p2' : B i = nI (sf_tg A B C i 2) := p2
    refine br_t h4 ?_
    rw [sf_i31, sf_cl (n := i * 3 + 1) (by omega), o2, p2', sf_i25, nI_1, sf_cl (n := i * 25 + sf_tg A B C i 2 + 1) (by omega)]
    exact And.intro (sf_in (by omega) (by omega)) (And.intro (sf_in (by omega) (by omega)) (nm_e (nm_r (nI_1 i) (K4 h4))))
  · exact br_f h4 (nm_r (nI_1 i) (K0 h4))
theorem yf_24 {F : Nat → Nat → Prop} {post : SY → Prop} (hc : c ≤ 24) (hk : ∀ i, i < c → sf_kd (b_kind i)) (hN : sf_ND c b_kind A B C) (hO : sf_Op b_op A B C) (hL : sf_Lst c b_kind A B C F)
    (Kp : ∀ f, (∀ i, i < c → ∀ b, b < 25 → (¬ f (i * 25 + yf_q b) = 0 ↔ F i b)) → post (g_capacity, g_horizon, nI c, g_verdict, g_errorNode, g_ticks, g_saved, g_savedTicks, b_kind, b_op, b_out, f, b_clock, b_reach, b_late, b_depth, b_latched, b_there, b_val, b_savedLatched, b_savedThere, b_savedVal)) :
    ∀ n i f, i ≤ c → c - i < n → (∀ j, j < 600 → f j = 0 ∨ f j = 1) → (∀ G, sf_Cl c b_kind A B C G → ∀ j, j < c → ∀ q, q < 25 → ¬ f (j * 25 + q) = 0 → G j (yf_b q)) →
      (∀ j, j < i → (b_kind j = 0 → ¬ f (j * 25) = 0) ∧ (b_kind j = 4 → ¬ f (j * 25 + (sf_tg A B C j 2 + 1)) = 0)) → wY_closeFacts_24 post g_capacity g_horizon (nI c) g_verdict g_errorNode g_ticks g_saved g_savedTicks n (nI i) b_kind b_op b_out f b_clock b_reach b_late b_depth b_latched b_there b_val b_savedLatched b_savedThere b_savedVal := by
  intro n
  induction n with
  | zero => intro i f _ hn; omega
  | succ n ih =>
    intro i f hi hn h1 h2 h3
    rcases Nat.lt_or_ge i c with h | h
    · have hcl : (nI i).toNatClampNeg = i := sf_cl (by omega)
      have hin : vp_in (nI i) 24 := sf_in (by omega) (by omega)
      have go : ∀ (g : Nat → Int32) (a : Nat), a < 25 → (∀ j, g j = if j = i * 25 + a then 1 else f j) → (∀ G, sf_Cl c b_kind A B C G → G i (yf_b a)) →
          ((b_kind i = 0 → a = 0) ∧ (b_kind i = 4 → a = sf_tg A B C i 2 + 1)) → wY_closeFacts_24 post g_capacity g_horizon (nI c) g_verdict g_errorNode g_ticks g_saved g_savedTicks n (nI (i + 1)) b_kind b_op b_out g b_clock b_reach b_late b_depth b_latched b_there b_val b_savedLatched b_savedThere b_savedVal := by
        intro g a ha hg hG hi2
        refine ih (i + 1) g (by omega) (by omega) (fun j hj => ?_) (fun G hGc j hj q hq hn' => ?_) (fun j hj => ?_)
        · rw [hg j]
          by_cases e : j = i * 25 + a
          · rw [if_pos e]; exact Or.inr rfl
          · rw [if_neg e]; exact h1 j hj
        · rw [hg] at hn'
          by_cases e : j * 25 + q = i * 25 + a
          · have e' : j = i ∧ q = a := by omega
            rw [e'.1, e'.2]; exact hG G hGc
          · rw [if_neg e] at hn'; exact h2 G hGc j hj q hq hn'
        · have keep : ∀ x, ¬ f x = 0 → ¬ g x = 0 := by
            intro x hx
            rw [hg x]
            by_cases e : x = i * 25 + a
            · rw [if_pos e]; decide
            · rw [if_neg e]; exact hx
          rcases (by omega : j < i ∨ j = i) with z | rfl
          · exact ⟨fun e => keep _ ((h3 j z).1 e), fun e => keep _ ((h3 j z).2 e)⟩
          · refine ⟨fun e => ?_, fun e => ?_⟩
            · rw [hg, if_pos (by rw [hi2.1 e]; rfl)]; decide
            · rw [hg, if_pos (by rw [hi2.2 e])]; decide
      refine br_f (sf_nle h (by omega)) (And.intro hin ?_)
      rw [hcl]
      by_cases h0 : b_kind i = 0
      · refine br_t h0 ?_
        rw [sf_m25, sf_cl (n := i * 25) (by omega)]
        refine And.intro (sf_in (by omega) (by omega)) (nm_e (yf_51 hc h hN hO (fun z => absurd (h0.symm.trans z) (by decide)) (fun _ => ?_)))
        exact go _ 0 (by omega) (fun j => rfl) (fun G hG => (hG i h).1 h0) ⟨fun _ => rfl, fun z => absurd (h0.symm.trans z) (by decide)⟩
      · refine br_f h0 (yf_51 hc h hN hO (fun h4 => ?_) (fun h4 => ?_))
        · have t2 := (hN i h 2 sf_W2 (by rw [h4]; decide)).1
          refine go _ (sf_tg A B C i 2 + 1) (by omega) (fun j => rfl) (fun G hG => ?_) ⟨fun z => absurd z h0, fun _ => rfl⟩
          have e' : yf_b (sf_tg A B C i 2 + 1) = sf_tg A B C i 2 := by unfold yf_b; rw [if_neg (by omega)]; omega
          rw [e']; exact (hG i h).2.1 h4
        · refine ih (i + 1) f (by omega) (by omega) h1 h2 (fun j hj => ?_)
          rcases (by omega : j < i ∨ j = i) with z | rfl
          · exact h3 j z
          · exact ⟨fun z => absurd z h0, fun z => absurd z h4⟩
    · have : i = c := by omega
      subst this
      refine br_t (sf_le (by omega) (by omega)) (Exists.intro 602 ?_)
      refine yf_94 hc hk hN hO hL Kp 602 0 1 f (by omega) (by omega) ⟨h1, h2, h3⟩ (Or.inl ⟨rfl, ?_⟩)
      have := sf_cn_le (fun j => f j = 0) 600
      exact this
theorem yf_2 {F : Nat → Nat → Prop} {post : SY → Prop} (hc : c ≤ 24) (hk : ∀ i, i < c → sf_kd (b_kind i)) (hN : sf_ND c b_kind A B C) (hO : sf_Op b_op A B C) (hL : sf_Lst c b_kind A B C F)
    (Kp : ∀ f, (∀ i, i < c → ∀ b, b < 25 → (¬ f (i * 25 + yf_q b) = 0 ↔ F i b)) → post (g_capacity, g_horizon, nI c, g_verdict, g_errorNode, g_ticks, g_saved, g_savedTicks, b_kind, b_op, b_out, f, b_clock, b_reach, b_late, b_depth, b_latched, b_there, b_val, b_savedLatched, b_savedThere, b_savedVal)) :
    ∀ n i f, i ≤ 600 → 600 - i < n → (∀ j, j < i → f j = 0) → wY_closeFacts_2 post g_capacity g_horizon (nI c) g_verdict g_errorNode g_ticks g_saved g_savedTicks n (nI i) b_kind b_op b_out f b_clock b_reach b_late b_depth b_latched b_there b_val b_savedLatched b_savedThere b_savedVal := by
  intro n
  induction n with
  | zero => intro i f _ hn; omega
  | succ n ih =>
    intro i f hi hn hI
    rcases Nat.lt_or_ge i 600 with h | h
    · refine br_f (sf_nle (b := 600) h (by omega)) (And.intro (sf_in h (by omega)) ?_)
      rw [sf_cl (by omega)]
      refine nm_e (nm_r (nI_1 i) (ih (i + 1) _ (by omega) (by omega) (fun j hj => ?_)))
      rcases (by omega : j < i ∨ j = i) with z | rfl
      · rw [sf_un (by omega)]; exact hI j z
      · rw [sf_us]; rfl
    · have : i = 600 := by omega
      subst this
      refine br_t (by decide) (Exists.intro (c + 1) ?_)
      exact yf_24 hc hk hN hO hL Kp (c + 1) 0 f (by omega) (by omega) (fun j hj => Or.inl (hI j hj)) (fun G _ j hj q hq hn' => absurd (hI _ (by omega)) hn') (fun j z => absurd z (by omega))
theorem yf_close {F : Nat → Nat → Prop} {post : SY → Prop} (hc : c ≤ 24) (hk : ∀ i, i < c → sf_kd (b_kind i)) (hN : sf_ND c b_kind A B C) (hO : sf_Op b_op A B C) (hL : sf_Lst c b_kind A B C F)
    (Kp : ∀ f, (∀ i, i < c → ∀ b, b < 25 → (¬ f (i * 25 + yf_q b) = 0 ↔ F i b)) → post (g_capacity, g_horizon, nI c, g_verdict, g_errorNode, g_ticks, g_saved, g_savedTicks, b_kind, b_op, b_out, f, b_clock, b_reach, b_late, b_depth, b_latched, b_there, b_val, b_savedLatched, b_savedThere, b_savedVal)) : wpY_closeFacts post (g_capacity, g_horizon, nI c, g_verdict, g_errorNode, g_ticks, g_saved, g_savedTicks, b_kind, b_op, b_out, b_fact, b_clock, b_reach, b_late, b_depth, b_latched, b_there, b_val, b_savedLatched, b_savedThere, b_savedVal) :=
  Exists.intro 601 (yf_2 hc hk hN hO hL Kp 601 0 _ (by omega) (by omega) (fun j z => absurd z (by omega)))
end
end
section
/-! the reference's checks up to the needs -/
def yk_k (s : Nat) : Int32 := if s = 0 then -1 else nI (s - 1)
theorem yk_s (s : Nat) : yk_k (s + 1) = nI s := rfl
theorem yk_1 (s : Nat) : yk_k s + 1 = yk_k (s + 1) := by
  cases s with
  | zero => rfl
  | succ s => rw [yk_s, yk_s, nI_1]
theorem yk_25 (i s : Nat) : nI i * 25 + yk_k s + 1 = nI (i * 25 + s) := by
  cases s with
  | zero =>
    rw [sf_m25, Int32.add_assoc, show yk_k 0 + 1 = 0 from rfl, Int32.add_zero]
    rfl
  | succ s => rw [yk_s, sf_i25, nI_1]; rfl
theorem yk_le {c s : Nat} (hc : c ≤ 24) (hs : s ≤ 30) : nI c ≤ yk_k s ↔ c + 1 ≤ s := by
  cases s with
  | zero => exact ⟨fun h => absurd h (by
      have : yk_k 0 = -1 := rfl
      rw [this, Int32.le_iff_toInt_le, nI_toInt (by omega)]
      have : (-1 : Int32).toInt = -1 := by decide
      omega), fun h => absurd h (by omega)⟩
  | succ s => rw [yk_s, nI_leI (by omega) (by omega)]; omega
section
variable {g_capacity g_horizon g_count g_verdict g_errorNode g_ticks g_saved g_savedTicks : Int32} {b_kind b_op b_out b_fact b_clock b_reach b_late b_depth b_latched b_there b_val b_savedLatched b_savedThere b_savedVal : Nat → Int32} {A B C : Nat → Int32} {c : Nat}
theorem ya_dang_12 {i : Nat} {post J2 : Int32 → Prop} (hc : c ≤ 24) (hi : i < c) (hk : sf_kd (b_kind i)) (hO : sf_Op b_op A B C)
    (K1 : sf_dang c b_kind A B C i → post (nI i)) (K0 : ¬ sf_dang c b_kind A B C i → J2 (nI (i + 1))) :
    ∀ n w, 1 ≤ w → w ≤ 4 → 4 - w < n → (∀ v, 1 ≤ v → v < w → sf_ro (b_kind i) v = 1 → sf_od A B C i v < nI c) → wY_firstDangling_12 post J2 (nI i) g_capacity g_horizon (nI c) g_verdict g_errorNode g_ticks g_saved g_savedTicks b_kind b_op b_out b_fact b_clock b_reach b_late b_depth b_latched b_there b_val b_savedLatched b_savedThere b_savedVal n (nI w) := by
  intro n
  induction n with
  | zero => intro w _ _ hn; omega
  | succ n ih =>
    intro w hw1 hw4 hn hv
    by_cases e : w = 4
    · subst e
      refine br_t (by decide) (nm_r (nI_1 i) (K0 ?_))
      rintro ⟨v, hv', hr, ho⟩
      exact ho (hv v hv'.1 (by have := hv'.2; omega) hr)
    · have hW : sf_W w := ⟨hw1, by omega⟩
      have hcl : (nI i).toNatClampNeg = i := sf_cl (by omega)
      have hin : vp_in (nI i) 24 := sf_in (by omega) (by omega)
      refine br_f (sf_nlt (a := 3) (by omega) (by omega)) (And.intro hin ?_)
      rw [hcl]
      refine ys_role hk hW ?_
      have go : (sf_ro (b_kind i) w = 1 → sf_od A B C i w < nI c) → wY_firstDangling_12 post J2 (nI i) g_capacity g_horizon (nI c) g_verdict g_errorNode g_ticks g_saved g_savedTicks b_kind b_op b_out b_fact b_clock b_reach b_late b_depth b_latched b_there b_val b_savedLatched b_savedThere b_savedVal n (nI (w + 1)) := by
        intro hw
        refine ih (w + 1) (by omega) (by omega) (by omega) (fun v h1 h2 hr => ?_)
        rcases (by omega : v < w ∨ v = w) with z | rfl
        · exact hv v h1 z hr
        · exact hw hr
      by_cases hr : sf_ro (b_kind i) w = 1
      · refine br_t hr ?_
        rw [sf_ix3 hw1, sf_cl (n := i * 3 + w - 1) (by omega), sf_Op_w hO (by omega) hW]
        refine And.intro (sf_in (by omega) (by omega)) ?_
        by_cases ho : sf_od A B C i w < nI c
        · exact br_t ho (nm_r (nI_1 w) (go fun _ => ho))
        · exact br_f ho (K1 ⟨w, hW, hr, ho⟩)
      · exact br_f hr (nm_r (nI_1 w) (go fun z => absurd z hr))
theorem ya_dang_2 {post : Int32 → Prop} (hc : c ≤ 24) (hk : ∀ i, i < c → sf_kd (b_kind i)) (hO : sf_Op b_op A B C) (Kp : ∀ r, sf_FI c (sf_dang c b_kind A B C) r → post r) :
    ∀ n i, i ≤ c → c - i < n → (∀ j, j < i → ¬ sf_dang c b_kind A B C j) → wY_firstDangling_2 post g_capacity g_horizon (nI c) g_verdict g_errorNode g_ticks g_saved g_savedTicks b_kind b_op b_out b_fact b_clock b_reach b_late b_depth b_latched b_there b_val b_savedLatched b_savedThere b_savedVal n (nI i) := by
  intro n
  induction n with
  | zero => intro i _ hn; omega
  | succ n ih =>
    intro i hi hn hj
    rcases Nat.lt_or_ge i c with h | h
    · refine br_f (sf_nle h (by omega)) (Exists.intro 5 ?_)
      refine ya_dang_12 hc h (hk i h) hO (fun hd => Kp _ (sf_FI_s h hd hj)) (fun hd => ?_) 5 1 (by omega) (by omega) (by omega) (fun v h1 h2 => absurd h2 (by omega))
      refine ih (i + 1) (by omega) (by omega) (fun j hj' => ?_)
      rcases (by omega : j < i ∨ j = i) with z | rfl
      · exact hj j z
      · exact hd
    · have : i = c := by omega
      subst this
      exact br_t (sf_le (by omega) (by omega)) (Kp _ (sf_FI_n hj))
theorem ya_dang {post : Int32 → Prop} (hc : c ≤ 24) (hk : ∀ i, i < c → sf_kd (b_kind i)) (hO : sf_Op b_op A B C) (Kp : ∀ r, sf_FI c (sf_dang c b_kind A B C) r → post r) : wpY_firstDangling post (g_capacity, g_horizon, nI c, g_verdict, g_errorNode, g_ticks, g_saved, g_savedTicks, b_kind, b_op, b_out, b_fact, b_clock, b_reach, b_late, b_depth, b_latched, b_there, b_val, b_savedLatched, b_savedThere, b_savedVal) :=
  Exists.intro (c + 1) (ya_dang_2 hc hk hO Kp (c + 1) 0 (by omega) (by omega) (fun j z => absurd z (by omega)))
def ya_CI (f : Nat → Int32) (i s v : Nat) (x : Int32) : Prop :=
  (v = 0 ∧ (∀ q, q < s → f (i * 25 + q) = 0) ∧ x = -1) ∨ (v = 1 ∧ ∃ p, p < s ∧ ¬ f (i * 25 + p) = 0 ∧ (∀ q, q < s → q ≠ p → f (i * 25 + q) = 0) ∧ x = yk_k p) ∨
  (2 ≤ v ∧ ∃ p q, p < s ∧ q < s ∧ p ≠ q ∧ ¬ f (i * 25 + p) = 0 ∧ ¬ f (i * 25 + q) = 0)
theorem ya_CI_0 {f : Nat → Int32} {i s v : Nat} {x : Int32} (h : ya_CI f i s v x) (hz : f (i * 25 + s) = 0) : ya_CI f i (s + 1) v x := by
  rcases h with ⟨h1, h2, h3⟩ | ⟨h1, p, h2, h3, h4, h5⟩ | ⟨h1, p, q, h2, h3, h4⟩
  · refine Or.inl ⟨h1, fun q hq => ?_, h3⟩
    rcases (by omega : q < s ∨ q = s) with z | rfl
    · exact h2 q z
    · exact hz
  · refine Or.inr (Or.inl ⟨h1, p, by omega, h3, fun q hq hne => ?_, h5⟩)
    rcases (by omega : q < s ∨ q = s) with z | rfl
    · exact h4 q z hne
    · exact hz
  · exact Or.inr (Or.inr ⟨h1, p, q, by omega, by omega, h4⟩)
theorem ya_CI_1 {f : Nat → Int32} {i s v : Nat} {x : Int32} (h : ya_CI f i s v x) (hz : ¬ f (i * 25 + s) = 0) : ya_CI f i (s + 1) (v + 1) (yk_k s) := by
  rcases h with ⟨h1, h2, h3⟩ | ⟨h1, p, h2, h3, h4, h5⟩ | ⟨h1, p, q, h2, h3, h4⟩
  · refine Or.inr (Or.inl ⟨by omega, s, by omega, hz, fun q hq hne => h2 q (by omega), rfl⟩)
  · exact Or.inr (Or.inr ⟨by omega, p, s, by omega, by omega, by omega, h3, hz⟩)
  · exact Or.inr (Or.inr ⟨by omega, p, q, by omega, by omega, h4⟩)
theorem ya_clash_21 {i : Nat} {ck : Nat → Int32} {post : Int32 → SY → Prop} {J2 : Int32 → (Nat → Int32) → (Nat → Int32) → (Nat → Int32) → (Nat → Int32) → (Nat → Int32) → (Nat → Int32) → (Nat → Int32) → (Nat → Int32) → (Nat → Int32) → (Nat → Int32) → (Nat → Int32) → (Nat → Int32) → (Nat → Int32) → (Nat → Int32) → Prop} (hc : c ≤ 24) (hi : i < c)
    (KJ : ∀ g v, (∀ j, j ≠ i → g j = ck j) → v < 2 → ya_CI b_fact i (c + 1) v (g i) → J2 (nI (i + 1)) b_kind b_op b_out b_fact g b_reach b_late b_depth b_latched b_there b_val b_savedLatched b_savedThere b_savedVal)
    (K1 : ∀ g v, 2 ≤ v → ya_CI b_fact i (c + 1) v (g i) → post (nI i) (g_capacity, g_horizon, nI c, g_verdict, g_errorNode, g_ticks, g_saved, g_savedTicks, b_kind, b_op, b_out, b_fact, g, b_reach, b_late, b_depth, b_latched, b_there, b_val, b_savedLatched, b_savedThere, b_savedVal)) :
    ∀ n s v g, s ≤ c + 1 → c + 1 - s < n → v ≤ s → (∀ j, j ≠ i → g j = ck j) → ya_CI b_fact i s v (g i) → wY_firstClash_21 post J2 (nI i) g_capacity g_horizon (nI c) g_verdict g_errorNode g_ticks g_saved g_savedTicks n (nI v) (yk_k s) b_kind b_op b_out b_fact g b_reach b_late b_depth b_latched b_there b_val b_savedLatched b_savedThere b_savedVal := by
  intro n
  induction n with
  | zero => intro s v g _ hn; omega
  | succ n ih =>
    intro s v g hs hn hv hg hI
    rcases Nat.lt_or_ge s (c + 1) with h | h
    · refine br_f (fun z => absurd ((yk_le hc (by omega)).mp z) (by omega)) ?_
      rw [yk_25, sf_cl (by omega)]
      refine And.intro (sf_in (by omega) (by omega)) ?_
      by_cases e : b_fact (i * 25 + s) = 0
      · exact br_t e (nm_r (yk_1 s) (ih (s + 1) v g (by omega) (by omega) (by omega) hg (ya_CI_0 hI e)))
      · refine br_f e (nm_r (nI_1 v) (And.intro (sf_in (by omega) (by omega)) ?_))
        rw [sf_cl (n := i) (by omega)]
        refine nm_e (nm_r (yk_1 s) (ih (s + 1) (v + 1) _ (by omega) (by omega) (by omega) (fun j hj => ?_) ?_))
        · rw [sf_un hj]; exact hg j hj
        · rw [sf_us]; exact ya_CI_1 hI e
    · have : s = c + 1 := by omega
      subst this
      refine br_t ((yk_le hc (by omega)).mpr (by omega)) ?_
      rcases Nat.lt_or_ge v 2 with z | z
      · exact br_t (sf_lt (b := 2) z (by omega)) (nm_r (nI_1 i) (KJ g v hg z hI))
      · exact br_f (sf_nlt (b := 2) z (by omega)) (K1 g v z hI)
theorem ya_CI_end {F : Nat → Nat → Prop} {f : Nat → Int32} {i v : Nat} {x : Int32} (hc : c ≤ 24) (hi : i < c) (hF : ∀ b, b < 25 → (¬ f (i * 25 + yf_q b) = 0 ↔ F i b)) (hB : ∀ q, F i q → q = 24 ∨ q < c)
    (h : ya_CI f i (c + 1) v x) : (v < 2 → ¬ sf_clash F i ∧ sf_CKi c F i x) ∧ (2 ≤ v → sf_clash F i) := by
  have hq : ∀ b, F i b → b < 25 ∧ yf_q b < c + 1 ∧ ¬ f (i * 25 + yf_q b) = 0 := by
    intro b hb
    have h25 : b < 25 := by rcases hB b hb with z | z <;> omega
    refine ⟨h25, ?_, (hF b h25).mpr hb⟩
    unfold yf_q
    rcases hB b hb with z | z
    · rw [if_pos z]; omega
    · rw [if_neg (by omega)]; omega
  have hinj : ∀ a b, a < 25 → b < 25 → yf_q a = yf_q b → a = b := by
    intro a b ha hb e
    have := (yf_bq ha).2
    rw [e, (yf_bq hb).2] at this
    exact this.symm
  refine ⟨fun hv => ?_, fun hv => ?_⟩
  · rcases h with ⟨h1, h2, h3⟩ | ⟨h1, p, h2, h3, h4, h5⟩ | ⟨h1, _⟩
    · have none : ∀ b, ¬ F i b := fun b hb => (hq b hb).2.2 (h2 _ (hq b hb).2.1)
      exact ⟨fun ⟨a, _, _, ha, _⟩ => none a ha, Or.inr ⟨fun k _ => none k, h3⟩⟩
    · have uniq : ∀ b, F i b → yf_q b = p := by
        intro b hb
        apply Classical.byContradiction
        intro hne
        exact (hq b hb).2.2 (h4 _ (hq b hb).2.1 hne)
      refine ⟨fun ⟨a, b, hab, ha, hb⟩ => hab (hinj a b (hq a ha).1 (hq b hb).1 ((uniq a ha).trans (uniq b hb).symm)), ?_⟩
      by_cases e : p = 0
      · subst e
        refine Or.inr ⟨fun k hk hF' => ?_, h5⟩
        have := uniq k hF'
        unfold yf_q at this
        rw [if_neg (by omega)] at this
        omega
      · have e2 : yf_q (p - 1) = p := by unfold yf_q; rw [if_neg (by omega)]; omega
        refine Or.inl ⟨p - 1, by omega, (hF (p - 1) (by omega)).mp (by rw [e2]; exact h3), ?_⟩
        rw [h5]; unfold yk_k; rw [if_neg e]
    · omega
  · rcases h with ⟨h1, _⟩ | ⟨h1, _⟩ | ⟨_, p, q, hp, hq', hne, h3, h4⟩
    · omega
    · omega
    · have hp' := yf_qb (q := p) (by omega)
      have hq'' := yf_qb (q := q) (by omega)
      refine ⟨yf_b p, yf_b q, fun e => hne ?_, (hF _ hp'.1).mp (by rw [hp'.2]; exact h3), (hF _ hq''.1).mp (by rw [hq''.2]; exact h4)⟩
      rw [← hp'.2, ← hq''.2, e]
theorem ya_clash_2 {F : Nat → Nat → Prop} {post : Int32 → SY → Prop} (hc : c ≤ 24) (hF : ∀ i, i < c → ∀ b, b < 25 → (¬ b_fact (i * 25 + yf_q b) = 0 ↔ F i b)) (hB : ∀ i, i < c → ∀ q, F i q → q = 24 ∨ q < c)
    (Kp : ∀ r ck, sf_FI c (sf_clash F) r → (r < 0 → sf_CK c F ck) → post r (g_capacity, g_horizon, nI c, g_verdict, g_errorNode, g_ticks, g_saved, g_savedTicks, b_kind, b_op, b_out, b_fact, ck, b_reach, b_late, b_depth, b_latched, b_there, b_val, b_savedLatched, b_savedThere, b_savedVal)) :
    ∀ n i ck, i ≤ c → c - i < n → (∀ j, j < i → ¬ sf_clash F j) → (∀ j, j < i → sf_CKi c F j (ck j)) → wY_firstClash_2 post g_capacity g_horizon (nI c) g_verdict g_errorNode g_ticks g_saved g_savedTicks n (nI i) b_kind b_op b_out b_fact ck b_reach b_late b_depth b_latched b_there b_val b_savedLatched b_savedThere b_savedVal := by
  intro n
  induction n with
  | zero => intro i ck _ hn; omega
  | succ n ih =>
    intro i ck hi hn hj hI
    rcases Nat.lt_or_ge i c with h | h
    · refine br_f (sf_nle h (by omega)) (And.intro (sf_in (by omega) (by omega)) ?_)
      rw [sf_cl (by omega)]
      refine nm_e (Exists.intro (c + 2) ?_)
      refine ya_clash_21 (ck := ck) hc h (fun g v hg hv hC => ?_) (fun g v hv hC => ?_) (c + 2) 0 0 _ (by omega) (by omega) (by omega) (fun j hj => sf_un hj) (Or.inl ⟨rfl, fun q z => absurd z (by omega), sf_us⟩)
      · obtain ⟨e1, e2⟩ := (ya_CI_end hc h (hF i h) (hB i h) hC).1 hv
        refine ih (i + 1) g (by omega) (by omega) (fun j hj' => ?_) (fun j hj' => ?_)
        · rcases (by omega : j < i ∨ j = i) with z | rfl
          · exact hj j z
          · exact e1
        · rcases (by omega : j < i ∨ j = i) with z | rfl
          · rw [hg j (by omega)]; exact hI j z
          · exact e2
      · have e1 := (ya_CI_end hc h (hF i h) (hB i h) hC).2 hv
        exact Kp _ g (sf_FI_s h e1 hj) (fun z => absurd z (sf_npos (by omega)))
    · have : i = c := by omega
      subst this
      exact br_t (sf_le (by omega) (by omega)) (Kp _ ck (sf_FI_n hj) (fun _ => hI))
theorem ya_clash {F : Nat → Nat → Prop} {post : Int32 → SY → Prop} (hc : c ≤ 24) (hF : ∀ i, i < c → ∀ b, b < 25 → (¬ b_fact (i * 25 + yf_q b) = 0 ↔ F i b)) (hB : ∀ i, i < c → ∀ q, F i q → q = 24 ∨ q < c)
    (Kp : ∀ r ck, sf_FI c (sf_clash F) r → (r < 0 → sf_CK c F ck) → post r (g_capacity, g_horizon, nI c, g_verdict, g_errorNode, g_ticks, g_saved, g_savedTicks, b_kind, b_op, b_out, b_fact, ck, b_reach, b_late, b_depth, b_latched, b_there, b_val, b_savedLatched, b_savedThere, b_savedVal)) : wpY_firstClash post (g_capacity, g_horizon, nI c, g_verdict, g_errorNode, g_ticks, g_saved, g_savedTicks, b_kind, b_op, b_out, b_fact, b_clock, b_reach, b_late, b_depth, b_latched, b_there, b_val, b_savedLatched, b_savedThere, b_savedVal) :=
  Exists.intro (c + 1) (ya_clash_2 hc hF hB Kp (c + 1) 0 _ (by omega) (by omega) (fun j z => absurd z (by omega)) (fun j z => absurd z (by omega)))
theorem ya_cob_2 {post : Int32 → Prop} (hc : c ≤ 24) (hN : sf_ND c b_kind A B C) (hO : sf_Op b_op A B C) (Kp : ∀ r, sf_FI c (sf_cob b_kind A B C b_clock) r → post r) :
    ∀ n i, i ≤ c → c - i < n → (∀ j, j < i → ¬ sf_cob b_kind A B C b_clock j) → wY_firstCurrentOnBase_2 post g_capacity g_horizon (nI c) g_verdict g_errorNode g_ticks g_saved g_savedTicks b_kind b_op b_out b_fact b_clock b_reach b_late b_depth b_latched b_there b_val b_savedLatched b_savedThere b_savedVal n (nI i) := by
  intro n
  induction n with
  | zero => intro i _ hn; omega
  | succ n ih =>
    intro i hi hn hj
    rcases Nat.lt_or_ge i c with h | h
    · have hcl : (nI i).toNatClampNeg = i := sf_cl (by omega)
      have hin : vp_in (nI i) 24 := sf_in (by omega) (by omega)
      have go : ¬ sf_cob b_kind A B C b_clock i → wY_firstCurrentOnBase_2 post g_capacity g_horizon (nI c) g_verdict g_errorNode g_ticks g_saved g_savedTicks b_kind b_op b_out b_fact b_clock b_reach b_late b_depth b_latched b_there b_val b_savedLatched b_savedThere b_savedVal n (nI (i + 1)) := by
        intro hx
        refine ih (i + 1) (by omega) (by omega) (fun j hj' => ?_)
        rcases (by omega : j < i ∨ j = i) with z | rfl
        · exact hj j z
        · exact hx
      refine br_f (sf_nle h (by omega)) (And.intro hin ?_)
      rw [hcl]
      by_cases hK : b_kind i = 5
      · obtain ⟨t1, o1⟩ := hN i h 1 sf_W1 (by rw [hK]; decide)
        have o1' : A i = nI (sf_tg A B C i 1) := o1
        refine br_t hK ?_
        rw [sf_i3, sf_cl (n := i * 3) (by omega), (hO i (by omega)).1]
        refine And.intro (sf_in (by omega) (by omega)) (And.intro (by rw [o1']; exact sf_in (by omega) (by omega)) ?_)
        by_cases hb : b_clock (sf_tg A B C i 1) = -1
        · exact br_t hb (Kp _ (sf_FI_s h ⟨hK, hb⟩ hj))
        · exact br_f hb (nm_r (nI_1 i) (go fun z => hb z.2))
      · exact br_f hK (nm_r (nI_1 i) (go fun z => hK z.1))
    · have : i = c := by omega
      subst this
      exact br_t (sf_le (by omega) (by omega)) (Kp _ (sf_FI_n hj))
theorem ya_cob {post : Int32 → Prop} (hc : c ≤ 24) (hN : sf_ND c b_kind A B C) (hO : sf_Op b_op A B C) (Kp : ∀ r, sf_FI c (sf_cob b_kind A B C b_clock) r → post r) : wpY_firstCurrentOnBase post (g_capacity, g_horizon, nI c, g_verdict, g_errorNode, g_ticks, g_saved, g_savedTicks, b_kind, b_op, b_out, b_fact, b_clock, b_reach, b_late, b_depth, b_latched, b_there, b_val, b_savedLatched, b_savedThere, b_savedVal) :=
  Exists.intro (c + 1) (ya_cob_2 hc hN hO Kp (c + 1) 0 (by omega) (by omega) (fun j z => absurd z (by omega)))
theorem ya_need_26 {i j : Nat} {post : Int32 → Prop} (hc : c ≤ 24) (hi : i < c) (hj : j < c) (hk : sf_kd (b_kind i)) (hN : sf_ND c b_kind A B C) (hO : sf_Op b_op A B C)
    (K1 : sf_Os b_kind A B C i j → post 1) (K0 : ¬ sf_Os b_kind A B C i j → post 0) :
    ∀ n w, 1 ≤ w → w ≤ 4 → 4 - w < n → (∀ v, 1 ≤ v → v < w → sf_ro (b_kind i) v = 1 → ¬ sf_tg A B C i v = j) → wY_needs_26 post (nI i) (nI j) g_capacity g_horizon (nI c) g_verdict g_errorNode g_ticks g_saved g_savedTicks b_kind b_op b_out b_fact b_clock b_reach b_late b_depth b_latched b_there b_val b_savedLatched b_savedThere b_savedVal n (nI w) := by
  intro n
  induction n with
  | zero => intro w _ _ hn; omega
  | succ n ih =>
    intro w hw1 hw4 hn hv
    by_cases e : w = 4
    · subst e
      refine br_t (by decide) (K0 ?_)
      rintro ⟨v, hv', hr, ho⟩
      exact hv v hv'.1 (by have := hv'.2; omega) hr ho
    · have hW : sf_W w := ⟨hw1, by omega⟩
      have hcl : (nI i).toNatClampNeg = i := sf_cl (by omega)
      have hin : vp_in (nI i) 24 := sf_in (by omega) (by omega)
      refine br_f (sf_nlt (a := 3) (by omega) (by omega)) (And.intro hin ?_)
      rw [hcl]
      refine ys_role hk hW ?_
      have go : (sf_ro (b_kind i) w = 1 → ¬ sf_tg A B C i w = j) → wY_needs_26 post (nI i) (nI j) g_capacity g_horizon (nI c) g_verdict g_errorNode g_ticks g_saved g_savedTicks b_kind b_op b_out b_fact b_clock b_reach b_late b_depth b_latched b_there b_val b_savedLatched b_savedThere b_savedVal n (nI (w + 1)) := by
        intro hw
        refine ih (w + 1) (by omega) (by omega) (by omega) (fun v h1 h2 hr => ?_)
        rcases (by omega : v < w ∨ v = w) with z | rfl
        · exact hv v h1 z hr
        · exact hw hr
      by_cases hr : sf_ro (b_kind i) w = 1
      · obtain ⟨ht, ho⟩ := hN i hi w hW hr
        refine br_t hr ?_
        rw [sf_ix3 hw1, sf_cl (n := i * 3 + w - 1) (by omega), sf_Op_w hO (by omega) hW, ho]
        refine And.intro (sf_in (by omega) (by omega)) ?_
        exact sf_be (by omega) (by omega) (fun e => K1 ⟨w, hW, hr, e⟩) (fun e => nm_r (nI_1 w) (go fun _ => e))
      · exact br_f hr (nm_r (nI_1 w) (go fun z => absurd z hr))
theorem ya_need {i j : Nat} {post : Int32 → Prop} (hc : c ≤ 24) (hi : i < c) (hj : j < c) (hk : sf_kd (b_kind i)) (hN : sf_ND c b_kind A B C) (hO : sf_Op b_op A B C)
    (K1 : sf_N c b_kind A B C b_clock i j → post 1) (K0 : ¬ sf_N c b_kind A B C b_clock i j → post 0) : wpY_needs post (g_capacity, g_horizon, nI c, g_verdict, g_errorNode, g_ticks, g_saved, g_savedTicks, b_kind, b_op, b_out, b_fact, b_clock, b_reach, b_late, b_depth, b_latched, b_there, b_val, b_savedLatched, b_savedThere, b_savedVal) (nI i) (nI j) := by
  have hcl : (nI i).toNatClampNeg = i := sf_cl (by omega)
  have hin : vp_in (nI i) 24 := sf_in (by omega) (by omega)
  refine And.intro hin ?_
  rw [hcl]
  by_cases e : b_clock i = nI j
  · exact br_t e (K1 ⟨hi, hj, Or.inl e⟩)
  · refine br_f e (And.intro hin ?_)
    by_cases h2 : b_kind i = 2
    · refine br_t h2 (K0 ?_)
      rintro ⟨_, _, z | z⟩
      · exact e z
      · exact z.1 h2
    · refine br_f h2 (Exists.intro 5 ?_)
      refine ya_need_26 hc hi hj hk hN hO (fun z => K1 ⟨hi, hj, Or.inr ⟨h2, z⟩⟩) (fun z => K0 ?_) 5 1 (by omega) (by omega) (by omega) (fun v h1 h3 => absurd h3 (by omega))
      rintro ⟨_, _, y | y⟩
      · exact e y
      · exact z y.2
end
end
section
/-! the reference's cycles, lateness, levels -/
noncomputable def yc_z (f : Nat → Int32) : Nat := sf_cn (fun j => f j = 0) 576
def yc_Fl (f0 : Nat → Int32) (r : Int32) (f : Nat → Int32) : Prop := (r = 0 ∧ f = f0) ∨ (r = 1 ∧ yc_z f < yc_z f0)
theorem yc_Fl_e {f0 f : Nat → Int32} {fl : Int32} (h : yc_Fl f0 fl f) (e : fl = 0) : f = f0 := by
  rcases h with ⟨_, h⟩ | ⟨z, _⟩
  · exact h
  · exact absurd (e.symm.trans z) (by decide)
def yc_ok (c : Nat) (N : Nat → Nat → Prop) (g : Nat → Int32) : Prop := (∀ i j, N i j → ¬ g (i * 24 + j) = 0) ∧ (∀ i j, i < c → j < c → ¬ g (i * 24 + j) = 0 → sf_TC N i j)
def yc_tr (g : Nat → Int32) (i j k : Nat) : Prop := ¬ g (i * 24 + j) = 0 → ¬ g (j * 24 + k) = 0 → ¬ g (i * 24 + k) = 0
theorem yc_set {c i j k : Nat} {N : Nat → Nat → Prop} {g f0 : Nat → Int32} {fl : Int32} (hc : c ≤ 24) (hi : i < c) (hj : j < c) (hk : k < c) (h : yc_ok c N g) (hF : yc_Fl f0 fl g)
    (h1 : ¬ g (i * 24 + j) = 0) (h2 : ¬ g (j * 24 + k) = 0) (h3 : g (i * 24 + k) = 0) : yc_ok c N (upd g (i * 24 + k) 1) ∧ yc_Fl f0 1 (upd g (i * 24 + k) 1) := by
  have hv : ∀ x, upd g (i * 24 + k) 1 x = if x = i * 24 + k then 1 else g x := fun x => rfl
  have keep : ∀ x, ¬ g x = 0 → ¬ upd g (i * 24 + k) 1 x = 0 := by
    intro x hx
    rw [hv x]
    by_cases e : x = i * 24 + k
    · rw [if_pos e]; decide
    · rw [if_neg e]; exact hx
  refine ⟨⟨fun a b hn => keep _ (h.1 a b hn), fun a b ha hb hn => ?_⟩, ?_⟩
  · rw [hv] at hn
    by_cases e : a * 24 + b = i * 24 + k
    · have e' : a = i ∧ b = k := by omega
      rw [e'.1, e'.2]
      exact sf_TC_t (h.2 i j hi hj h1) (h.2 j k hj hk h2)
    · rw [if_neg e] at hn; exact h.2 a b ha hb hn
  · have hz : yc_z (upd g (i * 24 + k) 1) < yc_z g := by
      refine sf_cn_lt (P := fun x => upd g (i * 24 + k) 1 x = 0) (Q := fun x => g x = 0) (a := i * 24 + k) ?_ h3 ?_ (by omega)
      · show ¬ upd g (i * 24 + k) 1 (i * 24 + k) = 0
        rw [sf_us]; decide
      · intro x _ hx
        apply Classical.byContradiction
        intro hn
        exact keep x hn hx
    rcases hF with ⟨_, rfl⟩ | ⟨_, hF⟩
    · exact Or.inr ⟨rfl, hz⟩
    · exact Or.inr ⟨rfl, Nat.lt_trans hz hF⟩
section
variable {g_capacity g_horizon g_count g_verdict g_errorNode g_ticks g_saved g_savedTicks : Int32} {b_kind b_op b_out b_fact b_clock b_reach b_late b_depth b_latched b_there b_val b_savedLatched b_savedThere b_savedVal : Nat → Int32} {A B C : Nat → Int32} {c : Nat}
theorem yc_187 {N : Nat → Nat → Prop} {post : Int32 → SY → Prop} (hc : c ≤ 24) (hQ : ∀ i, i < c → (¬ b_reach (i * 24 + i) = 0 ↔ sf_TC N i i)) (Kp : ∀ r, sf_FI c (fun i => sf_TC N i i) r → post r (g_capacity, g_horizon, nI c, g_verdict, g_errorNode, g_ticks, g_saved, g_savedTicks, b_kind, b_op, b_out, b_fact, b_clock, b_reach, b_late, b_depth, b_latched, b_there, b_val, b_savedLatched, b_savedThere, b_savedVal)) :
    ∀ n i, i ≤ c → c - i < n → (∀ j, j < i → ¬ sf_TC N j j) → wY_firstOnCycle_187 post g_capacity g_horizon (nI c) g_verdict g_errorNode g_ticks g_saved g_savedTicks b_kind b_op b_out b_fact b_clock b_reach b_late b_depth b_latched b_there b_val b_savedLatched b_savedThere b_savedVal n (nI i) := by
  intro n
  induction n with
  | zero => intro i _ hn; omega
  | succ n ih =>
    intro i hi hn hj
    rcases Nat.lt_or_ge i c with h | h
    · refine br_f (sf_nle h (by omega)) ?_
      rw [sf_i24, sf_cl (by omega)]
      refine And.intro (sf_in (by omega) (by omega)) ?_
      by_cases e : b_reach (i * 24 + i) = 0
      · refine br_t e (nm_r (nI_1 i) (ih (i + 1) (by omega) (by omega) (fun j hj' => ?_)))
        rcases (by omega : j < i ∨ j = i) with z | rfl
        · exact hj j z
        · exact fun z => (hQ j h).mpr z e
      · exact br_f e (Kp _ (sf_FI_s h ((hQ i h).mp e) hj))
    · have : i = c := by omega
      subst this
      exact br_t (sf_le (by omega) (by omega)) (Kp _ (sf_FI_n hj))
theorem yc_91 {i j : Nat} {p : Int32} {P : Prop} {N : Nat → Nat → Prop} {f0 : Nat → Int32} {post : Int32 → SY → Prop} {J53 J68 J79 : Int32 → Int32 → (Nat → Int32) → (Nat → Int32) → (Nat → Int32) → (Nat → Int32) → (Nat → Int32) → (Nat → Int32) → (Nat → Int32) → (Nat → Int32) → (Nat → Int32) → (Nat → Int32) → (Nat → Int32) → (Nat → Int32) → (Nat → Int32) → (Nat → Int32) → Prop} (hc : c ≤ 24) (hi : i < c) (hj : j < c)
    (KJ : ∀ r g, yc_ok c N g → yc_Fl f0 r g → (r = 0 → P ∧ ∀ k, k < c → yc_tr f0 i j k) → J79 r (nI (j + 1)) b_kind b_op b_out b_fact b_clock g b_late b_depth b_latched b_there b_val b_savedLatched b_savedThere b_savedVal) :
    ∀ n k r g, k ≤ c → c - k < n → yc_ok c N g → yc_Fl f0 r g → (r = 0 → P ∧ ∀ l, l < k → yc_tr f0 i j l) → wY_firstOnCycle_91 post J53 J68 J79 p (nI i) (nI j) g_capacity g_horizon (nI c) g_verdict g_errorNode g_ticks g_saved g_savedTicks n r (nI k) b_kind b_op b_out b_fact b_clock g b_late b_depth b_latched b_there b_val b_savedLatched b_savedThere b_savedVal := by
  intro n
  induction n with
  | zero => intro k r g _ hn; omega
  | succ n ih =>
    intro k r g hk hn hok hF hv
    rcases Nat.lt_or_ge k c with h | h
    · have go : yc_tr g i j k → wY_firstOnCycle_91 post J53 J68 J79 p (nI i) (nI j) g_capacity g_horizon (nI c) g_verdict g_errorNode g_ticks g_saved g_savedTicks n r (nI (k + 1)) b_kind b_op b_out b_fact b_clock g b_late b_depth b_latched b_there b_val b_savedLatched b_savedThere b_savedVal := by
        intro ht
        refine ih (k + 1) r g (by omega) (by omega) hok hF (fun e => ⟨(hv e).1, fun l hl => ?_⟩)
        rcases (by omega : l < k ∨ l = k) with z | rfl
        · exact (hv e).2 l z
        · rw [← yc_Fl_e hF e]; exact ht
      refine br_f (sf_nle h (by omega)) ?_
      rw [sf_i24, sf_i24, sf_i24, sf_cl (n := i * 24 + j) (by omega), sf_cl (n := j * 24 + k) (by omega), sf_cl (n := i * 24 + k) (by omega)]
      refine And.intro (sf_in (by omega) (by omega)) ?_
      by_cases e1 : g (i * 24 + j) = 0
      · exact br_t e1 (nm_r (nI_1 k) (go fun z => absurd e1 z))
      · refine br_f e1 (And.intro (sf_in (by omega) (by omega)) ?_)
        by_cases e2 : g (j * 24 + k) = 0
        · exact br_t e2 (nm_r (nI_1 k) (go fun _ z => absurd e2 z))
        · refine br_f e2 (And.intro (sf_in (by omega) (by omega)) ?_)
          by_cases e3 : g (i * 24 + k) = 0
          · obtain ⟨a, b⟩ := yc_set hc hi hj h hok hF e1 e2 e3
            exact br_t e3 (And.intro (sf_in (by omega) (by omega)) (nm_e (nm_r (nI_1 k) (ih (k + 1) 1 _ (by omega) (by omega) a b (fun z => absurd z (by decide))))))
          · exact br_f e3 (nm_r (nI_1 k) (go fun _ _ => e3))
    · have : k = c := by omega
      subst this
      exact br_t (sf_le (by omega) (by omega)) (nm_r (nI_1 j) (KJ r g hok hF hv))
theorem yc_79 {i : Nat} {p : Int32} {P : Prop} {N : Nat → Nat → Prop} {f0 : Nat → Int32} {post : Int32 → SY → Prop} {J53 J68 : Int32 → Int32 → (Nat → Int32) → (Nat → Int32) → (Nat → Int32) → (Nat → Int32) → (Nat → Int32) → (Nat → Int32) → (Nat → Int32) → (Nat → Int32) → (Nat → Int32) → (Nat → Int32) → (Nat → Int32) → (Nat → Int32) → (Nat → Int32) → (Nat → Int32) → Prop} (hc : c ≤ 24) (hi : i < c)
    (KJ : ∀ r g, yc_ok c N g → yc_Fl f0 r g → (r = 0 → P ∧ ∀ j, j < c → ∀ k, k < c → yc_tr f0 i j k) → J68 r (nI (i + 1)) b_kind b_op b_out b_fact b_clock g b_late b_depth b_latched b_there b_val b_savedLatched b_savedThere b_savedVal) :
    ∀ n j r g, j ≤ c → c - j < n → yc_ok c N g → yc_Fl f0 r g → (r = 0 → P ∧ ∀ l, l < j → ∀ k, k < c → yc_tr f0 i l k) → wY_firstOnCycle_79 post J53 J68 p (nI i) g_capacity g_horizon (nI c) g_verdict g_errorNode g_ticks g_saved g_savedTicks n r (nI j) b_kind b_op b_out b_fact b_clock g b_late b_depth b_latched b_there b_val b_savedLatched b_savedThere b_savedVal := by
  intro n
  induction n with
  | zero => intro j r g _ hn; omega
  | succ n ih =>
    intro j r g hj hn hok hF hv
    rcases Nat.lt_or_ge j c with h | h
    · refine br_f (sf_nle h (by omega)) (Exists.intro (c + 1) ?_)
      refine yc_91 (P := P ∧ ∀ l, l < j → ∀ k, k < c → yc_tr f0 i l k) (N := N) (f0 := f0) hc hi h (fun r' g' hok' hF' hv' => ?_) (c + 1) 0 r g (by omega) (by omega) hok hF (fun e => ⟨hv e, fun l z => absurd z (by omega)⟩)
      refine ih (j + 1) r' g' (by omega) (by omega) hok' hF' (fun e => ⟨(hv' e).1.1, fun l hl => ?_⟩)
      rcases (by omega : l < j ∨ l = j) with z | rfl
      · exact (hv' e).1.2 l z
      · exact (hv' e).2
    · have : j = c := by omega
      subst this
      exact br_t (sf_le (by omega) (by omega)) (nm_r (nI_1 i) (KJ r g hok hF hv))
theorem yc_68 {p : Nat} {N : Nat → Nat → Prop} {f0 : Nat → Int32} {post : Int32 → SY → Prop} {J53 : Int32 → Int32 → (Nat → Int32) → (Nat → Int32) → (Nat → Int32) → (Nat → Int32) → (Nat → Int32) → (Nat → Int32) → (Nat → Int32) → (Nat → Int32) → (Nat → Int32) → (Nat → Int32) → (Nat → Int32) → (Nat → Int32) → (Nat → Int32) → (Nat → Int32) → Prop} (hc : c ≤ 24)
    (KJ : ∀ r g, yc_ok c N g → yc_Fl f0 r g → (r = 0 → ∀ i, i < c → ∀ j, j < c → ∀ k, k < c → yc_tr f0 i j k) → J53 r (nI (p + 1)) b_kind b_op b_out b_fact b_clock g b_late b_depth b_latched b_there b_val b_savedLatched b_savedThere b_savedVal) :
    ∀ n i r g, i ≤ c → c - i < n → yc_ok c N g → yc_Fl f0 r g → (r = 0 → ∀ l, l < i → ∀ j, j < c → ∀ k, k < c → yc_tr f0 l j k) → wY_firstOnCycle_68 post J53 (nI p) g_capacity g_horizon (nI c) g_verdict g_errorNode g_ticks g_saved g_savedTicks n r (nI i) b_kind b_op b_out b_fact b_clock g b_late b_depth b_latched b_there b_val b_savedLatched b_savedThere b_savedVal := by
  intro n
  induction n with
  | zero => intro i r g _ hn; omega
  | succ n ih =>
    intro i r g hi hn hok hF hv
    rcases Nat.lt_or_ge i c with h | h
    · refine br_f (sf_nle h (by omega)) (Exists.intro (c + 1) ?_)
      refine yc_79 (P := ∀ l, l < i → ∀ j, j < c → ∀ k, k < c → yc_tr f0 l j k) (N := N) (f0 := f0) hc h (fun r' g' hok' hF' hv' => ?_) (c + 1) 0 r g (by omega) (by omega) hok hF (fun e => ⟨hv e, fun l z => absurd z (by omega)⟩)
      refine ih (i + 1) r' g' (by omega) (by omega) hok' hF' (fun e l hl => ?_)
      rcases (by omega : l < i ∨ l = i) with z | rfl
      · exact (hv' e).1 l z
      · exact (hv' e).2
    · have : i = c := by omega
      subst this
      exact br_t (sf_le (by omega) (by omega)) (nm_r (nI_1 p) (KJ r g hok hF hv))
theorem yc_53 {N : Nat → Nat → Prop} {post : Int32 → SY → Prop} (hc : c ≤ 24) (hN : ∀ i j, N i j → i < c ∧ j < c) (Kp : ∀ r g, sf_FI c (fun i => sf_TC N i i) r → post r (g_capacity, g_horizon, nI c, g_verdict, g_errorNode, g_ticks, g_saved, g_savedTicks, b_kind, b_op, b_out, b_fact, b_clock, g, b_late, b_depth, b_latched, b_there, b_val, b_savedLatched, b_savedThere, b_savedVal)) :
    ∀ n p r g, p ≤ 577 → 577 - p < n → yc_ok c N g → ((r = 1 ∧ yc_z g + p ≤ 576) ∨ (r = 0 ∧ ∀ i, i < c → ∀ j, j < c → ∀ k, k < c → yc_tr g i j k)) → wY_firstOnCycle_53 post g_capacity g_horizon (nI c) g_verdict g_errorNode g_ticks g_saved g_savedTicks n r (nI p) b_kind b_op b_out b_fact b_clock g b_late b_depth b_latched b_there b_val b_savedLatched b_savedThere b_savedVal := by
  intro n
  induction n with
  | zero => intro p r g _ hn; omega
  | succ n ih =>
    intro p r g hp hn hok hI
    rcases hI with ⟨e1, hz⟩ | ⟨e0, hl⟩
    · refine br_f (sf_nlt (a := 576) (by omega) (by omega)) (br_f (by rw [e1]; decide) (Exists.intro (c + 1) ?_))
      refine yc_68 (N := N) (f0 := g) hc (fun r' g' hok' hF' hl' => ?_) (c + 1) 0 0 g (by omega) (by omega) hok (Or.inl ⟨rfl, rfl⟩) (fun _ j z => absurd z (by omega))
      refine ih (p + 1) r' g' (by omega) (by omega) hok' ?_
      rcases hF' with ⟨z, e⟩ | ⟨z, hlt⟩
      · exact Or.inr ⟨z, by rw [e]; exact hl' z⟩
      · exact Or.inl ⟨z, by omega⟩
    · have hQ : ∀ i, i < c → (¬ g (i * 24 + i) = 0 ↔ sf_TC N i i) := by
        intro i hi
        refine ⟨hok.2 i i hi hi, fun ht => ?_⟩
        exact (ht (fun a b => a < c ∧ b < c ∧ ¬ g (a * 24 + b) = 0) (fun a b hn' => ⟨(hN a b hn').1, (hN a b hn').2, hok.1 a b hn'⟩)
          (fun a b d x y => ⟨x.1, y.2.1, hl a x.1 b x.2.1 d y.2.1 x.2.2 y.2.2⟩)).2.2
      have fin : ∃ n187, wY_firstOnCycle_187 post g_capacity g_horizon (nI c) g_verdict g_errorNode g_ticks g_saved g_savedTicks b_kind b_op b_out b_fact b_clock g b_late b_depth b_latched b_there b_val b_savedLatched b_savedThere b_savedVal n187 0 :=
        Exists.intro (c + 1) (yc_187 hc hQ (fun r hr => Kp r g hr) (c + 1) 0 (by omega) (by omega) (fun j z => absurd z (by omega)))
      rcases Nat.lt_or_ge 576 p with h | h
      · exact br_t (sf_lt (a := 576) h (by omega)) fin
      · exact br_f (sf_nlt (a := 576) h (by omega)) (br_t e0 fin)
theorem yc_12 {i : Nat} {post : Int32 → SY → Prop} {J2 : Int32 → (Nat → Int32) → (Nat → Int32) → (Nat → Int32) → (Nat → Int32) → (Nat → Int32) → (Nat → Int32) → (Nat → Int32) → (Nat → Int32) → (Nat → Int32) → (Nat → Int32) → (Nat → Int32) → (Nat → Int32) → (Nat → Int32) → (Nat → Int32) → Prop} {g0 : Nat → Int32} (hc : c ≤ 24) (hi : i < c) (hk : sf_kd (b_kind i)) (hN : sf_ND c b_kind A B C) (hO : sf_Op b_op A B C)
    (KJ : ∀ g, (∀ a b, a < i → b < c → g (a * 24 + b) = g0 (a * 24 + b)) → (∀ j, j < c → (¬ g (i * 24 + j) = 0 ↔ sf_N c b_kind A B C b_clock i j)) → J2 (nI (i + 1)) b_kind b_op b_out b_fact b_clock g b_late b_depth b_latched b_there b_val b_savedLatched b_savedThere b_savedVal) :
    ∀ n j g, j ≤ c → c - j < n → (∀ a b, a < i → b < c → g (a * 24 + b) = g0 (a * 24 + b)) → (∀ l, l < j → (¬ g (i * 24 + l) = 0 ↔ sf_N c b_kind A B C b_clock i l)) → wY_firstOnCycle_12 post J2 (nI i) g_capacity g_horizon (nI c) g_verdict g_errorNode g_ticks g_saved g_savedTicks n (nI j) b_kind b_op b_out b_fact b_clock g b_late b_depth b_latched b_there b_val b_savedLatched b_savedThere b_savedVal := by
  intro n
  induction n with
  | zero => intro j g _ hn; omega
  | succ n ih =>
    intro j g hj hn hg hI
    rcases Nat.lt_or_ge j c with h | h
    · have go : ∀ x : Int32, (¬ x = 0 ↔ sf_N c b_kind A B C b_clock i j) → wY_firstOnCycle_12 post J2 (nI i) g_capacity g_horizon (nI c) g_verdict g_errorNode g_ticks g_saved g_savedTicks n (nI (j + 1)) b_kind b_op b_out b_fact b_clock (upd g (i * 24 + j) x) b_late b_depth b_latched b_there b_val b_savedLatched b_savedThere b_savedVal := by
        intro x hx
        refine ih (j + 1) _ (by omega) (by omega) (fun a b ha hb => ?_) (fun l hl => ?_)
        · rw [sf_un (by omega)]; exact hg a b ha hb
        · rcases (by omega : l < j ∨ l = j) with z | rfl
          · rw [sf_un (by omega)]; exact hI l z
          · rw [sf_us]; exact hx
      refine br_f (sf_nle h (by omega)) ?_
      refine ya_need hc hi h hk hN hO (fun hn' => ?_) (fun hn' => ?_)
      · rw [sf_i24, sf_cl (by omega)]
        exact And.intro (sf_in (by omega) (by omega)) (nm_e (nm_r (nI_1 j) (go _ ⟨fun _ => hn', fun _ => by decide⟩)))
      · rw [sf_i24, sf_cl (by omega)]
        exact And.intro (sf_in (by omega) (by omega)) (nm_e (nm_r (nI_1 j) (go _ ⟨fun z => absurd rfl z, fun z => absurd z hn'⟩)))
    · have : j = c := by omega
      subst this
      exact br_t (sf_le (by omega) (by omega)) (nm_r (nI_1 i) (KJ g hg hI))
theorem yc_2 {post : Int32 → SY → Prop} (hc : c ≤ 24) (hk : ∀ i, i < c → sf_kd (b_kind i)) (hN : sf_ND c b_kind A B C) (hO : sf_Op b_op A B C)
    (Kp : ∀ r g, sf_FI c (fun i => sf_TC (sf_N c b_kind A B C b_clock) i i) r → post r (g_capacity, g_horizon, nI c, g_verdict, g_errorNode, g_ticks, g_saved, g_savedTicks, b_kind, b_op, b_out, b_fact, b_clock, g, b_late, b_depth, b_latched, b_there, b_val, b_savedLatched, b_savedThere, b_savedVal)) :
    ∀ n i g, i ≤ c → c - i < n → (∀ a b, a < i → b < c → (¬ g (a * 24 + b) = 0 ↔ sf_N c b_kind A B C b_clock a b)) → wY_firstOnCycle_2 post g_capacity g_horizon (nI c) g_verdict g_errorNode g_ticks g_saved g_savedTicks n (nI i) b_kind b_op b_out b_fact b_clock g b_late b_depth b_latched b_there b_val b_savedLatched b_savedThere b_savedVal := by
  intro n
  induction n with
  | zero => intro i g _ hn; omega
  | succ n ih =>
    intro i g hi hn hI
    rcases Nat.lt_or_ge i c with h | h
    · refine br_f (sf_nle h (by omega)) (Exists.intro (c + 1) ?_)
      refine yc_12 (g0 := g) hc h (hk i h) hN hO (fun g' hg' hI' => ?_) (c + 1) 0 g (by omega) (by omega) (fun _ _ _ _ => rfl) (fun l z => absurd z (by omega))
      refine ih (i + 1) g' (by omega) (by omega) (fun a b ha hb => ?_)
      rcases (by omega : a < i ∨ a = i) with z | rfl
      · rw [hg' a b z hb]; exact hI a b z hb
      · exact hI' b hb
    · have : i = c := by omega
      subst this
      refine br_t (sf_le (by omega) (by omega)) (Exists.intro 578 ?_)
      refine yc_53 hc (fun a b z => ⟨z.1, z.2.1⟩) Kp 578 0 1 g (by omega) (by omega) ⟨fun a b z => (hI a b z.1 z.2.1).mpr z, fun a b ha hb z => sf_TC_b ((hI a b ha hb).mp z)⟩ (Or.inl ⟨rfl, ?_⟩)
      have := sf_cn_le (fun j => g j = 0) 576
      exact this
theorem yc_cyc {post : Int32 → SY → Prop} (hc : c ≤ 24) (hk : ∀ i, i < c → sf_kd (b_kind i)) (hN : sf_ND c b_kind A B C) (hO : sf_Op b_op A B C)
    (Kp : ∀ r g, sf_FI c (fun i => sf_TC (sf_N c b_kind A B C b_clock) i i) r → post r (g_capacity, g_horizon, nI c, g_verdict, g_errorNode, g_ticks, g_saved, g_savedTicks, b_kind, b_op, b_out, b_fact, b_clock, g, b_late, b_depth, b_latched, b_there, b_val, b_savedLatched, b_savedThere, b_savedVal)) : wpY_firstOnCycle post (g_capacity, g_horizon, nI c, g_verdict, g_errorNode, g_ticks, g_saved, g_savedTicks, b_kind, b_op, b_out, b_fact, b_clock, b_reach, b_late, b_depth, b_latched, b_there, b_val, b_savedLatched, b_savedThere, b_savedVal) :=
  Exists.intro (c + 1) (yc_2 hc hk hN hO Kp (c + 1) 0 _ (by omega) (by omega) (fun a b z => absurd z (by omega)))
theorem yl_56 {i : Nat} {post : Int32 → Prop} (hc : c ≤ 24) (hi : i < c) (hk : sf_kd (b_kind i)) (hN : sf_ND c b_kind A B C) (hO : sf_Op b_op A B C)
    (K1 : (∃ w, sf_W w ∧ sf_ro (b_kind i) w = 1 ∧ ¬ b_late (sf_tg A B C i w) = 0) → post 1) (K0 : (¬ ∃ w, sf_W w ∧ sf_ro (b_kind i) w = 1 ∧ ¬ b_late (sf_tg A B C i w) = 0) → post 0) :
    ∀ n w, 1 ≤ w → w ≤ 4 → 4 - w < n → (∀ v, 1 ≤ v → v < w → sf_ro (b_kind i) v = 1 → b_late (sf_tg A B C i v) = 0) → wY_lateNow_56 post (nI i) (b_kind i) g_capacity g_horizon (nI c) g_verdict g_errorNode g_ticks g_saved g_savedTicks b_kind b_op b_out b_fact b_clock b_reach b_late b_depth b_latched b_there b_val b_savedLatched b_savedThere b_savedVal n (nI w) := by
  intro n
  induction n with
  | zero => intro w _ _ hn; omega
  | succ n ih =>
    intro w hw1 hw4 hn hv
    by_cases e : w = 4
    · subst e
      refine br_t (by decide) (K0 ?_)
      rintro ⟨v, hv', hr, ho⟩
      exact ho (hv v hv'.1 (by have := hv'.2; omega) hr)
    · have hW : sf_W w := ⟨hw1, by omega⟩
      refine br_f (sf_nlt (a := 3) (by omega) (by omega)) ?_
      refine ys_role hk hW ?_
      have go : (sf_ro (b_kind i) w = 1 → b_late (sf_tg A B C i w) = 0) → wY_lateNow_56 post (nI i) (b_kind i) g_capacity g_horizon (nI c) g_verdict g_errorNode g_ticks g_saved g_savedTicks b_kind b_op b_out b_fact b_clock b_reach b_late b_depth b_latched b_there b_val b_savedLatched b_savedThere b_savedVal n (nI (w + 1)) := by
        intro hw
        refine ih (w + 1) (by omega) (by omega) (by omega) (fun v h1 h2 hr => ?_)
        rcases (by omega : v < w ∨ v = w) with z | rfl
        · exact hv v h1 z hr
        · exact hw hr
      by_cases hr : sf_ro (b_kind i) w = 1
      · obtain ⟨ht, ho⟩ := hN i hi w hW hr
        refine br_t hr ?_
        rw [sf_ix3 hw1, sf_cl (n := i * 3 + w - 1) (by omega), sf_Op_w hO (by omega) hW, ho, sf_cl (n := sf_tg A B C i w) (by omega)]
        refine And.intro (sf_in (by omega) (by omega)) (And.intro (sf_in (by omega) (by omega)) ?_)
        by_cases e2 : b_late (sf_tg A B C i w) = 0
        · exact br_t e2 (nm_r (nI_1 w) (go fun _ => e2))
        · exact br_f e2 (K1 ⟨w, hW, hr, e2⟩)
      · exact br_f hr (nm_r (nI_1 w) (go fun z => absurd z hr))
theorem yl_now {i : Nat} {post : Int32 → Prop} (hc : c ≤ 24) (hi : i < c) (hk : sf_kd (b_kind i)) (hN : sf_ND c b_kind A B C) (hO : sf_Op b_op A B C) (hb : ∀ k, k < c → b_late k = 0 ∨ b_late k = 1)
    (K1 : sf_lr b_kind A B C (fun k => ¬ b_late k = 0) i → post 1) (K0 : ¬ sf_lr b_kind A B C (fun k => ¬ b_late k = 0) i → post 0) : wpY_lateNow post (g_capacity, g_horizon, nI c, g_verdict, g_errorNode, g_ticks, g_saved, g_savedTicks, b_kind, b_op, b_out, b_fact, b_clock, b_reach, b_late, b_depth, b_latched, b_there, b_val, b_savedLatched, b_savedThere, b_savedVal) (nI i) := by
  have hcl : (nI i).toNatClampNeg = i := sf_cl (by omega)
  have hin : vp_in (nI i) 24 := sf_in (by omega) (by omega)
  refine And.intro hin ?_
  rw [hcl]
  refine nm_e ?_
  by_cases h2 : b_kind i = 2
  · exact br_t h2 (K1 (Or.inl h2))
  refine br_f h2 ?_
  have nor : (b_kind i = 0 ∨ b_kind i = 1 ∨ b_kind i = 5) → ¬ sf_lr b_kind A B C (fun k => ¬ b_late k = 0) i := by
    rintro he (h | ⟨h, _⟩ | ⟨_, h5, _, _, w, hw, hr, _⟩)
    · exact h2 h
    · rcases he with e | e | e <;> rcases h with h | h <;> exact absurd (e.symm.trans h) (by decide)
    · rcases he with e | e | e
      · rw [e] at hr; rcases sf_w123 hw with rfl | rfl | rfl <;> exact absurd hr (by decide)
      · rw [e] at hr; rcases sf_w123 hw with rfl | rfl | rfl <;> exact absurd hr (by decide)
      · exact h5 e
  by_cases h0 : b_kind i = 0
  · exact br_t h0 (K0 (nor (Or.inl h0)))
  refine br_f h0 ?_
  by_cases h1 : b_kind i = 1
  · exact br_t h1 (K0 (nor (Or.inr (Or.inl h1))))
  refine br_f h1 ?_
  by_cases h5 : b_kind i = 5
  · exact br_t h5 (K0 (nor (Or.inr (Or.inr h5))))
  refine br_f h5 ?_
  have l40 : (b_kind i = 3 ∨ b_kind i = 4) → wY_lateNow_40 post (nI i) g_capacity g_horizon (nI c) g_verdict g_errorNode g_ticks g_saved g_savedTicks b_kind b_op b_out b_fact b_clock b_reach b_late b_depth b_latched b_there b_val b_savedLatched b_savedThere b_savedVal := by
    intro he
    obtain ⟨t1, o1⟩ := hN i hi 1 sf_W1 (by rcases he with e | e <;> rw [e] <;> decide)
    have o1' : A i = nI (sf_tg A B C i 1) := o1
    unfold wY_lateNow_40
    rw [sf_i3, sf_cl (n := i * 3) (by omega), (hO i (by omega)).1, o1', sf_cl (n := sf_tg A B C i 1) (by omega)]
    refine And.intro (sf_in (by omega) (by omega)) (And.intro (sf_in (by omega) (by omega)) (And.intro (sf_nb (hb _ t1)) ?_))
    rcases hb _ t1 with e | e
    · rw [e]
      refine K0 ?_
      rintro (h | ⟨_, h⟩ | ⟨_, _, h3, h4, _⟩)
      · exact h2 h
      · exact h e
      · rcases he with e | e
        · exact h3 e
        · exact h4 e
    · rw [e]
      refine K1 (Or.inr (Or.inl ⟨he, ?_⟩))
      show ¬ b_late _ = 0
      rw [e]; decide
  by_cases h3 : b_kind i = 3
  · exact br_t h3 (l40 (Or.inl h3))
  refine br_f h3 ?_
  by_cases h4 : b_kind i = 4
  · exact br_t h4 (l40 (Or.inr h4))
  refine br_f h4 (Exists.intro 5 ?_)
  refine yl_56 hc hi hk hN hO (fun hx => K1 (Or.inr (Or.inr ⟨h2, h5, h3, h4, hx⟩))) (fun hx => K0 ?_) 5 1 (by omega) (by omega) (by omega) (fun v h1 h2 => absurd h2 (by omega))
  rintro (h | ⟨h, _⟩ | ⟨_, _, _, _, z⟩)
  · exact h2 h
  · rcases h with h | h
    · exact h3 h
    · exact h4 h
  · exact hx z
theorem yl_66 {out lt : Nat → Prop} {post : Int32 → SY → Prop} (hc : c ≤ 24) (hN : sf_ND c b_kind A B C) (hO : sf_Op b_op A B C) (hout : ∀ i, i < c → (¬ b_out i = 0 ↔ out i)) (hlt : ∀ i, i < c → (¬ b_late i = 0 ↔ lt i))
    (Kp : ∀ r, sf_FI c (sf_uni b_kind A B C out lt) r → post r (g_capacity, g_horizon, nI c, g_verdict, g_errorNode, g_ticks, g_saved, g_savedTicks, b_kind, b_op, b_out, b_fact, b_clock, b_reach, b_late, b_depth, b_latched, b_there, b_val, b_savedLatched, b_savedThere, b_savedVal)) :
    ∀ n i, i ≤ c → c - i < n → (∀ j, j < i → ¬ sf_uni b_kind A B C out lt j) → wY_firstUninitialised_66 post g_capacity g_horizon (nI c) g_verdict g_errorNode g_ticks g_saved g_savedTicks b_kind b_op b_out b_fact b_clock b_reach b_late b_depth b_latched b_there b_val b_savedLatched b_savedThere b_savedVal n (nI i) := by
  intro n
  induction n with
  | zero => intro i _ hn; omega
  | succ n ih =>
    intro i hi hn hj
    rcases Nat.lt_or_ge i c with h | h
    · have hcl : (nI i).toNatClampNeg = i := sf_cl (by omega)
      have hin : vp_in (nI i) 24 := sf_in (by omega) (by omega)
      have go : ¬ sf_uni b_kind A B C out lt i → wY_firstUninitialised_66 post g_capacity g_horizon (nI c) g_verdict g_errorNode g_ticks g_saved g_savedTicks b_kind b_op b_out b_fact b_clock b_reach b_late b_depth b_latched b_there b_val b_savedLatched b_savedThere b_savedVal n (nI (i + 1)) := by
        intro hx
        refine ih (i + 1) (by omega) (by omega) (fun j hj' => ?_)
        rcases (by omega : j < i ∨ j = i) with z | rfl
        · exact hj j z
        · exact hx
      have yes : sf_uni b_kind A B C out lt i → post (nI i) (g_capacity, g_horizon, nI c, g_verdict, g_errorNode, g_ticks, g_saved, g_savedTicks, b_kind, b_op, b_out, b_fact, b_clock, b_reach, b_late, b_depth, b_latched, b_there, b_val, b_savedLatched, b_savedThere, b_savedVal) := fun hx => Kp _ (sf_FI_s h hx hj)
      have j142 : (¬ ((b_kind i = 2 ∨ b_kind i = 5) ∧ lt (sf_tg A B C i 1))) → (¬ (b_kind i = 4 ∧ lt (sf_tg A B C i 2))) → wY_firstUninitialised_142 post (wY_firstUninitialised_66 post g_capacity g_horizon (nI c) g_verdict g_errorNode g_ticks g_saved g_savedTicks b_kind b_op b_out b_fact b_clock b_reach b_late b_depth b_latched b_there b_val b_savedLatched b_savedThere b_savedVal n) (nI i) g_capacity g_horizon (nI c) g_verdict g_errorNode g_ticks g_saved g_savedTicks b_kind b_op b_out b_fact b_clock b_reach b_late b_depth b_latched b_there b_val b_savedLatched b_savedThere b_savedVal := by
        intro ha hb
        unfold wY_firstUninitialised_142
        rw [hcl]
        refine And.intro hin ?_
        by_cases e : b_out i = 0
        · refine br_t e (nm_r (nI_1 i) (go ?_))
          rintro (y | y | y)
          · exact (hout i h).mpr y.1 e
          · exact ha y
          · exact hb y
        · refine br_f e (And.intro hin ?_)
          by_cases e2 : b_late i = 0
          · refine br_t e2 (nm_r (nI_1 i) (go ?_))
            rintro (y | y | y)
            · exact (hlt i h).mpr y.2 e2
            · exact ha y
            · exact hb y
          · exact br_f e2 (yes (Or.inl ⟨(hout i h).mp e, (hlt i h).mp e2⟩))
      have j112 : (¬ ((b_kind i = 2 ∨ b_kind i = 5) ∧ lt (sf_tg A B C i 1))) → wY_firstUninitialised_112 post (wY_firstUninitialised_66 post g_capacity g_horizon (nI c) g_verdict g_errorNode g_ticks g_saved g_savedTicks b_kind b_op b_out b_fact b_clock b_reach b_late b_depth b_latched b_there b_val b_savedLatched b_savedThere b_savedVal n) (nI i) g_capacity g_horizon (nI c) g_verdict g_errorNode g_ticks g_saved g_savedTicks b_kind b_op b_out b_fact b_clock b_reach b_late b_depth b_latched b_there b_val b_savedLatched b_savedThere b_savedVal := by
        intro ha
        unfold wY_firstUninitialised_112
        rw [hcl]
        refine And.intro hin ?_
        by_cases h4 : b_kind i = 4
        · obtain ⟨t2, o2⟩ := hN i h 2 sf_W2 (by rw [h4]; decide)
          have o2' : B i = nI (sf_tg A B C i 2) := o2
          refine br_t h4 ?_
          rw [sf_i31, sf_cl (n := i * 3 + 1) (by omega), (hO i (by omega)).2.1, o2', sf_cl (n := sf_tg A B C i 2) (by omega)]
          refine And.intro (sf_in (by omega) (by omega)) (And.intro (sf_in (by omega) (by omega)) ?_)
          by_cases e : b_late (sf_tg A B C i 2) = 0
          · exact br_t e (j142 ha (fun z => (hlt _ t2).mpr z.2 e))
          · exact br_f e (yes (Or.inr (Or.inr ⟨h4, (hlt _ t2).mp e⟩)))
        · exact br_f h4 (j142 ha (fun z => h4 z.1))
      have j94 : (b_kind i = 2 ∨ b_kind i = 5) → wY_firstUninitialised_94 post (wY_firstUninitialised_66 post g_capacity g_horizon (nI c) g_verdict g_errorNode g_ticks g_saved g_savedTicks b_kind b_op b_out b_fact b_clock b_reach b_late b_depth b_latched b_there b_val b_savedLatched b_savedThere b_savedVal n) (nI i) g_capacity g_horizon (nI c) g_verdict g_errorNode g_ticks g_saved g_savedTicks b_kind b_op b_out b_fact b_clock b_reach b_late b_depth b_latched b_there b_val b_savedLatched b_savedThere b_savedVal := by
        intro he
        obtain ⟨t1, o1⟩ := hN i h 1 sf_W1 (by rcases he with e | e <;> rw [e] <;> decide)
        have o1' : A i = nI (sf_tg A B C i 1) := o1
        unfold wY_firstUninitialised_94
        rw [sf_i3, sf_cl (n := i * 3) (by omega), (hO i (by omega)).1, o1', sf_cl (n := sf_tg A B C i 1) (by omega)]
        refine And.intro (sf_in (by omega) (by omega)) (And.intro (sf_in (by omega) (by omega)) ?_)
        by_cases e : b_late (sf_tg A B C i 1) = 0
        · exact br_t e (j112 (fun z => (hlt _ t1).mpr z.2 e))
        · exact br_f e (yes (Or.inr (Or.inl ⟨he, (hlt _ t1).mp e⟩)))
      refine br_f (sf_nle h (by omega)) (And.intro hin ?_)
      rw [hcl]
      by_cases h2 : b_kind i = 2
      · exact br_t h2 (j94 (Or.inl h2))
      refine br_f h2 (And.intro hin ?_)
      by_cases h5 : b_kind i = 5
      · exact br_t h5 (j94 (Or.inr h5))
      exact br_f h5 (j112 (fun z => z.1.elim h2 h5))
    · have : i = c := by omega
      subst this
      exact br_t (sf_le (by omega) (by omega)) (Kp _ (sf_FI_n hj))
theorem yl_33 {p : Nat} {ck : Nat → Int32} {pos : Nat → Nat} {lt : Nat → Prop} {post : Int32 → SY → Prop} {J23 : Int32 → (Nat → Int32) → (Nat → Int32) → (Nat → Int32) → (Nat → Int32) → (Nat → Int32) → (Nat → Int32) → (Nat → Int32) → (Nat → Int32) → (Nat → Int32) → (Nat → Int32) → (Nat → Int32) → (Nat → Int32) → (Nat → Int32) → (Nat → Int32) → Prop} (hc : c ≤ 24) (hk : ∀ i, i < c → sf_kd (b_kind i)) (hN : sf_ND c b_kind A B C) (hO : sf_Op b_op A B C)
    (hpos : sf_Po c (sf_N c b_kind A B C ck) pos) (hlt : sf_Lt c b_kind A B C lt)
    (KJ : ∀ g, (∀ k, k < c → g k = 0 ∨ g k = 1) → (∀ z, z < c → pos z < p + 1 → (¬ g z = 0 ↔ lt z)) → J23 (nI (p + 1)) b_kind b_op b_out b_fact b_clock b_reach g b_depth b_latched b_there b_val b_savedLatched b_savedThere b_savedVal) :
    ∀ n i g, i ≤ c → c - i < n → (∀ k, k < c → g k = 0 ∨ g k = 1) → (∀ z, z < c → (pos z < p ∨ (pos z ≤ p ∧ z < i)) → (¬ g z = 0 ↔ lt z)) → wY_firstUninitialised_33 post J23 (nI p) g_capacity g_horizon (nI c) g_verdict g_errorNode g_ticks g_saved g_savedTicks n (nI i) b_kind b_op b_out b_fact b_clock b_reach g b_depth b_latched b_there b_val b_savedLatched b_savedThere b_savedVal := by
  intro n
  induction n with
  | zero => intro i g _ hn; omega
  | succ n ih =>
    intro i g hi hn hb hI
    rcases Nat.lt_or_ge i c with h | h
    · have hcl : (nI i).toNatClampNeg = i := sf_cl (by omega)
      have hin : vp_in (nI i) 24 := sf_in (by omega) (by omega)
      have go : ∀ x : Int32, (x = 0 ∨ x = 1) → (¬ x = 0 ↔ sf_lr b_kind A B C (fun k => ¬ g k = 0) i) → wY_firstUninitialised_33 post J23 (nI p) g_capacity g_horizon (nI c) g_verdict g_errorNode g_ticks g_saved g_savedTicks n (nI (i + 1)) b_kind b_op b_out b_fact b_clock b_reach (upd g i x) b_depth b_latched b_there b_val b_savedLatched b_savedThere b_savedVal := by
        intro x hx hlr
        refine ih (i + 1) _ (by omega) (by omega) (fun k hk' => ?_) (fun z hz hp => ?_)
        · by_cases e : k = i
          · rw [e, sf_us]; exact hx
          · rw [sf_un e]; exact hb k hk'
        · by_cases e : z = i
          · subst e
            rw [sf_us, hlr, hlt z hz]
            refine sf_lr_cg (ck := ck) hz hN (fun k hk' => ?_)
            have := (hpos z hz).2 k hk'
            exact hI k hk'.2.1 (Or.inl (by omega))
          · rw [sf_un e]
            exact hI z hz (by omega)
      refine br_f (sf_nle h (by omega)) ?_
      refine yl_now hc h (hk i h) hN hO hb (fun hx => ?_) (fun hx => ?_)
      · rw [hcl]
        exact And.intro hin (nm_e (nm_r (nI_1 i) (go _ (Or.inr rfl) ⟨fun _ => hx, fun _ => by decide⟩)))
      · rw [hcl]
        exact And.intro hin (nm_e (nm_r (nI_1 i) (go _ (Or.inl rfl) ⟨fun z => absurd rfl z, fun z => absurd z hx⟩)))
    · have : i = c := by omega
      subst this
      exact br_t (sf_le (by omega) (by omega)) (nm_r (nI_1 p) (KJ g hb (fun z hz hp => hI z hz (Or.inr ⟨by omega, hz⟩))))
theorem yl_23 {ck : Nat → Int32} {pos : Nat → Nat} {out lt : Nat → Prop} {post : Int32 → SY → Prop} (hc : c ≤ 24) (hk : ∀ i, i < c → sf_kd (b_kind i)) (hN : sf_ND c b_kind A B C) (hO : sf_Op b_op A B C)
    (hpos : sf_Po c (sf_N c b_kind A B C ck) pos) (hlt : sf_Lt c b_kind A B C lt) (hout : ∀ i, i < c → (¬ b_out i = 0 ↔ out i)) (Kp : ∀ r g, sf_FI c (sf_uni b_kind A B C out lt) r → post r (g_capacity, g_horizon, nI c, g_verdict, g_errorNode, g_ticks, g_saved, g_savedTicks, b_kind, b_op, b_out, b_fact, b_clock, b_reach, g, b_depth, b_latched, b_there, b_val, b_savedLatched, b_savedThere, b_savedVal)) :
    ∀ n p g, p ≤ c → c - p < n → (∀ k, k < c → g k = 0 ∨ g k = 1) → (∀ z, z < c → pos z < p → (¬ g z = 0 ↔ lt z)) → wY_firstUninitialised_23 post g_capacity g_horizon (nI c) g_verdict g_errorNode g_ticks g_saved g_savedTicks n (nI p) b_kind b_op b_out b_fact b_clock b_reach g b_depth b_latched b_there b_val b_savedLatched b_savedThere b_savedVal := by
  intro n
  induction n with
  | zero => intro p g _ hn; omega
  | succ n ih =>
    intro p g hp hn hb hI
    rcases Nat.lt_or_ge p c with h | h
    · refine br_f (sf_nle h (by omega)) (Exists.intro (c + 1) ?_)
      exact yl_33 (ck := ck) hc hk hN hO hpos hlt (fun g' hb' hI' => ih (p + 1) g' (by omega) (by omega) hb' hI') (c + 1) 0 g (by omega) (by omega) hb (fun z hz hp' => hI z hz (by omega))
    · have : p = c := by omega
      subst this
      refine br_t (sf_le (by omega) (by omega)) (Exists.intro (p + 1) ?_)
      exact yl_66 hc hN hO hout (fun i hi => hI i hi (hpos i hi).1) (fun r hr => Kp r g hr) (p + 1) 0 (by omega) (by omega) (fun j z => absurd z (by omega))
theorem yl_2 {ck : Nat → Int32} {pos : Nat → Nat} {out lt : Nat → Prop} {post : Int32 → SY → Prop} (hc : c ≤ 24) (hk : ∀ i, i < c → sf_kd (b_kind i)) (hN : sf_ND c b_kind A B C) (hO : sf_Op b_op A B C)
    (hpos : sf_Po c (sf_N c b_kind A B C ck) pos) (hlt : sf_Lt c b_kind A B C lt) (hout : ∀ i, i < c → (¬ b_out i = 0 ↔ out i)) (Kp : ∀ r g, sf_FI c (sf_uni b_kind A B C out lt) r → post r (g_capacity, g_horizon, nI c, g_verdict, g_errorNode, g_ticks, g_saved, g_savedTicks, b_kind, b_op, b_out, b_fact, b_clock, b_reach, g, b_depth, b_latched, b_there, b_val, b_savedLatched, b_savedThere, b_savedVal)) :
    ∀ n i g, i ≤ 24 → 24 - i < n → (∀ k, k < i → g k = 0) → wY_firstUninitialised_2 post g_capacity g_horizon (nI c) g_verdict g_errorNode g_ticks g_saved g_savedTicks n (nI i) b_kind b_op b_out b_fact b_clock b_reach g b_depth b_latched b_there b_val b_savedLatched b_savedThere b_savedVal := by
  intro n
  induction n with
  | zero => intro i g _ hn; omega
  | succ n ih =>
    intro i g hi hn hI
    rcases Nat.lt_or_ge i 24 with h | h
    · refine br_f (sf_nle (b := 24) h (by omega)) (And.intro (sf_in h (by omega)) ?_)
      rw [sf_cl (by omega)]
      refine nm_e (nm_r (nI_1 i) (ih (i + 1) _ (by omega) (by omega) (fun j hj => ?_)))
      rcases (by omega : j < i ∨ j = i) with z | rfl
      · rw [sf_un (by omega)]; exact hI j z
      · rw [sf_us]; rfl
    · have : i = 24 := by omega
      subst this
      refine br_t (by decide) (Exists.intro (c + 1) ?_)
      exact yl_23 (ck := ck) hc hk hN hO hpos hlt hout Kp (c + 1) 0 g (by omega) (by omega) (fun k hk' => Or.inl (hI k (by omega))) (fun z hz y => absurd y (by omega))
theorem yl_uni {ck : Nat → Int32} {pos : Nat → Nat} {out lt : Nat → Prop} {post : Int32 → SY → Prop} (hc : c ≤ 24) (hk : ∀ i, i < c → sf_kd (b_kind i)) (hN : sf_ND c b_kind A B C) (hO : sf_Op b_op A B C)
    (hpos : sf_Po c (sf_N c b_kind A B C ck) pos) (hlt : sf_Lt c b_kind A B C lt) (hout : ∀ i, i < c → (¬ b_out i = 0 ↔ out i)) (Kp : ∀ r g, sf_FI c (sf_uni b_kind A B C out lt) r → post r (g_capacity, g_horizon, nI c, g_verdict, g_errorNode, g_ticks, g_saved, g_savedTicks, b_kind, b_op, b_out, b_fact, b_clock, b_reach, g, b_depth, b_latched, b_there, b_val, b_savedLatched, b_savedThere, b_savedVal)) : wpY_firstUninitialised post (g_capacity, g_horizon, nI c, g_verdict, g_errorNode, g_ticks, g_saved, g_savedTicks, b_kind, b_op, b_out, b_fact, b_clock, b_reach, b_late, b_depth, b_latched, b_there, b_val, b_savedLatched, b_savedThere, b_savedVal) :=
  Exists.intro 25 (yl_2 (ck := ck) hc hk hN hO hpos hlt hout Kp 25 0 _ (by omega) (by omega) (fun j z => absurd z (by omega)))
end
end
section
/-! the reference's verdict and levels -/
theorem sf_N_cg {c : Nat} {K A B C ck dk : Nat → Int32} (h : ∀ i, i < c → dk i = ck i) : sf_N c K A B C dk = sf_N c K A B C ck := by
  funext i k
  apply propext
  unfold sf_N sf_Ne
  constructor
  · rintro ⟨h1, h2, h3⟩
    rw [h i h1] at h3
    exact ⟨h1, h2, h3⟩
  · rintro ⟨h1, h2, h3⟩
    rw [← h i h1] at h3
    exact ⟨h1, h2, h3⟩
section
variable {g_capacity g_horizon g_count g_verdict g_errorNode g_ticks g_saved g_savedTicks : Int32} {b_kind b_op b_out b_fact b_clock b_reach b_late b_depth b_latched b_there b_val b_savedLatched b_savedThere b_savedVal : Nat → Int32} {A B C : Nat → Int32} {c : Nat}
theorem yj_13 {out : Nat → Prop} {ck : Nat → Int32} {L : Nat → Nat} {v e : Int32} {post : Int32 → SY → Prop} (hc : c ≤ 24) (hP : sf_Pg c 24 b_kind A B C) (hO : sf_Op b_op A B C) (hout : ∀ i, i < c → (¬ b_out i = 0 ↔ out i))
    (hc0 : 0 < c) (hA : sf_Ana c b_kind A B C out ck L v e)
    (Kp : ∀ f dk g l, (v = 1 → ∀ i, i < c → dk i = ck i) → post v (g_capacity, g_horizon, nI c, g_verdict, e, g_ticks, g_saved, g_savedTicks, b_kind, b_op, b_out, f, dk, g, l, b_depth, b_latched, b_there, b_val, b_savedLatched, b_savedThere, b_savedVal)) :
    ∀ n i fl, i ≤ c → c - i < n → ((fl = 0 ∧ ∀ j, j < i → ¬ out j) ∨ (fl = 1 ∧ ∃ j, j < c ∧ out j)) → wY_judge_13 post g_capacity g_horizon (nI c) g_verdict (-1) g_ticks g_saved g_savedTicks b_kind b_op b_out b_fact b_clock b_reach b_late b_depth b_latched b_there b_val b_savedLatched b_savedThere b_savedVal n fl (nI i) := by
  have hk : ∀ i, i < c → sf_kd (b_kind i) := fun i hi => (hP i hi).1
  intro n
  induction n with
  | zero => intro i fl _ hn; omega
  | succ n ih =>
    intro i fl hi hn hI
    rcases Nat.lt_or_ge i c with h | h
    · refine br_f (sf_nle h (by omega)) ?_
      rcases hI with ⟨e0, hI⟩ | ⟨e1, hI⟩
      · refine br_t e0 (And.intro (sf_in (by omega) (by omega)) ?_)
        rw [sf_cl (n := i) (by omega)]
        by_cases eo : b_out i = 0
        · refine br_t eo (nm_r (nI_1 i) (ih (i + 1) 0 (by omega) (by omega) (Or.inl ⟨rfl, fun j hj => ?_⟩)))
          rcases (by omega : j < i ∨ j = i) with z | rfl
          · exact hI j z
          · exact fun z => (hout j h).mpr z eo
        · exact br_f eo (nm_r (nI_1 i) (ih (i + 1) 1 (by omega) (by omega) (Or.inr ⟨rfl, i, h, (hout i h).mp eo⟩)))
      · exact br_f (by rw [e1]; decide) (nm_r (nI_1 i) (ih (i + 1) 1 (by omega) (by omega) (Or.inr ⟨rfl, hI⟩)))
    · have : i = c := by omega
      subst this
      refine br_t (sf_le (by omega) (by omega)) ?_
      rcases hA with ⟨z, _⟩ | ⟨_, hno, rfl, rfl⟩ | ⟨_, ⟨j0, hj0, ho0⟩, hA⟩
      · omega
      · rcases hI with ⟨e0, _⟩ | ⟨_, j, hj, hoj⟩
        · exact br_t e0 (Kp _ _ _ _ (fun z => absurd z (by decide)))
        · exact absurd hoj (hno j hj)
      · have hfl : fl = 1 := by
          rcases hI with ⟨_, hI⟩ | ⟨e1, _⟩
          · exact absurd ho0 (hI j0 hj0)
          · exact e1
        refine br_f (by rw [hfl]; decide) ?_
        rcases hA with ⟨rfl, he, hF⟩ | ⟨hN, hF1, F, hL, hA⟩
        · refine ya_dang hc hk hO (fun r hr => ?_)
          have er : r = e := sf_FI_u (fun _ _ => Iff.rfl) hr hF
          subst er
          exact br_f he (Kp _ _ _ _ (fun z => absurd z (by decide)))
        refine ya_dang hc hk hO (fun r hr => ?_)
        have er : r = -1 := sf_FI_u (fun _ _ => Iff.rfl) hr hF1
        subst er
        refine br_t sf_m1lt ?_
        refine yf_close hc hk hN hO hL (fun f hf => ?_)
        rcases hA with ⟨rfl, he, hF⟩ | ⟨hF2, hck, hA⟩
        · refine ya_clash hc hf hL.2.2 (fun r dk hr _ => ?_)
          have er : r = e := sf_FI_u (fun _ _ => Iff.rfl) hr hF
          subst er
          exact br_f he (Kp _ _ _ _ (fun z => absurd z (by decide)))
        refine ya_clash hc hf hL.2.2 (fun r dk hr hdk => ?_)
        have er : r = -1 := sf_FI_u (fun _ _ => Iff.rfl) hr hF2
        subst er
        refine br_t sf_m1lt ?_
        have hce : ∀ j, j < i → dk j = ck j := sf_CK_u hc (fun _ _ _ _ => Iff.rfl) (sf_FI_none hr sf_m1lt hc).2 (hdk sf_m1lt) hck
        have hNe : sf_N i b_kind A B C dk = sf_N i b_kind A B C ck := sf_N_cg hce
        have hcb : ∀ j, j < i → (sf_cob b_kind A B C dk j ↔ sf_cob b_kind A B C ck j) := by
          intro j hj
          unfold sf_cob
          constructor
          · rintro ⟨h5, hx⟩
            rw [hce _ (hN j hj 1 sf_W1 (by rw [h5]; decide)).1] at hx
            exact ⟨h5, hx⟩
          · rintro ⟨h5, hx⟩
            rw [← hce _ (hN j hj 1 sf_W1 (by rw [h5]; decide)).1] at hx
            exact ⟨h5, hx⟩
        rcases hA with ⟨rfl, he, hF⟩ | ⟨hF3, hA⟩
        · refine ya_cob hc hN hO (fun r hr => ?_)
          have er : r = e := sf_FI_u hcb hr hF
          subst er
          exact br_f he (Kp _ _ _ _ (fun z => absurd z (by decide)))
        refine ya_cob hc hN hO (fun r hr => ?_)
        have er : r = -1 := sf_FI_u hcb hr hF3
        subst er
        refine br_t sf_m1lt ?_
        rcases hA with ⟨rfl, he, hF⟩ | ⟨hF4, ⟨pos, hpos⟩, hLv, lt, hlt, hA⟩
        · refine yc_cyc hc hk hN hO (fun r g hr => ?_)
          rw [hNe] at hr
          have er : r = e := sf_FI_u (fun _ _ => Iff.rfl) hr hF
          subst er
          exact br_f he (Kp _ _ _ _ (fun z => absurd z (by decide)))
        refine yc_cyc hc hk hN hO (fun r g hr => ?_)
        rw [hNe] at hr
        have er : r = -1 := sf_FI_u (fun _ _ => Iff.rfl) hr hF4
        subst er
        refine br_t sf_m1lt ?_
        refine yl_uni (ck := ck) hc hk hN hO hpos hlt hout (fun r l hr => ?_)
        rcases hA with ⟨rfl, he, hF⟩ | ⟨rfl, rfl, hF⟩
        · have er : r = e := sf_FI_u (fun _ _ => Iff.rfl) hr hF
          subst er
          exact br_f he (Kp _ _ _ _ (fun z => absurd z (by decide)))
        · have er : r = -1 := sf_FI_u (fun _ _ => Iff.rfl) hr hF
          subst er
          exact br_t sf_m1lt (Kp _ _ _ _ (fun _ => hce))
theorem yj_judge {out : Nat → Prop} {ck : Nat → Int32} {L : Nat → Nat} {v e : Int32} {post : Int32 → SY → Prop} (hc : c ≤ 24) (hP : sf_Pg c 24 b_kind A B C) (hO : sf_Op b_op A B C) (hout : ∀ i, i < c → (¬ b_out i = 0 ↔ out i))
    (hA : sf_Ana c b_kind A B C out ck L v e)
    (Kp : ∀ f dk g l, (v = 1 → ∀ i, i < c → dk i = ck i) → post v (g_capacity, g_horizon, nI c, g_verdict, e, g_ticks, g_saved, g_savedTicks, b_kind, b_op, b_out, f, dk, g, l, b_depth, b_latched, b_there, b_val, b_savedLatched, b_savedThere, b_savedVal)) : wpY_judge post (g_capacity, g_horizon, nI c, g_verdict, -1, g_ticks, g_saved, g_savedTicks, b_kind, b_op, b_out, b_fact, b_clock, b_reach, b_late, b_depth, b_latched, b_there, b_val, b_savedLatched, b_savedThere, b_savedVal) := by
  by_cases h0 : c = 0
  · rcases hA with ⟨_, rfl, rfl⟩ | ⟨z, _⟩ | ⟨z, _⟩
    · exact br_t (by rw [h0]; rfl) (Kp _ _ _ _ (fun z => absurd z (by decide)))
    · omega
    · omega
  · exact br_f (nI_ne0 (by omega) (by omega)) (Exists.intro (c + 1) (yj_13 hc hP hO hout (by omega) hA Kp (c + 1) 0 0 (by omega) (by omega) (Or.inl ⟨rfl, fun j z => absurd z (by omega)⟩)))
def yv_RI (c : Nat) (pos L : Nat → Nat) (p i : Nat) (g : Nat → Int32) (D : Nat → Nat) : Prop := ∀ z, z < c → g z = nI (D z) ∧ D z ≤ L z ∧ ((pos z < p ∨ (pos z ≤ p ∧ z < i)) → D z = L z)
theorem yv_66 {p i : Nat} {x : Int32} {pos L : Nat → Nat} {post : Int32 → SY → Prop} {J45 J55 : Int32 → (Nat → Int32) → (Nat → Int32) → (Nat → Int32) → (Nat → Int32) → (Nat → Int32) → (Nat → Int32) → (Nat → Int32) → (Nat → Int32) → (Nat → Int32) → (Nat → Int32) → (Nat → Int32) → (Nat → Int32) → (Nat → Int32) → (Nat → Int32) → Prop} (hc : c ≤ 24) (hi : i < c) (hk : sf_kd (b_kind i)) (hN : sf_ND c b_kind A B C) (hO : sf_Op b_op A B C)
    (hpos : sf_Po c (sf_N c b_kind A B C b_clock) pos) (hL : sf_Lv c (sf_N c b_kind A B C b_clock) L)
    (KJ : ∀ g D, yv_RI c pos L p (i + 1) g D → J55 (nI (i + 1)) b_kind b_op b_out b_fact b_clock b_reach b_late g b_latched b_there b_val b_savedLatched b_savedThere b_savedVal) :
    ∀ n j g D, j ≤ c → c - j < n → yv_RI c pos L p i g D → (pos i ≤ p → ∀ l, l < j → sf_N c b_kind A B C b_clock i l → L l + 1 ≤ D i) → wY_level_66 post J45 J55 x (nI p) (nI i) g_capacity g_horizon (nI c) g_verdict g_errorNode g_ticks g_saved g_savedTicks n (nI j) b_kind b_op b_out b_fact b_clock b_reach b_late g b_latched b_there b_val b_savedLatched b_savedThere b_savedVal := by
  intro n
  induction n with
  | zero => intro j g D _ hn; omega
  | succ n ih =>
    intro j g D hj hn hR hI
    rcases Nat.lt_or_ge j c with h | h
    · have hcl : (nI i).toNatClampNeg = i := sf_cl (by omega)
      have hin : vp_in (nI i) 24 := sf_in (by omega) (by omega)
      have hclj : (nI j).toNatClampNeg = j := sf_cl (by omega)
      have hinj : vp_in (nI j) 24 := sf_in (by omega) (by omega)
      refine br_f (sf_nle h (by omega)) ?_
      refine ya_need hc hi h hk hN hO (fun hn' => ?_) (fun hn' => ?_)
      · refine br_f (by decide) ?_
        rw [hcl, hclj]
        obtain ⟨gi, di, ri⟩ := hR i hi
        obtain ⟨gj, dj, rj⟩ := hR j h
        have hLi := (hL i hi).1
        have hLN := (hL i hi).2.1 j hn'
        have hpj := (hpos i hi).2 j hn'
        refine And.intro hin (And.intro hinj ?_)
        rw [gi, gj, nI_1]
        refine sf_bl (by omega) (by omega) (fun hle => nm_r (nI_1 j) (ih (j + 1) g D (by omega) (by omega) hR (fun hp l hl hNl => ?_))) (fun hgt => And.intro hinj (And.intro hin (nm_e (nm_r (nI_1 j) ?_))))
        · rcases (by omega : l < j ∨ l = j) with z | rfl
          · exact hI hp l z hNl
          · rw [← rj (Or.inl (by omega))]; exact hle
        · refine ih (j + 1) _ (fun z => if z = i then D j + 1 else D z) (by omega) (by omega) (fun z hz => ?_) (fun hp l hl hNl => ?_)
          · by_cases e : z = i
            · subst e
              simp only [if_true, sf_us]
              refine ⟨trivial, by omega, fun hr => ?_⟩
              have := ri hr
              omega
            · simp only [if_neg e, sf_un e]; exact hR z hz
          · simp only [if_true]
            rcases (by omega : l < j ∨ l = j) with z | rfl
            · have := hI hp l z hNl; omega
            · rw [rj (Or.inl (by omega))]; exact Nat.le_refl _
      · refine br_t rfl (nm_r (nI_1 j) (ih (j + 1) g D (by omega) (by omega) hR (fun hp l hl hNl => ?_)))
        rcases (by omega : l < j ∨ l = j) with z | rfl
        · exact hI hp l z hNl
        · exact absurd hNl hn'
    · have : j = c := by omega
      subst this
      refine br_t (sf_le (by omega) (by omega)) (nm_r (nI_1 i) (KJ g D (fun z hz => ?_)))
      obtain ⟨gz, dz, rz⟩ := hR z hz
      refine ⟨gz, dz, fun hr => ?_⟩
      by_cases e : z = i
      · subst e
        have hp : pos z ≤ p := by omega
        rcases (hL z hz).2.2 with e0 | ⟨k, hNk, ek⟩
        · omega
        · have := hI hp k hNk.2.1 hNk; omega
      · exact rz (by omega)
theorem yv_55 {p : Nat} {x : Int32} {pos L : Nat → Nat} {post : Int32 → SY → Prop} {J45 : Int32 → (Nat → Int32) → (Nat → Int32) → (Nat → Int32) → (Nat → Int32) → (Nat → Int32) → (Nat → Int32) → (Nat → Int32) → (Nat → Int32) → (Nat → Int32) → (Nat → Int32) → (Nat → Int32) → (Nat → Int32) → (Nat → Int32) → (Nat → Int32) → Prop} (hc : c ≤ 24) (hk : ∀ i, i < c → sf_kd (b_kind i)) (hN : sf_ND c b_kind A B C) (hO : sf_Op b_op A B C)
    (hpos : sf_Po c (sf_N c b_kind A B C b_clock) pos) (hL : sf_Lv c (sf_N c b_kind A B C b_clock) L)
    (KJ : ∀ g D, yv_RI c pos L (p + 1) 0 g D → J45 (nI (p + 1)) b_kind b_op b_out b_fact b_clock b_reach b_late g b_latched b_there b_val b_savedLatched b_savedThere b_savedVal) :
    ∀ n i g D, i ≤ c → c - i < n → yv_RI c pos L p i g D → wY_level_55 post J45 x (nI p) g_capacity g_horizon (nI c) g_verdict g_errorNode g_ticks g_saved g_savedTicks n (nI i) b_kind b_op b_out b_fact b_clock b_reach b_late g b_latched b_there b_val b_savedLatched b_savedThere b_savedVal := by
  intro n
  induction n with
  | zero => intro i g D _ hn; omega
  | succ n ih =>
    intro i g D hi hn hR
    rcases Nat.lt_or_ge i c with h | h
    · refine br_f (sf_nle h (by omega)) (Exists.intro (c + 1) ?_)
      exact yv_66 hc h (hk i h) hN hO hpos hL (fun g' D' hR' => ih (i + 1) g' D' (by omega) (by omega) hR') (c + 1) 0 g D (by omega) (by omega) hR (fun _ l z => absurd z (by omega))
    · have : i = c := by omega
      subst this
      refine br_t (sf_le (by omega) (by omega)) (nm_r (nI_1 p) (KJ g D (fun z hz => ?_)))
      obtain ⟨gz, dz, rz⟩ := hR z hz
      exact ⟨gz, dz, fun hr => rz (by omega)⟩
theorem yv_45 {x : Nat} {pos L : Nat → Nat} {post : Int32 → SY → Prop} (hc : c ≤ 24) (hx : x < c) (hk : ∀ i, i < c → sf_kd (b_kind i)) (hN : sf_ND c b_kind A B C) (hO : sf_Op b_op A B C)
    (hpos : sf_Po c (sf_N c b_kind A B C b_clock) pos) (hL : sf_Lv c (sf_N c b_kind A B C b_clock) L) (Kp : ∀ g, post (nI (L x)) (g_capacity, g_horizon, nI c, g_verdict, g_errorNode, g_ticks, g_saved, g_savedTicks, b_kind, b_op, b_out, b_fact, b_clock, b_reach, b_late, g, b_latched, b_there, b_val, b_savedLatched, b_savedThere, b_savedVal)) :
    ∀ n p g D, p ≤ c → c - p < n → yv_RI c pos L p 0 g D → wY_level_45 post (nI x) g_capacity g_horizon (nI c) g_verdict g_errorNode g_ticks g_saved g_savedTicks n (nI p) b_kind b_op b_out b_fact b_clock b_reach b_late g b_latched b_there b_val b_savedLatched b_savedThere b_savedVal := by
  intro n
  induction n with
  | zero => intro p g D _ hn; omega
  | succ n ih =>
    intro p g D hp hn hR
    rcases Nat.lt_or_ge p c with h | h
    · refine br_f (sf_nle h (by omega)) (Exists.intro (c + 1) ?_)
      exact yv_55 hc hk hN hO hpos hL (fun g' D' hR' => ih (p + 1) g' D' (by omega) (by omega) hR') (c + 1) 0 g D (by omega) (by omega) hR
    · have : p = c := by omega
      subst this
      refine br_t (sf_le (by omega) (by omega)) (And.intro (sf_in (by omega) (by omega)) ?_)
      rw [sf_cl (n := x) (by omega)]
      obtain ⟨gz, _, rz⟩ := hR x hx
      rw [gz, rz (Or.inl (hpos x hx).1)]
      exact Kp g
theorem yv_24 {x : Nat} {pos L : Nat → Nat} {post : Int32 → SY → Prop} (hc : c ≤ 24) (hx : x < c) (hk : ∀ i, i < c → sf_kd (b_kind i)) (hN : sf_ND c b_kind A B C) (hO : sf_Op b_op A B C)
    (hpos : sf_Po c (sf_N c b_kind A B C b_clock) pos) (hL : sf_Lv c (sf_N c b_kind A B C b_clock) L) (Kp : ∀ g, post (nI (L x)) (g_capacity, g_horizon, nI c, g_verdict, g_errorNode, g_ticks, g_saved, g_savedTicks, b_kind, b_op, b_out, b_fact, b_clock, b_reach, b_late, g, b_latched, b_there, b_val, b_savedLatched, b_savedThere, b_savedVal)) :
    ∀ n i g, i ≤ 24 → 24 - i < n → (∀ k, k < i → g k = 0) → wY_level_24 post (nI x) g_capacity g_horizon (nI c) g_verdict g_errorNode g_ticks g_saved g_savedTicks n (nI i) b_kind b_op b_out b_fact b_clock b_reach b_late g b_latched b_there b_val b_savedLatched b_savedThere b_savedVal := by
  intro n
  induction n with
  | zero => intro i g _ hn; omega
  | succ n ih =>
    intro i g hi hn hI
    rcases Nat.lt_or_ge i 24 with h | h
    · refine br_f (sf_nle (b := 24) h (by omega)) (And.intro (sf_in h (by omega)) ?_)
      rw [sf_cl (by omega)]
      refine nm_e (nm_r (nI_1 i) (ih (i + 1) _ (by omega) (by omega) (fun j hj => ?_)))
      rcases (by omega : j < i ∨ j = i) with z | rfl
      · rw [sf_un (by omega)]; exact hI j z
      · rw [sf_us]
    · have : i = 24 := by omega
      subst this
      refine br_t (by decide) (Exists.intro (c + 1) ?_)
      exact yv_45 hc hx hk hN hO hpos hL Kp (c + 1) 0 g (fun _ => 0) (by omega) (by omega) (fun z hz => ⟨hI z (by omega), Nat.zero_le _, fun hr => absurd hr (by omega)⟩)
end
end
section
/-! step code: its layout -/
def em_prev (ic : Nat → Int32) : Nat → Int32
  | 0 => -1
  | n + 1 => ic n
def em_g (ic : Nat → Int32) (n : Nat) : Prop := ¬ ic n = em_prev ic n ∧ ¬ ic n < 0
noncomputable def em_bd (ic : Nat → Int32) : Nat → Nat
  | 0 => 0
  | n + 1 => em_bd ic n + sf_b01 (em_g ic n) + 1
noncomputable def em_ad (ic : Nat → Int32) (n : Nat) : Nat := em_bd ic n + sf_b01 (em_g ic n)
theorem em_bd_s (ic : Nat → Int32) (n : Nat) : em_bd ic (n + 1) = em_ad ic n + 1 := rfl
theorem em_ad_g {ic : Nat → Int32} {n : Nat} (h : em_g ic n) : em_ad ic n = em_bd ic n + 1 := by unfold em_ad; rw [sf_b01t h]
theorem em_ad_n {ic : Nat → Int32} {n : Nat} (h : ¬ em_g ic n) : em_ad ic n = em_bd ic n := by unfold em_ad; rw [sf_b01f h]; rfl
theorem em_ad_ge (ic : Nat → Int32) (n : Nat) : em_bd ic n ≤ em_ad ic n := by unfold em_ad; omega
theorem em_ad_le (ic : Nat → Int32) (n : Nat) : em_ad ic n ≤ em_bd ic n + 1 := by unfold em_ad; have := sf_b01le (em_g ic n); omega
theorem em_bd_le (ic : Nat → Int32) : ∀ n, em_bd ic n ≤ 2 * n
  | 0 => Nat.le_refl _
  | n + 1 => by have := em_bd_le ic n; have := em_ad_le ic n; rw [em_bd_s]; omega
theorem em_bd_lt (ic : Nat → Int32) {j : Nat} : ∀ {n : Nat}, j < n → em_ad ic j < em_bd ic n
  | 0, h => by omega
  | n + 1, h => by
    rw [em_bd_s]
    rcases (by omega : j < n ∨ j = n) with z | rfl
    · have := em_bd_lt ic z; have := em_ad_ge ic n; omega
    · omega
theorem em_bd_inj {ic : Nat → Int32} {i j : Nat} (h : em_bd ic i = em_bd ic j) : i = j := by
  rcases Nat.lt_trichotomy i j with z | z | z
  · have := em_bd_lt ic z; have := em_ad_ge ic i; omega
  · exact z
  · have := em_bd_lt ic z; have := em_ad_ge ic j; omega
theorem em_ad_bd {ic : Nat → Int32} {i j : Nat} (hg : em_g ic j) : em_ad ic i ≠ em_bd ic j := by
  rcases Nat.lt_or_ge i j with z | z
  · have := em_bd_lt ic z; omega
  · rcases (by omega : i = j ∨ j < i) with rfl | z
    · rw [em_ad_g hg]; omega
    · have := em_bd_lt ic z; have := em_ad_ge ic j; have := em_ad_ge ic i; omega
def em_LA (ic iO iD iX iY iZ cO cD cX cY cZ : Nat → Int32) (n : Nat) : Prop := ∀ j, j < n → cO (em_ad ic j) = iO j ∧ cD (em_ad ic j) = iD j ∧ cX (em_ad ic j) = iX j ∧ cY (em_ad ic j) = iY j ∧ cZ (em_ad ic j) = iZ j
def em_cls (ic cY : Nat → Int32) (n j : Nat) : Prop := ∃ m, j < m ∧ m < n ∧ cY (em_bd ic j) = nI (em_bd ic m) ∧ (∀ x, j ≤ x → x < m → ic x = ic j) ∧ ¬ ic m = ic j
def em_LB (ic cO cX cY : Nat → Int32) (n : Nat) (og : Int32) : Prop :=
  (∀ j, j < n → em_g ic j → cO (em_bd ic j) = 14 ∧ cX (em_bd ic j) = ic j ∧ ((og = nI (em_bd ic j) ∧ ∀ x, j ≤ x → x < n → ic x = ic j) ∨ em_cls ic cY n j)) ∧
  ((og = -1 ∧ em_prev ic n = -1) ∨ ∃ j, j < n ∧ em_g ic j ∧ og = nI (em_bd ic j) ∧ ∀ x, j ≤ x → x < n → ic x = ic j)
theorem em_pv {ic : Nat → Int32} {n j : Nat} (hj : j < n) (h : ∀ x, j ≤ x → x < n → ic x = ic j) : em_prev ic n = ic j := by
  cases n with
  | zero => omega
  | succ n => exact h n (by omega) (by omega)
theorem em_cls_up {ic cY : Nat → Int32} {n j : Nat} (h : em_cls ic cY n j) : em_cls ic cY (n + 1) j := by
  obtain ⟨m, h1, h2, h3⟩ := h
  exact ⟨m, h1, by omega, h3⟩
/-- the same clock: no guard -/
theorem em_same {ic cO cX cY : Nat → Int32} {n : Nat} {og : Int32} (h : em_LB ic cO cX cY n og) (e : ic n = em_prev ic n) : em_LB ic cO cX cY (n + 1) og ∧ em_ad ic n = em_bd ic n := by
  have hng : ¬ em_g ic n := fun z => z.1 e
  refine ⟨⟨fun j hj hg => ?_, ?_⟩, em_ad_n hng⟩
  · rcases (by omega : j < n ∨ j = n) with z | rfl
    · obtain ⟨h1, h2, h3⟩ := h.1 j z hg
      refine ⟨h1, h2, ?_⟩
      rcases h3 with ⟨h3, h4⟩ | h3
      · refine Or.inl ⟨h3, fun x hx hx' => ?_⟩
        rcases (by omega : x < n ∨ x = n) with y | rfl
        · exact h4 x hx y
        · rw [e]; exact em_pv z h4
      · exact Or.inr (em_cls_up h3)
    · exact absurd hg hng
  · rcases h.2 with ⟨h1, h2⟩ | ⟨j, hj, hg, h1, h2⟩
    · exact Or.inl ⟨h1, by show ic n = -1; rw [e]; exact h2⟩
    · refine Or.inr ⟨j, by omega, hg, h1, fun x hx hx' => ?_⟩
      rcases (by omega : x < n ∨ x = n) with y | rfl
      · exact h2 x hx y
      · rw [e]; exact em_pv hj h2
/-- closing the guard -/
theorem em_close {ic cO cX cY : Nat → Int32} {n g : Nat} (hb : em_bd ic n ≤ 100) (h : em_LB ic cO cX cY n (nI g)) (hg100 : g ≤ 100) (e : ¬ ic n = em_prev ic n) :
    (∀ j, j < n → em_g ic j → cO (em_bd ic j) = 14 ∧ cX (em_bd ic j) = ic j ∧ em_cls ic (upd cY g (nI (em_bd ic n))) (n + 1) j) ∧ (∀ j, em_ad ic j ≠ g) ∧ (∀ j, j < n → em_bd ic j ≤ 100) := by
  have hbl : ∀ j, j < n → em_bd ic j ≤ 100 := fun j hj => by have := em_bd_lt ic hj; have := em_ad_ge ic j; omega
  rcases h.2 with ⟨h1, _⟩ | ⟨j0, hj0, hg0, h1, h2⟩
  · exact absurd h1 (sf_nm1 (by omega))
  · have e0 : g = em_bd ic j0 := sf_ninj (by omega) (by have := hbl j0 hj0; omega) h1
    have hpv := em_pv hj0 h2
    refine ⟨fun j hj hg => ?_, fun j => by rw [e0]; exact em_ad_bd hg0, hbl⟩
    obtain ⟨h3, h4, h5⟩ := h.1 j hj hg
    refine ⟨h3, h4, ?_⟩
    by_cases ej : j = j0
    · subst ej
      exact ⟨n, hj, by omega, by rw [e0, sf_us], h2, fun z => e (by rw [z, hpv])⟩
    · have hne : em_bd ic j ≠ g := fun z => ej (em_bd_inj (z.trans e0))
      rcases h5 with ⟨h5, _⟩ | ⟨m, m1, m2, m3, m4⟩
      · exact absurd (sf_ninj (by omega) (by have := hbl j hj; omega) h5).symm hne
      · exact ⟨m, m1, by omega, by rw [sf_un hne]; exact m3, m4⟩
theorem em_noclose {ic cO cX cY : Nat → Int32} {n : Nat} {og : Int32} (hb : em_bd ic n ≤ 100) (h : em_LB ic cO cX cY n og) (ho : og < 0) :
    ∀ j, j < n → em_g ic j → cO (em_bd ic j) = 14 ∧ cX (em_bd ic j) = ic j ∧ em_cls ic cY (n + 1) j := by
  intro j hj hg
  have hbl : em_bd ic j ≤ 100 := by have := em_bd_lt ic hj; have := em_ad_ge ic j; omega
  obtain ⟨h3, h4, h5⟩ := h.1 j hj hg
  refine ⟨h3, h4, ?_⟩
  rcases h5 with ⟨h5, _⟩ | h5
  · rw [h5] at ho; exact absurd ho (sf_npos (by omega))
  · exact em_cls_up h5
theorem em_base {ic cO cX cY : Nat → Int32} {n : Nat} (h : ∀ j, j < n → em_g ic j → cO (em_bd ic j) = 14 ∧ cX (em_bd ic j) = ic j ∧ em_cls ic cY (n + 1) j) (h0 : ic n = -1) :
    em_LB ic cO cX cY (n + 1) (-1) ∧ em_ad ic n = em_bd ic n := by
  have hng : ¬ em_g ic n := fun z => z.2 (by rw [h0]; decide)
  refine ⟨⟨fun j hj hg => ?_, Or.inl ⟨rfl, h0⟩⟩, em_ad_n hng⟩
  rcases (by omega : j < n ∨ j = n) with z | rfl
  · obtain ⟨h1, h2, h3⟩ := h j z hg
    exact ⟨h1, h2, Or.inr h3⟩
  · exact absurd hg hng
theorem em_guard {ic cO cX cY : Nat → Int32} {n : Nat} (h : ∀ j, j < n → em_g ic j → cO (em_bd ic j) = 14 ∧ cX (em_bd ic j) = ic j ∧ em_cls ic cY (n + 1) j) (hg : em_g ic n) :
    em_LB ic (upd cO (em_bd ic n) 14) (upd cX (em_bd ic n) (ic n)) (upd cY (em_bd ic n) 0) (n + 1) (nI (em_bd ic n)) := by
  refine ⟨fun j hj hgj => ?_, Or.inr ⟨n, by omega, hg, rfl, fun x hx hx' => by rw [show x = n by omega]⟩⟩
  rcases (by omega : j < n ∨ j = n) with z | rfl
  · have hne : em_bd ic j ≠ em_bd ic n := fun e => absurd (em_bd_inj e) (by omega)
    obtain ⟨h1, h2, m, m1, m2, m3, m4⟩ := h j z hgj
    rw [sf_un hne, sf_un hne]
    exact ⟨h1, h2, Or.inr ⟨m, m1, m2, by rw [sf_un hne]; exact m3, m4⟩⟩
  · rw [sf_us, sf_us]
    exact ⟨rfl, rfl, Or.inl ⟨rfl, fun x hx hx' => by rw [show x = j by omega]⟩⟩
theorem em_put {ic iO iD iX iY iZ cO cD cX cY cZ : Nat → Int32} {n : Nat} {og : Int32} (hB : em_LB ic cO cX cY (n + 1) og) (hA : em_LA ic iO iD iX iY iZ cO cD cX cY cZ n) :
    em_LB ic (upd cO (em_ad ic n) (iO n)) (upd cX (em_ad ic n) (iX n)) (upd cY (em_ad ic n) (iY n)) (n + 1) og ∧
    em_LA ic iO iD iX iY iZ (upd cO (em_ad ic n) (iO n)) (upd cD (em_ad ic n) (iD n)) (upd cX (em_ad ic n) (iX n)) (upd cY (em_ad ic n) (iY n)) (upd cZ (em_ad ic n) (iZ n)) (n + 1) := by
  refine ⟨⟨fun j hj hg => ?_, hB.2⟩, fun j hj => ?_⟩
  · have hne : em_bd ic j ≠ em_ad ic n := fun e => em_ad_bd hg e.symm
    obtain ⟨h1, h2, h3⟩ := hB.1 j hj hg
    rw [sf_un hne, sf_un hne]
    refine ⟨h1, h2, ?_⟩
    rcases h3 with h3 | ⟨m, m1, m2, m3, m4⟩
    · exact Or.inl h3
    · exact Or.inr ⟨m, m1, m2, by rw [sf_un hne]; exact m3, m4⟩
  · rcases (by omega : j < n ∨ j = n) with z | rfl
    · have hne : em_ad ic j ≠ em_ad ic n := by have := em_bd_lt ic z; have := em_ad_ge ic n; omega
      rw [sf_un hne, sf_un hne, sf_un hne, sf_un hne, sf_un hne]
      exact hA j z
    · rw [sf_us, sf_us, sf_us, sf_us, sf_us]
      exact ⟨rfl, rfl, rfl, rfl, rfl⟩
def em_x (K A : Nat → Int32) (i : Nat) : Int32 := if K i = 0 then nI i else A i
def em_y (K B : Nat → Int32) (i : Nat) : Int32 := if K i = 0 then 0 else if K i = 5 then 0 else B i
def em_z (K C S : Nat → Int32) (i : Nat) : Int32 := if K i = 0 then 0 else if K i = 2 then S i else if K i = 3 then S i else if K i = 5 then S i else C i
def em_iO (c : Nat) (K : Nat → Int32) (nd : Nat → Nat) (n : Nat) : Int32 := if n < c then K (nd n) else 15
def em_iD (c : Nat) (S : Nat → Int32) (nd : Nat → Nat) (n : Nat) : Int32 := if n < c then nI (nd n) else S (nd n)
def em_iX (c : Nat) (K A : Nat → Int32) (nd : Nat → Nat) (n : Nat) : Int32 := if n < c then em_x K A (nd n) else A (nd n)
def em_iY (c : Nat) (K B : Nat → Int32) (nd : Nat → Nat) (n : Nat) : Int32 := if n < c then em_y K B (nd n) else 0
def em_iZ (c : Nat) (K C S : Nat → Int32) (nd : Nat → Nat) (n : Nat) : Int32 := if n < c then em_z K C S (nd n) else 0
def em_ic (ck : Nat → Int32) (nd : Nat → Nat) (n : Nat) : Int32 := ck (nd n)
def em_sc (K : Nat → Int32) (o : Nat → Nat) : Nat → Nat
  | 0 => 0
  | j + 1 => em_sc K o j + (if K (o j) = 2 then 1 else 0)
theorem em_sc_t {K : Nat → Int32} {o : Nat → Nat} {j : Nat} (h : K (o j) = 2) : em_sc K o (j + 1) = em_sc K o j + 1 := by simp only [em_sc, if_pos h]
theorem em_sc_f {K : Nat → Int32} {o : Nat → Nat} {j : Nat} (h : ¬ K (o j) = 2) : em_sc K o (j + 1) = em_sc K o j := by simp only [em_sc, if_neg h]; rfl
theorem em_sc_le (K : Nat → Int32) (o : Nat → Nat) : ∀ j, em_sc K o j ≤ j
  | 0 => Nat.le_refl _
  | j + 1 => by
    have := em_sc_le K o j
    by_cases h : K (o j) = 2
    · rw [em_sc_t h]; omega
    · rw [em_sc_f h]; omega
theorem em_nd_ex (K : Nat → Int32) (o : Nat → Nat) (c : Nat) : ∀ J, ∃ nd : Nat → Nat, (∀ n, n < c → nd n = o n) ∧ (∀ j, j < J → K (o j) = 2 → nd (c + em_sc K o j) = o j) ∧
    (∀ n, c ≤ n → n < c + em_sc K o J → ∃ j, j < J ∧ K (o j) = 2 ∧ n = c + em_sc K o j) ∧ (∀ j, j < J → K (o j) = 2 → em_sc K o j < em_sc K o J) := by
  intro J
  induction J with
  | zero => exact ⟨o, fun _ _ => rfl, fun j z => absurd z (by omega), fun n h1 h2 => absurd h2 (by simp only [em_sc]; omega), fun j z => absurd z (by omega)⟩
  | succ J ih =>
    obtain ⟨nd, h1, h2, h3, h4⟩ := ih
    by_cases hK : K (o J) = 2
    · refine ⟨fun x => if x = c + em_sc K o J then o J else nd x, fun n hn => ?_, fun j hj hj2 => ?_, fun n hn hn2 => ?_, fun j hj hj2 => ?_⟩
      · show (if n = c + em_sc K o J then o J else nd n) = o n
        rw [if_neg (by omega)]; exact h1 n hn
      · show (if c + em_sc K o j = c + em_sc K o J then o J else nd (c + em_sc K o j)) = o j
        rcases (by omega : j < J ∨ j = J) with z | rfl
        · rw [if_neg (by have := h4 j z hj2; omega)]; exact h2 j z hj2
        · rw [if_pos rfl]
      · rw [em_sc_t hK] at hn2
        rcases (by omega : n < c + em_sc K o J ∨ n = c + em_sc K o J) with z | z
        · obtain ⟨j, a, b, d⟩ := h3 n hn z
          exact ⟨j, by omega, b, d⟩
        · exact ⟨J, by omega, hK, z⟩
      · rw [em_sc_t hK]
        rcases (by omega : j < J ∨ j = J) with z | rfl
        · have := h4 j z hj2; omega
        · omega
    · refine ⟨nd, h1, fun j hj hj2 => ?_, fun n hn hn2 => ?_, fun j hj hj2 => ?_⟩
      · rcases (by omega : j < J ∨ j = J) with z | rfl
        · exact h2 j z hj2
        · exact absurd hj2 hK
      · rw [em_sc_f hK] at hn2
        obtain ⟨j, a, b, d⟩ := h3 n hn hn2
        exact ⟨j, by omega, b, d⟩
      · rw [em_sc_f hK]
        rcases (by omega : j < J ∨ j = J) with z | rfl
        · exact h4 j z hj2
        · exact absurd hj2 hK
/-- finished code: N items at their addresses, each guard with its target -/
def em_Fin (ic cO cX cY : Nat → Int32) (N : Nat) : Prop := ∀ j, j < N → em_g ic j → cO (em_bd ic j) = 14 ∧ cX (em_bd ic j) = ic j ∧
  ∃ m, j < m ∧ m ≤ N ∧ cY (em_bd ic j) = nI (em_bd ic m) ∧ (∀ x, j ≤ x → x < m → ic x = ic j) ∧ (m < N → ¬ ic m = ic j)
def em_Code (c : Nat) (K A B C ck S cO cD cX cY cZ : Nat → Int32) (L : Int32) : Prop := ∃ (N : Nat) (nd : Nat → Nat), c ≤ N ∧ N ≤ 48 ∧ (∀ n, n < N → nd n < c) ∧ sf_Or c (sf_N c K A B C ck) nd ∧
  (∀ n, c ≤ n → n < N → K (nd n) = 2) ∧ (∀ z, z < c → K z = 2 → ∃ n, c ≤ n ∧ n < N ∧ nd n = z) ∧ L = nI (em_bd (em_ic ck nd) N) ∧
  em_LA (em_ic ck nd) (em_iO c K nd) (em_iD c S nd) (em_iX c K A nd) (em_iY c K B nd) (em_iZ c K C S nd) cO cD cX cY cZ N ∧ em_Fin (em_ic ck nd) cO cX cY N
def em_mk (k : Int32) : Prop := k = 2 ∨ k = 3 ∨ k = 5
def em_Mi (i : Nat) (K B S mI : Nat → Int32) (mc : Nat) : Prop := ∀ j, j < i → em_mk (K j) → ∃ s, s < mc ∧ S j = nI s ∧ mI s = (if K j = 5 then B j else 0) ∧ ∀ l, l < i → em_mk (K l) → S l = nI s → l = j
end
section
/-! the component's emission -/
section
variable {f_capacity f_horizon f_count f_verdict f_errorNode f_outputs f_late f_codeLen f_openGuard f_guardClock f_memCount f_presence f_tickCount f_digestValue f_hasSnapshot f_savedPresence f_savedTicks f_savedDigest : Int32} {a_kinds a_opA a_opB a_opC a_parent a_facts a_clocks a_needs a_reach a_order a_levels a_codeOp a_codeDst a_codeX a_codeY a_codeZ a_memSlot a_memInit a_mem a_latched a_vals a_savedMem a_savedLatched a_savedVals : Nat → Int32}
theorem xe_emit {a : Nat} {post : SX → Prop} {p0 p1 p2 p3 p4 : Int32} (ha : a < 96)
    (Kp : post (f_capacity, f_horizon, f_count, f_verdict, f_errorNode, f_outputs, f_late, nI (a + 1), f_openGuard, f_guardClock, f_memCount, f_presence, f_tickCount, f_digestValue, f_hasSnapshot, f_savedPresence, f_savedTicks, f_savedDigest, a_kinds, a_opA, a_opB, a_opC, a_parent, a_facts, a_clocks, a_needs, a_reach, a_order, a_levels, upd a_codeOp a p0, upd a_codeDst a p1, upd a_codeX a p2, upd a_codeY a p3, upd a_codeZ a p4, a_memSlot, a_memInit, a_mem, a_latched, a_vals, a_savedMem, a_savedLatched, a_savedVals)) :
    wpX_emit post (f_capacity, f_horizon, f_count, f_verdict, f_errorNode, f_outputs, f_late, nI a, f_openGuard, f_guardClock, f_memCount, f_presence, f_tickCount, f_digestValue, f_hasSnapshot, f_savedPresence, f_savedTicks, f_savedDigest, a_kinds, a_opA, a_opB, a_opC, a_parent, a_facts, a_clocks, a_needs, a_reach, a_order, a_levels, a_codeOp, a_codeDst, a_codeX, a_codeY, a_codeZ, a_memSlot, a_memInit, a_mem, a_latched, a_vals, a_savedMem, a_savedLatched, a_savedVals) p0 p1 p2 p3 p4 := by
  have hin : vp_in (nI a) 96 := sf_in ha (by omega)
  refine br_t (sf_lt (b := 96) ha (by omega)) (And.intro hin ?_)
  rw [sf_cl (n := a) (by omega)]
  exact nm_e (And.intro hin (nm_e (And.intro hin (nm_e (And.intro hin (nm_e (And.intro hin (nm_e (nm_r (nI_1 a) Kp)))))))))
theorem xe_enter {n : Nat} {ic iO iD iX iY iZ : Nat → Int32} {post : SX → Prop} (hn : n < 48) (hB : em_LB ic a_codeOp a_codeX a_codeY n f_openGuard) (hA : em_LA ic iO iD iX iY iZ a_codeOp a_codeDst a_codeX a_codeY a_codeZ n)
    (hic : ic n = -1 ∨ ¬ ic n < 0)
    (Kp : ∀ og cO cD cX cY cZ, em_LB ic cO cX cY (n + 1) og → em_LA ic iO iD iX iY iZ cO cD cX cY cZ n →
      post (f_capacity, f_horizon, f_count, f_verdict, f_errorNode, f_outputs, f_late, nI (em_ad ic n), og, ic n, f_memCount, f_presence, f_tickCount, f_digestValue, f_hasSnapshot, f_savedPresence, f_savedTicks, f_savedDigest, a_kinds, a_opA, a_opB, a_opC, a_parent, a_facts, a_clocks, a_needs, a_reach, a_order, a_levels, cO, cD, cX, cY, cZ, a_memSlot, a_memInit, a_mem, a_latched, a_vals, a_savedMem, a_savedLatched, a_savedVals)) :
    wpX_enterClock post (f_capacity, f_horizon, f_count, f_verdict, f_errorNode, f_outputs, f_late, nI (em_bd ic n), f_openGuard, em_prev ic n, f_memCount, f_presence, f_tickCount, f_digestValue, f_hasSnapshot, f_savedPresence, f_savedTicks, f_savedDigest, a_kinds, a_opA, a_opB, a_opC, a_parent, a_facts, a_clocks, a_needs, a_reach, a_order, a_levels, a_codeOp, a_codeDst, a_codeX, a_codeY, a_codeZ, a_memSlot, a_memInit, a_mem, a_latched, a_vals, a_savedMem, a_savedLatched, a_savedVals) (ic n) := by
  have hb := em_bd_le ic n
  by_cases e : ic n = em_prev ic n
  · obtain ⟨h1, h2⟩ := em_same hB e
    refine br_t e ?_
    have := Kp f_openGuard _ _ _ _ _ h1 hA
    rw [h2, e] at this
    exact this
  · refine br_f e ?_
    have fin : ∀ cY, (∀ j, j < n → em_g ic j → a_codeOp (em_bd ic j) = 14 ∧ a_codeX (em_bd ic j) = ic j ∧ em_cls ic cY (n + 1) j) → em_LA ic iO iD iX iY iZ a_codeOp a_codeDst a_codeX cY a_codeZ n →
        ((ic n < 0 → post (f_capacity, f_horizon, f_count, f_verdict, f_errorNode, f_outputs, f_late, nI (em_bd ic n), -1, ic n, f_memCount, f_presence, f_tickCount, f_digestValue, f_hasSnapshot, f_savedPresence, f_savedTicks, f_savedDigest, a_kinds, a_opA, a_opB, a_opC, a_parent, a_facts, a_clocks, a_needs, a_reach, a_order, a_levels, a_codeOp, a_codeDst, a_codeX, cY, a_codeZ, a_memSlot, a_memInit, a_mem, a_latched, a_vals, a_savedMem, a_savedLatched, a_savedVals)) ∧
         (¬ ic n < 0 → wpX_emit post (f_capacity, f_horizon, f_count, f_verdict, f_errorNode, f_outputs, f_late, nI (em_bd ic n), nI (em_bd ic n), ic n, f_memCount, f_presence, f_tickCount, f_digestValue, f_hasSnapshot, f_savedPresence, f_savedTicks, f_savedDigest, a_kinds, a_opA, a_opB, a_opC, a_parent, a_facts, a_clocks, a_needs, a_reach, a_order, a_levels, a_codeOp, a_codeDst, a_codeX, cY, a_codeZ, a_memSlot, a_memInit, a_mem, a_latched, a_vals, a_savedMem, a_savedLatched, a_savedVals) 14 0 (ic n) 0 0)) := by
      intro cY hc hA'
      refine ⟨fun h0 => ?_, fun h0 => ?_⟩
      · have h1 : ic n = -1 := hic.elim id (fun z => absurd h0 z)
        obtain ⟨h2, h3⟩ := em_base hc h1
        have := Kp (-1) _ _ _ _ _ h2 hA'
        rw [h3] at this
        exact this
      · have hg : em_g ic n := ⟨e, h0⟩
        refine xe_emit (by omega) ?_
        have h2 := em_guard hc hg
        have := Kp (nI (em_bd ic n)) _ (upd a_codeDst (em_bd ic n) 0) _ _ (upd a_codeZ (em_bd ic n) 0) h2 (fun j hj => by
          have hne : em_ad ic j ≠ em_bd ic n := by have := em_bd_lt ic hj; omega
          rw [sf_un hne, sf_un hne, sf_un hne, sf_un hne, sf_un hne]
          exact hA' j hj)
        rw [em_ad_g hg] at this
        exact this
    by_cases ho : f_openGuard < 0
    · have hog : f_openGuard = -1 := by
        rcases hB.2 with ⟨z, _⟩ | ⟨j, hj, _, z, _⟩
        · exact z
        · rw [z] at ho; exact absurd ho (sf_npos (by have := em_bd_lt ic hj; have := em_ad_ge ic j; omega))
      refine br_t ho ?_
      have := fin a_codeY (em_noclose (by omega) hB ho) hA
      rw [hog]
      exact this
    · obtain ⟨g, hg, eg⟩ : ∃ g, g < 96 ∧ f_openGuard = nI g := by
        rcases hB.2 with ⟨z, _⟩ | ⟨j, hj, _, z, _⟩
        · rw [z] at ho; exact absurd sf_m1lt ho
        · exact ⟨_, by have := em_bd_lt ic hj; have := em_ad_ge ic j; omega, z⟩
      rw [eg] at hB
      obtain ⟨k1, k2, _⟩ := em_close (by omega) hB (by omega) e
      refine br_f ho (And.intro (by rw [eg]; exact sf_in hg (by omega)) ?_)
      refine nm_r (e' := upd a_codeY g (nI (em_bd ic n))) (by rw [eg, sf_cl (by omega)]) ?_
      exact fin _ k1 (fun j hj => by rw [sf_un (k2 j)]; exact hA j hj)
theorem xe_eqn {i a : Nat} {post : SX → Prop} (hi : i < 24) (ha : a < 96) (hk : sf_kd (a_kinds i))
    (Kp : post (f_capacity, f_horizon, f_count, f_verdict, f_errorNode, f_outputs, f_late, nI (a + 1), f_openGuard, f_guardClock, f_memCount, f_presence, f_tickCount, f_digestValue, f_hasSnapshot, f_savedPresence, f_savedTicks, f_savedDigest, a_kinds, a_opA, a_opB, a_opC, a_parent, a_facts, a_clocks, a_needs, a_reach, a_order, a_levels, upd a_codeOp a (a_kinds i), upd a_codeDst a (nI i), upd a_codeX a (em_x a_kinds a_opA i), upd a_codeY a (em_y a_kinds a_opB i), upd a_codeZ a (em_z a_kinds a_opC a_memSlot i), a_memSlot, a_memInit, a_mem, a_latched, a_vals, a_savedMem, a_savedLatched, a_savedVals)) :
    wpX_emitEquation post (f_capacity, f_horizon, f_count, f_verdict, f_errorNode, f_outputs, f_late, nI a, f_openGuard, f_guardClock, f_memCount, f_presence, f_tickCount, f_digestValue, f_hasSnapshot, f_savedPresence, f_savedTicks, f_savedDigest, a_kinds, a_opA, a_opB, a_opC, a_parent, a_facts, a_clocks, a_needs, a_reach, a_order, a_levels, a_codeOp, a_codeDst, a_codeX, a_codeY, a_codeZ, a_memSlot, a_memInit, a_mem, a_latched, a_vals, a_savedMem, a_savedLatched, a_savedVals) (nI i) := by
  have hin : vp_in (nI i) 24 := sf_in hi (by omega)
  refine And.intro hin ?_
  rw [sf_cl (n := i) (by omega)]
  refine nm_e ?_
  unfold em_x em_y em_z at Kp
  by_cases h0 : a_kinds i = 0
  · rw [if_pos h0, if_pos h0, if_pos h0] at Kp
    exact br_t h0 (xe_emit ha Kp)
  rw [if_neg h0, if_neg h0, if_neg h0] at Kp
  refine br_f h0 ?_
  have j33 : a_kinds i = 2 ∨ a_kinds i = 3 → wX_emitEquation_33 post (nI i) (a_kinds i) f_capacity f_horizon f_count f_verdict f_errorNode f_outputs f_late (nI a) f_openGuard f_guardClock f_memCount f_presence f_tickCount f_digestValue f_hasSnapshot f_savedPresence f_savedTicks f_savedDigest a_kinds a_opA a_opB a_opC a_parent a_facts a_clocks a_needs a_reach a_order a_levels a_codeOp a_codeDst a_codeX a_codeY a_codeZ a_memSlot a_memInit a_mem a_latched a_vals a_savedMem a_savedLatched a_savedVals := by
    intro he
    have h5 : ¬ a_kinds i = 5 := by rcases he with e | e <;> rw [e] <;> decide
    have Kp' : post (f_capacity, f_horizon, f_count, f_verdict, f_errorNode, f_outputs, f_late, nI (a + 1), f_openGuard, f_guardClock, f_memCount, f_presence, f_tickCount, f_digestValue, f_hasSnapshot, f_savedPresence, f_savedTicks, f_savedDigest, a_kinds, a_opA, a_opB, a_opC, a_parent, a_facts, a_clocks, a_needs, a_reach, a_order, a_levels, upd a_codeOp a (a_kinds i), upd a_codeDst a (nI i), upd a_codeX a (a_opA i), upd a_codeY a (a_opB i), upd a_codeZ a (a_memSlot i), a_memSlot, a_memInit, a_mem, a_latched, a_vals, a_savedMem, a_savedLatched, a_savedVals) := by
      rw [if_neg h5] at Kp
      rcases he with e | e
      · rw [if_pos e] at Kp; exact Kp
      · rw [if_neg (by rw [e]; decide), if_pos e] at Kp; exact Kp
    unfold wX_emitEquation_33
    rw [sf_cl (n := i) (by omega)]
    exact And.intro hin (And.intro hin (And.intro hin (xe_emit ha Kp')))
  by_cases h2 : a_kinds i = 2
  · exact br_t h2 (j33 (Or.inl h2))
  refine br_f h2 ?_
  by_cases h3 : a_kinds i = 3
  · exact br_t h3 (j33 (Or.inr h3))
  refine br_f h3 ?_
  rw [if_neg h2, if_neg h3] at Kp
  by_cases h5 : a_kinds i = 5
  · rw [if_pos h5, if_pos h5] at Kp
    exact br_t h5 (And.intro hin (And.intro hin (xe_emit ha Kp)))
  · rw [if_neg h5, if_neg h5] at Kp
    exact br_f h5 (And.intro hin (And.intro hin (And.intro hin (xe_emit ha Kp))))
theorem xe_59 {c : Nat} {o nd : Nat → Nat} {post : SX → Prop} (hc : c ≤ 24) (hck : ∀ i, i < c → a_clocks i = -1 ∨ ∃ k, k < c ∧ a_clocks i = nI k) (ho : ∀ j, j < c → a_order j = nI (o j)) (hoc : ∀ j, j < c → o j < c)
    (hnd : ∀ j, j < c → a_kinds (o j) = 2 → nd (c + em_sc a_kinds o j) = o j)
    (Kp : ∀ og gk cO cD cX cY cZ, em_LA (em_ic a_clocks nd) (em_iO c a_kinds nd) (em_iD c a_memSlot nd) (em_iX c a_kinds a_opA nd) (em_iY c a_kinds a_opB nd) (em_iZ c a_kinds a_opC a_memSlot nd) cO cD cX cY cZ (c + em_sc a_kinds o c) → em_Fin (em_ic a_clocks nd) cO cX cY (c + em_sc a_kinds o c) →
      post (f_capacity, f_horizon, nI c, f_verdict, f_errorNode, f_outputs, f_late, nI (em_bd (em_ic a_clocks nd) (c + em_sc a_kinds o c)), og, gk, f_memCount, f_presence, f_tickCount, f_digestValue, f_hasSnapshot, f_savedPresence, f_savedTicks, f_savedDigest, a_kinds, a_opA, a_opB, a_opC, a_parent, a_facts, a_clocks, a_needs, a_reach, a_order, a_levels, cO, cD, cX, cY, cZ, a_memSlot, a_memInit, a_mem, a_latched, a_vals, a_savedMem, a_savedLatched, a_savedVals)) :
    ∀ n j og cO cD cX cY cZ, j ≤ c → c - j < n → em_LB (em_ic a_clocks nd) cO cX cY (c + em_sc a_kinds o j) og → em_LA (em_ic a_clocks nd) (em_iO c a_kinds nd) (em_iD c a_memSlot nd) (em_iX c a_kinds a_opA nd) (em_iY c a_kinds a_opB nd) (em_iZ c a_kinds a_opC a_memSlot nd) cO cD cX cY cZ (c + em_sc a_kinds o j) →
      wX_emitCode_59 post n (nI j) f_capacity f_horizon (nI c) f_verdict f_errorNode f_outputs f_late (nI (em_bd (em_ic a_clocks nd) (c + em_sc a_kinds o j))) og (em_prev (em_ic a_clocks nd) (c + em_sc a_kinds o j)) f_memCount f_presence f_tickCount f_digestValue f_hasSnapshot f_savedPresence f_savedTicks f_savedDigest a_kinds a_opA a_opB a_opC a_parent a_facts a_clocks a_needs a_reach a_order a_levels cO cD cX cY cZ a_memSlot a_memInit a_mem a_latched a_vals a_savedMem a_savedLatched a_savedVals := by
  intro n
  induction n with
  | zero => intro j og cO cD cX cY cZ _ hn; omega
  | succ n ih =>
    intro j og cO cD cX cY cZ hj hn hB hA
    have hsc := em_sc_le a_kinds o j
    have hbl := em_bd_le (em_ic a_clocks nd) (c + em_sc a_kinds o j)
    rcases Nat.lt_or_ge j c with h | h
    · have hoj := hoc j h
      have hin : vp_in (nI (o j)) 24 := sf_in (by omega) (by omega)
      refine br_f (sf_nle h (by omega)) (And.intro (sf_in (by omega) (by omega)) ?_)
      rw [sf_cl (n := j) (by omega)]
      refine nm_r (ho j h) (And.intro hin ?_)
      rw [sf_cl (n := o j) (by omega)]
      by_cases h2 : a_kinds (o j) = 2
      · refine br_t h2 (And.intro hin ?_)
        have hndj := hnd j h h2
        have eic : a_clocks (o j) = em_ic a_clocks nd (c + em_sc a_kinds o j) := by unfold em_ic; rw [hndj]
        rw [eic]
        refine xe_enter (ic := em_ic a_clocks nd) (by omega) hB hA ?_ (fun og' cO' cD' cX' cY' cZ' hB' hA' => ?_)
        · rw [← eic]
          rcases hck _ hoj with z | ⟨k, _, z⟩
          · exact Or.inl z
          · exact Or.inr (by rw [z]; exact sf_npos (by omega))
        · have hadl := em_ad_le (em_ic a_clocks nd) (c + em_sc a_kinds o j)
          refine And.intro hin (And.intro hin (xe_emit (by omega) (nm_r (nI_1 j) ?_)))
          obtain ⟨p1, p2⟩ := em_put hB' hA'
          have e0 : em_iO c a_kinds nd (c + em_sc a_kinds o j) = 15 := if_neg (by omega)
          have e1 : em_iD c a_memSlot nd (c + em_sc a_kinds o j) = a_memSlot (o j) := by unfold em_iD; rw [if_neg (by omega), hndj]
          have e2 : em_iX c a_kinds a_opA nd (c + em_sc a_kinds o j) = a_opA (o j) := by unfold em_iX; rw [if_neg (by omega), hndj]
          have e3 : em_iY c a_kinds a_opB nd (c + em_sc a_kinds o j) = 0 := if_neg (by omega)
          have e4 : em_iZ c a_kinds a_opC a_memSlot nd (c + em_sc a_kinds o j) = 0 := if_neg (by omega)
          rw [e0, e2, e3] at p1
          rw [e0, e1, e2, e3, e4] at p2
          have hs : c + em_sc a_kinds o (j + 1) = c + em_sc a_kinds o j + 1 := by rw [em_sc_t h2]; omega
          have := ih (j + 1) og' _ _ _ _ _ (by omega) (by omega) (by rw [hs]; exact p1) (by rw [hs]; exact p2)
          rw [hs] at this
          exact this
      · refine br_f h2 (nm_r (nI_1 j) ?_)
        have := ih (j + 1) og cO cD cX cY cZ (by omega) (by omega) (by rw [em_sc_f h2]; exact hB) (by rw [em_sc_f h2]; exact hA)
        rw [em_sc_f h2] at this
        exact this
    · have : j = c := by omega
      subst this
      refine br_t (sf_le (by omega) (by omega)) ?_
      have wk : ∀ cY', (∀ i, i < j + em_sc a_kinds o j → em_g (em_ic a_clocks nd) i → cO (em_bd (em_ic a_clocks nd) i) = 14 ∧ cX (em_bd (em_ic a_clocks nd) i) = em_ic a_clocks nd i ∧
          ∃ m, i < m ∧ m ≤ j + em_sc a_kinds o j ∧ cY' (em_bd (em_ic a_clocks nd) i) = nI (em_bd (em_ic a_clocks nd) m) ∧ (∀ x, i ≤ x → x < m → em_ic a_clocks nd x = em_ic a_clocks nd i) ∧ (m < j + em_sc a_kinds o j → ¬ em_ic a_clocks nd m = em_ic a_clocks nd i)) → em_Fin (em_ic a_clocks nd) cO cX cY' (j + em_sc a_kinds o j) := fun cY' hx => hx
      by_cases hog : og < 0
      · refine br_t hog (Kp og _ cO cD cX cY cZ hA (wk cY fun i hi hg => ?_))
        obtain ⟨h3, h4, h5⟩ := hB.1 i hi hg
        refine ⟨h3, h4, ?_⟩
        rcases h5 with ⟨h5, _⟩ | ⟨m, m1, m2, m3, m4, m5⟩
        · rw [h5] at hog
          have hbi := em_bd_lt (em_ic a_clocks nd) hi
          have hgi := em_ad_ge (em_ic a_clocks nd) i
          exact absurd hog (sf_npos (by omega))
        · exact ⟨m, m1, by omega, m3, m4, fun _ => m5⟩
      · rcases hB.2 with ⟨z, _⟩ | ⟨j0, hj0, hg0, e0, h2⟩
        · rw [z] at hog; exact absurd sf_m1lt hog
        · have hb0 := em_bd_lt (em_ic a_clocks nd) hj0
          have hb1 := em_ad_ge (em_ic a_clocks nd) j0
          refine br_f hog (And.intro (by rw [e0]; exact sf_in (by omega) (by omega)) ?_)
          refine nm_r (e' := upd cY (em_bd (em_ic a_clocks nd) j0) (nI (em_bd (em_ic a_clocks nd) (j + em_sc a_kinds o j)))) (by rw [e0, sf_cl (by omega)]) ?_
          refine Kp (-1) _ cO cD cX _ cZ (fun i hi => by rw [sf_un (em_ad_bd hg0)]; exact hA i hi) (wk _ fun i hi hg => ?_)
          obtain ⟨h3, h4, h5⟩ := hB.1 i hi hg
          refine ⟨h3, h4, ?_⟩
          by_cases ei : i = j0
          · subst ei
            exact ⟨_, hi, Nat.le_refl _, sf_us, h2, fun z => absurd z (by omega)⟩
          · have hne : em_bd (em_ic a_clocks nd) i ≠ em_bd (em_ic a_clocks nd) j0 := fun z => ei (em_bd_inj z)
            have hbi := em_bd_lt (em_ic a_clocks nd) hi
            have hgi := em_ad_ge (em_ic a_clocks nd) i
            rcases h5 with ⟨h5, _⟩ | ⟨m, m1, m2, m3, m4, m5⟩
            · exact absurd (sf_ninj (by omega) (by omega) (h5.symm.trans e0)) hne
            · exact ⟨m, m1, by omega, by rw [sf_un hne]; exact m3, m4, fun _ => m5⟩
theorem xe_21 {c : Nat} {o nd : Nat → Nat} {post : SX → Prop} (hc : c ≤ 24) (hk : ∀ i, i < c → sf_kd (a_kinds i)) (hck : ∀ i, i < c → a_clocks i = -1 ∨ ∃ k, k < c ∧ a_clocks i = nI k) (ho : ∀ j, j < c → a_order j = nI (o j)) (hoc : ∀ j, j < c → o j < c)
    (hnd0 : ∀ j, j < c → nd j = o j) (hnd : ∀ j, j < c → a_kinds (o j) = 2 → nd (c + em_sc a_kinds o j) = o j)
    (Kp : ∀ og gk cO cD cX cY cZ, em_LA (em_ic a_clocks nd) (em_iO c a_kinds nd) (em_iD c a_memSlot nd) (em_iX c a_kinds a_opA nd) (em_iY c a_kinds a_opB nd) (em_iZ c a_kinds a_opC a_memSlot nd) cO cD cX cY cZ (c + em_sc a_kinds o c) → em_Fin (em_ic a_clocks nd) cO cX cY (c + em_sc a_kinds o c) →
      post (f_capacity, f_horizon, nI c, f_verdict, f_errorNode, f_outputs, f_late, nI (em_bd (em_ic a_clocks nd) (c + em_sc a_kinds o c)), og, gk, f_memCount, f_presence, f_tickCount, f_digestValue, f_hasSnapshot, f_savedPresence, f_savedTicks, f_savedDigest, a_kinds, a_opA, a_opB, a_opC, a_parent, a_facts, a_clocks, a_needs, a_reach, a_order, a_levels, cO, cD, cX, cY, cZ, a_memSlot, a_memInit, a_mem, a_latched, a_vals, a_savedMem, a_savedLatched, a_savedVals)) :
    ∀ n j og cO cD cX cY cZ, j ≤ c → c - j < n → em_LB (em_ic a_clocks nd) cO cX cY j og → em_LA (em_ic a_clocks nd) (em_iO c a_kinds nd) (em_iD c a_memSlot nd) (em_iX c a_kinds a_opA nd) (em_iY c a_kinds a_opB nd) (em_iZ c a_kinds a_opC a_memSlot nd) cO cD cX cY cZ j →
      wX_emitCode_21 post n (nI j) f_capacity f_horizon (nI c) f_verdict f_errorNode f_outputs f_late (nI (em_bd (em_ic a_clocks nd) j)) og (em_prev (em_ic a_clocks nd) j) f_memCount f_presence f_tickCount f_digestValue f_hasSnapshot f_savedPresence f_savedTicks f_savedDigest a_kinds a_opA a_opB a_opC a_parent a_facts a_clocks a_needs a_reach a_order a_levels cO cD cX cY cZ a_memSlot a_memInit a_mem a_latched a_vals a_savedMem a_savedLatched a_savedVals := by
  intro n
  induction n with
  | zero => intro j og cO cD cX cY cZ _ hn; omega
  | succ n ih =>
    intro j og cO cD cX cY cZ hj hn hB hA
    have hbl := em_bd_le (em_ic a_clocks nd) j
    rcases Nat.lt_or_ge j c with h | h
    · have hoj := hoc j h
      have hin : vp_in (nI (o j)) 24 := sf_in (by omega) (by omega)
      refine br_f (sf_nle h (by omega)) (And.intro (sf_in (by omega) (by omega)) ?_)
      rw [sf_cl (n := j) (by omega)]
      refine nm_r (ho j h) (And.intro hin ?_)
      rw [sf_cl (n := o j) (by omega)]
      have hndj := hnd0 j h
      have eic : a_clocks (o j) = em_ic a_clocks nd j := by unfold em_ic; rw [hndj]
      rw [eic]
      refine xe_enter (ic := em_ic a_clocks nd) (by omega) hB hA ?_ (fun og' cO' cD' cX' cY' cZ' hB' hA' => ?_)
      · rw [← eic]
        rcases hck _ hoj with z | ⟨k, _, z⟩
        · exact Or.inl z
        · exact Or.inr (by rw [z]; exact sf_npos (by omega))
      · have hadl := em_ad_le (em_ic a_clocks nd) j
        refine xe_eqn (by omega) (by omega) (hk _ hoj) (nm_r (nI_1 j) ?_)
        obtain ⟨p1, p2⟩ := em_put hB' hA'
        have e0 : em_iO c a_kinds nd j = a_kinds (o j) := by unfold em_iO; rw [if_pos h, hndj]
        have e1 : em_iD c a_memSlot nd j = nI (o j) := by unfold em_iD; rw [if_pos h, hndj]
        have e2 : em_iX c a_kinds a_opA nd j = em_x a_kinds a_opA (o j) := by unfold em_iX; rw [if_pos h, hndj]
        have e3 : em_iY c a_kinds a_opB nd j = em_y a_kinds a_opB (o j) := by unfold em_iY; rw [if_pos h, hndj]
        have e4 : em_iZ c a_kinds a_opC a_memSlot nd j = em_z a_kinds a_opC a_memSlot (o j) := by unfold em_iZ; rw [if_pos h, hndj]
        rw [e0, e2, e3] at p1
        rw [e0, e1, e2, e3, e4] at p2
        exact ih (j + 1) og' _ _ _ _ _ (by omega) (by omega) p1 p2
    · have : j = c := by omega
      subst this
      refine br_t (sf_le (by omega) (by omega)) (Exists.intro (j + 1) ?_)
      exact xe_59 hc hck ho hoc hnd Kp (j + 1) 0 og cO cD cX cY cZ (by omega) (by omega) hB hA
theorem xe_mem_7 {c : Nat} {post : SX → Prop} (hc : c ≤ 24) (hk : ∀ i, i < c → sf_kd (a_kinds i))
    (Kp : ∀ mc S mI, mc ≤ 24 → em_Mi c a_kinds a_opB S mI mc → post (f_capacity, f_horizon, nI c, f_verdict, f_errorNode, f_outputs, f_late, f_codeLen, f_openGuard, f_guardClock, nI mc, f_presence, f_tickCount, f_digestValue, f_hasSnapshot, f_savedPresence, f_savedTicks, f_savedDigest, a_kinds, a_opA, a_opB, a_opC, a_parent, a_facts, a_clocks, a_needs, a_reach, a_order, a_levels, a_codeOp, a_codeDst, a_codeX, a_codeY, a_codeZ, S, mI, a_mem, a_latched, a_vals, a_savedMem, a_savedLatched, a_savedVals)) :
    ∀ n i mc S mI, i ≤ c → c - i < n → mc ≤ i → em_Mi i a_kinds a_opB S mI mc → wX_assignMemory_7 post f_capacity f_horizon (nI c) f_verdict f_errorNode f_outputs f_late f_codeLen f_openGuard f_guardClock f_presence f_tickCount f_digestValue f_hasSnapshot f_savedPresence f_savedTicks f_savedDigest n (nI i) (nI mc) a_kinds a_opA a_opB a_opC a_parent a_facts a_clocks a_needs a_reach a_order a_levels a_codeOp a_codeDst a_codeX a_codeY a_codeZ S mI a_mem a_latched a_vals a_savedMem a_savedLatched a_savedVals := by
  intro n
  induction n with
  | zero => intro i mc S mI _ hn; omega
  | succ n ih =>
    intro i mc S mI hi hn hmc hI
    rcases Nat.lt_or_ge i c with h | h
    · have hin : vp_in (nI i) 24 := sf_in (by omega) (by omega)
      have hcl : (nI i).toNatClampNeg = i := sf_cl (by omega)
      have hinm : vp_in (nI mc) 24 := sf_in (by omega) (by omega)
      have hclm : (nI mc).toNatClampNeg = mc := sf_cl (by omega)
      refine br_f (sf_nle h (by omega)) (And.intro hin ?_)
      rw [hcl]
      refine nm_e (And.intro hin (nm_e ?_))
      have j44 : em_mk (a_kinds i) → wX_assignMemory_44 post (wX_assignMemory_7 post f_capacity f_horizon (nI c) f_verdict f_errorNode f_outputs f_late f_codeLen f_openGuard f_guardClock f_presence f_tickCount f_digestValue f_hasSnapshot f_savedPresence f_savedTicks f_savedDigest n) (nI i) (a_kinds i) f_capacity f_horizon (nI c) f_verdict f_errorNode f_outputs f_late f_codeLen f_openGuard f_guardClock (nI mc) f_presence f_tickCount f_digestValue f_hasSnapshot f_savedPresence f_savedTicks f_savedDigest a_kinds a_opA a_opB a_opC a_parent a_facts a_clocks a_needs a_reach a_order a_levels a_codeOp a_codeDst a_codeX a_codeY a_codeZ (upd S i 0) mI a_mem a_latched a_vals a_savedMem a_savedLatched a_savedVals := by
        intro hm
        have go : ∀ x, x = (if a_kinds i = 5 then a_opB i else 0) → wX_assignMemory_7 post f_capacity f_horizon (nI c) f_verdict f_errorNode f_outputs f_late f_codeLen f_openGuard f_guardClock f_presence f_tickCount f_digestValue f_hasSnapshot f_savedPresence f_savedTicks f_savedDigest n (nI (i + 1)) (nI (mc + 1)) a_kinds a_opA a_opB a_opC a_parent a_facts a_clocks a_needs a_reach a_order a_levels a_codeOp a_codeDst a_codeX a_codeY a_codeZ (upd (upd S i 0) i (nI mc)) (upd mI mc x) a_mem a_latched a_vals a_savedMem a_savedLatched a_savedVals := by
          intro x hx
          refine ih (i + 1) (mc + 1) _ _ (by omega) (by omega) (by omega) (fun j hj hjm => ?_)
          by_cases ej : j = i
          · subst ej
            refine ⟨mc, by omega, sf_us, by rw [sf_us]; exact hx, fun l hl hlm hS => ?_⟩
            apply Classical.byContradiction
            intro hne
            rw [sf_un hne, sf_un hne] at hS
            obtain ⟨s, hs, es, _⟩ := hI l (by omega) hlm
            rw [es] at hS
            exact absurd (sf_ninj (by omega) (by omega) hS) (by omega)
          · obtain ⟨s, hs, es, em, hu⟩ := hI j (by omega) hjm
            refine ⟨s, by omega, by rw [sf_un ej, sf_un ej]; exact es, by rw [sf_un (by omega)]; exact em, fun l hl hlm hS => ?_⟩
            by_cases el : l = i
            · rw [el, sf_us] at hS
              exact absurd (sf_ninj (by omega) (by omega) hS) (by omega)
            · rw [sf_un el, sf_un el] at hS
              exact hu l (by omega) hlm hS
        unfold wX_assignMemory_44 wX_assignMemory_77
        rw [hcl, hclm]
        refine And.intro hin (nm_e ?_)
        by_cases h5 : a_kinds i = 5
        · exact br_t h5 (And.intro hin (And.intro hinm (nm_e (nm_r (nI_1 mc) (nm_r (nI_1 i) (go _ (by rw [if_pos h5])))))))
        · exact br_f h5 (And.intro hinm (nm_e (nm_r (nI_1 mc) (nm_r (nI_1 i) (go _ (by rw [if_neg h5]))))))
      by_cases h2 : a_kinds i = 2
      · exact br_t h2 (j44 (Or.inl h2))
      refine br_f h2 ?_
      by_cases h3 : a_kinds i = 3
      · exact br_t h3 (j44 (Or.inr (Or.inl h3)))
      refine br_f h3 ?_
      by_cases h5 : a_kinds i = 5
      · exact br_t h5 (j44 (Or.inr (Or.inr h5)))
      refine br_f h5 (nm_r (nI_1 i) (ih (i + 1) mc _ _ (by omega) (by omega) (by omega) (fun j hj hjm => ?_)))
      have hni : ∀ l, em_mk (a_kinds l) → l ≠ i := by
        rintro l hl rfl
        rcases hl with z | z | z
        · exact h2 z
        · exact h3 z
        · exact h5 z
      have ej := hni j hjm
      obtain ⟨s, hs, es, em, hu⟩ := hI j (by omega) hjm
      refine ⟨s, hs, by rw [sf_un ej]; exact es, em, fun l hl hlm hS => ?_⟩
      have el := hni l hlm
      rw [sf_un el] at hS
      exact hu l (by omega) hlm hS
    · have : i = c := by omega
      subst this
      exact br_t (sf_le (by omega) (by omega)) (Kp mc S mI (by omega) hI)
theorem xe_code {c : Nat} {o : Nat → Nat} {post : SX → Prop} (hc : c ≤ 24) (hk : ∀ i, i < c → sf_kd (a_kinds i)) (hck : ∀ i, i < c → a_clocks i = -1 ∨ ∃ k, k < c ∧ a_clocks i = nI k) (ho : ∀ j, j < c → a_order j = nI (o j))
    (hO : sf_Or c (sf_N c a_kinds a_opA a_opB a_opC a_clocks) o)
    (Kp : ∀ cl og gk mc S mI cO cD cX cY cZ, mc ≤ 24 → em_Mi c a_kinds a_opB S mI mc → em_Code c a_kinds a_opA a_opB a_opC a_clocks S cO cD cX cY cZ cl →
      post (f_capacity, f_horizon, nI c, f_verdict, f_errorNode, f_outputs, f_late, cl, og, gk, nI mc, f_presence, f_tickCount, f_digestValue, f_hasSnapshot, f_savedPresence, f_savedTicks, f_savedDigest, a_kinds, a_opA, a_opB, a_opC, a_parent, a_facts, a_clocks, a_needs, a_reach, a_order, a_levels, cO, cD, cX, cY, cZ, S, mI, a_mem, a_latched, a_vals, a_savedMem, a_savedLatched, a_savedVals)) : wpX_emitCode post (f_capacity, f_horizon, nI c, f_verdict, f_errorNode, f_outputs, f_late, f_codeLen, f_openGuard, f_guardClock, f_memCount, f_presence, f_tickCount, f_digestValue, f_hasSnapshot, f_savedPresence, f_savedTicks, f_savedDigest, a_kinds, a_opA, a_opB, a_opC, a_parent, a_facts, a_clocks, a_needs, a_reach, a_order, a_levels, a_codeOp, a_codeDst, a_codeX, a_codeY, a_codeZ, a_memSlot, a_memInit, a_mem, a_latched, a_vals, a_savedMem, a_savedLatched, a_savedVals) := by
  obtain ⟨nd, n1, n2, n3, n4⟩ := em_nd_ex a_kinds o c c
  have hsc := em_sc_le a_kinds o c
  unfold wpX_emitCode
  refine Exists.intro (c + 1) (xe_mem_7 hc hk (fun mc S mI hmc hM => ?_) (c + 1) 0 0 _ _ (by omega) (by omega) (by omega) (fun j z => absurd z (by omega)))
  refine Exists.intro (c + 1) ?_
  refine xe_21 (o := o) (nd := nd) hc hk hck ho hO.1 n1 n2 (fun og gk cO cD cX cY cZ hA hF => ?_) (c + 1) 0 (-1) _ _ _ _ _ (by omega) (by omega) ⟨fun j z => absurd z (by omega), Or.inl ⟨rfl, rfl⟩⟩ (fun j z => absurd z (by omega))
  obtain ⟨o1, o2, o3, o4⟩ := hO
  refine Kp _ og gk mc S mI cO cD cX cY cZ hmc hM ⟨_, nd, by omega, by omega, ?_, ⟨?_, ?_, ?_, ?_⟩, ?_, ?_, rfl, hA, hF⟩
  · intro n hn
    rcases Nat.lt_or_ge n c with z | z
    · rw [n1 n z]; exact o1 n z
    · obtain ⟨j, hj, hj2, e⟩ := n3 n z hn
      rw [e, n2 j hj hj2]; exact o1 j hj
  · intro j hj; rw [n1 j hj]; exact o1 j hj
  · intro i j hi hj e
    rw [n1 i hi, n1 j hj] at e
    exact o2 i j hi hj e
  · intro z hz
    obtain ⟨j, hj, e⟩ := o3 z hz
    exact ⟨j, hj, by rw [n1 j hj]; exact e⟩
  · intro j hj k hN
    rw [n1 j hj] at hN
    obtain ⟨i, hi, e⟩ := o4 j hj k hN
    exact ⟨i, hi, by rw [n1 i (by omega)]; exact e⟩
  · intro n h1 h2
    obtain ⟨j, hj, hj2, e⟩ := n3 n h1 h2
    rw [e, n2 j hj hj2]; exact hj2
  · intro z hz h2
    obtain ⟨j, hj, e⟩ := o3 z hz
    have hj2 : a_kinds (o j) = 2 := by rw [e]; exact h2
    exact ⟨c + em_sc a_kinds o j, by omega, by have := n4 j hj hj2; omega, by rw [n2 j hj hj2]; exact e⟩
end
end
section
/-! one tick: the equations -/
def ex_F (K A B C Lt m0 : Nat → Int32) (P : Nat → Bool) (V : Nat → Int32) (i : Nat) : Int32 :=
  if K i = 0 then Lt i else if K i = 1 then A i else if K i = 2 then m0 i
  else if K i = 3 then (if m0 i = 0 then V (sf_tg A B C i 1) else V (sf_tg A B C i 2))
  else if K i = 4 then V (sf_tg A B C i 1)
  else if K i = 5 then (if P (sf_tg A B C i 1) = true then V (sf_tg A B C i 1) else m0 i)
  else if K i = 6 then V (sf_tg A B C i 1) + V (sf_tg A B C i 2)
  else if K i = 7 then V (sf_tg A B C i 1) - V (sf_tg A B C i 2)
  else if K i = 8 then V (sf_tg A B C i 1) * V (sf_tg A B C i 2)
  else if K i = 9 then (if V (sf_tg A B C i 2) = 0 then 0 else V (sf_tg A B C i 1) / V (sf_tg A B C i 2))
  else if K i = 10 then (if V (sf_tg A B C i 2) ≤ V (sf_tg A B C i 1) then 0 else 1)
  else if K i = 11 then (if V (sf_tg A B C i 1) = V (sf_tg A B C i 2) then 1 else 0)
  else if K i = 12 then (if V (sf_tg A B C i 1) = 0 then 1 else 0)
  else (if V (sf_tg A B C i 1) = 0 then V (sf_tg A B C i 3) else V (sf_tg A B C i 2))
theorem ex_F0 {K A B C Lt m0 : Nat → Int32} {P : Nat → Bool} {V : Nat → Int32} {i : Nat} (e : K i = 0) : ex_F K A B C Lt m0 P V i = Lt i := by unfold ex_F; rw [if_pos e]
theorem ex_F1 {K A B C Lt m0 : Nat → Int32} {P : Nat → Bool} {V : Nat → Int32} {i : Nat} (e : K i = 1) : ex_F K A B C Lt m0 P V i = A i := by unfold ex_F; rw [if_neg (show ¬ K i = 0 by rw [e]; decide), if_pos e]
theorem ex_F2 {K A B C Lt m0 : Nat → Int32} {P : Nat → Bool} {V : Nat → Int32} {i : Nat} (e : K i = 2) : ex_F K A B C Lt m0 P V i = m0 i := by unfold ex_F; rw [if_neg (show ¬ K i = 0 by rw [e]; decide), if_neg (show ¬ K i = 1 by rw [e]; decide), if_pos e]
theorem ex_F3 {K A B C Lt m0 : Nat → Int32} {P : Nat → Bool} {V : Nat → Int32} {i : Nat} (e : K i = 3) : ex_F K A B C Lt m0 P V i = (if m0 i = 0 then V (sf_tg A B C i 1) else V (sf_tg A B C i 2)) := by unfold ex_F; rw [if_neg (show ¬ K i = 0 by rw [e]; decide), if_neg (show ¬ K i = 1 by rw [e]; decide), if_neg (show ¬ K i = 2 by rw [e]; decide), if_pos e]
theorem ex_F4 {K A B C Lt m0 : Nat → Int32} {P : Nat → Bool} {V : Nat → Int32} {i : Nat} (e : K i = 4) : ex_F K A B C Lt m0 P V i = V (sf_tg A B C i 1) := by unfold ex_F; rw [if_neg (show ¬ K i = 0 by rw [e]; decide), if_neg (show ¬ K i = 1 by rw [e]; decide), if_neg (show ¬ K i = 2 by rw [e]; decide), if_neg (show ¬ K i = 3 by rw [e]; decide), if_pos e]
theorem ex_F5 {K A B C Lt m0 : Nat → Int32} {P : Nat → Bool} {V : Nat → Int32} {i : Nat} (e : K i = 5) : ex_F K A B C Lt m0 P V i = (if P (sf_tg A B C i 1) = true then V (sf_tg A B C i 1) else m0 i) := by unfold ex_F; rw [if_neg (show ¬ K i = 0 by rw [e]; decide), if_neg (show ¬ K i = 1 by rw [e]; decide), if_neg (show ¬ K i = 2 by rw [e]; decide), if_neg (show ¬ K i = 3 by rw [e]; decide), if_neg (show ¬ K i = 4 by rw [e]; decide), if_pos e]
theorem ex_F6 {K A B C Lt m0 : Nat → Int32} {P : Nat → Bool} {V : Nat → Int32} {i : Nat} (e : K i = 6) : ex_F K A B C Lt m0 P V i = V (sf_tg A B C i 1) + V (sf_tg A B C i 2) := by unfold ex_F; rw [if_neg (show ¬ K i = 0 by rw [e]; decide), if_neg (show ¬ K i = 1 by rw [e]; decide), if_neg (show ¬ K i = 2 by rw [e]; decide), if_neg (show ¬ K i = 3 by rw [e]; decide), if_neg (show ¬ K i = 4 by rw [e]; decide), if_neg (show ¬ K i = 5 by rw [e]; decide), if_pos e]
theorem ex_F7 {K A B C Lt m0 : Nat → Int32} {P : Nat → Bool} {V : Nat → Int32} {i : Nat} (e : K i = 7) : ex_F K A B C Lt m0 P V i = V (sf_tg A B C i 1) - V (sf_tg A B C i 2) := by unfold ex_F; rw [if_neg (show ¬ K i = 0 by rw [e]; decide), if_neg (show ¬ K i = 1 by rw [e]; decide), if_neg (show ¬ K i = 2 by rw [e]; decide), if_neg (show ¬ K i = 3 by rw [e]; decide), if_neg (show ¬ K i = 4 by rw [e]; decide), if_neg (show ¬ K i = 5 by rw [e]; decide), if_neg (show ¬ K i = 6 by rw [e]; decide), if_pos e]
theorem ex_F8 {K A B C Lt m0 : Nat → Int32} {P : Nat → Bool} {V : Nat → Int32} {i : Nat} (e : K i = 8) : ex_F K A B C Lt m0 P V i = V (sf_tg A B C i 1) * V (sf_tg A B C i 2) := by unfold ex_F; rw [if_neg (show ¬ K i = 0 by rw [e]; decide), if_neg (show ¬ K i = 1 by rw [e]; decide), if_neg (show ¬ K i = 2 by rw [e]; decide), if_neg (show ¬ K i = 3 by rw [e]; decide), if_neg (show ¬ K i = 4 by rw [e]; decide), if_neg (show ¬ K i = 5 by rw [e]; decide), if_neg (show ¬ K i = 6 by rw [e]; decide), if_neg (show ¬ K i = 7 by rw [e]; decide), if_pos e]
theorem ex_F9 {K A B C Lt m0 : Nat → Int32} {P : Nat → Bool} {V : Nat → Int32} {i : Nat} (e : K i = 9) : ex_F K A B C Lt m0 P V i = (if V (sf_tg A B C i 2) = 0 then 0 else V (sf_tg A B C i 1) / V (sf_tg A B C i 2)) := by unfold ex_F; rw [if_neg (show ¬ K i = 0 by rw [e]; decide), if_neg (show ¬ K i = 1 by rw [e]; decide), if_neg (show ¬ K i = 2 by rw [e]; decide), if_neg (show ¬ K i = 3 by rw [e]; decide), if_neg (show ¬ K i = 4 by rw [e]; decide), if_neg (show ¬ K i = 5 by rw [e]; decide), if_neg (show ¬ K i = 6 by rw [e]; decide), if_neg (show ¬ K i = 7 by rw [e]; decide), if_neg (show ¬ K i = 8 by rw [e]; decide), if_pos e]
theorem ex_F10 {K A B C Lt m0 : Nat → Int32} {P : Nat → Bool} {V : Nat → Int32} {i : Nat} (e : K i = 10) : ex_F K A B C Lt m0 P V i = (if V (sf_tg A B C i 2) ≤ V (sf_tg A B C i 1) then 0 else 1) := by unfold ex_F; rw [if_neg (show ¬ K i = 0 by rw [e]; decide), if_neg (show ¬ K i = 1 by rw [e]; decide), if_neg (show ¬ K i = 2 by rw [e]; decide), if_neg (show ¬ K i = 3 by rw [e]; decide), if_neg (show ¬ K i = 4 by rw [e]; decide), if_neg (show ¬ K i = 5 by rw [e]; decide), if_neg (show ¬ K i = 6 by rw [e]; decide), if_neg (show ¬ K i = 7 by rw [e]; decide), if_neg (show ¬ K i = 8 by rw [e]; decide), if_neg (show ¬ K i = 9 by rw [e]; decide), if_pos e]
theorem ex_F11 {K A B C Lt m0 : Nat → Int32} {P : Nat → Bool} {V : Nat → Int32} {i : Nat} (e : K i = 11) : ex_F K A B C Lt m0 P V i = (if V (sf_tg A B C i 1) = V (sf_tg A B C i 2) then 1 else 0) := by unfold ex_F; rw [if_neg (show ¬ K i = 0 by rw [e]; decide), if_neg (show ¬ K i = 1 by rw [e]; decide), if_neg (show ¬ K i = 2 by rw [e]; decide), if_neg (show ¬ K i = 3 by rw [e]; decide), if_neg (show ¬ K i = 4 by rw [e]; decide), if_neg (show ¬ K i = 5 by rw [e]; decide), if_neg (show ¬ K i = 6 by rw [e]; decide), if_neg (show ¬ K i = 7 by rw [e]; decide), if_neg (show ¬ K i = 8 by rw [e]; decide), if_neg (show ¬ K i = 9 by rw [e]; decide), if_neg (show ¬ K i = 10 by rw [e]; decide), if_pos e]
theorem ex_F12 {K A B C Lt m0 : Nat → Int32} {P : Nat → Bool} {V : Nat → Int32} {i : Nat} (e : K i = 12) : ex_F K A B C Lt m0 P V i = (if V (sf_tg A B C i 1) = 0 then 1 else 0) := by unfold ex_F; rw [if_neg (show ¬ K i = 0 by rw [e]; decide), if_neg (show ¬ K i = 1 by rw [e]; decide), if_neg (show ¬ K i = 2 by rw [e]; decide), if_neg (show ¬ K i = 3 by rw [e]; decide), if_neg (show ¬ K i = 4 by rw [e]; decide), if_neg (show ¬ K i = 5 by rw [e]; decide), if_neg (show ¬ K i = 6 by rw [e]; decide), if_neg (show ¬ K i = 7 by rw [e]; decide), if_neg (show ¬ K i = 8 by rw [e]; decide), if_neg (show ¬ K i = 9 by rw [e]; decide), if_neg (show ¬ K i = 10 by rw [e]; decide), if_neg (show ¬ K i = 11 by rw [e]; decide), if_pos e]
theorem ex_F13 {K A B C Lt m0 : Nat → Int32} {P : Nat → Bool} {V : Nat → Int32} {i : Nat} (e : K i = 13) : ex_F K A B C Lt m0 P V i = (if V (sf_tg A B C i 1) = 0 then V (sf_tg A B C i 3) else V (sf_tg A B C i 2)) := by unfold ex_F; rw [if_neg (show ¬ K i = 0 by rw [e]; decide), if_neg (show ¬ K i = 1 by rw [e]; decide), if_neg (show ¬ K i = 2 by rw [e]; decide), if_neg (show ¬ K i = 3 by rw [e]; decide), if_neg (show ¬ K i = 4 by rw [e]; decide), if_neg (show ¬ K i = 5 by rw [e]; decide), if_neg (show ¬ K i = 6 by rw [e]; decide), if_neg (show ¬ K i = 7 by rw [e]; decide), if_neg (show ¬ K i = 8 by rw [e]; decide), if_neg (show ¬ K i = 9 by rw [e]; decide), if_neg (show ¬ K i = 10 by rw [e]; decide), if_neg (show ¬ K i = 11 by rw [e]; decide), if_neg (show ¬ K i = 12 by rw [e]; decide)]
theorem ex_F_cg {K A B C Lt m0 : Nat → Int32} {P P' : Nat → Bool} {V V' : Nat → Int32} {i : Nat} (hk : sf_kd (K i))
    (h : ∀ w, sf_W w → sf_ro (K i) w = 1 → ¬ K i = 2 → P (sf_tg A B C i w) = P' (sf_tg A B C i w) ∧ (¬ K i = 5 → V (sf_tg A B C i w) = V' (sf_tg A B C i w)) ∧ (K i = 5 → P (sf_tg A B C i w) = true → V (sf_tg A B C i w) = V' (sf_tg A B C i w))) :
    ex_F K A B C Lt m0 P V i = ex_F K A B C Lt m0 P' V' i := by
  rcases sf_kd_in hk with e | e | e | e | e | e | e | e | e | e | e | e | e | e
  · rw [ex_F0 e, ex_F0 e]
  · rw [ex_F1 e, ex_F1 e]
  · rw [ex_F2 e, ex_F2 e]
  · have v1 := (h 1 sf_W1 (by rw [e]; decide) (by rw [e]; decide)).2.1 (by rw [e]; decide)
    have v2 := (h 2 sf_W2 (by rw [e]; decide) (by rw [e]; decide)).2.1 (by rw [e]; decide)
    rw [ex_F3 e, ex_F3 e, v1, v2]
  · have v1 := (h 1 sf_W1 (by rw [e]; decide) (by rw [e]; decide)).2.1 (by rw [e]; decide)
    rw [ex_F4 e, ex_F4 e, v1]
  · obtain ⟨hp, _, hv⟩ := h 1 sf_W1 (by rw [e]; decide) (by rw [e]; decide)
    rw [ex_F5 e, ex_F5 e, ← hp]
    by_cases hb : P (sf_tg A B C i 1) = true
    · rw [if_pos hb, if_pos hb, hv e hb]
    · rw [if_neg hb, if_neg hb]
  · have v1 := (h 1 sf_W1 (by rw [e]; decide) (by rw [e]; decide)).2.1 (by rw [e]; decide)
    have v2 := (h 2 sf_W2 (by rw [e]; decide) (by rw [e]; decide)).2.1 (by rw [e]; decide)
    rw [ex_F6 e, ex_F6 e, v1, v2]
  · have v1 := (h 1 sf_W1 (by rw [e]; decide) (by rw [e]; decide)).2.1 (by rw [e]; decide)
    have v2 := (h 2 sf_W2 (by rw [e]; decide) (by rw [e]; decide)).2.1 (by rw [e]; decide)
    rw [ex_F7 e, ex_F7 e, v1, v2]
  · have v1 := (h 1 sf_W1 (by rw [e]; decide) (by rw [e]; decide)).2.1 (by rw [e]; decide)
    have v2 := (h 2 sf_W2 (by rw [e]; decide) (by rw [e]; decide)).2.1 (by rw [e]; decide)
    rw [ex_F8 e, ex_F8 e, v1, v2]
  · have v1 := (h 1 sf_W1 (by rw [e]; decide) (by rw [e]; decide)).2.1 (by rw [e]; decide)
    have v2 := (h 2 sf_W2 (by rw [e]; decide) (by rw [e]; decide)).2.1 (by rw [e]; decide)
    rw [ex_F9 e, ex_F9 e, v1, v2]
  · have v1 := (h 1 sf_W1 (by rw [e]; decide) (by rw [e]; decide)).2.1 (by rw [e]; decide)
    have v2 := (h 2 sf_W2 (by rw [e]; decide) (by rw [e]; decide)).2.1 (by rw [e]; decide)
    rw [ex_F10 e, ex_F10 e, v1, v2]
  · have v1 := (h 1 sf_W1 (by rw [e]; decide) (by rw [e]; decide)).2.1 (by rw [e]; decide)
    have v2 := (h 2 sf_W2 (by rw [e]; decide) (by rw [e]; decide)).2.1 (by rw [e]; decide)
    rw [ex_F11 e, ex_F11 e, v1, v2]
  · have v1 := (h 1 sf_W1 (by rw [e]; decide) (by rw [e]; decide)).2.1 (by rw [e]; decide)
    rw [ex_F12 e, ex_F12 e, v1]
  · have v1 := (h 1 sf_W1 (by rw [e]; decide) (by rw [e]; decide)).2.1 (by rw [e]; decide)
    have v2 := (h 2 sf_W2 (by rw [e]; decide) (by rw [e]; decide)).2.1 (by rw [e]; decide)
    have v3 := (h 3 sf_W3 (by rw [e]; decide) (by rw [e]; decide)).2.1 (by rw [e]; decide)
    rw [ex_F13 e, ex_F13 e, v1, v2, v3]
def ex_on (P : Nat → Bool) (V : Nat → Int32) (x : Int32) : Prop := x < 0 ∨ (P x.toNatClampNeg = true ∧ ¬ V x.toNatClampNeg = 0)
theorem ex_on_k {P : Nat → Bool} {V : Nat → Int32} {k : Nat} (hk : k ≤ 6000) : ex_on P V (nI k) ↔ (P k = true ∧ ¬ V k = 0) := by
  unfold ex_on
  rw [nI_clamp (by omega)]
  exact ⟨fun h => h.elim (fun z => absurd z (sf_npos hk)) id, Or.inr⟩
theorem ex_on_b {P : Nat → Bool} {V : Nat → Int32} : ex_on P V (-1) := Or.inl sf_m1lt
theorem ex_cg {c z : Nat} {K A B C ck Lt m0 : Nat → Int32} {P P' : Nat → Bool} {V V' : Nat → Int32} (hc : c ≤ 24) (hz : z < c) (hk : sf_kd (K z)) (hN : sf_ND c K A B C) (hck : ck z = -1 ∨ ∃ k, k < c ∧ ck z = nI k)
    (h : ∀ k, sf_N c K A B C ck z k → P k = P' k ∧ V k = V' k) : (ex_on P V (ck z) ↔ ex_on P' V' (ck z)) ∧ ex_F K A B C Lt m0 P V z = ex_F K A B C Lt m0 P' V' z := by
  refine ⟨?_, ex_F_cg hk (fun w hw hr h2 => ?_)⟩
  · rcases hck with e | ⟨k, hkc, e⟩
    · rw [e]; exact ⟨fun _ => ex_on_b, fun _ => ex_on_b⟩
    · obtain ⟨h1, h2⟩ := h k ⟨hz, hkc, Or.inl e⟩
      rw [e, ex_on_k (by omega), ex_on_k (by omega), h1, h2]
  · obtain ⟨h3, h4⟩ := h _ ⟨hz, (hN z hz w hw hr).1, Or.inr ⟨h2, w, hw, hr, rfl⟩⟩
    exact ⟨h3, fun _ => h4, fun _ _ => h4⟩
def ex_E (c : Nat) (K A B C ck Lt m0 : Nat → Int32) (nd : Nat → Nat) (n : Nat) (pr : Int32) (vals : Nat → Int32) : Prop :=
  (∀ j, j < n → j < c → (bt pr (nd j) = true ↔ ex_on (bt pr) vals (ck (nd j))) ∧ (bt pr (nd j) = true → vals (nd j) = ex_F K A B C Lt m0 (bt pr) vals (nd j))) ∧
  (∀ j, n ≤ j → j < c → ¬ bt pr (nd j) = true)
def em_sl (S : Nat → Int32) (i : Nat) : Nat := (S i).toNatClampNeg
def ex_M (c : Nat) (K A B C S m0 : Nat → Int32) (nd : Nat → Nat) (n : Nat) (pr : Int32) (vals mem : Nat → Int32) : Prop := ∀ i, i < c →
  (K i = 3 → mem (em_sl S i) = if bt pr i = true then 1 else m0 i) ∧
  (K i = 5 → mem (em_sl S i) = if bt pr i = true ∧ bt pr (sf_tg A B C i 1) = true then vals (sf_tg A B C i 1) else m0 i) ∧
  (K i = 2 → ((∃ j, c ≤ j ∧ j < n ∧ nd j = i) → mem (em_sl S i) = if bt pr i = true then vals (sf_tg A B C i 1) else m0 i) ∧ ((¬ ∃ j, c ≤ j ∧ j < n ∧ nd j = i) → mem (em_sl S i) = m0 i))
def ex_Sl (c : Nat) (K S : Nat → Int32) : Prop := ∀ i, i < c → em_mk (K i) → S i = nI (em_sl S i) ∧ em_sl S i < 24 ∧ ∀ j, j < c → em_mk (K j) → em_sl S j = em_sl S i → j = i
theorem ex_Sl_of {c mc : Nat} {K B S mI : Nat → Int32} (hmc : mc ≤ 24) (h : em_Mi c K B S mI mc) : ex_Sl c K S := by
  intro i hi hm
  obtain ⟨s, hs, es, _, hu⟩ := h i hi hm
  have e : em_sl S i = s := by unfold em_sl; rw [es, sf_cl (by omega)]
  refine ⟨by rw [e]; exact es, by omega, fun j hj hjm hj' => hu j hj hjm ?_⟩
  obtain ⟨s', hs', es', _⟩ := h j hj hjm
  have e' : em_sl S j = s' := by unfold em_sl; rw [es', sf_cl (by omega)]
  rw [es', ← e', hj', e]
def ex_mm (K A B C S m0 : Nat → Int32) (pr : Int32) (vals mem : Nat → Int32) (i : Nat) : Nat → Int32 :=
  if K i = 3 then (if m0 i = 0 then upd mem (em_sl S i) 1 else mem)
  else if K i = 5 then (if bt pr (sf_tg A B C i 1) = true then upd mem (em_sl S i) (vals (sf_tg A B C i 1)) else mem) else mem
/-- the program's frame in an accepted state -/
def ex_Fr (c : Nat) (K A B C ck S : Nat → Int32) (nd : Nat → Nat) : Prop := c ≤ 24 ∧ (∀ i, i < c → sf_kd (K i)) ∧ sf_ND c K A B C ∧ (∀ i, i < c → ck i = -1 ∨ ∃ k, k < c ∧ ck i = nI k) ∧ ex_Sl c K S ∧ sf_Or c (sf_N c K A B C ck) nd
theorem ex_mm_o {c i j : Nat} {K A B C S m0 vals mem : Nat → Int32} {pr : Int32} (hS : ex_Sl c K S) (hi : i < c) (hj : j < c) (hne : j ≠ i) (hm : em_mk (K j)) : ex_mm K A B C S m0 pr vals mem i (em_sl S j) = mem (em_sl S j) := by
  unfold ex_mm
  have hs : em_mk (K i) → em_sl S j ≠ em_sl S i := fun hmi e => hne ((hS i hi hmi).2.2 j hj hm e)
  by_cases h3 : K i = 3
  · rw [if_pos h3]
    by_cases h0 : m0 i = 0
    · rw [if_pos h0, sf_un (hs (Or.inr (Or.inl h3)))]
    · rw [if_neg h0]
  · rw [if_neg h3]
    by_cases h5 : K i = 5
    · rw [if_pos h5]
      by_cases hb : bt pr (sf_tg A B C i 1) = true
      · rw [if_pos hb, sf_un (hs (Or.inr (Or.inr h5)))]
      · rw [if_neg hb]
    · rw [if_neg h5]
theorem ex_exec {c n : Nat} {K A B C ck Lt S m0 vals mem : Nat → Int32} {nd : Nat → Nat} {pr : Int32} (hF : ex_Fr c K A B C ck S nd) (hn : n < c) (h3 : ∀ i, i < c → K i = 3 → m0 i = 0 ∨ m0 i = 1)
    (hE : ex_E c K A B C ck Lt m0 nd n pr vals) (hM : ex_M c K A B C S m0 nd n pr vals mem) (hon : ex_on (bt pr) vals (ck (nd n))) :
    ex_E c K A B C ck Lt m0 nd (n + 1) (pr ||| ((1 : Int32) <<< (nI (nd n) &&& 31))) (upd vals (nd n) (ex_F K A B C Lt m0 (bt pr) vals (nd n))) ∧
    ex_M c K A B C S m0 nd (n + 1) (pr ||| ((1 : Int32) <<< (nI (nd n) &&& 31))) (upd vals (nd n) (ex_F K A B C Lt m0 (bt pr) vals (nd n))) (ex_mm K A B C S m0 pr vals mem (nd n)) := by
  obtain ⟨hc, hk, hN, hck, hS, o1, o2, o3, o4⟩ := hF
  have hi := o1 n hn
  have hset : ∀ q, bt (pr ||| ((1 : Int32) <<< (nI (nd n) &&& 31))) q = true ↔ (bt pr q = true ∨ q = nd n) := fun q => sf_set _ (by omega)
  have hoff : ∀ q, q ≠ nd n → bt (pr ||| ((1 : Int32) <<< (nI (nd n) &&& 31))) q = bt pr q := by
    intro q hq
    rw [Bool.eq_iff_iff, hset q]
    exact ⟨fun z => z.elim id (fun y => absurd y hq), Or.inl⟩
  have hii : bt (pr ||| ((1 : Int32) <<< (nI (nd n) &&& 31))) (nd n) = true := (hset _).mpr (Or.inr rfl)
  have hne : ∀ j, j < c → j ≠ n → nd j ≠ nd n := fun j hj e e' => e (o2 j n hj hn e')
  have hnd : ∀ j k, j < n + 1 → sf_N c K A B C ck (nd j) k → k ≠ nd n := by
    intro j k hj hk' e
    obtain ⟨m, hm, em⟩ := o4 j (by omega) k hk'
    exact hne m (by omega) (by omega) (em.trans e)
  have hpr0 : ¬ bt pr (nd n) = true := hE.2 n (Nat.le_refl _) hn
  have ag : ∀ j, j < n + 1 → ∀ k, sf_N c K A B C ck (nd j) k → bt pr k = bt (pr ||| ((1 : Int32) <<< (nI (nd n) &&& 31))) k ∧ vals k = upd vals (nd n) (ex_F K A B C Lt m0 (bt pr) vals (nd n)) k := by
    intro j hj k hk'
    have := hnd j k hj hk'
    exact ⟨(hoff k this).symm, (sf_un this).symm⟩
  refine ⟨⟨fun j hj hjc => ?_, fun j hj hjc => ?_⟩, fun i' hi' => ?_⟩
  · obtain ⟨g1, g2⟩ := ex_cg (Lt := Lt) (m0 := m0) hc (o1 j hjc) (hk _ (o1 j hjc)) hN (hck _ (o1 j hjc)) (ag j (by omega))
    rw [← g1, ← g2]
    rcases (by omega : j < n ∨ j = n) with z | rfl
    · have hjn := hne j hjc (by omega)
      rw [hoff _ hjn, sf_un hjn]
      exact hE.1 j z hjc
    · rw [sf_us]
      exact ⟨⟨fun _ => hon, fun _ => hii⟩, fun _ => rfl⟩
  · rw [hoff _ (hne j hjc (by omega))]
    exact hE.2 j (by omega) hjc
  · obtain ⟨m3, m5, m2⟩ := hM i' hi'
    by_cases e : i' = nd n
    · subst e
      refine ⟨fun e3 => ?_, fun e5 => ?_, fun e2 => ⟨fun ⟨j, h1, h2, _⟩ => absurd h2 (by omega), fun _ => ?_⟩⟩
      · rw [if_pos hii]
        have := m3 e3
        rw [if_neg hpr0] at this
        unfold ex_mm
        rw [if_pos e3]
        rcases h3 _ hi e3 with z | z
        · rw [if_pos z, sf_us]
        · rw [if_neg (by rw [z]; decide), this, z]
      · have ha : sf_tg A B C (nd n) 1 ≠ nd n := hnd n _ (by omega) ⟨hi, (hN _ hi 1 sf_W1 (by rw [e5]; decide)).1, Or.inr ⟨by rw [e5]; decide, 1, sf_W1, by rw [e5]; decide, rfl⟩⟩
        have := m5 e5
        rw [if_neg (fun z => hpr0 z.1)] at this
        rw [hoff _ ha, sf_un ha]
        unfold ex_mm
        rw [if_neg (by rw [e5]; decide), if_pos e5]
        by_cases hb : bt pr (sf_tg A B C (nd n) 1) = true
        · rw [if_pos hb, if_pos ⟨hii, hb⟩, sf_us]
        · rw [if_neg hb, if_neg (fun z => hb z.2), this]
      · have hno : ¬ ∃ j, c ≤ j ∧ j < n ∧ nd j = nd n := fun ⟨j, h1, h2, _⟩ => absurd h2 (by omega)
        have := (m2 e2).2 hno
        unfold ex_mm
        rw [if_neg (by rw [e2]; decide), if_neg (by rw [e2]; decide)]
        exact this
    · refine ⟨fun e3 => ?_, fun e5 => ?_, fun e2 => ⟨fun ⟨j, h1, h2, _⟩ => absurd h2 (by omega), fun _ => ?_⟩⟩
      · rw [ex_mm_o hS hi hi' e (Or.inr (Or.inl e3)), hoff _ e]; exact m3 e3
      · rw [ex_mm_o hS hi hi' e (Or.inr (Or.inr e5)), hoff _ e]
        by_cases hb : bt pr i' = true
        · obtain ⟨j, hj, ej⟩ := o3 i' hi'
          have hjn : j < n := by
            rcases Nat.lt_or_ge j n with z | z
            · exact z
            · exact absurd (by rw [ej]; exact hb) (hE.2 j z hj)
          have ha : sf_tg A B C i' 1 ≠ nd n := hnd j _ (by omega) (by
            rw [ej]
            exact ⟨hi', (hN _ hi' 1 sf_W1 (by rw [e5]; decide)).1, Or.inr ⟨by rw [e5]; decide, 1, sf_W1, by rw [e5]; decide, rfl⟩⟩)
          rw [hoff _ ha, sf_un ha]; exact m5 e5
        · rw [m5 e5, if_neg (fun z => hb z.1), if_neg (fun z => hb z.1)]
      · rw [ex_mm_o hS hi hi' e (Or.inl e2)]
        exact (m2 e2).2 (fun ⟨j, h1, h2, _⟩ => absurd h2 (by omega))
theorem ex_E_node {c n i : Nat} {K A B C ck Lt m0 vals : Nat → Int32} {nd : Nat → Nat} {pr : Int32} {S : Nat → Int32} (hF : ex_Fr c K A B C ck S nd) (hn : c ≤ n) (hE : ex_E c K A B C ck Lt m0 nd n pr vals) (hi : i < c) :
    (bt pr i = true ↔ ex_on (bt pr) vals (ck i)) ∧ (bt pr i = true → vals i = ex_F K A B C Lt m0 (bt pr) vals i) := by
  obtain ⟨j, hj, e⟩ := hF.2.2.2.2.2.2.2.1 i hi
  have := hE.1 j (by omega) hj
  rw [e] at this
  exact this
theorem ex_skip {c n N : Nat} {K A B C ck Lt S m0 vals mem : Nat → Int32} {nd : Nat → Nat} {pr : Int32} (hF : ex_Fr c K A B C ck S nd) (hnN : n < N) (hndc : ∀ n, n < N → nd n < c)
    (hE : ex_E c K A B C ck Lt m0 nd n pr vals) (hM : ex_M c K A B C S m0 nd n pr vals mem) (hoff : ¬ ex_on (bt pr) vals (ck (nd n))) :
    ex_E c K A B C ck Lt m0 nd (n + 1) pr vals ∧ ex_M c K A B C S m0 nd (n + 1) pr vals mem := by
  rcases Nat.lt_or_ge n c with hn | hn
  · refine ⟨⟨fun j hj hjc => ?_, fun j hj hjc => hE.2 j (by omega) hjc⟩, fun i hi => ?_⟩
    · rcases (by omega : j < n ∨ j = n) with z | rfl
      · exact hE.1 j z hjc
      · have := hE.2 j (Nat.le_refl _) hjc
        exact ⟨⟨fun z => absurd z this, fun z => absurd z hoff⟩, fun z => absurd z this⟩
    · obtain ⟨m3, m5, m2⟩ := hM i hi
      exact ⟨m3, m5, fun e2 => ⟨fun ⟨j, h1, h2, _⟩ => absurd h2 (by omega), fun _ => (m2 e2).2 (fun ⟨j, h1, h2, _⟩ => absurd h2 (by omega))⟩⟩
  · have hp : ¬ bt pr (nd n) = true := fun z => hoff ((ex_E_node hF hn hE (hndc n hnN)).1.mp z)
    refine ⟨⟨fun j hj hjc => hE.1 j (by omega) hjc, fun j hj hjc => absurd hjc (by omega)⟩, fun i hi => ?_⟩
    obtain ⟨m3, m5, m2⟩ := hM i hi
    refine ⟨m3, m5, fun e2 => ⟨fun ⟨j, h1, h2, ej⟩ => ?_, fun hno => (m2 e2).2 (fun ⟨j, h1, h2, ej⟩ => hno ⟨j, h1, by omega, ej⟩)⟩⟩
    rcases (by omega : j < n ∨ j = n) with z | rfl
    · exact (m2 e2).1 ⟨j, h1, z, ej⟩
    · rw [ej] at hp
      rw [if_neg hp]
      by_cases hx : ∃ j', c ≤ j' ∧ j' < j ∧ nd j' = i
      · have := (m2 e2).1 hx
        rw [if_neg hp] at this
        exact this
      · exact (m2 e2).2 hx
theorem ex_store {c n N : Nat} {K A B C ck Lt S m0 vals mem : Nat → Int32} {nd : Nat → Nat} {pr : Int32} (hF : ex_Fr c K A B C ck S nd) (hn : c ≤ n) (hnN : n < N) (hndc : ∀ n, n < N → nd n < c) (h2n : K (nd n) = 2)
    (hE : ex_E c K A B C ck Lt m0 nd n pr vals) (hM : ex_M c K A B C S m0 nd n pr vals mem) (hon : ex_on (bt pr) vals (ck (nd n))) :
    ex_E c K A B C ck Lt m0 nd (n + 1) pr vals ∧ ex_M c K A B C S m0 nd (n + 1) pr vals (upd mem (em_sl S (nd n)) (vals (sf_tg A B C (nd n) 1))) := by
  have hp : bt pr (nd n) = true := (ex_E_node hF hn hE (hndc n hnN)).1.mpr hon
  have hS := hF.2.2.2.2.1
  have hi0 := hndc n hnN
  refine ⟨⟨fun j hj hjc => hE.1 j (by omega) hjc, fun j hj hjc => absurd hjc (by omega)⟩, fun i hi => ?_⟩
  obtain ⟨m3, m5, m2⟩ := hM i hi
  have hne : i ≠ nd n → em_mk (K i) → em_sl S i ≠ em_sl S (nd n) := fun hx hm e => hx ((hS _ hi0 (Or.inl h2n)).2.2 i hi hm e)
  have hK : ∀ q : Int32, K i = q → ¬ q = 2 → i ≠ nd n := by
    rintro q hq hq2 rfl
    exact hq2 (hq.symm.trans h2n)
  refine ⟨fun e3 => ?_, fun e5 => ?_, fun e2 => ⟨fun ⟨j, h1, h2, ej⟩ => ?_, fun hno => ?_⟩⟩
  · rw [sf_un (hne (hK 3 e3 (by decide)) (Or.inr (Or.inl e3)))]; exact m3 e3
  · rw [sf_un (hne (hK 5 e5 (by decide)) (Or.inr (Or.inr e5)))]; exact m5 e5
  · by_cases e : i = nd n
    · rw [e, sf_us, if_pos hp]
    · rw [sf_un (hne e (Or.inl e2))]
      rcases (by omega : j < n ∨ j = n) with z | rfl
      · exact (m2 e2).1 ⟨j, h1, z, ej⟩
      · exact absurd ej.symm e
  · have e : i ≠ nd n := fun e => hno ⟨n, hn, by omega, e.symm⟩
    rw [sf_un (hne e (Or.inl e2))]
    exact (m2 e2).2 (fun ⟨j, h1, h2, ej⟩ => hno ⟨j, h1, by omega, ej⟩)
theorem ex_skips {c N : Nat} {K A B C ck Lt S m0 vals mem : Nat → Int32} {nd : Nat → Nat} {pr : Int32} {x0 : Int32} (hF : ex_Fr c K A B C ck S nd) (hndc : ∀ n, n < N → nd n < c) (hoff : ¬ ex_on (bt pr) vals x0) :
    ∀ d n m, m = n + d → m ≤ N → (∀ x, n ≤ x → x < m → ck (nd x) = x0) → ex_E c K A B C ck Lt m0 nd n pr vals → ex_M c K A B C S m0 nd n pr vals mem →
      ex_E c K A B C ck Lt m0 nd m pr vals ∧ ex_M c K A B C S m0 nd m pr vals mem := by
  intro d
  induction d with
  | zero => intro n m e _ _ hE hM; rw [e]; exact ⟨hE, hM⟩
  | succ d ih =>
    intro n m e hm hx hE hM
    obtain ⟨h1, h2⟩ := ex_skip hF (by omega : n < N) hndc hE hM (by rw [hx n (by omega) (by omega)]; exact hoff)
    exact ih (n + 1) m (by omega) hm (fun x a b => hx x (by omega) b) h1 h2
end
section
/-! the component's tick -/
section
variable {f_capacity f_horizon f_count f_verdict f_errorNode f_outputs f_late f_codeLen f_openGuard f_guardClock f_memCount f_presence f_tickCount f_digestValue f_hasSnapshot f_savedPresence f_savedTicks f_savedDigest : Int32} {a_kinds a_opA a_opB a_opC a_parent a_facts a_clocks a_needs a_reach a_order a_levels a_codeOp a_codeDst a_codeX a_codeY a_codeZ a_memSlot a_memInit a_mem a_latched a_vals a_savedMem a_savedLatched a_savedVals : Nat → Int32}
theorem xt_c0 {c i : Nat} {m0 : Nat → Int32} {post : Int32 → SX → Prop} (hc : c ≤ 24) (hi : i < c) (hN : sf_ND c a_kinds a_opA a_opB a_opC) (hS : ex_Sl c a_kinds a_memSlot) (hm : em_mk (a_kinds i) → a_mem (em_sl a_memSlot i) = m0 i) (e : a_kinds i = 0)
    (Kp : post (ex_F a_kinds a_opA a_opB a_opC a_latched m0 (bt f_presence) a_vals i) (f_capacity, f_horizon, nI c, f_verdict, f_errorNode, f_outputs, f_late, f_codeLen, f_openGuard, f_guardClock, f_memCount, f_presence, f_tickCount, f_digestValue, f_hasSnapshot, f_savedPresence, f_savedTicks, f_savedDigest, a_kinds, a_opA, a_opB, a_opC, a_parent, a_facts, a_clocks, a_needs, a_reach, a_order, a_levels, a_codeOp, a_codeDst, a_codeX, a_codeY, a_codeZ, a_memSlot, a_memInit, ex_mm a_kinds a_opA a_opB a_opC a_memSlot m0 f_presence a_vals a_mem i, a_latched, a_vals, a_savedMem, a_savedLatched, a_savedVals)) :
    wpX_compute post (f_capacity, f_horizon, nI c, f_verdict, f_errorNode, f_outputs, f_late, f_codeLen, f_openGuard, f_guardClock, f_memCount, f_presence, f_tickCount, f_digestValue, f_hasSnapshot, f_savedPresence, f_savedTicks, f_savedDigest, a_kinds, a_opA, a_opB, a_opC, a_parent, a_facts, a_clocks, a_needs, a_reach, a_order, a_levels, a_codeOp, a_codeDst, a_codeX, a_codeY, a_codeZ, a_memSlot, a_memInit, a_mem, a_latched, a_vals, a_savedMem, a_savedLatched, a_savedVals) (a_kinds i) (em_x a_kinds a_opA i) (em_y a_kinds a_opB i) (em_z a_kinds a_opC a_memSlot i) := by
  have hx : em_x a_kinds a_opA i = nI i := if_pos e
  rw [ex_F0 e] at Kp
  unfold ex_mm at Kp
  rw [if_neg (show ¬ a_kinds i = 3 by rw [e]; decide), if_neg (show ¬ a_kinds i = 5 by rw [e]; decide)] at Kp
  rw [hx]
  exact br_f (by rw [e]; decide) (br_f (by rw [e]; decide) (br_t e (And.intro (sf_in (by omega) (by omega)) (by rw [sf_cl (by omega)]; exact Kp))))
theorem xt_c1 {c i : Nat} {m0 : Nat → Int32} {post : Int32 → SX → Prop} (hc : c ≤ 24) (hi : i < c) (hN : sf_ND c a_kinds a_opA a_opB a_opC) (hS : ex_Sl c a_kinds a_memSlot) (hm : em_mk (a_kinds i) → a_mem (em_sl a_memSlot i) = m0 i) (e : a_kinds i = 1)
    (Kp : post (ex_F a_kinds a_opA a_opB a_opC a_latched m0 (bt f_presence) a_vals i) (f_capacity, f_horizon, nI c, f_verdict, f_errorNode, f_outputs, f_late, f_codeLen, f_openGuard, f_guardClock, f_memCount, f_presence, f_tickCount, f_digestValue, f_hasSnapshot, f_savedPresence, f_savedTicks, f_savedDigest, a_kinds, a_opA, a_opB, a_opC, a_parent, a_facts, a_clocks, a_needs, a_reach, a_order, a_levels, a_codeOp, a_codeDst, a_codeX, a_codeY, a_codeZ, a_memSlot, a_memInit, ex_mm a_kinds a_opA a_opB a_opC a_memSlot m0 f_presence a_vals a_mem i, a_latched, a_vals, a_savedMem, a_savedLatched, a_savedVals)) :
    wpX_compute post (f_capacity, f_horizon, nI c, f_verdict, f_errorNode, f_outputs, f_late, f_codeLen, f_openGuard, f_guardClock, f_memCount, f_presence, f_tickCount, f_digestValue, f_hasSnapshot, f_savedPresence, f_savedTicks, f_savedDigest, a_kinds, a_opA, a_opB, a_opC, a_parent, a_facts, a_clocks, a_needs, a_reach, a_order, a_levels, a_codeOp, a_codeDst, a_codeX, a_codeY, a_codeZ, a_memSlot, a_memInit, a_mem, a_latched, a_vals, a_savedMem, a_savedLatched, a_savedVals) (a_kinds i) (em_x a_kinds a_opA i) (em_y a_kinds a_opB i) (em_z a_kinds a_opC a_memSlot i) := by
  have hx : em_x a_kinds a_opA i = a_opA i := if_neg (by rw [e]; decide)
  have hy : em_y a_kinds a_opB i = a_opB i := by unfold em_y; rw [if_neg (by rw [e]; decide), if_neg (by rw [e]; decide)]
  rw [ex_F1 e] at Kp
  unfold ex_mm at Kp
  rw [if_neg (show ¬ a_kinds i = 3 by rw [e]; decide), if_neg (show ¬ a_kinds i = 5 by rw [e]; decide)] at Kp
  rw [hx]
  exact br_f (by rw [e]; decide) (br_f (by rw [e]; decide) (br_f (by rw [e]; decide) (br_t e (Kp))))
theorem xt_c2 {c i : Nat} {m0 : Nat → Int32} {post : Int32 → SX → Prop} (hc : c ≤ 24) (hi : i < c) (hN : sf_ND c a_kinds a_opA a_opB a_opC) (hS : ex_Sl c a_kinds a_memSlot) (hm : em_mk (a_kinds i) → a_mem (em_sl a_memSlot i) = m0 i) (e : a_kinds i = 2)
    (Kp : post (ex_F a_kinds a_opA a_opB a_opC a_latched m0 (bt f_presence) a_vals i) (f_capacity, f_horizon, nI c, f_verdict, f_errorNode, f_outputs, f_late, f_codeLen, f_openGuard, f_guardClock, f_memCount, f_presence, f_tickCount, f_digestValue, f_hasSnapshot, f_savedPresence, f_savedTicks, f_savedDigest, a_kinds, a_opA, a_opB, a_opC, a_parent, a_facts, a_clocks, a_needs, a_reach, a_order, a_levels, a_codeOp, a_codeDst, a_codeX, a_codeY, a_codeZ, a_memSlot, a_memInit, ex_mm a_kinds a_opA a_opB a_opC a_memSlot m0 f_presence a_vals a_mem i, a_latched, a_vals, a_savedMem, a_savedLatched, a_savedVals)) :
    wpX_compute post (f_capacity, f_horizon, nI c, f_verdict, f_errorNode, f_outputs, f_late, f_codeLen, f_openGuard, f_guardClock, f_memCount, f_presence, f_tickCount, f_digestValue, f_hasSnapshot, f_savedPresence, f_savedTicks, f_savedDigest, a_kinds, a_opA, a_opB, a_opC, a_parent, a_facts, a_clocks, a_needs, a_reach, a_order, a_levels, a_codeOp, a_codeDst, a_codeX, a_codeY, a_codeZ, a_memSlot, a_memInit, a_mem, a_latched, a_vals, a_savedMem, a_savedLatched, a_savedVals) (a_kinds i) (em_x a_kinds a_opA i) (em_y a_kinds a_opB i) (em_z a_kinds a_opC a_memSlot i) := by
  have hx : em_x a_kinds a_opA i = a_opA i := if_neg (by rw [e]; decide)
  have hy : em_y a_kinds a_opB i = a_opB i := by unfold em_y; rw [if_neg (by rw [e]; decide), if_neg (by rw [e]; decide)]
  have hz : em_z a_kinds a_opC a_memSlot i = a_memSlot i := by unfold em_z; rw [if_neg (by rw [e]; decide), if_pos e]
  obtain ⟨sl1, sl2, _⟩ := hS i hi (Or.inl e)
  have hmi := hm (Or.inl e)
  have hins : vp_in (nI (em_sl a_memSlot i)) 24 := sf_in sl2 (by omega)
  have hcls : (nI (em_sl a_memSlot i)).toNatClampNeg = em_sl a_memSlot i := sf_cl (by omega)
  rw [ex_F2 e] at Kp
  unfold ex_mm at Kp
  rw [if_neg (show ¬ a_kinds i = 3 by rw [e]; decide), if_neg (show ¬ a_kinds i = 5 by rw [e]; decide)] at Kp
  rw [hz, sl1]
  exact br_f (by rw [e]; decide) (br_f (by rw [e]; decide) (br_f (by rw [e]; decide) (br_f (by rw [e]; decide) (br_t e (And.intro hins (by rw [hcls, hmi]; exact Kp))))))
theorem xt_c3 {c i : Nat} {m0 : Nat → Int32} {post : Int32 → SX → Prop} (hc : c ≤ 24) (hi : i < c) (hN : sf_ND c a_kinds a_opA a_opB a_opC) (hS : ex_Sl c a_kinds a_memSlot) (hm : em_mk (a_kinds i) → a_mem (em_sl a_memSlot i) = m0 i) (e : a_kinds i = 3)
    (Kp : post (ex_F a_kinds a_opA a_opB a_opC a_latched m0 (bt f_presence) a_vals i) (f_capacity, f_horizon, nI c, f_verdict, f_errorNode, f_outputs, f_late, f_codeLen, f_openGuard, f_guardClock, f_memCount, f_presence, f_tickCount, f_digestValue, f_hasSnapshot, f_savedPresence, f_savedTicks, f_savedDigest, a_kinds, a_opA, a_opB, a_opC, a_parent, a_facts, a_clocks, a_needs, a_reach, a_order, a_levels, a_codeOp, a_codeDst, a_codeX, a_codeY, a_codeZ, a_memSlot, a_memInit, ex_mm a_kinds a_opA a_opB a_opC a_memSlot m0 f_presence a_vals a_mem i, a_latched, a_vals, a_savedMem, a_savedLatched, a_savedVals)) :
    wpX_compute post (f_capacity, f_horizon, nI c, f_verdict, f_errorNode, f_outputs, f_late, f_codeLen, f_openGuard, f_guardClock, f_memCount, f_presence, f_tickCount, f_digestValue, f_hasSnapshot, f_savedPresence, f_savedTicks, f_savedDigest, a_kinds, a_opA, a_opB, a_opC, a_parent, a_facts, a_clocks, a_needs, a_reach, a_order, a_levels, a_codeOp, a_codeDst, a_codeX, a_codeY, a_codeZ, a_memSlot, a_memInit, a_mem, a_latched, a_vals, a_savedMem, a_savedLatched, a_savedVals) (a_kinds i) (em_x a_kinds a_opA i) (em_y a_kinds a_opB i) (em_z a_kinds a_opC a_memSlot i) := by
  have hx : em_x a_kinds a_opA i = a_opA i := if_neg (by rw [e]; decide)
  have hy : em_y a_kinds a_opB i = a_opB i := by unfold em_y; rw [if_neg (by rw [e]; decide), if_neg (by rw [e]; decide)]
  have hz : em_z a_kinds a_opC a_memSlot i = a_memSlot i := by unfold em_z; rw [if_neg (by rw [e]; decide), if_neg (by rw [e]; decide), if_pos e]
  obtain ⟨sl1, sl2, _⟩ := hS i hi (Or.inr (Or.inl e))
  have hmi := hm (Or.inr (Or.inl e))
  have hins : vp_in (nI (em_sl a_memSlot i)) 24 := sf_in sl2 (by omega)
  have hcls : (nI (em_sl a_memSlot i)).toNatClampNeg = em_sl a_memSlot i := sf_cl (by omega)
  obtain ⟨t1, o1⟩ := hN i hi 1 sf_W1 (by rw [e]; decide)
  have o1' : a_opA i = nI (sf_tg a_opA a_opB a_opC i 1) := o1
  have hin1 : vp_in (nI (sf_tg a_opA a_opB a_opC i 1)) 24 := sf_in (by omega) (by omega)
  have hcl1 : (nI (sf_tg a_opA a_opB a_opC i 1)).toNatClampNeg = sf_tg a_opA a_opB a_opC i 1 := sf_cl (by omega)
  obtain ⟨t2, o2⟩ := hN i hi 2 sf_W2 (by rw [e]; decide)
  have o2' : a_opB i = nI (sf_tg a_opA a_opB a_opC i 2) := o2
  have hin2 : vp_in (nI (sf_tg a_opA a_opB a_opC i 2)) 24 := sf_in (by omega) (by omega)
  have hcl2 : (nI (sf_tg a_opA a_opB a_opC i 2)).toNatClampNeg = sf_tg a_opA a_opB a_opC i 2 := sf_cl (by omega)
  rw [ex_F3 e] at Kp
  unfold ex_mm at Kp
  rw [if_pos e] at Kp
  rw [hx, hy, hz, sl1, o1', o2']
  refine br_f (by rw [e]; decide) (br_f (by rw [e]; decide) (br_f (by rw [e]; decide) (br_f (by rw [e]; decide) (br_f (by rw [e]; decide) (br_t e (?_))))))
  refine And.intro hins ?_
  rw [hcls, hcl1, hcl2, hmi]
  by_cases h0 : m0 i = 0
  · rw [if_pos h0, if_pos h0] at Kp
    exact br_t h0 (And.intro hins (nm_e (And.intro hin1 Kp)))
  · rw [if_neg h0, if_neg h0] at Kp
    exact br_f h0 (And.intro hin2 Kp)
theorem xt_c4 {c i : Nat} {m0 : Nat → Int32} {post : Int32 → SX → Prop} (hc : c ≤ 24) (hi : i < c) (hN : sf_ND c a_kinds a_opA a_opB a_opC) (hS : ex_Sl c a_kinds a_memSlot) (hm : em_mk (a_kinds i) → a_mem (em_sl a_memSlot i) = m0 i) (e : a_kinds i = 4)
    (Kp : post (ex_F a_kinds a_opA a_opB a_opC a_latched m0 (bt f_presence) a_vals i) (f_capacity, f_horizon, nI c, f_verdict, f_errorNode, f_outputs, f_late, f_codeLen, f_openGuard, f_guardClock, f_memCount, f_presence, f_tickCount, f_digestValue, f_hasSnapshot, f_savedPresence, f_savedTicks, f_savedDigest, a_kinds, a_opA, a_opB, a_opC, a_parent, a_facts, a_clocks, a_needs, a_reach, a_order, a_levels, a_codeOp, a_codeDst, a_codeX, a_codeY, a_codeZ, a_memSlot, a_memInit, ex_mm a_kinds a_opA a_opB a_opC a_memSlot m0 f_presence a_vals a_mem i, a_latched, a_vals, a_savedMem, a_savedLatched, a_savedVals)) :
    wpX_compute post (f_capacity, f_horizon, nI c, f_verdict, f_errorNode, f_outputs, f_late, f_codeLen, f_openGuard, f_guardClock, f_memCount, f_presence, f_tickCount, f_digestValue, f_hasSnapshot, f_savedPresence, f_savedTicks, f_savedDigest, a_kinds, a_opA, a_opB, a_opC, a_parent, a_facts, a_clocks, a_needs, a_reach, a_order, a_levels, a_codeOp, a_codeDst, a_codeX, a_codeY, a_codeZ, a_memSlot, a_memInit, a_mem, a_latched, a_vals, a_savedMem, a_savedLatched, a_savedVals) (a_kinds i) (em_x a_kinds a_opA i) (em_y a_kinds a_opB i) (em_z a_kinds a_opC a_memSlot i) := by
  have hx : em_x a_kinds a_opA i = a_opA i := if_neg (by rw [e]; decide)
  have hy : em_y a_kinds a_opB i = a_opB i := by unfold em_y; rw [if_neg (by rw [e]; decide), if_neg (by rw [e]; decide)]
  obtain ⟨t1, o1⟩ := hN i hi 1 sf_W1 (by rw [e]; decide)
  have o1' : a_opA i = nI (sf_tg a_opA a_opB a_opC i 1) := o1
  have hin1 : vp_in (nI (sf_tg a_opA a_opB a_opC i 1)) 24 := sf_in (by omega) (by omega)
  have hcl1 : (nI (sf_tg a_opA a_opB a_opC i 1)).toNatClampNeg = sf_tg a_opA a_opB a_opC i 1 := sf_cl (by omega)
  rw [ex_F4 e] at Kp
  unfold ex_mm at Kp
  rw [if_neg (show ¬ a_kinds i = 3 by rw [e]; decide), if_neg (show ¬ a_kinds i = 5 by rw [e]; decide)] at Kp
  rw [hx, o1']
  exact br_f (by rw [e]; decide) (br_f (by rw [e]; decide) (br_f (by rw [e]; decide) (br_f (by rw [e]; decide) (br_f (by rw [e]; decide) (br_f (by rw [e]; decide) (br_t e (And.intro hin1 (by rw [hcl1]; exact Kp))))))))
theorem xt_c5 {c i : Nat} {m0 : Nat → Int32} {post : Int32 → SX → Prop} (hc : c ≤ 24) (hi : i < c) (hN : sf_ND c a_kinds a_opA a_opB a_opC) (hS : ex_Sl c a_kinds a_memSlot) (hm : em_mk (a_kinds i) → a_mem (em_sl a_memSlot i) = m0 i) (e : a_kinds i = 5)
    (Kp : post (ex_F a_kinds a_opA a_opB a_opC a_latched m0 (bt f_presence) a_vals i) (f_capacity, f_horizon, nI c, f_verdict, f_errorNode, f_outputs, f_late, f_codeLen, f_openGuard, f_guardClock, f_memCount, f_presence, f_tickCount, f_digestValue, f_hasSnapshot, f_savedPresence, f_savedTicks, f_savedDigest, a_kinds, a_opA, a_opB, a_opC, a_parent, a_facts, a_clocks, a_needs, a_reach, a_order, a_levels, a_codeOp, a_codeDst, a_codeX, a_codeY, a_codeZ, a_memSlot, a_memInit, ex_mm a_kinds a_opA a_opB a_opC a_memSlot m0 f_presence a_vals a_mem i, a_latched, a_vals, a_savedMem, a_savedLatched, a_savedVals)) :
    wpX_compute post (f_capacity, f_horizon, nI c, f_verdict, f_errorNode, f_outputs, f_late, f_codeLen, f_openGuard, f_guardClock, f_memCount, f_presence, f_tickCount, f_digestValue, f_hasSnapshot, f_savedPresence, f_savedTicks, f_savedDigest, a_kinds, a_opA, a_opB, a_opC, a_parent, a_facts, a_clocks, a_needs, a_reach, a_order, a_levels, a_codeOp, a_codeDst, a_codeX, a_codeY, a_codeZ, a_memSlot, a_memInit, a_mem, a_latched, a_vals, a_savedMem, a_savedLatched, a_savedVals) (a_kinds i) (em_x a_kinds a_opA i) (em_y a_kinds a_opB i) (em_z a_kinds a_opC a_memSlot i) := by
  have hx : em_x a_kinds a_opA i = a_opA i := if_neg (by rw [e]; decide)
  have hz : em_z a_kinds a_opC a_memSlot i = a_memSlot i := by unfold em_z; rw [if_neg (by rw [e]; decide), if_neg (by rw [e]; decide), if_neg (by rw [e]; decide), if_pos e]
  obtain ⟨sl1, sl2, _⟩ := hS i hi (Or.inr (Or.inr e))
  have hmi := hm (Or.inr (Or.inr e))
  have hins : vp_in (nI (em_sl a_memSlot i)) 24 := sf_in sl2 (by omega)
  have hcls : (nI (em_sl a_memSlot i)).toNatClampNeg = em_sl a_memSlot i := sf_cl (by omega)
  obtain ⟨t1, o1⟩ := hN i hi 1 sf_W1 (by rw [e]; decide)
  have o1' : a_opA i = nI (sf_tg a_opA a_opB a_opC i 1) := o1
  have hin1 : vp_in (nI (sf_tg a_opA a_opB a_opC i 1)) 24 := sf_in (by omega) (by omega)
  have hcl1 : (nI (sf_tg a_opA a_opB a_opC i 1)).toNatClampNeg = sf_tg a_opA a_opB a_opC i 1 := sf_cl (by omega)
  rw [ex_F5 e] at Kp
  unfold ex_mm at Kp
  rw [if_neg (show ¬ a_kinds i = 3 by rw [e]; decide), if_pos e] at Kp
  rw [hx, hz, sl1, o1']
  refine br_f (by rw [e]; decide) (br_f (by rw [e]; decide) (br_f (by rw [e]; decide) (br_f (by rw [e]; decide) (br_f (by rw [e]; decide) (br_f (by rw [e]; decide) (br_f (by rw [e]; decide) (br_t e (?_))))))))
  unfold wpX_stepHold
  dsimp only
  rw [hcls, hcl1]
  refine sf_bb (by omega) (fun hb => ?_) (fun hb => ?_)
  · rw [if_neg hb, if_neg hb] at Kp
    refine And.intro hins ?_
    rw [hmi]; exact Kp
  · rw [if_pos hb, if_pos hb] at Kp
    refine And.intro hin1 (And.intro hins (nm_e (And.intro hins ?_)))
    rw [sf_us]; exact Kp
theorem xt_c6 {c i : Nat} {m0 : Nat → Int32} {post : Int32 → SX → Prop} (hc : c ≤ 24) (hi : i < c) (hN : sf_ND c a_kinds a_opA a_opB a_opC) (hS : ex_Sl c a_kinds a_memSlot) (hm : em_mk (a_kinds i) → a_mem (em_sl a_memSlot i) = m0 i) (e : a_kinds i = 6)
    (Kp : post (ex_F a_kinds a_opA a_opB a_opC a_latched m0 (bt f_presence) a_vals i) (f_capacity, f_horizon, nI c, f_verdict, f_errorNode, f_outputs, f_late, f_codeLen, f_openGuard, f_guardClock, f_memCount, f_presence, f_tickCount, f_digestValue, f_hasSnapshot, f_savedPresence, f_savedTicks, f_savedDigest, a_kinds, a_opA, a_opB, a_opC, a_parent, a_facts, a_clocks, a_needs, a_reach, a_order, a_levels, a_codeOp, a_codeDst, a_codeX, a_codeY, a_codeZ, a_memSlot, a_memInit, ex_mm a_kinds a_opA a_opB a_opC a_memSlot m0 f_presence a_vals a_mem i, a_latched, a_vals, a_savedMem, a_savedLatched, a_savedVals)) :
    wpX_compute post (f_capacity, f_horizon, nI c, f_verdict, f_errorNode, f_outputs, f_late, f_codeLen, f_openGuard, f_guardClock, f_memCount, f_presence, f_tickCount, f_digestValue, f_hasSnapshot, f_savedPresence, f_savedTicks, f_savedDigest, a_kinds, a_opA, a_opB, a_opC, a_parent, a_facts, a_clocks, a_needs, a_reach, a_order, a_levels, a_codeOp, a_codeDst, a_codeX, a_codeY, a_codeZ, a_memSlot, a_memInit, a_mem, a_latched, a_vals, a_savedMem, a_savedLatched, a_savedVals) (a_kinds i) (em_x a_kinds a_opA i) (em_y a_kinds a_opB i) (em_z a_kinds a_opC a_memSlot i) := by
  have hx : em_x a_kinds a_opA i = a_opA i := if_neg (by rw [e]; decide)
  have hy : em_y a_kinds a_opB i = a_opB i := by unfold em_y; rw [if_neg (by rw [e]; decide), if_neg (by rw [e]; decide)]
  obtain ⟨t1, o1⟩ := hN i hi 1 sf_W1 (by rw [e]; decide)
  have o1' : a_opA i = nI (sf_tg a_opA a_opB a_opC i 1) := o1
  have hin1 : vp_in (nI (sf_tg a_opA a_opB a_opC i 1)) 24 := sf_in (by omega) (by omega)
  have hcl1 : (nI (sf_tg a_opA a_opB a_opC i 1)).toNatClampNeg = sf_tg a_opA a_opB a_opC i 1 := sf_cl (by omega)
  obtain ⟨t2, o2⟩ := hN i hi 2 sf_W2 (by rw [e]; decide)
  have o2' : a_opB i = nI (sf_tg a_opA a_opB a_opC i 2) := o2
  have hin2 : vp_in (nI (sf_tg a_opA a_opB a_opC i 2)) 24 := sf_in (by omega) (by omega)
  have hcl2 : (nI (sf_tg a_opA a_opB a_opC i 2)).toNatClampNeg = sf_tg a_opA a_opB a_opC i 2 := sf_cl (by omega)
  rw [ex_F6 e] at Kp
  unfold ex_mm at Kp
  rw [if_neg (show ¬ a_kinds i = 3 by rw [e]; decide), if_neg (show ¬ a_kinds i = 5 by rw [e]; decide)] at Kp
  rw [hx, hy, o1', o2']
  refine br_f (by rw [e]; decide) (br_f (by rw [e]; decide) (br_f (by rw [e]; decide) (br_f (by rw [e]; decide) (br_f (by rw [e]; decide) (br_f (by rw [e]; decide) (br_f (by rw [e]; decide) (br_f (by rw [e]; decide) (br_t e (?_)))))))))
  unfold wX_compute_154
  rw [hcl1, hcl2]
  refine And.intro hin1 (And.intro hin2 ?_)
  refine br_f (by rw [e]; decide) (br_f (by rw [e]; decide) (br_t e (?_)))
  exact Kp
theorem xt_c7 {c i : Nat} {m0 : Nat → Int32} {post : Int32 → SX → Prop} (hc : c ≤ 24) (hi : i < c) (hN : sf_ND c a_kinds a_opA a_opB a_opC) (hS : ex_Sl c a_kinds a_memSlot) (hm : em_mk (a_kinds i) → a_mem (em_sl a_memSlot i) = m0 i) (e : a_kinds i = 7)
    (Kp : post (ex_F a_kinds a_opA a_opB a_opC a_latched m0 (bt f_presence) a_vals i) (f_capacity, f_horizon, nI c, f_verdict, f_errorNode, f_outputs, f_late, f_codeLen, f_openGuard, f_guardClock, f_memCount, f_presence, f_tickCount, f_digestValue, f_hasSnapshot, f_savedPresence, f_savedTicks, f_savedDigest, a_kinds, a_opA, a_opB, a_opC, a_parent, a_facts, a_clocks, a_needs, a_reach, a_order, a_levels, a_codeOp, a_codeDst, a_codeX, a_codeY, a_codeZ, a_memSlot, a_memInit, ex_mm a_kinds a_opA a_opB a_opC a_memSlot m0 f_presence a_vals a_mem i, a_latched, a_vals, a_savedMem, a_savedLatched, a_savedVals)) :
    wpX_compute post (f_capacity, f_horizon, nI c, f_verdict, f_errorNode, f_outputs, f_late, f_codeLen, f_openGuard, f_guardClock, f_memCount, f_presence, f_tickCount, f_digestValue, f_hasSnapshot, f_savedPresence, f_savedTicks, f_savedDigest, a_kinds, a_opA, a_opB, a_opC, a_parent, a_facts, a_clocks, a_needs, a_reach, a_order, a_levels, a_codeOp, a_codeDst, a_codeX, a_codeY, a_codeZ, a_memSlot, a_memInit, a_mem, a_latched, a_vals, a_savedMem, a_savedLatched, a_savedVals) (a_kinds i) (em_x a_kinds a_opA i) (em_y a_kinds a_opB i) (em_z a_kinds a_opC a_memSlot i) := by
  have hx : em_x a_kinds a_opA i = a_opA i := if_neg (by rw [e]; decide)
  have hy : em_y a_kinds a_opB i = a_opB i := by unfold em_y; rw [if_neg (by rw [e]; decide), if_neg (by rw [e]; decide)]
  obtain ⟨t1, o1⟩ := hN i hi 1 sf_W1 (by rw [e]; decide)
  have o1' : a_opA i = nI (sf_tg a_opA a_opB a_opC i 1) := o1
  have hin1 : vp_in (nI (sf_tg a_opA a_opB a_opC i 1)) 24 := sf_in (by omega) (by omega)
  have hcl1 : (nI (sf_tg a_opA a_opB a_opC i 1)).toNatClampNeg = sf_tg a_opA a_opB a_opC i 1 := sf_cl (by omega)
  obtain ⟨t2, o2⟩ := hN i hi 2 sf_W2 (by rw [e]; decide)
  have o2' : a_opB i = nI (sf_tg a_opA a_opB a_opC i 2) := o2
  have hin2 : vp_in (nI (sf_tg a_opA a_opB a_opC i 2)) 24 := sf_in (by omega) (by omega)
  have hcl2 : (nI (sf_tg a_opA a_opB a_opC i 2)).toNatClampNeg = sf_tg a_opA a_opB a_opC i 2 := sf_cl (by omega)
  rw [ex_F7 e] at Kp
  unfold ex_mm at Kp
  rw [if_neg (show ¬ a_kinds i = 3 by rw [e]; decide), if_neg (show ¬ a_kinds i = 5 by rw [e]; decide)] at Kp
  rw [hx, hy, o1', o2']
  refine br_f (by rw [e]; decide) (br_f (by rw [e]; decide) (br_f (by rw [e]; decide) (br_f (by rw [e]; decide) (br_f (by rw [e]; decide) (br_f (by rw [e]; decide) (br_f (by rw [e]; decide) (br_f (by rw [e]; decide) (br_f (by rw [e]; decide) (br_t e (?_))))))))))
  unfold wX_compute_154
  rw [hcl1, hcl2]
  refine And.intro hin1 (And.intro hin2 ?_)
  refine br_f (by rw [e]; decide) (br_f (by rw [e]; decide) (br_f (by rw [e]; decide) (br_t e (?_))))
  exact Kp
theorem xt_c8 {c i : Nat} {m0 : Nat → Int32} {post : Int32 → SX → Prop} (hc : c ≤ 24) (hi : i < c) (hN : sf_ND c a_kinds a_opA a_opB a_opC) (hS : ex_Sl c a_kinds a_memSlot) (hm : em_mk (a_kinds i) → a_mem (em_sl a_memSlot i) = m0 i) (e : a_kinds i = 8)
    (Kp : post (ex_F a_kinds a_opA a_opB a_opC a_latched m0 (bt f_presence) a_vals i) (f_capacity, f_horizon, nI c, f_verdict, f_errorNode, f_outputs, f_late, f_codeLen, f_openGuard, f_guardClock, f_memCount, f_presence, f_tickCount, f_digestValue, f_hasSnapshot, f_savedPresence, f_savedTicks, f_savedDigest, a_kinds, a_opA, a_opB, a_opC, a_parent, a_facts, a_clocks, a_needs, a_reach, a_order, a_levels, a_codeOp, a_codeDst, a_codeX, a_codeY, a_codeZ, a_memSlot, a_memInit, ex_mm a_kinds a_opA a_opB a_opC a_memSlot m0 f_presence a_vals a_mem i, a_latched, a_vals, a_savedMem, a_savedLatched, a_savedVals)) :
    wpX_compute post (f_capacity, f_horizon, nI c, f_verdict, f_errorNode, f_outputs, f_late, f_codeLen, f_openGuard, f_guardClock, f_memCount, f_presence, f_tickCount, f_digestValue, f_hasSnapshot, f_savedPresence, f_savedTicks, f_savedDigest, a_kinds, a_opA, a_opB, a_opC, a_parent, a_facts, a_clocks, a_needs, a_reach, a_order, a_levels, a_codeOp, a_codeDst, a_codeX, a_codeY, a_codeZ, a_memSlot, a_memInit, a_mem, a_latched, a_vals, a_savedMem, a_savedLatched, a_savedVals) (a_kinds i) (em_x a_kinds a_opA i) (em_y a_kinds a_opB i) (em_z a_kinds a_opC a_memSlot i) := by
  have hx : em_x a_kinds a_opA i = a_opA i := if_neg (by rw [e]; decide)
  have hy : em_y a_kinds a_opB i = a_opB i := by unfold em_y; rw [if_neg (by rw [e]; decide), if_neg (by rw [e]; decide)]
  obtain ⟨t1, o1⟩ := hN i hi 1 sf_W1 (by rw [e]; decide)
  have o1' : a_opA i = nI (sf_tg a_opA a_opB a_opC i 1) := o1
  have hin1 : vp_in (nI (sf_tg a_opA a_opB a_opC i 1)) 24 := sf_in (by omega) (by omega)
  have hcl1 : (nI (sf_tg a_opA a_opB a_opC i 1)).toNatClampNeg = sf_tg a_opA a_opB a_opC i 1 := sf_cl (by omega)
  obtain ⟨t2, o2⟩ := hN i hi 2 sf_W2 (by rw [e]; decide)
  have o2' : a_opB i = nI (sf_tg a_opA a_opB a_opC i 2) := o2
  have hin2 : vp_in (nI (sf_tg a_opA a_opB a_opC i 2)) 24 := sf_in (by omega) (by omega)
  have hcl2 : (nI (sf_tg a_opA a_opB a_opC i 2)).toNatClampNeg = sf_tg a_opA a_opB a_opC i 2 := sf_cl (by omega)
  rw [ex_F8 e] at Kp
  unfold ex_mm at Kp
  rw [if_neg (show ¬ a_kinds i = 3 by rw [e]; decide), if_neg (show ¬ a_kinds i = 5 by rw [e]; decide)] at Kp
  rw [hx, hy, o1', o2']
  refine br_f (by rw [e]; decide) (br_f (by rw [e]; decide) (br_f (by rw [e]; decide) (br_f (by rw [e]; decide) (br_f (by rw [e]; decide) (br_f (by rw [e]; decide) (br_f (by rw [e]; decide) (br_f (by rw [e]; decide) (br_f (by rw [e]; decide) (br_f (by rw [e]; decide) (br_t e (?_)))))))))))
  unfold wX_compute_154
  rw [hcl1, hcl2]
  refine And.intro hin1 (And.intro hin2 ?_)
  refine br_f (by rw [e]; decide) (br_f (by rw [e]; decide) (br_f (by rw [e]; decide) (br_f (by rw [e]; decide) (br_t e (?_)))))
  exact Kp
theorem xt_c9 {c i : Nat} {m0 : Nat → Int32} {post : Int32 → SX → Prop} (hc : c ≤ 24) (hi : i < c) (hN : sf_ND c a_kinds a_opA a_opB a_opC) (hS : ex_Sl c a_kinds a_memSlot) (hm : em_mk (a_kinds i) → a_mem (em_sl a_memSlot i) = m0 i) (e : a_kinds i = 9)
    (Kp : post (ex_F a_kinds a_opA a_opB a_opC a_latched m0 (bt f_presence) a_vals i) (f_capacity, f_horizon, nI c, f_verdict, f_errorNode, f_outputs, f_late, f_codeLen, f_openGuard, f_guardClock, f_memCount, f_presence, f_tickCount, f_digestValue, f_hasSnapshot, f_savedPresence, f_savedTicks, f_savedDigest, a_kinds, a_opA, a_opB, a_opC, a_parent, a_facts, a_clocks, a_needs, a_reach, a_order, a_levels, a_codeOp, a_codeDst, a_codeX, a_codeY, a_codeZ, a_memSlot, a_memInit, ex_mm a_kinds a_opA a_opB a_opC a_memSlot m0 f_presence a_vals a_mem i, a_latched, a_vals, a_savedMem, a_savedLatched, a_savedVals)) :
    wpX_compute post (f_capacity, f_horizon, nI c, f_verdict, f_errorNode, f_outputs, f_late, f_codeLen, f_openGuard, f_guardClock, f_memCount, f_presence, f_tickCount, f_digestValue, f_hasSnapshot, f_savedPresence, f_savedTicks, f_savedDigest, a_kinds, a_opA, a_opB, a_opC, a_parent, a_facts, a_clocks, a_needs, a_reach, a_order, a_levels, a_codeOp, a_codeDst, a_codeX, a_codeY, a_codeZ, a_memSlot, a_memInit, a_mem, a_latched, a_vals, a_savedMem, a_savedLatched, a_savedVals) (a_kinds i) (em_x a_kinds a_opA i) (em_y a_kinds a_opB i) (em_z a_kinds a_opC a_memSlot i) := by
  have hx : em_x a_kinds a_opA i = a_opA i := if_neg (by rw [e]; decide)
  have hy : em_y a_kinds a_opB i = a_opB i := by unfold em_y; rw [if_neg (by rw [e]; decide), if_neg (by rw [e]; decide)]
  obtain ⟨t1, o1⟩ := hN i hi 1 sf_W1 (by rw [e]; decide)
  have o1' : a_opA i = nI (sf_tg a_opA a_opB a_opC i 1) := o1
  have hin1 : vp_in (nI (sf_tg a_opA a_opB a_opC i 1)) 24 := sf_in (by omega) (by omega)
  have hcl1 : (nI (sf_tg a_opA a_opB a_opC i 1)).toNatClampNeg = sf_tg a_opA a_opB a_opC i 1 := sf_cl (by omega)
  obtain ⟨t2, o2⟩ := hN i hi 2 sf_W2 (by rw [e]; decide)
  have o2' : a_opB i = nI (sf_tg a_opA a_opB a_opC i 2) := o2
  have hin2 : vp_in (nI (sf_tg a_opA a_opB a_opC i 2)) 24 := sf_in (by omega) (by omega)
  have hcl2 : (nI (sf_tg a_opA a_opB a_opC i 2)).toNatClampNeg = sf_tg a_opA a_opB a_opC i 2 := sf_cl (by omega)
  rw [ex_F9 e] at Kp
  unfold ex_mm at Kp
  rw [if_neg (show ¬ a_kinds i = 3 by rw [e]; decide), if_neg (show ¬ a_kinds i = 5 by rw [e]; decide)] at Kp
  rw [hx, hy, o1', o2']
  refine br_f (by rw [e]; decide) (br_f (by rw [e]; decide) (br_f (by rw [e]; decide) (br_f (by rw [e]; decide) (br_f (by rw [e]; decide) (br_f (by rw [e]; decide) (br_f (by rw [e]; decide) (br_f (by rw [e]; decide) (br_f (by rw [e]; decide) (br_f (by rw [e]; decide) (br_f (by rw [e]; decide) (br_t e (?_))))))))))))
  unfold wX_compute_154
  rw [hcl1, hcl2]
  refine And.intro hin1 (And.intro hin2 ?_)
  refine br_f (by rw [e]; decide) (br_f (by rw [e]; decide) (br_f (by rw [e]; decide) (br_f (by rw [e]; decide) (br_f (by rw [e]; decide) (br_t e (?_))))))
  by_cases h0 : a_vals (sf_tg a_opA a_opB a_opC i 2) = 0
  · rw [if_pos h0] at Kp; exact br_t h0 Kp
  · rw [if_neg h0] at Kp; exact br_f h0 (And.intro h0 Kp)
theorem xt_c10 {c i : Nat} {m0 : Nat → Int32} {post : Int32 → SX → Prop} (hc : c ≤ 24) (hi : i < c) (hN : sf_ND c a_kinds a_opA a_opB a_opC) (hS : ex_Sl c a_kinds a_memSlot) (hm : em_mk (a_kinds i) → a_mem (em_sl a_memSlot i) = m0 i) (e : a_kinds i = 10)
    (Kp : post (ex_F a_kinds a_opA a_opB a_opC a_latched m0 (bt f_presence) a_vals i) (f_capacity, f_horizon, nI c, f_verdict, f_errorNode, f_outputs, f_late, f_codeLen, f_openGuard, f_guardClock, f_memCount, f_presence, f_tickCount, f_digestValue, f_hasSnapshot, f_savedPresence, f_savedTicks, f_savedDigest, a_kinds, a_opA, a_opB, a_opC, a_parent, a_facts, a_clocks, a_needs, a_reach, a_order, a_levels, a_codeOp, a_codeDst, a_codeX, a_codeY, a_codeZ, a_memSlot, a_memInit, ex_mm a_kinds a_opA a_opB a_opC a_memSlot m0 f_presence a_vals a_mem i, a_latched, a_vals, a_savedMem, a_savedLatched, a_savedVals)) :
    wpX_compute post (f_capacity, f_horizon, nI c, f_verdict, f_errorNode, f_outputs, f_late, f_codeLen, f_openGuard, f_guardClock, f_memCount, f_presence, f_tickCount, f_digestValue, f_hasSnapshot, f_savedPresence, f_savedTicks, f_savedDigest, a_kinds, a_opA, a_opB, a_opC, a_parent, a_facts, a_clocks, a_needs, a_reach, a_order, a_levels, a_codeOp, a_codeDst, a_codeX, a_codeY, a_codeZ, a_memSlot, a_memInit, a_mem, a_latched, a_vals, a_savedMem, a_savedLatched, a_savedVals) (a_kinds i) (em_x a_kinds a_opA i) (em_y a_kinds a_opB i) (em_z a_kinds a_opC a_memSlot i) := by
  have hx : em_x a_kinds a_opA i = a_opA i := if_neg (by rw [e]; decide)
  have hy : em_y a_kinds a_opB i = a_opB i := by unfold em_y; rw [if_neg (by rw [e]; decide), if_neg (by rw [e]; decide)]
  obtain ⟨t1, o1⟩ := hN i hi 1 sf_W1 (by rw [e]; decide)
  have o1' : a_opA i = nI (sf_tg a_opA a_opB a_opC i 1) := o1
  have hin1 : vp_in (nI (sf_tg a_opA a_opB a_opC i 1)) 24 := sf_in (by omega) (by omega)
  have hcl1 : (nI (sf_tg a_opA a_opB a_opC i 1)).toNatClampNeg = sf_tg a_opA a_opB a_opC i 1 := sf_cl (by omega)
  obtain ⟨t2, o2⟩ := hN i hi 2 sf_W2 (by rw [e]; decide)
  have o2' : a_opB i = nI (sf_tg a_opA a_opB a_opC i 2) := o2
  have hin2 : vp_in (nI (sf_tg a_opA a_opB a_opC i 2)) 24 := sf_in (by omega) (by omega)
  have hcl2 : (nI (sf_tg a_opA a_opB a_opC i 2)).toNatClampNeg = sf_tg a_opA a_opB a_opC i 2 := sf_cl (by omega)
  rw [ex_F10 e] at Kp
  unfold ex_mm at Kp
  rw [if_neg (show ¬ a_kinds i = 3 by rw [e]; decide), if_neg (show ¬ a_kinds i = 5 by rw [e]; decide)] at Kp
  rw [hx, hy, o1', o2']
  refine br_f (by rw [e]; decide) (br_f (by rw [e]; decide) (br_f (by rw [e]; decide) (br_f (by rw [e]; decide) (br_f (by rw [e]; decide) (br_f (by rw [e]; decide) (br_f (by rw [e]; decide) (br_f (by rw [e]; decide) (br_f (by rw [e]; decide) (br_f (by rw [e]; decide) (br_f (by rw [e]; decide) (br_f (by rw [e]; decide) (br_t e (?_)))))))))))))
  unfold wX_compute_154
  rw [hcl1, hcl2]
  refine And.intro hin1 (And.intro hin2 ?_)
  refine br_f (by rw [e]; decide) (br_f (by rw [e]; decide) (br_f (by rw [e]; decide) (br_f (by rw [e]; decide) (br_f (by rw [e]; decide) (br_f (by rw [e]; decide) (br_t e (?_)))))))
  by_cases h0 : a_vals (sf_tg a_opA a_opB a_opC i 2) ≤ a_vals (sf_tg a_opA a_opB a_opC i 1)
  · rw [if_pos h0] at Kp; exact br_t h0 Kp
  · rw [if_neg h0] at Kp; exact br_f h0 Kp
theorem xt_c11 {c i : Nat} {m0 : Nat → Int32} {post : Int32 → SX → Prop} (hc : c ≤ 24) (hi : i < c) (hN : sf_ND c a_kinds a_opA a_opB a_opC) (hS : ex_Sl c a_kinds a_memSlot) (hm : em_mk (a_kinds i) → a_mem (em_sl a_memSlot i) = m0 i) (e : a_kinds i = 11)
    (Kp : post (ex_F a_kinds a_opA a_opB a_opC a_latched m0 (bt f_presence) a_vals i) (f_capacity, f_horizon, nI c, f_verdict, f_errorNode, f_outputs, f_late, f_codeLen, f_openGuard, f_guardClock, f_memCount, f_presence, f_tickCount, f_digestValue, f_hasSnapshot, f_savedPresence, f_savedTicks, f_savedDigest, a_kinds, a_opA, a_opB, a_opC, a_parent, a_facts, a_clocks, a_needs, a_reach, a_order, a_levels, a_codeOp, a_codeDst, a_codeX, a_codeY, a_codeZ, a_memSlot, a_memInit, ex_mm a_kinds a_opA a_opB a_opC a_memSlot m0 f_presence a_vals a_mem i, a_latched, a_vals, a_savedMem, a_savedLatched, a_savedVals)) :
    wpX_compute post (f_capacity, f_horizon, nI c, f_verdict, f_errorNode, f_outputs, f_late, f_codeLen, f_openGuard, f_guardClock, f_memCount, f_presence, f_tickCount, f_digestValue, f_hasSnapshot, f_savedPresence, f_savedTicks, f_savedDigest, a_kinds, a_opA, a_opB, a_opC, a_parent, a_facts, a_clocks, a_needs, a_reach, a_order, a_levels, a_codeOp, a_codeDst, a_codeX, a_codeY, a_codeZ, a_memSlot, a_memInit, a_mem, a_latched, a_vals, a_savedMem, a_savedLatched, a_savedVals) (a_kinds i) (em_x a_kinds a_opA i) (em_y a_kinds a_opB i) (em_z a_kinds a_opC a_memSlot i) := by
  have hx : em_x a_kinds a_opA i = a_opA i := if_neg (by rw [e]; decide)
  have hy : em_y a_kinds a_opB i = a_opB i := by unfold em_y; rw [if_neg (by rw [e]; decide), if_neg (by rw [e]; decide)]
  obtain ⟨t1, o1⟩ := hN i hi 1 sf_W1 (by rw [e]; decide)
  have o1' : a_opA i = nI (sf_tg a_opA a_opB a_opC i 1) := o1
  have hin1 : vp_in (nI (sf_tg a_opA a_opB a_opC i 1)) 24 := sf_in (by omega) (by omega)
  have hcl1 : (nI (sf_tg a_opA a_opB a_opC i 1)).toNatClampNeg = sf_tg a_opA a_opB a_opC i 1 := sf_cl (by omega)
  obtain ⟨t2, o2⟩ := hN i hi 2 sf_W2 (by rw [e]; decide)
  have o2' : a_opB i = nI (sf_tg a_opA a_opB a_opC i 2) := o2
  have hin2 : vp_in (nI (sf_tg a_opA a_opB a_opC i 2)) 24 := sf_in (by omega) (by omega)
  have hcl2 : (nI (sf_tg a_opA a_opB a_opC i 2)).toNatClampNeg = sf_tg a_opA a_opB a_opC i 2 := sf_cl (by omega)
  rw [ex_F11 e] at Kp
  unfold ex_mm at Kp
  rw [if_neg (show ¬ a_kinds i = 3 by rw [e]; decide), if_neg (show ¬ a_kinds i = 5 by rw [e]; decide)] at Kp
  rw [hx, hy, o1', o2']
  refine br_f (by rw [e]; decide) (br_f (by rw [e]; decide) (br_f (by rw [e]; decide) (br_f (by rw [e]; decide) (br_f (by rw [e]; decide) (br_f (by rw [e]; decide) (br_f (by rw [e]; decide) (br_f (by rw [e]; decide) (br_f (by rw [e]; decide) (br_f (by rw [e]; decide) (br_f (by rw [e]; decide) (br_f (by rw [e]; decide) (br_f (by rw [e]; decide) (br_t e (?_))))))))))))))
  unfold wX_compute_154
  rw [hcl1, hcl2]
  refine And.intro hin1 (And.intro hin2 ?_)
  refine br_f (by rw [e]; decide) (br_f (by rw [e]; decide) (br_f (by rw [e]; decide) (br_f (by rw [e]; decide) (br_f (by rw [e]; decide) (br_f (by rw [e]; decide) (br_f (by rw [e]; decide) (br_t e (?_))))))))
  by_cases h0 : a_vals (sf_tg a_opA a_opB a_opC i 1) = a_vals (sf_tg a_opA a_opB a_opC i 2)
  · rw [if_pos h0] at Kp; exact br_t h0 Kp
  · rw [if_neg h0] at Kp; exact br_f h0 Kp
theorem xt_c12 {c i : Nat} {m0 : Nat → Int32} {post : Int32 → SX → Prop} (hc : c ≤ 24) (hi : i < c) (hN : sf_ND c a_kinds a_opA a_opB a_opC) (hS : ex_Sl c a_kinds a_memSlot) (hm : em_mk (a_kinds i) → a_mem (em_sl a_memSlot i) = m0 i) (e : a_kinds i = 12)
    (Kp : post (ex_F a_kinds a_opA a_opB a_opC a_latched m0 (bt f_presence) a_vals i) (f_capacity, f_horizon, nI c, f_verdict, f_errorNode, f_outputs, f_late, f_codeLen, f_openGuard, f_guardClock, f_memCount, f_presence, f_tickCount, f_digestValue, f_hasSnapshot, f_savedPresence, f_savedTicks, f_savedDigest, a_kinds, a_opA, a_opB, a_opC, a_parent, a_facts, a_clocks, a_needs, a_reach, a_order, a_levels, a_codeOp, a_codeDst, a_codeX, a_codeY, a_codeZ, a_memSlot, a_memInit, ex_mm a_kinds a_opA a_opB a_opC a_memSlot m0 f_presence a_vals a_mem i, a_latched, a_vals, a_savedMem, a_savedLatched, a_savedVals)) :
    wpX_compute post (f_capacity, f_horizon, nI c, f_verdict, f_errorNode, f_outputs, f_late, f_codeLen, f_openGuard, f_guardClock, f_memCount, f_presence, f_tickCount, f_digestValue, f_hasSnapshot, f_savedPresence, f_savedTicks, f_savedDigest, a_kinds, a_opA, a_opB, a_opC, a_parent, a_facts, a_clocks, a_needs, a_reach, a_order, a_levels, a_codeOp, a_codeDst, a_codeX, a_codeY, a_codeZ, a_memSlot, a_memInit, a_mem, a_latched, a_vals, a_savedMem, a_savedLatched, a_savedVals) (a_kinds i) (em_x a_kinds a_opA i) (em_y a_kinds a_opB i) (em_z a_kinds a_opC a_memSlot i) := by
  have hx : em_x a_kinds a_opA i = a_opA i := if_neg (by rw [e]; decide)
  have hy : em_y a_kinds a_opB i = a_opB i := by unfold em_y; rw [if_neg (by rw [e]; decide), if_neg (by rw [e]; decide)]
  obtain ⟨t1, o1⟩ := hN i hi 1 sf_W1 (by rw [e]; decide)
  have o1' : a_opA i = nI (sf_tg a_opA a_opB a_opC i 1) := o1
  have hin1 : vp_in (nI (sf_tg a_opA a_opB a_opC i 1)) 24 := sf_in (by omega) (by omega)
  have hcl1 : (nI (sf_tg a_opA a_opB a_opC i 1)).toNatClampNeg = sf_tg a_opA a_opB a_opC i 1 := sf_cl (by omega)
  rw [ex_F12 e] at Kp
  unfold ex_mm at Kp
  rw [if_neg (show ¬ a_kinds i = 3 by rw [e]; decide), if_neg (show ¬ a_kinds i = 5 by rw [e]; decide)] at Kp
  rw [hx, o1']
  refine br_f (by rw [e]; decide) (br_f (by rw [e]; decide) (br_f (by rw [e]; decide) (br_f (by rw [e]; decide) (br_f (by rw [e]; decide) (br_f (by rw [e]; decide) (br_f (by rw [e]; decide) (br_f (by rw [e]; decide) (br_f (by rw [e]; decide) (br_f (by rw [e]; decide) (br_f (by rw [e]; decide) (br_f (by rw [e]; decide) (br_f (by rw [e]; decide) (br_f (by rw [e]; decide) (br_t e (?_)))))))))))))))
  rw [hcl1]
  refine And.intro hin1 ?_
  by_cases h0 : a_vals (sf_tg a_opA a_opB a_opC i 1) = 0
  · rw [if_pos h0] at Kp; exact br_t h0 Kp
  · rw [if_neg h0] at Kp; exact br_f h0 Kp
theorem xt_c13 {c i : Nat} {m0 : Nat → Int32} {post : Int32 → SX → Prop} (hc : c ≤ 24) (hi : i < c) (hN : sf_ND c a_kinds a_opA a_opB a_opC) (hS : ex_Sl c a_kinds a_memSlot) (hm : em_mk (a_kinds i) → a_mem (em_sl a_memSlot i) = m0 i) (e : a_kinds i = 13)
    (Kp : post (ex_F a_kinds a_opA a_opB a_opC a_latched m0 (bt f_presence) a_vals i) (f_capacity, f_horizon, nI c, f_verdict, f_errorNode, f_outputs, f_late, f_codeLen, f_openGuard, f_guardClock, f_memCount, f_presence, f_tickCount, f_digestValue, f_hasSnapshot, f_savedPresence, f_savedTicks, f_savedDigest, a_kinds, a_opA, a_opB, a_opC, a_parent, a_facts, a_clocks, a_needs, a_reach, a_order, a_levels, a_codeOp, a_codeDst, a_codeX, a_codeY, a_codeZ, a_memSlot, a_memInit, ex_mm a_kinds a_opA a_opB a_opC a_memSlot m0 f_presence a_vals a_mem i, a_latched, a_vals, a_savedMem, a_savedLatched, a_savedVals)) :
    wpX_compute post (f_capacity, f_horizon, nI c, f_verdict, f_errorNode, f_outputs, f_late, f_codeLen, f_openGuard, f_guardClock, f_memCount, f_presence, f_tickCount, f_digestValue, f_hasSnapshot, f_savedPresence, f_savedTicks, f_savedDigest, a_kinds, a_opA, a_opB, a_opC, a_parent, a_facts, a_clocks, a_needs, a_reach, a_order, a_levels, a_codeOp, a_codeDst, a_codeX, a_codeY, a_codeZ, a_memSlot, a_memInit, a_mem, a_latched, a_vals, a_savedMem, a_savedLatched, a_savedVals) (a_kinds i) (em_x a_kinds a_opA i) (em_y a_kinds a_opB i) (em_z a_kinds a_opC a_memSlot i) := by
  have hx : em_x a_kinds a_opA i = a_opA i := if_neg (by rw [e]; decide)
  have hy : em_y a_kinds a_opB i = a_opB i := by unfold em_y; rw [if_neg (by rw [e]; decide), if_neg (by rw [e]; decide)]
  have hz : em_z a_kinds a_opC a_memSlot i = a_opC i := by unfold em_z; rw [if_neg (by rw [e]; decide), if_neg (by rw [e]; decide), if_neg (by rw [e]; decide), if_neg (by rw [e]; decide)]
  obtain ⟨t1, o1⟩ := hN i hi 1 sf_W1 (by rw [e]; decide)
  have o1' : a_opA i = nI (sf_tg a_opA a_opB a_opC i 1) := o1
  have hin1 : vp_in (nI (sf_tg a_opA a_opB a_opC i 1)) 24 := sf_in (by omega) (by omega)
  have hcl1 : (nI (sf_tg a_opA a_opB a_opC i 1)).toNatClampNeg = sf_tg a_opA a_opB a_opC i 1 := sf_cl (by omega)
  obtain ⟨t2, o2⟩ := hN i hi 2 sf_W2 (by rw [e]; decide)
  have o2' : a_opB i = nI (sf_tg a_opA a_opB a_opC i 2) := o2
  have hin2 : vp_in (nI (sf_tg a_opA a_opB a_opC i 2)) 24 := sf_in (by omega) (by omega)
  have hcl2 : (nI (sf_tg a_opA a_opB a_opC i 2)).toNatClampNeg = sf_tg a_opA a_opB a_opC i 2 := sf_cl (by omega)
  obtain ⟨t3, o3⟩ := hN i hi 3 sf_W3 (by rw [e]; decide)
  have o3' : a_opC i = nI (sf_tg a_opA a_opB a_opC i 3) := o3
  have hin3 : vp_in (nI (sf_tg a_opA a_opB a_opC i 3)) 24 := sf_in (by omega) (by omega)
  have hcl3 : (nI (sf_tg a_opA a_opB a_opC i 3)).toNatClampNeg = sf_tg a_opA a_opB a_opC i 3 := sf_cl (by omega)
  rw [ex_F13 e] at Kp
  unfold ex_mm at Kp
  rw [if_neg (show ¬ a_kinds i = 3 by rw [e]; decide), if_neg (show ¬ a_kinds i = 5 by rw [e]; decide)] at Kp
  rw [hx, hy, hz, o1', o2', o3']
  refine br_f (by rw [e]; decide) (br_f (by rw [e]; decide) (br_f (by rw [e]; decide) (br_f (by rw [e]; decide) (br_f (by rw [e]; decide) (br_f (by rw [e]; decide) (br_f (by rw [e]; decide) (br_f (by rw [e]; decide) (br_f (by rw [e]; decide) (br_f (by rw [e]; decide) (br_f (by rw [e]; decide) (br_f (by rw [e]; decide) (br_f (by rw [e]; decide) (br_f (by rw [e]; decide) (br_f (by rw [e]; decide) (br_t e (?_))))))))))))))))
  rw [hcl1, hcl2, hcl3]
  refine And.intro hin1 ?_
  by_cases h0 : a_vals (sf_tg a_opA a_opB a_opC i 1) = 0
  · rw [if_pos h0] at Kp; exact br_t h0 (And.intro hin3 Kp)
  · rw [if_neg h0] at Kp; exact br_f h0 (And.intro hin2 Kp)
theorem xt_comp {c i : Nat} {m0 : Nat → Int32} {post : Int32 → SX → Prop} (hc : c ≤ 24) (hi : i < c) (hk : sf_kd (a_kinds i)) (hN : sf_ND c a_kinds a_opA a_opB a_opC) (hS : ex_Sl c a_kinds a_memSlot) (hm : em_mk (a_kinds i) → a_mem (em_sl a_memSlot i) = m0 i)
    (Kp : post (ex_F a_kinds a_opA a_opB a_opC a_latched m0 (bt f_presence) a_vals i) (f_capacity, f_horizon, nI c, f_verdict, f_errorNode, f_outputs, f_late, f_codeLen, f_openGuard, f_guardClock, f_memCount, f_presence, f_tickCount, f_digestValue, f_hasSnapshot, f_savedPresence, f_savedTicks, f_savedDigest, a_kinds, a_opA, a_opB, a_opC, a_parent, a_facts, a_clocks, a_needs, a_reach, a_order, a_levels, a_codeOp, a_codeDst, a_codeX, a_codeY, a_codeZ, a_memSlot, a_memInit, ex_mm a_kinds a_opA a_opB a_opC a_memSlot m0 f_presence a_vals a_mem i, a_latched, a_vals, a_savedMem, a_savedLatched, a_savedVals)) :
    wpX_compute post (f_capacity, f_horizon, nI c, f_verdict, f_errorNode, f_outputs, f_late, f_codeLen, f_openGuard, f_guardClock, f_memCount, f_presence, f_tickCount, f_digestValue, f_hasSnapshot, f_savedPresence, f_savedTicks, f_savedDigest, a_kinds, a_opA, a_opB, a_opC, a_parent, a_facts, a_clocks, a_needs, a_reach, a_order, a_levels, a_codeOp, a_codeDst, a_codeX, a_codeY, a_codeZ, a_memSlot, a_memInit, a_mem, a_latched, a_vals, a_savedMem, a_savedLatched, a_savedVals) (a_kinds i) (em_x a_kinds a_opA i) (em_y a_kinds a_opB i) (em_z a_kinds a_opC a_memSlot i) := by
  rcases sf_kd_in hk with e | e | e | e | e | e | e | e | e | e | e | e | e | e
  · exact xt_c0 hc hi hN hS hm e Kp
  · exact xt_c1 hc hi hN hS hm e Kp
  · exact xt_c2 hc hi hN hS hm e Kp
  · exact xt_c3 hc hi hN hS hm e Kp
  · exact xt_c4 hc hi hN hS hm e Kp
  · exact xt_c5 hc hi hN hS hm e Kp
  · exact xt_c6 hc hi hN hS hm e Kp
  · exact xt_c7 hc hi hN hS hm e Kp
  · exact xt_c8 hc hi hN hS hm e Kp
  · exact xt_c9 hc hi hN hS hm e Kp
  · exact xt_c10 hc hi hN hS hm e Kp
  · exact xt_c11 hc hi hN hS hm e Kp
  · exact xt_c12 hc hi hN hS hm e Kp
  · exact xt_c13 hc hi hN hS hm e Kp
end
end
section
/-! the component's tick: the walk through the step code -/
theorem sf_kd_ne {k : Int32} (h : sf_kd k) : ¬ k = 14 ∧ ¬ k = 15 := by
  rcases sf_kd_in h with rfl | rfl | rfl | rfl | rfl | rfl | rfl | rfl | rfl | rfl | rfl | rfl | rfl | rfl <;> exact ⟨by decide, by decide⟩
theorem em_ng {ic : Nat → Int32} {n : Nat} (h : ¬ em_g ic n) : ic n = em_prev ic n ∨ ic n < 0 := by
  by_cases e : ic n = em_prev ic n
  · exact Or.inl e
  · exact Or.inr (Classical.byContradiction fun z => h ⟨e, z⟩)
section
variable {f_capacity f_horizon f_count f_verdict f_errorNode f_outputs f_late f_codeLen f_openGuard f_guardClock f_memCount f_presence f_tickCount f_digestValue f_hasSnapshot f_savedPresence f_savedTicks f_savedDigest : Int32} {a_kinds a_opA a_opB a_opC a_parent a_facts a_clocks a_needs a_reach a_order a_levels a_codeOp a_codeDst a_codeX a_codeY a_codeZ a_memSlot a_memInit a_mem a_latched a_vals a_savedMem a_savedLatched a_savedVals : Nat → Int32}
theorem xt_item {c N n st fuel : Nat} {nd : Nat → Nat} {m0 vals mem : Nat → Int32} {pr : Int32} {post : SX → Prop} (hF : ex_Fr c a_kinds a_opA a_opB a_opC a_clocks a_memSlot nd) (hN48 : N ≤ 48) (hn : n < N) (hndc : ∀ n, n < N → nd n < c) (hst2 : ∀ n, c ≤ n → n < N → a_kinds (nd n) = 2)
    (hA : em_LA (em_ic a_clocks nd) (em_iO c a_kinds nd) (em_iD c a_memSlot nd) (em_iX c a_kinds a_opA nd) (em_iY c a_kinds a_opB nd) (em_iZ c a_kinds a_opC a_memSlot nd) a_codeOp a_codeDst a_codeX a_codeY a_codeZ N) (h3 : ∀ i, i < c → a_kinds i = 3 → m0 i = 0 ∨ m0 i = 1) (hst : st ≤ em_ad (em_ic a_clocks nd) n)
    (hE : ex_E c a_kinds a_opA a_opB a_opC a_clocks a_latched m0 nd n pr vals) (hM : ex_M c a_kinds a_opA a_opB a_opC a_memSlot m0 nd n pr vals mem) (hon : ex_on (bt pr) vals (a_clocks (nd n)))
    (Kp : ∀ pr' vals' mem', ex_E c a_kinds a_opA a_opB a_opC a_clocks a_latched m0 nd (n + 1) pr' vals' → ex_M c a_kinds a_opA a_opB a_opC a_memSlot m0 nd (n + 1) pr' vals' mem' → ex_on (bt pr') vals' (a_clocks (nd n)) →
      wX_executeTick_9 post fuel (nI (em_bd (em_ic a_clocks nd) (n + 1))) (nI (st + 1)) f_capacity f_horizon (nI c) f_verdict f_errorNode f_outputs f_late (nI (em_bd (em_ic a_clocks nd) N)) f_openGuard f_guardClock f_memCount pr' f_tickCount f_digestValue f_hasSnapshot f_savedPresence f_savedTicks f_savedDigest a_kinds a_opA a_opB a_opC a_parent a_facts a_clocks a_needs a_reach a_order a_levels a_codeOp a_codeDst a_codeX a_codeY a_codeZ a_memSlot a_memInit mem' a_latched vals' a_savedMem a_savedLatched a_savedVals) :
    wX_executeTick_9 post (fuel + 1) (nI (em_ad (em_ic a_clocks nd) n)) (nI st) f_capacity f_horizon (nI c) f_verdict f_errorNode f_outputs f_late (nI (em_bd (em_ic a_clocks nd) N)) f_openGuard f_guardClock f_memCount pr f_tickCount f_digestValue f_hasSnapshot f_savedPresence f_savedTicks f_savedDigest a_kinds a_opA a_opB a_opC a_parent a_facts a_clocks a_needs a_reach a_order a_levels a_codeOp a_codeDst a_codeX a_codeY a_codeZ a_memSlot a_memInit mem a_latched vals a_savedMem a_savedLatched a_savedVals := by
  have hF' := hF
  obtain ⟨hc, hk, hND, hck, hS, o1, o2, o3, o4⟩ := hF'
  have hi := hndc n hn
  have hbn := em_bd_le (em_ic a_clocks nd) n
  have hbN := em_bd_le (em_ic a_clocks nd) N
  have hal := em_ad_le (em_ic a_clocks nd) n
  have hlt := em_bd_lt (em_ic a_clocks nd) hn
  have hin : vp_in (nI (em_ad (em_ic a_clocks nd) n)) 96 := sf_in (by omega) (by omega)
  have hini : vp_in (nI (nd n)) 24 := sf_in (by omega) (by omega)
  obtain ⟨a0, a1, a2, a3, a4⟩ := hA n hn
  refine br_f (sf_nle (b := 96) (by omega) (by omega)) (br_f (sf_nle hlt (by omega)) (And.intro hin ?_))
  rw [sf_cl (n := em_ad (em_ic a_clocks nd) n) (by omega), a0, a1, a2, a3, a4]
  rcases Nat.lt_or_ge n c with h | h
  · have e0 : em_iO c a_kinds nd n = a_kinds (nd n) := if_pos h
    have e1 : em_iD c a_memSlot nd n = nI (nd n) := if_pos h
    have e2 : em_iX c a_kinds a_opA nd n = em_x a_kinds a_opA (nd n) := if_pos h
    have e3 : em_iY c a_kinds a_opB nd n = em_y a_kinds a_opB (nd n) := if_pos h
    have e4 : em_iZ c a_kinds a_opC a_memSlot nd n = em_z a_kinds a_opC a_memSlot (nd n) := if_pos h
    rw [e0, e1, e2, e3, e4]
    have hne := sf_kd_ne (hk _ hi)
    refine nm_e (nm_r (nI_1 _) (br_f hne.1 (br_f hne.2 (And.intro hin (nm_e (And.intro hin (And.intro hin (And.intro hin ?_))))))))
    refine xt_comp (m0 := m0) hc hi (hk _ hi) hND hS (fun hm => ?_) ?_
    · obtain ⟨m3, m5, m2⟩ := hM _ hi
      have hp : ¬ bt pr (nd n) = true := hE.2 n (Nat.le_refl _) h
      rcases hm with z | z | z
      · exact (m2 z).2 (fun ⟨j, h1, h2, _⟩ => absurd h2 (by omega))
      · rw [m3 z, if_neg hp]
      · rw [m5 z, if_neg (fun y => hp y.1)]
    · obtain ⟨k1, k2⟩ := ex_exec hF h h3 hE hM hon
      refine And.intro hini (nm_r (e' := upd vals (nd n) (ex_F a_kinds a_opA a_opB a_opC a_latched m0 (bt pr) vals (nd n))) (by rw [sf_cl (by omega)]) (nm_e (nm_r (nI_1 st) ?_)))
      refine Kp _ _ _ k1 k2 ?_
      exact (k1.1 n (by omega) h).1.mp ((sf_set _ (by omega)).mpr (Or.inr rfl))
  · have e0 : em_iO c a_kinds nd n = 15 := if_neg (by omega)
    have e1 : em_iD c a_memSlot nd n = a_memSlot (nd n) := if_neg (by omega)
    have e2 : em_iX c a_kinds a_opA nd n = a_opA (nd n) := if_neg (by omega)
    have h2 := hst2 n h hn
    obtain ⟨sl1, sl2, _⟩ := hS _ hi (Or.inl h2)
    obtain ⟨t1, p1⟩ := hND _ hi 1 sf_W1 (by rw [h2]; decide)
    have p1' : a_opA (nd n) = nI (sf_tg a_opA a_opB a_opC (nd n) 1) := p1
    rw [e0, e1, e2, sl1, p1', sf_cl (n := em_sl a_memSlot (nd n)) (by omega), sf_cl (n := sf_tg a_opA a_opB a_opC (nd n) 1) (by omega)]
    refine nm_e (nm_r (nI_1 _) (br_f (by decide) (br_t rfl (And.intro hin (And.intro hin (And.intro (sf_in (by omega) (by omega)) (And.intro (sf_in (by omega) (by omega)) (nm_e (nm_r (nI_1 st) ?_)))))))))
    obtain ⟨k1, k2⟩ := ex_store hF h hn hndc h2 hE hM hon
    exact Kp _ _ _ k1 k2 hon
theorem xt_walk {c N : Nat} {nd : Nat → Nat} {m0 : Nat → Int32} {post : SX → Prop} (hF : ex_Fr c a_kinds a_opA a_opB a_opC a_clocks a_memSlot nd) (hN48 : N ≤ 48) (hndc : ∀ n, n < N → nd n < c) (hst2 : ∀ n, c ≤ n → n < N → a_kinds (nd n) = 2)
    (hA : em_LA (em_ic a_clocks nd) (em_iO c a_kinds nd) (em_iD c a_memSlot nd) (em_iX c a_kinds a_opA nd) (em_iY c a_kinds a_opB nd) (em_iZ c a_kinds a_opC a_memSlot nd) a_codeOp a_codeDst a_codeX a_codeY a_codeZ N) (hG : em_Fin (em_ic a_clocks nd) a_codeOp a_codeX a_codeY N) (h3 : ∀ i, i < c → a_kinds i = 3 → m0 i = 0 ∨ m0 i = 1)
    (Kp : ∀ pr vals mem, ex_E c a_kinds a_opA a_opB a_opC a_clocks a_latched m0 nd N pr vals → ex_M c a_kinds a_opA a_opB a_opC a_memSlot m0 nd N pr vals mem → post (f_capacity, f_horizon, nI c, f_verdict, f_errorNode, f_outputs, f_late, nI (em_bd (em_ic a_clocks nd) N), f_openGuard, f_guardClock, f_memCount, pr, f_tickCount, f_digestValue, f_hasSnapshot, f_savedPresence, f_savedTicks, f_savedDigest, a_kinds, a_opA, a_opB, a_opC, a_parent, a_facts, a_clocks, a_needs, a_reach, a_order, a_levels, a_codeOp, a_codeDst, a_codeX, a_codeY, a_codeZ, a_memSlot, a_memInit, mem, a_latched, vals, a_savedMem, a_savedLatched, a_savedVals)) :
    ∀ d n fuel st pr vals mem, n ≤ N → N - n ≤ d → em_bd (em_ic a_clocks nd) N - em_bd (em_ic a_clocks nd) n < fuel → st ≤ em_bd (em_ic a_clocks nd) n → ex_E c a_kinds a_opA a_opB a_opC a_clocks a_latched m0 nd n pr vals → ex_M c a_kinds a_opA a_opB a_opC a_memSlot m0 nd n pr vals mem →
      (n < N → ¬ em_g (em_ic a_clocks nd) n → ex_on (bt pr) vals (a_clocks (nd n))) → wX_executeTick_9 post fuel (nI (em_bd (em_ic a_clocks nd) n)) (nI st) f_capacity f_horizon (nI c) f_verdict f_errorNode f_outputs f_late (nI (em_bd (em_ic a_clocks nd) N)) f_openGuard f_guardClock f_memCount pr f_tickCount f_digestValue f_hasSnapshot f_savedPresence f_savedTicks f_savedDigest a_kinds a_opA a_opB a_opC a_parent a_facts a_clocks a_needs a_reach a_order a_levels a_codeOp a_codeDst a_codeX a_codeY a_codeZ a_memSlot a_memInit mem a_latched vals a_savedMem a_savedLatched a_savedVals := by
  intro d
  induction d with
  | zero =>
    intro n fuel st pr vals mem hn hd hf hst hE hM _
    have : n = N := by omega
    subst this
    obtain ⟨f, rfl⟩ : ∃ f, fuel = f + 1 := ⟨fuel - 1, by omega⟩
    have hb := em_bd_le (em_ic a_clocks nd) n
    by_cases hs : (96 : Int32) ≤ nI st
    · exact br_t hs (Kp pr vals mem hE hM)
    · exact br_f hs (br_t (sf_le (Nat.le_refl _) (by omega)) (Kp pr vals mem hE hM))
  | succ d ih =>
    intro n fuel st pr vals mem hn hd hf hst hE hM hKn
    rcases Nat.lt_or_ge n N with h | h
    · have hcl := hF.1
      have hck := hF.2.2.2.1 _ (hndc n h)
      have hbN := em_bd_le (em_ic a_clocks nd) N
      have hlt := em_bd_lt (em_ic a_clocks nd) h
      have hgeN := em_ad_ge (em_ic a_clocks nd) n
      have hle := em_ad_le (em_ic a_clocks nd) n
      have hs1 := em_bd_s (em_ic a_clocks nd) n
      have hmono : em_bd (em_ic a_clocks nd) (n + 1) ≤ em_bd (em_ic a_clocks nd) N := by omega
      have next : ∀ f st' pr' vals' mem', em_bd (em_ic a_clocks nd) N - em_bd (em_ic a_clocks nd) (n + 1) < f → st' ≤ em_bd (em_ic a_clocks nd) (n + 1) → ex_E c a_kinds a_opA a_opB a_opC a_clocks a_latched m0 nd (n + 1) pr' vals' → ex_M c a_kinds a_opA a_opB a_opC a_memSlot m0 nd (n + 1) pr' vals' mem' → ex_on (bt pr') vals' (a_clocks (nd n)) →
          wX_executeTick_9 post f (nI (em_bd (em_ic a_clocks nd) (n + 1))) (nI st') f_capacity f_horizon (nI c) f_verdict f_errorNode f_outputs f_late (nI (em_bd (em_ic a_clocks nd) N)) f_openGuard f_guardClock f_memCount pr' f_tickCount f_digestValue f_hasSnapshot f_savedPresence f_savedTicks f_savedDigest a_kinds a_opA a_opB a_opC a_parent a_facts a_clocks a_needs a_reach a_order a_levels a_codeOp a_codeDst a_codeX a_codeY a_codeZ a_memSlot a_memInit mem' a_latched vals' a_savedMem a_savedLatched a_savedVals := by
        intro f st' pr' vals' mem' hf' hst' hE' hM' hon'
        refine ih (n + 1) f st' pr' vals' mem' (by omega) (by omega) hf' hst' hE' hM' (fun hn1 hng => ?_)
        rcases em_ng hng with z | z
        · have z' : a_clocks (nd (n + 1)) = a_clocks (nd n) := z
          rw [z']; exact hon'
        · exact Or.inl z
      by_cases hg : em_g (em_ic a_clocks nd) n
      · obtain ⟨g1, g2, m, m1, m2, m3, m4, m5⟩ := hG n h hg
        have hag := em_ad_g hg
        obtain ⟨f, rfl⟩ : ∃ f, fuel = f + 1 + 1 := ⟨fuel - 2, by omega⟩
        have hin : vp_in (nI (em_bd (em_ic a_clocks nd) n)) 96 := sf_in (by omega) (by omega)
        obtain ⟨k, hkc, ek⟩ : ∃ k, k < c ∧ a_clocks (nd n) = nI k := by
          rcases hck with z | z
          · exact absurd (show em_ic a_clocks nd n < 0 by unfold em_ic; rw [z]; decide) hg.2
          · exact z
        have g2' : a_codeX (em_bd (em_ic a_clocks nd) n) = nI k := g2.trans ek
        have hbm : em_bd (em_ic a_clocks nd) m ≤ em_bd (em_ic a_clocks nd) N := by
          rcases (by omega : m < N ∨ m = N) with z | rfl
          · have := em_bd_lt (em_ic a_clocks nd) z; have := em_ad_ge (em_ic a_clocks nd) m; omega
          · exact Nat.le_refl _
        have hnm := em_bd_lt (em_ic a_clocks nd) m1
        have off : ¬ ex_on (bt pr) vals (nI k) → wX_executeTick_76 post (wX_executeTick_9 post (f + 1)) (nI (em_bd (em_ic a_clocks nd) n)) (nI st) (nI (em_bd (em_ic a_clocks nd) n + 1)) 0 f_capacity f_horizon (nI c) f_verdict f_errorNode f_outputs f_late (nI (em_bd (em_ic a_clocks nd) N)) f_openGuard f_guardClock f_memCount pr f_tickCount f_digestValue f_hasSnapshot f_savedPresence f_savedTicks f_savedDigest a_kinds a_opA a_opB a_opC a_parent a_facts a_clocks a_needs a_reach a_order a_levels a_codeOp a_codeDst a_codeX a_codeY a_codeZ a_memSlot a_memInit mem a_latched vals a_savedMem a_savedLatched a_savedVals := by
          intro ho
          refine br_t rfl (And.intro hin ?_)
          rw [sf_cl (n := em_bd (em_ic a_clocks nd) n) (by omega), m3]
          refine nm_e (nm_r (nI_1 st) ?_)
          obtain ⟨q1, q2⟩ := ex_skips (x0 := nI k) hF hndc ho (m - n) n m (by omega) m2 (fun x a b => (show a_clocks (nd x) = a_clocks (nd n) from m4 x a b).trans ek) hE hM
          refine ih m (f + 1) (st + 1) pr vals mem m2 (by omega) (by omega) (by omega) q1 q2 (fun hmN hng => ?_)
          rcases em_ng hng with z | z
          · exfalso
            refine m5 hmN (z.trans (em_pv m1 m4))
          · exact Or.inl z
        refine br_f (sf_nle (b := 96) (by omega) (by omega)) (br_f (sf_nle (by omega) (by omega)) (And.intro hin ?_))
        rw [sf_cl (n := em_bd (em_ic a_clocks nd) n) (by omega), g1, g2']
        refine nm_e (nm_r (nI_1 _) (br_t rfl (And.intro hin (nm_e ?_))))
        refine sf_bb (by omega) (fun hb => off (fun z => hb ((ex_on_k (by omega)).mp z).1)) (fun hb => And.intro (sf_in (by omega) (by omega)) ?_)
        rw [sf_cl (n := k) (by omega)]
        by_cases hv : vals k = 0
        · exact br_t hv (off (fun z => ((ex_on_k (by omega)).mp z).2 hv))
        · refine br_f hv (br_f (by decide) (nm_r (nI_1 st) ?_))
          rw [← hag]
          refine xt_item hF hN48 h hndc hst2 hA h3 (by omega) hE hM (by rw [ek]; exact (ex_on_k (by omega)).mpr ⟨hb, hv⟩) (fun pr' vals' mem' hE' hM' hon' => ?_)
          exact next _ _ pr' vals' mem' (by omega) (by omega) hE' hM' hon'
      · obtain ⟨f, rfl⟩ : ∃ f, fuel = f + 1 := ⟨fuel - 1, by omega⟩
        have han := em_ad_n hg
        rw [← han]
        refine xt_item hF hN48 h hndc hst2 hA h3 (by omega) hE hM (hKn h hg) (fun pr' vals' mem' hE' hM' hon' => ?_)
        exact next _ _ pr' vals' mem' (by omega) (by omega) hE' hM' hon'
    · have : n = N := by omega
      subst this
      obtain ⟨f, rfl⟩ : ∃ f, fuel = f + 1 := ⟨fuel - 1, by omega⟩
      have hb := em_bd_le (em_ic a_clocks nd) n
      by_cases hs : (96 : Int32) ≤ nI st
      · exact br_t hs (Kp pr vals mem hE hM)
      · exact br_f hs (br_t (sf_le (Nat.le_refl _) (by omega)) (Kp pr vals mem hE hM))
end
end
section
/-! a tick's solution, and the history -/
def ex_Sol (c : Nat) (K A B C ck Lt m0 : Nat → Int32) (P : Nat → Bool) (V : Nat → Int32) : Prop := ∀ i, i < c → (P i = true ↔ ex_on P V (ck i)) ∧ V i = if P i = true then ex_F K A B C Lt m0 P V i else 0
def ex_V (pr : Int32) (vals : Nat → Int32) (i : Nat) : Int32 := if bt pr i = true then vals i else 0
theorem ex_V_t {pr : Int32} {vals : Nat → Int32} {i : Nat} (h : bt pr i = true) : ex_V pr vals i = vals i := if_pos h
theorem ex_onV {pr : Int32} {vals : Nat → Int32} {x : Int32} : ex_on (bt pr) (ex_V pr vals) x ↔ ex_on (bt pr) vals x := by
  unfold ex_on
  constructor
  · rintro (h | ⟨h1, h2⟩)
    · exact Or.inl h
    · rw [ex_V_t h1] at h2; exact Or.inr ⟨h1, h2⟩
  · rintro (h | ⟨h1, h2⟩)
    · exact Or.inl h
    · exact Or.inr ⟨h1, by rw [ex_V_t h1]; exact h2⟩
theorem ex_opd {c N i w : Nat} {K A B C ck Lt S m0 vals : Nat → Int32} {nd : Nat → Nat} {pr : Int32} (hF : ex_Fr c K A B C ck S nd) (hR : sf_RC c K A B C ck) (hN : c ≤ N) (hE : ex_E c K A B C ck Lt m0 nd N pr vals) (hi : i < c)
    (hw : sf_W w) (hr : sf_ro (K i) w = 1) (h5 : ¬ K i = 5) (hp : bt pr i = true) : bt pr (sf_tg A B C i w) = true := by
  have hc := hF.1
  have hND := hF.2.2.1
  have ht := (hND i hi w hw hr).1
  have hon := (ex_E_node hF hN hE hi).1.mp hp
  obtain ⟨_, r4, _, ro⟩ := hR i hi
  by_cases h4 : K i = 4
  · obtain ⟨e1, e2⟩ := r4 h4
    have t1 := (hND i hi 1 sf_W1 (by rw [h4]; decide)).1
    have t2 := (hND i hi 2 sf_W2 (by rw [h4]; decide)).1
    rw [e1, ex_on_k (by omega)] at hon
    have hb : bt pr (sf_tg A B C i 2) = true := hon.1
    rcases sf_w123 hw with rfl | rfl | rfl
    · have := (ex_E_node hF hN hE t2).1.mp hb
      rw [← e2] at this
      exact (ex_E_node hF hN hE t1).1.mpr this
    · exact hb
    · rw [h4] at hr; exact absurd hr (by decide)
  · have e := ro h4 h5 w hw hr
    rw [← e] at hon
    exact (ex_E_node hF hN hE ht).1.mpr hon
theorem ex_sol {c N : Nat} {K A B C ck Lt S m0 vals : Nat → Int32} {nd : Nat → Nat} {pr : Int32} (hF : ex_Fr c K A B C ck S nd) (hR : sf_RC c K A B C ck) (hN : c ≤ N) (hE : ex_E c K A B C ck Lt m0 nd N pr vals) :
    ex_Sol c K A B C ck Lt m0 (bt pr) (ex_V pr vals) := by
  intro i hi
  obtain ⟨h1, h2⟩ := ex_E_node hF hN hE hi
  refine ⟨h1.trans ex_onV.symm, ?_⟩
  by_cases hp : bt pr i = true
  · rw [ex_V_t hp, if_pos hp, h2 hp]
    refine ex_F_cg (hF.2.1 i hi) (fun w hw hr h2' => ⟨rfl, fun h5 => ?_, fun _ hb => (ex_V_t hb).symm⟩)
    exact (ex_V_t (ex_opd hF hR hN hE hi hw hr h5 hp)).symm
  · rw [if_neg hp]; exact if_neg hp
/-- presence of a delay's operand, of a hold's -/
theorem ex_pre {c N i : Nat} {K A B C ck Lt S m0 vals : Nat → Int32} {nd : Nat → Nat} {pr : Int32} (hF : ex_Fr c K A B C ck S nd) (hR : sf_RC c K A B C ck) (hN : c ≤ N) (hE : ex_E c K A B C ck Lt m0 nd N pr vals) (hi : i < c) (h2 : K i = 2) :
    bt pr i = true ↔ bt pr (sf_tg A B C i 1) = true := by
  have hr : sf_ro (K i) 1 = 1 := by rw [h2]; decide
  have e := (hR i hi).2.2.2 (by rw [h2]; decide) (by rw [h2]; decide) 1 sf_W1 hr
  rw [(ex_E_node hF hN hE hi).1, (ex_E_node hF hN hE (hF.2.2.1 i hi 1 sf_W1 hr).1).1, e]
theorem ex_cur {c N i : Nat} {K A B C ck Lt S m0 vals : Nat → Int32} {nd : Nat → Nat} {pr : Int32} (hF : ex_Fr c K A B C ck S nd) (hR : sf_RC c K A B C ck) (hN : c ≤ N) (hE : ex_E c K A B C ck Lt m0 nd N pr vals) (hi : i < c) (h5 : K i = 5)
    (hb : bt pr (sf_tg A B C i 1) = true) : bt pr i = true := by
  have hc := hF.1
  have hr : sf_ro (K i) 1 = 1 := by rw [h5]; decide
  obtain ⟨k, hk, e1, e2⟩ := (hR i hi).2.2.1 h5
  have := (ex_E_node hF hN hE (hF.2.2.1 i hi 1 sf_W1 hr).1).1.mp hb
  rw [e1, ex_on_k (by omega)] at this
  have := (ex_E_node hF hN hE hk).1.mp this.1
  rw [← e2] at this
  exact (ex_E_node hF hN hE hi).1.mpr this
/-! the history -/
def yt_lv (th vl : Nat → Int32) (a : Nat) (d : Int32) : Nat → Int32
  | 0 => d
  | t + 1 => if th (t * 24 + a) = 0 then yt_lv th vl a d t else vl (t * 24 + a)
def yt_sn (th : Nat → Int32) (a : Nat) : Nat → Int32
  | 0 => 0
  | t + 1 => if th (t * 24 + a) = 0 then yt_sn th a t else 1
def yt_m (K A B C th vl : Nat → Int32) (t i : Nat) : Int32 := if K i = 2 then yt_lv th vl (sf_tg A B C i 1) 0 t else if K i = 5 then yt_lv th vl (sf_tg A B C i 1) (B i) t else yt_sn th i t
def yt_ag (t : Nat) (th vl th' vl' : Nat → Int32) : Prop := ∀ j, j < t * 24 → th' j = th j ∧ vl' j = vl j
theorem yt_ag_le {t s : Nat} {th vl th' vl' : Nat → Int32} (h : yt_ag t th vl th' vl') (hs : s ≤ t) : yt_ag s th vl th' vl' := fun j hj => h j (by omega)
theorem yt_lv_cg {a : Nat} {d : Int32} {th vl th' vl' : Nat → Int32} (ha : a < 24) : ∀ t, yt_ag t th vl th' vl' → yt_lv th' vl' a d t = yt_lv th vl a d t
  | 0, _ => rfl
  | t + 1, h => by
    obtain ⟨h1, h2⟩ := h (t * 24 + a) (by omega)
    simp only [yt_lv]
    rw [h1, h2, yt_lv_cg ha t (yt_ag_le h (by omega))]
theorem yt_sn_cg {a : Nat} {th vl th' vl' : Nat → Int32} (ha : a < 24) : ∀ t, yt_ag t th vl th' vl' → yt_sn th' a t = yt_sn th a t
  | 0, _ => rfl
  | t + 1, h => by
    obtain ⟨h1, h2⟩ := h (t * 24 + a) (by omega)
    simp only [yt_sn]
    rw [h1, yt_sn_cg ha t (yt_ag_le h (by omega))]
theorem yt_m_cg {c i t : Nat} {K A B C th vl th' vl' : Nat → Int32} (hc : c ≤ 24) (hi : i < c) (hN : sf_ND c K A B C) (h : yt_ag t th vl th' vl') : yt_m K A B C th' vl' t i = yt_m K A B C th vl t i := by
  unfold yt_m
  by_cases h2 : K i = 2
  · rw [if_pos h2, if_pos h2, yt_lv_cg (by have := (hN i hi 1 sf_W1 (by rw [h2]; decide)).1; omega) t h]
  · rw [if_neg h2, if_neg h2]
    by_cases h5 : K i = 5
    · rw [if_pos h5, if_pos h5, yt_lv_cg (by have := (hN i hi 1 sf_W1 (by rw [h5]; decide)).1; omega) t h]
    · rw [if_neg h5, if_neg h5, yt_sn_cg (by omega) t h]
theorem yt_sn_01 (th : Nat → Int32) (a : Nat) : ∀ t, yt_sn th a t = 0 ∨ yt_sn th a t = 1
  | 0 => Or.inl rfl
  | t + 1 => by
    simp only [yt_sn]
    by_cases h : th (t * 24 + a) = 0
    · rw [if_pos h]; exact yt_sn_01 th a t
    · rw [if_neg h]; exact Or.inr rfl
def yd_s (O th vl : Nat → Int32) (t i : Nat) (d : Int32) : Int32 := if O i = 0 then d else if th (t * 24 + i) = 0 then 31 * d + 1 else (31 * d + 2) * 31 + vl (t * 24 + i)
def yd_i (O th vl : Nat → Int32) (t : Nat) (d : Int32) : Nat → Int32
  | 0 => d
  | i + 1 => yd_s O th vl t i (yd_i O th vl t d i)
def yd_t (O th vl : Nat → Int32) (c : Nat) : Nat → Int32
  | 0 => 0
  | t + 1 => yd_i O th vl t (yd_t O th vl c t) c
theorem yd_i_cg {O th vl th' vl' : Nat → Int32} {t : Nat} {d : Int32} (h : yt_ag (t + 1) th vl th' vl') : ∀ i, i ≤ 24 → yd_i O th' vl' t d i = yd_i O th vl t d i
  | 0, _ => rfl
  | i + 1, hi => by
    obtain ⟨h1, h2⟩ := h (t * 24 + i) (by omega)
    simp only [yd_i]
    rw [yd_i_cg h i (by omega)]
    unfold yd_s
    rw [h1, h2]
theorem yd_t_cg {O th vl th' vl' : Nat → Int32} {c : Nat} (hc : c ≤ 24) : ∀ t, yt_ag t th vl th' vl' → yd_t O th' vl' c t = yd_t O th vl c t
  | 0, _ => rfl
  | t + 1, h => by
    simp only [yd_t]
    rw [yd_t_cg hc t (yt_ag_le h (by omega)), yd_i_cg h c hc]
/-- the run states agree after t ticks -/
def rr_R (c hor : Nat) (K A B C S O : Nat → Int32) (t : Nat) (pr dig : Int32) (lat mem vals ylat th vl : Nat → Int32) : Prop :=
  t ≤ hor ∧ (∀ i, i < c → em_mk (K i) → mem (em_sl S i) = yt_m K A B C th vl t i) ∧
  (0 < t → ∀ i, i < c → (bt pr i = true ↔ ¬ th ((t - 1) * 24 + i) = 0) ∧ (bt pr i = true → vals i = vl ((t - 1) * 24 + i))) ∧
  dig = yd_t O th vl c t ∧ (∀ j, j < 24 → ylat j = lat j) ∧ (∀ j, j < t * 24 → th j = 0 ∨ th j = 1)
theorem rr_cg {c hor t : Nat} {K A B C S O lat mem vals ylat th vl lat' mem' vals' ylat' th' vl' : Nat → Int32} {pr dig : Int32} (hc : c ≤ 24) (hN : sf_ND c K A B C) (hS : ex_Sl c K S) (hth : yt_ag t th vl th' vl')
    (hm : ∀ j, j < 24 → mem' j = mem j ∧ vals' j = vals j) (hl : ∀ j, j < 24 → ylat' j = lat' j) (h : rr_R c hor K A B C S O t pr dig lat mem vals ylat th vl) : rr_R c hor K A B C S O t pr dig lat' mem' vals' ylat' th' vl' := by
  obtain ⟨h1, h2, h3, h4, h5, h6⟩ := h
  refine ⟨h1, fun i hi hk => ?_, fun ht i hi => ?_, ?_, hl, fun j hj => ?_⟩
  · rw [(hm _ (hS i hi hk).2.1).1, yt_m_cg hc hi hN hth]; exact h2 i hi hk
  · obtain ⟨a, b⟩ := hth ((t - 1) * 24 + i) (by omega)
    rw [a, b, (hm i (by omega)).2]; exact h3 ht i hi
  · rw [yd_t_cg hc t hth]; exact h4
  · rw [(hth j hj).1]; exact h6 j hj
/-- one more tick -/
theorem rr_step {c hor N t : Nat} {K A B C ck S O lat mem vals mem' vals' ylat th vl th' vl' : Nat → Int32} {nd : Nat → Nat} {pr pr' dig dig' : Int32} (hF : ex_Fr c K A B C ck S nd) (hR : sf_RC c K A B C ck) (hcN : c ≤ N) (ht : t < hor)
    (hst : ∀ z, z < c → K z = 2 → ∃ n, c ≤ n ∧ n < N ∧ nd n = z)
    (h : rr_R c hor K A B C S O t pr dig lat mem vals ylat th vl)
    (hE : ex_E c K A B C ck lat (yt_m K A B C th vl t) nd N pr' vals') (hM : ex_M c K A B C S (yt_m K A B C th vl t) nd N pr' vals' mem')
    (hag : yt_ag t th vl th' vl') (hrow : ∀ i, i < c → th' (t * 24 + i) = (if bt pr' i = true then 1 else 0) ∧ vl' (t * 24 + i) = ex_V pr' vals' i) (hb : ∀ i, i < 24 → th' (t * 24 + i) = 0 ∨ th' (t * 24 + i) = 1)
    (hd : dig' = yd_i O th' vl' t dig c) : rr_R c hor K A B C S O (t + 1) pr' dig' lat mem' vals' ylat th' vl' := by
  obtain ⟨h1, h2, h3, h4, h5, h6⟩ := h
  have hc := hF.1
  have hND := hF.2.2.1
  have hz : ∀ i, i < c → (th' (t * 24 + i) = 0 ↔ ¬ bt pr' i = true) := by
    intro i hi
    rw [(hrow i hi).1]
    by_cases e : bt pr' i = true
    · rw [if_pos e]; exact ⟨fun z => absurd z (by decide), fun z => absurd e z⟩
    · rw [if_neg e]; exact ⟨fun _ => e, fun _ => rfl⟩
  refine ⟨by omega, fun i hi hk => ?_, fun _ i hi => ?_, ?_, h5, fun j hj => ?_⟩
  · obtain ⟨m3, m5, m2⟩ := hM i hi
    unfold yt_m
    rcases hk with e | e | e
    · have t1 := (hND i hi 1 sf_W1 (by rw [e]; decide)).1
      rw [if_pos e, (m2 e).1 (hst i hi e)]
      simp only [yt_lv]
      by_cases hp : bt pr' i = true
      · have ha := (ex_pre hF hR hcN hE hi e).mp hp
        rw [if_pos hp, if_neg (fun z => (hz _ t1).mp z ha), (hrow _ t1).2, ex_V_t ha]
      · have ha : ¬ bt pr' (sf_tg A B C i 1) = true := fun z => hp ((ex_pre hF hR hcN hE hi e).mpr z)
        rw [if_neg hp, if_pos ((hz _ t1).mpr ha)]
        have := yt_m_cg (i := i) hc hi hND hag
        unfold yt_m at this ⊢
        rw [if_pos e] at this ⊢
        rw [if_pos e] at this
        exact this.symm
    · rw [if_neg (by rw [e]; decide), if_neg (by rw [e]; decide), m3 e]
      simp only [yt_sn]
      by_cases hp : bt pr' i = true
      · rw [if_pos hp, if_neg (fun z => (hz i hi).mp z hp)]
      · rw [if_neg hp, if_pos ((hz i hi).mpr hp)]
        have := yt_m_cg (i := i) hc hi hND hag
        unfold yt_m at this ⊢
        rw [if_neg (by rw [e]; decide), if_neg (by rw [e]; decide)] at this ⊢
        rw [if_neg (by rw [e]; decide), if_neg (by rw [e]; decide)] at this
        exact this.symm
    · have t1 := (hND i hi 1 sf_W1 (by rw [e]; decide)).1
      rw [if_neg (by rw [e]; decide), if_pos e, m5 e]
      simp only [yt_lv]
      by_cases ha : bt pr' (sf_tg A B C i 1) = true
      · have hp := ex_cur hF hR hcN hE hi e ha
        rw [if_pos ⟨hp, ha⟩, if_neg (fun z => (hz _ t1).mp z ha), (hrow _ t1).2, ex_V_t ha]
      · rw [if_neg (fun z => ha z.2), if_pos ((hz _ t1).mpr ha)]
        have := yt_m_cg (i := i) hc hi hND hag
        unfold yt_m at this ⊢
        rw [if_neg (by rw [e]; decide), if_pos e] at this ⊢
        rw [if_neg (by rw [e]; decide), if_pos e] at this
        exact this.symm
  · have e : t + 1 - 1 = t := by omega
    rw [e]
    refine ⟨?_, fun hp => ?_⟩
    · rw [hz i hi]
      exact ⟨fun z y => y z, fun z => Classical.byContradiction fun y => z y⟩
    · rw [(hrow i hi).2, ex_V_t hp]
  · rw [hd]
    simp only [yd_t]
    rw [yd_t_cg hc t hag, h4]
  · rcases Nat.lt_or_ge j (t * 24) with z | z
    · rw [(hag j z).1]; exact h6 j z
    · have := hb (j - t * 24) (by omega)
      rw [show t * 24 + (j - t * 24) = j by omega] at this
      exact this
end
section
/-! the reference's tick -/
def yt_P (th : Nat → Int32) (t k : Nat) : Bool := !(decide (th (t * 24 + k) = 0))
theorem yt_P_i {th : Nat → Int32} {t k : Nat} : yt_P th t k = true ↔ ¬ th (t * 24 + k) = 0 := by unfold yt_P; simp
def yt_V (vl : Nat → Int32) (t k : Nat) : Int32 := vl (t * 24 + k)
theorem yk_m1 (s : Nat) : nI s + (-1) = yk_k s := by
  cases s with
  | zero => rfl
  | succ s => rw [pk_m1, yk_s]
theorem yk_p1 (s : Nat) : nI s - 1 = yk_k s := by
  cases s with
  | zero => rfl
  | succ s => rw [nI_pred, yk_s]
/-- operands that are nodes or unused -/
theorem sf_tgz {c i w : Nat} {K A B C : Nat → Int32} (hi : i < c) (hP : sf_Pg c 24 K A B C) (hN : sf_ND c K A B C) (hw : sf_W w) (hr : ¬ sf_ro (K i) w = 2) (hr' : sf_ro (K i) w = 0 ∨ sf_ro (K i) w = 1) :
    sf_od A B C i w = nI (sf_tg A B C i w) ∧ sf_tg A B C i w < c := by
  rcases hr' with e | e
  · have := ((hP i hi).2 w hw).2 e
    unfold sf_tg
    rw [this]
    exact ⟨rfl, by show 0 < c; omega⟩
  · exact ⟨(hN i hi w hw e).2, (hN i hi w hw e).1⟩
section
variable {g_capacity g_horizon g_count g_verdict g_errorNode g_ticks g_saved g_savedTicks : Int32} {b_kind b_op b_out b_fact b_clock b_reach b_late b_depth b_latched b_there b_val b_savedLatched b_savedThere b_savedVal : Nat → Int32} {A B C : Nat → Int32} {c : Nat}
theorem yt_last_4 {a t : Nat} {post : Int32 → Prop} (ha : a < 24) (ht : t ≤ 250)
    (K0 : (∀ d, yt_lv b_there b_val a d t = d) → yt_sn b_there a t = 0 → post (-1))
    (K1 : ∀ s, s < t → (∀ d, yt_lv b_there b_val a d t = b_val (s * 24 + a)) → yt_sn b_there a t = 1 → post (nI s)) :
    ∀ n s, s ≤ t → s < n → (∀ d, yt_lv b_there b_val a d t = yt_lv b_there b_val a d s) → yt_sn b_there a t = yt_sn b_there a s → wY_lastBefore_4 post (nI a) g_capacity g_horizon (nI c) g_verdict g_errorNode g_ticks g_saved g_savedTicks b_kind b_op b_out b_fact b_clock b_reach b_late b_depth b_latched b_there b_val b_savedLatched b_savedThere b_savedVal n (yk_k s) := by
  intro n
  induction n with
  | zero => intro s _ hn; omega
  | succ n ih =>
    intro s hs hn h1 h2
    cases s with
    | zero => exact br_t (by decide) (K0 h1 h2)
    | succ s =>
      rw [yk_s]
      refine br_f (sf_npos (by omega)) ?_
      rw [sf_i24, sf_cl (by omega)]
      refine And.intro (sf_in (by omega) (by omega)) ?_
      by_cases e : b_there (s * 24 + a) = 0
      · refine br_t e (nm_r (yk_m1 s) (ih s (by omega) (by omega) (fun d => ?_) ?_))
        · rw [h1 d]; simp only [yt_lv]; rw [if_pos e]
        · rw [h2]; simp only [yt_sn]; rw [if_pos e]
      · refine br_f e (K1 s (by omega) (fun d => ?_) ?_)
        · rw [h1 d]; simp only [yt_lv]; rw [if_neg e]
        · rw [h2]; simp only [yt_sn]; rw [if_neg e]
theorem yt_last {a t : Nat} {post : Int32 → Prop} (ha : a < 24) (ht : t ≤ 250)
    (K0 : (∀ d, yt_lv b_there b_val a d t = d) → yt_sn b_there a t = 0 → post (-1))
    (K1 : ∀ s, s < t → (∀ d, yt_lv b_there b_val a d t = b_val (s * 24 + a)) → yt_sn b_there a t = 1 → post (nI s)) : wpY_lastBefore post (g_capacity, g_horizon, nI c, g_verdict, g_errorNode, g_ticks, g_saved, g_savedTicks, b_kind, b_op, b_out, b_fact, b_clock, b_reach, b_late, b_depth, b_latched, b_there, b_val, b_savedLatched, b_savedThere, b_savedVal) (nI a) (nI t) := by
  unfold wpY_lastBefore
  exact nm_r (yk_p1 t) (Exists.intro (t + 1) (yt_last_4 ha ht K0 K1 (t + 1) t (Nat.le_refl _) (by omega) (fun _ => rfl) rfl))
theorem yt_93 {i t : Nat} {m0 : Nat → Int32} {post : Int32 → Prop} (hc : c ≤ 24) (hi : i < c) (ht : t ≤ 250) (hN : sf_ND c b_kind A B C) (hk : b_kind i = 2 ∨ b_kind i = 5) (hm : yt_m b_kind A B C b_there b_val t i = m0 i)
    (Kp : post (m0 i)) : wY_valueAt_93 post (nI t) (b_kind i) (nI (sf_tg A B C i 1)) (B i) g_capacity g_horizon (nI c) g_verdict g_errorNode g_ticks g_saved g_savedTicks b_kind b_op b_out b_fact b_clock b_reach b_late b_depth b_latched b_there b_val b_savedLatched b_savedThere b_savedVal := by
  have t1 := (hN i hi 1 sf_W1 (by rcases hk with e | e <;> rw [e] <;> decide)).1
  unfold wY_valueAt_93
  refine yt_last (by omega) ht (fun h1 _ => ?_) (fun s hs h1 _ => ?_)
  · refine br_t sf_m1lt ?_
    rcases hk with e | e
    · refine br_t e ?_
      unfold yt_m at hm
      rw [if_pos e, h1 0] at hm
      rw [hm]; exact Kp
    · refine br_f (by rw [e]; decide) ?_
      unfold yt_m at hm
      rw [if_neg (by rw [e]; decide), if_pos e, h1] at hm
      rw [hm]; exact Kp
  · refine br_f (sf_npos (by omega)) ?_
    rw [sf_i24, sf_cl (by omega)]
    refine And.intro (sf_in (by omega) (by omega)) ?_
    rcases hk with e | e
    · unfold yt_m at hm
      rw [if_pos e, h1 0] at hm
      rw [hm]; exact Kp
    · unfold yt_m at hm
      rw [if_neg (by rw [e]; decide), if_pos e, h1] at hm
      rw [hm]; exact Kp
theorem yt_v3 {i t : Nat} {Lt m0 : Nat → Int32} {post : Int32 → Prop} (hc : c ≤ 24) (hi : i < c) (ht : t < 250) (hP : sf_Pg c 24 b_kind A B C) (hN : sf_ND c b_kind A B C) (hO : sf_Op b_op A B C) (e : b_kind i = 3) (hm : yt_m b_kind A B C b_there b_val t i = m0 i)
    (Kp : post (ex_F b_kind A B C Lt m0 (yt_P b_there t) (yt_V b_val t) i)) : wY_valueAt_83 post (nI i) (nI t) (b_kind i) (A i) (B i) (nI (t * 24)) g_capacity g_horizon (nI c) g_verdict g_errorNode g_ticks g_saved g_savedTicks b_kind b_op b_out b_fact b_clock b_reach b_late b_depth b_latched b_there b_val b_savedLatched b_savedThere b_savedVal := by
  obtain ⟨q1, t1⟩ := sf_tgz hi hP hN sf_W1 (by rw [e]; decide) (by rw [e]; decide)
  obtain ⟨q2, t2⟩ := sf_tgz hi hP hN sf_W2 (by rw [e]; decide) (by rw [e]; decide)
  obtain ⟨q3, t3⟩ := sf_tgz hi hP hN sf_W3 (by rw [e]; decide) (by rw [e]; decide)
  rw [sf_od1] at q1; rw [sf_od2] at q2; rw [sf_od3] at q3
  unfold wY_valueAt_83
  rw [sf_i32, sf_cl (n := i * 3 + 2) (by omega), (hO i (by omega)).2.2, q1, q2, q3, nI_add, nI_add, nI_add, sf_cl (n := t * 24 + sf_tg A B C i 1) (by omega), sf_cl (n := t * 24 + sf_tg A B C i 2) (by omega), sf_cl (n := t * 24 + sf_tg A B C i 3) (by omega)]
  refine br_f (by rw [e]; decide) (br_f (by rw [e]; decide) (And.intro (sf_in (by omega) (by omega)) (nm_e (And.intro (sf_in (by omega) (by omega)) (nm_e (And.intro (sf_in (by omega) (by omega)) (And.intro (sf_in (by omega) (by omega)) (nm_e ?_))))))))
  rw [ex_F3 e] at Kp
  unfold yt_V at Kp
  refine br_t e (?_)
  unfold yt_m at hm
  rw [if_neg (by rw [e]; decide), if_neg (by rw [e]; decide)] at hm
  refine yt_last (by omega) (by omega) (fun _ h2 => ?_) (fun s hs _ h2 => ?_)
  · rw [← hm, h2, if_pos rfl] at Kp; exact br_f (by decide) Kp
  · rw [← hm, h2, if_neg (by decide)] at Kp; exact br_t (nI_pos' (by omega)) Kp
theorem yt_v4 {i t : Nat} {Lt m0 : Nat → Int32} {post : Int32 → Prop} (hc : c ≤ 24) (hi : i < c) (ht : t < 250) (hP : sf_Pg c 24 b_kind A B C) (hN : sf_ND c b_kind A B C) (hO : sf_Op b_op A B C) (e : b_kind i = 4) (hm : yt_m b_kind A B C b_there b_val t i = m0 i)
    (Kp : post (ex_F b_kind A B C Lt m0 (yt_P b_there t) (yt_V b_val t) i)) : wY_valueAt_83 post (nI i) (nI t) (b_kind i) (A i) (B i) (nI (t * 24)) g_capacity g_horizon (nI c) g_verdict g_errorNode g_ticks g_saved g_savedTicks b_kind b_op b_out b_fact b_clock b_reach b_late b_depth b_latched b_there b_val b_savedLatched b_savedThere b_savedVal := by
  obtain ⟨q1, t1⟩ := sf_tgz hi hP hN sf_W1 (by rw [e]; decide) (by rw [e]; decide)
  obtain ⟨q2, t2⟩ := sf_tgz hi hP hN sf_W2 (by rw [e]; decide) (by rw [e]; decide)
  obtain ⟨q3, t3⟩ := sf_tgz hi hP hN sf_W3 (by rw [e]; decide) (by rw [e]; decide)
  rw [sf_od1] at q1; rw [sf_od2] at q2; rw [sf_od3] at q3
  unfold wY_valueAt_83
  rw [sf_i32, sf_cl (n := i * 3 + 2) (by omega), (hO i (by omega)).2.2, q1, q2, q3, nI_add, nI_add, nI_add, sf_cl (n := t * 24 + sf_tg A B C i 1) (by omega), sf_cl (n := t * 24 + sf_tg A B C i 2) (by omega), sf_cl (n := t * 24 + sf_tg A B C i 3) (by omega)]
  refine br_f (by rw [e]; decide) (br_f (by rw [e]; decide) (And.intro (sf_in (by omega) (by omega)) (nm_e (And.intro (sf_in (by omega) (by omega)) (nm_e (And.intro (sf_in (by omega) (by omega)) (And.intro (sf_in (by omega) (by omega)) (nm_e ?_))))))))
  rw [ex_F4 e] at Kp
  unfold yt_V at Kp
  refine br_f (by rw [e]; decide) (br_t e (?_))
  exact Kp
theorem yt_v6 {i t : Nat} {Lt m0 : Nat → Int32} {post : Int32 → Prop} (hc : c ≤ 24) (hi : i < c) (ht : t < 250) (hP : sf_Pg c 24 b_kind A B C) (hN : sf_ND c b_kind A B C) (hO : sf_Op b_op A B C) (e : b_kind i = 6) (hm : yt_m b_kind A B C b_there b_val t i = m0 i)
    (Kp : post (ex_F b_kind A B C Lt m0 (yt_P b_there t) (yt_V b_val t) i)) : wY_valueAt_83 post (nI i) (nI t) (b_kind i) (A i) (B i) (nI (t * 24)) g_capacity g_horizon (nI c) g_verdict g_errorNode g_ticks g_saved g_savedTicks b_kind b_op b_out b_fact b_clock b_reach b_late b_depth b_latched b_there b_val b_savedLatched b_savedThere b_savedVal := by
  obtain ⟨q1, t1⟩ := sf_tgz hi hP hN sf_W1 (by rw [e]; decide) (by rw [e]; decide)
  obtain ⟨q2, t2⟩ := sf_tgz hi hP hN sf_W2 (by rw [e]; decide) (by rw [e]; decide)
  obtain ⟨q3, t3⟩ := sf_tgz hi hP hN sf_W3 (by rw [e]; decide) (by rw [e]; decide)
  rw [sf_od1] at q1; rw [sf_od2] at q2; rw [sf_od3] at q3
  unfold wY_valueAt_83
  rw [sf_i32, sf_cl (n := i * 3 + 2) (by omega), (hO i (by omega)).2.2, q1, q2, q3, nI_add, nI_add, nI_add, sf_cl (n := t * 24 + sf_tg A B C i 1) (by omega), sf_cl (n := t * 24 + sf_tg A B C i 2) (by omega), sf_cl (n := t * 24 + sf_tg A B C i 3) (by omega)]
  refine br_f (by rw [e]; decide) (br_f (by rw [e]; decide) (And.intro (sf_in (by omega) (by omega)) (nm_e (And.intro (sf_in (by omega) (by omega)) (nm_e (And.intro (sf_in (by omega) (by omega)) (And.intro (sf_in (by omega) (by omega)) (nm_e ?_))))))))
  rw [ex_F6 e] at Kp
  unfold yt_V at Kp
  refine br_f (by rw [e]; decide) (br_f (by rw [e]; decide) (br_t e (?_)))
  exact Kp
theorem yt_v7 {i t : Nat} {Lt m0 : Nat → Int32} {post : Int32 → Prop} (hc : c ≤ 24) (hi : i < c) (ht : t < 250) (hP : sf_Pg c 24 b_kind A B C) (hN : sf_ND c b_kind A B C) (hO : sf_Op b_op A B C) (e : b_kind i = 7) (hm : yt_m b_kind A B C b_there b_val t i = m0 i)
    (Kp : post (ex_F b_kind A B C Lt m0 (yt_P b_there t) (yt_V b_val t) i)) : wY_valueAt_83 post (nI i) (nI t) (b_kind i) (A i) (B i) (nI (t * 24)) g_capacity g_horizon (nI c) g_verdict g_errorNode g_ticks g_saved g_savedTicks b_kind b_op b_out b_fact b_clock b_reach b_late b_depth b_latched b_there b_val b_savedLatched b_savedThere b_savedVal := by
  obtain ⟨q1, t1⟩ := sf_tgz hi hP hN sf_W1 (by rw [e]; decide) (by rw [e]; decide)
  obtain ⟨q2, t2⟩ := sf_tgz hi hP hN sf_W2 (by rw [e]; decide) (by rw [e]; decide)
  obtain ⟨q3, t3⟩ := sf_tgz hi hP hN sf_W3 (by rw [e]; decide) (by rw [e]; decide)
  rw [sf_od1] at q1; rw [sf_od2] at q2; rw [sf_od3] at q3
  unfold wY_valueAt_83
  rw [sf_i32, sf_cl (n := i * 3 + 2) (by omega), (hO i (by omega)).2.2, q1, q2, q3, nI_add, nI_add, nI_add, sf_cl (n := t * 24 + sf_tg A B C i 1) (by omega), sf_cl (n := t * 24 + sf_tg A B C i 2) (by omega), sf_cl (n := t * 24 + sf_tg A B C i 3) (by omega)]
  refine br_f (by rw [e]; decide) (br_f (by rw [e]; decide) (And.intro (sf_in (by omega) (by omega)) (nm_e (And.intro (sf_in (by omega) (by omega)) (nm_e (And.intro (sf_in (by omega) (by omega)) (And.intro (sf_in (by omega) (by omega)) (nm_e ?_))))))))
  rw [ex_F7 e] at Kp
  unfold yt_V at Kp
  refine br_f (by rw [e]; decide) (br_f (by rw [e]; decide) (br_f (by rw [e]; decide) (br_t e (?_))))
  exact Kp
theorem yt_v8 {i t : Nat} {Lt m0 : Nat → Int32} {post : Int32 → Prop} (hc : c ≤ 24) (hi : i < c) (ht : t < 250) (hP : sf_Pg c 24 b_kind A B C) (hN : sf_ND c b_kind A B C) (hO : sf_Op b_op A B C) (e : b_kind i = 8) (hm : yt_m b_kind A B C b_there b_val t i = m0 i)
    (Kp : post (ex_F b_kind A B C Lt m0 (yt_P b_there t) (yt_V b_val t) i)) : wY_valueAt_83 post (nI i) (nI t) (b_kind i) (A i) (B i) (nI (t * 24)) g_capacity g_horizon (nI c) g_verdict g_errorNode g_ticks g_saved g_savedTicks b_kind b_op b_out b_fact b_clock b_reach b_late b_depth b_latched b_there b_val b_savedLatched b_savedThere b_savedVal := by
  obtain ⟨q1, t1⟩ := sf_tgz hi hP hN sf_W1 (by rw [e]; decide) (by rw [e]; decide)
  obtain ⟨q2, t2⟩ := sf_tgz hi hP hN sf_W2 (by rw [e]; decide) (by rw [e]; decide)
  obtain ⟨q3, t3⟩ := sf_tgz hi hP hN sf_W3 (by rw [e]; decide) (by rw [e]; decide)
  rw [sf_od1] at q1; rw [sf_od2] at q2; rw [sf_od3] at q3
  unfold wY_valueAt_83
  rw [sf_i32, sf_cl (n := i * 3 + 2) (by omega), (hO i (by omega)).2.2, q1, q2, q3, nI_add, nI_add, nI_add, sf_cl (n := t * 24 + sf_tg A B C i 1) (by omega), sf_cl (n := t * 24 + sf_tg A B C i 2) (by omega), sf_cl (n := t * 24 + sf_tg A B C i 3) (by omega)]
  refine br_f (by rw [e]; decide) (br_f (by rw [e]; decide) (And.intro (sf_in (by omega) (by omega)) (nm_e (And.intro (sf_in (by omega) (by omega)) (nm_e (And.intro (sf_in (by omega) (by omega)) (And.intro (sf_in (by omega) (by omega)) (nm_e ?_))))))))
  rw [ex_F8 e] at Kp
  unfold yt_V at Kp
  refine br_f (by rw [e]; decide) (br_f (by rw [e]; decide) (br_f (by rw [e]; decide) (br_f (by rw [e]; decide) (br_t e (?_)))))
  exact Kp
theorem yt_v9 {i t : Nat} {Lt m0 : Nat → Int32} {post : Int32 → Prop} (hc : c ≤ 24) (hi : i < c) (ht : t < 250) (hP : sf_Pg c 24 b_kind A B C) (hN : sf_ND c b_kind A B C) (hO : sf_Op b_op A B C) (e : b_kind i = 9) (hm : yt_m b_kind A B C b_there b_val t i = m0 i)
    (Kp : post (ex_F b_kind A B C Lt m0 (yt_P b_there t) (yt_V b_val t) i)) : wY_valueAt_83 post (nI i) (nI t) (b_kind i) (A i) (B i) (nI (t * 24)) g_capacity g_horizon (nI c) g_verdict g_errorNode g_ticks g_saved g_savedTicks b_kind b_op b_out b_fact b_clock b_reach b_late b_depth b_latched b_there b_val b_savedLatched b_savedThere b_savedVal := by
  obtain ⟨q1, t1⟩ := sf_tgz hi hP hN sf_W1 (by rw [e]; decide) (by rw [e]; decide)
  obtain ⟨q2, t2⟩ := sf_tgz hi hP hN sf_W2 (by rw [e]; decide) (by rw [e]; decide)
  obtain ⟨q3, t3⟩ := sf_tgz hi hP hN sf_W3 (by rw [e]; decide) (by rw [e]; decide)
  rw [sf_od1] at q1; rw [sf_od2] at q2; rw [sf_od3] at q3
  unfold wY_valueAt_83
  rw [sf_i32, sf_cl (n := i * 3 + 2) (by omega), (hO i (by omega)).2.2, q1, q2, q3, nI_add, nI_add, nI_add, sf_cl (n := t * 24 + sf_tg A B C i 1) (by omega), sf_cl (n := t * 24 + sf_tg A B C i 2) (by omega), sf_cl (n := t * 24 + sf_tg A B C i 3) (by omega)]
  refine br_f (by rw [e]; decide) (br_f (by rw [e]; decide) (And.intro (sf_in (by omega) (by omega)) (nm_e (And.intro (sf_in (by omega) (by omega)) (nm_e (And.intro (sf_in (by omega) (by omega)) (And.intro (sf_in (by omega) (by omega)) (nm_e ?_))))))))
  rw [ex_F9 e] at Kp
  unfold yt_V at Kp
  refine br_f (by rw [e]; decide) (br_f (by rw [e]; decide) (br_f (by rw [e]; decide) (br_f (by rw [e]; decide) (br_f (by rw [e]; decide) (br_t e (?_))))))
  by_cases h0 : b_val (t * 24 + sf_tg A B C i 2) = 0
  · rw [if_pos h0] at Kp; exact br_t h0 Kp
  · rw [if_neg h0] at Kp; exact br_f h0 (And.intro h0 Kp)
theorem yt_v10 {i t : Nat} {Lt m0 : Nat → Int32} {post : Int32 → Prop} (hc : c ≤ 24) (hi : i < c) (ht : t < 250) (hP : sf_Pg c 24 b_kind A B C) (hN : sf_ND c b_kind A B C) (hO : sf_Op b_op A B C) (e : b_kind i = 10) (hm : yt_m b_kind A B C b_there b_val t i = m0 i)
    (Kp : post (ex_F b_kind A B C Lt m0 (yt_P b_there t) (yt_V b_val t) i)) : wY_valueAt_83 post (nI i) (nI t) (b_kind i) (A i) (B i) (nI (t * 24)) g_capacity g_horizon (nI c) g_verdict g_errorNode g_ticks g_saved g_savedTicks b_kind b_op b_out b_fact b_clock b_reach b_late b_depth b_latched b_there b_val b_savedLatched b_savedThere b_savedVal := by
  obtain ⟨q1, t1⟩ := sf_tgz hi hP hN sf_W1 (by rw [e]; decide) (by rw [e]; decide)
  obtain ⟨q2, t2⟩ := sf_tgz hi hP hN sf_W2 (by rw [e]; decide) (by rw [e]; decide)
  obtain ⟨q3, t3⟩ := sf_tgz hi hP hN sf_W3 (by rw [e]; decide) (by rw [e]; decide)
  rw [sf_od1] at q1; rw [sf_od2] at q2; rw [sf_od3] at q3
  unfold wY_valueAt_83
  rw [sf_i32, sf_cl (n := i * 3 + 2) (by omega), (hO i (by omega)).2.2, q1, q2, q3, nI_add, nI_add, nI_add, sf_cl (n := t * 24 + sf_tg A B C i 1) (by omega), sf_cl (n := t * 24 + sf_tg A B C i 2) (by omega), sf_cl (n := t * 24 + sf_tg A B C i 3) (by omega)]
  refine br_f (by rw [e]; decide) (br_f (by rw [e]; decide) (And.intro (sf_in (by omega) (by omega)) (nm_e (And.intro (sf_in (by omega) (by omega)) (nm_e (And.intro (sf_in (by omega) (by omega)) (And.intro (sf_in (by omega) (by omega)) (nm_e ?_))))))))
  rw [ex_F10 e] at Kp
  unfold yt_V at Kp
  refine br_f (by rw [e]; decide) (br_f (by rw [e]; decide) (br_f (by rw [e]; decide) (br_f (by rw [e]; decide) (br_f (by rw [e]; decide) (br_f (by rw [e]; decide) (br_t e (?_)))))))
  by_cases h0 : b_val (t * 24 + sf_tg A B C i 2) ≤ b_val (t * 24 + sf_tg A B C i 1)
  · rw [if_pos h0] at Kp; exact br_t h0 Kp
  · rw [if_neg h0] at Kp; exact br_f h0 Kp
theorem yt_v11 {i t : Nat} {Lt m0 : Nat → Int32} {post : Int32 → Prop} (hc : c ≤ 24) (hi : i < c) (ht : t < 250) (hP : sf_Pg c 24 b_kind A B C) (hN : sf_ND c b_kind A B C) (hO : sf_Op b_op A B C) (e : b_kind i = 11) (hm : yt_m b_kind A B C b_there b_val t i = m0 i)
    (Kp : post (ex_F b_kind A B C Lt m0 (yt_P b_there t) (yt_V b_val t) i)) : wY_valueAt_83 post (nI i) (nI t) (b_kind i) (A i) (B i) (nI (t * 24)) g_capacity g_horizon (nI c) g_verdict g_errorNode g_ticks g_saved g_savedTicks b_kind b_op b_out b_fact b_clock b_reach b_late b_depth b_latched b_there b_val b_savedLatched b_savedThere b_savedVal := by
  obtain ⟨q1, t1⟩ := sf_tgz hi hP hN sf_W1 (by rw [e]; decide) (by rw [e]; decide)
  obtain ⟨q2, t2⟩ := sf_tgz hi hP hN sf_W2 (by rw [e]; decide) (by rw [e]; decide)
  obtain ⟨q3, t3⟩ := sf_tgz hi hP hN sf_W3 (by rw [e]; decide) (by rw [e]; decide)
  rw [sf_od1] at q1; rw [sf_od2] at q2; rw [sf_od3] at q3
  unfold wY_valueAt_83
  rw [sf_i32, sf_cl (n := i * 3 + 2) (by omega), (hO i (by omega)).2.2, q1, q2, q3, nI_add, nI_add, nI_add, sf_cl (n := t * 24 + sf_tg A B C i 1) (by omega), sf_cl (n := t * 24 + sf_tg A B C i 2) (by omega), sf_cl (n := t * 24 + sf_tg A B C i 3) (by omega)]
  refine br_f (by rw [e]; decide) (br_f (by rw [e]; decide) (And.intro (sf_in (by omega) (by omega)) (nm_e (And.intro (sf_in (by omega) (by omega)) (nm_e (And.intro (sf_in (by omega) (by omega)) (And.intro (sf_in (by omega) (by omega)) (nm_e ?_))))))))
  rw [ex_F11 e] at Kp
  unfold yt_V at Kp
  refine br_f (by rw [e]; decide) (br_f (by rw [e]; decide) (br_f (by rw [e]; decide) (br_f (by rw [e]; decide) (br_f (by rw [e]; decide) (br_f (by rw [e]; decide) (br_f (by rw [e]; decide) (br_t e (?_))))))))
  by_cases h0 : b_val (t * 24 + sf_tg A B C i 1) = b_val (t * 24 + sf_tg A B C i 2)
  · rw [if_pos h0] at Kp; exact br_t h0 Kp
  · rw [if_neg h0] at Kp; exact br_f h0 Kp
theorem yt_v12 {i t : Nat} {Lt m0 : Nat → Int32} {post : Int32 → Prop} (hc : c ≤ 24) (hi : i < c) (ht : t < 250) (hP : sf_Pg c 24 b_kind A B C) (hN : sf_ND c b_kind A B C) (hO : sf_Op b_op A B C) (e : b_kind i = 12) (hm : yt_m b_kind A B C b_there b_val t i = m0 i)
    (Kp : post (ex_F b_kind A B C Lt m0 (yt_P b_there t) (yt_V b_val t) i)) : wY_valueAt_83 post (nI i) (nI t) (b_kind i) (A i) (B i) (nI (t * 24)) g_capacity g_horizon (nI c) g_verdict g_errorNode g_ticks g_saved g_savedTicks b_kind b_op b_out b_fact b_clock b_reach b_late b_depth b_latched b_there b_val b_savedLatched b_savedThere b_savedVal := by
  obtain ⟨q1, t1⟩ := sf_tgz hi hP hN sf_W1 (by rw [e]; decide) (by rw [e]; decide)
  obtain ⟨q2, t2⟩ := sf_tgz hi hP hN sf_W2 (by rw [e]; decide) (by rw [e]; decide)
  obtain ⟨q3, t3⟩ := sf_tgz hi hP hN sf_W3 (by rw [e]; decide) (by rw [e]; decide)
  rw [sf_od1] at q1; rw [sf_od2] at q2; rw [sf_od3] at q3
  unfold wY_valueAt_83
  rw [sf_i32, sf_cl (n := i * 3 + 2) (by omega), (hO i (by omega)).2.2, q1, q2, q3, nI_add, nI_add, nI_add, sf_cl (n := t * 24 + sf_tg A B C i 1) (by omega), sf_cl (n := t * 24 + sf_tg A B C i 2) (by omega), sf_cl (n := t * 24 + sf_tg A B C i 3) (by omega)]
  refine br_f (by rw [e]; decide) (br_f (by rw [e]; decide) (And.intro (sf_in (by omega) (by omega)) (nm_e (And.intro (sf_in (by omega) (by omega)) (nm_e (And.intro (sf_in (by omega) (by omega)) (And.intro (sf_in (by omega) (by omega)) (nm_e ?_))))))))
  rw [ex_F12 e] at Kp
  unfold yt_V at Kp
  refine br_f (by rw [e]; decide) (br_f (by rw [e]; decide) (br_f (by rw [e]; decide) (br_f (by rw [e]; decide) (br_f (by rw [e]; decide) (br_f (by rw [e]; decide) (br_f (by rw [e]; decide) (br_f (by rw [e]; decide) (br_t e (?_)))))))))
  by_cases h0 : b_val (t * 24 + sf_tg A B C i 1) = 0
  · rw [if_pos h0] at Kp; exact br_t h0 Kp
  · rw [if_neg h0] at Kp; exact br_f h0 Kp
theorem yt_v13 {i t : Nat} {Lt m0 : Nat → Int32} {post : Int32 → Prop} (hc : c ≤ 24) (hi : i < c) (ht : t < 250) (hP : sf_Pg c 24 b_kind A B C) (hN : sf_ND c b_kind A B C) (hO : sf_Op b_op A B C) (e : b_kind i = 13) (hm : yt_m b_kind A B C b_there b_val t i = m0 i)
    (Kp : post (ex_F b_kind A B C Lt m0 (yt_P b_there t) (yt_V b_val t) i)) : wY_valueAt_83 post (nI i) (nI t) (b_kind i) (A i) (B i) (nI (t * 24)) g_capacity g_horizon (nI c) g_verdict g_errorNode g_ticks g_saved g_savedTicks b_kind b_op b_out b_fact b_clock b_reach b_late b_depth b_latched b_there b_val b_savedLatched b_savedThere b_savedVal := by
  obtain ⟨q1, t1⟩ := sf_tgz hi hP hN sf_W1 (by rw [e]; decide) (by rw [e]; decide)
  obtain ⟨q2, t2⟩ := sf_tgz hi hP hN sf_W2 (by rw [e]; decide) (by rw [e]; decide)
  obtain ⟨q3, t3⟩ := sf_tgz hi hP hN sf_W3 (by rw [e]; decide) (by rw [e]; decide)
  rw [sf_od1] at q1; rw [sf_od2] at q2; rw [sf_od3] at q3
  unfold wY_valueAt_83
  rw [sf_i32, sf_cl (n := i * 3 + 2) (by omega), (hO i (by omega)).2.2, q1, q2, q3, nI_add, nI_add, nI_add, sf_cl (n := t * 24 + sf_tg A B C i 1) (by omega), sf_cl (n := t * 24 + sf_tg A B C i 2) (by omega), sf_cl (n := t * 24 + sf_tg A B C i 3) (by omega)]
  refine br_f (by rw [e]; decide) (br_f (by rw [e]; decide) (And.intro (sf_in (by omega) (by omega)) (nm_e (And.intro (sf_in (by omega) (by omega)) (nm_e (And.intro (sf_in (by omega) (by omega)) (And.intro (sf_in (by omega) (by omega)) (nm_e ?_))))))))
  rw [ex_F13 e] at Kp
  unfold yt_V at Kp
  refine br_f (by rw [e]; decide) (br_f (by rw [e]; decide) (br_f (by rw [e]; decide) (br_f (by rw [e]; decide) (br_f (by rw [e]; decide) (br_f (by rw [e]; decide) (br_f (by rw [e]; decide) (br_f (by rw [e]; decide) (br_f (by rw [e]; decide) (?_)))))))))
  by_cases h0 : b_val (t * 24 + sf_tg A B C i 1) = 0
  · rw [if_pos h0] at Kp; exact br_t h0 Kp
  · rw [if_neg h0] at Kp; exact br_f h0 Kp
theorem yt_val {i t : Nat} {Lt m0 : Nat → Int32} {post : Int32 → Prop} (hc : c ≤ 24) (hi : i < c) (ht : t < 250) (hP : sf_Pg c 24 b_kind A B C) (hN : sf_ND c b_kind A B C) (hO : sf_Op b_op A B C) (hm : yt_m b_kind A B C b_there b_val t i = m0 i) (hL : b_latched i = Lt i)
    (Kp : post (ex_F b_kind A B C Lt m0 (yt_P b_there t) (yt_V b_val t) i)) : wpY_valueAt post (g_capacity, g_horizon, nI c, g_verdict, g_errorNode, g_ticks, g_saved, g_savedTicks, b_kind, b_op, b_out, b_fact, b_clock, b_reach, b_late, b_depth, b_latched, b_there, b_val, b_savedLatched, b_savedThere, b_savedVal) (nI i) (nI t) := by
  have hin : vp_in (nI i) 24 := sf_in (by omega) (by omega)
  obtain ⟨o1, o2, o3⟩ := hO i (by omega)
  unfold wpY_valueAt
  dsimp only
  rw [sf_i3, nI_1, sf_cl (n := i * 3) (by omega), sf_cl (n := i * 3 + 1) (by omega), sf_cl (n := i) (by omega), o1, o2]
  refine And.intro hin (nm_e (And.intro (sf_in (by omega) (by omega)) (nm_e (And.intro (sf_in (by omega) (by omega)) (nm_e (nm_r (sf_m24 t) ?_))))))
  by_cases h0 : b_kind i = 0
  · rw [ex_F0 h0] at Kp
    refine br_t h0 (And.intro hin ?_)
    rw [hL]; exact Kp
  refine br_f h0 ?_
  by_cases h1 : b_kind i = 1
  · rw [ex_F1 h1] at Kp
    exact br_t h1 Kp
  refine br_f h1 ?_
  by_cases h5 : b_kind i = 5
  · obtain ⟨t1, p1⟩ := hN i hi 1 sf_W1 (by rw [h5]; decide)
    have p1' : A i = nI (sf_tg A B C i 1) := p1
    rw [ex_F5 h5] at Kp
    refine br_t h5 ?_
    rw [p1', nI_add, sf_cl (n := t * 24 + sf_tg A B C i 1) (by omega)]
    refine And.intro (sf_in (by omega) (by omega)) ?_
    by_cases e : b_there (t * 24 + sf_tg A B C i 1) = 0
    · rw [if_neg (fun z => (yt_P_i.mp z) e)] at Kp
      exact br_t e (br_f (by rw [h5]; decide) (br_t h5 (yt_93 hc hi (by omega) hN (Or.inr h5) hm Kp)))
    · rw [if_pos (yt_P_i.mpr e)] at Kp
      exact br_f e (And.intro (sf_in (by omega) (by omega)) Kp)
  refine br_f h5 ?_
  by_cases h2 : b_kind i = 2
  · obtain ⟨t1, p1⟩ := hN i hi 1 sf_W1 (by rw [h2]; decide)
    have p1' : A i = nI (sf_tg A B C i 1) := p1
    rw [ex_F2 h2] at Kp
    rw [p1']
    exact br_t h2 (yt_93 hc hi (by omega) hN (Or.inl h2) hm Kp)
  rcases sf_kd_in (hP i hi).1 with e | e | e | e | e | e | e | e | e | e | e | e | e | e
  · exact absurd e h0
  · exact absurd e h1
  · exact absurd e h2
  · exact yt_v3 hc hi ht hP hN hO e hm Kp
  · exact yt_v4 hc hi ht hP hN hO e hm Kp
  · exact absurd e h5
  · exact yt_v6 hc hi ht hP hN hO e hm Kp
  · exact yt_v7 hc hi ht hP hN hO e hm Kp
  · exact yt_v8 hc hi ht hP hN hO e hm Kp
  · exact yt_v9 hc hi ht hP hN hO e hm Kp
  · exact yt_v10 hc hi ht hP hN hO e hm Kp
  · exact yt_v11 hc hi ht hP hN hO e hm Kp
  · exact yt_v12 hc hi ht hP hN hO e hm Kp
  · exact yt_v13 hc hi ht hP hN hO e hm Kp
def yt_Rt (c t : Nat) (pos : Nat → Nat) (P : Nat → Bool) (V : Nat → Int32) (p i : Nat) (th vl : Nat → Int32) : Prop :=
  (∀ z, z < 24 → th (t * 24 + z) = 0 ∨ th (t * 24 + z) = 1) ∧ (∀ z, z < c → (pos z < p ∨ (pos z ≤ p ∧ z < i)) → yt_P th t z = P z ∧ yt_V vl t z = V z)
theorem yt_put {t i : Nat} {pos : Nat → Nat} {P : Nat → Bool} {V th vl : Nat → Int32} {p : Nat} {x y : Int32} (hc : c ≤ 24) (hi : i < c) (hx : x = 0 ∨ x = 1) (h : yt_Rt c t pos P V p i th vl)
    (hv : pos i ≤ p → (¬ x = 0 ↔ P i = true) ∧ y = V i) : yt_Rt c t pos P V p (i + 1) (upd th (t * 24 + i) x) (upd vl (t * 24 + i) y) := by
  refine ⟨fun z hz => ?_, fun z hz hr => ?_⟩
  · by_cases e : z = i
    · rw [e, sf_us]; exact hx
    · rw [sf_un (by omega)]; exact h.1 z hz
  · by_cases e : z = i
    · subst e
      obtain ⟨a, b⟩ := hv (by omega)
      refine ⟨?_, ?_⟩
      · rw [Bool.eq_iff_iff, yt_P_i, sf_us]; exact a
      · unfold yt_V; rw [sf_us]; exact b
    · obtain ⟨a, b⟩ := h.2 z hz (by omega)
      unfold yt_P at a ⊢
      unfold yt_V at b ⊢
      rw [sf_un (by omega), sf_un (by omega)]
      exact ⟨a, b⟩
theorem yt_50 {t p : Nat} {ck Lt m0 th0 vl0 : Nat → Int32} {pos : Nat → Nat} {P : Nat → Bool} {V : Nat → Int32} {post : SY → Prop} {J39 : Int32 → (Nat → Int32) → (Nat → Int32) → (Nat → Int32) → (Nat → Int32) → (Nat → Int32) → (Nat → Int32) → (Nat → Int32) → (Nat → Int32) → (Nat → Int32) → (Nat → Int32) → (Nat → Int32) → (Nat → Int32) → (Nat → Int32) → (Nat → Int32) → Prop} (hc : c ≤ 24) (ht : t < 250) (hP : sf_Pg c 24 b_kind A B C) (hN : sf_ND c b_kind A B C) (hO : sf_Op b_op A B C)
    (hck : ∀ i, i < c → b_clock i = -1 ∨ ∃ k, k < c ∧ b_clock i = nI k) (hpos : sf_Po c (sf_N c b_kind A B C b_clock) pos) (hS : ex_Sol c b_kind A B C b_clock Lt m0 P V) (hL : ∀ i, i < c → b_latched i = Lt i)
    (hm : ∀ i, i < c → yt_m b_kind A B C th0 vl0 t i = m0 i)
    (KJ : ∀ th vl, yt_ag t th0 vl0 th vl → yt_Rt c t pos P V (p + 1) 0 th vl → J39 (nI (p + 1)) b_kind b_op b_out b_fact b_clock b_reach b_late b_depth b_latched th vl b_savedLatched b_savedThere b_savedVal) :
    ∀ n i th vl, i ≤ c → c - i < n → yt_ag t th0 vl0 th vl → yt_Rt c t pos P V p i th vl → wY_tick_50 post J39 (nI t) (nI (t * 24)) (nI p) g_capacity g_horizon (nI c) g_verdict g_errorNode g_ticks g_saved g_savedTicks n (nI i) b_kind b_op b_out b_fact b_clock b_reach b_late b_depth b_latched th vl b_savedLatched b_savedThere b_savedVal := by
  intro n
  induction n with
  | zero => intro i th vl _ hn; omega
  | succ n ih =>
    intro i th vl hi hn hag hR
    rcases Nat.lt_or_ge i c with h | h
    · have hin : vp_in (nI i) 24 := sf_in (by omega) (by omega)
      have go : ∀ x y : Int32, (x = 0 ∨ x = 1) → (pos i ≤ p → (¬ x = 0 ↔ P i = true) ∧ y = V i) → wY_tick_50 post J39 (nI t) (nI (t * 24)) (nI p) g_capacity g_horizon (nI c) g_verdict g_errorNode g_ticks g_saved g_savedTicks n (nI (i + 1)) b_kind b_op b_out b_fact b_clock b_reach b_late b_depth b_latched (upd th (t * 24 + i) x) (upd vl (t * 24 + i) y) b_savedLatched b_savedThere b_savedVal := by
        intro x y hx hv
        refine ih (i + 1) _ _ (by omega) (by omega) (fun j hj => ?_) (yt_put hc h hx hR hv)
        rw [sf_un (by omega), sf_un (by omega)]; exact hag j hj
      -- if i is due in this pass, its needs are right
      have due : pos i ≤ p → ∀ x : Int32, (ex_on (yt_P th t) (yt_V vl t) (b_clock i) ↔ P i = true) ∧
          ex_F b_kind A B C Lt m0 (yt_P (upd th (t * 24 + i) x) t) (yt_V vl t) i = ex_F b_kind A B C Lt m0 P V i := by
        intro hp x
        have hag1 : ∀ k, sf_N c b_kind A B C b_clock i k → yt_P th t k = P k ∧ yt_V vl t k = V k := fun k hk => hR.2 k hk.2.1 (Or.inl (by have := (hpos i h).2 k hk; omega))
        have hag2 : ∀ k, sf_N c b_kind A B C b_clock i k → yt_P (upd th (t * 24 + i) x) t k = P k ∧ yt_V vl t k = V k := by
          intro k hk
          have hne : k ≠ i := fun e => by have := (hpos i h).2 k hk; rw [e] at this; omega
          have := hag1 k hk
          unfold yt_P at this ⊢
          rw [sf_un (by omega)]
          exact this
        exact ⟨((ex_cg (Lt := Lt) (m0 := m0) hc h (hP i h).1 hN (hck i h) hag1).1).trans (hS i h).1.symm, (ex_cg (Lt := Lt) (m0 := m0) hc h (hP i h).1 hN (hck i h) hag2).2⟩
      have j105 : (pos i ≤ p → P i = true) → wY_tick_105 post J39 (wY_tick_50 post J39 (nI t) (nI (t * 24)) (nI p) g_capacity g_horizon (nI c) g_verdict g_errorNode g_ticks g_saved g_savedTicks n) (nI t) (nI (t * 24)) (nI p) (nI i) (nI (t * 24 + i)) g_capacity g_horizon (nI c) g_verdict g_errorNode g_ticks g_saved g_savedTicks b_kind b_op b_out b_fact b_clock b_reach b_late b_depth b_latched th vl b_savedLatched b_savedThere b_savedVal := by
        intro hpi
        unfold wY_tick_105 wY_tick_110
        rw [nI_add, sf_cl (n := t * 24 + i) (by omega)]
        refine And.intro (sf_in (by omega) (by omega)) (nm_e (And.intro (sf_in (by omega) (by omega)) ?_))
        rw [sf_us]
        refine br_f (by decide) ?_
        refine yt_val (Lt := Lt) (m0 := m0) hc h ht hP hN hO ?_ (hL i h) ?_
        · rw [← hm i h]
          exact yt_m_cg hc h hN (fun j hj => by rw [sf_un (by omega)]; exact hag j hj)
        · refine And.intro (sf_in (by omega) (by omega)) (nm_e (nm_r (nI_1 i) ?_))
          refine go 1 _ (Or.inr rfl) (fun hp => ⟨⟨fun _ => hpi hp, fun _ => by decide⟩, ?_⟩)
          rw [(hS i h).2, if_pos (hpi hp)]
          exact (due hp _).2
      have j109 : (pos i ≤ p → ¬ P i = true) → wY_tick_109 post J39 (wY_tick_50 post J39 (nI t) (nI (t * 24)) (nI p) g_capacity g_horizon (nI c) g_verdict g_errorNode g_ticks g_saved g_savedTicks n) (nI t) (nI (t * 24)) (nI p) (nI i) (nI (t * 24 + i)) g_capacity g_horizon (nI c) g_verdict g_errorNode g_ticks g_saved g_savedTicks b_kind b_op b_out b_fact b_clock b_reach b_late b_depth b_latched th vl b_savedLatched b_savedThere b_savedVal := by
        intro hpi
        unfold wY_tick_109 wY_tick_110
        rw [nI_add, sf_cl (n := t * 24 + i) (by omega)]
        refine And.intro (sf_in (by omega) (by omega)) (nm_e (And.intro (sf_in (by omega) (by omega)) ?_))
        rw [sf_us]
        refine br_t (by decide) (And.intro (sf_in (by omega) (by omega)) (nm_e (nm_r (nI_1 i) ?_)))
        refine go 0 0 (Or.inl rfl) (fun hp => ⟨⟨fun z => absurd rfl z, fun z => absurd z (hpi hp)⟩, ?_⟩)
        rw [(hS i h).2, if_neg (hpi hp)]
      refine br_f (sf_nle h (by omega)) (And.intro hin ?_)
      rw [sf_cl (n := i) (by omega)]
      refine nm_e ?_
      rw [nI_add]
      rcases hck i h with e | ⟨k, hk, e⟩
      · refine br_t (by rw [e]; decide) (j105 (fun hp => (due hp 0).1.mp (by rw [e]; exact ex_on_b)))
      · refine br_f (by rw [e]; exact sf_npos (by omega)) ?_
        rw [e, nI_add, sf_cl (n := t * 24 + k) (by omega)]
        refine And.intro (sf_in (by omega) (by omega)) ?_
        have don : pos i ≤ p → ((¬ th (t * 24 + k) = 0 ∧ ¬ vl (t * 24 + k) = 0) ↔ P i = true) := by
          intro hp
          rw [← (due hp 0).1, e, ex_on_k (by omega), yt_P_i]
          exact Iff.rfl
        by_cases e1 : th (t * 24 + k) = 0
        · exact br_t e1 (j109 (fun hp z => ((don hp).mpr z).1 e1))
        · refine br_f e1 (And.intro (sf_in (by omega) (by omega)) ?_)
          by_cases e2 : vl (t * 24 + k) = 0
          · exact br_t e2 (j109 (fun hp z => ((don hp).mpr z).2 e2))
          · exact br_f e2 (j105 (fun hp => (don hp).mp ⟨e1, e2⟩))
    · have : i = c := by omega
      subst this
      refine br_t (sf_le (by omega) (by omega)) (nm_r (nI_1 p) (KJ th vl hag ⟨hR.1, fun z hz hr => hR.2 z hz (by omega)⟩))
theorem yt_39 {t : Nat} {Lt m0 th0 vl0 : Nat → Int32} {pos : Nat → Nat} {P : Nat → Bool} {V : Nat → Int32} {post : SY → Prop} (hc : c ≤ 24) (ht : t < 250) (hP : sf_Pg c 24 b_kind A B C) (hN : sf_ND c b_kind A B C) (hO : sf_Op b_op A B C)
    (hck : ∀ i, i < c → b_clock i = -1 ∨ ∃ k, k < c ∧ b_clock i = nI k) (hpos : sf_Po c (sf_N c b_kind A B C b_clock) pos) (hS : ex_Sol c b_kind A B C b_clock Lt m0 P V) (hL : ∀ i, i < c → b_latched i = Lt i)
    (hm : ∀ i, i < c → yt_m b_kind A B C th0 vl0 t i = m0 i)
    (Kp : ∀ th vl, yt_ag t th0 vl0 th vl → (∀ i, i < c → th (t * 24 + i) = (if P i = true then 1 else 0) ∧ vl (t * 24 + i) = V i) → (∀ i, i < 24 → th (t * 24 + i) = 0 ∨ th (t * 24 + i) = 1) → post (g_capacity, g_horizon, nI c, g_verdict, g_errorNode, g_ticks, g_saved, g_savedTicks, b_kind, b_op, b_out, b_fact, b_clock, b_reach, b_late, b_depth, b_latched, th, vl, b_savedLatched, b_savedThere, b_savedVal)) :
    ∀ n p th vl, p ≤ c → c - p < n → yt_ag t th0 vl0 th vl → yt_Rt c t pos P V p 0 th vl → wY_tick_39 post (nI t) (nI (t * 24)) g_capacity g_horizon (nI c) g_verdict g_errorNode g_ticks g_saved g_savedTicks n (nI p) b_kind b_op b_out b_fact b_clock b_reach b_late b_depth b_latched th vl b_savedLatched b_savedThere b_savedVal := by
  intro n
  induction n with
  | zero => intro p th vl _ hn; omega
  | succ n ih =>
    intro p th vl hp hn hag hR
    rcases Nat.lt_or_ge p c with h | h
    · refine br_f (sf_nle h (by omega)) (Exists.intro (c + 1) ?_)
      exact yt_50 (ck := b_clock) hc ht hP hN hO hck hpos hS hL hm (fun th' vl' hag' hR' => ih (p + 1) th' vl' (by omega) (by omega) hag' hR') (c + 1) 0 th vl (by omega) (by omega) hag hR
    · have : p = c := by omega
      subst this
      refine br_t (sf_le (by omega) (by omega)) (Kp th vl hag (fun i hi => ?_) hR.1)
      obtain ⟨a, b⟩ := hR.2 i hi (Or.inl (hpos i hi).1)
      refine ⟨?_, b⟩
      rcases hR.1 i (by omega) with z | z
      · rw [z, if_neg]
        intro hpi
        rw [← a, yt_P_i] at hpi
        exact hpi z
      · rw [z, if_pos]
        rw [← a, yt_P_i, z]; decide
theorem yt_7 {t : Nat} {Lt m0 th0 vl0 : Nat → Int32} {pos : Nat → Nat} {P : Nat → Bool} {V : Nat → Int32} {post : SY → Prop} (hc : c ≤ 24) (ht : t < 250) (hP : sf_Pg c 24 b_kind A B C) (hN : sf_ND c b_kind A B C) (hO : sf_Op b_op A B C)
    (hck : ∀ i, i < c → b_clock i = -1 ∨ ∃ k, k < c ∧ b_clock i = nI k) (hpos : sf_Po c (sf_N c b_kind A B C b_clock) pos) (hS : ex_Sol c b_kind A B C b_clock Lt m0 P V) (hL : ∀ i, i < c → b_latched i = Lt i)
    (hm : ∀ i, i < c → yt_m b_kind A B C th0 vl0 t i = m0 i)
    (Kp : ∀ th vl, yt_ag t th0 vl0 th vl → (∀ i, i < c → th (t * 24 + i) = (if P i = true then 1 else 0) ∧ vl (t * 24 + i) = V i) → (∀ i, i < 24 → th (t * 24 + i) = 0 ∨ th (t * 24 + i) = 1) → post (g_capacity, g_horizon, nI c, g_verdict, g_errorNode, g_ticks, g_saved, g_savedTicks, b_kind, b_op, b_out, b_fact, b_clock, b_reach, b_late, b_depth, b_latched, th, vl, b_savedLatched, b_savedThere, b_savedVal)) :
    ∀ n i th vl, i ≤ 24 → 24 - i < n → yt_ag t th0 vl0 th vl → (∀ z, z < i → th (t * 24 + z) = 0) → wY_tick_7 post (nI t) (nI (t * 24)) g_capacity g_horizon (nI c) g_verdict g_errorNode g_ticks g_saved g_savedTicks n (nI i) b_kind b_op b_out b_fact b_clock b_reach b_late b_depth b_latched th vl b_savedLatched b_savedThere b_savedVal := by
  intro n
  induction n with
  | zero => intro i th vl _ hn; omega
  | succ n ih =>
    intro i th vl hi hn hag hI
    rcases Nat.lt_or_ge i 24 with h | h
    · refine br_f (sf_nle (b := 24) h (by omega)) ?_
      rw [nI_add, sf_cl (by omega)]
      refine And.intro (sf_in (by omega) (by omega)) (nm_e (And.intro (sf_in (by omega) (by omega)) (nm_e (nm_r (nI_1 i) (ih (i + 1) _ _ (by omega) (by omega) (fun j hj => ?_) (fun z hz => ?_))))))
      · rw [sf_un (by omega), sf_un (by omega)]; exact hag j hj
      · rcases (by omega : z < i ∨ z = i) with y | rfl
        · rw [sf_un (by omega)]; exact hI z y
        · rw [sf_us]; rfl
    · have : i = 24 := by omega
      subst this
      refine br_t (by decide) (Exists.intro (c + 1) ?_)
      exact yt_39 hc ht hP hN hO hck hpos hS hL hm Kp (c + 1) 0 th vl (by omega) (by omega) hag ⟨fun z hz => Or.inl (hI z hz), fun z hz hr => absurd hr (by omega)⟩
theorem yt_tick {t : Nat} {Lt m0 : Nat → Int32} {pos : Nat → Nat} {P : Nat → Bool} {V : Nat → Int32} {post : SY → Prop} (hc : c ≤ 24) (ht : t < 250) (hP : sf_Pg c 24 b_kind A B C) (hN : sf_ND c b_kind A B C) (hO : sf_Op b_op A B C)
    (hck : ∀ i, i < c → b_clock i = -1 ∨ ∃ k, k < c ∧ b_clock i = nI k) (hpos : sf_Po c (sf_N c b_kind A B C b_clock) pos) (hS : ex_Sol c b_kind A B C b_clock Lt m0 P V) (hL : ∀ i, i < c → b_latched i = Lt i)
    (hm : ∀ i, i < c → yt_m b_kind A B C b_there b_val t i = m0 i)
    (Kp : ∀ th vl, yt_ag t b_there b_val th vl → (∀ i, i < c → th (t * 24 + i) = (if P i = true then 1 else 0) ∧ vl (t * 24 + i) = V i) → (∀ i, i < 24 → th (t * 24 + i) = 0 ∨ th (t * 24 + i) = 1) → post (g_capacity, g_horizon, nI c, g_verdict, g_errorNode, g_ticks, g_saved, g_savedTicks, b_kind, b_op, b_out, b_fact, b_clock, b_reach, b_late, b_depth, b_latched, th, vl, b_savedLatched, b_savedThere, b_savedVal)) :
    wpY_tick post (g_capacity, g_horizon, nI c, g_verdict, g_errorNode, g_ticks, g_saved, g_savedTicks, b_kind, b_op, b_out, b_fact, b_clock, b_reach, b_late, b_depth, b_latched, b_there, b_val, b_savedLatched, b_savedThere, b_savedVal) (nI t) := by
  unfold wpY_tick
  exact nm_r (sf_m24 t) (Exists.intro 25 (yt_7 hc ht hP hN hO hck hpos hS hL hm Kp 25 0 _ _ (by omega) (by omega) (fun _ _ => ⟨rfl, rfl⟩) (fun z y => absurd y (by omega))))
end
end
section
/-! the relation -/
def rl_B (cap hor c : Nat) (out : Int32) (K A B C O yo : Nat → Int32) : Prop := cap ≤ 24 ∧ hor ≤ 250 ∧ c ≤ cap ∧ sf_Pg c cap K A B C ∧ sf_Op O A B C ∧ (∀ i, i < c → (¬ yo i = 0 ↔ bt out i = true)) ∧ (∀ k, bt out k = true → k < c)
def rl_A (c : Nat) (cl mcI : Int32) (K A B C ck lv cO cD cX cY cZ S mI yck : Nat → Int32) : Prop :=
  sf_ND c K A B C ∧ sf_RC c K A B C ck ∧ (∀ i, i < c → yck i = ck i) ∧ em_Code c K A B C ck S cO cD cX cY cZ cl ∧ (∃ mc, mc ≤ 24 ∧ mcI = nI mc ∧ em_Mi c K B S mI mc) ∧
  (∃ pos, sf_Po c (sf_N c K A B C ck) pos) ∧ ∃ L, sf_Lv c (sf_N c K A B C ck) L ∧ ∀ z, z < c → lv z = nI (L z)
def rl_T (c hor : Nat) (K A B C S O : Nat → Int32) (tx ty pr dig : Int32) (lat mem vals ylat th vl : Nat → Int32) : Prop := ∃ t, tx = nI t ∧ ty = nI t ∧ rr_R c hor K A B C S O t pr dig lat mem vals ylat th vl
def i_Rel (_ : Nat) (u : SX) (v : SY) : Prop := match u with
  | (f_capacity, f_horizon, f_count, f_verdict, f_errorNode, f_outputs, f_late, f_codeLen, f_openGuard, f_guardClock, f_memCount, f_presence, f_tickCount, f_digestValue, f_hasSnapshot, f_savedPresence, f_savedTicks, f_savedDigest, a_kinds, a_opA, a_opB, a_opC, a_parent, a_facts, a_clocks, a_needs, a_reach, a_order, a_levels, a_codeOp, a_codeDst, a_codeX, a_codeY, a_codeZ, a_memSlot, a_memInit, a_mem, a_latched, a_vals, a_savedMem, a_savedLatched, a_savedVals) => match v with
    | (g_capacity, g_horizon, g_count, g_verdict, g_errorNode, g_ticks, g_saved, g_savedTicks, b_kind, b_op, b_out, b_fact, b_clock, b_reach, b_late, b_depth, b_latched, b_there, b_val, b_savedLatched, b_savedThere, b_savedVal) => ∃ cap hor c : Nat, f_capacity = nI cap ∧ f_horizon = nI hor ∧ f_count = nI c ∧ g_capacity = nI cap ∧ g_horizon = nI hor ∧ g_count = nI c ∧ g_verdict = f_verdict ∧ g_errorNode = f_errorNode ∧ b_kind = a_kinds ∧
      rl_B cap hor c f_outputs a_kinds a_opA a_opB a_opC b_op b_out ∧ (f_verdict = 1 → rl_A c f_codeLen f_memCount a_kinds a_opA a_opB a_opC a_clocks a_levels a_codeOp a_codeDst a_codeX a_codeY a_codeZ a_memSlot a_memInit b_clock ∧ rl_T c hor a_kinds a_opA a_opB a_opC a_memSlot b_out f_tickCount g_ticks f_presence f_digestValue a_latched a_mem a_vals b_latched b_there b_val ∧ ((f_hasSnapshot = 0 ∧ g_saved = 0) ∨ (f_hasSnapshot = 1 ∧ g_saved = 1 ∧ rl_T c hor a_kinds a_opA a_opB a_opC a_memSlot b_out f_savedTicks g_savedTicks f_savedPresence f_savedDigest a_savedLatched a_savedMem a_savedVals b_savedLatched b_savedThere b_savedVal)))
theorem i_up {k : Nat} {u : SX} {v : SY} (h : i_Rel k u v) : i_Rel (k + 5) u v := h
theorem rl_mk {k cap hor c : Nat} {f_verdict f_errorNode f_outputs f_late f_codeLen f_openGuard f_guardClock f_memCount f_presence f_tickCount f_digestValue f_hasSnapshot f_savedPresence f_savedTicks f_savedDigest : Int32} {a_kinds a_opA a_opB a_opC a_parent a_facts a_clocks a_needs a_reach a_order a_levels a_codeOp a_codeDst a_codeX a_codeY a_codeZ a_memSlot a_memInit a_mem a_latched a_vals a_savedMem a_savedLatched a_savedVals : Nat → Int32} {g_ticks g_saved g_savedTicks : Int32} {b_op b_out b_fact b_clock b_reach b_late b_depth b_latched b_there b_val b_savedLatched b_savedThere b_savedVal : Nat → Int32} (hB : rl_B cap hor c f_outputs a_kinds a_opA a_opB a_opC b_op b_out)
    (hA : f_verdict = 1 → rl_A c f_codeLen f_memCount a_kinds a_opA a_opB a_opC a_clocks a_levels a_codeOp a_codeDst a_codeX a_codeY a_codeZ a_memSlot a_memInit b_clock ∧ rl_T c hor a_kinds a_opA a_opB a_opC a_memSlot b_out f_tickCount g_ticks f_presence f_digestValue a_latched a_mem a_vals b_latched b_there b_val ∧ ((f_hasSnapshot = 0 ∧ g_saved = 0) ∨ (f_hasSnapshot = 1 ∧ g_saved = 1 ∧ rl_T c hor a_kinds a_opA a_opB a_opC a_memSlot b_out f_savedTicks g_savedTicks f_savedPresence f_savedDigest a_savedLatched a_savedMem a_savedVals b_savedLatched b_savedThere b_savedVal))) : i_Rel k (nI cap, nI hor, nI c, f_verdict, f_errorNode, f_outputs, f_late, f_codeLen, f_openGuard, f_guardClock, f_memCount, f_presence, f_tickCount, f_digestValue, f_hasSnapshot, f_savedPresence, f_savedTicks, f_savedDigest, a_kinds, a_opA, a_opB, a_opC, a_parent, a_facts, a_clocks, a_needs, a_reach, a_order, a_levels, a_codeOp, a_codeDst, a_codeX, a_codeY, a_codeZ, a_memSlot, a_memInit, a_mem, a_latched, a_vals, a_savedMem, a_savedLatched, a_savedVals) (nI cap, nI hor, nI c, f_verdict, f_errorNode, g_ticks, g_saved, g_savedTicks, a_kinds, b_op, b_out, b_fact, b_clock, b_reach, b_late, b_depth, b_latched, b_there, b_val, b_savedLatched, b_savedThere, b_savedVal) :=
  Exists.intro cap (Exists.intro hor (Exists.intro c ⟨rfl, rfl, rfl, rfl, rfl, rfl, rfl, rfl, rfl, hB, hA⟩))
theorem rl_el {k : Nat} {u : SX} {v : SY} {P : SX → SY → Prop} (I : i_Rel k u v)
    (h : ∀ (cap hor c : Nat) (f_verdict f_errorNode f_outputs f_late f_codeLen f_openGuard f_guardClock f_memCount f_presence f_tickCount f_digestValue f_hasSnapshot f_savedPresence f_savedTicks f_savedDigest : Int32) (a_kinds a_opA a_opB a_opC a_parent a_facts a_clocks a_needs a_reach a_order a_levels a_codeOp a_codeDst a_codeX a_codeY a_codeZ a_memSlot a_memInit a_mem a_latched a_vals a_savedMem a_savedLatched a_savedVals : Nat → Int32) (g_ticks g_saved g_savedTicks : Int32) (b_op b_out b_fact b_clock b_reach b_late b_depth b_latched b_there b_val b_savedLatched b_savedThere b_savedVal : Nat → Int32), rl_B cap hor c f_outputs a_kinds a_opA a_opB a_opC b_op b_out →
      (f_verdict = 1 → rl_A c f_codeLen f_memCount a_kinds a_opA a_opB a_opC a_clocks a_levels a_codeOp a_codeDst a_codeX a_codeY a_codeZ a_memSlot a_memInit b_clock ∧ rl_T c hor a_kinds a_opA a_opB a_opC a_memSlot b_out f_tickCount g_ticks f_presence f_digestValue a_latched a_mem a_vals b_latched b_there b_val ∧ ((f_hasSnapshot = 0 ∧ g_saved = 0) ∨ (f_hasSnapshot = 1 ∧ g_saved = 1 ∧ rl_T c hor a_kinds a_opA a_opB a_opC a_memSlot b_out f_savedTicks g_savedTicks f_savedPresence f_savedDigest a_savedLatched a_savedMem a_savedVals b_savedLatched b_savedThere b_savedVal))) → P (nI cap, nI hor, nI c, f_verdict, f_errorNode, f_outputs, f_late, f_codeLen, f_openGuard, f_guardClock, f_memCount, f_presence, f_tickCount, f_digestValue, f_hasSnapshot, f_savedPresence, f_savedTicks, f_savedDigest, a_kinds, a_opA, a_opB, a_opC, a_parent, a_facts, a_clocks, a_needs, a_reach, a_order, a_levels, a_codeOp, a_codeDst, a_codeX, a_codeY, a_codeZ, a_memSlot, a_memInit, a_mem, a_latched, a_vals, a_savedMem, a_savedLatched, a_savedVals) (nI cap, nI hor, nI c, f_verdict, f_errorNode, g_ticks, g_saved, g_savedTicks, a_kinds, b_op, b_out, b_fact, b_clock, b_reach, b_late, b_depth, b_latched, b_there, b_val, b_savedLatched, b_savedThere, b_savedVal)) : P u v := by
  match u, v, I with
  | (f_capacity, f_horizon, f_count, f_verdict, f_errorNode, f_outputs, f_late, f_codeLen, f_openGuard, f_guardClock, f_memCount, f_presence, f_tickCount, f_digestValue, f_hasSnapshot, f_savedPresence, f_savedTicks, f_savedDigest, a_kinds, a_opA, a_opB, a_opC, a_parent, a_facts, a_clocks, a_needs, a_reach, a_order, a_levels, a_codeOp, a_codeDst, a_codeX, a_codeY, a_codeZ, a_memSlot, a_memInit, a_mem, a_latched, a_vals, a_savedMem, a_savedLatched, a_savedVals), (g_capacity, g_horizon, g_count, g_verdict, g_errorNode, g_ticks, g_saved, g_savedTicks, b_kind, b_op, b_out, b_fact, b_clock, b_reach, b_late, b_depth, b_latched, b_there, b_val, b_savedLatched, b_savedThere, b_savedVal), I =>
    refine Exists.elim I (fun cap I => Exists.elim I (fun hor I => Exists.elim I (fun c I => ?_)))
    have e1 := I.1
    have e2 := I.2.1
    have e3 := I.2.2.1
    have e4 := I.2.2.2.1
    have e5 := I.2.2.2.2.1
    have e6 := I.2.2.2.2.2.1
    have e7 := (I.2.2.2.2.2.2.1).symm
    have e8 := (I.2.2.2.2.2.2.2.1).symm
    have e9 := (I.2.2.2.2.2.2.2.2.1).symm
    have hB := I.2.2.2.2.2.2.2.2.2.1
    have hA := I.2.2.2.2.2.2.2.2.2.2
    clear I
    subst e1 e2 e3 e4 e5 e6 e7 e8 e9
    exact h cap hor c f_verdict f_errorNode f_outputs f_late f_codeLen f_openGuard f_guardClock f_memCount f_presence f_tickCount f_digestValue f_hasSnapshot f_savedPresence f_savedTicks f_savedDigest a_kinds a_opA a_opB a_opC a_parent a_facts a_clocks a_needs a_reach a_order a_levels a_codeOp a_codeDst a_codeX a_codeY a_codeZ a_memSlot a_memInit a_mem a_latched a_vals a_savedMem a_savedLatched a_savedVals g_ticks g_saved g_savedTicks b_op b_out b_fact b_clock b_reach b_late b_depth b_latched b_there b_val b_savedLatched b_savedThere b_savedVal hB hA
theorem rl_Pg {c cap : Nat} {K A B C : Nat → Int32} (h : sf_Pg c cap K A B C) (hc : cap ≤ 24) : sf_Pg c 24 K A B C := by
  intro i hi
  refine ⟨(h i hi).1, fun w hw => ⟨fun hr => ?_, ((h i hi).2 w hw).2⟩⟩
  obtain ⟨t, ht, e⟩ := ((h i hi).2 w hw).1 hr
  exact ⟨t, by omega, e⟩
theorem i_vc_count {k : Nat} {u : SX} {v : SY} (I : i_Rel k u v) (hk : k + 5 ≤ 2562) : wpX_count (fun r => wpY_count (fun r' => r' = r ∧ i_Rel (k + 5) u v) v) u := by
  refine rl_el (P := fun u v => wpX_count (fun r => wpY_count (fun r' => r' = r ∧ i_Rel (k + 5) u v) v) u) I ?_
  intro cap hor c f_verdict f_errorNode f_outputs f_late f_codeLen f_openGuard f_guardClock f_memCount f_presence f_tickCount f_digestValue f_hasSnapshot f_savedPresence f_savedTicks f_savedDigest a_kinds a_opA a_opB a_opC a_parent a_facts a_clocks a_needs a_reach a_order a_levels a_codeOp a_codeDst a_codeX a_codeY a_codeZ a_memSlot a_memInit a_mem a_latched a_vals a_savedMem a_savedLatched a_savedVals g_ticks g_saved g_savedTicks b_op b_out b_fact b_clock b_reach b_late b_depth b_latched b_there b_val b_savedLatched b_savedThere b_savedVal hB hA
  exact And.intro rfl (rl_mk hB hA)
theorem i_vc_verdict {k : Nat} {u : SX} {v : SY} (I : i_Rel k u v) (hk : k + 5 ≤ 2562) : wpX_verdict (fun r => wpY_verdict (fun r' => r' = r ∧ i_Rel (k + 5) u v) v) u := by
  refine rl_el (P := fun u v => wpX_verdict (fun r => wpY_verdict (fun r' => r' = r ∧ i_Rel (k + 5) u v) v) u) I ?_
  intro cap hor c f_verdict f_errorNode f_outputs f_late f_codeLen f_openGuard f_guardClock f_memCount f_presence f_tickCount f_digestValue f_hasSnapshot f_savedPresence f_savedTicks f_savedDigest a_kinds a_opA a_opB a_opC a_parent a_facts a_clocks a_needs a_reach a_order a_levels a_codeOp a_codeDst a_codeX a_codeY a_codeZ a_memSlot a_memInit a_mem a_latched a_vals a_savedMem a_savedLatched a_savedVals g_ticks g_saved g_savedTicks b_op b_out b_fact b_clock b_reach b_late b_depth b_latched b_there b_val b_savedLatched b_savedThere b_savedVal hB hA
  exact And.intro rfl (rl_mk hB hA)
theorem i_vc_errorNode {k : Nat} {u : SX} {v : SY} (I : i_Rel k u v) (hk : k + 5 ≤ 2562) : wpX_errorNode (fun r => wpY_errorNode (fun r' => r' = r ∧ i_Rel (k + 5) u v) v) u := by
  refine rl_el (P := fun u v => wpX_errorNode (fun r => wpY_errorNode (fun r' => r' = r ∧ i_Rel (k + 5) u v) v) u) I ?_
  intro cap hor c f_verdict f_errorNode f_outputs f_late f_codeLen f_openGuard f_guardClock f_memCount f_presence f_tickCount f_digestValue f_hasSnapshot f_savedPresence f_savedTicks f_savedDigest a_kinds a_opA a_opB a_opC a_parent a_facts a_clocks a_needs a_reach a_order a_levels a_codeOp a_codeDst a_codeX a_codeY a_codeZ a_memSlot a_memInit a_mem a_latched a_vals a_savedMem a_savedLatched a_savedVals g_ticks g_saved g_savedTicks b_op b_out b_fact b_clock b_reach b_late b_depth b_latched b_there b_val b_savedLatched b_savedThere b_savedVal hB hA
  exact And.intro rfl (rl_mk hB hA)
end
section
/-! getters -/
theorem sf_ndc (x : Int32) {c : Nat} (hc : c ≤ 24) : (x < 0 ∨ nI c ≤ x) ∨ ∃ i, i < c ∧ x = nI i := by
  rcases pk_ix x (n := c) (by omega) with h | h | h
  · exact Or.inl (Or.inl h)
  · exact Or.inl (Or.inr h)
  · exact Or.inr h
theorem sf_ndx {x : Int32} {c i : Nat} (hc : c ≤ 24) (h : x < 0 ∨ nI c ≤ x) (hi : i < c) (e : x = nI i) : False := by
  rcases h with h | h
  · rw [e] at h; exact sf_npos (by omega) h
  · rw [e] at h; exact sf_nle hi (by omega) h
section
variable {f_capacity f_horizon f_count f_verdict f_errorNode f_outputs f_late f_codeLen f_openGuard f_guardClock f_memCount f_presence f_tickCount f_digestValue f_hasSnapshot f_savedPresence f_savedTicks f_savedDigest : Int32} {a_kinds a_opA a_opB a_opC a_parent a_facts a_clocks a_needs a_reach a_order a_levels a_codeOp a_codeDst a_codeX a_codeY a_codeZ a_memSlot a_memInit a_mem a_latched a_vals a_savedMem a_savedLatched a_savedVals : Nat → Int32}
theorem xs_nN {c : Nat} {x : Int32} {post : Int32 → Prop} (hc : c ≤ 24) (h : x < 0 ∨ nI c ≤ x) (p : post 0) : wpX_isNode post (f_capacity, f_horizon, nI c, f_verdict, f_errorNode, f_outputs, f_late, f_codeLen, f_openGuard, f_guardClock, f_memCount, f_presence, f_tickCount, f_digestValue, f_hasSnapshot, f_savedPresence, f_savedTicks, f_savedDigest, a_kinds, a_opA, a_opB, a_opC, a_parent, a_facts, a_clocks, a_needs, a_reach, a_order, a_levels, a_codeOp, a_codeDst, a_codeX, a_codeY, a_codeZ, a_memSlot, a_memInit, a_mem, a_latched, a_vals, a_savedMem, a_savedLatched, a_savedVals) x := xs_node hc (fun _ => p) (fun _ hi e => (sf_ndx hc h hi e).elim)
theorem xs_nY {c i : Nat} {post : Int32 → Prop} (hc : c ≤ 24) (hi : i < c) (p : post 1) : wpX_isNode post (f_capacity, f_horizon, nI c, f_verdict, f_errorNode, f_outputs, f_late, f_codeLen, f_openGuard, f_guardClock, f_memCount, f_presence, f_tickCount, f_digestValue, f_hasSnapshot, f_savedPresence, f_savedTicks, f_savedDigest, a_kinds, a_opA, a_opB, a_opC, a_parent, a_facts, a_clocks, a_needs, a_reach, a_order, a_levels, a_codeOp, a_codeDst, a_codeX, a_codeY, a_codeZ, a_memSlot, a_memInit, a_mem, a_latched, a_vals, a_savedMem, a_savedLatched, a_savedVals) (nI i) := xs_node hc (fun h => (sf_ndx hc h hi rfl).elim) (fun _ _ _ => p)
end
section
variable {g_capacity g_horizon g_count g_verdict g_errorNode g_ticks g_saved g_savedTicks : Int32} {b_kind b_op b_out b_fact b_clock b_reach b_late b_depth b_latched b_there b_val b_savedLatched b_savedThere b_savedVal : Nat → Int32}
theorem ys_nN {c : Nat} {x : Int32} {post : Int32 → Prop} (hc : c ≤ 24) (h : x < 0 ∨ nI c ≤ x) (p : post 0) : wpY_isNode post (g_capacity, g_horizon, nI c, g_verdict, g_errorNode, g_ticks, g_saved, g_savedTicks, b_kind, b_op, b_out, b_fact, b_clock, b_reach, b_late, b_depth, b_latched, b_there, b_val, b_savedLatched, b_savedThere, b_savedVal) x := ys_node hc (fun _ => p) (fun _ hi e => (sf_ndx hc h hi e).elim)
theorem ys_nY {c i : Nat} {post : Int32 → Prop} (hc : c ≤ 24) (hi : i < c) (p : post 1) : wpY_isNode post (g_capacity, g_horizon, nI c, g_verdict, g_errorNode, g_ticks, g_saved, g_savedTicks, b_kind, b_op, b_out, b_fact, b_clock, b_reach, b_late, b_depth, b_latched, b_there, b_val, b_savedLatched, b_savedThere, b_savedVal) (nI i) := ys_node hc (fun h => (sf_ndx hc h hi rfl).elim) (fun _ _ _ => p)
end
theorem i_vc_field {k : Nat} {u : SX} {v : SY} (I : i_Rel k u v) (hk : k + 5 ≤ 2562) (v1 : Int32) (v2 : Int32) : wpX_field (fun r => wpY_field (fun r' => r' = r ∧ i_Rel (k + 5) u v) v v1 v2) u v1 v2 := by
  refine rl_el (P := fun u v => wpX_field (fun r => wpY_field (fun r' => r' = r ∧ i_Rel (k + 5) u v) v v1 v2) u v1 v2) I ?_
  intro cap hor c f_verdict f_errorNode f_outputs f_late f_codeLen f_openGuard f_guardClock f_memCount f_presence f_tickCount f_digestValue f_hasSnapshot f_savedPresence f_savedTicks f_savedDigest a_kinds a_opA a_opB a_opC a_parent a_facts a_clocks a_needs a_reach a_order a_levels a_codeOp a_codeDst a_codeX a_codeY a_codeZ a_memSlot a_memInit a_mem a_latched a_vals a_savedMem a_savedLatched a_savedVals g_ticks g_saved g_savedTicks b_op b_out b_fact b_clock b_reach b_late b_depth b_latched b_there b_val b_savedLatched b_savedThere b_savedVal hB hA
  have fin : i_Rel (k + 5) (nI cap, nI hor, nI c, f_verdict, f_errorNode, f_outputs, f_late, f_codeLen, f_openGuard, f_guardClock, f_memCount, f_presence, f_tickCount, f_digestValue, f_hasSnapshot, f_savedPresence, f_savedTicks, f_savedDigest, a_kinds, a_opA, a_opB, a_opC, a_parent, a_facts, a_clocks, a_needs, a_reach, a_order, a_levels, a_codeOp, a_codeDst, a_codeX, a_codeY, a_codeZ, a_memSlot, a_memInit, a_mem, a_latched, a_vals, a_savedMem, a_savedLatched, a_savedVals) (nI cap, nI hor, nI c, f_verdict, f_errorNode, g_ticks, g_saved, g_savedTicks, a_kinds, b_op, b_out, b_fact, b_clock, b_reach, b_late, b_depth, b_latched, b_there, b_val, b_savedLatched, b_savedThere, b_savedVal) := rl_mk hB hA
  generalize i_Rel (k + 5) (nI cap, nI hor, nI c, f_verdict, f_errorNode, f_outputs, f_late, f_codeLen, f_openGuard, f_guardClock, f_memCount, f_presence, f_tickCount, f_digestValue, f_hasSnapshot, f_savedPresence, f_savedTicks, f_savedDigest, a_kinds, a_opA, a_opB, a_opC, a_parent, a_facts, a_clocks, a_needs, a_reach, a_order, a_levels, a_codeOp, a_codeDst, a_codeX, a_codeY, a_codeZ, a_memSlot, a_memInit, a_mem, a_latched, a_vals, a_savedMem, a_savedLatched, a_savedVals) (nI cap, nI hor, nI c, f_verdict, f_errorNode, g_ticks, g_saved, g_savedTicks, a_kinds, b_op, b_out, b_fact, b_clock, b_reach, b_late, b_depth, b_latched, b_there, b_val, b_savedLatched, b_savedThere, b_savedVal) = Q at fin ⊢
  obtain ⟨hcap, hhor, hcc, hP, hO, hout, hob⟩ := hB
  unfold wpX_field wpY_field
  dsimp only
  rcases sf_ndc v1 (c := c) (by omega) with h | ⟨i, hi, rfl⟩
  · exact xs_nN (by omega) h (br_t rfl (ys_nN (by omega) h (br_t rfl ⟨rfl, fin⟩)))
  · refine xs_nY (by omega) hi (br_f (by decide) ?_)
    by_cases h0 : v2 < 0
    · exact br_t h0 (ys_nY (by omega) hi (br_f (by decide) (br_t h0 ⟨rfl, fin⟩)))
    · refine br_f h0 ?_
      by_cases h4 : v2 ≤ 4
      · obtain ⟨w, hw, rfl⟩ := nI_of2 (x := v2) (M := 4) (n := 4) (by decide) h0 h4
        refine br_t h4 ?_
        have hin : vp_in (nI i) 24 := sf_in (by omega) (by omega)
        have hcl : (nI i).toNatClampNeg = i := sf_cl (by omega)
        rcases (by omega : w = 0 ∨ w = 4 ∨ (1 ≤ w ∧ w ≤ 3)) with rfl | rfl | hW
        · refine br_t rfl (And.intro hin ?_)
          exact ys_nY (by omega) hi (br_f (by decide) (br_f h0 (br_t h4 (br_t rfl (And.intro hin ⟨rfl, fin⟩)))))
        · refine br_f (by decide) (br_t rfl ?_)
          rw [sf_tv _ (by omega)]
          refine ys_nY (by omega) hi (br_f (by decide) (br_f h0 (br_t h4 (br_f (by decide) (br_t rfl (And.intro hin ?_))))))
          rw [hcl]
          by_cases e : b_out i = 0
          · exact br_t e ⟨by rw [if_neg (fun z => (hout i hi).mpr z e)], fin⟩
          · exact br_f e ⟨by rw [if_pos ((hout i hi).mp e)], fin⟩
        · have n0 : ¬ nI w = 0 := nI_ne0 (by omega) (by omega)
          have n4 : ¬ nI w = 4 := fun z => absurd (sf_ninj (b := 4) (by omega) (by omega) z) (by omega)
          refine br_f n0 (br_f n4 (xs_opd (by omega) hW ?_))
          refine ys_nY (by omega) hi (br_f (by decide) (br_f h0 (br_t h4 (br_f n0 (br_f n4 ?_)))))
          rw [sf_ix3 hW.1, sf_cl (n := i * 3 + w - 1) (by omega), sf_Op_w hO (by omega) hW]
          exact And.intro (sf_in (by omega) (by omega)) ⟨rfl, fin⟩
      · exact br_f h4 (ys_nY (by omega) hi (br_f (by decide) (br_f h0 (br_f h4 ⟨rfl, fin⟩))))
theorem i_vc_clockOf {k : Nat} {u : SX} {v : SY} (I : i_Rel k u v) (hk : k + 5 ≤ 2562) (v1 : Int32) : wpX_clockOf (fun r => wpY_clockOf (fun r' => r' = r ∧ i_Rel (k + 5) u v) v v1) u v1 := by
  refine rl_el (P := fun u v => wpX_clockOf (fun r => wpY_clockOf (fun r' => r' = r ∧ i_Rel (k + 5) u v) v v1) u v1) I ?_
  intro cap hor c f_verdict f_errorNode f_outputs f_late f_codeLen f_openGuard f_guardClock f_memCount f_presence f_tickCount f_digestValue f_hasSnapshot f_savedPresence f_savedTicks f_savedDigest a_kinds a_opA a_opB a_opC a_parent a_facts a_clocks a_needs a_reach a_order a_levels a_codeOp a_codeDst a_codeX a_codeY a_codeZ a_memSlot a_memInit a_mem a_latched a_vals a_savedMem a_savedLatched a_savedVals g_ticks g_saved g_savedTicks b_op b_out b_fact b_clock b_reach b_late b_depth b_latched b_there b_val b_savedLatched b_savedThere b_savedVal hB hA
  have fin : i_Rel (k + 5) (nI cap, nI hor, nI c, f_verdict, f_errorNode, f_outputs, f_late, f_codeLen, f_openGuard, f_guardClock, f_memCount, f_presence, f_tickCount, f_digestValue, f_hasSnapshot, f_savedPresence, f_savedTicks, f_savedDigest, a_kinds, a_opA, a_opB, a_opC, a_parent, a_facts, a_clocks, a_needs, a_reach, a_order, a_levels, a_codeOp, a_codeDst, a_codeX, a_codeY, a_codeZ, a_memSlot, a_memInit, a_mem, a_latched, a_vals, a_savedMem, a_savedLatched, a_savedVals) (nI cap, nI hor, nI c, f_verdict, f_errorNode, g_ticks, g_saved, g_savedTicks, a_kinds, b_op, b_out, b_fact, b_clock, b_reach, b_late, b_depth, b_latched, b_there, b_val, b_savedLatched, b_savedThere, b_savedVal) := rl_mk hB hA
  generalize i_Rel (k + 5) (nI cap, nI hor, nI c, f_verdict, f_errorNode, f_outputs, f_late, f_codeLen, f_openGuard, f_guardClock, f_memCount, f_presence, f_tickCount, f_digestValue, f_hasSnapshot, f_savedPresence, f_savedTicks, f_savedDigest, a_kinds, a_opA, a_opB, a_opC, a_parent, a_facts, a_clocks, a_needs, a_reach, a_order, a_levels, a_codeOp, a_codeDst, a_codeX, a_codeY, a_codeZ, a_memSlot, a_memInit, a_mem, a_latched, a_vals, a_savedMem, a_savedLatched, a_savedVals) (nI cap, nI hor, nI c, f_verdict, f_errorNode, g_ticks, g_saved, g_savedTicks, a_kinds, b_op, b_out, b_fact, b_clock, b_reach, b_late, b_depth, b_latched, b_there, b_val, b_savedLatched, b_savedThere, b_savedVal) = Q at fin ⊢
  obtain ⟨hcap, hhor, hcc, hP, hO, hout, hob⟩ := hB
  unfold wpX_clockOf wpY_clockOf
  dsimp only
  by_cases hv : f_verdict = 1
  · refine xs_acc (fun _ => br_f (by decide) ?_) (fun z => absurd hv z)
    rcases sf_ndc v1 (c := c) (by omega) with h | ⟨i, hi, rfl⟩
    · exact xs_nN (by omega) h (br_t rfl (br_t hv (ys_nN (by omega) h (br_t rfl ⟨rfl, fin⟩))))
    · have hin : vp_in (nI i) 24 := sf_in (by omega) (by omega)
      have hcl : (nI i).toNatClampNeg = i := sf_cl (by omega)
      refine xs_nY (by omega) hi (br_f (by decide) (And.intro hin ?_))
      refine br_t hv (ys_nY (by omega) hi (br_f (by decide) (And.intro hin ⟨?_, fin⟩)))
      rw [hcl]
      exact (hA hv).1.2.2.1 i hi
  · exact xs_acc (fun z => absurd z hv) (fun _ => br_t rfl (br_f hv ⟨rfl, fin⟩))
theorem i_vc_inputOf {k : Nat} {u : SX} {v : SY} (I : i_Rel k u v) (hk : k + 5 ≤ 2562) (v1 : Int32) : wpX_inputOf (fun r => wpY_inputOf (fun r' => r' = r ∧ i_Rel (k + 5) u v) v v1) u v1 := by
  refine rl_el (P := fun u v => wpX_inputOf (fun r => wpY_inputOf (fun r' => r' = r ∧ i_Rel (k + 5) u v) v v1) u v1) I ?_
  intro cap hor c f_verdict f_errorNode f_outputs f_late f_codeLen f_openGuard f_guardClock f_memCount f_presence f_tickCount f_digestValue f_hasSnapshot f_savedPresence f_savedTicks f_savedDigest a_kinds a_opA a_opB a_opC a_parent a_facts a_clocks a_needs a_reach a_order a_levels a_codeOp a_codeDst a_codeX a_codeY a_codeZ a_memSlot a_memInit a_mem a_latched a_vals a_savedMem a_savedLatched a_savedVals g_ticks g_saved g_savedTicks b_op b_out b_fact b_clock b_reach b_late b_depth b_latched b_there b_val b_savedLatched b_savedThere b_savedVal hB hA
  have fin : i_Rel (k + 5) (nI cap, nI hor, nI c, f_verdict, f_errorNode, f_outputs, f_late, f_codeLen, f_openGuard, f_guardClock, f_memCount, f_presence, f_tickCount, f_digestValue, f_hasSnapshot, f_savedPresence, f_savedTicks, f_savedDigest, a_kinds, a_opA, a_opB, a_opC, a_parent, a_facts, a_clocks, a_needs, a_reach, a_order, a_levels, a_codeOp, a_codeDst, a_codeX, a_codeY, a_codeZ, a_memSlot, a_memInit, a_mem, a_latched, a_vals, a_savedMem, a_savedLatched, a_savedVals) (nI cap, nI hor, nI c, f_verdict, f_errorNode, g_ticks, g_saved, g_savedTicks, a_kinds, b_op, b_out, b_fact, b_clock, b_reach, b_late, b_depth, b_latched, b_there, b_val, b_savedLatched, b_savedThere, b_savedVal) := rl_mk hB hA
  generalize i_Rel (k + 5) (nI cap, nI hor, nI c, f_verdict, f_errorNode, f_outputs, f_late, f_codeLen, f_openGuard, f_guardClock, f_memCount, f_presence, f_tickCount, f_digestValue, f_hasSnapshot, f_savedPresence, f_savedTicks, f_savedDigest, a_kinds, a_opA, a_opB, a_opC, a_parent, a_facts, a_clocks, a_needs, a_reach, a_order, a_levels, a_codeOp, a_codeDst, a_codeX, a_codeY, a_codeZ, a_memSlot, a_memInit, a_mem, a_latched, a_vals, a_savedMem, a_savedLatched, a_savedVals) (nI cap, nI hor, nI c, f_verdict, f_errorNode, g_ticks, g_saved, g_savedTicks, a_kinds, b_op, b_out, b_fact, b_clock, b_reach, b_late, b_depth, b_latched, b_there, b_val, b_savedLatched, b_savedThere, b_savedVal) = Q at fin ⊢
  obtain ⟨hcap, hhor, hcc, hP, hO, hout, hob⟩ := hB
  unfold wpX_inputOf wpY_inputOf
  dsimp only
  by_cases hv : f_verdict = 1
  · refine xs_acc (fun _ => br_f (by decide) ?_) (fun z => absurd hv z)
    rcases sf_ndc v1 (c := c) (by omega) with h | ⟨i, hi, rfl⟩
    · exact xs_nN (by omega) h (br_t rfl (br_t hv (ys_nN (by omega) h (br_t rfl ⟨rfl, fin⟩))))
    · have hin : vp_in (nI i) 24 := sf_in (by omega) (by omega)
      have hcl : (nI i).toNatClampNeg = i := sf_cl (by omega)
      refine xs_nY (by omega) hi (br_f (by decide) (And.intro hin ?_))
      obtain ⟨_, ⟨t, _, _, _, _, _, _, hlat, _⟩, _⟩ := hA hv
      rw [hcl]
      by_cases h0 : a_kinds i = 0
      · refine br_t h0 (And.intro hin (br_t hv (ys_nY (by omega) hi (br_f (by decide) (And.intro hin ?_)))))
        exact br_t h0 (And.intro hin ⟨hlat i (by omega), fin⟩)
      · refine br_f h0 (br_t hv (ys_nY (by omega) hi (br_f (by decide) (And.intro hin ?_))))
        exact br_f h0 ⟨rfl, fin⟩
  · exact xs_acc (fun z => absurd z hv) (fun _ => br_t rfl (br_f hv ⟨rfl, fin⟩))
theorem i_vc_ticks {k : Nat} {u : SX} {v : SY} (I : i_Rel k u v) (hk : k + 5 ≤ 2562) : wpX_ticks (fun r => wpY_ticks (fun r' => r' = r ∧ i_Rel (k + 5) u v) v) u := by
  refine rl_el (P := fun u v => wpX_ticks (fun r => wpY_ticks (fun r' => r' = r ∧ i_Rel (k + 5) u v) v) u) I ?_
  intro cap hor c f_verdict f_errorNode f_outputs f_late f_codeLen f_openGuard f_guardClock f_memCount f_presence f_tickCount f_digestValue f_hasSnapshot f_savedPresence f_savedTicks f_savedDigest a_kinds a_opA a_opB a_opC a_parent a_facts a_clocks a_needs a_reach a_order a_levels a_codeOp a_codeDst a_codeX a_codeY a_codeZ a_memSlot a_memInit a_mem a_latched a_vals a_savedMem a_savedLatched a_savedVals g_ticks g_saved g_savedTicks b_op b_out b_fact b_clock b_reach b_late b_depth b_latched b_there b_val b_savedLatched b_savedThere b_savedVal hB hA
  have fin : i_Rel (k + 5) (nI cap, nI hor, nI c, f_verdict, f_errorNode, f_outputs, f_late, f_codeLen, f_openGuard, f_guardClock, f_memCount, f_presence, f_tickCount, f_digestValue, f_hasSnapshot, f_savedPresence, f_savedTicks, f_savedDigest, a_kinds, a_opA, a_opB, a_opC, a_parent, a_facts, a_clocks, a_needs, a_reach, a_order, a_levels, a_codeOp, a_codeDst, a_codeX, a_codeY, a_codeZ, a_memSlot, a_memInit, a_mem, a_latched, a_vals, a_savedMem, a_savedLatched, a_savedVals) (nI cap, nI hor, nI c, f_verdict, f_errorNode, g_ticks, g_saved, g_savedTicks, a_kinds, b_op, b_out, b_fact, b_clock, b_reach, b_late, b_depth, b_latched, b_there, b_val, b_savedLatched, b_savedThere, b_savedVal) := rl_mk hB hA
  generalize i_Rel (k + 5) (nI cap, nI hor, nI c, f_verdict, f_errorNode, f_outputs, f_late, f_codeLen, f_openGuard, f_guardClock, f_memCount, f_presence, f_tickCount, f_digestValue, f_hasSnapshot, f_savedPresence, f_savedTicks, f_savedDigest, a_kinds, a_opA, a_opB, a_opC, a_parent, a_facts, a_clocks, a_needs, a_reach, a_order, a_levels, a_codeOp, a_codeDst, a_codeX, a_codeY, a_codeZ, a_memSlot, a_memInit, a_mem, a_latched, a_vals, a_savedMem, a_savedLatched, a_savedVals) (nI cap, nI hor, nI c, f_verdict, f_errorNode, g_ticks, g_saved, g_savedTicks, a_kinds, b_op, b_out, b_fact, b_clock, b_reach, b_late, b_depth, b_latched, b_there, b_val, b_savedLatched, b_savedThere, b_savedVal) = Q at fin ⊢
  unfold wpX_ticks wpY_ticks
  dsimp only
  by_cases hv : f_verdict = 1
  · obtain ⟨_, ⟨t, e1, e2, _⟩, _⟩ := hA hv
    exact xs_acc (fun _ => br_f (by decide) (br_t hv ⟨e2.trans e1.symm, fin⟩)) (fun z => absurd hv z)
  · exact xs_acc (fun z => absurd z hv) (fun _ => br_t rfl (br_f hv ⟨rfl, fin⟩))
theorem rl_pres {cap hor c : Nat} {f_verdict f_errorNode f_outputs f_late f_codeLen f_openGuard f_guardClock f_memCount f_presence f_tickCount f_digestValue f_hasSnapshot f_savedPresence f_savedTicks f_savedDigest : Int32} {a_kinds a_opA a_opB a_opC a_parent a_facts a_clocks a_needs a_reach a_order a_levels a_codeOp a_codeDst a_codeX a_codeY a_codeZ a_memSlot a_memInit a_mem a_latched a_vals a_savedMem a_savedLatched a_savedVals : Nat → Int32} {g_ticks g_saved g_savedTicks : Int32} {b_op b_out b_fact b_clock b_reach b_late b_depth b_latched b_there b_val b_savedLatched b_savedThere b_savedVal : Nat → Int32} (v1 : Int32) (hB : rl_B cap hor c f_outputs a_kinds a_opA a_opB a_opC b_op b_out) (hA : f_verdict = 1 → rl_T c hor a_kinds a_opA a_opB a_opC a_memSlot b_out f_tickCount g_ticks f_presence f_digestValue a_latched a_mem a_vals b_latched b_there b_val) :
    ∃ r, (∀ post : Int32 → Prop, post r → wpX_present post (nI cap, nI hor, nI c, f_verdict, f_errorNode, f_outputs, f_late, f_codeLen, f_openGuard, f_guardClock, f_memCount, f_presence, f_tickCount, f_digestValue, f_hasSnapshot, f_savedPresence, f_savedTicks, f_savedDigest, a_kinds, a_opA, a_opB, a_opC, a_parent, a_facts, a_clocks, a_needs, a_reach, a_order, a_levels, a_codeOp, a_codeDst, a_codeX, a_codeY, a_codeZ, a_memSlot, a_memInit, a_mem, a_latched, a_vals, a_savedMem, a_savedLatched, a_savedVals) v1) ∧ (∀ post : Int32 → Prop, post r → wpY_present post (nI cap, nI hor, nI c, f_verdict, f_errorNode, g_ticks, g_saved, g_savedTicks, a_kinds, b_op, b_out, b_fact, b_clock, b_reach, b_late, b_depth, b_latched, b_there, b_val, b_savedLatched, b_savedThere, b_savedVal) v1) ∧
      (r = 1 → ∃ i t, i < c ∧ t < 250 ∧ v1 = nI i ∧ g_ticks = nI (t + 1) ∧ a_vals i = b_val (t * 24 + i)) := by
  obtain ⟨hcap, hhor, hcc, hP, hO, hout, hob⟩ := hB
  unfold wpX_present wpY_present
  dsimp only
  by_cases hv : f_verdict = 1
  · obtain ⟨t, e1, e2, ht, _, hpv, _⟩ := hA hv
    rcases sf_ndc v1 (c := c) (by omega) with h | ⟨i, hi, rfl⟩
    · exact ⟨-11, fun post hp => xs_acc (fun _ => br_f (by decide) (xs_nN (by omega) h (br_t rfl hp))) (fun z => absurd hv z), fun post hp => br_t hv (ys_nN (by omega) h (br_t rfl hp)), fun z => absurd z (by decide)⟩
    · have hin : vp_in (nI i) 24 := sf_in (by omega) (by omega)
      have hcl : (nI i).toNatClampNeg = i := sf_cl (by omega)
      by_cases ho : bt f_outputs i = true
      · have ho' := (hout i hi).mpr ho
        by_cases h0 : t = 0
        · subst h0
          refine ⟨-17, fun post hp => xs_acc (fun _ => br_f (by decide) (xs_nY (by omega) hi (br_f (by decide) ?_))) (fun z => absurd hv z), fun post hp => br_t hv (ys_nY (by omega) hi (br_f (by decide) (And.intro hin ?_))), fun z => absurd z (by decide)⟩
          · exact br_f (sf_t1 (by omega) ho) (br_t e1 hp)
          · rw [hcl]; exact br_f ho' (br_t e2 hp)
        · obtain ⟨s, rfl⟩ : ∃ s, t = s + 1 := ⟨t - 1, by omega⟩
          obtain ⟨hp1, hp2⟩ := hpv (by omega) i hi
          have es : s + 1 - 1 = s := by omega
          rw [es] at hp1 hp2
          refine ⟨if bt f_presence i = true then 1 else 0, fun post hp => xs_acc (fun _ => br_f (by decide) (xs_nY (by omega) hi (br_f (by decide) ?_))) (fun z => absurd hv z), fun post hp => br_t hv (ys_nY (by omega) hi (br_f (by decide) (And.intro hin ?_))), fun z => ?_⟩
          · refine br_f (sf_t1 (by omega) ho) (br_f (by rw [e1]; exact nI_ne0 (by omega) (by omega)) ?_)
            rw [sf_tv _ (by omega)]; exact hp
          · rw [hcl]
            refine br_f ho' (br_f (by rw [e2]; exact nI_ne0 (by omega) (by omega)) ?_)
            rw [e2, nI_pred, sf_i24, sf_cl (n := s * 24 + i) (by omega)]
            refine And.intro (sf_in (by omega) (by omega)) ?_
            by_cases e : b_there (s * 24 + i) = 0
            · rw [if_neg (fun z => hp1.mp z e)] at hp; exact br_t e hp
            · rw [if_pos (hp1.mpr e)] at hp; exact br_f e hp
          · have hb : bt f_presence i = true := Classical.byContradiction fun y => by rw [if_neg y] at z; exact absurd z (by decide)
            exact ⟨i, s, hi, by omega, rfl, e2, hp2 hb⟩
      · have ho' : b_out i = 0 := Classical.byContradiction fun z => ho ((hout i hi).mp z)
        refine ⟨-16, fun post hp => xs_acc (fun _ => br_f (by decide) (xs_nY (by omega) hi (br_f (by decide) ?_))) (fun z => absurd hv z), fun post hp => br_t hv (ys_nY (by omega) hi (br_f (by decide) (And.intro hin ?_))), fun z => absurd z (by decide)⟩
        · exact br_t (sf_t0 (by omega) ho) hp
        · rw [hcl]; exact br_t ho' hp
  · exact ⟨-12, fun post hp => xs_acc (fun z => absurd z hv) (fun _ => br_t rfl hp), fun post hp => br_f hv hp, fun z => absurd z (by decide)⟩
theorem i_vc_present {k : Nat} {u : SX} {v : SY} (I : i_Rel k u v) (hk : k + 5 ≤ 2562) (v1 : Int32) : wpX_present (fun r => wpY_present (fun r' => r' = r ∧ i_Rel (k + 5) u v) v v1) u v1 := by
  refine rl_el (P := fun u v => wpX_present (fun r => wpY_present (fun r' => r' = r ∧ i_Rel (k + 5) u v) v v1) u v1) I ?_
  intro cap hor c f_verdict f_errorNode f_outputs f_late f_codeLen f_openGuard f_guardClock f_memCount f_presence f_tickCount f_digestValue f_hasSnapshot f_savedPresence f_savedTicks f_savedDigest a_kinds a_opA a_opB a_opC a_parent a_facts a_clocks a_needs a_reach a_order a_levels a_codeOp a_codeDst a_codeX a_codeY a_codeZ a_memSlot a_memInit a_mem a_latched a_vals a_savedMem a_savedLatched a_savedVals g_ticks g_saved g_savedTicks b_op b_out b_fact b_clock b_reach b_late b_depth b_latched b_there b_val b_savedLatched b_savedThere b_savedVal hB hA
  have fin : i_Rel (k + 5) (nI cap, nI hor, nI c, f_verdict, f_errorNode, f_outputs, f_late, f_codeLen, f_openGuard, f_guardClock, f_memCount, f_presence, f_tickCount, f_digestValue, f_hasSnapshot, f_savedPresence, f_savedTicks, f_savedDigest, a_kinds, a_opA, a_opB, a_opC, a_parent, a_facts, a_clocks, a_needs, a_reach, a_order, a_levels, a_codeOp, a_codeDst, a_codeX, a_codeY, a_codeZ, a_memSlot, a_memInit, a_mem, a_latched, a_vals, a_savedMem, a_savedLatched, a_savedVals) (nI cap, nI hor, nI c, f_verdict, f_errorNode, g_ticks, g_saved, g_savedTicks, a_kinds, b_op, b_out, b_fact, b_clock, b_reach, b_late, b_depth, b_latched, b_there, b_val, b_savedLatched, b_savedThere, b_savedVal) := rl_mk hB hA
  generalize i_Rel (k + 5) (nI cap, nI hor, nI c, f_verdict, f_errorNode, f_outputs, f_late, f_codeLen, f_openGuard, f_guardClock, f_memCount, f_presence, f_tickCount, f_digestValue, f_hasSnapshot, f_savedPresence, f_savedTicks, f_savedDigest, a_kinds, a_opA, a_opB, a_opC, a_parent, a_facts, a_clocks, a_needs, a_reach, a_order, a_levels, a_codeOp, a_codeDst, a_codeX, a_codeY, a_codeZ, a_memSlot, a_memInit, a_mem, a_latched, a_vals, a_savedMem, a_savedLatched, a_savedVals) (nI cap, nI hor, nI c, f_verdict, f_errorNode, g_ticks, g_saved, g_savedTicks, a_kinds, b_op, b_out, b_fact, b_clock, b_reach, b_late, b_depth, b_latched, b_there, b_val, b_savedLatched, b_savedThere, b_savedVal) = Q at fin ⊢
  obtain ⟨r, hX, hY, _⟩ := rl_pres v1 hB (fun z => (hA z).2.1)
  exact hX _ (hY _ ⟨rfl, fin⟩)
theorem i_vc_value {k : Nat} {u : SX} {v : SY} (I : i_Rel k u v) (hk : k + 5 ≤ 2562) (v1 : Int32) : wpX_value (fun r => wpY_value (fun r' => r' = r ∧ i_Rel (k + 5) u v) v v1) u v1 := by
  refine rl_el (P := fun u v => wpX_value (fun r => wpY_value (fun r' => r' = r ∧ i_Rel (k + 5) u v) v v1) u v1) I ?_
  intro cap hor c f_verdict f_errorNode f_outputs f_late f_codeLen f_openGuard f_guardClock f_memCount f_presence f_tickCount f_digestValue f_hasSnapshot f_savedPresence f_savedTicks f_savedDigest a_kinds a_opA a_opB a_opC a_parent a_facts a_clocks a_needs a_reach a_order a_levels a_codeOp a_codeDst a_codeX a_codeY a_codeZ a_memSlot a_memInit a_mem a_latched a_vals a_savedMem a_savedLatched a_savedVals g_ticks g_saved g_savedTicks b_op b_out b_fact b_clock b_reach b_late b_depth b_latched b_there b_val b_savedLatched b_savedThere b_savedVal hB hA
  have fin : i_Rel (k + 5) (nI cap, nI hor, nI c, f_verdict, f_errorNode, f_outputs, f_late, f_codeLen, f_openGuard, f_guardClock, f_memCount, f_presence, f_tickCount, f_digestValue, f_hasSnapshot, f_savedPresence, f_savedTicks, f_savedDigest, a_kinds, a_opA, a_opB, a_opC, a_parent, a_facts, a_clocks, a_needs, a_reach, a_order, a_levels, a_codeOp, a_codeDst, a_codeX, a_codeY, a_codeZ, a_memSlot, a_memInit, a_mem, a_latched, a_vals, a_savedMem, a_savedLatched, a_savedVals) (nI cap, nI hor, nI c, f_verdict, f_errorNode, g_ticks, g_saved, g_savedTicks, a_kinds, b_op, b_out, b_fact, b_clock, b_reach, b_late, b_depth, b_latched, b_there, b_val, b_savedLatched, b_savedThere, b_savedVal) := rl_mk hB hA
  generalize i_Rel (k + 5) (nI cap, nI hor, nI c, f_verdict, f_errorNode, f_outputs, f_late, f_codeLen, f_openGuard, f_guardClock, f_memCount, f_presence, f_tickCount, f_digestValue, f_hasSnapshot, f_savedPresence, f_savedTicks, f_savedDigest, a_kinds, a_opA, a_opB, a_opC, a_parent, a_facts, a_clocks, a_needs, a_reach, a_order, a_levels, a_codeOp, a_codeDst, a_codeX, a_codeY, a_codeZ, a_memSlot, a_memInit, a_mem, a_latched, a_vals, a_savedMem, a_savedLatched, a_savedVals) (nI cap, nI hor, nI c, f_verdict, f_errorNode, g_ticks, g_saved, g_savedTicks, a_kinds, b_op, b_out, b_fact, b_clock, b_reach, b_late, b_depth, b_latched, b_there, b_val, b_savedLatched, b_savedThere, b_savedVal) = Q at fin ⊢
  obtain ⟨r, hX, hY, h1⟩ := rl_pres v1 hB (fun z => (hA z).2.1)
  have hc : c ≤ 24 := by have := hB.1; have := hB.2.2.1; omega
  unfold wpX_value wpY_value
  dsimp only
  refine hX _ ?_
  by_cases e : r = 1
  · obtain ⟨i, t, hi, ht, rfl, e2, e3⟩ := h1 e
    refine br_t e (And.intro (sf_in (by omega) (by omega)) (hY _ (br_t e ?_)))
    rw [e2, nI_pred, sf_i24, sf_cl (n := t * 24 + i) (by omega), sf_cl (n := i) (by omega)]
    exact And.intro (sf_in (by omega) (by omega)) ⟨e3.symm, fin⟩
  · exact br_f e (hY _ (br_f e ⟨rfl, fin⟩))
section
variable {g_capacity g_horizon g_count g_verdict g_errorNode g_ticks g_saved g_savedTicks : Int32} {b_kind b_op b_out b_fact b_clock b_reach b_late b_depth b_latched b_there b_val b_savedLatched b_savedThere b_savedVal : Nat → Int32}
theorem yg_80 {c t i : Nat} {d : Int32} {post : Int32 → Prop} {J14 J24 : Int32 → Int32 → Prop} {x2 : Int32} (hi : i < 24) (hO : ¬ b_out i = 0 → b_there (t * 24 + i) = 0) (K : J24 (yd_s b_out b_there b_val t i d) (nI (i + 1))) :
    wY_digest_80 post J14 J24 d x2 (nI i) g_capacity g_horizon (nI c) g_verdict g_errorNode g_ticks g_saved g_savedTicks b_kind b_op b_out b_fact b_clock b_reach b_late b_depth b_latched b_there b_val b_savedLatched b_savedThere b_savedVal := by
  unfold wY_digest_80
  rw [sf_cl (n := i) (by omega)]
  refine And.intro (sf_in (by omega) (by omega)) ?_
  unfold yd_s at K
  by_cases e : b_out i = 0
  · rw [if_pos e] at K; exact br_t e (nm_r (nI_1 i) K)
  · rw [if_neg e, if_pos (hO e)] at K; exact br_f e (nm_e (nm_r (nI_1 i) K))
theorem yg_24 {c t : Nat} {d0 : Int32} {post : Int32 → Prop} {J14 : Int32 → Int32 → Prop} (hc : c ≤ 24) (ht : t < 250) (KJ : J14 (yd_i b_out b_there b_val t d0 c) (nI (t + 1))) :
    ∀ n i, i ≤ c → c - i < n → wY_digest_24 post J14 (nI t) g_capacity g_horizon (nI c) g_verdict g_errorNode g_ticks g_saved g_savedTicks b_kind b_op b_out b_fact b_clock b_reach b_late b_depth b_latched b_there b_val b_savedLatched b_savedThere b_savedVal n (yd_i b_out b_there b_val t d0 i) (nI i) := by
  intro n
  induction n with
  | zero => intro i _ hn; omega
  | succ n ih =>
    intro i hi hn
    rcases Nat.lt_or_ge i c with h | h
    · have hin : vp_in (nI i) 24 := sf_in (by omega) (by omega)
      have go := ih (i + 1) (by omega) (by omega)
      refine br_f (sf_nle h (by omega)) (And.intro hin ?_)
      rw [sf_i24, sf_cl (n := i) (by omega), sf_cl (n := t * 24 + i) (by omega)]
      by_cases e : b_out i = 0
      · exact br_t e (yg_80 (t := t) (by omega) (fun z => absurd e z) go)
      · refine br_f e (And.intro (sf_in (by omega) (by omega)) ?_)
        by_cases e2 : b_there (t * 24 + i) = 0
        · exact br_t e2 (yg_80 (t := t) (by omega) (fun _ => e2) go)
        · refine br_f e2 (And.intro (sf_in (by omega) (by omega)) ?_)
          simp only [yd_i] at go
          unfold yd_s at go
          rw [if_neg e, if_neg e2] at go
          exact nm_e (nm_r (nI_1 i) go)
    · have : i = c := by omega
      subst this
      exact br_t (sf_le (by omega) (by omega)) (nm_r (nI_1 t) KJ)
theorem yg_14 {c t : Nat} {post : Int32 → Prop} (hc : c ≤ 24) (ht : t ≤ 250) (K : post (yd_t b_out b_there b_val c t)) :
    ∀ n s, s ≤ t → t - s < n → wY_digest_14 post g_capacity g_horizon (nI c) g_verdict g_errorNode (nI t) g_saved g_savedTicks b_kind b_op b_out b_fact b_clock b_reach b_late b_depth b_latched b_there b_val b_savedLatched b_savedThere b_savedVal n (yd_t b_out b_there b_val c s) (nI s) := by
  intro n
  induction n with
  | zero => intro s _ hn; omega
  | succ n ih =>
    intro s hs hn
    rcases Nat.lt_or_ge s t with h | h
    · refine br_f (sf_nle h (by omega)) (Exists.intro (c + 1) ?_)
      exact yg_24 (d0 := yd_t b_out b_there b_val c s) hc (by omega) (ih (s + 1) (by omega) (by omega)) (c + 1) 0 (by omega) (by omega)
    · have : s = t := by omega
      subst this
      exact br_t (sf_le (by omega) (by omega)) K
end
theorem i_vc_digest {k : Nat} {u : SX} {v : SY} (I : i_Rel k u v) (hk : k + 5 ≤ 2562) : wpX_digest (fun r => wpY_digest (fun r' => r' = r ∧ i_Rel (k + 5) u v) v) u := by
  refine rl_el (P := fun u v => wpX_digest (fun r => wpY_digest (fun r' => r' = r ∧ i_Rel (k + 5) u v) v) u) I ?_
  intro cap hor c f_verdict f_errorNode f_outputs f_late f_codeLen f_openGuard f_guardClock f_memCount f_presence f_tickCount f_digestValue f_hasSnapshot f_savedPresence f_savedTicks f_savedDigest a_kinds a_opA a_opB a_opC a_parent a_facts a_clocks a_needs a_reach a_order a_levels a_codeOp a_codeDst a_codeX a_codeY a_codeZ a_memSlot a_memInit a_mem a_latched a_vals a_savedMem a_savedLatched a_savedVals g_ticks g_saved g_savedTicks b_op b_out b_fact b_clock b_reach b_late b_depth b_latched b_there b_val b_savedLatched b_savedThere b_savedVal hB hA
  have fin : i_Rel (k + 5) (nI cap, nI hor, nI c, f_verdict, f_errorNode, f_outputs, f_late, f_codeLen, f_openGuard, f_guardClock, f_memCount, f_presence, f_tickCount, f_digestValue, f_hasSnapshot, f_savedPresence, f_savedTicks, f_savedDigest, a_kinds, a_opA, a_opB, a_opC, a_parent, a_facts, a_clocks, a_needs, a_reach, a_order, a_levels, a_codeOp, a_codeDst, a_codeX, a_codeY, a_codeZ, a_memSlot, a_memInit, a_mem, a_latched, a_vals, a_savedMem, a_savedLatched, a_savedVals) (nI cap, nI hor, nI c, f_verdict, f_errorNode, g_ticks, g_saved, g_savedTicks, a_kinds, b_op, b_out, b_fact, b_clock, b_reach, b_late, b_depth, b_latched, b_there, b_val, b_savedLatched, b_savedThere, b_savedVal) := rl_mk hB hA
  generalize i_Rel (k + 5) (nI cap, nI hor, nI c, f_verdict, f_errorNode, f_outputs, f_late, f_codeLen, f_openGuard, f_guardClock, f_memCount, f_presence, f_tickCount, f_digestValue, f_hasSnapshot, f_savedPresence, f_savedTicks, f_savedDigest, a_kinds, a_opA, a_opB, a_opC, a_parent, a_facts, a_clocks, a_needs, a_reach, a_order, a_levels, a_codeOp, a_codeDst, a_codeX, a_codeY, a_codeZ, a_memSlot, a_memInit, a_mem, a_latched, a_vals, a_savedMem, a_savedLatched, a_savedVals) (nI cap, nI hor, nI c, f_verdict, f_errorNode, g_ticks, g_saved, g_savedTicks, a_kinds, b_op, b_out, b_fact, b_clock, b_reach, b_late, b_depth, b_latched, b_there, b_val, b_savedLatched, b_savedThere, b_savedVal) = Q at fin ⊢
  obtain ⟨hcap, hhor, hcc, hP, hO, hout, hob⟩ := hB
  unfold wpX_digest wpY_digest
  dsimp only
  by_cases hv : f_verdict = 1
  · obtain ⟨_, ⟨t, e1, e2, ht, _, _, hd, _⟩, _⟩ := hA hv
    refine xs_acc (fun _ => br_f (by decide) (br_t hv ?_)) (fun z => absurd hv z)
    rw [e2]
    exact Exists.intro (t + 1) (yg_14 (by omega) (by omega) ⟨hd.symm, fin⟩ (t + 1) 0 (by omega) (by omega))
  · exact xs_acc (fun z => absurd z hv) (fun _ => br_t rfl (br_f hv ⟨rfl, fin⟩))
theorem i_vc_level {k : Nat} {u : SX} {v : SY} (I : i_Rel k u v) (hk : k + 5 ≤ 2562) (v1 : Int32) : wpX_level (fun r => wpY_level (fun r' v' => r' = r ∧ i_Rel (k + 5) u v') v v1) u v1 := by
  refine rl_el (P := fun u v => wpX_level (fun r => wpY_level (fun r' v' => r' = r ∧ i_Rel (k + 5) u v') v v1) u v1) I ?_
  intro cap hor c f_verdict f_errorNode f_outputs f_late f_codeLen f_openGuard f_guardClock f_memCount f_presence f_tickCount f_digestValue f_hasSnapshot f_savedPresence f_savedTicks f_savedDigest a_kinds a_opA a_opB a_opC a_parent a_facts a_clocks a_needs a_reach a_order a_levels a_codeOp a_codeDst a_codeX a_codeY a_codeZ a_memSlot a_memInit a_mem a_latched a_vals a_savedMem a_savedLatched a_savedVals g_ticks g_saved g_savedTicks b_op b_out b_fact b_clock b_reach b_late b_depth b_latched b_there b_val b_savedLatched b_savedThere b_savedVal hB hA
  have fin : ∀ g, i_Rel (k + 5) (nI cap, nI hor, nI c, f_verdict, f_errorNode, f_outputs, f_late, f_codeLen, f_openGuard, f_guardClock, f_memCount, f_presence, f_tickCount, f_digestValue, f_hasSnapshot, f_savedPresence, f_savedTicks, f_savedDigest, a_kinds, a_opA, a_opB, a_opC, a_parent, a_facts, a_clocks, a_needs, a_reach, a_order, a_levels, a_codeOp, a_codeDst, a_codeX, a_codeY, a_codeZ, a_memSlot, a_memInit, a_mem, a_latched, a_vals, a_savedMem, a_savedLatched, a_savedVals) (nI cap, nI hor, nI c, f_verdict, f_errorNode, g_ticks, g_saved, g_savedTicks, a_kinds, b_op, b_out, b_fact, b_clock, b_reach, b_late, g, b_latched, b_there, b_val, b_savedLatched, b_savedThere, b_savedVal) := fun g => rl_mk hB hA
  obtain ⟨hcap, hhor, hcc, hP, hO, hout, hob⟩ := hB
  unfold wpX_level wpY_level
  dsimp only
  by_cases hv : f_verdict = 1
  · refine xs_acc (fun _ => br_f (by decide) ?_) (fun z => absurd hv z)
    rcases sf_ndc v1 (c := c) (by omega) with h | ⟨i, hi, rfl⟩
    · exact xs_nN (by omega) h (br_t rfl (br_t hv (ys_nN (by omega) h (br_t rfl ⟨rfl, fin _⟩))))
    · have hin : vp_in (nI i) 24 := sf_in (by omega) (by omega)
      obtain ⟨⟨hN, _, hck, _, _, ⟨pos, hpos⟩, L, hL, hlv⟩, _⟩ := hA hv
      have hNe := sf_N_cg (K := a_kinds) (A := a_opA) (B := a_opB) (C := a_opC) hck
      rw [← hNe] at hpos hL
      refine xs_nY (by omega) hi (br_f (by decide) (And.intro hin ?_))
      rw [sf_cl (n := i) (by omega), hlv i hi]
      refine br_t hv (ys_nY (by omega) hi (br_f (by decide) (Exists.intro 25 ?_)))
      exact yv_24 (by omega) hi (fun j hj => (hP j hj).1) hN hO hpos hL (fun g => ⟨rfl, fin g⟩) 25 0 _ (by omega) (by omega) (fun j z => absurd z (by omega))
  · exact xs_acc (fun z => absurd z hv) (fun _ => br_t rfl (br_f hv ⟨rfl, fin _⟩))
end
section
/-! editing -/
theorem rl_B0 {cap hor : Nat} {K A B C O yo : Nat → Int32} (h1 : cap ≤ 24) (h2 : hor ≤ 250) (hO : sf_Op O A B C) : rl_B cap hor 0 0 K A B C O yo :=
  ⟨h1, h2, Nat.zero_le _, fun i hi => absurd hi (by omega), hO, fun i hi => absurd hi (by omega), fun k hk => by rw [b_0] at hk; exact absurd hk (by decide)⟩
section
variable {f_capacity f_horizon f_count f_verdict f_errorNode f_outputs f_late f_codeLen f_openGuard f_guardClock f_memCount f_presence f_tickCount f_digestValue f_hasSnapshot f_savedPresence f_savedTicks f_savedDigest : Int32} {a_kinds a_opA a_opB a_opC a_parent a_facts a_clocks a_needs a_reach a_order a_levels a_codeOp a_codeDst a_codeX a_codeY a_codeZ a_memSlot a_memInit a_mem a_latched a_vals a_savedMem a_savedLatched a_savedVals : Nat → Int32}
theorem xs_clear {post : SX → Prop} (K : ∀ M L V, post (f_capacity, f_horizon, 0, 0, -1, 0, f_late, 0, f_openGuard, f_guardClock, 0, 0, 0, 0, 0, f_savedPresence, f_savedTicks, f_savedDigest, a_kinds, a_opA, a_opB, a_opC, a_parent, a_facts, a_clocks, a_needs, a_reach, a_order, a_levels, a_codeOp, a_codeDst, a_codeX, a_codeY, a_codeZ, a_memSlot, a_memInit, M, L, V, a_savedMem, a_savedLatched, a_savedVals)) : wpX_clear post (f_capacity, f_horizon, f_count, f_verdict, f_errorNode, f_outputs, f_late, f_codeLen, f_openGuard, f_guardClock, f_memCount, f_presence, f_tickCount, f_digestValue, f_hasSnapshot, f_savedPresence, f_savedTicks, f_savedDigest, a_kinds, a_opA, a_opB, a_opC, a_parent, a_facts, a_clocks, a_needs, a_reach, a_order, a_levels, a_codeOp, a_codeDst, a_codeX, a_codeY, a_codeZ, a_memSlot, a_memInit, a_mem, a_latched, a_vals, a_savedMem, a_savedLatched, a_savedVals) := by
  unfold wpX_clear wpX_touch
  dsimp only
  exact xs_reset (mc := 0) (by omega) (fun M L V _ => K M L V)
end
section
variable {g_capacity g_horizon g_count g_verdict g_errorNode g_ticks g_saved g_savedTicks : Int32} {b_kind b_op b_out b_fact b_clock b_reach b_late b_depth b_latched b_there b_val b_savedLatched b_savedThere b_savedVal : Nat → Int32}
theorem ys_clear {post : SY → Prop} (K : ∀ L, post (g_capacity, g_horizon, 0, 0, -1, 0, 0, g_savedTicks, b_kind, b_op, b_out, b_fact, b_clock, b_reach, b_late, b_depth, L, b_there, b_val, b_savedLatched, b_savedThere, b_savedVal)) : wpY_clear post (g_capacity, g_horizon, g_count, g_verdict, g_errorNode, g_ticks, g_saved, g_savedTicks, b_kind, b_op, b_out, b_fact, b_clock, b_reach, b_late, b_depth, b_latched, b_there, b_val, b_savedLatched, b_savedThere, b_savedVal) := by
  unfold wpY_clear wpY_touched
  dsimp only
  exact ys_start (fun L _ => K L)
end
theorem sf_clv (x : Int32) {lo hi : Nat} (h1 : lo ≤ hi) (h2 : hi ≤ 6000) : ∃ n, n ≤ hi ∧ (if nI lo ≤ x then (if x ≤ nI hi then x else nI hi) else nI lo) = nI n := by
  by_cases a : nI lo ≤ x
  · rw [if_pos a]
    by_cases b : x ≤ nI hi
    · rw [if_pos b]
      have h0 : ¬ x < 0 := by
        intro z
        have := Int32.lt_of_le_of_lt a z
        exact sf_npos (by omega) this
      obtain ⟨j, hj, e⟩ := nI_of2 (n := hi) (nI_toInt (by omega)) h0 b
      exact ⟨j, hj, e⟩
    · rw [if_neg b]; exact ⟨hi, Nat.le_refl _, rfl⟩
  · rw [if_neg a]; exact ⟨lo, h1, rfl⟩
theorem yi_173 {Q : SY → Prop} {cap hor : Nat} {z w : Int32} (e1 : z = nI hor) (e2 : w = nI cap) (hQ : ∀ L, Q (nI cap, nI hor, 0, 0, -1, 0, 0, 0, (fun _ => 0), (fun _ => 0), (fun _ => 0), (fun _ => 0), (fun _ => 0), (fun _ => 0), (fun _ => 0), (fun _ => 0), L, (fun _ => 0), (fun _ => 0), (fun _ => 0), (fun _ => 0), (fun _ => 0))) : wY_init_173 Q z w 0 0 0 0 0 0 0 (fun _ => 0) (fun _ => 0) (fun _ => 0) (fun _ => 0) (fun _ => 0) (fun _ => 0) (fun _ => 0) (fun _ => 0) (fun _ => 0) (fun _ => 0) (fun _ => 0) (fun _ => 0) (fun _ => 0) (fun _ => 0) := by
  subst e1 e2
  unfold wY_init_173
  exact ys_clear (fun L => hQ L)
theorem yi_init {Q : SY → Prop} {cap hor : Nat} {k0 k1 : Int32} (E1 : (if (4 : Int32) ≤ k0 then (if k0 ≤ 24 then k0 else 24) else 4) = nI cap) (E2 : (if (8 : Int32) ≤ k1 then (if k1 ≤ 250 then k1 else 250) else 8) = nI hor)
    (hQ : ∀ L, Q (nI cap, nI hor, 0, 0, -1, 0, 0, 0, (fun _ => 0), (fun _ => 0), (fun _ => 0), (fun _ => 0), (fun _ => 0), (fun _ => 0), (fun _ => 0), (fun _ => 0), L, (fun _ => 0), (fun _ => 0), (fun _ => 0), (fun _ => 0), (fun _ => 0))) : wpY_init Q k0 k1 := by
  have y144 : ∀ w : Int32, w = nI cap → wY_init_144 Q k1 w 0 0 0 0 0 0 0 0 (fun _ => 0) (fun _ => 0) (fun _ => 0) (fun _ => 0) (fun _ => 0) (fun _ => 0) (fun _ => 0) (fun _ => 0) (fun _ => 0) (fun _ => 0) (fun _ => 0) (fun _ => 0) (fun _ => 0) (fun _ => 0) := by
    intro w hw
    by_cases a : (8 : Int32) ≤ k1
    · by_cases b : k1 ≤ 250
      · rw [if_pos a, if_pos b] at E2
        exact br_t a (br_t b (yi_173 E2 hw hQ))
      · rw [if_pos a, if_neg b] at E2
        exact br_t a (br_f b (yi_173 E2 hw hQ))
    · rw [if_neg a] at E2
      exact br_f a (yi_173 E2 hw hQ)
  by_cases a : (4 : Int32) ≤ k0
  · by_cases b : k0 ≤ 24
    · rw [if_pos a, if_pos b] at E1
      exact br_t a (br_t b (y144 _ E1))
    · rw [if_pos a, if_neg b] at E1
      exact br_t a (br_f b (y144 _ E1))
  · rw [if_neg a] at E1
    exact br_f a (y144 _ E1)
theorem i_vc0 (k0 : Int32) (k1 : Int32) : wpX_init (fun u => wpY_init (fun v => i_Rel 2 u v) k0 k1) k0 k1 := by
  obtain ⟨cap, hcap, e1⟩ := sf_clv k0 (lo := 4) (hi := 24) (by omega) (by omega)
  obtain ⟨hor, hhor, e2⟩ := sf_clv k1 (lo := 8) (hi := 250) (by omega) (by omega)
  unfold wpX_init
  refine xs_clamp ?_
  rw [show (if (4 : Int32) ≤ k0 then (if k0 ≤ 24 then k0 else 24) else 4) = nI cap from e1]
  refine xs_clamp ?_
  rw [show (if (8 : Int32) ≤ k1 then (if k1 ≤ 250 then k1 else 250) else 8) = nI hor from e2]
  refine xs_clear (fun M L V => ?_)
  exact yi_init e1 e2 (fun L' => rl_mk (c := 0) (rl_B0 hcap hhor (fun i _ => ⟨rfl, rfl, rfl⟩)) (fun z => absurd z (by decide)))
theorem i_vc_clear {k : Nat} {u : SX} {v : SY} (I : i_Rel k u v) (hk : k + 5 ≤ 2562) : wpX_clear (fun u' => wpY_clear (fun v' => i_Rel (k + 5) u' v') v) u := by
  refine rl_el (P := fun u v => wpX_clear (fun u' => wpY_clear (fun v' => i_Rel (k + 5) u' v') v) u) I ?_
  intro cap hor c f_verdict f_errorNode f_outputs f_late f_codeLen f_openGuard f_guardClock f_memCount f_presence f_tickCount f_digestValue f_hasSnapshot f_savedPresence f_savedTicks f_savedDigest a_kinds a_opA a_opB a_opC a_parent a_facts a_clocks a_needs a_reach a_order a_levels a_codeOp a_codeDst a_codeX a_codeY a_codeZ a_memSlot a_memInit a_mem a_latched a_vals a_savedMem a_savedLatched a_savedVals g_ticks g_saved g_savedTicks b_op b_out b_fact b_clock b_reach b_late b_depth b_latched b_there b_val b_savedLatched b_savedThere b_savedVal hB hA
  refine xs_clear (fun M L V => ?_)
  refine ys_clear (fun L' => ?_)
  exact rl_mk (c := 0) (rl_B0 hB.1 hB.2.1 hB.2.2.2.2.1) (fun z => absurd z (by decide))
end
section
/-! adding and changing nodes -/
section
variable {f_capacity f_horizon f_count f_verdict f_errorNode f_outputs f_late f_codeLen f_openGuard f_guardClock f_memCount f_presence f_tickCount f_digestValue f_hasSnapshot f_savedPresence f_savedTicks f_savedDigest : Int32} {a_kinds a_opA a_opB a_opC a_parent a_facts a_clocks a_needs a_reach a_order a_levels a_codeOp a_codeDst a_codeX a_codeY a_codeZ a_memSlot a_memInit a_mem a_latched a_vals a_savedMem a_savedLatched a_savedVals : Nat → Int32} {c : Nat}
theorem xd_125 {post : Int32 → SX → Prop} {p2 p3 rB rC va : Int32} (hc : c < 24)
    (Kp : post (nI c) (f_capacity, f_horizon, nI (c + 1), 0, -1, f_outputs &&& (((1 : Int32) <<< (nI c &&& 31)) ^^^ (-1)), f_late, f_codeLen, f_openGuard, f_guardClock, f_memCount, f_presence, f_tickCount, f_digestValue, f_hasSnapshot, f_savedPresence, f_savedTicks, f_savedDigest, a_kinds, upd a_opA c va, upd a_opB c (if rB = 0 then 0 else p2), upd a_opC c (if rC = 0 then 0 else p3), a_parent, a_facts, a_clocks, a_needs, a_reach, a_order, a_levels, a_codeOp, a_codeDst, a_codeX, a_codeY, a_codeZ, a_memSlot, a_memInit, a_mem, a_latched, a_vals, a_savedMem, a_savedLatched, a_savedVals)) :
    wX_add_125 post p2 p3 rB rC (nI c) va (nI c) f_capacity f_horizon (nI c) f_verdict f_errorNode f_outputs f_late f_codeLen f_openGuard f_guardClock f_memCount f_presence f_tickCount f_digestValue f_hasSnapshot f_savedPresence f_savedTicks f_savedDigest a_kinds a_opA a_opB a_opC a_parent a_facts a_clocks a_needs a_reach a_order a_levels a_codeOp a_codeDst a_codeX a_codeY a_codeZ a_memSlot a_memInit a_mem a_latched a_vals a_savedMem a_savedLatched a_savedVals := by
  have hin : vp_in (nI c) 24 := sf_in hc (by omega)
  have hcl : (nI c).toNatClampNeg = c := sf_cl (by omega)
  have j160 : ∀ (oA oB : Nat → Int32) (y : Int32), post (nI c) (f_capacity, f_horizon, nI (c + 1), 0, -1, f_outputs &&& (((1 : Int32) <<< (nI c &&& 31)) ^^^ (-1)), f_late, f_codeLen, f_openGuard, f_guardClock, f_memCount, f_presence, f_tickCount, f_digestValue, f_hasSnapshot, f_savedPresence, f_savedTicks, f_savedDigest, a_kinds, oA, oB, upd a_opC c y, a_parent, a_facts, a_clocks, a_needs, a_reach, a_order, a_levels, a_codeOp, a_codeDst, a_codeX, a_codeY, a_codeZ, a_memSlot, a_memInit, a_mem, a_latched, a_vals, a_savedMem, a_savedLatched, a_savedVals) →
      wX_add_160 post (nI c) y (nI c) f_capacity f_horizon (nI c) f_verdict f_errorNode f_outputs f_late f_codeLen f_openGuard f_guardClock f_memCount f_presence f_tickCount f_digestValue f_hasSnapshot f_savedPresence f_savedTicks f_savedDigest a_kinds oA oB a_opC a_parent a_facts a_clocks a_needs a_reach a_order a_levels a_codeOp a_codeDst a_codeX a_codeY a_codeZ a_memSlot a_memInit a_mem a_latched a_vals a_savedMem a_savedLatched a_savedVals := by
    intro oA oB y h
    unfold wX_add_160
    rw [hcl]
    exact And.intro hin (nm_e (nm_e (nm_r (nI_1 c) h)))
  have j142 : ∀ (oA : Nat → Int32) (y : Int32), post (nI c) (f_capacity, f_horizon, nI (c + 1), 0, -1, f_outputs &&& (((1 : Int32) <<< (nI c &&& 31)) ^^^ (-1)), f_late, f_codeLen, f_openGuard, f_guardClock, f_memCount, f_presence, f_tickCount, f_digestValue, f_hasSnapshot, f_savedPresence, f_savedTicks, f_savedDigest, a_kinds, oA, upd a_opB c y, upd a_opC c (if rC = 0 then 0 else p3), a_parent, a_facts, a_clocks, a_needs, a_reach, a_order, a_levels, a_codeOp, a_codeDst, a_codeX, a_codeY, a_codeZ, a_memSlot, a_memInit, a_mem, a_latched, a_vals, a_savedMem, a_savedLatched, a_savedVals) →
      wX_add_142 post p3 rC (nI c) y (nI c) f_capacity f_horizon (nI c) f_verdict f_errorNode f_outputs f_late f_codeLen f_openGuard f_guardClock f_memCount f_presence f_tickCount f_digestValue f_hasSnapshot f_savedPresence f_savedTicks f_savedDigest a_kinds oA a_opB a_opC a_parent a_facts a_clocks a_needs a_reach a_order a_levels a_codeOp a_codeDst a_codeX a_codeY a_codeZ a_memSlot a_memInit a_mem a_latched a_vals a_savedMem a_savedLatched a_savedVals := by
    intro oA y h
    unfold wX_add_142
    rw [hcl]
    refine And.intro hin (nm_e ?_)
    by_cases e : rC = 0
    · rw [if_pos e] at h; exact br_t e (j160 _ _ _ h)
    · rw [if_neg e] at h; exact br_f e (j160 _ _ _ h)
  unfold wX_add_125
  rw [hcl]
  refine And.intro hin (nm_e ?_)
  by_cases e : rB = 0
  · rw [if_pos e] at Kp; exact br_t e (j142 _ _ Kp)
  · rw [if_neg e] at Kp; exact br_f e (j142 _ _ Kp)
end
section
variable {g_capacity g_horizon g_count g_verdict g_errorNode g_ticks g_saved g_savedTicks : Int32} {b_kind b_op b_out b_fact b_clock b_reach b_late b_depth b_latched b_there b_val b_savedLatched b_savedThere b_savedVal : Nat → Int32} {c : Nat}
theorem yd_108 {post : Int32 → SY → Prop} {p0 p2 p3 va : Int32} (hc : c < 24) (hk : sf_kd p0)
    (Kp : post (nI c) (g_capacity, g_horizon, nI (c + 1), 0, -1, g_ticks, g_saved, g_savedTicks, b_kind, upd (upd (upd b_op (c * 3) va) (c * 3 + 1) (if sf_ro p0 2 = 0 then 0 else p2)) (c * 3 + 2) (if sf_ro p0 3 = 0 then 0 else p3), upd b_out c 0, b_fact, b_clock, b_reach, b_late, b_depth, b_latched, b_there, b_val, b_savedLatched, b_savedThere, b_savedVal)) :
    wY_add_108 post p0 p2 p3 (nI c) va (nI (c * 3)) g_capacity g_horizon (nI c) g_verdict g_errorNode g_ticks g_saved g_savedTicks b_kind b_op b_out b_fact b_clock b_reach b_late b_depth b_latched b_there b_val b_savedLatched b_savedThere b_savedVal := by
  have j159 : ∀ (O : Nat → Int32) (y : Int32), post (nI c) (g_capacity, g_horizon, nI (c + 1), 0, -1, g_ticks, g_saved, g_savedTicks, b_kind, upd O (c * 3 + 2) y, upd b_out c 0, b_fact, b_clock, b_reach, b_late, b_depth, b_latched, b_there, b_val, b_savedLatched, b_savedThere, b_savedVal) → wY_add_159 post (nI c) y (nI (c * 3 + 2)) g_capacity g_horizon (nI c) g_verdict g_errorNode g_ticks g_saved g_savedTicks b_kind O b_out b_fact b_clock b_reach b_late b_depth b_latched b_there b_val b_savedLatched b_savedThere b_savedVal := by
    intro O y h
    unfold wY_add_159
    rw [sf_cl (n := c * 3 + 2) (by omega), sf_cl (n := c) (by omega)]
    exact And.intro (sf_in (by omega) (by omega)) (nm_e (And.intro (sf_in (by omega) (by omega)) (nm_e (nm_r (nI_1 c) h))))
  have j133 : ∀ (O : Nat → Int32) (y : Int32), post (nI c) (g_capacity, g_horizon, nI (c + 1), 0, -1, g_ticks, g_saved, g_savedTicks, b_kind, upd (upd O (c * 3 + 1) y) (c * 3 + 2) (if sf_ro p0 3 = 0 then 0 else p3), upd b_out c 0, b_fact, b_clock, b_reach, b_late, b_depth, b_latched, b_there, b_val, b_savedLatched, b_savedThere, b_savedVal) → wY_add_133 post p0 p3 (nI c) y (nI (c * 3 + 1)) g_capacity g_horizon (nI c) g_verdict g_errorNode g_ticks g_saved g_savedTicks b_kind O b_out b_fact b_clock b_reach b_late b_depth b_latched b_there b_val b_savedLatched b_savedThere b_savedVal := by
    intro O y h
    unfold wY_add_133
    rw [sf_cl (n := c * 3 + 1) (by omega), sf_i32]
    refine And.intro (sf_in (by omega) (by omega)) (nm_e (ys_role hk sf_W3 ?_))
    by_cases e : sf_ro p0 3 = 0
    · rw [if_pos e] at h; exact br_t e (j159 _ _ h)
    · rw [if_neg e] at h; exact br_f e (j159 _ _ h)
  unfold wY_add_108
  rw [sf_cl (n := c * 3) (by omega), sf_i31]
  refine And.intro (sf_in (by omega) (by omega)) (nm_e (ys_role hk sf_W2 ?_))
  by_cases e : sf_ro p0 2 = 0
  · rw [if_pos e] at Kp; exact br_t e (j133 _ _ Kp)
  · rw [if_neg e] at Kp; exact br_f e (j133 _ _ Kp)
end
theorem rd_Op {O A B C : Nat → Int32} {c : Nat} {x y z : Int32} (h : sf_Op O A B C) : sf_Op (upd (upd (upd O (c * 3) x) (c * 3 + 1) y) (c * 3 + 2) z) (upd A c x) (upd B c y) (upd C c z) := by
  intro i hi
  obtain ⟨h1, h2, h3⟩ := h i hi
  by_cases e : i = c
  · subst e
    refine ⟨?_, ?_, ?_⟩
    · rw [sf_un (by omega), sf_un (by omega), sf_us, sf_us]
    · rw [sf_un (by omega), sf_us, sf_us]
    · rw [sf_us, sf_us]
  · refine ⟨?_, ?_, ?_⟩
    · rw [sf_un (by omega), sf_un (by omega), sf_un (by omega), sf_un e]; exact h1
    · rw [sf_un (by omega), sf_un (by omega), sf_un (by omega), sf_un e]; exact h2
    · rw [sf_un (by omega), sf_un (by omega), sf_un (by omega), sf_un e]; exact h3
theorem rd_od {A B C : Nat → Int32} {i c w : Nat} {x y z : Int32} (h : i ≠ c) : sf_od (upd A c x) (upd B c y) (upd C c z) i w = sf_od A B C i w := by
  unfold sf_od
  rw [sf_un h, sf_un h, sf_un h]
theorem rd_add {cap hor c : Nat} {out : Int32} {K A B C O yo : Nat → Int32} {p0 x y z : Int32} (h : rl_B cap hor c out K A B C O yo) (hc : c < cap) (hk : sf_kd p0)
    (hv : ∀ w, sf_W w → (sf_ro p0 w = 1 → ∃ t, t < cap ∧ (if w = 1 then x else if w = 2 then y else z) = nI t) ∧ (sf_ro p0 w = 0 → (if w = 1 then x else if w = 2 then y else z) = 0)) :
    rl_B cap hor (c + 1) (out &&& (((1 : Int32) <<< (nI c &&& 31)) ^^^ (-1))) (upd K c p0) (upd A c x) (upd B c y) (upd C c z) (upd (upd (upd O (c * 3) x) (c * 3 + 1) y) (c * 3 + 2) z) (upd yo c 0) := by
  obtain ⟨h1, h2, h3, hP, hO, ho, hb⟩ := h
  refine ⟨h1, h2, by omega, fun i hi => ?_, rd_Op hO, fun i hi => ?_, fun k hk' => ?_⟩
  · by_cases e : i = c
    · subst e
      rw [sf_us]
      refine ⟨hk, fun w hw => ?_⟩
      have eo : sf_od (upd A i x) (upd B i y) (upd C i z) i w = if w = 1 then x else if w = 2 then y else z := by
        unfold sf_od; rw [sf_us, sf_us, sf_us]
      rw [eo]; exact hv w hw
    · rw [sf_un e]
      refine ⟨(hP i (by omega)).1, fun w hw => ?_⟩
      rw [rd_od e]; exact (hP i (by omega)).2 w hw
  · rw [sf_clr _ (by omega)]
    by_cases e : i = c
    · rw [e, sf_us]; exact ⟨fun q => absurd rfl q, fun q => absurd rfl q.2⟩
    · rw [sf_un e, ho i (by omega)]; exact ⟨fun q => ⟨q, e⟩, fun q => q.1⟩
  · have := hb k ((sf_clr _ (by omega)).mp hk').1
    omega
theorem rd_in {x : Int32} {cap : Nat} (hcap : cap ≤ 24) (h : ¬ x < 0 ∧ ¬ nI cap ≤ x) : ∃ t, t < cap ∧ x = nI t := by
  rcases sf_ndc x (c := cap) hcap with z | z
  · rcases z with z | z
    · exact absurd z h.1
    · exact absurd z h.2
  · exact z
theorem i_vc_add {k : Nat} {u : SX} {v : SY} (I : i_Rel k u v) (hk : k + 5 ≤ 2562) (v1 : Int32) (v2 : Int32) (v3 : Int32) (v4 : Int32) : wpX_add (fun r u' => wpY_add (fun r' v' => r' = r ∧ i_Rel (k + 5) u' v') v v1 v2 v3 v4) u v1 v2 v3 v4 := by
  refine rl_el (P := fun u v => wpX_add (fun r u' => wpY_add (fun r' v' => r' = r ∧ i_Rel (k + 5) u' v') v v1 v2 v3 v4) u v1 v2 v3 v4) I ?_
  intro cap hor c f_verdict f_errorNode f_outputs f_late f_codeLen f_openGuard f_guardClock f_memCount f_presence f_tickCount f_digestValue f_hasSnapshot f_savedPresence f_savedTicks f_savedDigest a_kinds a_opA a_opB a_opC a_parent a_facts a_clocks a_needs a_reach a_order a_levels a_codeOp a_codeDst a_codeX a_codeY a_codeZ a_memSlot a_memInit a_mem a_latched a_vals a_savedMem a_savedLatched a_savedVals g_ticks g_saved g_savedTicks b_op b_out b_fact b_clock b_reach b_late b_depth b_latched b_there b_val b_savedLatched b_savedThere b_savedVal hB hA
  have fin : i_Rel (k + 5) (nI cap, nI hor, nI c, f_verdict, f_errorNode, f_outputs, f_late, f_codeLen, f_openGuard, f_guardClock, f_memCount, f_presence, f_tickCount, f_digestValue, f_hasSnapshot, f_savedPresence, f_savedTicks, f_savedDigest, a_kinds, a_opA, a_opB, a_opC, a_parent, a_facts, a_clocks, a_needs, a_reach, a_order, a_levels, a_codeOp, a_codeDst, a_codeX, a_codeY, a_codeZ, a_memSlot, a_memInit, a_mem, a_latched, a_vals, a_savedMem, a_savedLatched, a_savedVals) (nI cap, nI hor, nI c, f_verdict, f_errorNode, g_ticks, g_saved, g_savedTicks, a_kinds, b_op, b_out, b_fact, b_clock, b_reach, b_late, b_depth, b_latched, b_there, b_val, b_savedLatched, b_savedThere, b_savedVal) := rl_mk hB hA
  have hB' := hB
  obtain ⟨hcap, hhor, hcc, hP, hO, hout, hob⟩ := hB'
  unfold wpX_add
  dsimp only
  by_cases hv : f_verdict = 1
  · exact xs_acc (fun _ => br_f (by decide) (br_t hv ⟨rfl, fin⟩)) (fun z => absurd hv z)
  refine xs_acc (fun z => absurd z hv) (fun _ => br_t rfl ?_)
  by_cases hc : c = cap
  · subst hc
    exact br_f (sf_nlt (Nat.le_refl _) (by omega)) (br_f hv (br_t rfl ⟨rfl, fin⟩))
  have hlt : c < cap := by omega
  have hne : ¬ nI c = nI cap := fun z => hc (sf_ninj (by omega) (by omega) z)
  refine br_t (sf_lt hlt (by omega)) ?_
  by_cases h0 : v1 < 0
  · exact br_t h0 (br_f hv (br_f hne (br_t h0 ⟨rfl, fin⟩)))
  refine br_f h0 ?_
  by_cases h13 : v1 ≤ 13
  rotate_left
  · exact br_f h13 (br_f hv (br_f hne (br_f h0 (br_f h13 ⟨rfl, fin⟩))))
  have hkd : sf_kd v1 := by
    obtain ⟨d, hd, e⟩ := nI_of2 (x := v1) (M := 13) (n := 13) (by decide) h0 h13
    exact ⟨d, hd, e⟩
  refine br_t h13 ?_
  refine xs_use hkd sf_W1 (xs_use hkd sf_W2 (xs_use hkd sf_W3 ?_))
  -- the reference's side of a refusal, operand by operand
  have cvt : ∀ x : Int32, (¬ x < nI cap ↔ nI cap ≤ x) := fun x => Int32.not_lt
  refine xs_fits (fun e1 hb1 => br_t rfl ?_) (fun g1 => br_f (by decide) ?_)
  · refine br_f hv (br_f hne (br_f h0 (br_t h13 (ys_bad hkd sf_W1 (fun _ _ => br_f (by decide) ⟨rfl, fin⟩) (fun z => ?_)))))
    obtain ⟨z1, z2⟩ := z e1
    rcases hb1 with q | q
    · exact absurd q z1
    · exact absurd z2 ((cvt _).mpr q)
  have ok1 : ∀ post : Int32 → Prop, post 0 → wpY_badOperand post (nI cap, nI hor, nI c, f_verdict, f_errorNode, g_ticks, g_saved, g_savedTicks, a_kinds, b_op, b_out, b_fact, b_clock, b_reach, b_late, b_depth, b_latched, b_there, b_val, b_savedLatched, b_savedThere, b_savedVal) v1 (nI 1) v2 := fun post hp => ys_bad hkd sf_W1 (fun e1 hb1 => by
    obtain ⟨z1, z2⟩ := g1 e1
    rcases hb1 with q | q
    · exact absurd q z1
    · exact absurd ((cvt _).mp q) z2) (fun _ => hp)
  refine xs_fits (fun e1 hb1 => br_t rfl ?_) (fun g2 => br_f (by decide) ?_)
  · refine br_f hv (br_f hne (br_f h0 (br_t h13 (ok1 _ (br_t rfl (ys_bad hkd sf_W2 (fun _ _ => br_f (by decide) ⟨rfl, fin⟩) (fun z => ?_)))))))
    obtain ⟨z1, z2⟩ := z e1
    rcases hb1 with q | q
    · exact absurd q z1
    · exact absurd z2 ((cvt _).mpr q)
  have ok2 : ∀ post : Int32 → Prop, post 0 → wpY_badOperand post (nI cap, nI hor, nI c, f_verdict, f_errorNode, g_ticks, g_saved, g_savedTicks, a_kinds, b_op, b_out, b_fact, b_clock, b_reach, b_late, b_depth, b_latched, b_there, b_val, b_savedLatched, b_savedThere, b_savedVal) v1 (nI 2) v3 := fun post hp => ys_bad hkd sf_W2 (fun e1 hb1 => by
    obtain ⟨z1, z2⟩ := g2 e1
    rcases hb1 with q | q
    · exact absurd q z1
    · exact absurd ((cvt _).mp q) z2) (fun _ => hp)
  refine xs_fits (fun e1 hb1 => br_t rfl ?_) (fun g3 => br_f (by decide) ?_)
  · refine br_f hv (br_f hne (br_f h0 (br_t h13 (ok1 _ (br_t rfl (ok2 _ (br_t rfl (ys_bad hkd sf_W3 (fun _ _ => br_f (by decide) ⟨rfl, fin⟩) (fun z => ?_)))))))))
    obtain ⟨z1, z2⟩ := z e1
    rcases hb1 with q | q
    · exact absurd q z1
    · exact absurd z2 ((cvt _).mpr q)
  have ok3 : ∀ post : Int32 → Prop, post 0 → wpY_badOperand post (nI cap, nI hor, nI c, f_verdict, f_errorNode, g_ticks, g_saved, g_savedTicks, a_kinds, b_op, b_out, b_fact, b_clock, b_reach, b_late, b_depth, b_latched, b_there, b_val, b_savedLatched, b_savedThere, b_savedVal) v1 (nI 3) v4 := fun post hp => ys_bad hkd sf_W3 (fun e1 hb1 => by
    obtain ⟨z1, z2⟩ := g3 e1
    rcases hb1 with q | q
    · exact absurd q z1
    · exact absurd ((cvt _).mp q) z2) (fun _ => hp)
  have hin : vp_in (nI c) 24 := sf_in (by omega) (by omega)
  have hcl : (nI c).toNatClampNeg = c := sf_cl (by omega)
  have hval : ∀ w, sf_W w → (sf_ro v1 w = 1 → ∃ t, t < cap ∧ (if w = 1 then (if sf_ro v1 1 = 0 then 0 else v2) else if w = 2 then (if sf_ro v1 2 = 0 then 0 else v3) else (if sf_ro v1 3 = 0 then 0 else v4)) = nI t) ∧
      (sf_ro v1 w = 0 → (if w = 1 then (if sf_ro v1 1 = 0 then 0 else v2) else if w = 2 then (if sf_ro v1 2 = 0 then 0 else v3) else (if sf_ro v1 3 = 0 then 0 else v4)) = 0) := by
    intro w hw
    rcases sf_w123 hw with rfl | rfl | rfl
    · refine ⟨fun e => ?_, fun e => ?_⟩
      · rw [if_pos rfl, if_neg (by rw [e]; decide)]; exact rd_in hcap (g1 e)
      · rw [if_pos rfl, if_pos e]
    · refine ⟨fun e => ?_, fun e => ?_⟩
      · rw [if_neg (by decide), if_pos rfl, if_neg (by rw [e]; decide)]; exact rd_in hcap (g2 e)
      · rw [if_neg (by decide), if_pos rfl, if_pos e]
    · refine ⟨fun e => ?_, fun e => ?_⟩
      · rw [if_neg (by decide), if_neg (by decide), if_neg (by rw [e]; decide)]; exact rd_in hcap (g3 e)
      · rw [if_neg (by decide), if_neg (by decide), if_pos e]
  have fin2 : i_Rel (k + 5) (nI cap, nI hor, nI (c + 1), 0, -1, f_outputs &&& (((1 : Int32) <<< (nI c &&& 31)) ^^^ (-1)), f_late, f_codeLen, f_openGuard, f_guardClock, f_memCount, f_presence, f_tickCount, f_digestValue, f_hasSnapshot, f_savedPresence, f_savedTicks, f_savedDigest, upd a_kinds c v1, upd a_opA c (if sf_ro v1 1 = 0 then 0 else v2), upd a_opB c (if sf_ro v1 2 = 0 then 0 else v3), upd a_opC c (if sf_ro v1 3 = 0 then 0 else v4), a_parent, a_facts, a_clocks, a_needs, a_reach, a_order, a_levels, a_codeOp, a_codeDst, a_codeX, a_codeY, a_codeZ, a_memSlot, a_memInit, a_mem, a_latched, a_vals, a_savedMem, a_savedLatched, a_savedVals)
      (nI cap, nI hor, nI (c + 1), 0, -1, g_ticks, g_saved, g_savedTicks, upd a_kinds c v1, upd (upd (upd b_op (c * 3) (if sf_ro v1 1 = 0 then 0 else v2)) (c * 3 + 1) (if sf_ro v1 2 = 0 then 0 else v3)) (c * 3 + 2) (if sf_ro v1 3 = 0 then 0 else v4), upd b_out c 0, b_fact, b_clock, b_reach, b_late, b_depth, b_latched, b_there, b_val, b_savedLatched, b_savedThere, b_savedVal) :=
    rl_mk (rd_add hB hlt hkd hval) (fun z => absurd z (by decide))
  refine And.intro hin ?_
  rw [hcl]
  refine nm_e ?_
  have yside : wpY_add (fun r' v' => r' = nI c ∧ i_Rel (k + 5) (nI cap, nI hor, nI (c + 1), 0, -1, f_outputs &&& (((1 : Int32) <<< (nI c &&& 31)) ^^^ (-1)), f_late, f_codeLen, f_openGuard, f_guardClock, f_memCount, f_presence, f_tickCount, f_digestValue, f_hasSnapshot, f_savedPresence, f_savedTicks, f_savedDigest, upd a_kinds c v1, upd a_opA c (if sf_ro v1 1 = 0 then 0 else v2), upd a_opB c (if sf_ro v1 2 = 0 then 0 else v3), upd a_opC c (if sf_ro v1 3 = 0 then 0 else v4), a_parent, a_facts, a_clocks, a_needs, a_reach, a_order, a_levels, a_codeOp, a_codeDst, a_codeX, a_codeY, a_codeZ, a_memSlot, a_memInit, a_mem, a_latched, a_vals, a_savedMem, a_savedLatched, a_savedVals) v') (nI cap, nI hor, nI c, f_verdict, f_errorNode, g_ticks, g_saved, g_savedTicks, a_kinds, b_op, b_out, b_fact, b_clock, b_reach, b_late, b_depth, b_latched, b_there, b_val, b_savedLatched, b_savedThere, b_savedVal) v1 v2 v3 v4 := by
    unfold wpY_add
    dsimp only
    refine br_f hv (br_f hne (br_f h0 (br_t h13 (ok1 _ (br_t rfl (ok2 _ (br_t rfl (ok3 _ (br_t rfl (And.intro hin ?_))))))))))
    rw [hcl, sf_i3]
    refine nm_e (ys_role hkd sf_W1 ?_)
    by_cases e : sf_ro v1 1 = 0
    · rw [if_pos e] at fin2
      rw [if_pos e]
      exact br_t e (yd_108 (by omega) hkd ⟨rfl, fin2⟩)
    · rw [if_neg e] at fin2
      rw [if_neg e]
      exact br_f e (yd_108 (by omega) hkd ⟨rfl, fin2⟩)
  by_cases e : sf_ro v1 1 = 0
  · rw [if_pos e] at yside
    exact br_t e (xd_125 (by omega) yside)
  · rw [if_neg e] at yside
    exact br_f e (xd_125 (by omega) yside)
theorem rd_set {cap hor c i w : Nat} {out : Int32} {K A B C O yo : Nat → Int32} {x : Int32} (h : rl_B cap hor c out K A B C O yo) (hi : i < c) (hw : sf_W w) (hr : ¬ sf_ro (K i) w = 0) (hx : sf_ro (K i) w = 1 → ∃ t, t < cap ∧ x = nI t) :
    rl_B cap hor c out K (if w = 1 then upd A i x else A) (if w = 2 then upd B i x else B) (if w = 3 then upd C i x else C) (upd O (i * 3 + w - 1) x) yo := by
  obtain ⟨h1, h2, h3, hP, hO, ho, hb⟩ := h
  refine ⟨h1, h2, h3, fun j hj => ⟨(hP j hj).1, fun v hv => ?_⟩, fun j hj => ?_, ho, hb⟩
  · have key : sf_od (if w = 1 then upd A i x else A) (if w = 2 then upd B i x else B) (if w = 3 then upd C i x else C) j v = if j = i ∧ v = w then x else sf_od A B C j v := by
      unfold sf_od
      rcases sf_w123 hw with rfl | rfl | rfl <;> rcases sf_w123 hv with rfl | rfl | rfl <;> by_cases e : j = i <;> simp [e, sf_us, sf_un]
    rw [key]
    by_cases e : j = i ∧ v = w
    · rw [if_pos e, e.1, e.2]
      exact ⟨hx, fun z => absurd z hr⟩
    · rw [if_neg e]; exact (hP j hj).2 v hv
  · obtain ⟨o1, o2, o3⟩ := hO j hj
    rcases sf_w123 hw with rfl | rfl | rfl
    · simp only [if_true, if_neg (show ¬ (1 : Nat) = 2 by omega), if_neg (show ¬ (1 : Nat) = 3 by omega)]
      by_cases e : j = i
      · subst e
        refine ⟨?_, ?_, ?_⟩
        · rw [show j * 3 + 1 - 1 = j * 3 by omega, sf_us, sf_us]
        · rw [sf_un (by omega)]; exact o2
        · rw [sf_un (by omega)]; exact o3
      · refine ⟨?_, ?_, ?_⟩
        · rw [sf_un (by omega), sf_un e]; exact o1
        · rw [sf_un (by omega)]; exact o2
        · rw [sf_un (by omega)]; exact o3
    · simp only [if_true, if_neg (show ¬ (2 : Nat) = 1 by omega), if_neg (show ¬ (2 : Nat) = 3 by omega)]
      by_cases e : j = i
      · subst e
        refine ⟨?_, ?_, ?_⟩
        · rw [sf_un (by omega)]; exact o1
        · rw [show j * 3 + 2 - 1 = j * 3 + 1 by omega, sf_us, sf_us]
        · rw [sf_un (by omega)]; exact o3
      · refine ⟨?_, ?_, ?_⟩
        · rw [sf_un (by omega)]; exact o1
        · rw [sf_un (by omega), sf_un e]; exact o2
        · rw [sf_un (by omega)]; exact o3
    · simp only [if_true, if_neg (show ¬ (3 : Nat) = 1 by omega), if_neg (show ¬ (3 : Nat) = 2 by omega)]
      by_cases e : j = i
      · subst e
        refine ⟨?_, ?_, ?_⟩
        · rw [sf_un (by omega)]; exact o1
        · rw [sf_un (by omega)]; exact o2
        · rw [show j * 3 + 3 - 1 = j * 3 + 2 by omega, sf_us, sf_us]
      · refine ⟨?_, ?_, ?_⟩
        · rw [sf_un (by omega)]; exact o1
        · rw [sf_un (by omega)]; exact o2
        · rw [sf_un (by omega), sf_un e]; exact o3
theorem i_vc_setOperand {k : Nat} {u : SX} {v : SY} (I : i_Rel k u v) (hk : k + 5 ≤ 2562) (v1 : Int32) (v2 : Int32) (v3 : Int32) : wpX_setOperand (fun r u' => wpY_setOperand (fun r' v' => r' = r ∧ i_Rel (k + 5) u' v') v v1 v2 v3) u v1 v2 v3 := by
  refine rl_el (P := fun u v => wpX_setOperand (fun r u' => wpY_setOperand (fun r' v' => r' = r ∧ i_Rel (k + 5) u' v') v v1 v2 v3) u v1 v2 v3) I ?_
  intro cap hor c f_verdict f_errorNode f_outputs f_late f_codeLen f_openGuard f_guardClock f_memCount f_presence f_tickCount f_digestValue f_hasSnapshot f_savedPresence f_savedTicks f_savedDigest a_kinds a_opA a_opB a_opC a_parent a_facts a_clocks a_needs a_reach a_order a_levels a_codeOp a_codeDst a_codeX a_codeY a_codeZ a_memSlot a_memInit a_mem a_latched a_vals a_savedMem a_savedLatched a_savedVals g_ticks g_saved g_savedTicks b_op b_out b_fact b_clock b_reach b_late b_depth b_latched b_there b_val b_savedLatched b_savedThere b_savedVal hB hA
  have fin : i_Rel (k + 5) (nI cap, nI hor, nI c, f_verdict, f_errorNode, f_outputs, f_late, f_codeLen, f_openGuard, f_guardClock, f_memCount, f_presence, f_tickCount, f_digestValue, f_hasSnapshot, f_savedPresence, f_savedTicks, f_savedDigest, a_kinds, a_opA, a_opB, a_opC, a_parent, a_facts, a_clocks, a_needs, a_reach, a_order, a_levels, a_codeOp, a_codeDst, a_codeX, a_codeY, a_codeZ, a_memSlot, a_memInit, a_mem, a_latched, a_vals, a_savedMem, a_savedLatched, a_savedVals) (nI cap, nI hor, nI c, f_verdict, f_errorNode, g_ticks, g_saved, g_savedTicks, a_kinds, b_op, b_out, b_fact, b_clock, b_reach, b_late, b_depth, b_latched, b_there, b_val, b_savedLatched, b_savedThere, b_savedVal) := rl_mk hB hA
  have hB' := hB
  obtain ⟨hcap, hhor, hcc, hP, hO, hout, hob⟩ := hB'
  unfold wpX_setOperand
  dsimp only
  by_cases hv : f_verdict = 1
  · exact xs_acc (fun _ => br_f (by decide) (br_t hv ⟨rfl, fin⟩)) (fun z => absurd hv z)
  refine xs_acc (fun z => absurd z hv) (fun _ => br_t rfl ?_)
  rcases sf_ndc v1 (c := c) (by omega) with h | ⟨i, hi, rfl⟩
  · exact xs_nN (by omega) h (br_t rfl (br_f hv (ys_nN (by omega) h (br_t rfl ⟨rfl, fin⟩))))
  have hin : vp_in (nI i) 24 := sf_in (by omega) (by omega)
  have hcl : (nI i).toNatClampNeg = i := sf_cl (by omega)
  have ynode : ∀ post : Int32 → Prop, post 1 → wpY_isNode post (nI cap, nI hor, nI c, f_verdict, f_errorNode, g_ticks, g_saved, g_savedTicks, a_kinds, b_op, b_out, b_fact, b_clock, b_reach, b_late, b_depth, b_latched, b_there, b_val, b_savedLatched, b_savedThere, b_savedVal) (nI i) := fun post hp => ys_nY (by omega) hi hp
  refine xs_nY (by omega) hi (br_f (by decide) ?_)
  by_cases h1 : v2 < 1
  · exact br_t h1 (br_f hv (ynode _ (br_f (by decide) (br_t h1 ⟨rfl, fin⟩))))
  refine br_f h1 ?_
  by_cases h3 : v2 ≤ 3
  rotate_left
  · exact br_f h3 (br_f hv (ynode _ (br_f (by decide) (br_f h1 (br_f h3 ⟨rfl, fin⟩)))))
  obtain ⟨w, hw, rfl⟩ : ∃ w, sf_W w ∧ v2 = nI w := by
    have h0 : ¬ v2 < 0 := fun z => h1 (Int32.lt_of_lt_of_le z (by decide))
    obtain ⟨w, hw, rfl⟩ := nI_of2 (x := v2) (M := 3) (n := 3) (by decide) h0 h3
    refine ⟨w, ⟨?_, hw⟩, rfl⟩
    rcases Nat.eq_zero_or_pos w with z | z
    · subst z; exact absurd (by decide) h1
    · exact z
  have hkd := (hP i hi).1
  refine br_t h3 (And.intro hin ?_)
  rw [hcl]
  refine xs_use hkd hw ?_
  by_cases hr : sf_ro (a_kinds i) w = 0
  · refine br_t hr (br_f hv (ynode _ (br_f (by decide) (br_f h1 (br_t h3 (And.intro hin ?_))))))
    rw [hcl]
    exact ys_role hkd hw (br_t hr ⟨rfl, fin⟩)
  refine br_f hr ?_
  refine xs_fits (fun e1 hb1 => br_t rfl ?_) (fun g1 => br_f (by decide) ?_)
  · refine br_f hv (ynode _ (br_f (by decide) (br_f h1 (br_t h3 (And.intro hin ?_)))))
    rw [hcl]
    refine ys_role hkd hw (br_f hr (And.intro hin (ys_bad hkd hw (fun _ _ => br_f (by decide) ⟨rfl, fin⟩) (fun z => ?_))))
    obtain ⟨z1, z2⟩ := z e1
    rcases hb1 with q | q
    · exact absurd q z1
    · exact absurd z2 (Int32.not_lt.mpr q)
  have hx : sf_ro (a_kinds i) w = 1 → ∃ t, t < cap ∧ v3 = nI t := fun e => rd_in hcap (g1 e)
  have fin2 : i_Rel (k + 5) (nI cap, nI hor, nI c, 0, -1, f_outputs, f_late, f_codeLen, f_openGuard, f_guardClock, f_memCount, f_presence, f_tickCount, f_digestValue, f_hasSnapshot, f_savedPresence, f_savedTicks, f_savedDigest, a_kinds, if w = 1 then upd a_opA i v3 else a_opA, if w = 2 then upd a_opB i v3 else a_opB, if w = 3 then upd a_opC i v3 else a_opC, a_parent, a_facts, a_clocks, a_needs, a_reach, a_order, a_levels, a_codeOp, a_codeDst, a_codeX, a_codeY, a_codeZ, a_memSlot, a_memInit, a_mem, a_latched, a_vals, a_savedMem, a_savedLatched, a_savedVals) (nI cap, nI hor, nI c, 0, -1, g_ticks, g_saved, g_savedTicks, a_kinds, upd b_op (i * 3 + w - 1) v3, b_out, b_fact, b_clock, b_reach, b_late, b_depth, b_latched, b_there, b_val, b_savedLatched, b_savedThere, b_savedVal) :=
    rl_mk (rd_set hB hi hw hr hx) (fun z => absurd z (by decide))
  have yside : wpY_setOperand (fun r' v' => r' = 1 ∧ i_Rel (k + 5) (nI cap, nI hor, nI c, 0, -1, f_outputs, f_late, f_codeLen, f_openGuard, f_guardClock, f_memCount, f_presence, f_tickCount, f_digestValue, f_hasSnapshot, f_savedPresence, f_savedTicks, f_savedDigest, a_kinds, if w = 1 then upd a_opA i v3 else a_opA, if w = 2 then upd a_opB i v3 else a_opB, if w = 3 then upd a_opC i v3 else a_opC, a_parent, a_facts, a_clocks, a_needs, a_reach, a_order, a_levels, a_codeOp, a_codeDst, a_codeX, a_codeY, a_codeZ, a_memSlot, a_memInit, a_mem, a_latched, a_vals, a_savedMem, a_savedLatched, a_savedVals) v') (nI cap, nI hor, nI c, f_verdict, f_errorNode, g_ticks, g_saved, g_savedTicks, a_kinds, b_op, b_out, b_fact, b_clock, b_reach, b_late, b_depth, b_latched, b_there, b_val, b_savedLatched, b_savedThere, b_savedVal) (nI i) (nI w) v3 := by
    unfold wpY_setOperand
    dsimp only
    refine br_f hv (ynode _ (br_f (by decide) (br_f h1 (br_t h3 (And.intro hin ?_)))))
    rw [hcl, sf_ix3 hw.1, sf_cl (n := i * 3 + w - 1) (by have := hw.2; omega)]
    refine ys_role hkd hw (br_f hr (And.intro hin (ys_bad hkd hw (fun e1 hb1 => ?_) (fun _ => br_t rfl (And.intro (sf_in (by have := hw.2; omega) (by omega)) (nm_e ⟨rfl, fin2⟩))))))
    obtain ⟨z1, z2⟩ := g1 e1
    rcases hb1 with q | q
    · exact absurd q z1
    · exact absurd (Int32.not_lt.mp q) z2
  clear fin2
  rcases sf_w123 hw with rfl | rfl | rfl
  · rw [if_pos rfl, if_neg (by decide), if_neg (by decide)] at yside
    exact br_t rfl (And.intro hin (nm_e yside))
  · rw [if_neg (by decide), if_pos rfl, if_neg (by decide)] at yside
    exact br_f (by decide) (br_t rfl (And.intro hin (nm_e yside)))
  · rw [if_neg (by decide), if_neg (by decide), if_pos rfl] at yside
    exact br_f (by decide) (br_f (by decide) (And.intro hin (nm_e yside)))
theorem i_vc_setOutput {k : Nat} {u : SX} {v : SY} (I : i_Rel k u v) (hk : k + 5 ≤ 2562) (v1 : Int32) (v2 : Int32) : wpX_setOutput (fun r u' => wpY_setOutput (fun r' v' => r' = r ∧ i_Rel (k + 5) u' v') v v1 (lw_bz v2)) u v1 (lw_bz v2) := by
  refine rl_el (P := fun u v => wpX_setOutput (fun r u' => wpY_setOutput (fun r' v' => r' = r ∧ i_Rel (k + 5) u' v') v v1 (lw_bz v2)) u v1 (lw_bz v2)) I ?_
  intro cap hor c f_verdict f_errorNode f_outputs f_late f_codeLen f_openGuard f_guardClock f_memCount f_presence f_tickCount f_digestValue f_hasSnapshot f_savedPresence f_savedTicks f_savedDigest a_kinds a_opA a_opB a_opC a_parent a_facts a_clocks a_needs a_reach a_order a_levels a_codeOp a_codeDst a_codeX a_codeY a_codeZ a_memSlot a_memInit a_mem a_latched a_vals a_savedMem a_savedLatched a_savedVals g_ticks g_saved g_savedTicks b_op b_out b_fact b_clock b_reach b_late b_depth b_latched b_there b_val b_savedLatched b_savedThere b_savedVal hB hA
  have fin : i_Rel (k + 5) (nI cap, nI hor, nI c, f_verdict, f_errorNode, f_outputs, f_late, f_codeLen, f_openGuard, f_guardClock, f_memCount, f_presence, f_tickCount, f_digestValue, f_hasSnapshot, f_savedPresence, f_savedTicks, f_savedDigest, a_kinds, a_opA, a_opB, a_opC, a_parent, a_facts, a_clocks, a_needs, a_reach, a_order, a_levels, a_codeOp, a_codeDst, a_codeX, a_codeY, a_codeZ, a_memSlot, a_memInit, a_mem, a_latched, a_vals, a_savedMem, a_savedLatched, a_savedVals) (nI cap, nI hor, nI c, f_verdict, f_errorNode, g_ticks, g_saved, g_savedTicks, a_kinds, b_op, b_out, b_fact, b_clock, b_reach, b_late, b_depth, b_latched, b_there, b_val, b_savedLatched, b_savedThere, b_savedVal) := rl_mk hB hA
  have hB' := hB
  obtain ⟨hcap, hhor, hcc, hP, hO, hout, hob⟩ := hB'
  unfold wpX_setOutput wpY_setOutput
  dsimp only
  by_cases hv : f_verdict = 1
  · exact xs_acc (fun _ => br_f (by decide) (br_t hv ⟨rfl, fin⟩)) (fun z => absurd hv z)
  refine xs_acc (fun z => absurd z hv) (fun _ => br_t rfl ?_)
  rcases sf_ndc v1 (c := c) (by omega) with h | ⟨i, hi, rfl⟩
  · exact xs_nN (by omega) h (br_t rfl (br_f hv (ys_nN (by omega) h (br_t rfl ⟨rfl, fin⟩))))
  have hin : vp_in (nI i) 24 := sf_in (by omega) (by omega)
  have hcl : (nI i).toNatClampNeg = i := sf_cl (by omega)
  refine xs_nY (by omega) hi (br_f (by decide) ?_)
  rcases lw_bz_01 v2 with e | e
  · have fin2 : i_Rel (k + 5) (nI cap, nI hor, nI c, 0, -1, f_outputs &&& (((1 : Int32) <<< (nI i &&& 31)) ^^^ (-1)), f_late, f_codeLen, f_openGuard, f_guardClock, f_memCount, f_presence, f_tickCount, f_digestValue, f_hasSnapshot, f_savedPresence, f_savedTicks, f_savedDigest, a_kinds, a_opA, a_opB, a_opC, a_parent, a_facts, a_clocks, a_needs, a_reach, a_order, a_levels, a_codeOp, a_codeDst, a_codeX, a_codeY, a_codeZ, a_memSlot, a_memInit, a_mem, a_latched, a_vals, a_savedMem, a_savedLatched, a_savedVals) (nI cap, nI hor, nI c, 0, -1, g_ticks, g_saved, g_savedTicks, a_kinds, b_op, upd b_out i 0, b_fact, b_clock, b_reach, b_late, b_depth, b_latched, b_there, b_val, b_savedLatched, b_savedThere, b_savedVal) := by
      refine rl_mk ⟨hcap, hhor, hcc, hP, hO, fun j hj => ?_, fun q hq => hob q ((sf_clr _ (by omega)).mp hq).1⟩ (fun z => absurd z (by decide))
      rw [sf_clr _ (by omega)]
      by_cases ej : j = i
      · rw [ej, sf_us]; exact ⟨fun q => absurd rfl q, fun q => absurd rfl q.2⟩
      · rw [sf_un ej, hout j hj]; exact ⟨fun q => ⟨q, ej⟩, fun q => q.1⟩
    refine br_t e (nm_e ?_)
    refine br_f hv (ys_nY (by omega) hi (br_f (by decide) (And.intro hin ?_)))
    rw [hcl, e]
    exact nm_e ⟨rfl, fin2⟩
  · have fin2 : i_Rel (k + 5) (nI cap, nI hor, nI c, 0, -1, f_outputs ||| ((1 : Int32) <<< (nI i &&& 31)), f_late, f_codeLen, f_openGuard, f_guardClock, f_memCount, f_presence, f_tickCount, f_digestValue, f_hasSnapshot, f_savedPresence, f_savedTicks, f_savedDigest, a_kinds, a_opA, a_opB, a_opC, a_parent, a_facts, a_clocks, a_needs, a_reach, a_order, a_levels, a_codeOp, a_codeDst, a_codeX, a_codeY, a_codeZ, a_memSlot, a_memInit, a_mem, a_latched, a_vals, a_savedMem, a_savedLatched, a_savedVals) (nI cap, nI hor, nI c, 0, -1, g_ticks, g_saved, g_savedTicks, a_kinds, b_op, upd b_out i 1, b_fact, b_clock, b_reach, b_late, b_depth, b_latched, b_there, b_val, b_savedLatched, b_savedThere, b_savedVal) := by
      refine rl_mk ⟨hcap, hhor, hcc, hP, hO, fun j hj => ?_, fun q hq => ?_⟩ (fun z => absurd z (by decide))
      · rw [sf_set _ (by omega)]
        by_cases ej : j = i
        · rw [ej, sf_us]; exact ⟨fun _ => Or.inr rfl, fun _ => by decide⟩
        · rw [sf_un ej, hout j hj]; exact ⟨Or.inl, fun q => q.elim id (fun z => absurd z ej)⟩
      · rcases (sf_set _ (by omega)).mp hq with z | z
        · exact hob q z
        · omega
    refine br_f (by rw [e]; decide) (nm_e ?_)
    refine br_f hv (ys_nY (by omega) hi (br_f (by decide) (And.intro hin ?_)))
    rw [hcl, e]
    exact nm_e ⟨rfl, fin2⟩
end
section
/-! compiling, opening, the snapshot -/
theorem rr_start {c hor mc : Nat} {K A B C S O mI M L V L' th vl : Nat → Int32} (hM : em_Mi c K B S mI mc) (hmc : mc ≤ 24) (hX : ∀ j, j < 24 → M j = (if j < mc then mI j else 0) ∧ L j = 0 ∧ V j = 0) (hY : ∀ j, j < 24 → L' j = 0) :
    rr_R c hor K A B C S O 0 0 0 L M V L' th vl := by
  refine ⟨Nat.zero_le _, fun i hi hk => ?_, fun z => absurd z (by omega), rfl, fun j hj => by rw [hY j hj, (hX j hj).2.1], fun j hj => absurd hj (by omega)⟩
  obtain ⟨s, hs, es, em, _⟩ := hM i hi hk
  have e : em_sl S i = s := by unfold em_sl; rw [es, sf_cl (by omega)]
  rw [e, (hX s (by omega)).1, if_pos hs, em]
  unfold yt_m
  rcases hk with z | z | z
  · rw [if_pos z, if_neg (by rw [z]; decide)]; rfl
  · rw [if_neg (by rw [z]; decide), if_neg (by rw [z]; decide), if_neg (by rw [z]; decide)]; rfl
  · rw [if_pos z, if_neg (by rw [z]; decide), if_pos z]; rfl
theorem an_1 {c : Nat} {K A B C ck : Nat → Int32} {out : Nat → Prop} {L : Nat → Nat} {v e : Int32} (hc : c ≤ 24) (h : sf_Ana c K A B C out ck L v e) (hv : v = 1) :
    sf_ND c K A B C ∧ sf_RC c K A B C ck ∧ (∃ pos, sf_Po c (sf_N c K A B C ck) pos) ∧ sf_Lv c (sf_N c K A B C ck) L := by
  subst hv
  rcases h with ⟨_, z, _⟩ | ⟨_, _, z, _⟩ | ⟨_, _, h⟩
  · exact absurd z (by decide)
  · exact absurd z (by decide)
  rcases h with ⟨z, _⟩ | ⟨hN, _, F, hL, h⟩
  · exact absurd z (by decide)
  rcases h with ⟨z, _⟩ | ⟨hcl, hck, h⟩
  · exact absurd z (by decide)
  rcases h with ⟨z, _⟩ | ⟨hcb, h⟩
  · exact absurd z (by decide)
  rcases h with ⟨z, _⟩ | ⟨_, hpos, hLv, _⟩
  · exact absurd z (by decide)
  exact ⟨hN, sf_RC_of hc hN hL (sf_FI_none hcl sf_m1lt hc).2 hck (sf_FI_none hcb sf_m1lt hc).2, hpos, hLv⟩
theorem i_vc_compile {k : Nat} {u : SX} {v : SY} (I : i_Rel k u v) (hk : k + 5 ≤ 2562) : wpX_compile (fun r u' => wpY_compile (fun r' v' => r' = r ∧ i_Rel (k + 5) u' v') v) u := by
  refine rl_el (P := fun u v => wpX_compile (fun r u' => wpY_compile (fun r' v' => r' = r ∧ i_Rel (k + 5) u' v') v) u) I ?_
  intro cap hor c f_verdict f_errorNode f_outputs f_late f_codeLen f_openGuard f_guardClock f_memCount f_presence f_tickCount f_digestValue f_hasSnapshot f_savedPresence f_savedTicks f_savedDigest a_kinds a_opA a_opB a_opC a_parent a_facts a_clocks a_needs a_reach a_order a_levels a_codeOp a_codeDst a_codeX a_codeY a_codeZ a_memSlot a_memInit a_mem a_latched a_vals a_savedMem a_savedLatched a_savedVals g_ticks g_saved g_savedTicks b_op b_out b_fact b_clock b_reach b_late b_depth b_latched b_there b_val b_savedLatched b_savedThere b_savedVal hB hA
  have fin : i_Rel (k + 5) (nI cap, nI hor, nI c, f_verdict, f_errorNode, f_outputs, f_late, f_codeLen, f_openGuard, f_guardClock, f_memCount, f_presence, f_tickCount, f_digestValue, f_hasSnapshot, f_savedPresence, f_savedTicks, f_savedDigest, a_kinds, a_opA, a_opB, a_opC, a_parent, a_facts, a_clocks, a_needs, a_reach, a_order, a_levels, a_codeOp, a_codeDst, a_codeX, a_codeY, a_codeZ, a_memSlot, a_memInit, a_mem, a_latched, a_vals, a_savedMem, a_savedLatched, a_savedVals) (nI cap, nI hor, nI c, f_verdict, f_errorNode, g_ticks, g_saved, g_savedTicks, a_kinds, b_op, b_out, b_fact, b_clock, b_reach, b_late, b_depth, b_latched, b_there, b_val, b_savedLatched, b_savedThere, b_savedVal) := rl_mk hB hA
  have hB' := hB
  obtain ⟨hcap, hhor, hcc, hP, hO, hout, hob⟩ := hB'
  have hc : c ≤ 24 := by omega
  have hP' := rl_Pg hP hcap
  have hkd : ∀ i, i < c → sf_kd (a_kinds i) := fun i hi => (hP i hi).1
  unfold wpX_compile
  dsimp only
  by_cases hv : f_verdict = 1
  · exact xs_acc (fun _ => br_f (by decide) (br_t hv ⟨rfl, fin⟩)) (fun z => absurd hv z)
  refine xs_acc (fun z => absurd z hv) (fun _ => br_t rfl ?_)
  refine xz_ana hc hP' hob (fun v e p f ck nd g od lv lt L hAna h1 => ?_)
  by_cases hv1 : v = 1
  · obtain ⟨hN, hR, hpos, hLv⟩ := an_1 hc hAna hv1
    obtain ⟨hlv, o, hod, hOr⟩ := h1 hv1
    refine br_t hv1 ?_
    refine xe_code (o := o) hc hkd (fun i hi => (hR i hi).1) hod hOr (fun cl og gk mc S mI cO cD cX cY cZ hmc hMi hCode => ?_)
    refine xs_reset hmc (fun M Lx V hX => ?_)
    refine br_f hv ?_
    refine yj_judge (A := a_opA) (B := a_opB) (C := a_opC) hc hP' hO hout hAna (fun f' dk g' l' hdk => ?_)
    refine br_t hv1 (ys_start (fun L' hL' => ?_))
    have fin2 : i_Rel (k + 5) (nI cap, nI hor, nI c, v, e, f_outputs, lt, cl, og, gk, nI mc, 0, 0, 0, 0, f_savedPresence, f_savedTicks, f_savedDigest, a_kinds, a_opA, a_opB, a_opC, p, f, ck, nd, g, od, lv, cO, cD, cX, cY, cZ, S, mI, M, Lx, V, a_savedMem, a_savedLatched, a_savedVals)
        (nI cap, nI hor, nI c, v, e, 0, 0, g_savedTicks, a_kinds, b_op, b_out, f', dk, g', l', b_depth, L', b_there, b_val, b_savedLatched, b_savedThere, b_savedVal) :=
      rl_mk hB (fun _ => ⟨⟨hN, hR, hdk hv1, hCode, ⟨mc, hmc, rfl, hMi⟩, hpos, L, hLv, hlv⟩, ⟨0, rfl, rfl, rr_start hMi hmc hX hL'⟩, Or.inl ⟨rfl, rfl⟩⟩)
    exact ⟨rfl, fin2⟩
  · refine br_f hv1 ?_
    refine br_f hv ?_
    refine yj_judge (A := a_opA) (B := a_opB) (C := a_opC) hc hP' hO hout hAna (fun f' dk g' l' hdk => ?_)
    refine br_f hv1 ?_
    have fin2 : i_Rel (k + 5) (nI cap, nI hor, nI c, v, e, f_outputs, lt, f_codeLen, f_openGuard, f_guardClock, f_memCount, f_presence, f_tickCount, f_digestValue, f_hasSnapshot, f_savedPresence, f_savedTicks, f_savedDigest, a_kinds, a_opA, a_opB, a_opC, p, f, ck, nd, g, od, lv, a_codeOp, a_codeDst, a_codeX, a_codeY, a_codeZ, a_memSlot, a_memInit, a_mem, a_latched, a_vals, a_savedMem, a_savedLatched, a_savedVals) (nI cap, nI hor, nI c, v, e, g_ticks, g_saved, g_savedTicks, a_kinds, b_op, b_out, f', dk, g', l', b_depth, b_latched, b_there, b_val, b_savedLatched, b_savedThere, b_savedVal) :=
      rl_mk hB (fun z => absurd z hv1)
    exact ⟨rfl, fin2⟩
theorem i_vc_open {k : Nat} {u : SX} {v : SY} (I : i_Rel k u v) (hk : k + 5 ≤ 2562) : wpX_open (fun r u' => wpY_open (fun r' v' => r' = r ∧ i_Rel (k + 5) u' v') v) u := by
  refine rl_el (P := fun u v => wpX_open (fun r u' => wpY_open (fun r' v' => r' = r ∧ i_Rel (k + 5) u' v') v) u) I ?_
  intro cap hor c f_verdict f_errorNode f_outputs f_late f_codeLen f_openGuard f_guardClock f_memCount f_presence f_tickCount f_digestValue f_hasSnapshot f_savedPresence f_savedTicks f_savedDigest a_kinds a_opA a_opB a_opC a_parent a_facts a_clocks a_needs a_reach a_order a_levels a_codeOp a_codeDst a_codeX a_codeY a_codeZ a_memSlot a_memInit a_mem a_latched a_vals a_savedMem a_savedLatched a_savedVals g_ticks g_saved g_savedTicks b_op b_out b_fact b_clock b_reach b_late b_depth b_latched b_there b_val b_savedLatched b_savedThere b_savedVal hB hA
  have fin : i_Rel (k + 5) (nI cap, nI hor, nI c, f_verdict, f_errorNode, f_outputs, f_late, f_codeLen, f_openGuard, f_guardClock, f_memCount, f_presence, f_tickCount, f_digestValue, f_hasSnapshot, f_savedPresence, f_savedTicks, f_savedDigest, a_kinds, a_opA, a_opB, a_opC, a_parent, a_facts, a_clocks, a_needs, a_reach, a_order, a_levels, a_codeOp, a_codeDst, a_codeX, a_codeY, a_codeZ, a_memSlot, a_memInit, a_mem, a_latched, a_vals, a_savedMem, a_savedLatched, a_savedVals) (nI cap, nI hor, nI c, f_verdict, f_errorNode, g_ticks, g_saved, g_savedTicks, a_kinds, b_op, b_out, b_fact, b_clock, b_reach, b_late, b_depth, b_latched, b_there, b_val, b_savedLatched, b_savedThere, b_savedVal) := rl_mk hB hA
  unfold wpX_open wpX_touch
  dsimp only
  by_cases hv : f_verdict = 1
  · obtain ⟨⟨_, _, _, _, ⟨mc, hmc, emc, _⟩, _⟩, _⟩ := hA hv
    subst emc
    refine xs_acc (fun _ => br_f (by decide) ?_) (fun z => absurd hv z)
    refine xs_reset hmc (fun M Lx V hX => ?_)
    unfold wpY_open wpY_touched
    dsimp only
    refine br_t hv (ys_start (fun L' hL' => ?_))
    have fin2 : i_Rel (k + 5) (nI cap, nI hor, nI c, 0, -1, f_outputs, f_late, f_codeLen, f_openGuard, f_guardClock, nI mc, 0, 0, 0, 0, f_savedPresence, f_savedTicks, f_savedDigest, a_kinds, a_opA, a_opB, a_opC, a_parent, a_facts, a_clocks, a_needs, a_reach, a_order, a_levels, a_codeOp, a_codeDst, a_codeX, a_codeY, a_codeZ, a_memSlot, a_memInit, M, Lx, V, a_savedMem, a_savedLatched, a_savedVals) (nI cap, nI hor, nI c, 0, -1, 0, 0, g_savedTicks, a_kinds, b_op, b_out, b_fact, b_clock, b_reach, b_late, b_depth, L', b_there, b_val, b_savedLatched, b_savedThere, b_savedVal) := rl_mk hB (fun z => absurd z (by decide))
    exact ⟨rfl, fin2⟩
  · exact xs_acc (fun z => absurd z hv) (fun _ => br_t rfl (br_f hv ⟨rfl, fin⟩))
theorem rl_Sl {c : Nat} {cl mcI : Int32} {K A B C ck lv cO cD cX cY cZ S mI yck : Nat → Int32} (h : rl_A c cl mcI K A B C ck lv cO cD cX cY cZ S mI yck) : ex_Sl c K S := by
  obtain ⟨_, _, _, _, ⟨mc, hmc, _, hMi⟩, _⟩ := h
  exact ex_Sl_of hmc hMi
theorem i_vc_setInput {k : Nat} {u : SX} {v : SY} (I : i_Rel k u v) (hk : k + 5 ≤ 2562) (v1 : Int32) (v2 : Int32) : wpX_setInput (fun r u' => wpY_setInput (fun r' v' => r' = r ∧ i_Rel (k + 5) u' v') v v1 v2) u v1 v2 := by
  refine rl_el (P := fun u v => wpX_setInput (fun r u' => wpY_setInput (fun r' v' => r' = r ∧ i_Rel (k + 5) u' v') v v1 v2) u v1 v2) I ?_
  intro cap hor c f_verdict f_errorNode f_outputs f_late f_codeLen f_openGuard f_guardClock f_memCount f_presence f_tickCount f_digestValue f_hasSnapshot f_savedPresence f_savedTicks f_savedDigest a_kinds a_opA a_opB a_opC a_parent a_facts a_clocks a_needs a_reach a_order a_levels a_codeOp a_codeDst a_codeX a_codeY a_codeZ a_memSlot a_memInit a_mem a_latched a_vals a_savedMem a_savedLatched a_savedVals g_ticks g_saved g_savedTicks b_op b_out b_fact b_clock b_reach b_late b_depth b_latched b_there b_val b_savedLatched b_savedThere b_savedVal hB hA
  have fin : i_Rel (k + 5) (nI cap, nI hor, nI c, f_verdict, f_errorNode, f_outputs, f_late, f_codeLen, f_openGuard, f_guardClock, f_memCount, f_presence, f_tickCount, f_digestValue, f_hasSnapshot, f_savedPresence, f_savedTicks, f_savedDigest, a_kinds, a_opA, a_opB, a_opC, a_parent, a_facts, a_clocks, a_needs, a_reach, a_order, a_levels, a_codeOp, a_codeDst, a_codeX, a_codeY, a_codeZ, a_memSlot, a_memInit, a_mem, a_latched, a_vals, a_savedMem, a_savedLatched, a_savedVals) (nI cap, nI hor, nI c, f_verdict, f_errorNode, g_ticks, g_saved, g_savedTicks, a_kinds, b_op, b_out, b_fact, b_clock, b_reach, b_late, b_depth, b_latched, b_there, b_val, b_savedLatched, b_savedThere, b_savedVal) := rl_mk hB hA
  have hB' := hB
  obtain ⟨hcap, hhor, hcc, hP, hO, hout, hob⟩ := hB'
  unfold wpX_setInput wpY_setInput
  dsimp only
  by_cases hv : f_verdict = 1
  · refine xs_acc (fun _ => br_f (by decide) ?_) (fun z => absurd hv z)
    rcases sf_ndc v1 (c := c) (by omega) with h | ⟨i, hi, rfl⟩
    · exact xs_nN (by omega) h (br_t rfl (br_t hv (ys_nN (by omega) h (br_t rfl ⟨rfl, fin⟩))))
    · have hin : vp_in (nI i) 24 := sf_in (by omega) (by omega)
      have hcl : (nI i).toNatClampNeg = i := sf_cl (by omega)
      refine xs_nY (by omega) hi (br_f (by decide) (And.intro hin ?_))
      rw [hcl]
      by_cases h0 : a_kinds i = 0
      · have fin2 : i_Rel (k + 5) (nI cap, nI hor, nI c, f_verdict, f_errorNode, f_outputs, f_late, f_codeLen, f_openGuard, f_guardClock, f_memCount, f_presence, f_tickCount, f_digestValue, f_hasSnapshot, f_savedPresence, f_savedTicks, f_savedDigest, a_kinds, a_opA, a_opB, a_opC, a_parent, a_facts, a_clocks, a_needs, a_reach, a_order, a_levels, a_codeOp, a_codeDst, a_codeX, a_codeY, a_codeZ, a_memSlot, a_memInit, a_mem, upd a_latched i v2, a_vals, a_savedMem, a_savedLatched, a_savedVals) (nI cap, nI hor, nI c, f_verdict, f_errorNode, g_ticks, g_saved, g_savedTicks, a_kinds, b_op, b_out, b_fact, b_clock, b_reach, b_late, b_depth, upd b_latched i v2, b_there, b_val, b_savedLatched, b_savedThere, b_savedVal) := by
          refine rl_mk hB (fun _ => ?_)
          obtain ⟨ha, ⟨t, e1, e2, hr⟩, hs⟩ := hA hv
          refine ⟨ha, ⟨t, e1, e2, rr_cg (by omega) ha.1 (rl_Sl ha) (fun _ _ => ⟨rfl, rfl⟩) (fun _ _ => ⟨rfl, rfl⟩) (fun j hj => ?_) hr⟩, hs⟩
          by_cases ej : j = i
          · rw [ej, sf_us, sf_us]
          · rw [sf_un ej, sf_un ej]; exact hr.2.2.2.2.1 j hj
        exact br_t h0 (And.intro hin (nm_e (br_t hv (ys_nY (by omega) hi (br_f (by decide) (And.intro hin (br_t h0 (And.intro hin (nm_e ⟨rfl, fin2⟩)))))))))
      · exact br_f h0 (br_t hv (ys_nY (by omega) hi (br_f (by decide) (And.intro hin (br_f h0 ⟨rfl, fin⟩)))))
  · exact xs_acc (fun z => absurd z hv) (fun _ => br_t rfl (br_f hv ⟨rfl, fin⟩))
theorem i_vc_restart {k : Nat} {u : SX} {v : SY} (I : i_Rel k u v) (hk : k + 5 ≤ 2562) : wpX_restart (fun r u' => wpY_restart (fun r' v' => r' = r ∧ i_Rel (k + 5) u' v') v) u := by
  refine rl_el (P := fun u v => wpX_restart (fun r u' => wpY_restart (fun r' v' => r' = r ∧ i_Rel (k + 5) u' v') v) u) I ?_
  intro cap hor c f_verdict f_errorNode f_outputs f_late f_codeLen f_openGuard f_guardClock f_memCount f_presence f_tickCount f_digestValue f_hasSnapshot f_savedPresence f_savedTicks f_savedDigest a_kinds a_opA a_opB a_opC a_parent a_facts a_clocks a_needs a_reach a_order a_levels a_codeOp a_codeDst a_codeX a_codeY a_codeZ a_memSlot a_memInit a_mem a_latched a_vals a_savedMem a_savedLatched a_savedVals g_ticks g_saved g_savedTicks b_op b_out b_fact b_clock b_reach b_late b_depth b_latched b_there b_val b_savedLatched b_savedThere b_savedVal hB hA
  have fin : i_Rel (k + 5) (nI cap, nI hor, nI c, f_verdict, f_errorNode, f_outputs, f_late, f_codeLen, f_openGuard, f_guardClock, f_memCount, f_presence, f_tickCount, f_digestValue, f_hasSnapshot, f_savedPresence, f_savedTicks, f_savedDigest, a_kinds, a_opA, a_opB, a_opC, a_parent, a_facts, a_clocks, a_needs, a_reach, a_order, a_levels, a_codeOp, a_codeDst, a_codeX, a_codeY, a_codeZ, a_memSlot, a_memInit, a_mem, a_latched, a_vals, a_savedMem, a_savedLatched, a_savedVals) (nI cap, nI hor, nI c, f_verdict, f_errorNode, g_ticks, g_saved, g_savedTicks, a_kinds, b_op, b_out, b_fact, b_clock, b_reach, b_late, b_depth, b_latched, b_there, b_val, b_savedLatched, b_savedThere, b_savedVal) := rl_mk hB hA
  unfold wpX_restart
  dsimp only
  by_cases hv : f_verdict = 1
  · obtain ⟨ha, _, hs⟩ := hA hv
    obtain ⟨mc, hmc, emc, hMi⟩ := ha.2.2.2.2.1
    subst emc
    refine xs_acc (fun _ => br_f (by decide) ?_) (fun z => absurd hv z)
    refine xs_reset hmc (fun M Lx V hX => ?_)
    refine br_t hv (ys_start (fun L' hL' => ?_))
    have fin2 : i_Rel (k + 5) (nI cap, nI hor, nI c, f_verdict, f_errorNode, f_outputs, f_late, f_codeLen, f_openGuard, f_guardClock, nI mc, 0, 0, 0, f_hasSnapshot, f_savedPresence, f_savedTicks, f_savedDigest, a_kinds, a_opA, a_opB, a_opC, a_parent, a_facts, a_clocks, a_needs, a_reach, a_order, a_levels, a_codeOp, a_codeDst, a_codeX, a_codeY, a_codeZ, a_memSlot, a_memInit, M, Lx, V, a_savedMem, a_savedLatched, a_savedVals) (nI cap, nI hor, nI c, f_verdict, f_errorNode, 0, g_saved, g_savedTicks, a_kinds, b_op, b_out, b_fact, b_clock, b_reach, b_late, b_depth, L', b_there, b_val, b_savedLatched, b_savedThere, b_savedVal) :=
      rl_mk hB (fun _ => ⟨ha, ⟨0, rfl, rfl, rr_start hMi hmc hX hL'⟩, hs⟩)
    exact ⟨rfl, fin2⟩
  · exact xs_acc (fun z => absurd z hv) (fun _ => br_t rfl (br_f hv ⟨rfl, fin⟩))
section
variable {f_capacity f_horizon f_count f_verdict f_errorNode f_outputs f_late f_codeLen f_openGuard f_guardClock f_memCount f_presence f_tickCount f_digestValue f_hasSnapshot f_savedPresence f_savedTicks f_savedDigest : Int32} {a_kinds a_opA a_opB a_opC a_parent a_facts a_clocks a_needs a_reach a_order a_levels a_codeOp a_codeDst a_codeX a_codeY a_codeZ a_memSlot a_memInit a_mem a_latched a_vals a_savedMem a_savedLatched a_savedVals : Nat → Int32}
theorem xv_save {post : Int32 → SX → Prop} (K : ∀ a b d, (∀ j, j < 24 → a j = a_mem j ∧ b j = a_latched j ∧ d j = a_vals j) → post 1 (f_capacity, f_horizon, f_count, f_verdict, f_errorNode, f_outputs, f_late, f_codeLen, f_openGuard, f_guardClock, f_memCount, f_presence, f_tickCount, f_digestValue, 1, f_presence, f_tickCount, f_digestValue, a_kinds, a_opA, a_opB, a_opC, a_parent, a_facts, a_clocks, a_needs, a_reach, a_order, a_levels, a_codeOp, a_codeDst, a_codeX, a_codeY, a_codeZ, a_memSlot, a_memInit, a_mem, a_latched, a_vals, a, b, d)) :
    ∀ n i a b d, i ≤ 24 → 24 - i < n → (∀ j, j < i → a j = a_mem j ∧ b j = a_latched j ∧ d j = a_vals j) → wX_save_12 post f_capacity f_horizon f_count f_verdict f_errorNode f_outputs f_late f_codeLen f_openGuard f_guardClock f_memCount f_presence f_tickCount f_digestValue f_hasSnapshot f_savedPresence f_savedTicks f_savedDigest n (nI i) a_kinds a_opA a_opB a_opC a_parent a_facts a_clocks a_needs a_reach a_order a_levels a_codeOp a_codeDst a_codeX a_codeY a_codeZ a_memSlot a_memInit a_mem a_latched a_vals a b d := by
  intro n
  induction n with
  | zero => intro i a b d _ hn; omega
  | succ n ih =>
    intro i a b d hi hn hI
    rcases Nat.lt_or_ge i 24 with h | h
    · have hin : vp_in (nI i) 24 := sf_in h (by omega)
      refine br_f (sf_nle (b := 24) h (by omega)) (And.intro hin (And.intro hin ?_))
      rw [sf_cl (n := i) (by omega)]
      refine nm_e (And.intro hin (And.intro hin (nm_e (And.intro hin (And.intro hin (nm_e (nm_r (nI_1 i) (ih (i + 1) _ _ _ (by omega) (by omega) (fun j hj => ?_)))))))))
      rcases (by omega : j < i ∨ j = i) with z | rfl
      · rw [sf_un (by omega), sf_un (by omega), sf_un (by omega)]; exact hI j z
      · rw [sf_us, sf_us, sf_us]; exact ⟨rfl, rfl, rfl⟩
    · have : i = 24 := by omega
      subst this
      exact br_t (by decide) (K a b d hI)
theorem xv_rest {post : Int32 → SX → Prop} (K : ∀ a b d, (∀ j, j < 24 → a j = a_savedMem j ∧ b j = a_savedLatched j ∧ d j = a_savedVals j) → post 1 (f_capacity, f_horizon, f_count, f_verdict, f_errorNode, f_outputs, f_late, f_codeLen, f_openGuard, f_guardClock, f_memCount, f_savedPresence, f_savedTicks, f_savedDigest, f_hasSnapshot, f_savedPresence, f_savedTicks, f_savedDigest, a_kinds, a_opA, a_opB, a_opC, a_parent, a_facts, a_clocks, a_needs, a_reach, a_order, a_levels, a_codeOp, a_codeDst, a_codeX, a_codeY, a_codeZ, a_memSlot, a_memInit, a, b, d, a_savedMem, a_savedLatched, a_savedVals)) :
    ∀ n i a b d, i ≤ 24 → 24 - i < n → (∀ j, j < i → a j = a_savedMem j ∧ b j = a_savedLatched j ∧ d j = a_savedVals j) → wX_restore_22 post f_capacity f_horizon f_count f_verdict f_errorNode f_outputs f_late f_codeLen f_openGuard f_guardClock f_memCount f_presence f_tickCount f_digestValue f_hasSnapshot f_savedPresence f_savedTicks f_savedDigest n (nI i) a_kinds a_opA a_opB a_opC a_parent a_facts a_clocks a_needs a_reach a_order a_levels a_codeOp a_codeDst a_codeX a_codeY a_codeZ a_memSlot a_memInit a b d a_savedMem a_savedLatched a_savedVals := by
  intro n
  induction n with
  | zero => intro i a b d _ hn; omega
  | succ n ih =>
    intro i a b d hi hn hI
    rcases Nat.lt_or_ge i 24 with h | h
    · have hin : vp_in (nI i) 24 := sf_in h (by omega)
      refine br_f (sf_nle (b := 24) h (by omega)) (And.intro hin (And.intro hin ?_))
      rw [sf_cl (n := i) (by omega)]
      refine nm_e (And.intro hin (And.intro hin (nm_e (And.intro hin (And.intro hin (nm_e (nm_r (nI_1 i) (ih (i + 1) _ _ _ (by omega) (by omega) (fun j hj => ?_)))))))))
      rcases (by omega : j < i ∨ j = i) with z | rfl
      · rw [sf_un (by omega), sf_un (by omega), sf_un (by omega)]; exact hI j z
      · rw [sf_us, sf_us, sf_us]; exact ⟨rfl, rfl, rfl⟩
    · have : i = 24 := by omega
      subst this
      exact br_t (by decide) (K a b d hI)
end
section
variable {g_capacity g_horizon g_count g_verdict g_errorNode g_ticks g_saved g_savedTicks : Int32} {b_kind b_op b_out b_fact b_clock b_reach b_late b_depth b_latched b_there b_val b_savedLatched b_savedThere b_savedVal : Nat → Int32}
theorem yv_save52 {post : Int32 → SY → Prop} (K : ∀ a b, (∀ j, j < 6000 → a j = vp_nar .boolean (b_there j) ∧ b j = b_val j) → post 1 (g_capacity, g_horizon, g_count, g_verdict, g_errorNode, g_ticks, g_saved, g_savedTicks, b_kind, b_op, b_out, b_fact, b_clock, b_reach, b_late, b_depth, b_latched, b_there, b_val, b_savedLatched, a, b)) :
    ∀ n i a b, i ≤ 6000 → 6000 - i < n → (∀ j, j < i → a j = vp_nar .boolean (b_there j) ∧ b j = b_val j) → wY_save_52 post g_capacity g_horizon g_count g_verdict g_errorNode g_ticks g_saved g_savedTicks n (nI i) b_kind b_op b_out b_fact b_clock b_reach b_late b_depth b_latched b_there b_val b_savedLatched a b := by
  intro n
  induction n with
  | zero => intro i a b _ hn; omega
  | succ n ih =>
    intro i a b hi hn hI
    rcases Nat.lt_or_ge i 6000 with h | h
    · have hin : vp_in (nI i) 6000 := sf_in h (by omega)
      refine br_f (sf_nle (b := 6000) h (by omega)) (And.intro hin (And.intro hin ?_))
      rw [sf_cl (n := i) (by omega)]
      refine nm_e (And.intro hin (And.intro hin (nm_e (nm_r (nI_1 i) (ih (i + 1) _ _ (by omega) (by omega) (fun j hj => ?_))))))
      rcases (by omega : j < i ∨ j = i) with z | rfl
      · rw [sf_un (by omega), sf_un (by omega)]; exact hI j z
      · rw [sf_us, sf_us]; exact ⟨rfl, rfl⟩
    · have : i = 6000 := by omega
      subst this
      exact br_t (by decide) (K a b hI)
theorem yv_save26 {post : Int32 → SY → Prop} (K : ∀ l a b, (∀ j, j < 24 → l j = b_latched j) → (∀ j, j < 6000 → a j = vp_nar .boolean (b_there j) ∧ b j = b_val j) → post 1 (g_capacity, g_horizon, g_count, g_verdict, g_errorNode, g_ticks, g_saved, g_savedTicks, b_kind, b_op, b_out, b_fact, b_clock, b_reach, b_late, b_depth, b_latched, b_there, b_val, l, a, b)) :
    ∀ n i l, i ≤ 24 → 24 - i < n → (∀ j, j < i → l j = b_latched j) → wY_save_26 post g_capacity g_horizon g_count g_verdict g_errorNode g_ticks g_saved g_savedTicks n (nI i) b_kind b_op b_out b_fact b_clock b_reach b_late b_depth b_latched b_there b_val l b_savedThere b_savedVal := by
  intro n
  induction n with
  | zero => intro i l _ hn; omega
  | succ n ih =>
    intro i l hi hn hI
    rcases Nat.lt_or_ge i 24 with h | h
    · have hin : vp_in (nI i) 24 := sf_in h (by omega)
      refine br_f (sf_nle (b := 24) h (by omega)) (And.intro hin (And.intro hin ?_))
      rw [sf_cl (n := i) (by omega)]
      refine nm_e (nm_r (nI_1 i) (ih (i + 1) _ (by omega) (by omega) (fun j hj => ?_)))
      rcases (by omega : j < i ∨ j = i) with z | rfl
      · rw [sf_un (by omega)]; exact hI j z
      · rw [sf_us]
    · have : i = 24 := by omega
      subst this
      exact br_t (by decide) (Exists.intro 6001 (yv_save52 (fun a b hab => K l a b hI hab) 6001 0 _ _ (by omega) (by omega) (fun j z => absurd z (by omega))))
theorem yv_rest57 {post : Int32 → SY → Prop} (K : ∀ a b, (∀ j, j < 6000 → a j = vp_nar .boolean (b_savedThere j) ∧ b j = b_savedVal j) → post 1 (g_capacity, g_horizon, g_count, g_verdict, g_errorNode, g_ticks, g_saved, g_savedTicks, b_kind, b_op, b_out, b_fact, b_clock, b_reach, b_late, b_depth, b_latched, a, b, b_savedLatched, b_savedThere, b_savedVal)) :
    ∀ n i a b, i ≤ 6000 → 6000 - i < n → (∀ j, j < i → a j = vp_nar .boolean (b_savedThere j) ∧ b j = b_savedVal j) → wY_restore_57 post g_capacity g_horizon g_count g_verdict g_errorNode g_ticks g_saved g_savedTicks n (nI i) b_kind b_op b_out b_fact b_clock b_reach b_late b_depth b_latched a b b_savedLatched b_savedThere b_savedVal := by
  intro n
  induction n with
  | zero => intro i a b _ hn; omega
  | succ n ih =>
    intro i a b hi hn hI
    rcases Nat.lt_or_ge i 6000 with h | h
    · have hin : vp_in (nI i) 6000 := sf_in h (by omega)
      refine br_f (sf_nle (b := 6000) h (by omega)) (And.intro hin (And.intro hin ?_))
      rw [sf_cl (n := i) (by omega)]
      refine nm_e (And.intro hin (And.intro hin (nm_e (nm_r (nI_1 i) (ih (i + 1) _ _ (by omega) (by omega) (fun j hj => ?_))))))
      rcases (by omega : j < i ∨ j = i) with z | rfl
      · rw [sf_un (by omega), sf_un (by omega)]; exact hI j z
      · rw [sf_us, sf_us]; exact ⟨rfl, rfl⟩
    · have : i = 6000 := by omega
      subst this
      exact br_t (by decide) (K a b hI)
theorem yv_rest31 {post : Int32 → SY → Prop} (K : ∀ l a b, (∀ j, j < 24 → l j = b_savedLatched j) → (∀ j, j < 6000 → a j = vp_nar .boolean (b_savedThere j) ∧ b j = b_savedVal j) → post 1 (g_capacity, g_horizon, g_count, g_verdict, g_errorNode, g_ticks, g_saved, g_savedTicks, b_kind, b_op, b_out, b_fact, b_clock, b_reach, b_late, b_depth, l, a, b, b_savedLatched, b_savedThere, b_savedVal)) :
    ∀ n i l, i ≤ 24 → 24 - i < n → (∀ j, j < i → l j = b_savedLatched j) → wY_restore_31 post g_capacity g_horizon g_count g_verdict g_errorNode g_ticks g_saved g_savedTicks n (nI i) b_kind b_op b_out b_fact b_clock b_reach b_late b_depth l b_there b_val b_savedLatched b_savedThere b_savedVal := by
  intro n
  induction n with
  | zero => intro i l _ hn; omega
  | succ n ih =>
    intro i l hi hn hI
    rcases Nat.lt_or_ge i 24 with h | h
    · have hin : vp_in (nI i) 24 := sf_in h (by omega)
      refine br_f (sf_nle (b := 24) h (by omega)) (And.intro hin (And.intro hin ?_))
      rw [sf_cl (n := i) (by omega)]
      refine nm_e (nm_r (nI_1 i) (ih (i + 1) _ (by omega) (by omega) (fun j hj => ?_)))
      rcases (by omega : j < i ∨ j = i) with z | rfl
      · rw [sf_un (by omega)]; exact hI j z
      · rw [sf_us]
    · have : i = 24 := by omega
      subst this
      exact br_t (by decide) (Exists.intro 6001 (yv_rest57 (fun a b hab => K l a b hI hab) 6001 0 _ _ (by omega) (by omega) (fun j z => absurd z (by omega))))
end
theorem rr_copy {c hor t : Nat} {K A B C S O lat mem vals ylat th vl lat' mem' vals' ylat' th' vl' : Nat → Int32} {pr dig : Int32} (hc : c ≤ 24) (hhor : hor ≤ 250) (hN : sf_ND c K A B C) (hS : ex_Sl c K S)
    (hX : ∀ j, j < 24 → mem' j = mem j ∧ lat' j = lat j ∧ vals' j = vals j) (hl : ∀ j, j < 24 → ylat' j = ylat j) (hth : ∀ j, j < 6000 → th' j = vp_nar .boolean (th j) ∧ vl' j = vl j)
    (h : rr_R c hor K A B C S O t pr dig lat mem vals ylat th vl) : rr_R c hor K A B C S O t pr dig lat' mem' vals' ylat' th' vl' := by
  refine rr_cg hc hN hS (fun j hj => ?_) (fun j hj => ⟨(hX j hj).1, (hX j hj).2.2⟩) (fun j hj => ?_) h
  · have ht := h.1
    have hb := h.2.2.2.2.2 j hj
    obtain ⟨a, b⟩ := hth j (by omega)
    exact ⟨a.trans (sf_vb hb), b⟩
  · rw [hl j hj, (hX j hj).2.1]; exact h.2.2.2.2.1 j hj
theorem i_vc_save {k : Nat} {u : SX} {v : SY} (I : i_Rel k u v) (hk : k + 5 ≤ 2562) : wpX_save (fun r u' => wpY_save (fun r' v' => r' = r ∧ i_Rel (k + 5) u' v') v) u := by
  refine rl_el (P := fun u v => wpX_save (fun r u' => wpY_save (fun r' v' => r' = r ∧ i_Rel (k + 5) u' v') v) u) I ?_
  intro cap hor c f_verdict f_errorNode f_outputs f_late f_codeLen f_openGuard f_guardClock f_memCount f_presence f_tickCount f_digestValue f_hasSnapshot f_savedPresence f_savedTicks f_savedDigest a_kinds a_opA a_opB a_opC a_parent a_facts a_clocks a_needs a_reach a_order a_levels a_codeOp a_codeDst a_codeX a_codeY a_codeZ a_memSlot a_memInit a_mem a_latched a_vals a_savedMem a_savedLatched a_savedVals g_ticks g_saved g_savedTicks b_op b_out b_fact b_clock b_reach b_late b_depth b_latched b_there b_val b_savedLatched b_savedThere b_savedVal hB hA
  have fin : i_Rel (k + 5) (nI cap, nI hor, nI c, f_verdict, f_errorNode, f_outputs, f_late, f_codeLen, f_openGuard, f_guardClock, f_memCount, f_presence, f_tickCount, f_digestValue, f_hasSnapshot, f_savedPresence, f_savedTicks, f_savedDigest, a_kinds, a_opA, a_opB, a_opC, a_parent, a_facts, a_clocks, a_needs, a_reach, a_order, a_levels, a_codeOp, a_codeDst, a_codeX, a_codeY, a_codeZ, a_memSlot, a_memInit, a_mem, a_latched, a_vals, a_savedMem, a_savedLatched, a_savedVals) (nI cap, nI hor, nI c, f_verdict, f_errorNode, g_ticks, g_saved, g_savedTicks, a_kinds, b_op, b_out, b_fact, b_clock, b_reach, b_late, b_depth, b_latched, b_there, b_val, b_savedLatched, b_savedThere, b_savedVal) := rl_mk hB hA
  unfold wpX_save
  dsimp only
  by_cases hv : f_verdict = 1
  · refine xs_acc (fun _ => br_f (by decide) (Exists.intro 25 ?_)) (fun z => absurd hv z)
    refine xv_save (fun a b d hX => ?_) 25 0 _ _ _ (by omega) (by omega) (fun j z => absurd z (by omega))
    refine br_t hv (Exists.intro 25 ?_)
    refine yv_save26 (fun l a' b' hl hab => ?_) 25 0 _ (by omega) (by omega) (fun j z => absurd z (by omega))
    have fin2 : i_Rel (k + 5) (nI cap, nI hor, nI c, f_verdict, f_errorNode, f_outputs, f_late, f_codeLen, f_openGuard, f_guardClock, f_memCount, f_presence, f_tickCount, f_digestValue, 1, f_presence, f_tickCount, f_digestValue, a_kinds, a_opA, a_opB, a_opC, a_parent, a_facts, a_clocks, a_needs, a_reach, a_order, a_levels, a_codeOp, a_codeDst, a_codeX, a_codeY, a_codeZ, a_memSlot, a_memInit, a_mem, a_latched, a_vals, a, b, d) (nI cap, nI hor, nI c, f_verdict, f_errorNode, g_ticks, 1, g_ticks, a_kinds, b_op, b_out, b_fact, b_clock, b_reach, b_late, b_depth, b_latched, b_there, b_val, l, a', b') := by
      refine rl_mk hB (fun _ => ?_)
      obtain ⟨ha, ht, _⟩ := hA hv
      have ht' := ht
      obtain ⟨t, e1, e2, hr⟩ := ht'
      refine ⟨ha, ht, Or.inr ⟨rfl, rfl, t, e1, e2, ?_⟩⟩
      exact rr_copy (by have := hB.1; have := hB.2.2.1; omega) hB.2.1 ha.1 (rl_Sl ha) hX hl hab hr
    exact ⟨rfl, fin2⟩
  · exact xs_acc (fun z => absurd z hv) (fun _ => br_t rfl (br_f hv ⟨rfl, fin⟩))
theorem i_vc_restore {k : Nat} {u : SX} {v : SY} (I : i_Rel k u v) (hk : k + 5 ≤ 2562) : wpX_restore (fun r u' => wpY_restore (fun r' v' => r' = r ∧ i_Rel (k + 5) u' v') v) u := by
  refine rl_el (P := fun u v => wpX_restore (fun r u' => wpY_restore (fun r' v' => r' = r ∧ i_Rel (k + 5) u' v') v) u) I ?_
  intro cap hor c f_verdict f_errorNode f_outputs f_late f_codeLen f_openGuard f_guardClock f_memCount f_presence f_tickCount f_digestValue f_hasSnapshot f_savedPresence f_savedTicks f_savedDigest a_kinds a_opA a_opB a_opC a_parent a_facts a_clocks a_needs a_reach a_order a_levels a_codeOp a_codeDst a_codeX a_codeY a_codeZ a_memSlot a_memInit a_mem a_latched a_vals a_savedMem a_savedLatched a_savedVals g_ticks g_saved g_savedTicks b_op b_out b_fact b_clock b_reach b_late b_depth b_latched b_there b_val b_savedLatched b_savedThere b_savedVal hB hA
  have fin : i_Rel (k + 5) (nI cap, nI hor, nI c, f_verdict, f_errorNode, f_outputs, f_late, f_codeLen, f_openGuard, f_guardClock, f_memCount, f_presence, f_tickCount, f_digestValue, f_hasSnapshot, f_savedPresence, f_savedTicks, f_savedDigest, a_kinds, a_opA, a_opB, a_opC, a_parent, a_facts, a_clocks, a_needs, a_reach, a_order, a_levels, a_codeOp, a_codeDst, a_codeX, a_codeY, a_codeZ, a_memSlot, a_memInit, a_mem, a_latched, a_vals, a_savedMem, a_savedLatched, a_savedVals) (nI cap, nI hor, nI c, f_verdict, f_errorNode, g_ticks, g_saved, g_savedTicks, a_kinds, b_op, b_out, b_fact, b_clock, b_reach, b_late, b_depth, b_latched, b_there, b_val, b_savedLatched, b_savedThere, b_savedVal) := rl_mk hB hA
  unfold wpX_restore
  dsimp only
  by_cases hv : f_verdict = 1
  · obtain ⟨ha, ht, hs⟩ := hA hv
    refine xs_acc (fun _ => br_f (by decide) ?_) (fun z => absurd hv z)
    rcases hs with ⟨s1, s2⟩ | ⟨s1, s2, hs⟩
    · exact br_t s1 (br_t hv (br_t s2 ⟨rfl, fin⟩))
    · refine br_f (by rw [s1]; decide) (Exists.intro 25 ?_)
      refine xv_rest (fun a b d hX => ?_) 25 0 _ _ _ (by omega) (by omega) (fun j z => absurd z (by omega))
      refine br_t hv (br_f (by rw [s2]; decide) (Exists.intro 25 ?_))
      refine yv_rest31 (fun l a' b' hl hab => ?_) 25 0 _ (by omega) (by omega) (fun j z => absurd z (by omega))
      have fin2 : i_Rel (k + 5) (nI cap, nI hor, nI c, f_verdict, f_errorNode, f_outputs, f_late, f_codeLen, f_openGuard, f_guardClock, f_memCount, f_savedPresence, f_savedTicks, f_savedDigest, f_hasSnapshot, f_savedPresence, f_savedTicks, f_savedDigest, a_kinds, a_opA, a_opB, a_opC, a_parent, a_facts, a_clocks, a_needs, a_reach, a_order, a_levels, a_codeOp, a_codeDst, a_codeX, a_codeY, a_codeZ, a_memSlot, a_memInit, a, b, d, a_savedMem, a_savedLatched, a_savedVals) (nI cap, nI hor, nI c, f_verdict, f_errorNode, g_savedTicks, g_saved, g_savedTicks, a_kinds, b_op, b_out, b_fact, b_clock, b_reach, b_late, b_depth, l, a', b', b_savedLatched, b_savedThere, b_savedVal) := by
        refine rl_mk hB (fun _ => ?_)
        have hs' := hs
        obtain ⟨t, e1, e2, hr⟩ := hs'
        refine ⟨ha, ⟨t, e1, e2, ?_⟩, Or.inr ⟨s1, s2, hs⟩⟩
        exact rr_copy (by have := hB.1; have := hB.2.2.1; omega) hB.2.1 ha.1 (rl_Sl ha) hX hl hab hr
      exact ⟨rfl, fin2⟩
  · exact xs_acc (fun z => absurd z hv) (fun _ => br_t rfl (br_f hv ⟨rfl, fin⟩))
end
section
/-! running -/
theorem ex_F_m {K A B C Lt m0 m1 : Nat → Int32} {P : Nat → Bool} {V : Nat → Int32} {i : Nat} (h : em_mk (K i) → m0 i = m1 i) : ex_F K A B C Lt m0 P V i = ex_F K A B C Lt m1 P V i := by
  by_cases hk : em_mk (K i)
  · unfold ex_F; rw [h hk]
  · have n2 : ¬ K i = 2 := fun e => hk (Or.inl e)
    have n3 : ¬ K i = 3 := fun e => hk (Or.inr (Or.inl e))
    have n5 : ¬ K i = 5 := fun e => hk (Or.inr (Or.inr e))
    unfold ex_F
    rw [if_neg n2, if_neg n2, if_neg n3, if_neg n3, if_neg n5, if_neg n5]
theorem ex_E_m {c n : Nat} {K A B C ck Lt m0 m1 vals : Nat → Int32} {nd : Nat → Nat} {pr : Int32} (hnd : ∀ j, j < c → nd j < c) (h : ∀ i, i < c → em_mk (K i) → m0 i = m1 i) (hE : ex_E c K A B C ck Lt m0 nd n pr vals) : ex_E c K A B C ck Lt m1 nd n pr vals := by
  refine ⟨fun j hj hjc => ?_, hE.2⟩
  rw [← ex_F_m (h _ (hnd j hjc))]
  exact hE.1 j hj hjc
theorem ex_M_m {c n : Nat} {K A B C S m0 m1 vals mem : Nat → Int32} {nd : Nat → Nat} {pr : Int32} (h : ∀ i, i < c → em_mk (K i) → m0 i = m1 i) (hM : ex_M c K A B C S m0 nd n pr vals mem) : ex_M c K A B C S m1 nd n pr vals mem := by
  intro i hi
  obtain ⟨a, b, d⟩ := hM i hi
  refine ⟨fun e => ?_, fun e => ?_, fun e => ?_⟩
  · rw [← h i hi (Or.inr (Or.inl e))]; exact a e
  · rw [← h i hi (Or.inr (Or.inr e))]; exact b e
  · rw [← h i hi (Or.inl e)]; exact d e
def xg_s (o pr : Int32) (vals : Nat → Int32) (i : Nat) (d : Int32) : Int32 := if bt o i = true then (if bt pr i = true then (31 * d + 2) * 31 + vals i else 31 * d + 1) else d
def xg_f (o pr : Int32) (vals : Nat → Int32) (d : Int32) : Nat → Int32
  | 0 => d
  | i + 1 => xg_s o pr vals i (xg_f o pr vals d i)
theorem xg_eq {o pr d : Int32} {vals O th vl : Nat → Int32} {t : Nat} : ∀ c, (∀ i, i < c → (¬ O i = 0 ↔ bt o i = true)) → (∀ i, i < c → th (t * 24 + i) = (if bt pr i = true then 1 else 0) ∧ vl (t * 24 + i) = ex_V pr vals i) →
    xg_f o pr vals d c = yd_i O th vl t d c
  | 0, _, _ => rfl
  | c + 1, h1, h2 => by
    simp only [xg_f, yd_i]
    rw [xg_eq c (fun i hi => h1 i (by omega)) (fun i hi => h2 i (by omega))]
    unfold xg_s yd_s
    obtain ⟨a, b⟩ := h2 c (by omega)
    by_cases e : bt o c = true
    · rw [if_pos e, if_neg ((h1 c (by omega)).mpr e)]
      by_cases e2 : bt pr c = true
      · rw [if_pos e2] at a
        rw [if_pos e2, if_neg (by rw [a]; decide), b, ex_V_t e2]
      · rw [if_neg e2] at a
        rw [if_neg e2, if_pos a]
    · rw [if_neg e, if_pos (Classical.byContradiction fun z => e ((h1 c (by omega)).mp z))]
section
variable {f_capacity f_horizon f_count f_verdict f_errorNode f_outputs f_late f_codeLen f_openGuard f_guardClock f_memCount f_presence f_tickCount f_digestValue f_hasSnapshot f_savedPresence f_savedTicks f_savedDigest : Int32} {a_kinds a_opA a_opB a_opC a_parent a_facts a_clocks a_needs a_reach a_order a_levels a_codeOp a_codeDst a_codeX a_codeY a_codeZ a_memSlot a_memInit a_mem a_latched a_vals a_savedMem a_savedLatched a_savedVals : Nat → Int32}
theorem xt_tick {c N : Nat} {nd : Nat → Nat} {mem vals : Nat → Int32} {pr : Int32} {post : SX → Prop} (hF : ex_Fr c a_kinds a_opA a_opB a_opC a_clocks a_memSlot nd) (hN48 : N ≤ 48) (hndc : ∀ n, n < N → nd n < c) (hst2 : ∀ n, c ≤ n → n < N → a_kinds (nd n) = 2)
    (hA : em_LA (em_ic a_clocks nd) (em_iO c a_kinds nd) (em_iD c a_memSlot nd) (em_iX c a_kinds a_opA nd) (em_iY c a_kinds a_opB nd) (em_iZ c a_kinds a_opC a_memSlot nd) a_codeOp a_codeDst a_codeX a_codeY a_codeZ N) (hG : em_Fin (em_ic a_clocks nd) a_codeOp a_codeX a_codeY N) (h3 : ∀ i, i < c → a_kinds i = 3 → mem (em_sl a_memSlot i) = 0 ∨ mem (em_sl a_memSlot i) = 1)
    (Kp : ∀ pr' vals' mem', ex_E c a_kinds a_opA a_opB a_opC a_clocks a_latched (fun i => mem (em_sl a_memSlot i)) nd N pr' vals' → ex_M c a_kinds a_opA a_opB a_opC a_memSlot (fun i => mem (em_sl a_memSlot i)) nd N pr' vals' mem' → post (f_capacity, f_horizon, nI c, f_verdict, f_errorNode, f_outputs, f_late, nI (em_bd (em_ic a_clocks nd) N), f_openGuard, f_guardClock, f_memCount, pr', f_tickCount, f_digestValue, f_hasSnapshot, f_savedPresence, f_savedTicks, f_savedDigest, a_kinds, a_opA, a_opB, a_opC, a_parent, a_facts, a_clocks, a_needs, a_reach, a_order, a_levels, a_codeOp, a_codeDst, a_codeX, a_codeY, a_codeZ, a_memSlot, a_memInit, mem', a_latched, vals', a_savedMem, a_savedLatched, a_savedVals)) :
    wpX_executeTick post (f_capacity, f_horizon, nI c, f_verdict, f_errorNode, f_outputs, f_late, nI (em_bd (em_ic a_clocks nd) N), f_openGuard, f_guardClock, f_memCount, pr, f_tickCount, f_digestValue, f_hasSnapshot, f_savedPresence, f_savedTicks, f_savedDigest, a_kinds, a_opA, a_opB, a_opC, a_parent, a_facts, a_clocks, a_needs, a_reach, a_order, a_levels, a_codeOp, a_codeDst, a_codeX, a_codeY, a_codeZ, a_memSlot, a_memInit, mem, a_latched, vals, a_savedMem, a_savedLatched, a_savedVals) := by
  unfold wpX_executeTick
  refine Exists.intro (em_bd (em_ic a_clocks nd) N + 1) ?_
  refine xt_walk (m0 := fun i => mem (em_sl a_memSlot i)) hF hN48 hndc hst2 hA hG h3 Kp N 0 (em_bd (em_ic a_clocks nd) N + 1) 0 0 vals mem (Nat.zero_le _) (by omega) (by show em_bd (em_ic a_clocks nd) N - 0 < _; omega) (Nat.zero_le _) ⟨fun j hj => absurd hj (by omega), fun j _ _ => by rw [b_0]; decide⟩ (fun i hi => ?_) (fun _ hng => ?_)
  · have hb : ¬ bt 0 i = true := by rw [b_0]; decide
    refine ⟨fun _ => by rw [if_neg hb], fun _ => by rw [if_neg (fun z => hb z.1)], fun _ => ⟨fun ⟨j, _, z, _⟩ => absurd z (by omega), fun _ => rfl⟩⟩
  · rcases em_ng hng with z | z
    · have z' : a_clocks (nd 0) = -1 := z
      rw [z']; exact ex_on_b
    · exact Or.inl z
theorem xg_7 {c N : Nat} {nd : Nat → Nat} {post : SX → Prop} {d0 : Int32} (hc : c ≤ 24) (Kp : post (f_capacity, f_horizon, nI c, f_verdict, f_errorNode, f_outputs, f_late, nI (em_bd (em_ic a_clocks nd) N), f_openGuard, f_guardClock, f_memCount, f_presence, f_tickCount, xg_f f_outputs f_presence a_vals d0 c, f_hasSnapshot, f_savedPresence, f_savedTicks, f_savedDigest, a_kinds, a_opA, a_opB, a_opC, a_parent, a_facts, a_clocks, a_needs, a_reach, a_order, a_levels, a_codeOp, a_codeDst, a_codeX, a_codeY, a_codeZ, a_memSlot, a_memInit, a_mem, a_latched, a_vals, a_savedMem, a_savedLatched, a_savedVals)) :
    ∀ n i, i ≤ c → c - i < n → wX_updateDigest_7 post f_capacity f_horizon (nI c) f_verdict f_errorNode f_outputs f_late (nI (em_bd (em_ic a_clocks nd) N)) f_openGuard f_guardClock f_memCount f_presence f_tickCount f_digestValue f_hasSnapshot f_savedPresence f_savedTicks f_savedDigest a_kinds a_opA a_opB a_opC a_parent a_facts a_clocks a_needs a_reach a_order a_levels a_codeOp a_codeDst a_codeX a_codeY a_codeZ a_memSlot a_memInit a_mem a_latched a_vals a_savedMem a_savedLatched a_savedVals n (xg_f f_outputs f_presence a_vals d0 i) (nI i) := by
  intro n
  induction n with
  | zero => intro i _ hn; omega
  | succ n ih =>
    intro i hi hn
    rcases Nat.lt_or_ge i c with h | h
    · have go := ih (i + 1) (by omega) (by omega)
      simp only [xg_f] at go
      unfold xg_s at go
      refine br_f (sf_nle h (by omega)) ?_
      refine sf_bb (by omega) (fun hb => ?_) (fun hb => ?_)
      · rw [if_neg hb] at go; exact nm_r (nI_1 i) go
      · rw [if_pos hb] at go
        refine sf_bb (by omega) (fun hp => ?_) (fun hp => And.intro (sf_in (by omega) (by omega)) ?_)
        · rw [if_neg hp] at go; exact nm_e (nm_r (nI_1 i) go)
        · rw [if_pos hp] at go
          rw [sf_cl (n := i) (by omega)]
          exact nm_e (nm_r (nI_1 i) go)
    · have : i = c := by omega
      subst this
      exact br_t (sf_le (by omega) (by omega)) Kp
theorem xr_48 {c N t m : Nat} {nd : Nat → Nat} {post : Int32 → SX → Prop} {HH : Nat → Int32 → Int32 → (Nat → Int32) → (Nat → Int32) → Prop} (hF : ex_Fr c a_kinds a_opA a_opB a_opC a_clocks a_memSlot nd) (hN48 : N ≤ 48) (hcN : c ≤ N) (hndc : ∀ n, n < N → nd n < c) (hst2 : ∀ n, c ≤ n → n < N → a_kinds (nd n) = 2)
    (hA : em_LA (em_ic a_clocks nd) (em_iO c a_kinds nd) (em_iD c a_memSlot nd) (em_iX c a_kinds a_opA nd) (em_iY c a_kinds a_opB nd) (em_iZ c a_kinds a_opC a_memSlot nd) a_codeOp a_codeDst a_codeX a_codeY a_codeZ N) (hG : em_Fin (em_ic a_clocks nd) a_codeOp a_codeX a_codeY N) (hm : m ≤ 250)
    (hstep : ∀ s pr dig mem vals pr' mem' vals', s < m → HH s pr dig mem vals → ex_E c a_kinds a_opA a_opB a_opC a_clocks a_latched (fun i => mem (em_sl a_memSlot i)) nd N pr' vals' → ex_M c a_kinds a_opA a_opB a_opC a_memSlot (fun i => mem (em_sl a_memSlot i)) nd N pr' vals' mem' → HH (s + 1) pr' (xg_f f_outputs pr' vals' dig c) mem' vals')
    (Kp : ∀ pr dig mem vals, HH m pr dig mem vals → post (nI m) (f_capacity, f_horizon, nI c, f_verdict, f_errorNode, f_outputs, f_late, nI (em_bd (em_ic a_clocks nd) N), f_openGuard, f_guardClock, f_memCount, pr, nI (t + m), dig, f_hasSnapshot, f_savedPresence, f_savedTicks, f_savedDigest, a_kinds, a_opA, a_opB, a_opC, a_parent, a_facts, a_clocks, a_needs, a_reach, a_order, a_levels, a_codeOp, a_codeDst, a_codeX, a_codeY, a_codeZ, a_memSlot, a_memInit, mem, a_latched, vals, a_savedMem, a_savedLatched, a_savedVals)) :
    ∀ n s pr dig mem vals, s ≤ m → m - s < n → (∀ i, i < c → a_kinds i = 3 → mem (em_sl a_memSlot i) = 0 ∨ mem (em_sl a_memSlot i) = 1) → HH s pr dig mem vals →
      wX_run_48 post (nI m) n (nI s) f_capacity f_horizon (nI c) f_verdict f_errorNode f_outputs f_late (nI (em_bd (em_ic a_clocks nd) N)) f_openGuard f_guardClock f_memCount pr (nI (t + s)) dig f_hasSnapshot f_savedPresence f_savedTicks f_savedDigest a_kinds a_opA a_opB a_opC a_parent a_facts a_clocks a_needs a_reach a_order a_levels a_codeOp a_codeDst a_codeX a_codeY a_codeZ a_memSlot a_memInit mem a_latched vals a_savedMem a_savedLatched a_savedVals := by
  have hc := hF.1
  intro n
  induction n with
  | zero => intro s pr dig mem vals _ hn; omega
  | succ n ih =>
    intro s pr dig mem vals hs hn h3 hH
    rcases Nat.lt_or_ge s m with h | h
    · refine br_f (sf_nle h (by omega)) ?_
      refine xt_tick hF hN48 hndc hst2 hA hG h3 (fun pr' vals' mem' hE hM => ?_)
      refine Exists.intro (c + 1) (xg_7 (d0 := dig) hc ?_ (c + 1) 0 (by omega) (by omega))
      refine nm_r (nI_1 (t + s)) (nm_r (nI_1 s) ?_)
      refine ih (s + 1) pr' _ mem' vals' (by omega) (by omega) (fun i hi e3 => ?_) (hstep s pr dig mem vals pr' mem' vals' h hH hE hM)
      rw [(hM i hi).1 e3]
      by_cases hb : bt pr' i = true
      · rw [if_pos hb]; exact Or.inr rfl
      · rw [if_neg hb]; exact h3 i hi e3
    · have : s = m := by omega
      subst this
      exact br_t (sf_le (by omega) (by omega)) (Kp pr dig mem vals hH)
end
theorem rl_run {k cap hor c t m : Nat} {W : (Int32 → SY → Prop) → Prop} {f_verdict f_errorNode f_outputs f_late f_codeLen f_openGuard f_guardClock f_memCount f_presence f_tickCount f_digestValue f_hasSnapshot f_savedPresence f_savedTicks f_savedDigest : Int32} {a_kinds a_opA a_opB a_opC a_parent a_facts a_clocks a_needs a_reach a_order a_levels a_codeOp a_codeDst a_codeX a_codeY a_codeZ a_memSlot a_memInit a_mem a_latched a_vals a_savedMem a_savedLatched a_savedVals : Nat → Int32} {g_ticks g_saved g_savedTicks : Int32} {b_op b_out b_fact b_clock b_reach b_late b_depth b_latched b_there b_val b_savedLatched b_savedThere b_savedVal : Nat → Int32} (hB : rl_B cap hor c f_outputs a_kinds a_opA a_opB a_opC b_op b_out) (hv : f_verdict = 1) (ha : rl_A c f_codeLen f_memCount a_kinds a_opA a_opB a_opC a_clocks a_levels a_codeOp a_codeDst a_codeX a_codeY a_codeZ a_memSlot a_memInit b_clock) (hr : rr_R c hor a_kinds a_opA a_opB a_opC a_memSlot b_out t f_presence f_digestValue a_latched a_mem a_vals b_latched b_there b_val)
    (hs : (f_hasSnapshot = 0 ∧ g_saved = 0) ∨ (f_hasSnapshot = 1 ∧ g_saved = 1 ∧ rl_T c hor a_kinds a_opA a_opB a_opC a_memSlot b_out f_savedTicks g_savedTicks f_savedPresence f_savedDigest a_savedLatched a_savedMem a_savedVals b_savedLatched b_savedThere b_savedVal)) (htm : t + m ≤ hor)
    (hW : ∀ post : Int32 → SY → Prop, (∃ n', wY_run_54 post (nI m) n' 0 (nI cap) (nI hor) (nI c) f_verdict f_errorNode (nI t) g_saved g_savedTicks a_kinds b_op b_out b_fact b_clock b_reach b_late b_depth b_latched b_there b_val b_savedLatched b_savedThere b_savedVal) → W post) :
    ∃ n, wX_run_48 (fun r u' => W (fun r' v' => r' = r ∧ i_Rel (k + 5) u' v')) (nI m) n 0 (nI cap) (nI hor) (nI c) f_verdict f_errorNode f_outputs f_late f_codeLen f_openGuard f_guardClock f_memCount f_presence (nI t) f_digestValue f_hasSnapshot f_savedPresence f_savedTicks f_savedDigest a_kinds a_opA a_opB a_opC a_parent a_facts a_clocks a_needs a_reach a_order a_levels a_codeOp a_codeDst a_codeX a_codeY a_codeZ a_memSlot a_memInit a_mem a_latched a_vals a_savedMem a_savedLatched a_savedVals := by
  obtain ⟨hcap, hhor, hcc, hP, hO, hout, hob⟩ := hB
  have hc : c ≤ 24 := by omega
  have hP' := rl_Pg hP hcap
  have ha' := ha
  obtain ⟨hN, hR, hyck, ⟨N, nd, hcN, hN48, hndc, hOr, hst2, hst, eL, hA, hG⟩, ⟨mc, hmc, emc, hMi⟩, ⟨pos, hpos⟩, L, hL, hlv⟩ := ha'
  subst eL
  have hF : ex_Fr c a_kinds a_opA a_opB a_opC a_clocks a_memSlot nd := ⟨hc, fun i hi => (hP i hi).1, hN, fun i hi => (hR i hi).1, ex_Sl_of hmc hMi, hOr⟩
  have hlat := hr.2.2.2.2.1
  have hNe := sf_N_cg (K := a_kinds) (A := a_opA) (B := a_opB) (C := a_opC) hyck
  have hpos' : sf_Po c (sf_N c a_kinds a_opA a_opB a_opC b_clock) pos := by rw [hNe]; exact hpos
  have hyckin : ∀ i, i < c → b_clock i = -1 ∨ ∃ k, k < c ∧ b_clock i = nI k := fun i hi => by rw [hyck i hi]; exact (hR i hi).1
  refine Exists.intro (m + 1) ?_
  refine xr_48 (t := t) (HH := fun s pr dig mem vals => ∀ postY : Int32 → SY → Prop,
      (∀ th vl, rr_R c hor a_kinds a_opA a_opB a_opC a_memSlot b_out (t + s) pr dig a_latched mem vals b_latched th vl → wY_run_54 postY (nI m) (m - s + 1) (nI s) (nI cap) (nI hor) (nI c) f_verdict f_errorNode (nI (t + s)) g_saved g_savedTicks a_kinds b_op b_out b_fact b_clock b_reach b_late b_depth b_latched th vl b_savedLatched b_savedThere b_savedVal) → wY_run_54 postY (nI m) (m + 1) 0 (nI cap) (nI hor) (nI c) f_verdict f_errorNode (nI t) g_saved g_savedTicks a_kinds b_op b_out b_fact b_clock b_reach b_late b_depth b_latched b_there b_val b_savedLatched b_savedThere b_savedVal)
    hF hN48 hcN hndc hst2 hA hG (by omega) ?_ ?_ (m + 1) 0 f_presence f_digestValue a_mem a_vals (Nat.zero_le _) (by omega) ?_ ?_
  · intro s pr dig mem vals pr' mem' vals' hsm hH hE hM postY hY
    refine hH postY (fun th vl hrr => ?_)
    have hm0 : ∀ i, i < c → em_mk (a_kinds i) → (fun i => mem (em_sl a_memSlot i)) i = yt_m a_kinds a_opA a_opB a_opC th vl (t + s) i := fun i hi hk => hrr.2.1 i hi hk
    have hE' := ex_E_m hOr.1 hm0 hE
    have hM' := ex_M_m hm0 hM
    have hSol := ex_sol hF hR hcN hE'
    have hSol' : ex_Sol c a_kinds a_opA a_opB a_opC b_clock a_latched (yt_m a_kinds a_opA a_opB a_opC th vl (t + s)) (bt pr') (ex_V pr' vals') := fun i hi => by rw [hyck i hi]; exact hSol i hi
    have efu : m - s + 1 = (m - (s + 1) + 1) + 1 := by omega
    rw [efu]
    refine br_f (sf_nle hsm (by omega)) ?_
    refine yt_tick (A := a_opA) (B := a_opB) (C := a_opC) (t := t + s) (Lt := a_latched) (pos := pos) hc (by omega) hP' hN hO hyckin hpos' hSol' (fun i hi => hlat i (by omega)) (fun _ _ => rfl) (fun th' vl' hag hrow hb => ?_)
    refine nm_r (nI_1 (t + s)) (nm_r (nI_1 s) (hY th' vl' ?_))
    exact rr_step (t := t + s) hF hR hcN (show t + s < hor by omega) hst hrr hE' hM' hag hrow hb (xg_eq c hout hrow)
  · intro pr dig mem vals hH
    refine hW _ (Exists.intro (m + 1) (hH _ (fun th vl hrr => ?_)))
    have e1 : m - m + 1 = 0 + 1 := by omega
    rw [e1]
    refine br_t (sf_le (Nat.le_refl _) (by omega)) ?_
    have fin2 : i_Rel (k + 5) (nI cap, nI hor, nI c, f_verdict, f_errorNode, f_outputs, f_late, nI (em_bd (em_ic a_clocks nd) N), f_openGuard, f_guardClock, f_memCount, pr, nI (t + m), dig, f_hasSnapshot, f_savedPresence, f_savedTicks, f_savedDigest, a_kinds, a_opA, a_opB, a_opC, a_parent, a_facts, a_clocks, a_needs, a_reach, a_order, a_levels, a_codeOp, a_codeDst, a_codeX, a_codeY, a_codeZ, a_memSlot, a_memInit, mem, a_latched, vals, a_savedMem, a_savedLatched, a_savedVals) (nI cap, nI hor, nI c, f_verdict, f_errorNode, nI (t + m), g_saved, g_savedTicks, a_kinds, b_op, b_out, b_fact, b_clock, b_reach, b_late, b_depth, b_latched, th, vl, b_savedLatched, b_savedThere, b_savedVal) :=
      rl_mk ⟨hcap, hhor, hcc, hP, hO, hout, hob⟩ (fun _ => ⟨ha, ⟨t + m, rfl, rfl, hrr⟩, hs⟩)
    exact ⟨rfl, fin2⟩
  · intro i hi e3
    rw [hr.2.1 i hi (Or.inr (Or.inl e3))]
    unfold yt_m
    rw [if_neg (by rw [e3]; decide), if_neg (by rw [e3]; decide)]
    exact yt_sn_01 _ _ _
  · intro postY hY
    exact hY b_there b_val hr
theorem i_vc_run {k : Nat} {u : SX} {v : SY} (I : i_Rel k u v) (hk : k + 5 ≤ 2562) (v1 : Int32) : wpX_run (fun r u' => wpY_run (fun r' v' => r' = r ∧ i_Rel (k + 5) u' v') v v1) u v1 := by
  refine rl_el (P := fun u v => wpX_run (fun r u' => wpY_run (fun r' v' => r' = r ∧ i_Rel (k + 5) u' v') v v1) u v1) I ?_
  intro cap hor c f_verdict f_errorNode f_outputs f_late f_codeLen f_openGuard f_guardClock f_memCount f_presence f_tickCount f_digestValue f_hasSnapshot f_savedPresence f_savedTicks f_savedDigest a_kinds a_opA a_opB a_opC a_parent a_facts a_clocks a_needs a_reach a_order a_levels a_codeOp a_codeDst a_codeX a_codeY a_codeZ a_memSlot a_memInit a_mem a_latched a_vals a_savedMem a_savedLatched a_savedVals g_ticks g_saved g_savedTicks b_op b_out b_fact b_clock b_reach b_late b_depth b_latched b_there b_val b_savedLatched b_savedThere b_savedVal hB hA
  have fin : i_Rel (k + 5) (nI cap, nI hor, nI c, f_verdict, f_errorNode, f_outputs, f_late, f_codeLen, f_openGuard, f_guardClock, f_memCount, f_presence, f_tickCount, f_digestValue, f_hasSnapshot, f_savedPresence, f_savedTicks, f_savedDigest, a_kinds, a_opA, a_opB, a_opC, a_parent, a_facts, a_clocks, a_needs, a_reach, a_order, a_levels, a_codeOp, a_codeDst, a_codeX, a_codeY, a_codeZ, a_memSlot, a_memInit, a_mem, a_latched, a_vals, a_savedMem, a_savedLatched, a_savedVals) (nI cap, nI hor, nI c, f_verdict, f_errorNode, g_ticks, g_saved, g_savedTicks, a_kinds, b_op, b_out, b_fact, b_clock, b_reach, b_late, b_depth, b_latched, b_there, b_val, b_savedLatched, b_savedThere, b_savedVal) := rl_mk hB hA
  unfold wpX_run
  dsimp only
  by_cases hv : f_verdict = 1
  rotate_left
  · exact xs_acc (fun z => absurd z hv) (fun _ => br_t rfl (br_f hv ⟨rfl, fin⟩))
  obtain ⟨ha, ⟨t, e1, e2, hr⟩, hs⟩ := hA hv
  have hhor := hB.2.1
  have htl := hr.1
  refine xs_acc (fun _ => br_f (by decide) ?_) (fun z => absurd hv z)
  by_cases h1 : v1 < 1
  · exact br_t h1 (br_t hv (br_t h1 ⟨rfl, fin⟩))
  refine br_f h1 ?_
  by_cases h8 : v1 ≤ 8
  rotate_left
  · exact br_f h8 (br_t hv (br_f h1 (br_f h8 ⟨rfl, fin⟩)))
  refine br_t h8 ?_
  have h0 : ¬ v1 < 0 := fun z => h1 (Int32.lt_of_lt_of_le z (by decide))
  obtain ⟨q, hq, rfl⟩ := nI_of2 (x := v1) (M := 8) (n := 8) (by decide) h0 h8
  subst e1 e2
  rw [pk_sub htl]
  refine nm_e ?_
  refine sf_bl (by omega) (by omega) (fun hle => ?_) (fun hgt => ?_)
  · refine rl_run (b_fact := b_fact) (b_reach := b_reach) (b_late := b_late) (b_depth := b_depth) (g_ticks := 0) (f_tickCount := 0) (W := fun post => wpY_run post (nI cap, nI hor, nI c, f_verdict, f_errorNode, nI t, g_saved, g_savedTicks, a_kinds, b_op, b_out, b_fact, b_clock, b_reach, b_late, b_depth, b_latched, b_there, b_val, b_savedLatched, b_savedThere, b_savedVal) (nI q)) hB hv ha hr hs (by omega) (fun post hp => ?_)
    unfold wpY_run
    dsimp only
    rw [pk_sub htl]
    exact br_t hv (br_f h1 (br_t h8 (br_t (sf_le hle (by omega)) (nm_e hp))))
  · refine rl_run (b_fact := b_fact) (b_reach := b_reach) (b_late := b_late) (b_depth := b_depth) (g_ticks := 0) (f_tickCount := 0) (W := fun post => wpY_run post (nI cap, nI hor, nI c, f_verdict, f_errorNode, nI t, g_saved, g_savedTicks, a_kinds, b_op, b_out, b_fact, b_clock, b_reach, b_late, b_depth, b_latched, b_there, b_val, b_savedLatched, b_savedThere, b_savedVal) (nI q)) hB hv ha hr hs (by omega) (fun post hp => ?_)
    unfold wpY_run
    dsimp only
    rw [pk_sub htl]
    exact br_t hv (br_f h1 (br_t h8 (br_f (sf_nle hgt (by omega)) hp)))
end
