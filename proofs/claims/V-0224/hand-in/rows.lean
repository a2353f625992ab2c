section
/-! pure rows to paste: stores, nI and lN arithmetic, masks, shifts, narrowing, branches by naturals (pk_le, pk_lt, pk_eq), loops (lp1 .. lp16: the measure of the state; rp1 ..: recursion), negatives. Take what you need -/
theorem pk_us {f : Nat → Int32} {k : Nat} {x : Int32} : upd f k x k = x := if_pos rfl
theorem pk_un {f : Nat → Int32} {k j : Nat} {x : Int32} (h : j ≠ k) : upd f k x j = f j := if_neg h
theorem pk_uLs {f : Nat → Int64} {k : Nat} {x : Int64} : vp_updL f k x k = x := if_pos rfl
theorem pk_uLn {f : Nat → Int64} {k j : Nat} {x : Int64} (h : j ≠ k) : vp_updL f k x j = f j := if_neg h
theorem pk_sub {a b : Nat} (h : b ≤ a) : nI a - nI b = nI (a - b) := by
  obtain ⟨c, rfl⟩ : ∃ c, a = c + b := ⟨a - b, by omega⟩
  rw [← nI_add, Int32.add_sub_cancel, Nat.add_sub_cancel]
theorem pk_m1 (n : Nat) : nI (n + 1) + (-1) = nI n := by
  rw [← nI_1, Int32.add_assoc, show (1 : Int32) + (-1) = 0 from rfl, Int32.add_zero]
theorem pk_mul (a b : Nat) : nI a * nI b = nI (a * b) := (Int32.ofNat_mul a b).symm
theorem pk_div {a d : Nat} (ha : a < 2 ^ 31) (h0 : 0 < d) (hd : d < 2 ^ 31) : nI a / nI d = nI (a / d) := by
  apply Int32.toInt_inj.mp
  rw [lg_idiv_nonneg (by rw [nI_toInt ha]; omega) (by rw [nI_toInt hd]; omega), nI_toInt ha, nI_toInt hd, nI_toInt (Nat.lt_of_le_of_lt (Nat.div_le_self a d) ha)]
  first | rfl | exact (Int.natCast_ediv _ _).symm
theorem pk_rem {a d : Nat} (ha : a < 2 ^ 31) (h0 : 0 < d) (hd : d < 2 ^ 31) : nI a - nI a / nI d * nI d = nI (a % d) := by
  rw [pk_div ha h0 hd, pk_mul, pk_sub (Nat.div_mul_le_self a d)]
  exact congrArg nI (by have := Nat.div_add_mod' a d; omega)
theorem pk_sub_toInt {a b : Nat} (ha : a < 2 ^ 30) (hb : b < 2 ^ 30) : (nI a - nI b).toInt = (a : Int) - b := by
  rw [Int32.toInt_sub, nI_toInt (by omega), nI_toInt (by omega)]
  exact Int.bmod_eq_of_le (by omega) (by omega)
theorem pk_sneg {a b : Nat} (hb : b < 2 ^ 30) (h : a < b) : nI a - nI b < 0 := by
  rw [Int32.lt_iff_toInt_lt, pk_sub_toInt (by omega) hb, show (0 : Int32).toInt = 0 from by decide]
  omega
theorem pk_ix (x : Int32) {n : Nat} (hn : n < 2 ^ 31) : x < 0 ∨ nI n ≤ x ∨ ∃ j : Nat, j < n ∧ x = nI j := by
  by_cases h : x < 0
  · exact Or.inl h
  · obtain ⟨j, hj, rfl⟩ := nI_of h
    by_cases h2 : j < n
    · exact Or.inr (Or.inr ⟨j, h2, rfl⟩)
    · exact Or.inr (Or.inl (nI_le (by omega) hj))
theorem pk_le {x y : Int32} {A B : Prop} (a b : Nat) (f : a ≤ b → A) (g : b < a → B) (hx : x = nI a := by rfl) (hy : y = nI b := by rfl) (ha : a < 2 ^ 31 := by omega) (hb : b < 2 ^ 31 := by omega) : (x ≤ y → A) ∧ (¬ x ≤ y → B) := by
  subst hx hy
  rw [nI_leI ha hb]
  exact ⟨f, fun z => g (by omega)⟩
theorem pk_lt {x y : Int32} {A B : Prop} (a b : Nat) (f : a < b → A) (g : b ≤ a → B) (hx : x = nI a := by rfl) (hy : y = nI b := by rfl) (ha : a < 2 ^ 31 := by omega) (hb : b < 2 ^ 31 := by omega) : (x < y → A) ∧ (¬ x < y → B) := by
  subst hx hy
  rw [nI_ltI ha hb]
  exact ⟨f, fun z => g (by omega)⟩
theorem pk_eq {x y : Int32} {A B : Prop} (a b : Nat) (f : a = b → A) (g : a ≠ b → B) (hx : x = nI a := by rfl) (hy : y = nI b := by rfl) (ha : a < 2 ^ 31 := by omega) (hb : b < 2 ^ 31 := by omega) : (x = y → A) ∧ (¬ x = y → B) := by
  subst hx hy
  rw [nI_eq ha hb]
  exact ⟨f, g⟩
theorem pk_in {x : Int32} (n N : Nat) (h : n < N) (hx : x = nI n := by rfl) (hN : N < 2 ^ 31 := by omega) : vp_in x N := by
  subst hx
  exact vp_in_nI h hN
theorem pk_cl {x : Int32} (n : Nat) (hx : x = nI n := by rfl) (h : n < 2 ^ 31 := by omega) : x.toNatClampNeg = n := by
  subst hx
  exact nI_clamp h
theorem pk_tn {n : Nat} (h : n < 2 ^ 32) : (nI n).toBitVec.toNat = n := Nat.mod_eq_of_lt h
theorem pk_and (x : Int32) {m : Int32} (k : Nat) (hm : m.toBitVec.toNat = 2 ^ k - 1) : x &&& m = nI (x.toBitVec.toNat % 2 ^ k) := by
  apply Int32.toBitVec_inj.mp
  apply BitVec.eq_of_toNat_eq
  rw [Int32.toBitVec_and, BitVec.toNat_and, hm, Nat.and_two_pow_sub_one_eq_mod]
  show _ = (BitVec.ofNat 32 _).toNat
  rw [BitVec.toNat_ofNat]
  exact (Nat.mod_eq_of_lt (Nat.lt_of_le_of_lt (Nat.mod_le _ _) x.toBitVec.isLt)).symm
theorem pk_andN {n : Nat} (h : n < 2 ^ 32) {m : Int32} (k : Nat) (hm : m.toBitVec.toNat = 2 ^ k - 1) : nI n &&& m = nI (n % 2 ^ k) := by
  rw [pk_and _ k hm, pk_tn h]
theorem pk_andE (x : Int32) {m : Int32} (k : Nat) (hm : m.toBitVec.toNat = 2 ^ k - 1) : ∃ j : Nat, j < 2 ^ k ∧ x &&& m = nI j := ⟨_, Nat.mod_lt _ (Nat.two_pow_pos k), pk_and x k hm⟩
theorem pk_andIn (x : Int32) {m : Int32} (k : Nat) (hm : m.toBitVec.toNat = 2 ^ k - 1) (hk : k ≤ 30) : vp_in (x &&& m) (2 ^ k) := by
  obtain ⟨j, hj, e⟩ := pk_andE x k hm
  rw [e]
  exact vp_in_nI hj (Nat.lt_of_le_of_lt (Nat.pow_le_pow_right (by decide) hk) (by decide))
theorem pk_shl (a s : Int32) (k : Nat) (hs : (s.toBitVec.smod 32).toNat = k) : (a <<< s).toBitVec.toNat = a.toBitVec.toNat * 2 ^ k % 2 ^ 32 := by
  show (a.toBitVec <<< (s.toBitVec.smod 32).toNat).toNat = _
  rw [hs, BitVec.toNat_shiftLeft, Nat.shiftLeft_eq]
theorem pk_shlN {n : Nat} (s : Int32) (k : Nat) (hs : (s.toBitVec.smod 32).toNat = k) (h : n * 2 ^ k < 2 ^ 32) : nI n <<< s = nI (n * 2 ^ k) := by
  apply Int32.toBitVec_inj.mp
  apply BitVec.eq_of_toNat_eq
  have hn : n < 2 ^ 32 := Nat.lt_of_le_of_lt (Nat.le_mul_of_pos_right n (Nat.two_pow_pos k)) h
  rw [pk_shl _ _ k hs, pk_tn hn, pk_tn h, Nat.mod_eq_of_lt h]
theorem pk_shr (a s : Int32) (k : Nat) (hs : (s.toBitVec.smod 32).toNat = k) : (a >>> s).toInt = a.toInt >>> k := by
  show (a.toBitVec.sshiftRight (s.toBitVec.smod 32).toNat).toInt = _
  rw [hs, BitVec.toInt_sshiftRight]
  rfl
theorem pk_shrN {n : Nat} (h : n < 2 ^ 31) (s : Int32) (k : Nat) (hs : (s.toBitVec.smod 32).toNat = k) : nI n >>> s = nI (n / 2 ^ k) := by
  apply Int32.toInt_inj.mp
  have h2 : n / 2 ^ k ≤ n := Nat.div_le_self _ _
  rw [pk_shr _ _ k hs, nI_toInt h, nI_toInt (by omega), Int.shiftRight_eq_div_pow]
  rfl
theorem pk_ushr (x s : Int32) (k : Nat) (hs : ((s.toUInt32 &&& Int32.toUInt32 31).toBitVec % 32).toNat = k) : (x.toUInt32 >>> (s.toUInt32 &&& Int32.toUInt32 31)).toInt32.toBitVec.toNat = x.toBitVec.toNat / 2 ^ k := by
  have e : (x.toUInt32 >>> (s.toUInt32 &&& Int32.toUInt32 31)).toInt32.toBitVec = x.toBitVec >>> k := by
    rw [← hs]
    exact UInt32.toBitVec_shiftRight _ _
  rw [e, BitVec.toNat_ushiftRight, Nat.shiftRight_eq_div_pow]
theorem pk_ushrN {n : Nat} (hn : n < 2 ^ 32) (s : Int32) (k : Nat) (hs : ((s.toUInt32 &&& Int32.toUInt32 31).toBitVec % 32).toNat = k) : ((nI n).toUInt32 >>> (s.toUInt32 &&& Int32.toUInt32 31)).toInt32 = nI (n / 2 ^ k) := by
  apply Int32.toBitVec_inj.mp
  apply BitVec.eq_of_toNat_eq
  rw [pk_ushr _ s k hs, pk_tn hn, pk_tn (Nat.lt_of_le_of_lt (Nat.div_le_self _ _) hn)]
theorem pk_nb (z : Int32) : narrow .byte (.int z.toInt8.toInt32) = .int z.toInt8.toInt32 := congrArg Value.int (by simp)
theorem pk_ns (z : Int32) : narrow .short (.int z.toInt16.toInt32) = .int z.toInt16.toInt32 := congrArg Value.int (by simp)
theorem pk_fb (r : Int32) : fits .byte (.int r.toInt8.toInt32) = true := by
  have ⟨a, b⟩ := lg_i2b_range r
  have h1 : (-128 : Int32).toInt = -128 := by decide
  have h2 : (127 : Int32).toInt = 127 := by decide
  simp only [fits, Bool.and_eq_true, decide_eq_true_eq, Int32.le_iff_toInt_le, h1, h2]
  omega
theorem pk_fs (r : Int32) : fits .short (.int r.toInt16.toInt32) = true := by
  have ⟨a, b⟩ := lg_i2s_range r
  have h1 : (-32768 : Int32).toInt = -32768 := by decide
  have h2 : (32767 : Int32).toInt = 32767 := by decide
  simp only [fits, Bool.and_eq_true, decide_eq_true_eq, Int32.le_iff_toInt_le, h1, h2]
  omega
theorem pk_charN {q : Nat} (hq : q < 65536) : narrow .char (.int (nI q)) = .int (nI q) ∧ fits .char (.int (nI q)) = true := by
  constructor
  · have e : (nI q).toUInt32.toUInt16.toUInt32.toInt32 = nI q := by
      apply Int32.toBitVec_inj.mp
      apply BitVec.eq_of_toNat_eq
      show (nI q).toUInt32.toUInt16.toUInt32.toNat = q % 2 ^ 32
      rw [UInt16.toNat_toUInt32, UInt32.toNat_toUInt16, show (nI q).toUInt32.toNat = q % 2 ^ 32 from rfl]
      omega
    exact congrArg Value.int e
  · have a : (0 : Int32) ≤ nI q := nI_pos' (by omega)
    have b : nI q ≤ 65535 := nI_le (b := 65535) (by omega) (by decide)
    show (decide ((0 : Int32) ≤ nI q) && decide (nI q ≤ 65535)) = true
    rw [decide_eq_true a, decide_eq_true b]
    rfl
theorem pk_char (x : Int32) : (x.toUInt32 % 65536).toInt32 = nI (x.toBitVec.toNat % 65536) := by
  apply Int32.toBitVec_inj.mp
  apply BitVec.eq_of_toNat_eq
  rw [pk_tn (by omega)]
  show (x.toUInt32 % 65536).toNat = _
  rw [UInt32.toNat_mod]
  rfl
theorem pk_nc (x : Int32) : narrow .char (.int (x.toUInt32 % 65536).toInt32) = .int (x.toUInt32 % 65536).toInt32 := by
  rw [pk_char]
  exact (pk_charN (Nat.mod_lt _ (by decide))).1
theorem pk_fc (x : Int32) : fits .char (.int (x.toUInt32 % 65536).toInt32) = true := by
  rw [pk_char]
  exact (pk_charN (Nat.mod_lt _ (by decide))).2
theorem pk_vb (z : Int32) : vp_nar .byte z.toInt8.toInt32 = z.toInt8.toInt32 := by rw [vp_nar_byte]; simp
theorem pk_vs (z : Int32) : vp_nar .short z.toInt16.toInt32 = z.toInt16.toInt32 := by rw [vp_nar_short]; simp
theorem pk_vc (z : Int32) : vp_nar .char (z.toUInt32 % 65536).toInt32 = (z.toUInt32 % 65536).toInt32 := Value.int.inj (pk_nc z)
theorem pk_lT {n : Nat} (h : n < 2 ^ 63) : (lN n).toInt = (n : Int) := lg_ofNat_toInt h
theorem pk_lLT {a b : Nat} (ha : a < 2 ^ 63) (hb : b < 2 ^ 63) : lN a < lN b ↔ a < b := by
  rw [Int64.lt_iff_toInt_lt, pk_lT ha, pk_lT hb]; omega
theorem pk_lLE {a b : Nat} (ha : a < 2 ^ 63) (hb : b < 2 ^ 63) : lN a ≤ lN b ↔ a ≤ b := by
  rw [Int64.le_iff_toInt_le, pk_lT ha, pk_lT hb]; omega
theorem pk_lEQ {a b : Nat} (ha : a < 2 ^ 63) (hb : b < 2 ^ 63) : lN a = lN b ↔ a = b := by
  rw [← Int64.toInt_inj, pk_lT ha, pk_lT hb]; omega
theorem pk_lOf {x : Int64} (h : ¬ x < 0) : ∃ k : Nat, k < 2 ^ 63 ∧ x = lN k := by
  rw [Int64.lt_iff_toInt_lt] at h
  have h0 : (0 : Int64).toInt = 0 := by decide
  have hx := Int64.toInt_lt x
  refine ⟨x.toInt.toNat, by omega, Int64.toInt_inj.mp ?_⟩
  rw [pk_lT (by omega)]
  omega
theorem pk_lDiv {a b : Nat} (ha : a < 2 ^ 63) (h0 : 0 < b) (hb : b < 2 ^ 63) : lN a / lN b = lN (a / b) := by
  apply Int64.toInt_inj.mp
  rw [lg_ldiv_nonneg (by rw [pk_lT ha]; omega) (by rw [pk_lT hb]; omega), pk_lT ha, pk_lT hb, pk_lT (Nat.lt_of_le_of_lt (Nat.div_le_self a b) ha)]
  rfl
theorem pk_lRem {a b : Nat} (ha : a < 2 ^ 63) (h0 : 0 < b) (hb : b < 2 ^ 63) : lN a - lN a / lN b * lN b = lN (a % b) := by
  rw [pk_lDiv ha h0 hb, lN_mul, lN_sub (Nat.div_mul_le_self a b)]
  exact congrArg lN (by have := Nat.div_add_mod' a b; omega)
theorem pk_loop {σ : Type} (W : Nat → Nat → σ → Prop) (I : Nat → σ → Prop) (e i0 : Nat) (s : σ) (hi : i0 ≤ e) (h0 : I i0 s) (hx : ∀ n s, I e s → W (n + 1) e s)
    (hs : ∀ n i s, i < e → I i s → (∀ s', I (i + 1) s' → W n (i + 1) s') → W (n + 1) i s) : ∃ n, W n i0 s :=
  ⟨e + 1, loop_i W I e hx hs (e + 1) i0 s hi (by omega) h0⟩
theorem pk_loopD {σ : Type} (W : Nat → Nat → σ → Prop) (I : Nat → σ → Prop) (hx : ∀ n s, I 0 s → W (n + 1) 0 s)
    (hs : ∀ n i s, I (i + 1) s → (∀ s', I i s' → W n i s') → W (n + 1) (i + 1) s) : ∀ (e : Nat) (s : σ), I e s → W (e + 1) e s := by
  intro e
  induction e with
  | zero => exact fun s h => hx 0 s h
  | succ e ih => exact fun s h => hs (e + 1) e s h (fun s' h' => ih s' h')
theorem lp1 {A1 : Type} (W : Nat → A1 → Prop) (I : A1 → Prop) (μ : A1 → Nat) (hs : ∀ (n : Nat) (a1 : A1), I a1 → (∀ (b1 : A1), I b1 → μ b1 < μ a1 → W n b1) → W (n + 1) a1) (a1 : A1) (h : I a1) : ∃ n, W n a1 :=
  loop_m (σ := A1) (fun n s => W n s) (fun s => I s) (fun s => μ s) (fun n s hI hk => hs n s hI (fun b1 h9 hm => hk b1 h9 hm)) a1 h
theorem lp2 {A1 A2 : Type} (W : Nat → A1 → A2 → Prop) (I : A1 → A2 → Prop) (μ : A1 → A2 → Nat) (hs : ∀ (n : Nat) (a1 : A1) (a2 : A2), I a1 a2 → (∀ (b1 : A1) (b2 : A2), I b1 b2 → μ b1 b2 < μ a1 a2 → W n b1 b2) → W (n + 1) a1 a2) (a1 : A1) (a2 : A2) (h : I a1 a2) : ∃ n, W n a1 a2 :=
  loop_m (σ := A1 × A2) (fun n s => W n s.1 s.2) (fun s => I s.1 s.2) (fun s => μ s.1 s.2) (fun n s hI hk => hs n s.1 s.2 hI (fun b1 b2 h9 hm => hk (b1, b2) h9 hm)) (a1, a2) h
theorem lp3 {A1 A2 A3 : Type} (W : Nat → A1 → A2 → A3 → Prop) (I : A1 → A2 → A3 → Prop) (μ : A1 → A2 → A3 → Nat) (hs : ∀ (n : Nat) (a1 : A1) (a2 : A2) (a3 : A3), I a1 a2 a3 → (∀ (b1 : A1) (b2 : A2) (b3 : A3), I b1 b2 b3 → μ b1 b2 b3 < μ a1 a2 a3 → W n b1 b2 b3) → W (n + 1) a1 a2 a3) (a1 : A1) (a2 : A2) (a3 : A3) (h : I a1 a2 a3) : ∃ n, W n a1 a2 a3 :=
  loop_m (σ := A1 × A2 × A3) (fun n s => W n s.1 s.2.1 s.2.2) (fun s => I s.1 s.2.1 s.2.2) (fun s => μ s.1 s.2.1 s.2.2) (fun n s hI hk => hs n s.1 s.2.1 s.2.2 hI (fun b1 b2 b3 h9 hm => hk (b1, b2, b3) h9 hm)) (a1, a2, a3) h
theorem lp4 {A1 A2 A3 A4 : Type} (W : Nat → A1 → A2 → A3 → A4 → Prop) (I : A1 → A2 → A3 → A4 → Prop) (μ : A1 → A2 → A3 → A4 → Nat) (hs : ∀ (n : Nat) (a1 : A1) (a2 : A2) (a3 : A3) (a4 : A4), I a1 a2 a3 a4 → (∀ (b1 : A1) (b2 : A2) (b3 : A3) (b4 : A4), I b1 b2 b3 b4 → μ b1 b2 b3 b4 < μ a1 a2 a3 a4 → W n b1 b2 b3 b4) → W (n + 1) a1 a2 a3 a4) (a1 : A1) (a2 : A2) (a3 : A3) (a4 : A4) (h : I a1 a2 a3 a4) : ∃ n, W n a1 a2 a3 a4 :=
  loop_m (σ := A1 × A2 × A3 × A4) (fun n s => W n s.1 s.2.1 s.2.2.1 s.2.2.2) (fun s => I s.1 s.2.1 s.2.2.1 s.2.2.2) (fun s => μ s.1 s.2.1 s.2.2.1 s.2.2.2) (fun n s hI hk => hs n s.1 s.2.1 s.2.2.1 s.2.2.2 hI (fun b1 b2 b3 b4 h9 hm => hk (b1, b2, b3, b4) h9 hm)) (a1, a2, a3, a4) h
theorem lp5 {A1 A2 A3 A4 A5 : Type} (W : Nat → A1 → A2 → A3 → A4 → A5 → Prop) (I : A1 → A2 → A3 → A4 → A5 → Prop) (μ : A1 → A2 → A3 → A4 → A5 → Nat) (hs : ∀ (n : Nat) (a1 : A1) (a2 : A2) (a3 : A3) (a4 : A4) (a5 : A5), I a1 a2 a3 a4 a5 → (∀ (b1 : A1) (b2 : A2) (b3 : A3) (b4 : A4) (b5 : A5), I b1 b2 b3 b4 b5 → μ b1 b2 b3 b4 b5 < μ a1 a2 a3 a4 a5 → W n b1 b2 b3 b4 b5) → W (n + 1) a1 a2 a3 a4 a5) (a1 : A1) (a2 : A2) (a3 : A3) (a4 : A4) (a5 : A5) (h : I a1 a2 a3 a4 a5) : ∃ n, W n a1 a2 a3 a4 a5 :=
  loop_m (σ := A1 × A2 × A3 × A4 × A5) (fun n s => W n s.1 s.2.1 s.2.2.1 s.2.2.2.1 s.2.2.2.2) (fun s => I s.1 s.2.1 s.2.2.1 s.2.2.2.1 s.2.2.2.2) (fun s => μ s.1 s.2.1 s.2.2.1 s.2.2.2.1 s.2.2.2.2) (fun n s hI hk => hs n s.1 s.2.1 s.2.2.1 s.2.2.2.1 s.2.2.2.2 hI (fun b1 b2 b3 b4 b5 h9 hm => hk (b1, b2, b3, b4, b5) h9 hm)) (a1, a2, a3, a4, a5) h
theorem lp6 {A1 A2 A3 A4 A5 A6 : Type} (W : Nat → A1 → A2 → A3 → A4 → A5 → A6 → Prop) (I : A1 → A2 → A3 → A4 → A5 → A6 → Prop) (μ : A1 → A2 → A3 → A4 → A5 → A6 → Nat) (hs : ∀ (n : Nat) (a1 : A1) (a2 : A2) (a3 : A3) (a4 : A4) (a5 : A5) (a6 : A6), I a1 a2 a3 a4 a5 a6 → (∀ (b1 : A1) (b2 : A2) (b3 : A3) (b4 : A4) (b5 : A5) (b6 : A6), I b1 b2 b3 b4 b5 b6 → μ b1 b2 b3 b4 b5 b6 < μ a1 a2 a3 a4 a5 a6 → W n b1 b2 b3 b4 b5 b6) → W (n + 1) a1 a2 a3 a4 a5 a6) (a1 : A1) (a2 : A2) (a3 : A3) (a4 : A4) (a5 : A5) (a6 : A6) (h : I a1 a2 a3 a4 a5 a6) : ∃ n, W n a1 a2 a3 a4 a5 a6 :=
  loop_m (σ := A1 × A2 × A3 × A4 × A5 × A6) (fun n s => W n s.1 s.2.1 s.2.2.1 s.2.2.2.1 s.2.2.2.2.1 s.2.2.2.2.2) (fun s => I s.1 s.2.1 s.2.2.1 s.2.2.2.1 s.2.2.2.2.1 s.2.2.2.2.2) (fun s => μ s.1 s.2.1 s.2.2.1 s.2.2.2.1 s.2.2.2.2.1 s.2.2.2.2.2) (fun n s hI hk => hs n s.1 s.2.1 s.2.2.1 s.2.2.2.1 s.2.2.2.2.1 s.2.2.2.2.2 hI (fun b1 b2 b3 b4 b5 b6 h9 hm => hk (b1, b2, b3, b4, b5, b6) h9 hm)) (a1, a2, a3, a4, a5, a6) h
theorem lp7 {A1 A2 A3 A4 A5 A6 A7 : Type} (W : Nat → A1 → A2 → A3 → A4 → A5 → A6 → A7 → Prop) (I : A1 → A2 → A3 → A4 → A5 → A6 → A7 → Prop) (μ : A1 → A2 → A3 → A4 → A5 → A6 → A7 → Nat) (hs : ∀ (n : Nat) (a1 : A1) (a2 : A2) (a3 : A3) (a4 : A4) (a5 : A5) (a6 : A6) (a7 : A7), I a1 a2 a3 a4 a5 a6 a7 → (∀ (b1 : A1) (b2 : A2) (b3 : A3) (b4 : A4) (b5 : A5) (b6 : A6) (b7 : A7), I b1 b2 b3 b4 b5 b6 b7 → μ b1 b2 b3 b4 b5 b6 b7 < μ a1 a2 a3 a4 a5 a6 a7 → W n b1 b2 b3 b4 b5 b6 b7) → W (n + 1) a1 a2 a3 a4 a5 a6 a7) (a1 : A1) (a2 : A2) (a3 : A3) (a4 : A4) (a5 : A5) (a6 : A6) (a7 : A7) (h : I a1 a2 a3 a4 a5 a6 a7) : ∃ n, W n a1 a2 a3 a4 a5 a6 a7 :=
  loop_m (σ := A1 × A2 × A3 × A4 × A5 × A6 × A7) (fun n s => W n s.1 s.2.1 s.2.2.1 s.2.2.2.1 s.2.2.2.2.1 s.2.2.2.2.2.1 s.2.2.2.2.2.2) (fun s => I s.1 s.2.1 s.2.2.1 s.2.2.2.1 s.2.2.2.2.1 s.2.2.2.2.2.1 s.2.2.2.2.2.2) (fun s => μ s.1 s.2.1 s.2.2.1 s.2.2.2.1 s.2.2.2.2.1 s.2.2.2.2.2.1 s.2.2.2.2.2.2) (fun n s hI hk => hs n s.1 s.2.1 s.2.2.1 s.2.2.2.1 s.2.2.2.2.1 s.2.2.2.2.2.1 s.2.2.2.2.2.2 hI (fun b1 b2 b3 b4 b5 b6 b7 h9 hm => hk (b1, b2, b3, b4, b5, b6, b7) h9 hm)) (a1, a2, a3, a4, a5, a6, a7) h
theorem lp8 {A1 A2 A3 A4 A5 A6 A7 A8 : Type} (W : Nat → A1 → A2 → A3 → A4 → A5 → A6 → A7 → A8 → Prop) (I : A1 → A2 → A3 → A4 → A5 → A6 → A7 → A8 → Prop) (μ : A1 → A2 → A3 → A4 → A5 → A6 → A7 → A8 → Nat) (hs : ∀ (n : Nat) (a1 : A1) (a2 : A2) (a3 : A3) (a4 : A4) (a5 : A5) (a6 : A6) (a7 : A7) (a8 : A8), I a1 a2 a3 a4 a5 a6 a7 a8 → (∀ (b1 : A1) (b2 : A2) (b3 : A3) (b4 : A4) (b5 : A5) (b6 : A6) (b7 : A7) (b8 : A8), I b1 b2 b3 b4 b5 b6 b7 b8 → μ b1 b2 b3 b4 b5 b6 b7 b8 < μ a1 a2 a3 a4 a5 a6 a7 a8 → W n b1 b2 b3 b4 b5 b6 b7 b8) → W (n + 1) a1 a2 a3 a4 a5 a6 a7 a8) (a1 : A1) (a2 : A2) (a3 : A3) (a4 : A4) (a5 : A5) (a6 : A6) (a7 : A7) (a8 : A8) (h : I a1 a2 a3 a4 a5 a6 a7 a8) : ∃ n, W n a1 a2 a3 a4 a5 a6 a7 a8 :=
  loop_m (σ := A1 × A2 × A3 × A4 × A5 × A6 × A7 × A8) (fun n s => W n s.1 s.2.1 s.2.2.1 s.2.2.2.1 s.2.2.2.2.1 s.2.2.2.2.2.1 s.2.2.2.2.2.2.1 s.2.2.2.2.2.2.2) (fun s => I s.1 s.2.1 s.2.2.1 s.2.2.2.1 s.2.2.2.2.1 s.2.2.2.2.2.1 s.2.2.2.2.2.2.1 s.2.2.2.2.2.2.2) (fun s => μ s.1 s.2.1 s.2.2.1 s.2.2.2.1 s.2.2.2.2.1 s.2.2.2.2.2.1 s.2.2.2.2.2.2.1 s.2.2.2.2.2.2.2) (fun n s hI hk => hs n s.1 s.2.1 s.2.2.1 s.2.2.2.1 s.2.2.2.2.1 s.2.2.2.2.2.1 s.2.2.2.2.2.2.1 s.2.2.2.2.2.2.2 hI (fun b1 b2 b3 b4 b5 b6 b7 b8 h9 hm => hk (b1, b2, b3, b4, b5, b6, b7, b8) h9 hm)) (a1, a2, a3, a4, a5, a6, a7, a8) h
theorem lp9 {A1 A2 A3 A4 A5 A6 A7 A8 A9 : Type} (W : Nat → A1 → A2 → A3 → A4 → A5 → A6 → A7 → A8 → A9 → Prop) (I : A1 → A2 → A3 → A4 → A5 → A6 → A7 → A8 → A9 → Prop) (μ : A1 → A2 → A3 → A4 → A5 → A6 → A7 → A8 → A9 → Nat) (hs : ∀ (n : Nat) (a1 : A1) (a2 : A2) (a3 : A3) (a4 : A4) (a5 : A5) (a6 : A6) (a7 : A7) (a8 : A8) (a9 : A9), I a1 a2 a3 a4 a5 a6 a7 a8 a9 → (∀ (b1 : A1) (b2 : A2) (b3 : A3) (b4 : A4) (b5 : A5) (b6 : A6) (b7 : A7) (b8 : A8) (b9 : A9), I b1 b2 b3 b4 b5 b6 b7 b8 b9 → μ b1 b2 b3 b4 b5 b6 b7 b8 b9 < μ a1 a2 a3 a4 a5 a6 a7 a8 a9 → W n b1 b2 b3 b4 b5 b6 b7 b8 b9) → W (n + 1) a1 a2 a3 a4 a5 a6 a7 a8 a9) (a1 : A1) (a2 : A2) (a3 : A3) (a4 : A4) (a5 : A5) (a6 : A6) (a7 : A7) (a8 : A8) (a9 : A9) (h : I a1 a2 a3 a4 a5 a6 a7 a8 a9) : ∃ n, W n a1 a2 a3 a4 a5 a6 a7 a8 a9 :=
  loop_m (σ := A1 × A2 × A3 × A4 × A5 × A6 × A7 × A8 × A9) (fun n s => W n s.1 s.2.1 s.2.2.1 s.2.2.2.1 s.2.2.2.2.1 s.2.2.2.2.2.1 s.2.2.2.2.2.2.1 s.2.2.2.2.2.2.2.1 s.2.2.2.2.2.2.2.2) (fun s => I s.1 s.2.1 s.2.2.1 s.2.2.2.1 s.2.2.2.2.1 s.2.2.2.2.2.1 s.2.2.2.2.2.2.1 s.2.2.2.2.2.2.2.1 s.2.2.2.2.2.2.2.2) (fun s => μ s.1 s.2.1 s.2.2.1 s.2.2.2.1 s.2.2.2.2.1 s.2.2.2.2.2.1 s.2.2.2.2.2.2.1 s.2.2.2.2.2.2.2.1 s.2.2.2.2.2.2.2.2) (fun n s hI hk => hs n s.1 s.2.1 s.2.2.1 s.2.2.2.1 s.2.2.2.2.1 s.2.2.2.2.2.1 s.2.2.2.2.2.2.1 s.2.2.2.2.2.2.2.1 s.2.2.2.2.2.2.2.2 hI (fun b1 b2 b3 b4 b5 b6 b7 b8 b9 h9 hm => hk (b1, b2, b3, b4, b5, b6, b7, b8, b9) h9 hm)) (a1, a2, a3, a4, a5, a6, a7, a8, a9) h
theorem lp10 {A1 A2 A3 A4 A5 A6 A7 A8 A9 A10 : Type} (W : Nat → A1 → A2 → A3 → A4 → A5 → A6 → A7 → A8 → A9 → A10 → Prop) (I : A1 → A2 → A3 → A4 → A5 → A6 → A7 → A8 → A9 → A10 → Prop) (μ : A1 → A2 → A3 → A4 → A5 → A6 → A7 → A8 → A9 → A10 → Nat) (hs : ∀ (n : Nat) (a1 : A1) (a2 : A2) (a3 : A3) (a4 : A4) (a5 : A5) (a6 : A6) (a7 : A7) (a8 : A8) (a9 : A9) (a10 : A10), I a1 a2 a3 a4 a5 a6 a7 a8 a9 a10 → (∀ (b1 : A1) (b2 : A2) (b3 : A3) (b4 : A4) (b5 : A5) (b6 : A6) (b7 : A7) (b8 : A8) (b9 : A9) (b10 : A10), I b1 b2 b3 b4 b5 b6 b7 b8 b9 b10 → μ b1 b2 b3 b4 b5 b6 b7 b8 b9 b10 < μ a1 a2 a3 a4 a5 a6 a7 a8 a9 a10 → W n b1 b2 b3 b4 b5 b6 b7 b8 b9 b10) → W (n + 1) a1 a2 a3 a4 a5 a6 a7 a8 a9 a10) (a1 : A1) (a2 : A2) (a3 : A3) (a4 : A4) (a5 : A5) (a6 : A6) (a7 : A7) (a8 : A8) (a9 : A9) (a10 : A10) (h : I a1 a2 a3 a4 a5 a6 a7 a8 a9 a10) : ∃ n, W n a1 a2 a3 a4 a5 a6 a7 a8 a9 a10 :=
  loop_m (σ := A1 × A2 × A3 × A4 × A5 × A6 × A7 × A8 × A9 × A10) (fun n s => W n s.1 s.2.1 s.2.2.1 s.2.2.2.1 s.2.2.2.2.1 s.2.2.2.2.2.1 s.2.2.2.2.2.2.1 s.2.2.2.2.2.2.2.1 s.2.2.2.2.2.2.2.2.1 s.2.2.2.2.2.2.2.2.2) (fun s => I s.1 s.2.1 s.2.2.1 s.2.2.2.1 s.2.2.2.2.1 s.2.2.2.2.2.1 s.2.2.2.2.2.2.1 s.2.2.2.2.2.2.2.1 s.2.2.2.2.2.2.2.2.1 s.2.2.2.2.2.2.2.2.2) (fun s => μ s.1 s.2.1 s.2.2.1 s.2.2.2.1 s.2.2.2.2.1 s.2.2.2.2.2.1 s.2.2.2.2.2.2.1 s.2.2.2.2.2.2.2.1 s.2.2.2.2.2.2.2.2.1 s.2.2.2.2.2.2.2.2.2) (fun n s hI hk => hs n s.1 s.2.1 s.2.2.1 s.2.2.2.1 s.2.2.2.2.1 s.2.2.2.2.2.1 s.2.2.2.2.2.2.1 s.2.2.2.2.2.2.2.1 s.2.2.2.2.2.2.2.2.1 s.2.2.2.2.2.2.2.2.2 hI (fun b1 b2 b3 b4 b5 b6 b7 b8 b9 b10 h9 hm => hk (b1, b2, b3, b4, b5, b6, b7, b8, b9, b10) h9 hm)) (a1, a2, a3, a4, a5, a6, a7, a8, a9, a10) h
theorem lp11 {A1 A2 A3 A4 A5 A6 A7 A8 A9 A10 A11 : Type} (W : Nat → A1 → A2 → A3 → A4 → A5 → A6 → A7 → A8 → A9 → A10 → A11 → Prop) (I : A1 → A2 → A3 → A4 → A5 → A6 → A7 → A8 → A9 → A10 → A11 → Prop) (μ : A1 → A2 → A3 → A4 → A5 → A6 → A7 → A8 → A9 → A10 → A11 → Nat) (hs : ∀ (n : Nat) (a1 : A1) (a2 : A2) (a3 : A3) (a4 : A4) (a5 : A5) (a6 : A6) (a7 : A7) (a8 : A8) (a9 : A9) (a10 : A10) (a11 : A11), I a1 a2 a3 a4 a5 a6 a7 a8 a9 a10 a11 → (∀ (b1 : A1) (b2 : A2) (b3 : A3) (b4 : A4) (b5 : A5) (b6 : A6) (b7 : A7) (b8 : A8) (b9 : A9) (b10 : A10) (b11 : A11), I b1 b2 b3 b4 b5 b6 b7 b8 b9 b10 b11 → μ b1 b2 b3 b4 b5 b6 b7 b8 b9 b10 b11 < μ a1 a2 a3 a4 a5 a6 a7 a8 a9 a10 a11 → W n b1 b2 b3 b4 b5 b6 b7 b8 b9 b10 b11) → W (n + 1) a1 a2 a3 a4 a5 a6 a7 a8 a9 a10 a11) (a1 : A1) (a2 : A2) (a3 : A3) (a4 : A4) (a5 : A5) (a6 : A6) (a7 : A7) (a8 : A8) (a9 : A9) (a10 : A10) (a11 : A11) (h : I a1 a2 a3 a4 a5 a6 a7 a8 a9 a10 a11) : ∃ n, W n a1 a2 a3 a4 a5 a6 a7 a8 a9 a10 a11 :=
  loop_m (σ := A1 × A2 × A3 × A4 × A5 × A6 × A7 × A8 × A9 × A10 × A11) (fun n s => W n s.1 s.2.1 s.2.2.1 s.2.2.2.1 s.2.2.2.2.1 s.2.2.2.2.2.1 s.2.2.2.2.2.2.1 s.2.2.2.2.2.2.2.1 s.2.2.2.2.2.2.2.2.1 s.2.2.2.2.2.2.2.2.2.1 s.2.2.2.2.2.2.2.2.2.2) (fun s => I s.1 s.2.1 s.2.2.1 s.2.2.2.1 s.2.2.2.2.1 s.2.2.2.2.2.1 s.2.2.2.2.2.2.1 s.2.2.2.2.2.2.2.1 s.2.2.2.2.2.2.2.2.1 s.2.2.2.2.2.2.2.2.2.1 s.2.2.2.2.2.2.2.2.2.2) (fun s => μ s.1 s.2.1 s.2.2.1 s.2.2.2.1 s.2.2.2.2.1 s.2.2.2.2.2.1 s.2.2.2.2.2.2.1 s.2.2.2.2.2.2.2.1 s.2.2.2.2.2.2.2.2.1 s.2.2.2.2.2.2.2.2.2.1 s.2.2.2.2.2.2.2.2.2.2) (fun n s hI hk => hs n s.1 s.2.1 s.2.2.1 s.2.2.2.1 s.2.2.2.2.1 s.2.2.2.2.2.1 s.2.2.2.2.2.2.1 s.2.2.2.2.2.2.2.1 s.2.2.2.2.2.2.2.2.1 s.2.2.2.2.2.2.2.2.2.1 s.2.2.2.2.2.2.2.2.2.2 hI (fun b1 b2 b3 b4 b5 b6 b7 b8 b9 b10 b11 h9 hm => hk (b1, b2, b3, b4, b5, b6, b7, b8, b9, b10, b11) h9 hm)) (a1, a2, a3, a4, a5, a6, a7, a8, a9, a10, a11) h
theorem lp12 {A1 A2 A3 A4 A5 A6 A7 A8 A9 A10 A11 A12 : Type} (W : Nat → A1 → A2 → A3 → A4 → A5 → A6 → A7 → A8 → A9 → A10 → A11 → A12 → Prop) (I : A1 → A2 → A3 → A4 → A5 → A6 → A7 → A8 → A9 → A10 → A11 → A12 → Prop) (μ : A1 → A2 → A3 → A4 → A5 → A6 → A7 → A8 → A9 → A10 → A11 → A12 → Nat) (hs : ∀ (n : Nat) (a1 : A1) (a2 : A2) (a3 : A3) (a4 : A4) (a5 : A5) (a6 : A6) (a7 : A7) (a8 : A8) (a9 : A9) (a10 : A10) (a11 : A11) (a12 : A12), I a1 a2 a3 a4 a5 a6 a7 a8 a9 a10 a11 a12 → (∀ (b1 : A1) (b2 : A2) (b3 : A3) (b4 : A4) (b5 : A5) (b6 : A6) (b7 : A7) (b8 : A8) (b9 : A9) (b10 : A10) (b11 : A11) (b12 : A12), I b1 b2 b3 b4 b5 b6 b7 b8 b9 b10 b11 b12 → μ b1 b2 b3 b4 b5 b6 b7 b8 b9 b10 b11 b12 < μ a1 a2 a3 a4 a5 a6 a7 a8 a9 a10 a11 a12 → W n b1 b2 b3 b4 b5 b6 b7 b8 b9 b10 b11 b12) → W (n + 1) a1 a2 a3 a4 a5 a6 a7 a8 a9 a10 a11 a12) (a1 : A1) (a2 : A2) (a3 : A3) (a4 : A4) (a5 : A5) (a6 : A6) (a7 : A7) (a8 : A8) (a9 : A9) (a10 : A10) (a11 : A11) (a12 : A12) (h : I a1 a2 a3 a4 a5 a6 a7 a8 a9 a10 a11 a12) : ∃ n, W n a1 a2 a3 a4 a5 a6 a7 a8 a9 a10 a11 a12 :=
  loop_m (σ := A1 × A2 × A3 × A4 × A5 × A6 × A7 × A8 × A9 × A10 × A11 × A12) (fun n s => W n s.1 s.2.1 s.2.2.1 s.2.2.2.1 s.2.2.2.2.1 s.2.2.2.2.2.1 s.2.2.2.2.2.2.1 s.2.2.2.2.2.2.2.1 s.2.2.2.2.2.2.2.2.1 s.2.2.2.2.2.2.2.2.2.1 s.2.2.2.2.2.2.2.2.2.2.1 s.2.2.2.2.2.2.2.2.2.2.2) (fun s => I s.1 s.2.1 s.2.2.1 s.2.2.2.1 s.2.2.2.2.1 s.2.2.2.2.2.1 s.2.2.2.2.2.2.1 s.2.2.2.2.2.2.2.1 s.2.2.2.2.2.2.2.2.1 s.2.2.2.2.2.2.2.2.2.1 s.2.2.2.2.2.2.2.2.2.2.1 s.2.2.2.2.2.2.2.2.2.2.2) (fun s => μ s.1 s.2.1 s.2.2.1 s.2.2.2.1 s.2.2.2.2.1 s.2.2.2.2.2.1 s.2.2.2.2.2.2.1 s.2.2.2.2.2.2.2.1 s.2.2.2.2.2.2.2.2.1 s.2.2.2.2.2.2.2.2.2.1 s.2.2.2.2.2.2.2.2.2.2.1 s.2.2.2.2.2.2.2.2.2.2.2) (fun n s hI hk => hs n s.1 s.2.1 s.2.2.1 s.2.2.2.1 s.2.2.2.2.1 s.2.2.2.2.2.1 s.2.2.2.2.2.2.1 s.2.2.2.2.2.2.2.1 s.2.2.2.2.2.2.2.2.1 s.2.2.2.2.2.2.2.2.2.1 s.2.2.2.2.2.2.2.2.2.2.1 s.2.2.2.2.2.2.2.2.2.2.2 hI (fun b1 b2 b3 b4 b5 b6 b7 b8 b9 b10 b11 b12 h9 hm => hk (b1, b2, b3, b4, b5, b6, b7, b8, b9, b10, b11, b12) h9 hm)) (a1, a2, a3, a4, a5, a6, a7, a8, a9, a10, a11, a12) h
theorem lp13 {A1 A2 A3 A4 A5 A6 A7 A8 A9 A10 A11 A12 A13 : Type} (W : Nat → A1 → A2 → A3 → A4 → A5 → A6 → A7 → A8 → A9 → A10 → A11 → A12 → A13 → Prop) (I : A1 → A2 → A3 → A4 → A5 → A6 → A7 → A8 → A9 → A10 → A11 → A12 → A13 → Prop) (μ : A1 → A2 → A3 → A4 → A5 → A6 → A7 → A8 → A9 → A10 → A11 → A12 → A13 → Nat) (hs : ∀ (n : Nat) (a1 : A1) (a2 : A2) (a3 : A3) (a4 : A4) (a5 : A5) (a6 : A6) (a7 : A7) (a8 : A8) (a9 : A9) (a10 : A10) (a11 : A11) (a12 : A12) (a13 : A13), I a1 a2 a3 a4 a5 a6 a7 a8 a9 a10 a11 a12 a13 → (∀ (b1 : A1) (b2 : A2) (b3 : A3) (b4 : A4) (b5 : A5) (b6 : A6) (b7 : A7) (b8 : A8) (b9 : A9) (b10 : A10) (b11 : A11) (b12 : A12) (b13 : A13), I b1 b2 b3 b4 b5 b6 b7 b8 b9 b10 b11 b12 b13 → μ b1 b2 b3 b4 b5 b6 b7 b8 b9 b10 b11 b12 b13 < μ a1 a2 a3 a4 a5 a6 a7 a8 a9 a10 a11 a12 a13 → W n b1 b2 b3 b4 b5 b6 b7 b8 b9 b10 b11 b12 b13) → W (n + 1) a1 a2 a3 a4 a5 a6 a7 a8 a9 a10 a11 a12 a13) (a1 : A1) (a2 : A2) (a3 : A3) (a4 : A4) (a5 : A5) (a6 : A6) (a7 : A7) (a8 : A8) (a9 : A9) (a10 : A10) (a11 : A11) (a12 : A12) (a13 : A13) (h : I a1 a2 a3 a4 a5 a6 a7 a8 a9 a10 a11 a12 a13) : ∃ n, W n a1 a2 a3 a4 a5 a6 a7 a8 a9 a10 a11 a12 a13 :=
  loop_m (σ := A1 × A2 × A3 × A4 × A5 × A6 × A7 × A8 × A9 × A10 × A11 × A12 × A13) (fun n s => W n s.1 s.2.1 s.2.2.1 s.2.2.2.1 s.2.2.2.2.1 s.2.2.2.2.2.1 s.2.2.2.2.2.2.1 s.2.2.2.2.2.2.2.1 s.2.2.2.2.2.2.2.2.1 s.2.2.2.2.2.2.2.2.2.1 s.2.2.2.2.2.2.2.2.2.2.1 s.2.2.2.2.2.2.2.2.2.2.2.1 s.2.2.2.2.2.2.2.2.2.2.2.2) (fun s => I s.1 s.2.1 s.2.2.1 s.2.2.2.1 s.2.2.2.2.1 s.2.2.2.2.2.1 s.2.2.2.2.2.2.1 s.2.2.2.2.2.2.2.1 s.2.2.2.2.2.2.2.2.1 s.2.2.2.2.2.2.2.2.2.1 s.2.2.2.2.2.2.2.2.2.2.1 s.2.2.2.2.2.2.2.2.2.2.2.1 s.2.2.2.2.2.2.2.2.2.2.2.2) (fun s => μ s.1 s.2.1 s.2.2.1 s.2.2.2.1 s.2.2.2.2.1 s.2.2.2.2.2.1 s.2.2.2.2.2.2.1 s.2.2.2.2.2.2.2.1 s.2.2.2.2.2.2.2.2.1 s.2.2.2.2.2.2.2.2.2.1 s.2.2.2.2.2.2.2.2.2.2.1 s.2.2.2.2.2.2.2.2.2.2.2.1 s.2.2.2.2.2.2.2.2.2.2.2.2) (fun n s hI hk => hs n s.1 s.2.1 s.2.2.1 s.2.2.2.1 s.2.2.2.2.1 s.2.2.2.2.2.1 s.2.2.2.2.2.2.1 s.2.2.2.2.2.2.2.1 s.2.2.2.2.2.2.2.2.1 s.2.2.2.2.2.2.2.2.2.1 s.2.2.2.2.2.2.2.2.2.2.1 s.2.2.2.2.2.2.2.2.2.2.2.1 s.2.2.2.2.2.2.2.2.2.2.2.2 hI (fun b1 b2 b3 b4 b5 b6 b7 b8 b9 b10 b11 b12 b13 h9 hm => hk (b1, b2, b3, b4, b5, b6, b7, b8, b9, b10, b11, b12, b13) h9 hm)) (a1, a2, a3, a4, a5, a6, a7, a8, a9, a10, a11, a12, a13) h
theorem lp14 {A1 A2 A3 A4 A5 A6 A7 A8 A9 A10 A11 A12 A13 A14 : Type} (W : Nat → A1 → A2 → A3 → A4 → A5 → A6 → A7 → A8 → A9 → A10 → A11 → A12 → A13 → A14 → Prop) (I : A1 → A2 → A3 → A4 → A5 → A6 → A7 → A8 → A9 → A10 → A11 → A12 → A13 → A14 → Prop) (μ : A1 → A2 → A3 → A4 → A5 → A6 → A7 → A8 → A9 → A10 → A11 → A12 → A13 → A14 → Nat) (hs : ∀ (n : Nat) (a1 : A1) (a2 : A2) (a3 : A3) (a4 : A4) (a5 : A5) (a6 : A6) (a7 : A7) (a8 : A8) (a9 : A9) (a10 : A10) (a11 : A11) (a12 : A12) (a13 : A13) (a14 : A14), I a1 a2 a3 a4 a5 a6 a7 a8 a9 a10 a11 a12 a13 a14 → (∀ (b1 : A1) (b2 : A2) (b3 : A3) (b4 : A4) (b5 : A5) (b6 : A6) (b7 : A7) (b8 : A8) (b9 : A9) (b10 : A10) (b11 : A11) (b12 : A12) (b13 : A13) (b14 : A14), I b1 b2 b3 b4 b5 b6 b7 b8 b9 b10 b11 b12 b13 b14 → μ b1 b2 b3 b4 b5 b6 b7 b8 b9 b10 b11 b12 b13 b14 < μ a1 a2 a3 a4 a5 a6 a7 a8 a9 a10 a11 a12 a13 a14 → W n b1 b2 b3 b4 b5 b6 b7 b8 b9 b10 b11 b12 b13 b14) → W (n + 1) a1 a2 a3 a4 a5 a6 a7 a8 a9 a10 a11 a12 a13 a14) (a1 : A1) (a2 : A2) (a3 : A3) (a4 : A4) (a5 : A5) (a6 : A6) (a7 : A7) (a8 : A8) (a9 : A9) (a10 : A10) (a11 : A11) (a12 : A12) (a13 : A13) (a14 : A14) (h : I a1 a2 a3 a4 a5 a6 a7 a8 a9 a10 a11 a12 a13 a14) : ∃ n, W n a1 a2 a3 a4 a5 a6 a7 a8 a9 a10 a11 a12 a13 a14 :=
  loop_m (σ := A1 × A2 × A3 × A4 × A5 × A6 × A7 × A8 × A9 × A10 × A11 × A12 × A13 × A14) (fun n s => W n s.1 s.2.1 s.2.2.1 s.2.2.2.1 s.2.2.2.2.1 s.2.2.2.2.2.1 s.2.2.2.2.2.2.1 s.2.2.2.2.2.2.2.1 s.2.2.2.2.2.2.2.2.1 s.2.2.2.2.2.2.2.2.2.1 s.2.2.2.2.2.2.2.2.2.2.1 s.2.2.2.2.2.2.2.2.2.2.2.1 s.2.2.2.2.2.2.2.2.2.2.2.2.1 s.2.2.2.2.2.2.2.2.2.2.2.2.2) (fun s => I s.1 s.2.1 s.2.2.1 s.2.2.2.1 s.2.2.2.2.1 s.2.2.2.2.2.1 s.2.2.2.2.2.2.1 s.2.2.2.2.2.2.2.1 s.2.2.2.2.2.2.2.2.1 s.2.2.2.2.2.2.2.2.2.1 s.2.2.2.2.2.2.2.2.2.2.1 s.2.2.2.2.2.2.2.2.2.2.2.1 s.2.2.2.2.2.2.2.2.2.2.2.2.1 s.2.2.2.2.2.2.2.2.2.2.2.2.2) (fun s => μ s.1 s.2.1 s.2.2.1 s.2.2.2.1 s.2.2.2.2.1 s.2.2.2.2.2.1 s.2.2.2.2.2.2.1 s.2.2.2.2.2.2.2.1 s.2.2.2.2.2.2.2.2.1 s.2.2.2.2.2.2.2.2.2.1 s.2.2.2.2.2.2.2.2.2.2.1 s.2.2.2.2.2.2.2.2.2.2.2.1 s.2.2.2.2.2.2.2.2.2.2.2.2.1 s.2.2.2.2.2.2.2.2.2.2.2.2.2) (fun n s hI hk => hs n s.1 s.2.1 s.2.2.1 s.2.2.2.1 s.2.2.2.2.1 s.2.2.2.2.2.1 s.2.2.2.2.2.2.1 s.2.2.2.2.2.2.2.1 s.2.2.2.2.2.2.2.2.1 s.2.2.2.2.2.2.2.2.2.1 s.2.2.2.2.2.2.2.2.2.2.1 s.2.2.2.2.2.2.2.2.2.2.2.1 s.2.2.2.2.2.2.2.2.2.2.2.2.1 s.2.2.2.2.2.2.2.2.2.2.2.2.2 hI (fun b1 b2 b3 b4 b5 b6 b7 b8 b9 b10 b11 b12 b13 b14 h9 hm => hk (b1, b2, b3, b4, b5, b6, b7, b8, b9, b10, b11, b12, b13, b14) h9 hm)) (a1, a2, a3, a4, a5, a6, a7, a8, a9, a10, a11, a12, a13, a14) h
theorem lp15 {A1 A2 A3 A4 A5 A6 A7 A8 A9 A10 A11 A12 A13 A14 A15 : Type} (W : Nat → A1 → A2 → A3 → A4 → A5 → A6 → A7 → A8 → A9 → A10 → A11 → A12 → A13 → A14 → A15 → Prop) (I : A1 → A2 → A3 → A4 → A5 → A6 → A7 → A8 → A9 → A10 → A11 → A12 → A13 → A14 → A15 → Prop) (μ : A1 → A2 → A3 → A4 → A5 → A6 → A7 → A8 → A9 → A10 → A11 → A12 → A13 → A14 → A15 → Nat) (hs : ∀ (n : Nat) (a1 : A1) (a2 : A2) (a3 : A3) (a4 : A4) (a5 : A5) (a6 : A6) (a7 : A7) (a8 : A8) (a9 : A9) (a10 : A10) (a11 : A11) (a12 : A12) (a13 : A13) (a14 : A14) (a15 : A15), I a1 a2 a3 a4 a5 a6 a7 a8 a9 a10 a11 a12 a13 a14 a15 → (∀ (b1 : A1) (b2 : A2) (b3 : A3) (b4 : A4) (b5 : A5) (b6 : A6) (b7 : A7) (b8 : A8) (b9 : A9) (b10 : A10) (b11 : A11) (b12 : A12) (b13 : A13) (b14 : A14) (b15 : A15), I b1 b2 b3 b4 b5 b6 b7 b8 b9 b10 b11 b12 b13 b14 b15 → μ b1 b2 b3 b4 b5 b6 b7 b8 b9 b10 b11 b12 b13 b14 b15 < μ a1 a2 a3 a4 a5 a6 a7 a8 a9 a10 a11 a12 a13 a14 a15 → W n b1 b2 b3 b4 b5 b6 b7 b8 b9 b10 b11 b12 b13 b14 b15) → W (n + 1) a1 a2 a3 a4 a5 a6 a7 a8 a9 a10 a11 a12 a13 a14 a15) (a1 : A1) (a2 : A2) (a3 : A3) (a4 : A4) (a5 : A5) (a6 : A6) (a7 : A7) (a8 : A8) (a9 : A9) (a10 : A10) (a11 : A11) (a12 : A12) (a13 : A13) (a14 : A14) (a15 : A15) (h : I a1 a2 a3 a4 a5 a6 a7 a8 a9 a10 a11 a12 a13 a14 a15) : ∃ n, W n a1 a2 a3 a4 a5 a6 a7 a8 a9 a10 a11 a12 a13 a14 a15 :=
  loop_m (σ := A1 × A2 × A3 × A4 × A5 × A6 × A7 × A8 × A9 × A10 × A11 × A12 × A13 × A14 × A15) (fun n s => W n s.1 s.2.1 s.2.2.1 s.2.2.2.1 s.2.2.2.2.1 s.2.2.2.2.2.1 s.2.2.2.2.2.2.1 s.2.2.2.2.2.2.2.1 s.2.2.2.2.2.2.2.2.1 s.2.2.2.2.2.2.2.2.2.1 s.2.2.2.2.2.2.2.2.2.2.1 s.2.2.2.2.2.2.2.2.2.2.2.1 s.2.2.2.2.2.2.2.2.2.2.2.2.1 s.2.2.2.2.2.2.2.2.2.2.2.2.2.1 s.2.2.2.2.2.2.2.2.2.2.2.2.2.2) (fun s => I s.1 s.2.1 s.2.2.1 s.2.2.2.1 s.2.2.2.2.1 s.2.2.2.2.2.1 s.2.2.2.2.2.2.1 s.2.2.2.2.2.2.2.1 s.2.2.2.2.2.2.2.2.1 s.2.2.2.2.2.2.2.2.2.1 s.2.2.2.2.2.2.2.2.2.2.1 s.2.2.2.2.2.2.2.2.2.2.2.1 s.2.2.2.2.2.2.2.2.2.2.2.2.1 s.2.2.2.2.2.2.2.2.2.2.2.2.2.1 s.2.2.2.2.2.2.2.2.2.2.2.2.2.2) (fun s => μ s.1 s.2.1 s.2.2.1 s.2.2.2.1 s.2.2.2.2.1 s.2.2.2.2.2.1 s.2.2.2.2.2.2.1 s.2.2.2.2.2.2.2.1 s.2.2.2.2.2.2.2.2.1 s.2.2.2.2.2.2.2.2.2.1 s.2.2.2.2.2.2.2.2.2.2.1 s.2.2.2.2.2.2.2.2.2.2.2.1 s.2.2.2.2.2.2.2.2.2.2.2.2.1 s.2.2.2.2.2.2.2.2.2.2.2.2.2.1 s.2.2.2.2.2.2.2.2.2.2.2.2.2.2) (fun n s hI hk => hs n s.1 s.2.1 s.2.2.1 s.2.2.2.1 s.2.2.2.2.1 s.2.2.2.2.2.1 s.2.2.2.2.2.2.1 s.2.2.2.2.2.2.2.1 s.2.2.2.2.2.2.2.2.1 s.2.2.2.2.2.2.2.2.2.1 s.2.2.2.2.2.2.2.2.2.2.1 s.2.2.2.2.2.2.2.2.2.2.2.1 s.2.2.2.2.2.2.2.2.2.2.2.2.1 s.2.2.2.2.2.2.2.2.2.2.2.2.2.1 s.2.2.2.2.2.2.2.2.2.2.2.2.2.2 hI (fun b1 b2 b3 b4 b5 b6 b7 b8 b9 b10 b11 b12 b13 b14 b15 h9 hm => hk (b1, b2, b3, b4, b5, b6, b7, b8, b9, b10, b11, b12, b13, b14, b15) h9 hm)) (a1, a2, a3, a4, a5, a6, a7, a8, a9, a10, a11, a12, a13, a14, a15) h
theorem lp16 {A1 A2 A3 A4 A5 A6 A7 A8 A9 A10 A11 A12 A13 A14 A15 A16 : Type} (W : Nat → A1 → A2 → A3 → A4 → A5 → A6 → A7 → A8 → A9 → A10 → A11 → A12 → A13 → A14 → A15 → A16 → Prop) (I : A1 → A2 → A3 → A4 → A5 → A6 → A7 → A8 → A9 → A10 → A11 → A12 → A13 → A14 → A15 → A16 → Prop) (μ : A1 → A2 → A3 → A4 → A5 → A6 → A7 → A8 → A9 → A10 → A11 → A12 → A13 → A14 → A15 → A16 → Nat) (hs : ∀ (n : Nat) (a1 : A1) (a2 : A2) (a3 : A3) (a4 : A4) (a5 : A5) (a6 : A6) (a7 : A7) (a8 : A8) (a9 : A9) (a10 : A10) (a11 : A11) (a12 : A12) (a13 : A13) (a14 : A14) (a15 : A15) (a16 : A16), I a1 a2 a3 a4 a5 a6 a7 a8 a9 a10 a11 a12 a13 a14 a15 a16 → (∀ (b1 : A1) (b2 : A2) (b3 : A3) (b4 : A4) (b5 : A5) (b6 : A6) (b7 : A7) (b8 : A8) (b9 : A9) (b10 : A10) (b11 : A11) (b12 : A12) (b13 : A13) (b14 : A14) (b15 : A15) (b16 : A16), I b1 b2 b3 b4 b5 b6 b7 b8 b9 b10 b11 b12 b13 b14 b15 b16 → μ b1 b2 b3 b4 b5 b6 b7 b8 b9 b10 b11 b12 b13 b14 b15 b16 < μ a1 a2 a3 a4 a5 a6 a7 a8 a9 a10 a11 a12 a13 a14 a15 a16 → W n b1 b2 b3 b4 b5 b6 b7 b8 b9 b10 b11 b12 b13 b14 b15 b16) → W (n + 1) a1 a2 a3 a4 a5 a6 a7 a8 a9 a10 a11 a12 a13 a14 a15 a16) (a1 : A1) (a2 : A2) (a3 : A3) (a4 : A4) (a5 : A5) (a6 : A6) (a7 : A7) (a8 : A8) (a9 : A9) (a10 : A10) (a11 : A11) (a12 : A12) (a13 : A13) (a14 : A14) (a15 : A15) (a16 : A16) (h : I a1 a2 a3 a4 a5 a6 a7 a8 a9 a10 a11 a12 a13 a14 a15 a16) : ∃ n, W n a1 a2 a3 a4 a5 a6 a7 a8 a9 a10 a11 a12 a13 a14 a15 a16 :=
  loop_m (σ := A1 × A2 × A3 × A4 × A5 × A6 × A7 × A8 × A9 × A10 × A11 × A12 × A13 × A14 × A15 × A16) (fun n s => W n s.1 s.2.1 s.2.2.1 s.2.2.2.1 s.2.2.2.2.1 s.2.2.2.2.2.1 s.2.2.2.2.2.2.1 s.2.2.2.2.2.2.2.1 s.2.2.2.2.2.2.2.2.1 s.2.2.2.2.2.2.2.2.2.1 s.2.2.2.2.2.2.2.2.2.2.1 s.2.2.2.2.2.2.2.2.2.2.2.1 s.2.2.2.2.2.2.2.2.2.2.2.2.1 s.2.2.2.2.2.2.2.2.2.2.2.2.2.1 s.2.2.2.2.2.2.2.2.2.2.2.2.2.2.1 s.2.2.2.2.2.2.2.2.2.2.2.2.2.2.2) (fun s => I s.1 s.2.1 s.2.2.1 s.2.2.2.1 s.2.2.2.2.1 s.2.2.2.2.2.1 s.2.2.2.2.2.2.1 s.2.2.2.2.2.2.2.1 s.2.2.2.2.2.2.2.2.1 s.2.2.2.2.2.2.2.2.2.1 s.2.2.2.2.2.2.2.2.2.2.1 s.2.2.2.2.2.2.2.2.2.2.2.1 s.2.2.2.2.2.2.2.2.2.2.2.2.1 s.2.2.2.2.2.2.2.2.2.2.2.2.2.1 s.2.2.2.2.2.2.2.2.2.2.2.2.2.2.1 s.2.2.2.2.2.2.2.2.2.2.2.2.2.2.2) (fun s => μ s.1 s.2.1 s.2.2.1 s.2.2.2.1 s.2.2.2.2.1 s.2.2.2.2.2.1 s.2.2.2.2.2.2.1 s.2.2.2.2.2.2.2.1 s.2.2.2.2.2.2.2.2.1 s.2.2.2.2.2.2.2.2.2.1 s.2.2.2.2.2.2.2.2.2.2.1 s.2.2.2.2.2.2.2.2.2.2.2.1 s.2.2.2.2.2.2.2.2.2.2.2.2.1 s.2.2.2.2.2.2.2.2.2.2.2.2.2.1 s.2.2.2.2.2.2.2.2.2.2.2.2.2.2.1 s.2.2.2.2.2.2.2.2.2.2.2.2.2.2.2) (fun n s hI hk => hs n s.1 s.2.1 s.2.2.1 s.2.2.2.1 s.2.2.2.2.1 s.2.2.2.2.2.1 s.2.2.2.2.2.2.1 s.2.2.2.2.2.2.2.1 s.2.2.2.2.2.2.2.2.1 s.2.2.2.2.2.2.2.2.2.1 s.2.2.2.2.2.2.2.2.2.2.1 s.2.2.2.2.2.2.2.2.2.2.2.1 s.2.2.2.2.2.2.2.2.2.2.2.2.1 s.2.2.2.2.2.2.2.2.2.2.2.2.2.1 s.2.2.2.2.2.2.2.2.2.2.2.2.2.2.1 s.2.2.2.2.2.2.2.2.2.2.2.2.2.2.2 hI (fun b1 b2 b3 b4 b5 b6 b7 b8 b9 b10 b11 b12 b13 b14 b15 b16 h9 hm => hk (b1, b2, b3, b4, b5, b6, b7, b8, b9, b10, b11, b12, b13, b14, b15, b16) h9 hm)) (a1, a2, a3, a4, a5, a6, a7, a8, a9, a10, a11, a12, a13, a14, a15, a16) h
theorem pk_least (P : Nat → Prop) (h : ∃ k, P k) : ∃ k, P k ∧ ∀ j, j < k → ¬ P j := by
  obtain ⟨k, hk⟩ := h
  induction k using Nat.strongRecOn with
  | ind k ih =>
    by_cases e : ∃ j, j < k ∧ P j
    · obtain ⟨j, hj, pj⟩ := e
      exact ih j hj pj
    · exact ⟨k, hk, fun j hj pj => e ⟨j, hj, pj⟩⟩
theorem rp1 {ρ A1 : Type} (W : Nat → (ρ → Prop) → A1 → Prop) (ok : A1 → Prop) (μ : A1 → Nat) (val : A1 → ρ)
    (hs : ∀ (d : Nat) (post : ρ → Prop) (a1 : A1), ok a1 → post (val a1) → (∀ (post' : ρ → Prop) (b1 : A1), ok b1 → μ b1 < μ a1 → post' (val b1) → W d post' b1) → W (d + 1) post a1) :
    ∀ (d : Nat) (post : ρ → Prop) (a1 : A1), ok a1 → μ a1 < d → post (val a1) → W d post a1 := by
  intro d
  induction d with
  | zero => intro post a1 _ h; omega
  | succ d ih =>
    intro post a1 ho hm hp
    exact hs d post a1 ho hp (fun post' b1 ho' hm' hp' => ih post' b1 ho' (by omega) hp')
theorem rp2 {ρ A1 A2 : Type} (W : Nat → (ρ → Prop) → A1 → A2 → Prop) (ok : A1 → A2 → Prop) (μ : A1 → A2 → Nat) (val : A1 → A2 → ρ)
    (hs : ∀ (d : Nat) (post : ρ → Prop) (a1 : A1) (a2 : A2), ok a1 a2 → post (val a1 a2) → (∀ (post' : ρ → Prop) (b1 : A1) (b2 : A2), ok b1 b2 → μ b1 b2 < μ a1 a2 → post' (val b1 b2) → W d post' b1 b2) → W (d + 1) post a1 a2) :
    ∀ (d : Nat) (post : ρ → Prop) (a1 : A1) (a2 : A2), ok a1 a2 → μ a1 a2 < d → post (val a1 a2) → W d post a1 a2 := by
  intro d
  induction d with
  | zero => intro post a1 a2 _ h; omega
  | succ d ih =>
    intro post a1 a2 ho hm hp
    exact hs d post a1 a2 ho hp (fun post' b1 b2 ho' hm' hp' => ih post' b1 b2 ho' (by omega) hp')
theorem rp3 {ρ A1 A2 A3 : Type} (W : Nat → (ρ → Prop) → A1 → A2 → A3 → Prop) (ok : A1 → A2 → A3 → Prop) (μ : A1 → A2 → A3 → Nat) (val : A1 → A2 → A3 → ρ)
    (hs : ∀ (d : Nat) (post : ρ → Prop) (a1 : A1) (a2 : A2) (a3 : A3), ok a1 a2 a3 → post (val a1 a2 a3) → (∀ (post' : ρ → Prop) (b1 : A1) (b2 : A2) (b3 : A3), ok b1 b2 b3 → μ b1 b2 b3 < μ a1 a2 a3 → post' (val b1 b2 b3) → W d post' b1 b2 b3) → W (d + 1) post a1 a2 a3) :
    ∀ (d : Nat) (post : ρ → Prop) (a1 : A1) (a2 : A2) (a3 : A3), ok a1 a2 a3 → μ a1 a2 a3 < d → post (val a1 a2 a3) → W d post a1 a2 a3 := by
  intro d
  induction d with
  | zero => intro post a1 a2 a3 _ h; omega
  | succ d ih =>
    intro post a1 a2 a3 ho hm hp
    exact hs d post a1 a2 a3 ho hp (fun post' b1 b2 b3 ho' hm' hp' => ih post' b1 b2 b3 ho' (by omega) hp')
theorem rp4 {ρ A1 A2 A3 A4 : Type} (W : Nat → (ρ → Prop) → A1 → A2 → A3 → A4 → Prop) (ok : A1 → A2 → A3 → A4 → Prop) (μ : A1 → A2 → A3 → A4 → Nat) (val : A1 → A2 → A3 → A4 → ρ)
    (hs : ∀ (d : Nat) (post : ρ → Prop) (a1 : A1) (a2 : A2) (a3 : A3) (a4 : A4), ok a1 a2 a3 a4 → post (val a1 a2 a3 a4) → (∀ (post' : ρ → Prop) (b1 : A1) (b2 : A2) (b3 : A3) (b4 : A4), ok b1 b2 b3 b4 → μ b1 b2 b3 b4 < μ a1 a2 a3 a4 → post' (val b1 b2 b3 b4) → W d post' b1 b2 b3 b4) → W (d + 1) post a1 a2 a3 a4) :
    ∀ (d : Nat) (post : ρ → Prop) (a1 : A1) (a2 : A2) (a3 : A3) (a4 : A4), ok a1 a2 a3 a4 → μ a1 a2 a3 a4 < d → post (val a1 a2 a3 a4) → W d post a1 a2 a3 a4 := by
  intro d
  induction d with
  | zero => intro post a1 a2 a3 a4 _ h; omega
  | succ d ih =>
    intro post a1 a2 a3 a4 ho hm hp
    exact hs d post a1 a2 a3 a4 ho hp (fun post' b1 b2 b3 b4 ho' hm' hp' => ih post' b1 b2 b3 b4 ho' (by omega) hp')
theorem rp5 {ρ A1 A2 A3 A4 A5 : Type} (W : Nat → (ρ → Prop) → A1 → A2 → A3 → A4 → A5 → Prop) (ok : A1 → A2 → A3 → A4 → A5 → Prop) (μ : A1 → A2 → A3 → A4 → A5 → Nat) (val : A1 → A2 → A3 → A4 → A5 → ρ)
    (hs : ∀ (d : Nat) (post : ρ → Prop) (a1 : A1) (a2 : A2) (a3 : A3) (a4 : A4) (a5 : A5), ok a1 a2 a3 a4 a5 → post (val a1 a2 a3 a4 a5) → (∀ (post' : ρ → Prop) (b1 : A1) (b2 : A2) (b3 : A3) (b4 : A4) (b5 : A5), ok b1 b2 b3 b4 b5 → μ b1 b2 b3 b4 b5 < μ a1 a2 a3 a4 a5 → post' (val b1 b2 b3 b4 b5) → W d post' b1 b2 b3 b4 b5) → W (d + 1) post a1 a2 a3 a4 a5) :
    ∀ (d : Nat) (post : ρ → Prop) (a1 : A1) (a2 : A2) (a3 : A3) (a4 : A4) (a5 : A5), ok a1 a2 a3 a4 a5 → μ a1 a2 a3 a4 a5 < d → post (val a1 a2 a3 a4 a5) → W d post a1 a2 a3 a4 a5 := by
  intro d
  induction d with
  | zero => intro post a1 a2 a3 a4 a5 _ h; omega
  | succ d ih =>
    intro post a1 a2 a3 a4 a5 ho hm hp
    exact hs d post a1 a2 a3 a4 a5 ho hp (fun post' b1 b2 b3 b4 b5 ho' hm' hp' => ih post' b1 b2 b3 b4 b5 ho' (by omega) hp')
theorem rp6 {ρ A1 A2 A3 A4 A5 A6 : Type} (W : Nat → (ρ → Prop) → A1 → A2 → A3 → A4 → A5 → A6 → Prop) (ok : A1 → A2 → A3 → A4 → A5 → A6 → Prop) (μ : A1 → A2 → A3 → A4 → A5 → A6 → Nat) (val : A1 → A2 → A3 → A4 → A5 → A6 → ρ)
    (hs : ∀ (d : Nat) (post : ρ → Prop) (a1 : A1) (a2 : A2) (a3 : A3) (a4 : A4) (a5 : A5) (a6 : A6), ok a1 a2 a3 a4 a5 a6 → post (val a1 a2 a3 a4 a5 a6) → (∀ (post' : ρ → Prop) (b1 : A1) (b2 : A2) (b3 : A3) (b4 : A4) (b5 : A5) (b6 : A6), ok b1 b2 b3 b4 b5 b6 → μ b1 b2 b3 b4 b5 b6 < μ a1 a2 a3 a4 a5 a6 → post' (val b1 b2 b3 b4 b5 b6) → W d post' b1 b2 b3 b4 b5 b6) → W (d + 1) post a1 a2 a3 a4 a5 a6) :
    ∀ (d : Nat) (post : ρ → Prop) (a1 : A1) (a2 : A2) (a3 : A3) (a4 : A4) (a5 : A5) (a6 : A6), ok a1 a2 a3 a4 a5 a6 → μ a1 a2 a3 a4 a5 a6 < d → post (val a1 a2 a3 a4 a5 a6) → W d post a1 a2 a3 a4 a5 a6 := by
  intro d
  induction d with
  | zero => intro post a1 a2 a3 a4 a5 a6 _ h; omega
  | succ d ih =>
    intro post a1 a2 a3 a4 a5 a6 ho hm hp
    exact hs d post a1 a2 a3 a4 a5 a6 ho hp (fun post' b1 b2 b3 b4 b5 b6 ho' hm' hp' => ih post' b1 b2 b3 b4 b5 b6 ho' (by omega) hp')
theorem rec_p {σ ρ : Type} (W : Nat → (ρ → Prop) → σ → Prop) (ok : σ → Prop) (μ : σ → Nat) (val : σ → ρ)
    (hs : ∀ d s post, ok s → post (val s) → (∀ s' post', ok s' → μ s' < μ s → post' (val s') → W d post' s') → W (d + 1) post s) :
    ∀ d s post, ok s → μ s < d → post (val s) → W d post s := by
  intro d
  induction d with
  | zero => intro s post _ h; omega
  | succ d ih =>
    intro s post ho hm hp
    exact hs d s post ho hp (fun s' post' ho' hm' hp' => ih s' post' ho' (by omega) hp')
theorem rec_q {σ ρ : Type} (W : Nat → (ρ → Prop) → σ → Prop) (ok : σ → Prop) (μ : σ → Nat) (Q : σ → ρ → Prop)
    (hs : ∀ d s post, ok s → (∀ r, Q s r → post r) → (∀ s' post', ok s' → μ s' < μ s → (∀ r, Q s' r → post' r) → W d post' s') → W (d + 1) post s) :
    ∀ d s post, ok s → μ s < d → (∀ r, Q s r → post r) → W d post s := by
  intro d
  induction d with
  | zero => intro s post _ h; omega
  | succ d ih =>
    intro s post ho hm hp
    exact hs d s post ho hp (fun s' post' ho' hm' hp' => ih s' post' ho' (by omega) hp')
def bx_sum (f : Nat → Int32) : Nat → Int32
  | 0 => 0
  | n + 1 => bx_sum f n + f n
theorem ek_u {A : Prop} {B : Nat → Prop} {k N : Nat} (hk : k < N) (h : B k) : (some k = none → A) ∧ (∀ y : Nat, some k = some y → (y < N ∧ B y)) :=
  ⟨fun z => absurd z (Option.some_ne_none k), fun _ e => (by cases e; exact ⟨hk, h⟩)⟩
theorem ek_nu {A : Prop} {B : Nat → Prop} (h : A) : ((none : Option Nat) = none → A) ∧ (∀ y : Nat, (none : Option Nat) = some y → B y) :=
  ⟨fun _ => h, fun _ e => (by cases e)⟩
theorem ek_if {c d A B : Prop} (e : c ↔ d) (f : d → A) (g : ¬ d → B) : (c → A) ∧ (¬ c → B) :=
  ⟨fun z => f (e.mp z), fun z => g (fun y => z (e.mpr y))⟩
theorem ek_v {α : Sort _} {P : α → Prop} {a b : α} (e : a = b) (h : P b) : P a := e ▸ h
theorem co_some {x : Option Nat} {A : Prop} {B : Nat → Prop} (i : Nat) (h : B i) (hx : x = some i := by rfl) : (x = none → A) ∧ (∀ y : Nat, x = some y → B y) := by
  subst hx
  exact ⟨fun e => (nomatch e), fun y e => Option.some.inj e ▸ h⟩
theorem co_none {x : Option Nat} {A : Prop} {B : Nat → Prop} (h : A) (hx : x = none := by rfl) : (x = none → A) ∧ (∀ y : Nat, x = some y → B y) := by
  subst hx
  exact ⟨fun _ => h, fun y e => (nomatch e)⟩
theorem co_any {x : Option Nat} {A : Prop} {B : Nat → Prop} (hn : x = none → A) (hs : ∀ i : Nat, x = some i → B i) : (x = none → A) ∧ (∀ y : Nat, x = some y → B y) := ⟨hn, hs⟩
theorem co_2 {P : Nat → Prop} (h0 : P 0) (h1 : P 1) {i : Nat} (hi : i < 2) : P i :=
  match i, hi with
  | 0, _ => h0
  | 1, _ => h1
theorem co_3 {P : Nat → Prop} (h0 : P 0) (h1 : P 1) (h2 : P 2) {i : Nat} (hi : i < 3) : P i :=
  match i, hi with
  | 0, _ => h0
  | 1, _ => h1
  | 2, _ => h2
theorem co_4 {P : Nat → Prop} (h0 : P 0) (h1 : P 1) (h2 : P 2) (h3 : P 3) {i : Nat} (hi : i < 4) : P i :=
  match i, hi with
  | 0, _ => h0
  | 1, _ => h1
  | 2, _ => h2
  | 3, _ => h3
theorem co_dec {N : Nat} {P : Nat → Prop} [DecidablePred P] (h : (List.range N).all (fun i => decide (P i)) = true) {i : Nat} (hi : i < N) : P i := by
  have := List.all_eq_true.mp h i (List.mem_range.mpr hi)
  exact of_decide_eq_true this
theorem co_tab {α : Type} {l : List α} {d : α} {P : α → Prop} (h : ∀ a, a ∈ l → P a) {i : Nat} (hi : i < l.length) : P (l.getD i d) := by
  rw [List.getD_eq_getElem?_getD, List.getElem?_eq_getElem hi]
  exact h _ (List.getElem_mem hi)
theorem pk_mu {x : Int32} {L : Nat} (h0 : ¬ x < 0) (h : ¬ nI L ≤ x) (hL : L < 2 ^ 31) : ∃ j : Nat, j < L ∧ x = nI j ∧ x + 1 = nI (j + 1) ∧ x.toNatClampNeg = j ∧ L - (x + 1).toNatClampNeg < L - x.toNatClampNeg := by
  obtain ⟨j, hj, rfl⟩ := nI_of h0
  have hl : j < L := Nat.not_le.mp fun q => h (nI_le q hj)
  refine ⟨j, hl, rfl, nI_1 j, nI_clamp hj, ?_⟩
  rw [nI_1, nI_clamp (by omega), nI_clamp hj]
  omega
theorem op_s {α : Type} {r : Option α} {A : Prop} {B : α → Prop} {y : α} (h : r = some y) (b : B y) : (r = none → A) ∧ ∀ z, r = some z → B z :=
  ⟨fun e => (by rw [h] at e; cases e), fun z e => (by rw [h] at e; cases e; exact b)⟩
def l_holds {α : Type} (a : Nat → Option Nat) (LP : List Nat) (p : Nat → α) (c : Nat) (b : Nat → α) : Prop :=
  ∀ j, j < c → ∃ y, a j = some y ∧ y ∈ LP ∧ p y = b j
theorem l_holds_0 {α : Type} {a : Nat → Option Nat} {LP : List Nat} {p b : Nat → α} : l_holds a LP p 0 b := fun j h => absurd h (Nat.not_lt_zero j)
theorem l_in_new (LP : List Nat) (q : Nat) : q ∈ LP ++ [q] := List.mem_append.mpr (Or.inr (List.mem_singleton.mpr rfl))
def l_sum (b : Nat → Int32) : Nat → Int32
  | 0 => 0
  | k + 1 => l_sum b k + b k
theorem sb_shr0 (x : Int32) : x >>> ((0 : Int32) &&& 31) = x := by
  rw [show ((0 : Int32) &&& 31) = 0 by decide]
  simp
theorem sb_shl0 (x : Int32) : x <<< ((0 : Int32) &&& 31) = x := by
  rw [show ((0 : Int32) &&& 31) = 0 by decide]
  simp
theorem sb_cl0 : (0 : Int32).toNatClampNeg = 0 := by decide
theorem sb_m1 {p : Nat} (h : 0 < p) : nI p + (-1) = nI (p - 1) := by
  obtain ⟨q, rfl⟩ : ∃ q, p = q + 1 := ⟨p - 1, by omega⟩
  exact pk_m1 q
def sb_b (c : Nat) : Int32 := (nI c).toInt8.toInt32
theorem sb_byte : ∀ c, c < 256 → sb_b c &&& 255 = nI c ∧ ((nI c).toUInt32 % 65536).toInt32 = nI c ∧ nI c ≤ 255 := by decide +kernel
def sb_Fit (a : Nat → Int32) : Prop := ∀ j, fits .byte (.int (a j)) = true
def sb_Lat (t : Nat → Nat) (n : Nat) (a : Nat → Int32) : Prop := ∀ j, j < n → t j < 256 ∧ a j = sb_b (t j)
theorem sb_fitB (c : Nat) : fits .byte (.int (sb_b c)) = true := pk_fb _
theorem sb_fit0 : sb_Fit (fun _ => 0) := fun _ => by
  show fits .byte (.int 0) = true
  decide
theorem sb_fitU {a : Nat → Int32} {k : Nat} {x : Int32} (h : sb_Fit a) (hx : fits .byte (.int x) = true) : sb_Fit (upd a k x) := by
  intro j
  by_cases e : j = k
  · subst e
    rw [pk_us]
    exact hx
  · rw [pk_un e]
    exact h j
def sb_cat (t : Nat → Nat) (n : Nat) (s : Nat → Nat) : Nat → Nat := fun j => if j < n then t j else s (j - n)
theorem sb_cat_lo {t s : Nat → Nat} {n j : Nat} (h : j < n) : sb_cat t n s j = t j := if_pos h
theorem sb_cat_hi {t s : Nat → Nat} {n j : Nat} : sb_cat t n s (n + j) = s j := by
  show (if n + j < n then t (n + j) else s (n + j - n)) = s j
  rw [if_neg (by omega), Nat.add_sub_cancel_left]
theorem sb_latPut {t s : Nat → Nat} {n w : Nat} {a a' : Nat → Int32} (h : sb_Lat t n a) (hk : ∀ j, j < n → a' j = a j) (hs : ∀ i, i < w → s i < 256 ∧ a' (n + i) = sb_b (s i)) : sb_Lat (sb_cat t n s) (n + w) a' := by
  intro j hj
  by_cases e : j < n
  · rw [sb_cat_lo e, hk j e]
    exact h j e
  · obtain ⟨i, rfl⟩ : ∃ i, j = n + i := ⟨j - n, by omega⟩
    rw [sb_cat_hi]
    exact hs i (by omega)
theorem sb_latKeep {t : Nat → Nat} {n : Nat} {a a' : Nat → Int32} (h : sb_Lat t n a) (hk : ∀ j, j < n → a' j = a j) : sb_Lat t n a' := fun j hj => by
  rw [hk j hj]
  exact h j hj
def sb_cap (q m : Nat) : Nat := if q ≤ m then m else if 2 * m + 2 < q then q else 2 * m + 2
def sb_Room (q m mc ms : Nat) : Prop := q ≤ m ∨ (1 ≤ mc ∧ sb_cap q m ≤ ms ∧ sb_cap q m ≤ 65536)
theorem sb_cap_ge (q m : Nat) : q ≤ sb_cap q m := by
  unfold sb_cap
  split
  · omega
  · split <;> omega
theorem sb_cap_gem (q m : Nat) : m ≤ sb_cap q m := by
  unfold sb_cap
  split
  · omega
  · split <;> omega
theorem sb_cap_le {q m mc ms : Nat} (hm : m ≤ 65536) (hr : sb_Room q m mc ms) : sb_cap q m ≤ 65536 := by
  rcases hr with h | h
  · rw [sb_cap, if_pos h]
    exact hm
  · exact h.2.2
theorem sb_at {P : Int32 → Prop} {x y : Int32} (e : x = y) (h : P y) : P x := e ▸ h
def sb_dg (w : Nat) : Nat := if w < 10 then 1 else if w < 100 then 2 else if w < 1000 then 3 else if w < 10000 then 4 else if w < 100000 then 5 else if w < 1000000 then 6 else if w < 10000000 then 7 else if w < 100000000 then 8 else if w < 1000000000 then 9 else 10
def sb_dec (v : Nat) : Nat → Nat := fun i => 48 + v / 10 ^ (sb_dg v - 1 - i) % 10
theorem sb_dg_in (w : Nat) : 1 ≤ sb_dg w ∧ sb_dg w ≤ 10 := by
  unfold sb_dg
  constructor <;> (repeat' split) <;> omega
theorem sb_dg100 {w : Nat} (h : 100 ≤ w) (hw : w < 2 ^ 31) : sb_dg w = sb_dg (w / 100) + 2 := by
  rw [sb_dg, sb_dg, if_neg (show ¬ w < 10 by omega), if_neg (show ¬ w < 100 by omega)]
  by_cases h3 : w < 1000
  · rw [if_pos h3, if_pos (show w / 100 < 10 by omega)]
  rw [if_neg h3, if_neg (show ¬ w / 100 < 10 by omega)]
  by_cases h4 : w < 10000
  · rw [if_pos h4, if_pos (show w / 100 < 100 by omega)]
  rw [if_neg h4, if_neg (show ¬ w / 100 < 100 by omega)]
  by_cases h5 : w < 100000
  · rw [if_pos h5, if_pos (show w / 100 < 1000 by omega)]
  rw [if_neg h5, if_neg (show ¬ w / 100 < 1000 by omega)]
  by_cases h6 : w < 1000000
  · rw [if_pos h6, if_pos (show w / 100 < 10000 by omega)]
  rw [if_neg h6, if_neg (show ¬ w / 100 < 10000 by omega)]
  by_cases h7 : w < 10000000
  · rw [if_pos h7, if_pos (show w / 100 < 100000 by omega)]
  rw [if_neg h7, if_neg (show ¬ w / 100 < 100000 by omega)]
  by_cases h8 : w < 100000000
  · rw [if_pos h8, if_pos (show w / 100 < 1000000 by omega)]
  rw [if_neg h8, if_neg (show ¬ w / 100 < 1000000 by omega)]
  by_cases h9 : w < 1000000000
  · rw [if_pos h9, if_pos (show w / 100 < 10000000 by omega)]
  rw [if_neg h9, if_neg (show ¬ w / 100 < 10000000 by omega)]
  rw [if_pos (show w / 100 < 100000000 by omega)]
theorem sb_negT {w : Nat} (h : w < 2 ^ 31) : (-nI w).toInt = -(w : Int) := by
  rw [Int32.toInt_neg, nI_toInt h]
  exact Int.bmod_eq_of_le (by omega) (by omega)
theorem sb_nle {a b : Nat} (ha : a < 2 ^ 31) (hb : b < 2 ^ 31) : -nI a ≤ -nI b ↔ b ≤ a := by
  rw [Int32.le_iff_toInt_le, sb_negT ha, sb_negT hb]
  omega
theorem sb_nlt {a b : Nat} (ha : a < 2 ^ 31) (hb : b < 2 ^ 31) : -nI a < -nI b ↔ b < a := by
  rw [Int32.lt_iff_toInt_lt, sb_negT ha, sb_negT hb]
  omega
theorem sb_cmp {A B : Prop} {x : Int32} (v c : Nat) (f : c ≤ v → A) (g : v < c → B) (hv : v < 2 ^ 31) (hx : x = -nI c := by rfl) (hc : c < 2 ^ 31 := by omega) : (-nI v ≤ x → A) ∧ (¬ -nI v ≤ x → B) := by
  subst hx
  rw [sb_nle hv hc]
  exact ⟨f, fun z => g (by omega)⟩
theorem sb_ndiv {w : Nat} (hw : w < 2 ^ 31) : (-nI w) / 100 = -nI (w / 100) := by
  apply Int32.toInt_inj.mp
  have h100 : (100 : Int32).toInt = 100 := by decide
  rw [Int32.toInt_div, sb_negT hw, h100, sb_negT (by omega), Int.neg_tdiv, Int.tdiv_eq_ediv_of_nonneg (by omega), Int.bmod_eq_of_le (by omega) (by omega)]
  omega
theorem sb_nrem {w : Nat} (hw : w < 2 ^ 31) : (-nI (w / 100)) * 100 - (-nI w) = nI (w % 100) := by
  have h := pk_rem (a := w) (d := 100) hw (by decide) (by decide)
  rw [pk_div hw (by decide) (by decide)] at h
  rw [← h]
  show (-nI (w / 100)) * nI 100 - (-nI w) = nI w - nI (w / 100) * nI 100
  rw [Int32.neg_mul, Int32.sub_neg, Int32.add_comm, ← Int32.sub_eq_add_neg]
end
section
/-! rows on bits, shifts and unsigned numbers, to paste: each family out of a closed proof of our own, whole with what it rests on; each by itself clean at Lean in its own claim (generation 39, form 5). Take a family whole -/
/-! ===== Int32 by its bits: bt x i ===== -/
def bt (x : Int32) (i : Nat) : Bool := x.toBitVec.getLsbD i
theorem b_ext {x y : Int32} (h : ∀ i, i < 32 → bt x i = bt y i) : x = y := Int32.toBitVec_inj.mp (BitVec.eq_of_getLsbD_eq (fun i hi => h i hi))
theorem b_or (x y : Int32) (i : Nat) : bt (x ||| y) i = (bt x i || bt y i) := by unfold bt; rw [Int32.toBitVec_or, BitVec.getLsbD_or]
theorem b_and (x y : Int32) (i : Nat) : bt (x &&& y) i = (bt x i && bt y i) := by unfold bt; rw [Int32.toBitVec_and, BitVec.getLsbD_and]
theorem b_xor (x y : Int32) (i : Nat) : bt (x ^^^ y) i = (bt x i ^^ bt y i) := by unfold bt; rw [Int32.toBitVec_xor, BitVec.getLsbD_xor]
theorem b_big {x : Int32} {i : Nat} (h : 32 ≤ i) : bt x i = false := BitVec.getLsbD_of_ge _ _ h
theorem b_255 (i : Nat) : bt 255 i = decide (i < 8) := by
  rcases Nat.lt_or_ge i 32 with h | h
  · exact (by decide +kernel : ∀ i, i < 32 → bt 255 i = decide (i < 8)) i h
  · rw [b_big h, decide_eq_false (by omega)]
theorem b_65535 (i : Nat) : bt 65535 i = decide (i < 16) := by
  rcases Nat.lt_or_ge i 32 with h | h
  · exact (by decide +kernel : ∀ i, i < 32 → bt 65535 i = decide (i < 16)) i h
  · rw [b_big h, decide_eq_false (by omega)]
theorem b_m1 : ∀ i, i < 32 → bt (-1) i = true := by decide +kernel
theorem b_0 (i : Nat) : bt 0 i = false := BitVec.getLsbD_zero
theorem s_l : ∀ n, n < 32 → ((nI n &&& 31).toBitVec.smod 32).toNat = n := by decide +kernel
theorem s_u : ∀ n, n < 32 → (((nI n).toUInt32 &&& Int32.toUInt32 31).toBitVec % 32).toNat = n := by decide +kernel
theorem b_shl (n : Nat) (hn : n < 32) (x : Int32) {i : Nat} (hi : i < 32) : bt (x <<< (nI n &&& 31)) i = (decide (n ≤ i) && bt x (i - n)) := by
  unfold bt
  rw [Int32.toBitVec_shiftLeft]
  show (x.toBitVec <<< ((nI n &&& 31).toBitVec.smod 32).toNat).getLsbD i = _
  rw [s_l n hn, BitVec.getLsbD_shiftLeft]
  rcases Nat.lt_or_ge i n with h | h
  · simp [h, Nat.not_le.mpr h]
  · simp [hi, h, Nat.not_lt.mpr h]
theorem b_ushr (n : Nat) (hn : n < 32) (x : Int32) (i : Nat) : bt ((x.toUInt32 >>> ((nI n).toUInt32 &&& Int32.toUInt32 31)).toInt32) i = bt x (n + i) := by
  show (x.toUInt32 >>> ((nI n).toUInt32 &&& Int32.toUInt32 31)).toBitVec.getLsbD i = x.toUInt32.toBitVec.getLsbD (n + i)
  rw [UInt32.toBitVec_shiftRight]
  show (x.toUInt32.toBitVec >>> (((nI n).toUInt32 &&& Int32.toUInt32 31).toBitVec % 32).toNat).getLsbD i = _
  rw [s_u n hn, BitVec.getLsbD_ushiftRight]
theorem b_sshr (n : Nat) (hn : n < 32) (x : Int32) {i : Nat} (hi : i < 32) : bt (x >>> (nI n &&& 31)) i = if n + i < 32 then bt x (n + i) else bt x 31 := by
  unfold bt
  rw [Int32.toBitVec_shiftRight]
  show (x.toBitVec.sshiftRight ((nI n &&& 31).toBitVec.smod 32).toNat).getLsbD i = _
  rw [s_l n hn, BitVec.getLsbD_sshiftRight, BitVec.msb_eq_getLsbD_last]
  simp [hi]
theorem b_shl8 (x : Int32) {i : Nat} (hi : i < 32) : bt (x <<< ((8 : Int32) &&& 31)) i = (decide (8 ≤ i) && bt x (i - 8)) := b_shl 8 (by omega) x hi
theorem b_shl16 (x : Int32) {i : Nat} (hi : i < 32) : bt (x <<< ((16 : Int32) &&& 31)) i = (decide (16 ≤ i) && bt x (i - 16)) := b_shl 16 (by omega) x hi
theorem b_shl24 (x : Int32) {i : Nat} (hi : i < 32) : bt (x <<< ((24 : Int32) &&& 31)) i = (decide (24 ≤ i) && bt x (i - 24)) := b_shl 24 (by omega) x hi
theorem b_sshr8 (x : Int32) {i : Nat} (hi : i < 32) : bt (x >>> ((8 : Int32) &&& 31)) i = if 8 + i < 32 then bt x (8 + i) else bt x 31 := b_sshr 8 (by omega) x hi
/-! ===== nI under and, xor, >>>, one bit, 65535 ===== -/
theorem nx_and (a b : Nat) : nI a &&& nI b = nI (a &&& b) := by
  apply Int32.toBitVec_inj.1
  show BitVec.ofNat 32 a &&& BitVec.ofNat 32 b = BitVec.ofNat 32 (a &&& b)
  apply BitVec.eq_of_getLsbD_eq
  intro i hi
  simp [hi]
theorem nx_xor (a b : Nat) : nI a ^^^ nI b = nI (a ^^^ b) := by
  apply Int32.toBitVec_inj.1
  show BitVec.ofNat 32 a ^^^ BitVec.ofNat 32 b = BitVec.ofNat 32 (a ^^^ b)
  apply BitVec.eq_of_getLsbD_eq
  intro i hi
  simp [hi]
theorem nx_cnt : ∀ j : Fin 32, (UInt32.ofNat j.val &&& Int32.toUInt32 31).toNat % 32 = j.val := by decide +kernel
theorem nx_ush {k j : Nat} (hk : k < 65536) (hj : j < 32) : ((nI k).toUInt32 >>> ((nI j).toUInt32 &&& Int32.toUInt32 31)).toInt32 = nI (k >>> j) := by
  have hs : k >>> j ≤ k := by
    rw [Nat.shiftRight_eq_div_pow]
    exact Nat.div_le_self _ _
  have e2 : UInt32.ofNat k >>> (UInt32.ofNat j &&& Int32.toUInt32 31) = UInt32.ofNat (k >>> j) := by
    apply UInt32.toNat_inj.1
    have h1 : (UInt32.ofNat k).toNat = k := Nat.mod_eq_of_lt (by omega)
    have h2 : (UInt32.ofNat (k >>> j)).toNat = k >>> j := Nat.mod_eq_of_lt (by omega)
    rw [UInt32.toNat_shiftRight, nx_cnt ⟨j, hj⟩, h1, h2]
  show (UInt32.ofNat k >>> (UInt32.ofNat j &&& Int32.toUInt32 31)).toInt32 = _
  rw [e2]
  rfl
theorem nx_bit {k j : Nat} (hk : k < 65536) (hj : j < 16) : (((nI k).toUInt32 >>> ((nI j).toUInt32 &&& Int32.toUInt32 31)).toInt32 &&& 1) = 0 ↔ k.testBit j = false := by
  rw [nx_ush hk (by omega)]
  show nI (k >>> j) &&& nI 1 = 0 ↔ _
  rw [nx_and, Nat.and_one_is_mod, ← nI_0, nI_eq (by omega) (by omega), Nat.testBit_eq_decide_div_mod_eq, Nat.shiftRight_eq_div_pow, decide_eq_false_iff_not]
  generalize k / 2 ^ j = z
  omega
theorem nx_mod (k : Nat) : nI k &&& 65535 = nI (k % 65536) := by
  show nI k &&& nI 65535 = _
  rw [nx_and, show (65535 : Nat) = 2 ^ 16 - 1 from rfl, Nat.and_two_pow_sub_one_eq_mod]
theorem nx_m16 {k : Nat} (h : k < 65536) : nI k &&& 65535 = nI k := by rw [nx_mod, Nat.mod_eq_of_lt h]
theorem nx_mask (x : Int32) : ∃ k, k < 65536 ∧ x &&& 65535 = nI k := by
  have e : x = nI x.toBitVec.toNat := by
    apply Int32.toBitVec_inj.1
    show x.toBitVec = BitVec.ofNat 32 x.toBitVec.toNat
    simp
  refine ⟨x.toBitVec.toNat % 65536, Nat.mod_lt _ (by omega), ?_⟩
  rw [← nx_mod, ← e]
/-! ===== Int32 as a set of bits: test, set ===== -/
def nf_M (m : Int32) : Nat := 4294967296 - m.toBitVec.toNat
theorem nf_sh : ∀ l, l < 32 → ((1 : Int32) <<< (nI l &&& 31)).toBitVec = BitVec.twoPow 32 l := by decide +kernel
theorem nf_sl : ∀ l, l < 32 → (((nI l).toUInt32 &&& Int32.toUInt32 31).toBitVec % 32).toNat = l := by decide +kernel
theorem nf_tp : ∀ l, l < 32 → BitVec.twoPow 32 l ≠ 0#32 := by decide +kernel
theorem nf_bit (m : Int32) (l : Nat) (hl : l < 32) : ((m.toUInt32 >>> ((nI l).toUInt32 &&& Int32.toUInt32 31)).toInt32 &&& 1) = 0 ↔ (m &&& ((1 : Int32) <<< (nI l &&& 31))) = 0 := by
  have e : ((m.toUInt32 >>> ((nI l).toUInt32 &&& Int32.toUInt32 31)).toInt32).toBitVec = m.toBitVec >>> l := by
    show m.toBitVec >>> (((nI l).toUInt32 &&& Int32.toUInt32 31).toBitVec % 32) = m.toBitVec >>> l
    rw [BitVec.ushiftRight_eq', nf_sl l hl]
  rw [← Int32.toBitVec_inj, ← Int32.toBitVec_inj, Int32.toBitVec_and, Int32.toBitVec_and, nf_sh l hl, e, BitVec.and_twoPow]
  show (m.toBitVec >>> l &&& 1#32) = 0#32 ↔ _ = 0#32
  rw [BitVec.and_one_eq_setWidth_ofBool_getLsbD, BitVec.getLsbD_ushiftRight, Nat.add_zero]
  cases hb : m.toBitVec.getLsbD l
  · exact ⟨fun _ => by simp, fun _ => by decide⟩
  · exact ⟨fun z => absurd z (by decide), fun z => absurd ((if_pos rfl).symm.trans z) (nf_tp l hl)⟩
theorem nf_gr (m k : Int32) (h : m &&& k = 0) (hk : k ≠ 0) : nf_M (m ||| k) < nf_M m := by
  have hm := m.toBitVec.isLt
  have hm' := (m ||| k).toBitVec.isLt
  have h1 : m.toBitVec.toNat ≤ (m ||| k).toBitVec.toNat := by
    rw [Int32.toBitVec_or, BitVec.toNat_or]
    exact Nat.left_le_or
  have h2 : m.toBitVec.toNat ≠ (m ||| k).toBitVec.toNat := by
    intro e
    have e2 : m = m ||| k := Int32.toBitVec_inj.mp (BitVec.eq_of_toNat_eq e)
    apply hk
    apply Int32.toBitVec_inj.mp
    show k.toBitVec = 0#32
    apply BitVec.eq_of_getLsbD_eq
    intro i hi
    have a : m.toBitVec.getLsbD i = (m.toBitVec.getLsbD i || k.toBitVec.getLsbD i) := by rw [← BitVec.getLsbD_or, ← Int32.toBitVec_or, ← e2]
    have b : (m.toBitVec.getLsbD i && k.toBitVec.getLsbD i) = false := by
      rw [← BitVec.getLsbD_and, ← Int32.toBitVec_and, h]
      exact BitVec.getLsbD_zero
    rw [BitVec.getLsbD_zero]
    revert a b
    cases m.toBitVec.getLsbD i <;> cases k.toBitVec.getLsbD i <;> simp
  unfold nf_M
  omega
/-! ===== a byte read unsigned ===== -/
theorem bp_b (x : Int32) : x.toInt8.toInt32 &&& 255 = x &&& 255 := by
  apply Int32.toBitVec_inj.mp
  rw [Int32.toBitVec_and, Int32.toBitVec_and, Int8.toBitVec_toInt32, Int32.toBitVec_toInt8]
  apply BitVec.eq_of_getLsbD_eq
  intro i hi
  rw [BitVec.getLsbD_and, BitVec.getLsbD_and]
  have hm : ∀ i < 32, 8 ≤ i → (255 : Int32).toBitVec.getLsbD i = false := by decide
  rcases Nat.lt_or_ge i 8 with z | z
  · rw [BitVec.getLsbD_signExtend, BitVec.getLsbD_signExtend, if_pos z, if_pos hi]
    simp only [z, hi, decide_true, Bool.true_and]
  · rw [hm i hi z]; simp
/-! ===== the char cast and 65535 ===== -/
theorem em_w (v : Int32) : ∃ w : Nat, w < 65536 ∧ (v.toUInt32 % 65536).toInt32 = nI w ∧ v &&& 65535 = nI w := by
  have hr := lw_u16_r v
  have h0 : (0 : Int32).toInt = 0 := by decide
  obtain ⟨w, h1, h2⟩ := nI_of (x := lw_u16 v) (by rw [Int32.lt_iff_toInt_lt]; omega)
  have h3 : (v.toUInt32 % 65536).toInt32 = nI w := h2
  rw [h2, nI_toInt h1] at hr
  exact ⟨w, by omega, h3, by rw [← lg_i2c_mask, ← lg_i2c_nf, h3]⟩
/-! ===== Int64 as a set of bits: test, set, clear ===== -/
theorem ts_nf {x : Bool} (h : ¬ x = false) : x = true := by cases x <;> first | rfl | exact absurd rfl h
theorem ts_nt {x : Bool} (h : ¬ x = true) : x = false := by cases x <;> first | rfl | exact absurd rfl h
theorem ts_bit {w : Int64} {s : UInt64} {j : Nat} (hj : j < 64) (hs : s.toNat = j) : ((w.toUInt64 >>> s).toInt64 &&& 1) = 0 ↔ w.toBitVec.getLsbD j = false := by
  have e : (w.toUInt64 >>> s).toInt64.toBitVec = w.toBitVec >>> j := by
    apply BitVec.eq_of_toNat_eq
    show (w.toUInt64 >>> s).toNat = _
    rw [UInt64.toNat_shiftRight, hs, Nat.mod_eq_of_lt hj, BitVec.toNat_ushiftRight]
    rfl
  rw [← Int64.toBitVec_inj, Int64.toBitVec_and, e]
  show w.toBitVec >>> j &&& 1#64 = 0#64 ↔ _
  constructor
  · intro h
    have t := congrArg (fun x => x.getLsbD 0) h
    simpa using t
  · intro h
    apply BitVec.eq_of_getLsbD_eq
    intro i hi
    cases i with
    | zero => simp [h]
    | succ i => simp
theorem ts_or {w m : Int64} {j : Nat} (hj : j < 64) (hm : m.toBitVec = BitVec.twoPow 64 j) : (w ||| m) = w ↔ w.toBitVec.getLsbD j = true := by
  rw [← Int64.toBitVec_inj, Int64.toBitVec_or, hm]
  constructor
  · intro h
    have t := congrArg (fun x => x.getLsbD j) h
    simp only [BitVec.getLsbD_or, BitVec.getLsbD_twoPow] at t
    simpa [hj] using t.symm
  · intro h
    apply BitVec.eq_of_getLsbD_eq
    intro i hi
    rw [BitVec.getLsbD_or, BitVec.getLsbD_twoPow]
    by_cases e : j = i
    · subst e; rw [h, Bool.true_or]
    · simp [e]
theorem ts_and {w m : Int64} {j : Nat} (hj : j < 64) (hm : m.toBitVec = BitVec.twoPow 64 j) : (w &&& (m ^^^ (-1))) = w ↔ w.toBitVec.getLsbD j = false := by
  have ha : (-1 : Int64).toBitVec = BitVec.allOnes 64 := by decide
  rw [← Int64.toBitVec_inj, Int64.toBitVec_and, Int64.toBitVec_xor, hm, ha]
  constructor
  · intro h
    have t := congrArg (fun x => x.getLsbD j) h
    simp only [BitVec.getLsbD_and, BitVec.getLsbD_xor, BitVec.getLsbD_twoPow, BitVec.getLsbD_allOnes] at t
    simpa [hj] using t.symm
  · intro h
    apply BitVec.eq_of_getLsbD_eq
    intro i hi
    rw [BitVec.getLsbD_and, BitVec.getLsbD_xor, BitVec.getLsbD_twoPow, BitVec.getLsbD_allOnes]
    by_cases e : j = i
    · subst e; rw [h, Bool.false_and]
    · simp [e, hi]
/-! ===== lN n to 2^64: shifts, and, or, masks, one bit ===== -/
theorem wb_tb (n : Nat) : (lN n).toBitVec = BitVec.ofNat 64 n := rfl
theorem wb_inj {a b : Int64} (h : a.toBitVec = b.toBitVec) : a = b := Int64.toBitVec_inj.mp h
theorem wb_tn {n : Nat} (h : n < 2 ^ 64) : (lN n).toBitVec.toNat = n := by rw [wb_tb, BitVec.toNat_ofNat, Nat.mod_eq_of_lt h]
theorem wb_of (x : Int64) : ∃ n, n < 2 ^ 64 ∧ x = lN n := ⟨x.toBitVec.toNat, x.toBitVec.isLt, wb_inj (by rw [wb_tb]; simp)⟩
theorem wb_of32 (x : Int32) : ∃ n, n < 2 ^ 32 ∧ x = nI n := ⟨x.toBitVec.toNat, x.toBitVec.isLt, Int32.toBitVec_inj.mp (by show _ = BitVec.ofNat 32 _; simp)⟩
theorem wb_c : ∀ k, k < 64 → ((nI k).toInt64 &&& 63) = lN k := by decide +kernel
theorem wb_cu : ∀ k, k < 64 → ((nI k).toInt64.toUInt64 &&& Int64.toUInt64 63) = UInt64.ofNat k := by decide +kernel
theorem wb_sm : ∀ k, k < 64 → (BitVec.ofNat 64 k).smod 64 = BitVec.ofNat 64 k := by decide +kernel
theorem wb_pw {a b : Nat} (h : a ≤ b) : 2 ^ b = 2 ^ a * 2 ^ (b - a) := by rw [← Nat.pow_add]; congr 1; omega
theorem wb_lt2 {a b : Nat} (h : a < b) : 2 ^ a < 2 ^ b := Nat.pow_lt_pow_right (by decide) h
theorem wb_mod (n : Nat) : lN n = lN (n % 2 ^ 64) := wb_inj (by rw [wb_tb, wb_tb]; apply BitVec.eq_of_toNat_eq; rw [BitVec.toNat_ofNat, BitVec.toNat_ofNat, Nat.mod_mod])
theorem wb_shr {n k : Nat} (hn : n < 2 ^ 64) (hk : k < 64) : ((lN n).toUInt64 >>> ((nI k).toInt64.toUInt64 &&& Int64.toUInt64 63)).toInt64 = lN (n / 2 ^ k) := by
  rw [wb_cu k hk]
  apply wb_inj
  apply BitVec.eq_of_toNat_eq
  show ((lN n).toUInt64 >>> UInt64.ofNat k).toNat = (BitVec.ofNat 64 _).toNat
  have h1 : (UInt64.ofNat k).toNat = k := by
    show (BitVec.ofNat 64 k).toNat = k
    rw [BitVec.toNat_ofNat, Nat.mod_eq_of_lt (by omega)]
  have h2 : (lN n).toUInt64.toNat = n := wb_tn hn
  rw [UInt64.toNat_shiftRight, h1, h2, Nat.mod_eq_of_lt hk, Nat.shiftRight_eq_div_pow, BitVec.toNat_ofNat, Nat.mod_eq_of_lt (Nat.lt_of_le_of_lt (Nat.div_le_self _ _) hn)]
theorem wb_shl (n : Nat) {k : Nat} (hk : k < 64) : lN n <<< ((nI k).toInt64 &&& 63) = lN (n * 2 ^ k) := by
  rw [wb_c k hk]
  apply wb_inj
  rw [Int64.toBitVec_shiftLeft, wb_tb, wb_tb, wb_tb, wb_sm k hk]
  apply BitVec.eq_of_toNat_eq
  rw [BitVec.shiftLeft_eq', BitVec.toNat_shiftLeft, BitVec.toNat_ofNat, BitVec.toNat_ofNat, BitVec.toNat_ofNat, Nat.mod_eq_of_lt (show k < 2 ^ 64 by omega), Nat.shiftLeft_eq, Nat.mul_mod, Nat.mod_mod, ← Nat.mul_mod]
theorem wb_and {a b : Nat} (ha : a < 2 ^ 64) (hb : b < 2 ^ 64) : lN a &&& lN b = lN (a &&& b) := by
  apply wb_inj
  rw [Int64.toBitVec_and, wb_tb, wb_tb, wb_tb]
  apply BitVec.eq_of_toNat_eq
  rw [BitVec.toNat_and, BitVec.toNat_ofNat, BitVec.toNat_ofNat, BitVec.toNat_ofNat, Nat.mod_eq_of_lt ha, Nat.mod_eq_of_lt hb, Nat.mod_eq_of_lt (Nat.and_lt_two_pow _ hb)]
theorem wb_or {a b : Nat} (ha : a < 2 ^ 64) (hb : b < 2 ^ 64) : lN a ||| lN b = lN (a ||| b) := by
  apply wb_inj
  rw [Int64.toBitVec_or, wb_tb, wb_tb, wb_tb]
  apply BitVec.eq_of_toNat_eq
  rw [BitVec.toNat_or, BitVec.toNat_ofNat, BitVec.toNat_ofNat, BitVec.toNat_ofNat, Nat.mod_eq_of_lt ha, Nat.mod_eq_of_lt hb, Nat.mod_eq_of_lt (Nat.or_lt_two_pow ha hb)]
theorem wb_mask {n k : Nat} (hn : n < 2 ^ 64) (hk : k < 64) : lN n &&& lN (2 ^ k - 1) = lN (n % 2 ^ k) := by
  rw [wb_and hn (by have := wb_lt2 hk; omega), Nat.and_two_pow_sub_one_eq_mod]
theorem wb_a1 {n : Nat} (hn : n < 2 ^ 64) : lN n &&& 1 = lN (n % 2) := wb_mask (k := 1) hn (by decide)
theorem wb_bit {n k : Nat} (hn : n < 2 ^ 64) (hk : k < 64) : ((lN n).toUInt64 >>> ((nI k).toInt64.toUInt64 &&& Int64.toUInt64 63)).toInt64 &&& 1 = lN (n / 2 ^ k % 2) := by
  rw [wb_shr hn hk, wb_a1 (Nat.lt_of_le_of_lt (Nat.div_le_self _ _) hn)]
theorem wb_xor {q k : Nat} (hk : k < 63) (h : 2 ^ k ≤ q) (h2 : q < 2 ^ (k + 1)) : lN q ^^^ lN (2 ^ k) = lN (q - 2 ^ k) := by
  obtain ⟨r, rfl⟩ : ∃ r, q = 2 ^ k + r := ⟨q - 2 ^ k, by omega⟩
  have hr : r < 2 ^ k := by rw [Nat.pow_succ] at h2; omega
  have hx : (2 ^ k + r) ^^^ 2 ^ k = r := by
    apply Nat.eq_of_testBit_eq
    intro i
    rw [Nat.testBit_xor, Nat.testBit_two_pow]
    rcases Nat.lt_trichotomy i k with h | h | h
    · rw [Nat.testBit_two_pow_add_gt h]
      simp [show ¬ k = i by omega]
    · subst h
      rw [Nat.testBit_two_pow_add_eq]
      simp
    · have a1 : 2 ^ (k + 1) ≤ 2 ^ i := Nat.pow_le_pow_right (by decide) h
      rw [Nat.testBit_lt_two_pow (show 2 ^ k + r < 2 ^ i by omega), Nat.testBit_lt_two_pow (show r < 2 ^ i by omega)]
      simp [show ¬ k = i by omega]
  have b1 := wb_lt2 (show k + 1 < 64 by omega)
  have b2 := wb_lt2 (show k < 64 by omega)
  apply wb_inj
  rw [Int64.toBitVec_xor, wb_tb, wb_tb, wb_tb]
  apply BitVec.eq_of_toNat_eq
  rw [BitVec.toNat_xor, BitVec.toNat_ofNat, BitVec.toNat_ofNat, BitVec.toNat_ofNat, Nat.mod_eq_of_lt (by omega : 2 ^ k + r < 2 ^ 64), Nat.mod_eq_of_lt b2, hx, Nat.add_sub_cancel_left, Nat.mod_eq_of_lt (by omega)]
/-! ===== lN: masks, 'or' of parts that don't overlap is a sum ===== -/
theorem u_tn {n : Nat} (h : n < 2 ^ 64) : (UInt64.ofNat n).toNat = n := Nat.mod_eq_of_lt h
theorem g_and {a b c : Nat} (ha : a < 2 ^ 64) (hb : b < 2 ^ 64) (hc : a &&& b = c) : lN a &&& lN b = lN c := by
  subst hc
  have h : UInt64.ofNat a &&& UInt64.ofNat b = UInt64.ofNat (a &&& b) := UInt64.toNat_inj.mp (by rw [UInt64.toNat_and, u_tn ha, u_tn hb, u_tn (Nat.and_lt_two_pow a hb)])
  have h2 := congrArg UInt64.toInt64 h
  exact h2
theorem g_and1 {a : Nat} (ha : a < 2 ^ 64) : lN a &&& 1 = lN (a % 2) := g_and (b := 1) ha (by decide) (Nat.and_two_pow_sub_one_eq_mod a 1)
theorem g_mask {a s p : Nat} (hp : 2 ^ s = p) (hs : s < 64) (ha : a < 2 ^ 64) : lN a &&& lN (p - 1) = lN (a % p) := by
  subst hp
  have := Nat.pow_lt_pow_right (show 1 < 2 by decide) hs
  exact g_and ha (by omega) (Nat.and_two_pow_sub_one_eq_mod a s)
theorem g_or {k p a b : Nat} (hp : 2 ^ k = p) (ha : a < p) (h : b * p + a < 2 ^ 64) : lN (b * p) ||| lN a = lN (b * p + a) := by
  subst hp
  have h1 : b * 2 ^ k ||| a = b * 2 ^ k + a := by rw [← Nat.shiftLeft_eq, Nat.shiftLeft_add_eq_or_of_lt ha]
  have h3 : UInt64.ofNat (b * 2 ^ k) ||| UInt64.ofNat a = UInt64.ofNat (b * 2 ^ k + a) := UInt64.toNat_inj.mp (by rw [UInt64.toNat_or, u_tn (by omega), u_tn (by omega), u_tn h, h1])
  have h2 := congrArg UInt64.toInt64 h3
  exact h2
theorem g_or' {k p a b : Nat} (hp : 2 ^ k = p) (ha : a < p) (h : a + b * p < 2 ^ 64) : lN a ||| lN (b * p) = lN (a + b * p) := by
  rw [Int64.or_comm, g_or hp ha (by omega), Nat.add_comm]
theorem g_ushr {a k p : Nat} {y : UInt64} (hy : y = UInt64.ofNat k) (hk : k < 64) (hp : 2 ^ k = p) (ha : a < 2 ^ 64) : ((lN a).toUInt64 >>> y).toInt64 = lN (a / p) := by
  subst hy hp
  have h : UInt64.ofNat a >>> UInt64.ofNat k = UInt64.ofNat (a / 2 ^ k) := UInt64.toNat_inj.mp (by rw [UInt64.toNat_shiftRight, u_tn ha, u_tn (by omega), u_tn (Nat.lt_of_le_of_lt (Nat.div_le_self _ _) ha), Nat.mod_eq_of_lt hk, Nat.shiftRight_eq_div_pow])
  have h2 := congrArg UInt64.toInt64 h
  exact h2
theorem g_shl {a k p : Nat} {y : Int64} (hy : y.toBitVec.smod 64 = BitVec.ofNat 64 k) (hk : k < 64) (hp : 2 ^ k = p) (ha : a < 2 ^ 64) : lN a <<< y = lN (a * p) := by
  subst hp
  apply Int64.toBitVec_inj.mp
  rw [Int64.toBitVec_shiftLeft, hy]
  apply BitVec.eq_of_toNat_eq
  have hb : (lN a).toBitVec.toNat = a := Nat.mod_eq_of_lt ha
  have hk' : (BitVec.ofNat 64 k).toNat = k := Nat.mod_eq_of_lt (by omega)
  have h : ((lN a).toBitVec <<< BitVec.ofNat 64 k).toNat = (a * 2 ^ k) % 2 ^ 64 := by simp only [BitVec.shiftLeft_eq', BitVec.toNat_shiftLeft, hb, hk', Nat.shiftLeft_eq]
  exact h
/-! ===== lN to 2^62 under >> and >>> ===== -/
theorem pf_lI {a : Nat} (h : a < 2 ^ 63) : (lN a).toInt = (a : Int) := lg_ofNat_toInt h
theorem pf_shr {a d : Nat} {D : Int64} (hD : (D.toBitVec.smod 64).toNat = d) (h : a < 2 ^ 62) : lN a >>> D = lN (a / 2 ^ d) := by
  have hd : a / 2 ^ d ≤ a := Nat.div_le_self _ _
  apply Int64.toInt_inj.mp
  have e : (lN a >>> D).toInt = (lN a).toInt >>> d := by
    rw [← hD]
    exact BitVec.toInt_sshiftRight ..
  rw [e, Int.shiftRight_eq_div_pow, pf_lI (by omega), pf_lI (by omega)]
  rfl
theorem pf_ushr {a d : Nat} {D : UInt64} (hD : D.toNat % 64 = d) (h : a < 2 ^ 62) : ((lN a).toUInt64 >>> D).toInt64 = lN (a / 2 ^ d) := by
  have hd : a / 2 ^ d ≤ a := Nat.div_le_self _ _
  have e : (lN a).toUInt64 >>> D = UInt64.ofNat (a / 2 ^ d) := UInt64.toNat_inj.mp (by
    rw [UInt64.toNat_shiftRight, hD, Nat.shiftRight_eq_div_pow, UInt64.toNat_ofNat']
    show (UInt64.ofNat a).toNat / 2 ^ d = _
    rw [UInt64.toNat_ofNat', Nat.mod_eq_of_lt (by omega), Nat.mod_eq_of_lt (by omega)])
  rw [e]
  rfl
theorem pf_andw (x : Int64) : ∃ m, m < 2 ^ 32 ∧ x &&& 4294967295 = lN m := ⟨x.toBitVec.toNat % 2 ^ 32, Nat.mod_lt _ (by decide), Int64.toBitVec_inj.mp (BitVec.eq_of_toNat_eq (by
  show (x.toBitVec &&& 4294967295#64).toNat = (BitVec.ofNat 64 (x.toBitVec.toNat % 2 ^ 32)).toNat
  rw [BitVec.toNat_and, show (4294967295#64).toNat = 2 ^ 32 - 1 from by decide, Nat.and_two_pow_sub_one_eq_mod, BitVec.toNat_ofNat]
  omega))⟩
/-! ===== Int64 as an unsigned number: uN x ===== -/
def uN (x : Int64) : Nat := x.toUInt64.toNat
theorem uN_lt (x : Int64) : uN x < 18446744073709551616 := x.toUInt64.toNat_lt
theorem uN_inj {x y : Int64} (h : uN x = uN y) : x = y := congrArg UInt64.toInt64 (UInt64.toNat_inj.mp h)
theorem uN_add (x y : Int64) : uN (x + y) = (uN x + uN y) % 18446744073709551616 := by
  show (x.toUInt64 + y.toUInt64).toNat = _
  exact UInt64.toNat_add _ _
theorem uN_mul (x y : Int64) : uN (x * y) = (uN x * uN y) % 18446744073709551616 := by
  show (x.toUInt64 * y.toUInt64).toNat = _
  exact UInt64.toNat_mul _ _
theorem uN_shl (x : Int64) : uN (x <<< ((1 : Int32).toInt64 &&& 63)) = (2 * uN x) % 18446744073709551616 := by
  have h : (((1 : Int32).toInt64 &&& 63).toBitVec.smod 64).toNat = 1 := by decide
  show (x.toBitVec <<< (((1 : Int32).toInt64 &&& 63).toBitVec.smod 64).toNat).toNat = _
  rw [h, BitVec.toNat_shiftLeft, Nat.shiftLeft_eq, Nat.mul_comm]
  rfl
theorem uN_shr (x : Int64) (s : UInt64) : uN (x.toUInt64 >>> s).toInt64 = uN x / 2 ^ (s.toNat % 64) := by
  show (x.toUInt64 >>> s).toNat = _
  rw [UInt64.toNat_shiftRight, Nat.shiftRight_eq_div_pow]
  rfl
theorem uN_s32 (x : Int64) : uN (x.toUInt64 >>> ((32 : Int32).toInt64.toUInt64 &&& Int64.toUInt64 63)).toInt64 = uN x / 4294967296 := by
  have h : ((32 : Int32).toInt64.toUInt64 &&& Int64.toUInt64 63).toNat % 64 = 32 := by decide
  rw [uN_shr, h]
theorem uN_s63 (x : Int64) : uN (x.toUInt64 >>> ((63 : Int32).toInt64.toUInt64 &&& Int64.toUInt64 63)).toInt64 = uN x / 9223372036854775808 := by
  have h : ((63 : Int32).toInt64.toUInt64 &&& Int64.toUInt64 63).toNat % 64 = 63 := by decide
  rw [uN_shr, h]
theorem uN_lo (x : Int64) : uN (x &&& 4294967295) = uN x % 4294967296 := by
  show (x.toUInt64 &&& Int64.toUInt64 4294967295).toNat = _
  rw [UInt64.toNat_and]
  exact Nat.and_two_pow_sub_one_eq_mod _ 32
theorem uN_bit (x : Int64) : (x &&& 1) = 0 ↔ uN x % 2 = 0 := by
  have h : uN (x &&& 1) = uN x % 2 := by
    show (x.toUInt64 &&& Int64.toUInt64 1).toNat = _
    rw [UInt64.toNat_and]
    exact Nat.and_two_pow_sub_one_eq_mod _ 1
  rw [← h]
  exact ⟨fun z => by rw [z]; rfl, fun z => uN_inj (z.trans rfl)⟩
theorem uN_or {x y : Int64} (hy : uN y < 2) : uN ((x <<< ((1 : Int32).toInt64 &&& 63)) ||| y) = (2 * uN x) % 18446744073709551616 + uN y := by
  have h1 : uN ((x <<< ((1 : Int32).toInt64 &&& 63)) ||| y) = uN (x <<< ((1 : Int32).toInt64 &&& 63)) ||| uN y := UInt64.toNat_or _ _
  have h2 : (2 * uN x) % 18446744073709551616 = 2 ^ 1 * (uN x % 9223372036854775808) := by omega
  rw [h1, uN_shl, h2]
  exact (Nat.two_pow_add_eq_or_of_lt (i := 1) hy _).symm
theorem nat_xor {a : Nat} (h : a < 18446744073709551616) : a ^^^ 2 ^ 63 = (a + 9223372036854775808) % 18446744073709551616 := by
  have h1 : (a ^^^ 2 ^ 63) % 2 ^ 63 = a % 2 ^ 63 := by rw [Nat.xor_mod_two_pow, Nat.mod_self, Nat.xor_zero]
  have h2 : (a ^^^ 2 ^ 63) / 2 ^ 63 = (a / 2 ^ 63) ^^^ 1 := by rw [Nat.xor_div_two_pow, Nat.div_self (Nat.two_pow_pos 63)]
  have h3 : a / 2 ^ 63 = 0 ∨ a / 2 ^ 63 = 1 := by omega
  generalize a ^^^ 2 ^ 63 = t at h1 h2
  rcases h3 with h3 | h3
  · rw [h3] at h2
    have h2 : t / 2 ^ 63 = 1 := h2
    omega
  · rw [h3] at h2
    have h2 : t / 2 ^ 63 = 0 := h2
    omega
theorem uN_xor (x : Int64) : uN (x ^^^ (-9223372036854775808)) = (uN x + 9223372036854775808) % 18446744073709551616 := by
  rw [← nat_xor (uN_lt x)]
  exact UInt64.toNat_xor _ _
theorem uN_int (x : Int64) : x.toInt = if 2 * uN x < 18446744073709551616 then (uN x : Int) else (uN x : Int) - 18446744073709551616 := BitVec.toInt_eq_toNat_cond _
theorem uN_le (x y : Int64) : (x ^^^ (-9223372036854775808)) ≤ (y ^^^ (-9223372036854775808)) ↔ uN x ≤ uN y := by
  have hx := uN_lt x
  have hy := uN_lt y
  rw [Int64.le_iff_toInt_le, uN_int, uN_int, uN_xor, uN_xor]
  omega
theorem uN_sk (x : Int64) {k : Nat} (hk : k < 64) : uN (x.toUInt64 >>> ((nI k).toInt64.toUInt64 &&& Int64.toUInt64 63)).toInt64 = uN x / 2 ^ k := by
  have h : ((nI k).toInt64.toUInt64 &&& Int64.toUInt64 63).toNat % 64 = k := by
    rw [nI_l (by omega), UInt64.toNat_and]
    have e : (lN k).toUInt64.toNat = k % 2 ^ 64 := rfl
    have e2 : (Int64.toUInt64 63).toNat = 2 ^ 6 - 1 := by decide
    rw [e, e2, Nat.and_two_pow_sub_one_eq_mod]
    omega
  rw [uN_shr, h]
/-! ===== unsigned comparison by xor with the least ===== -/
theorem lN_bv (n : Nat) : (lN n).toBitVec = BitVec.ofNat 64 n := rfl
theorem lN_nat {n : Nat} (h : n < 2 ^ 64) : (lN n).toBitVec.toNat = n := by rw [lN_bv, BitVec.toNat_ofNat]; exact Nat.mod_eq_of_lt h
theorem lN_xor (a b : Nat) : lN a ^^^ lN b = lN (a ^^^ b) := by
  apply Int64.toBitVec_inj.mp; rw [Int64.toBitVec_xor, lN_bv, lN_bv, lN_bv]; apply BitVec.eq_of_getLsbD_eq; intro i hi; simp [BitVec.getLsbD_ofNat, Nat.testBit_xor, hi]
theorem lN_ti {m : Nat} (h : m < 2 ^ 64) : (lN m).toInt = if m < 2 ^ 63 then (m : Int) else (m : Int) - 2 ^ 64 := by
  have c := BitVec.toInt_eq_toNat_cond (lN m).toBitVec
  rw [lN_nat h] at c
  show (lN m).toBitVec.toInt = _
  rw [c]
  split <;> split <;> omega
theorem xor63 {x : Nat} (h : x < 2 ^ 63) : x ^^^ 2 ^ 63 = 2 ^ 63 + x := by
  apply Nat.eq_of_testBit_eq
  intro i
  rw [Nat.testBit_xor, Nat.testBit_two_pow]
  rcases Nat.lt_trichotomy i 63 with z | z | z
  · rw [Nat.testBit_two_pow_add_gt z, decide_eq_false (by omega)]; simp
  · subst z; rw [Nat.testBit_two_pow_add_eq]; simp
  · have hp : 2 ^ 64 ≤ 2 ^ i := Nat.pow_le_pow_right (by decide) z
    rw [Nat.testBit_lt_two_pow (show x < 2 ^ i by omega), Nat.testBit_lt_two_pow (show 2 ^ 63 + x < 2 ^ i by omega), decide_eq_false (by omega)]; rfl
theorem xorS {a : Nat} (h : a < 2 ^ 64) : (lN a ^^^ (-9223372036854775808)).toInt = (a : Int) - 2 ^ 63 := by
  rw [show (-9223372036854775808 : Int64) = lN (2 ^ 63) from by decide +kernel, lN_xor]
  rcases Nat.lt_or_ge a (2 ^ 63) with z | z
  · rw [xor63 z, lN_ti (by omega), if_neg (by omega)]; omega
  · obtain ⟨x, rfl⟩ : ∃ x, a = 2 ^ 63 + x := ⟨a - 2 ^ 63, by omega⟩
    rw [← xor63 (by omega), Nat.xor_assoc, Nat.xor_self, Nat.xor_zero, lN_ti (by omega), if_pos (by omega), xor63 (by omega)]; omega
theorem ultL {a b : Nat} (ha : a < 2 ^ 64) (hb : b < 2 ^ 64) : ((lN b ^^^ (-9223372036854775808)) ≤ (lN a ^^^ (-9223372036854775808))) ↔ b ≤ a := by
  rw [Int64.le_iff_toInt_le, xorS ha, xorS hb]; omega
/-! ===== Int64 masks of n low bits ===== -/
theorem cr_bits (W U M : BitVec 64) : ((W &&& U) &&& (U &&& (M ^^^ BitVec.allOnes 64))) = 0#64 ↔ (W &&& U) &&& M = W &&& U := by
  constructor
  · intro h
    apply BitVec.eq_of_getLsbD_eq
    intro i hi
    have e := congrArg (fun x => BitVec.getLsbD x i) h
    simp only [BitVec.getLsbD_and, BitVec.getLsbD_xor, BitVec.getLsbD_allOnes, BitVec.getLsbD_zero, hi, decide_true] at e ⊢
    revert e
    cases W.getLsbD i <;> cases U.getLsbD i <;> cases M.getLsbD i <;> decide
  · intro h
    apply BitVec.eq_of_getLsbD_eq
    intro i hi
    have e := congrArg (fun x => BitVec.getLsbD x i) h
    simp only [BitVec.getLsbD_and, BitVec.getLsbD_xor, BitVec.getLsbD_allOnes, BitVec.getLsbD_zero, hi, decide_true] at e ⊢
    revert e
    cases W.getLsbD i <;> cases U.getLsbD i <;> cases M.getLsbD i <;> decide
theorem cr_mask (w U m : Int64) (n : Nat) (hm : m.toBitVec.toNat = 2 ^ n - 1) : ((w &&& U) &&& (U &&& (m ^^^ (-1)))) = 0 ↔ (w &&& U).toBitVec.toNat < 2 ^ n := by
  have e0 : (-1 : Int64).toBitVec = BitVec.allOnes 64 := by decide
  have z0 : (0 : Int64).toBitVec = 0#64 := by decide
  rw [← Int64.toBitVec_inj, z0, Int64.toBitVec_and, Int64.toBitVec_and, Int64.toBitVec_and, Int64.toBitVec_xor, e0, cr_bits]
  generalize w.toBitVec &&& U.toBitVec = T
  rw [← BitVec.toNat_inj, BitVec.toNat_and, hm, Nat.and_two_pow_sub_one_eq_mod]
  constructor
  · intro h
    have t := Nat.mod_lt T.toNat (Nat.two_pow_pos n)
    rw [h] at t
    exact t
  · exact Nat.mod_eq_of_lt
theorem cr_shr (t : Int64) (x : UInt64) (n : Nat) (hx : x.toNat % 64 = n) : (t.toUInt64 >>> x).toInt64 = 0 ↔ t.toBitVec.toNat < 2 ^ n := by
  rw [← Int64.toBitVec_inj, ← BitVec.toNat_inj]
  show (t.toUInt64 >>> x).toNat = 0 ↔ t.toUInt64.toNat < 2 ^ n
  rw [UInt64.toNat_shiftRight, hx, Nat.shiftRight_eq_div_pow]
  constructor
  · intro h
    have d : t.toUInt64.toNat / 2 ^ n < 1 := by
      rw [h]
      decide
    have e := (Nat.div_lt_iff_lt_mul (Nat.two_pow_pos n)).mp d
    rw [Nat.one_mul] at e
    exact e
  · exact Nat.div_eq_of_lt
theorem cr_amt (s : Int64) : ∃ n, n < 64 ∧ s &&& 63 = lN n ∧ (s.toUInt64 &&& Int64.toUInt64 63).toNat % 64 = n := by
  have e : (s.toUInt64 &&& Int64.toUInt64 63).toNat = s.toUInt64.toNat % 2 ^ 6 := by
    rw [UInt64.toNat_and, show (Int64.toUInt64 63).toNat = 2 ^ 6 - 1 from by decide, Nat.and_two_pow_sub_one_eq_mod]
  refine ⟨s.toUInt64.toNat % 2 ^ 6, by omega, ?_, by omega⟩
  rw [← Int64.toBitVec_inj, ← BitVec.toNat_inj]
  show (s.toUInt64 &&& Int64.toUInt64 63).toNat = (BitVec.ofNat 64 (s.toUInt64.toNat % 2 ^ 6)).toNat
  rw [e, BitVec.toNat_ofNat]
  omega
end
section
/-! the two states by few names: P the sizes, program and inputs, G breaks and watches -/
abbrev zp_P : Type := Nat × Nat × Nat × Nat × Nat × Nat × (Nat → Int32) × (Nat → Int32) × (Nat → Int32)
def zp_ms (P : zp_P) : Nat := P.1
def zp_ss (P : zp_P) : Nat := P.2.1
def zp_fs (P : zp_P) : Nat := P.2.2.1
def zp_hz (P : zp_P) : Nat := P.2.2.2.1
def zp_pl (P : zp_P) : Nat := P.2.2.2.2.1
def zp_ic (P : zp_P) : Nat := P.2.2.2.2.2.1
def zp_op (P : zp_P) : Nat → Int32 := P.2.2.2.2.2.2.1
def zp_od (P : zp_P) : Nat → Int32 := P.2.2.2.2.2.2.2.1
def zp_in (P : zp_P) : Nat → Int32 := P.2.2.2.2.2.2.2.2
abbrev zg_G : Type := Nat × (Nat → Int32) × (Nat → Int32) × (Nat → Int32) × (Nat → Int32)
def zg_bo (G : zg_G) : Nat := G.1
def zg_br (G : zg_G) : Nat → Int32 := G.2.1
def zg_wa (G : zg_G) : Nat → Int32 := G.2.2.1
def zg_wc (G : zg_G) : Nat → Int32 := G.2.2.2.1
def zg_wv (G : zg_G) : Nat → Int32 := G.2.2.2.2
abbrev zx_S (P : zp_P) (G : zg_G) (tm en sg : Nat) (di : Int32) (cc fc : Nat) (lv ct cp po fp : Nat → Int32) : SX :=
  (0, 1, 2, 3, 4, 5, 6, 7, 8, 24, 32, 96, 16, 8, 32, 192, 8, nI (zp_ms P), nI (zp_ss P), nI (zp_fs P), nI (zp_hz P), nI (zp_pl P), nI (zp_ic P), nI (zg_bo G), nI tm, nI en, nI sg, di, nI cc, nI fc, zp_op P, zp_od P, zp_in P, zg_br G, zg_wa G, zg_wc G, zg_wv G, lv, ct, cp, po, fp)
abbrev zy_S (P : zp_P) (G : zg_G) (tm en : Nat) (h : Nat → Int32) : SY :=
  (nI (zp_ms P), nI (zp_ss P), nI (zp_fs P), nI (zp_hz P), nI (zp_pl P), nI (zp_ic P), nI tm, nI en, h, zp_op P, zp_od P, zp_in P, zg_br G, zg_wa G, zg_wc G, zg_wv G, 136136)
/-- the sizes are as the constructor makes them, every opcode is one -/
def zp_ok (P : zp_P) : Prop := 8 ≤ zp_ms P ∧ zp_ms P ≤ 64 ∧ 4 ≤ zp_ss P ∧ zp_ss P ≤ 16 ∧ 2 ≤ zp_fs P ∧ zp_fs P ≤ 8 ∧ 16 ≤ zp_hz P ∧ zp_hz P ≤ 1000 ∧ zp_pl P ≤ 64 ∧ zp_ic P ≤ 32 ∧ ∀ i, i < zp_pl P → ∃ k, k ≤ 18 ∧ zp_op P i = nI k
/-! the printed loops and joins over a whole state -/
abbrev zxw_init_253 (post : SX → Prop) (n : Nat) (x5 : Int32) (u : SX) : Prop := match u with
  | (f_wStatus, f_wPc, f_wDepth, f_wFrames, f_wInputsUsed, f_wOutputCount, f_wWrite, f_wOld, f_wStack, f_wFrame, f_wMemory, f_wOutput, f_pageCount, f_pageSize, f_slotCount, f_poolPages, f_spacing, f_memorySize, f_stackSize, f_frameSize, f_horizon, f_programLength, f_inputCount, f_breaksOn, f_time, f_end, f_segment, f_dirty, f_cpCount, f_freeCount, a_opcodes, a_operands, a_inputs, a_breaks, a_watchAddress, a_watchCondition, a_watchValue, a_live, a_cpTime, a_cpPage, a_pool, a_freePages) => wX_init_253 post f_wStatus f_wPc f_wDepth f_wFrames f_wInputsUsed f_wOutputCount f_wWrite f_wOld f_wStack f_wFrame f_wMemory f_wOutput f_pageCount f_pageSize f_slotCount f_poolPages f_spacing f_memorySize f_stackSize f_frameSize f_horizon f_programLength f_inputCount f_breaksOn f_time f_end f_segment f_dirty f_cpCount f_freeCount n x5 a_opcodes a_operands a_inputs a_breaks a_watchAddress a_watchCondition a_watchValue a_live a_cpTime a_cpPage a_pool a_freePages
abbrev zxw_dropFuture_25 (post : SX → Prop) (J15 : Int32 → Int32 → Int32 → Int32 → Int32 → Int32 → Int32 → Int32 → Int32 → Int32 → Int32 → Int32 → Int32 → Int32 → Int32 → Int32 → Int32 → Int32 → Int32 → Int32 → Int32 → Int32 → Int32 → Int32 → Int32 → Int32 → Int32 → Int32 → Int32 → Int32 → Int32 → (Nat → Int32) → (Nat → Int32) → (Nat → Int32) → (Nat → Int32) → (Nat → Int32) → (Nat → Int32) → (Nat → Int32) → (Nat → Int32) → (Nat → Int32) → (Nat → Int32) → (Nat → Int32) → (Nat → Int32) → Prop) (x1 : Int32) (n : Nat) (x2 : Int32) (u : SX) : Prop := match u with
  | (f_wStatus, f_wPc, f_wDepth, f_wFrames, f_wInputsUsed, f_wOutputCount, f_wWrite, f_wOld, f_wStack, f_wFrame, f_wMemory, f_wOutput, f_pageCount, f_pageSize, f_slotCount, f_poolPages, f_spacing, f_memorySize, f_stackSize, f_frameSize, f_horizon, f_programLength, f_inputCount, f_breaksOn, f_time, f_end, f_segment, f_dirty, f_cpCount, f_freeCount, a_opcodes, a_operands, a_inputs, a_breaks, a_watchAddress, a_watchCondition, a_watchValue, a_live, a_cpTime, a_cpPage, a_pool, a_freePages) => wX_dropFuture_25 post J15 x1 n x2 f_wStatus f_wPc f_wDepth f_wFrames f_wInputsUsed f_wOutputCount f_wWrite f_wOld f_wStack f_wFrame f_wMemory f_wOutput f_pageCount f_pageSize f_slotCount f_poolPages f_spacing f_memorySize f_stackSize f_frameSize f_horizon f_programLength f_inputCount f_breaksOn f_time f_end f_segment f_dirty f_cpCount f_freeCount a_opcodes a_operands a_inputs a_breaks a_watchAddress a_watchCondition a_watchValue a_live a_cpTime a_cpPage a_pool a_freePages
abbrev zxw_dropFuture_15 (post : SX → Prop) (n : Nat) (x1 : Int32) (u : SX) : Prop := match u with
  | (f_wStatus, f_wPc, f_wDepth, f_wFrames, f_wInputsUsed, f_wOutputCount, f_wWrite, f_wOld, f_wStack, f_wFrame, f_wMemory, f_wOutput, f_pageCount, f_pageSize, f_slotCount, f_poolPages, f_spacing, f_memorySize, f_stackSize, f_frameSize, f_horizon, f_programLength, f_inputCount, f_breaksOn, f_time, f_end, f_segment, f_dirty, f_cpCount, f_freeCount, a_opcodes, a_operands, a_inputs, a_breaks, a_watchAddress, a_watchCondition, a_watchValue, a_live, a_cpTime, a_cpPage, a_pool, a_freePages) => wX_dropFuture_15 post n x1 f_wStatus f_wPc f_wDepth f_wFrames f_wInputsUsed f_wOutputCount f_wWrite f_wOld f_wStack f_wFrame f_wMemory f_wOutput f_pageCount f_pageSize f_slotCount f_poolPages f_spacing f_memorySize f_stackSize f_frameSize f_horizon f_programLength f_inputCount f_breaksOn f_time f_end f_segment f_dirty f_cpCount f_freeCount a_opcodes a_operands a_inputs a_breaks a_watchAddress a_watchCondition a_watchValue a_live a_cpTime a_cpPage a_pool a_freePages
abbrev zxw_faultOf_141 (post : Int32 → Prop) (x1 : Int32) (u : SX) : Prop := match u with
  | (f_wStatus, f_wPc, f_wDepth, f_wFrames, f_wInputsUsed, f_wOutputCount, f_wWrite, f_wOld, f_wStack, f_wFrame, f_wMemory, f_wOutput, f_pageCount, f_pageSize, f_slotCount, f_poolPages, f_spacing, f_memorySize, f_stackSize, f_frameSize, f_horizon, f_programLength, f_inputCount, f_breaksOn, f_time, f_end, f_segment, f_dirty, f_cpCount, f_freeCount, a_opcodes, a_operands, a_inputs, a_breaks, a_watchAddress, a_watchCondition, a_watchValue, a_live, a_cpTime, a_cpPage, a_pool, a_freePages) => wX_faultOf_141 post x1 f_wStatus f_wPc f_wDepth f_wFrames f_wInputsUsed f_wOutputCount f_wWrite f_wOld f_wStack f_wFrame f_wMemory f_wOutput f_pageCount f_pageSize f_slotCount f_poolPages f_spacing f_memorySize f_stackSize f_frameSize f_horizon f_programLength f_inputCount f_breaksOn f_time f_end f_segment f_dirty f_cpCount f_freeCount a_opcodes a_operands a_inputs a_breaks a_watchAddress a_watchCondition a_watchValue a_live a_cpTime a_cpPage a_pool a_freePages
abbrev zxw_faultOf_123 (post : Int32 → Prop) (x1 : Int32) (u : SX) : Prop := match u with
  | (f_wStatus, f_wPc, f_wDepth, f_wFrames, f_wInputsUsed, f_wOutputCount, f_wWrite, f_wOld, f_wStack, f_wFrame, f_wMemory, f_wOutput, f_pageCount, f_pageSize, f_slotCount, f_poolPages, f_spacing, f_memorySize, f_stackSize, f_frameSize, f_horizon, f_programLength, f_inputCount, f_breaksOn, f_time, f_end, f_segment, f_dirty, f_cpCount, f_freeCount, a_opcodes, a_operands, a_inputs, a_breaks, a_watchAddress, a_watchCondition, a_watchValue, a_live, a_cpTime, a_cpPage, a_pool, a_freePages) => wX_faultOf_123 post x1 f_wStatus f_wPc f_wDepth f_wFrames f_wInputsUsed f_wOutputCount f_wWrite f_wOld f_wStack f_wFrame f_wMemory f_wOutput f_pageCount f_pageSize f_slotCount f_poolPages f_spacing f_memorySize f_stackSize f_frameSize f_horizon f_programLength f_inputCount f_breaksOn f_time f_end f_segment f_dirty f_cpCount f_freeCount a_opcodes a_operands a_inputs a_breaks a_watchAddress a_watchCondition a_watchValue a_live a_cpTime a_cpPage a_pool a_freePages
abbrev zxw_faultOf_101 (post : Int32 → Prop) (x1 : Int32) (u : SX) : Prop := match u with
  | (f_wStatus, f_wPc, f_wDepth, f_wFrames, f_wInputsUsed, f_wOutputCount, f_wWrite, f_wOld, f_wStack, f_wFrame, f_wMemory, f_wOutput, f_pageCount, f_pageSize, f_slotCount, f_poolPages, f_spacing, f_memorySize, f_stackSize, f_frameSize, f_horizon, f_programLength, f_inputCount, f_breaksOn, f_time, f_end, f_segment, f_dirty, f_cpCount, f_freeCount, a_opcodes, a_operands, a_inputs, a_breaks, a_watchAddress, a_watchCondition, a_watchValue, a_live, a_cpTime, a_cpPage, a_pool, a_freePages) => wX_faultOf_101 post x1 f_wStatus f_wPc f_wDepth f_wFrames f_wInputsUsed f_wOutputCount f_wWrite f_wOld f_wStack f_wFrame f_wMemory f_wOutput f_pageCount f_pageSize f_slotCount f_poolPages f_spacing f_memorySize f_stackSize f_frameSize f_horizon f_programLength f_inputCount f_breaksOn f_time f_end f_segment f_dirty f_cpCount f_freeCount a_opcodes a_operands a_inputs a_breaks a_watchAddress a_watchCondition a_watchValue a_live a_cpTime a_cpPage a_pool a_freePages
abbrev zxw_faultOf_85 (post : Int32 → Prop) (x1 : Int32) (x6 : Int32) (u : SX) : Prop := match u with
  | (f_wStatus, f_wPc, f_wDepth, f_wFrames, f_wInputsUsed, f_wOutputCount, f_wWrite, f_wOld, f_wStack, f_wFrame, f_wMemory, f_wOutput, f_pageCount, f_pageSize, f_slotCount, f_poolPages, f_spacing, f_memorySize, f_stackSize, f_frameSize, f_horizon, f_programLength, f_inputCount, f_breaksOn, f_time, f_end, f_segment, f_dirty, f_cpCount, f_freeCount, a_opcodes, a_operands, a_inputs, a_breaks, a_watchAddress, a_watchCondition, a_watchValue, a_live, a_cpTime, a_cpPage, a_pool, a_freePages) => wX_faultOf_85 post x1 x6 f_wStatus f_wPc f_wDepth f_wFrames f_wInputsUsed f_wOutputCount f_wWrite f_wOld f_wStack f_wFrame f_wMemory f_wOutput f_pageCount f_pageSize f_slotCount f_poolPages f_spacing f_memorySize f_stackSize f_frameSize f_horizon f_programLength f_inputCount f_breaksOn f_time f_end f_segment f_dirty f_cpCount f_freeCount a_opcodes a_operands a_inputs a_breaks a_watchAddress a_watchCondition a_watchValue a_live a_cpTime a_cpPage a_pool a_freePages
abbrev zxw_faultOf_72 (post : Int32 → Prop) (x1 : Int32) (x3 : Int32) (u : SX) : Prop := match u with
  | (f_wStatus, f_wPc, f_wDepth, f_wFrames, f_wInputsUsed, f_wOutputCount, f_wWrite, f_wOld, f_wStack, f_wFrame, f_wMemory, f_wOutput, f_pageCount, f_pageSize, f_slotCount, f_poolPages, f_spacing, f_memorySize, f_stackSize, f_frameSize, f_horizon, f_programLength, f_inputCount, f_breaksOn, f_time, f_end, f_segment, f_dirty, f_cpCount, f_freeCount, a_opcodes, a_operands, a_inputs, a_breaks, a_watchAddress, a_watchCondition, a_watchValue, a_live, a_cpTime, a_cpPage, a_pool, a_freePages) => wX_faultOf_72 post x1 x3 f_wStatus f_wPc f_wDepth f_wFrames f_wInputsUsed f_wOutputCount f_wWrite f_wOld f_wStack f_wFrame f_wMemory f_wOutput f_pageCount f_pageSize f_slotCount f_poolPages f_spacing f_memorySize f_stackSize f_frameSize f_horizon f_programLength f_inputCount f_breaksOn f_time f_end f_segment f_dirty f_cpCount f_freeCount a_opcodes a_operands a_inputs a_breaks a_watchAddress a_watchCondition a_watchValue a_live a_cpTime a_cpPage a_pool a_freePages
abbrev zxw_performBinary_94 (post : SX → Prop) (z0 : Int32) (u : SX) : Prop := match u with
  | (f_wStatus, f_wPc, f_wDepth, f_wFrames, f_wInputsUsed, f_wOutputCount, f_wWrite, f_wOld, f_wStack, f_wFrame, f_wMemory, f_wOutput, f_pageCount, f_pageSize, f_slotCount, f_poolPages, f_spacing, f_memorySize, f_stackSize, f_frameSize, f_horizon, f_programLength, f_inputCount, f_breaksOn, f_time, f_end, f_segment, f_dirty, f_cpCount, f_freeCount, a_opcodes, a_operands, a_inputs, a_breaks, a_watchAddress, a_watchCondition, a_watchValue, a_live, a_cpTime, a_cpPage, a_pool, a_freePages) => wX_performBinary_94 post z0 f_wStatus f_wPc f_wDepth f_wFrames f_wInputsUsed f_wOutputCount f_wWrite f_wOld f_wStack f_wFrame f_wMemory f_wOutput f_pageCount f_pageSize f_slotCount f_poolPages f_spacing f_memorySize f_stackSize f_frameSize f_horizon f_programLength f_inputCount f_breaksOn f_time f_end f_segment f_dirty f_cpCount f_freeCount a_opcodes a_operands a_inputs a_breaks a_watchAddress a_watchCondition a_watchValue a_live a_cpTime a_cpPage a_pool a_freePages
abbrev zxw_performMemory_31 (post : SX → Prop) (x3 : Int32) (u : SX) : Prop := match u with
  | (f_wStatus, f_wPc, f_wDepth, f_wFrames, f_wInputsUsed, f_wOutputCount, f_wWrite, f_wOld, f_wStack, f_wFrame, f_wMemory, f_wOutput, f_pageCount, f_pageSize, f_slotCount, f_poolPages, f_spacing, f_memorySize, f_stackSize, f_frameSize, f_horizon, f_programLength, f_inputCount, f_breaksOn, f_time, f_end, f_segment, f_dirty, f_cpCount, f_freeCount, a_opcodes, a_operands, a_inputs, a_breaks, a_watchAddress, a_watchCondition, a_watchValue, a_live, a_cpTime, a_cpPage, a_pool, a_freePages) => wX_performMemory_31 post x3 f_wStatus f_wPc f_wDepth f_wFrames f_wInputsUsed f_wOutputCount f_wWrite f_wOld f_wStack f_wFrame f_wMemory f_wOutput f_pageCount f_pageSize f_slotCount f_poolPages f_spacing f_memorySize f_stackSize f_frameSize f_horizon f_programLength f_inputCount f_breaksOn f_time f_end f_segment f_dirty f_cpCount f_freeCount a_opcodes a_operands a_inputs a_breaks a_watchAddress a_watchCondition a_watchValue a_live a_cpTime a_cpPage a_pool a_freePages
abbrev zxw_performMemory_19 (post : SX → Prop) (x1 : Int32) (x3 : Int32) (u : SX) : Prop := match u with
  | (f_wStatus, f_wPc, f_wDepth, f_wFrames, f_wInputsUsed, f_wOutputCount, f_wWrite, f_wOld, f_wStack, f_wFrame, f_wMemory, f_wOutput, f_pageCount, f_pageSize, f_slotCount, f_poolPages, f_spacing, f_memorySize, f_stackSize, f_frameSize, f_horizon, f_programLength, f_inputCount, f_breaksOn, f_time, f_end, f_segment, f_dirty, f_cpCount, f_freeCount, a_opcodes, a_operands, a_inputs, a_breaks, a_watchAddress, a_watchCondition, a_watchValue, a_live, a_cpTime, a_cpPage, a_pool, a_freePages) => wX_performMemory_19 post x1 x3 f_wStatus f_wPc f_wDepth f_wFrames f_wInputsUsed f_wOutputCount f_wWrite f_wOld f_wStack f_wFrame f_wMemory f_wOutput f_pageCount f_pageSize f_slotCount f_poolPages f_spacing f_memorySize f_stackSize f_frameSize f_horizon f_programLength f_inputCount f_breaksOn f_time f_end f_segment f_dirty f_cpCount f_freeCount a_opcodes a_operands a_inputs a_breaks a_watchAddress a_watchCondition a_watchValue a_live a_cpTime a_cpPage a_pool a_freePages
abbrev zxw_performMemory_14 (post : SX → Prop) (x1 : Int32) (u : SX) : Prop := match u with
  | (f_wStatus, f_wPc, f_wDepth, f_wFrames, f_wInputsUsed, f_wOutputCount, f_wWrite, f_wOld, f_wStack, f_wFrame, f_wMemory, f_wOutput, f_pageCount, f_pageSize, f_slotCount, f_poolPages, f_spacing, f_memorySize, f_stackSize, f_frameSize, f_horizon, f_programLength, f_inputCount, f_breaksOn, f_time, f_end, f_segment, f_dirty, f_cpCount, f_freeCount, a_opcodes, a_operands, a_inputs, a_breaks, a_watchAddress, a_watchCondition, a_watchValue, a_live, a_cpTime, a_cpPage, a_pool, a_freePages) => wX_performMemory_14 post x1 f_wStatus f_wPc f_wDepth f_wFrames f_wInputsUsed f_wOutputCount f_wWrite f_wOld f_wStack f_wFrame f_wMemory f_wOutput f_pageCount f_pageSize f_slotCount f_poolPages f_spacing f_memorySize f_stackSize f_frameSize f_horizon f_programLength f_inputCount f_breaksOn f_time f_end f_segment f_dirty f_cpCount f_freeCount a_opcodes a_operands a_inputs a_breaks a_watchAddress a_watchCondition a_watchValue a_live a_cpTime a_cpPage a_pool a_freePages
abbrev zxw_perform_158 (post : SX → Prop) (x1 : Int32) (x2 : Int32) (x3 : Int32) (u : SX) : Prop := match u with
  | (f_wStatus, f_wPc, f_wDepth, f_wFrames, f_wInputsUsed, f_wOutputCount, f_wWrite, f_wOld, f_wStack, f_wFrame, f_wMemory, f_wOutput, f_pageCount, f_pageSize, f_slotCount, f_poolPages, f_spacing, f_memorySize, f_stackSize, f_frameSize, f_horizon, f_programLength, f_inputCount, f_breaksOn, f_time, f_end, f_segment, f_dirty, f_cpCount, f_freeCount, a_opcodes, a_operands, a_inputs, a_breaks, a_watchAddress, a_watchCondition, a_watchValue, a_live, a_cpTime, a_cpPage, a_pool, a_freePages) => wX_perform_158 post x1 x2 x3 f_wStatus f_wPc f_wDepth f_wFrames f_wInputsUsed f_wOutputCount f_wWrite f_wOld f_wStack f_wFrame f_wMemory f_wOutput f_pageCount f_pageSize f_slotCount f_poolPages f_spacing f_memorySize f_stackSize f_frameSize f_horizon f_programLength f_inputCount f_breaksOn f_time f_end f_segment f_dirty f_cpCount f_freeCount a_opcodes a_operands a_inputs a_breaks a_watchAddress a_watchCondition a_watchValue a_live a_cpTime a_cpPage a_pool a_freePages
abbrev zxw_perform_133 (post : SX → Prop) (x1 : Int32) (u : SX) : Prop := match u with
  | (f_wStatus, f_wPc, f_wDepth, f_wFrames, f_wInputsUsed, f_wOutputCount, f_wWrite, f_wOld, f_wStack, f_wFrame, f_wMemory, f_wOutput, f_pageCount, f_pageSize, f_slotCount, f_poolPages, f_spacing, f_memorySize, f_stackSize, f_frameSize, f_horizon, f_programLength, f_inputCount, f_breaksOn, f_time, f_end, f_segment, f_dirty, f_cpCount, f_freeCount, a_opcodes, a_operands, a_inputs, a_breaks, a_watchAddress, a_watchCondition, a_watchValue, a_live, a_cpTime, a_cpPage, a_pool, a_freePages) => wX_perform_133 post x1 f_wStatus f_wPc f_wDepth f_wFrames f_wInputsUsed f_wOutputCount f_wWrite f_wOld f_wStack f_wFrame f_wMemory f_wOutput f_pageCount f_pageSize f_slotCount f_poolPages f_spacing f_memorySize f_stackSize f_frameSize f_horizon f_programLength f_inputCount f_breaksOn f_time f_end f_segment f_dirty f_cpCount f_freeCount a_opcodes a_operands a_inputs a_breaks a_watchAddress a_watchCondition a_watchValue a_live a_cpTime a_cpPage a_pool a_freePages
abbrev zxw_perform_141 (post : SX → Prop) (x1 : Int32) (x2 : Int32) (u : SX) : Prop := match u with
  | (f_wStatus, f_wPc, f_wDepth, f_wFrames, f_wInputsUsed, f_wOutputCount, f_wWrite, f_wOld, f_wStack, f_wFrame, f_wMemory, f_wOutput, f_pageCount, f_pageSize, f_slotCount, f_poolPages, f_spacing, f_memorySize, f_stackSize, f_frameSize, f_horizon, f_programLength, f_inputCount, f_breaksOn, f_time, f_end, f_segment, f_dirty, f_cpCount, f_freeCount, a_opcodes, a_operands, a_inputs, a_breaks, a_watchAddress, a_watchCondition, a_watchValue, a_live, a_cpTime, a_cpPage, a_pool, a_freePages) => wX_perform_141 post x1 x2 f_wStatus f_wPc f_wDepth f_wFrames f_wInputsUsed f_wOutputCount f_wWrite f_wOld f_wStack f_wFrame f_wMemory f_wOutput f_pageCount f_pageSize f_slotCount f_poolPages f_spacing f_memorySize f_stackSize f_frameSize f_horizon f_programLength f_inputCount f_breaksOn f_time f_end f_segment f_dirty f_cpCount f_freeCount a_opcodes a_operands a_inputs a_breaks a_watchAddress a_watchCondition a_watchValue a_live a_cpTime a_cpPage a_pool a_freePages
abbrev zxw_perform_150 (post : SX → Prop) (x1 : Int32) (u : SX) : Prop := match u with
  | (f_wStatus, f_wPc, f_wDepth, f_wFrames, f_wInputsUsed, f_wOutputCount, f_wWrite, f_wOld, f_wStack, f_wFrame, f_wMemory, f_wOutput, f_pageCount, f_pageSize, f_slotCount, f_poolPages, f_spacing, f_memorySize, f_stackSize, f_frameSize, f_horizon, f_programLength, f_inputCount, f_breaksOn, f_time, f_end, f_segment, f_dirty, f_cpCount, f_freeCount, a_opcodes, a_operands, a_inputs, a_breaks, a_watchAddress, a_watchCondition, a_watchValue, a_live, a_cpTime, a_cpPage, a_pool, a_freePages) => wX_perform_150 post x1 f_wStatus f_wPc f_wDepth f_wFrames f_wInputsUsed f_wOutputCount f_wWrite f_wOld f_wStack f_wFrame f_wMemory f_wOutput f_pageCount f_pageSize f_slotCount f_poolPages f_spacing f_memorySize f_stackSize f_frameSize f_horizon f_programLength f_inputCount f_breaksOn f_time f_end f_segment f_dirty f_cpCount f_freeCount a_opcodes a_operands a_inputs a_breaks a_watchAddress a_watchCondition a_watchValue a_live a_cpTime a_cpPage a_pool a_freePages
abbrev zxw_advance_96 (post : SX → Prop) (u : SX) : Prop := match u with
  | (f_wStatus, f_wPc, f_wDepth, f_wFrames, f_wInputsUsed, f_wOutputCount, f_wWrite, f_wOld, f_wStack, f_wFrame, f_wMemory, f_wOutput, f_pageCount, f_pageSize, f_slotCount, f_poolPages, f_spacing, f_memorySize, f_stackSize, f_frameSize, f_horizon, f_programLength, f_inputCount, f_breaksOn, f_time, f_end, f_segment, f_dirty, f_cpCount, f_freeCount, a_opcodes, a_operands, a_inputs, a_breaks, a_watchAddress, a_watchCondition, a_watchValue, a_live, a_cpTime, a_cpPage, a_pool, a_freePages) => wX_advance_96 post f_wStatus f_wPc f_wDepth f_wFrames f_wInputsUsed f_wOutputCount f_wWrite f_wOld f_wStack f_wFrame f_wMemory f_wOutput f_pageCount f_pageSize f_slotCount f_poolPages f_spacing f_memorySize f_stackSize f_frameSize f_horizon f_programLength f_inputCount f_breaksOn f_time f_end f_segment f_dirty f_cpCount f_freeCount a_opcodes a_operands a_inputs a_breaks a_watchAddress a_watchCondition a_watchValue a_live a_cpTime a_cpPage a_pool a_freePages
abbrev zxw_advance_43 (post : SX → Prop) (u : SX) : Prop := match u with
  | (f_wStatus, f_wPc, f_wDepth, f_wFrames, f_wInputsUsed, f_wOutputCount, f_wWrite, f_wOld, f_wStack, f_wFrame, f_wMemory, f_wOutput, f_pageCount, f_pageSize, f_slotCount, f_poolPages, f_spacing, f_memorySize, f_stackSize, f_frameSize, f_horizon, f_programLength, f_inputCount, f_breaksOn, f_time, f_end, f_segment, f_dirty, f_cpCount, f_freeCount, a_opcodes, a_operands, a_inputs, a_breaks, a_watchAddress, a_watchCondition, a_watchValue, a_live, a_cpTime, a_cpPage, a_pool, a_freePages) => wX_advance_43 post f_wStatus f_wPc f_wDepth f_wFrames f_wInputsUsed f_wOutputCount f_wWrite f_wOld f_wStack f_wFrame f_wMemory f_wOutput f_pageCount f_pageSize f_slotCount f_poolPages f_spacing f_memorySize f_stackSize f_frameSize f_horizon f_programLength f_inputCount f_breaksOn f_time f_end f_segment f_dirty f_cpCount f_freeCount a_opcodes a_operands a_inputs a_breaks a_watchAddress a_watchCondition a_watchValue a_live a_cpTime a_cpPage a_pool a_freePages
abbrev zxw_chooseVictim_6 (post : Int32 → Prop) (n : Nat) (x1 : Int32) (x2 : Int32) (x3 : Int32) (u : SX) : Prop := match u with
  | (f_wStatus, f_wPc, f_wDepth, f_wFrames, f_wInputsUsed, f_wOutputCount, f_wWrite, f_wOld, f_wStack, f_wFrame, f_wMemory, f_wOutput, f_pageCount, f_pageSize, f_slotCount, f_poolPages, f_spacing, f_memorySize, f_stackSize, f_frameSize, f_horizon, f_programLength, f_inputCount, f_breaksOn, f_time, f_end, f_segment, f_dirty, f_cpCount, f_freeCount, a_opcodes, a_operands, a_inputs, a_breaks, a_watchAddress, a_watchCondition, a_watchValue, a_live, a_cpTime, a_cpPage, a_pool, a_freePages) => wX_chooseVictim_6 post f_wStatus f_wPc f_wDepth f_wFrames f_wInputsUsed f_wOutputCount f_wWrite f_wOld f_wStack f_wFrame f_wMemory f_wOutput f_pageCount f_pageSize f_slotCount f_poolPages f_spacing f_memorySize f_stackSize f_frameSize f_horizon f_programLength f_inputCount f_breaksOn f_time f_end f_segment f_dirty f_cpCount f_freeCount a_opcodes a_operands a_inputs a_breaks a_watchAddress a_watchCondition a_watchValue a_live a_cpTime a_cpPage a_pool a_freePages n x1 x2 x3
abbrev zxw_merge_94 (post : SX → Prop) (J68 : Int32 → (Nat → Int32) → (Nat → Int32) → (Nat → Int32) → (Nat → Int32) → (Nat → Int32) → (Nat → Int32) → (Nat → Int32) → (Nat → Int32) → (Nat → Int32) → (Nat → Int32) → (Nat → Int32) → (Nat → Int32) → Prop) (x2 : Int32) (n : Nat) (x3 : Int32) (u : SX) : Prop := match u with
  | (f_wStatus, f_wPc, f_wDepth, f_wFrames, f_wInputsUsed, f_wOutputCount, f_wWrite, f_wOld, f_wStack, f_wFrame, f_wMemory, f_wOutput, f_pageCount, f_pageSize, f_slotCount, f_poolPages, f_spacing, f_memorySize, f_stackSize, f_frameSize, f_horizon, f_programLength, f_inputCount, f_breaksOn, f_time, f_end, f_segment, f_dirty, f_cpCount, f_freeCount, a_opcodes, a_operands, a_inputs, a_breaks, a_watchAddress, a_watchCondition, a_watchValue, a_live, a_cpTime, a_cpPage, a_pool, a_freePages) => wX_merge_94 post J68 x2 f_wStatus f_wPc f_wDepth f_wFrames f_wInputsUsed f_wOutputCount f_wWrite f_wOld f_wStack f_wFrame f_wMemory f_wOutput f_pageCount f_pageSize f_slotCount f_poolPages f_spacing f_memorySize f_stackSize f_frameSize f_horizon f_programLength f_inputCount f_breaksOn f_time f_end f_segment f_dirty f_cpCount f_freeCount n x3 a_opcodes a_operands a_inputs a_breaks a_watchAddress a_watchCondition a_watchValue a_live a_cpTime a_cpPage a_pool a_freePages
abbrev zxw_merge_68 (post : SX → Prop) (n : Nat) (x2 : Int32) (u : SX) : Prop := match u with
  | (f_wStatus, f_wPc, f_wDepth, f_wFrames, f_wInputsUsed, f_wOutputCount, f_wWrite, f_wOld, f_wStack, f_wFrame, f_wMemory, f_wOutput, f_pageCount, f_pageSize, f_slotCount, f_poolPages, f_spacing, f_memorySize, f_stackSize, f_frameSize, f_horizon, f_programLength, f_inputCount, f_breaksOn, f_time, f_end, f_segment, f_dirty, f_cpCount, f_freeCount, a_opcodes, a_operands, a_inputs, a_breaks, a_watchAddress, a_watchCondition, a_watchValue, a_live, a_cpTime, a_cpPage, a_pool, a_freePages) => wX_merge_68 post f_wStatus f_wPc f_wDepth f_wFrames f_wInputsUsed f_wOutputCount f_wWrite f_wOld f_wStack f_wFrame f_wMemory f_wOutput f_pageCount f_pageSize f_slotCount f_poolPages f_spacing f_memorySize f_stackSize f_frameSize f_horizon f_programLength f_inputCount f_breaksOn f_time f_end f_segment f_dirty f_cpCount f_freeCount n x2 a_opcodes a_operands a_inputs a_breaks a_watchAddress a_watchCondition a_watchValue a_live a_cpTime a_cpPage a_pool a_freePages
abbrev zxw_merge_2 (post : SX → Prop) (x1 : Int32) (n : Nat) (x2 : Int32) (u : SX) : Prop := match u with
  | (f_wStatus, f_wPc, f_wDepth, f_wFrames, f_wInputsUsed, f_wOutputCount, f_wWrite, f_wOld, f_wStack, f_wFrame, f_wMemory, f_wOutput, f_pageCount, f_pageSize, f_slotCount, f_poolPages, f_spacing, f_memorySize, f_stackSize, f_frameSize, f_horizon, f_programLength, f_inputCount, f_breaksOn, f_time, f_end, f_segment, f_dirty, f_cpCount, f_freeCount, a_opcodes, a_operands, a_inputs, a_breaks, a_watchAddress, a_watchCondition, a_watchValue, a_live, a_cpTime, a_cpPage, a_pool, a_freePages) => wX_merge_2 post x1 n x2 f_wStatus f_wPc f_wDepth f_wFrames f_wInputsUsed f_wOutputCount f_wWrite f_wOld f_wStack f_wFrame f_wMemory f_wOutput f_pageCount f_pageSize f_slotCount f_poolPages f_spacing f_memorySize f_stackSize f_frameSize f_horizon f_programLength f_inputCount f_breaksOn f_time f_end f_segment f_dirty f_cpCount f_freeCount a_opcodes a_operands a_inputs a_breaks a_watchAddress a_watchCondition a_watchValue a_live a_cpTime a_cpPage a_pool a_freePages
abbrev zxw_makeRoom_26 (post : SX → Prop) (J2 : Int32 → Int32 → Int32 → Int32 → Int32 → Int32 → Int32 → Int32 → Int32 → Int32 → Int32 → Int32 → Int32 → Int32 → Int32 → Int32 → Int32 → Int32 → Int32 → Int32 → Int32 → Int32 → Int32 → Int32 → Int32 → Int32 → Int32 → Int32 → Int32 → Int32 → Int32 → (Nat → Int32) → (Nat → Int32) → (Nat → Int32) → (Nat → Int32) → (Nat → Int32) → (Nat → Int32) → (Nat → Int32) → (Nat → Int32) → (Nat → Int32) → (Nat → Int32) → (Nat → Int32) → (Nat → Int32) → Prop) (x1 : Int32) (x2 : Int32) (u : SX) : Prop := match u with
  | (f_wStatus, f_wPc, f_wDepth, f_wFrames, f_wInputsUsed, f_wOutputCount, f_wWrite, f_wOld, f_wStack, f_wFrame, f_wMemory, f_wOutput, f_pageCount, f_pageSize, f_slotCount, f_poolPages, f_spacing, f_memorySize, f_stackSize, f_frameSize, f_horizon, f_programLength, f_inputCount, f_breaksOn, f_time, f_end, f_segment, f_dirty, f_cpCount, f_freeCount, a_opcodes, a_operands, a_inputs, a_breaks, a_watchAddress, a_watchCondition, a_watchValue, a_live, a_cpTime, a_cpPage, a_pool, a_freePages) => wX_makeRoom_26 post J2 x1 x2 f_wStatus f_wPc f_wDepth f_wFrames f_wInputsUsed f_wOutputCount f_wWrite f_wOld f_wStack f_wFrame f_wMemory f_wOutput f_pageCount f_pageSize f_slotCount f_poolPages f_spacing f_memorySize f_stackSize f_frameSize f_horizon f_programLength f_inputCount f_breaksOn f_time f_end f_segment f_dirty f_cpCount f_freeCount a_opcodes a_operands a_inputs a_breaks a_watchAddress a_watchCondition a_watchValue a_live a_cpTime a_cpPage a_pool a_freePages
abbrev zxw_makeRoom_2 (post : SX → Prop) (x1 : Int32) (n : Nat) (x2 : Int32) (u : SX) : Prop := match u with
  | (f_wStatus, f_wPc, f_wDepth, f_wFrames, f_wInputsUsed, f_wOutputCount, f_wWrite, f_wOld, f_wStack, f_wFrame, f_wMemory, f_wOutput, f_pageCount, f_pageSize, f_slotCount, f_poolPages, f_spacing, f_memorySize, f_stackSize, f_frameSize, f_horizon, f_programLength, f_inputCount, f_breaksOn, f_time, f_end, f_segment, f_dirty, f_cpCount, f_freeCount, a_opcodes, a_operands, a_inputs, a_breaks, a_watchAddress, a_watchCondition, a_watchValue, a_live, a_cpTime, a_cpPage, a_pool, a_freePages) => wX_makeRoom_2 post x1 n x2 f_wStatus f_wPc f_wDepth f_wFrames f_wInputsUsed f_wOutputCount f_wWrite f_wOld f_wStack f_wFrame f_wMemory f_wOutput f_pageCount f_pageSize f_slotCount f_poolPages f_spacing f_memorySize f_stackSize f_frameSize f_horizon f_programLength f_inputCount f_breaksOn f_time f_end f_segment f_dirty f_cpCount f_freeCount a_opcodes a_operands a_inputs a_breaks a_watchAddress a_watchCondition a_watchValue a_live a_cpTime a_cpPage a_pool a_freePages
abbrev zxw_storePage_22 (post : Int32 → SX → Prop) (x1 : Int32) (x2 : Int32) (n : Nat) (x3 : Int32) (u : SX) : Prop := match u with
  | (f_wStatus, f_wPc, f_wDepth, f_wFrames, f_wInputsUsed, f_wOutputCount, f_wWrite, f_wOld, f_wStack, f_wFrame, f_wMemory, f_wOutput, f_pageCount, f_pageSize, f_slotCount, f_poolPages, f_spacing, f_memorySize, f_stackSize, f_frameSize, f_horizon, f_programLength, f_inputCount, f_breaksOn, f_time, f_end, f_segment, f_dirty, f_cpCount, f_freeCount, a_opcodes, a_operands, a_inputs, a_breaks, a_watchAddress, a_watchCondition, a_watchValue, a_live, a_cpTime, a_cpPage, a_pool, a_freePages) => wX_storePage_22 post x1 x2 f_wStatus f_wPc f_wDepth f_wFrames f_wInputsUsed f_wOutputCount f_wWrite f_wOld f_wStack f_wFrame f_wMemory f_wOutput f_pageCount f_pageSize f_slotCount f_poolPages f_spacing f_memorySize f_stackSize f_frameSize f_horizon f_programLength f_inputCount f_breaksOn f_time f_end f_segment f_dirty f_cpCount f_freeCount n x3 a_opcodes a_operands a_inputs a_breaks a_watchAddress a_watchCondition a_watchValue a_live a_cpTime a_cpPage a_pool a_freePages
abbrev zxw_takeCheckpoint_104 (post : SX → Prop) (J77 : Int32 → Int32 → Int32 → Int32 → Int32 → Int32 → Int32 → Int32 → Int32 → Int32 → Int32 → Int32 → Int32 → Int32 → Int32 → Int32 → Int32 → Int32 → Int32 → Int32 → Int32 → Int32 → Int32 → Int32 → Int32 → Int32 → Int32 → Int32 → Int32 → Int32 → Int32 → (Nat → Int32) → (Nat → Int32) → (Nat → Int32) → (Nat → Int32) → (Nat → Int32) → (Nat → Int32) → (Nat → Int32) → (Nat → Int32) → (Nat → Int32) → (Nat → Int32) → (Nat → Int32) → (Nat → Int32) → Prop) (x2 : Int32) (x3 : Int32) (x4 : Int32) (u : SX) : Prop := match u with
  | (f_wStatus, f_wPc, f_wDepth, f_wFrames, f_wInputsUsed, f_wOutputCount, f_wWrite, f_wOld, f_wStack, f_wFrame, f_wMemory, f_wOutput, f_pageCount, f_pageSize, f_slotCount, f_poolPages, f_spacing, f_memorySize, f_stackSize, f_frameSize, f_horizon, f_programLength, f_inputCount, f_breaksOn, f_time, f_end, f_segment, f_dirty, f_cpCount, f_freeCount, a_opcodes, a_operands, a_inputs, a_breaks, a_watchAddress, a_watchCondition, a_watchValue, a_live, a_cpTime, a_cpPage, a_pool, a_freePages) => wX_takeCheckpoint_104 post J77 x2 x3 x4 f_wStatus f_wPc f_wDepth f_wFrames f_wInputsUsed f_wOutputCount f_wWrite f_wOld f_wStack f_wFrame f_wMemory f_wOutput f_pageCount f_pageSize f_slotCount f_poolPages f_spacing f_memorySize f_stackSize f_frameSize f_horizon f_programLength f_inputCount f_breaksOn f_time f_end f_segment f_dirty f_cpCount f_freeCount a_opcodes a_operands a_inputs a_breaks a_watchAddress a_watchCondition a_watchValue a_live a_cpTime a_cpPage a_pool a_freePages
abbrev zxw_takeCheckpoint_77 (post : SX → Prop) (x2 : Int32) (n : Nat) (x3 : Int32) (u : SX) : Prop := match u with
  | (f_wStatus, f_wPc, f_wDepth, f_wFrames, f_wInputsUsed, f_wOutputCount, f_wWrite, f_wOld, f_wStack, f_wFrame, f_wMemory, f_wOutput, f_pageCount, f_pageSize, f_slotCount, f_poolPages, f_spacing, f_memorySize, f_stackSize, f_frameSize, f_horizon, f_programLength, f_inputCount, f_breaksOn, f_time, f_end, f_segment, f_dirty, f_cpCount, f_freeCount, a_opcodes, a_operands, a_inputs, a_breaks, a_watchAddress, a_watchCondition, a_watchValue, a_live, a_cpTime, a_cpPage, a_pool, a_freePages) => wX_takeCheckpoint_77 post x2 n x3 f_wStatus f_wPc f_wDepth f_wFrames f_wInputsUsed f_wOutputCount f_wWrite f_wOld f_wStack f_wFrame f_wMemory f_wOutput f_pageCount f_pageSize f_slotCount f_poolPages f_spacing f_memorySize f_stackSize f_frameSize f_horizon f_programLength f_inputCount f_breaksOn f_time f_end f_segment f_dirty f_cpCount f_freeCount a_opcodes a_operands a_inputs a_breaks a_watchAddress a_watchCondition a_watchValue a_live a_cpTime a_cpPage a_pool a_freePages
abbrev zxw_takeCheckpoint_4 (post : SX → Prop) (n : Nat) (x1 : Int32) (x2 : Int32) (u : SX) : Prop := match u with
  | (f_wStatus, f_wPc, f_wDepth, f_wFrames, f_wInputsUsed, f_wOutputCount, f_wWrite, f_wOld, f_wStack, f_wFrame, f_wMemory, f_wOutput, f_pageCount, f_pageSize, f_slotCount, f_poolPages, f_spacing, f_memorySize, f_stackSize, f_frameSize, f_horizon, f_programLength, f_inputCount, f_breaksOn, f_time, f_end, f_segment, f_dirty, f_cpCount, f_freeCount, a_opcodes, a_operands, a_inputs, a_breaks, a_watchAddress, a_watchCondition, a_watchValue, a_live, a_cpTime, a_cpPage, a_pool, a_freePages) => wX_takeCheckpoint_4 post f_wStatus f_wPc f_wDepth f_wFrames f_wInputsUsed f_wOutputCount f_wWrite f_wOld f_wStack f_wFrame f_wMemory f_wOutput f_pageCount f_pageSize f_slotCount f_poolPages f_spacing f_memorySize f_stackSize f_frameSize f_horizon f_programLength f_inputCount f_breaksOn f_time f_end f_segment f_dirty f_cpCount f_freeCount a_opcodes a_operands a_inputs a_breaks a_watchAddress a_watchCondition a_watchValue a_live a_cpTime a_cpPage a_pool a_freePages n x1 x2
abbrev zxw_stopMask_84 (post : Int32 → Prop) (x3 : Int32) (x4 : Int32) (x5 : Int32) (n : Nat) (x1 : Int32) (x6 : Int32) (u : SX) : Prop := match u with
  | (f_wStatus, f_wPc, f_wDepth, f_wFrames, f_wInputsUsed, f_wOutputCount, f_wWrite, f_wOld, f_wStack, f_wFrame, f_wMemory, f_wOutput, f_pageCount, f_pageSize, f_slotCount, f_poolPages, f_spacing, f_memorySize, f_stackSize, f_frameSize, f_horizon, f_programLength, f_inputCount, f_breaksOn, f_time, f_end, f_segment, f_dirty, f_cpCount, f_freeCount, a_opcodes, a_operands, a_inputs, a_breaks, a_watchAddress, a_watchCondition, a_watchValue, a_live, a_cpTime, a_cpPage, a_pool, a_freePages) => wX_stopMask_84 post x3 x4 x5 f_wStatus f_wPc f_wDepth f_wFrames f_wInputsUsed f_wOutputCount f_wWrite f_wOld f_wStack f_wFrame f_wMemory f_wOutput f_pageCount f_pageSize f_slotCount f_poolPages f_spacing f_memorySize f_stackSize f_frameSize f_horizon f_programLength f_inputCount f_breaksOn f_time f_end f_segment f_dirty f_cpCount f_freeCount a_opcodes a_operands a_inputs a_breaks a_watchAddress a_watchCondition a_watchValue a_live a_cpTime a_cpPage a_pool a_freePages n x1 x6
abbrev zxw_stopMask_39 (post : Int32 → Prop) (x1 : Int32) (u : SX) : Prop := match u with
  | (f_wStatus, f_wPc, f_wDepth, f_wFrames, f_wInputsUsed, f_wOutputCount, f_wWrite, f_wOld, f_wStack, f_wFrame, f_wMemory, f_wOutput, f_pageCount, f_pageSize, f_slotCount, f_poolPages, f_spacing, f_memorySize, f_stackSize, f_frameSize, f_horizon, f_programLength, f_inputCount, f_breaksOn, f_time, f_end, f_segment, f_dirty, f_cpCount, f_freeCount, a_opcodes, a_operands, a_inputs, a_breaks, a_watchAddress, a_watchCondition, a_watchValue, a_live, a_cpTime, a_cpPage, a_pool, a_freePages) => wX_stopMask_39 post x1 f_wStatus f_wPc f_wDepth f_wFrames f_wInputsUsed f_wOutputCount f_wWrite f_wOld f_wStack f_wFrame f_wMemory f_wOutput f_pageCount f_pageSize f_slotCount f_poolPages f_spacing f_memorySize f_stackSize f_frameSize f_horizon f_programLength f_inputCount f_breaksOn f_time f_end f_segment f_dirty f_cpCount f_freeCount a_opcodes a_operands a_inputs a_breaks a_watchAddress a_watchCondition a_watchValue a_live a_cpTime a_cpPage a_pool a_freePages
abbrev zxw_run_10 (post : Int32 → SX → Prop) (x1 : Int32) (n : Nat) (x2 : Int32) (u : SX) : Prop := match u with
  | (f_wStatus, f_wPc, f_wDepth, f_wFrames, f_wInputsUsed, f_wOutputCount, f_wWrite, f_wOld, f_wStack, f_wFrame, f_wMemory, f_wOutput, f_pageCount, f_pageSize, f_slotCount, f_poolPages, f_spacing, f_memorySize, f_stackSize, f_frameSize, f_horizon, f_programLength, f_inputCount, f_breaksOn, f_time, f_end, f_segment, f_dirty, f_cpCount, f_freeCount, a_opcodes, a_operands, a_inputs, a_breaks, a_watchAddress, a_watchCondition, a_watchValue, a_live, a_cpTime, a_cpPage, a_pool, a_freePages) => wX_run_10 post x1 n x2 f_wStatus f_wPc f_wDepth f_wFrames f_wInputsUsed f_wOutputCount f_wWrite f_wOld f_wStack f_wFrame f_wMemory f_wOutput f_pageCount f_pageSize f_slotCount f_poolPages f_spacing f_memorySize f_stackSize f_frameSize f_horizon f_programLength f_inputCount f_breaksOn f_time f_end f_segment f_dirty f_cpCount f_freeCount a_opcodes a_operands a_inputs a_breaks a_watchAddress a_watchCondition a_watchValue a_live a_cpTime a_cpPage a_pool a_freePages
abbrev zxw_checkpointAtOrBefore_7 (post : Int32 → Prop) (x1 : Int32) (n : Nat) (x2 : Int32) (u : SX) : Prop := match u with
  | (f_wStatus, f_wPc, f_wDepth, f_wFrames, f_wInputsUsed, f_wOutputCount, f_wWrite, f_wOld, f_wStack, f_wFrame, f_wMemory, f_wOutput, f_pageCount, f_pageSize, f_slotCount, f_poolPages, f_spacing, f_memorySize, f_stackSize, f_frameSize, f_horizon, f_programLength, f_inputCount, f_breaksOn, f_time, f_end, f_segment, f_dirty, f_cpCount, f_freeCount, a_opcodes, a_operands, a_inputs, a_breaks, a_watchAddress, a_watchCondition, a_watchValue, a_live, a_cpTime, a_cpPage, a_pool, a_freePages) => wX_checkpointAtOrBefore_7 post x1 f_wStatus f_wPc f_wDepth f_wFrames f_wInputsUsed f_wOutputCount f_wWrite f_wOld f_wStack f_wFrame f_wMemory f_wOutput f_pageCount f_pageSize f_slotCount f_poolPages f_spacing f_memorySize f_stackSize f_frameSize f_horizon f_programLength f_inputCount f_breaksOn f_time f_end f_segment f_dirty f_cpCount f_freeCount a_opcodes a_operands a_inputs a_breaks a_watchAddress a_watchCondition a_watchValue a_live a_cpTime a_cpPage a_pool a_freePages n x2
abbrev zxw_newestPage_2 (post : Int32 → Prop) (x2 : Int32) (n : Nat) (x3 : Int32) (u : SX) : Prop := match u with
  | (f_wStatus, f_wPc, f_wDepth, f_wFrames, f_wInputsUsed, f_wOutputCount, f_wWrite, f_wOld, f_wStack, f_wFrame, f_wMemory, f_wOutput, f_pageCount, f_pageSize, f_slotCount, f_poolPages, f_spacing, f_memorySize, f_stackSize, f_frameSize, f_horizon, f_programLength, f_inputCount, f_breaksOn, f_time, f_end, f_segment, f_dirty, f_cpCount, f_freeCount, a_opcodes, a_operands, a_inputs, a_breaks, a_watchAddress, a_watchCondition, a_watchValue, a_live, a_cpTime, a_cpPage, a_pool, a_freePages) => wX_newestPage_2 post x2 f_wStatus f_wPc f_wDepth f_wFrames f_wInputsUsed f_wOutputCount f_wWrite f_wOld f_wStack f_wFrame f_wMemory f_wOutput f_pageCount f_pageSize f_slotCount f_poolPages f_spacing f_memorySize f_stackSize f_frameSize f_horizon f_programLength f_inputCount f_breaksOn f_time f_end f_segment f_dirty f_cpCount f_freeCount a_opcodes a_operands a_inputs a_breaks a_watchAddress a_watchCondition a_watchValue a_live a_cpTime a_cpPage a_pool a_freePages n x3
abbrev zxw_restore_18 (post : SX → Prop) (J2 : Int32 → (Nat → Int32) → (Nat → Int32) → (Nat → Int32) → (Nat → Int32) → (Nat → Int32) → (Nat → Int32) → (Nat → Int32) → (Nat → Int32) → (Nat → Int32) → (Nat → Int32) → (Nat → Int32) → (Nat → Int32) → Prop) (x1 : Int32) (x2 : Int32) (x3 : Int32) (n : Nat) (x4 : Int32) (u : SX) : Prop := match u with
  | (f_wStatus, f_wPc, f_wDepth, f_wFrames, f_wInputsUsed, f_wOutputCount, f_wWrite, f_wOld, f_wStack, f_wFrame, f_wMemory, f_wOutput, f_pageCount, f_pageSize, f_slotCount, f_poolPages, f_spacing, f_memorySize, f_stackSize, f_frameSize, f_horizon, f_programLength, f_inputCount, f_breaksOn, f_time, f_end, f_segment, f_dirty, f_cpCount, f_freeCount, a_opcodes, a_operands, a_inputs, a_breaks, a_watchAddress, a_watchCondition, a_watchValue, a_live, a_cpTime, a_cpPage, a_pool, a_freePages) => wX_restore_18 post J2 x1 x2 x3 f_wStatus f_wPc f_wDepth f_wFrames f_wInputsUsed f_wOutputCount f_wWrite f_wOld f_wStack f_wFrame f_wMemory f_wOutput f_pageCount f_pageSize f_slotCount f_poolPages f_spacing f_memorySize f_stackSize f_frameSize f_horizon f_programLength f_inputCount f_breaksOn f_time f_end f_segment f_dirty f_cpCount f_freeCount n x4 a_opcodes a_operands a_inputs a_breaks a_watchAddress a_watchCondition a_watchValue a_live a_cpTime a_cpPage a_pool a_freePages
abbrev zxw_restore_2 (post : SX → Prop) (x1 : Int32) (n : Nat) (x2 : Int32) (u : SX) : Prop := match u with
  | (f_wStatus, f_wPc, f_wDepth, f_wFrames, f_wInputsUsed, f_wOutputCount, f_wWrite, f_wOld, f_wStack, f_wFrame, f_wMemory, f_wOutput, f_pageCount, f_pageSize, f_slotCount, f_poolPages, f_spacing, f_memorySize, f_stackSize, f_frameSize, f_horizon, f_programLength, f_inputCount, f_breaksOn, f_time, f_end, f_segment, f_dirty, f_cpCount, f_freeCount, a_opcodes, a_operands, a_inputs, a_breaks, a_watchAddress, a_watchCondition, a_watchValue, a_live, a_cpTime, a_cpPage, a_pool, a_freePages) => wX_restore_2 post x1 f_wStatus f_wPc f_wDepth f_wFrames f_wInputsUsed f_wOutputCount f_wWrite f_wOld f_wStack f_wFrame f_wMemory f_wOutput f_pageCount f_pageSize f_slotCount f_poolPages f_spacing f_memorySize f_stackSize f_frameSize f_horizon f_programLength f_inputCount f_breaksOn f_time f_end f_segment f_dirty f_cpCount f_freeCount n x2 a_opcodes a_operands a_inputs a_breaks a_watchAddress a_watchCondition a_watchValue a_live a_cpTime a_cpPage a_pool a_freePages
abbrev zxw_moveTo_44 (post : SX → Prop) (x1 : Int32) (n : Nat) (x4 : Int32) (u : SX) : Prop := match u with
  | (f_wStatus, f_wPc, f_wDepth, f_wFrames, f_wInputsUsed, f_wOutputCount, f_wWrite, f_wOld, f_wStack, f_wFrame, f_wMemory, f_wOutput, f_pageCount, f_pageSize, f_slotCount, f_poolPages, f_spacing, f_memorySize, f_stackSize, f_frameSize, f_horizon, f_programLength, f_inputCount, f_breaksOn, f_time, f_end, f_segment, f_dirty, f_cpCount, f_freeCount, a_opcodes, a_operands, a_inputs, a_breaks, a_watchAddress, a_watchCondition, a_watchValue, a_live, a_cpTime, a_cpPage, a_pool, a_freePages) => wX_moveTo_44 post x1 n x4 f_wStatus f_wPc f_wDepth f_wFrames f_wInputsUsed f_wOutputCount f_wWrite f_wOld f_wStack f_wFrame f_wMemory f_wOutput f_pageCount f_pageSize f_slotCount f_poolPages f_spacing f_memorySize f_stackSize f_frameSize f_horizon f_programLength f_inputCount f_breaksOn f_time f_end f_segment f_dirty f_cpCount f_freeCount a_opcodes a_operands a_inputs a_breaks a_watchAddress a_watchCondition a_watchValue a_live a_cpTime a_cpPage a_pool a_freePages
abbrev zxw_moveTo_31 (post : SX → Prop) (x1 : Int32) (x2 : Int32) (u : SX) : Prop := match u with
  | (f_wStatus, f_wPc, f_wDepth, f_wFrames, f_wInputsUsed, f_wOutputCount, f_wWrite, f_wOld, f_wStack, f_wFrame, f_wMemory, f_wOutput, f_pageCount, f_pageSize, f_slotCount, f_poolPages, f_spacing, f_memorySize, f_stackSize, f_frameSize, f_horizon, f_programLength, f_inputCount, f_breaksOn, f_time, f_end, f_segment, f_dirty, f_cpCount, f_freeCount, a_opcodes, a_operands, a_inputs, a_breaks, a_watchAddress, a_watchCondition, a_watchValue, a_live, a_cpTime, a_cpPage, a_pool, a_freePages) => wX_moveTo_31 post x1 x2 f_wStatus f_wPc f_wDepth f_wFrames f_wInputsUsed f_wOutputCount f_wWrite f_wOld f_wStack f_wFrame f_wMemory f_wOutput f_pageCount f_pageSize f_slotCount f_poolPages f_spacing f_memorySize f_stackSize f_frameSize f_horizon f_programLength f_inputCount f_breaksOn f_time f_end f_segment f_dirty f_cpCount f_freeCount a_opcodes a_operands a_inputs a_breaks a_watchAddress a_watchCondition a_watchValue a_live a_cpTime a_cpPage a_pool a_freePages
abbrev zxw_segmentMayStop_11 (post : Int32 → Prop) (x1 : Int32) (n : Nat) (x2 : Int32) (u : SX) : Prop := match u with
  | (f_wStatus, f_wPc, f_wDepth, f_wFrames, f_wInputsUsed, f_wOutputCount, f_wWrite, f_wOld, f_wStack, f_wFrame, f_wMemory, f_wOutput, f_pageCount, f_pageSize, f_slotCount, f_poolPages, f_spacing, f_memorySize, f_stackSize, f_frameSize, f_horizon, f_programLength, f_inputCount, f_breaksOn, f_time, f_end, f_segment, f_dirty, f_cpCount, f_freeCount, a_opcodes, a_operands, a_inputs, a_breaks, a_watchAddress, a_watchCondition, a_watchValue, a_live, a_cpTime, a_cpPage, a_pool, a_freePages) => wX_segmentMayStop_11 post x1 f_wStatus f_wPc f_wDepth f_wFrames f_wInputsUsed f_wOutputCount f_wWrite f_wOld f_wStack f_wFrame f_wMemory f_wOutput f_pageCount f_pageSize f_slotCount f_poolPages f_spacing f_memorySize f_stackSize f_frameSize f_horizon f_programLength f_inputCount f_breaksOn f_time f_end f_segment f_dirty f_cpCount f_freeCount a_opcodes a_operands a_inputs a_breaks a_watchAddress a_watchCondition a_watchValue a_live a_cpTime a_cpPage a_pool a_freePages n x2
abbrev zxw_lastStopIn_19 (post : Int32 → SX → Prop) (x2 : Int32) (n : Nat) (x3 : Int32) (x5 : Int32) (u : SX) : Prop := match u with
  | (f_wStatus, f_wPc, f_wDepth, f_wFrames, f_wInputsUsed, f_wOutputCount, f_wWrite, f_wOld, f_wStack, f_wFrame, f_wMemory, f_wOutput, f_pageCount, f_pageSize, f_slotCount, f_poolPages, f_spacing, f_memorySize, f_stackSize, f_frameSize, f_horizon, f_programLength, f_inputCount, f_breaksOn, f_time, f_end, f_segment, f_dirty, f_cpCount, f_freeCount, a_opcodes, a_operands, a_inputs, a_breaks, a_watchAddress, a_watchCondition, a_watchValue, a_live, a_cpTime, a_cpPage, a_pool, a_freePages) => wX_lastStopIn_19 post x2 n x3 x5 f_wStatus f_wPc f_wDepth f_wFrames f_wInputsUsed f_wOutputCount f_wWrite f_wOld f_wStack f_wFrame f_wMemory f_wOutput f_pageCount f_pageSize f_slotCount f_poolPages f_spacing f_memorySize f_stackSize f_frameSize f_horizon f_programLength f_inputCount f_breaksOn f_time f_end f_segment f_dirty f_cpCount f_freeCount a_opcodes a_operands a_inputs a_breaks a_watchAddress a_watchCondition a_watchValue a_live a_cpTime a_cpPage a_pool a_freePages
abbrev zxw_reverseContinue_25 (post : Int32 → SX → Prop) (n : Nat) (x1 : Int32) (x3 : Int32) (u : SX) : Prop := match u with
  | (f_wStatus, f_wPc, f_wDepth, f_wFrames, f_wInputsUsed, f_wOutputCount, f_wWrite, f_wOld, f_wStack, f_wFrame, f_wMemory, f_wOutput, f_pageCount, f_pageSize, f_slotCount, f_poolPages, f_spacing, f_memorySize, f_stackSize, f_frameSize, f_horizon, f_programLength, f_inputCount, f_breaksOn, f_time, f_end, f_segment, f_dirty, f_cpCount, f_freeCount, a_opcodes, a_operands, a_inputs, a_breaks, a_watchAddress, a_watchCondition, a_watchValue, a_live, a_cpTime, a_cpPage, a_pool, a_freePages) => wX_reverseContinue_25 post n x1 x3 f_wStatus f_wPc f_wDepth f_wFrames f_wInputsUsed f_wOutputCount f_wWrite f_wOld f_wStack f_wFrame f_wMemory f_wOutput f_pageCount f_pageSize f_slotCount f_poolPages f_spacing f_memorySize f_stackSize f_frameSize f_horizon f_programLength f_inputCount f_breaksOn f_time f_end f_segment f_dirty f_cpCount f_freeCount a_opcodes a_operands a_inputs a_breaks a_watchAddress a_watchCondition a_watchValue a_live a_cpTime a_cpPage a_pool a_freePages
abbrev zxw_lastWriteIn_20 (post : Int32 → SX → Prop) (x2 : Int32) (x3 : Int32) (n : Nat) (x4 : Int32) (x6 : Int32) (u : SX) : Prop := match u with
  | (f_wStatus, f_wPc, f_wDepth, f_wFrames, f_wInputsUsed, f_wOutputCount, f_wWrite, f_wOld, f_wStack, f_wFrame, f_wMemory, f_wOutput, f_pageCount, f_pageSize, f_slotCount, f_poolPages, f_spacing, f_memorySize, f_stackSize, f_frameSize, f_horizon, f_programLength, f_inputCount, f_breaksOn, f_time, f_end, f_segment, f_dirty, f_cpCount, f_freeCount, a_opcodes, a_operands, a_inputs, a_breaks, a_watchAddress, a_watchCondition, a_watchValue, a_live, a_cpTime, a_cpPage, a_pool, a_freePages) => wX_lastWriteIn_20 post x2 x3 n x4 x6 f_wStatus f_wPc f_wDepth f_wFrames f_wInputsUsed f_wOutputCount f_wWrite f_wOld f_wStack f_wFrame f_wMemory f_wOutput f_pageCount f_pageSize f_slotCount f_poolPages f_spacing f_memorySize f_stackSize f_frameSize f_horizon f_programLength f_inputCount f_breaksOn f_time f_end f_segment f_dirty f_cpCount f_freeCount a_opcodes a_operands a_inputs a_breaks a_watchAddress a_watchCondition a_watchValue a_live a_cpTime a_cpPage a_pool a_freePages
abbrev zxw_lastWrite_121 (post : Int32 → SX → Prop) (x2 : Int32) (x4 : Int32) (u : SX) : Prop := match u with
  | (f_wStatus, f_wPc, f_wDepth, f_wFrames, f_wInputsUsed, f_wOutputCount, f_wWrite, f_wOld, f_wStack, f_wFrame, f_wMemory, f_wOutput, f_pageCount, f_pageSize, f_slotCount, f_poolPages, f_spacing, f_memorySize, f_stackSize, f_frameSize, f_horizon, f_programLength, f_inputCount, f_breaksOn, f_time, f_end, f_segment, f_dirty, f_cpCount, f_freeCount, a_opcodes, a_operands, a_inputs, a_breaks, a_watchAddress, a_watchCondition, a_watchValue, a_live, a_cpTime, a_cpPage, a_pool, a_freePages) => wX_lastWrite_121 post x2 x4 f_wStatus f_wPc f_wDepth f_wFrames f_wInputsUsed f_wOutputCount f_wWrite f_wOld f_wStack f_wFrame f_wMemory f_wOutput f_pageCount f_pageSize f_slotCount f_poolPages f_spacing f_memorySize f_stackSize f_frameSize f_horizon f_programLength f_inputCount f_breaksOn f_time f_end f_segment f_dirty f_cpCount f_freeCount a_opcodes a_operands a_inputs a_breaks a_watchAddress a_watchCondition a_watchValue a_live a_cpTime a_cpPage a_pool a_freePages
abbrev zxw_lastWrite_63 (post : Int32 → SX → Prop) (x1 : Int32) (x2 : Int32) (x3 : Int32) (n : Nat) (x4 : Int32) (x5 : Int32) (x7 : Int32) (u : SX) : Prop := match u with
  | (f_wStatus, f_wPc, f_wDepth, f_wFrames, f_wInputsUsed, f_wOutputCount, f_wWrite, f_wOld, f_wStack, f_wFrame, f_wMemory, f_wOutput, f_pageCount, f_pageSize, f_slotCount, f_poolPages, f_spacing, f_memorySize, f_stackSize, f_frameSize, f_horizon, f_programLength, f_inputCount, f_breaksOn, f_time, f_end, f_segment, f_dirty, f_cpCount, f_freeCount, a_opcodes, a_operands, a_inputs, a_breaks, a_watchAddress, a_watchCondition, a_watchValue, a_live, a_cpTime, a_cpPage, a_pool, a_freePages) => wX_lastWrite_63 post x1 x2 x3 n x4 x5 x7 f_wStatus f_wPc f_wDepth f_wFrames f_wInputsUsed f_wOutputCount f_wWrite f_wOld f_wStack f_wFrame f_wMemory f_wOutput f_pageCount f_pageSize f_slotCount f_poolPages f_spacing f_memorySize f_stackSize f_frameSize f_horizon f_programLength f_inputCount f_breaksOn f_time f_end f_segment f_dirty f_cpCount f_freeCount a_opcodes a_operands a_inputs a_breaks a_watchAddress a_watchCondition a_watchValue a_live a_cpTime a_cpPage a_pool a_freePages
abbrev zxw_memoryAt_80 (post : Int32 → SX → Prop) (x3 : Int32) (x4 : Int32) (u : SX) : Prop := match u with
  | (f_wStatus, f_wPc, f_wDepth, f_wFrames, f_wInputsUsed, f_wOutputCount, f_wWrite, f_wOld, f_wStack, f_wFrame, f_wMemory, f_wOutput, f_pageCount, f_pageSize, f_slotCount, f_poolPages, f_spacing, f_memorySize, f_stackSize, f_frameSize, f_horizon, f_programLength, f_inputCount, f_breaksOn, f_time, f_end, f_segment, f_dirty, f_cpCount, f_freeCount, a_opcodes, a_operands, a_inputs, a_breaks, a_watchAddress, a_watchCondition, a_watchValue, a_live, a_cpTime, a_cpPage, a_pool, a_freePages) => wX_memoryAt_80 post x3 x4 f_wStatus f_wPc f_wDepth f_wFrames f_wInputsUsed f_wOutputCount f_wWrite f_wOld f_wStack f_wFrame f_wMemory f_wOutput f_pageCount f_pageSize f_slotCount f_poolPages f_spacing f_memorySize f_stackSize f_frameSize f_horizon f_programLength f_inputCount f_breaksOn f_time f_end f_segment f_dirty f_cpCount f_freeCount a_opcodes a_operands a_inputs a_breaks a_watchAddress a_watchCondition a_watchValue a_live a_cpTime a_cpPage a_pool a_freePages
abbrev zyw_hindrance_65 (post : Int32 → Prop) (z0 : Int32) (u : SY) : Prop := match u with
  | (f_memorySize, f_stackSize, f_frameSize, f_horizon, f_programLength, f_inputCount, f_time, f_end, a_history, a_opcodes, a_operands, a_inputs, a_breaks, a_watchAddress, a_watchCondition, a_watchValue, n_history) => wY_hindrance_65 post z0 f_memorySize f_stackSize f_frameSize f_horizon f_programLength f_inputCount f_time f_end a_history a_opcodes a_operands a_inputs a_breaks a_watchAddress a_watchCondition a_watchValue n_history
abbrev zyw_hindrance_64 (post : Int32 → Prop) (u : SY) : Prop := match u with
  | (f_memorySize, f_stackSize, f_frameSize, f_horizon, f_programLength, f_inputCount, f_time, f_end, a_history, a_opcodes, a_operands, a_inputs, a_breaks, a_watchAddress, a_watchCondition, a_watchValue, n_history) => wY_hindrance_64 post f_memorySize f_stackSize f_frameSize f_horizon f_programLength f_inputCount f_time f_end a_history a_opcodes a_operands a_inputs a_breaks a_watchAddress a_watchCondition a_watchValue n_history
abbrev zyw_pops_11 (post : Int32 → Prop) (x1 : Int32) (u : SY) : Prop := match u with
  | (f_memorySize, f_stackSize, f_frameSize, f_horizon, f_programLength, f_inputCount, f_time, f_end, a_history, a_opcodes, a_operands, a_inputs, a_breaks, a_watchAddress, a_watchCondition, a_watchValue, n_history) => wY_pops_11 post x1 f_memorySize f_stackSize f_frameSize f_horizon f_programLength f_inputCount f_time f_end a_history a_opcodes a_operands a_inputs a_breaks a_watchAddress a_watchCondition a_watchValue n_history
abbrev zyw_pushes_28 (post : Int32 → Prop) (x1 : Int32) (u : SY) : Prop := match u with
  | (f_memorySize, f_stackSize, f_frameSize, f_horizon, f_programLength, f_inputCount, f_time, f_end, a_history, a_opcodes, a_operands, a_inputs, a_breaks, a_watchAddress, a_watchCondition, a_watchValue, n_history) => wY_pushes_28 post x1 f_memorySize f_stackSize f_frameSize f_horizon f_programLength f_inputCount f_time f_end a_history a_opcodes a_operands a_inputs a_breaks a_watchAddress a_watchCondition a_watchValue n_history
abbrev zyw_fault_143 (post : Int32 → Prop) (x1 : Int32) (u : SY) : Prop := match u with
  | (f_memorySize, f_stackSize, f_frameSize, f_horizon, f_programLength, f_inputCount, f_time, f_end, a_history, a_opcodes, a_operands, a_inputs, a_breaks, a_watchAddress, a_watchCondition, a_watchValue, n_history) => wY_fault_143 post x1 f_memorySize f_stackSize f_frameSize f_horizon f_programLength f_inputCount f_time f_end a_history a_opcodes a_operands a_inputs a_breaks a_watchAddress a_watchCondition a_watchValue n_history
abbrev zyw_fault_129 (post : Int32 → Prop) (x1 : Int32) (x4 : Int32) (u : SY) : Prop := match u with
  | (f_memorySize, f_stackSize, f_frameSize, f_horizon, f_programLength, f_inputCount, f_time, f_end, a_history, a_opcodes, a_operands, a_inputs, a_breaks, a_watchAddress, a_watchCondition, a_watchValue, n_history) => wY_fault_129 post x1 x4 f_memorySize f_stackSize f_frameSize f_horizon f_programLength f_inputCount f_time f_end a_history a_opcodes a_operands a_inputs a_breaks a_watchAddress a_watchCondition a_watchValue n_history
abbrev zyw_fault_114 (post : Int32 → Prop) (x1 : Int32) (x4 : Int32) (u : SY) : Prop := match u with
  | (f_memorySize, f_stackSize, f_frameSize, f_horizon, f_programLength, f_inputCount, f_time, f_end, a_history, a_opcodes, a_operands, a_inputs, a_breaks, a_watchAddress, a_watchCondition, a_watchValue, n_history) => wY_fault_114 post x1 x4 f_memorySize f_stackSize f_frameSize f_horizon f_programLength f_inputCount f_time f_end a_history a_opcodes a_operands a_inputs a_breaks a_watchAddress a_watchCondition a_watchValue n_history
abbrev zyw_fault_84 (post : Int32 → Prop) (x1 : Int32) (x4 : Int32) (z0 : Int32) (u : SY) : Prop := match u with
  | (f_memorySize, f_stackSize, f_frameSize, f_horizon, f_programLength, f_inputCount, f_time, f_end, a_history, a_opcodes, a_operands, a_inputs, a_breaks, a_watchAddress, a_watchCondition, a_watchValue, n_history) => wY_fault_84 post x1 x4 z0 f_memorySize f_stackSize f_frameSize f_horizon f_programLength f_inputCount f_time f_end a_history a_opcodes a_operands a_inputs a_breaks a_watchAddress a_watchCondition a_watchValue n_history
abbrev zyw_fault_66 (post : Int32 → Prop) (x1 : Int32) (x2 : Int32) (x4 : Int32) (u : SY) : Prop := match u with
  | (f_memorySize, f_stackSize, f_frameSize, f_horizon, f_programLength, f_inputCount, f_time, f_end, a_history, a_opcodes, a_operands, a_inputs, a_breaks, a_watchAddress, a_watchCondition, a_watchValue, n_history) => wY_fault_66 post x1 x2 x4 f_memorySize f_stackSize f_frameSize f_horizon f_programLength f_inputCount f_time f_end a_history a_opcodes a_operands a_inputs a_breaks a_watchAddress a_watchCondition a_watchValue n_history
abbrev zyw_perform_609 (post : SY → Prop) (x1 : Int32) (x4 : Int32) (x5 : Int32) (x11 : Int32) (u : SY) : Prop := match u with
  | (f_memorySize, f_stackSize, f_frameSize, f_horizon, f_programLength, f_inputCount, f_time, f_end, a_history, a_opcodes, a_operands, a_inputs, a_breaks, a_watchAddress, a_watchCondition, a_watchValue, n_history) => wY_perform_609 post x1 x4 x5 x11 f_memorySize f_stackSize f_frameSize f_horizon f_programLength f_inputCount f_time f_end a_history a_opcodes a_operands a_inputs a_breaks a_watchAddress a_watchCondition a_watchValue n_history
abbrev zyw_perform_360 (post : SY → Prop) (x1 : Int32) (x4 : Int32) (x5 : Int32) (x11 : Int32) (z0 : Int32) (z1 : Int32) (u : SY) : Prop := match u with
  | (f_memorySize, f_stackSize, f_frameSize, f_horizon, f_programLength, f_inputCount, f_time, f_end, a_history, a_opcodes, a_operands, a_inputs, a_breaks, a_watchAddress, a_watchCondition, a_watchValue, n_history) => wY_perform_360 post x1 x4 x5 x11 z0 z1 f_memorySize f_stackSize f_frameSize f_horizon f_programLength f_inputCount f_time f_end a_history a_opcodes a_operands a_inputs a_breaks a_watchAddress a_watchCondition a_watchValue n_history
abbrev zyw_perform_364 (post : SY → Prop) (x1 : Int32) (x4 : Int32) (x5 : Int32) (x8 : Int32) (x10 : Int32) (x11 : Int32) (u : SY) : Prop := match u with
  | (f_memorySize, f_stackSize, f_frameSize, f_horizon, f_programLength, f_inputCount, f_time, f_end, a_history, a_opcodes, a_operands, a_inputs, a_breaks, a_watchAddress, a_watchCondition, a_watchValue, n_history) => wY_perform_364 post x1 x4 x5 x8 x10 x11 f_memorySize f_stackSize f_frameSize f_horizon f_programLength f_inputCount f_time f_end a_history a_opcodes a_operands a_inputs a_breaks a_watchAddress a_watchCondition a_watchValue n_history
abbrev zyw_perform_429 (post : SY → Prop) (x1 : Int32) (x4 : Int32) (x5 : Int32) (x11 : Int32) (z0 : Int32) (z1 : Int32) (u : SY) : Prop := match u with
  | (f_memorySize, f_stackSize, f_frameSize, f_horizon, f_programLength, f_inputCount, f_time, f_end, a_history, a_opcodes, a_operands, a_inputs, a_breaks, a_watchAddress, a_watchCondition, a_watchValue, n_history) => wY_perform_429 post x1 x4 x5 x11 z0 z1 f_memorySize f_stackSize f_frameSize f_horizon f_programLength f_inputCount f_time f_end a_history a_opcodes a_operands a_inputs a_breaks a_watchAddress a_watchCondition a_watchValue n_history
abbrev zyw_perform_381 (post : SY → Prop) (x1 : Int32) (x4 : Int32) (x5 : Int32) (x6 : Int32) (x7 : Int32) (x9 : Int32) (x10 : Int32) (x11 : Int32) (u : SY) : Prop := match u with
  | (f_memorySize, f_stackSize, f_frameSize, f_horizon, f_programLength, f_inputCount, f_time, f_end, a_history, a_opcodes, a_operands, a_inputs, a_breaks, a_watchAddress, a_watchCondition, a_watchValue, n_history) => wY_perform_381 post x1 x4 x5 x6 x7 x9 x10 x11 f_memorySize f_stackSize f_frameSize f_horizon f_programLength f_inputCount f_time f_end a_history a_opcodes a_operands a_inputs a_breaks a_watchAddress a_watchCondition a_watchValue n_history
abbrev zyw_perform_117 (post : SY → Prop) (x1 : Int32) (x2 : Int32) (x3 : Int32) (x4 : Int32) (x5 : Int32) (x6 : Int32) (x7 : Int32) (x8 : Int32) (z0 : Int32) (u : SY) : Prop := match u with
  | (f_memorySize, f_stackSize, f_frameSize, f_horizon, f_programLength, f_inputCount, f_time, f_end, a_history, a_opcodes, a_operands, a_inputs, a_breaks, a_watchAddress, a_watchCondition, a_watchValue, n_history) => wY_perform_117 post x1 x2 x3 x4 x5 x6 x7 x8 z0 f_memorySize f_stackSize f_frameSize f_horizon f_programLength f_inputCount f_time f_end a_history a_opcodes a_operands a_inputs a_breaks a_watchAddress a_watchCondition a_watchValue n_history
abbrev zyw_perform_111 (post : SY → Prop) (x1 : Int32) (x2 : Int32) (x3 : Int32) (x4 : Int32) (x5 : Int32) (x6 : Int32) (x7 : Int32) (x8 : Int32) (u : SY) : Prop := match u with
  | (f_memorySize, f_stackSize, f_frameSize, f_horizon, f_programLength, f_inputCount, f_time, f_end, a_history, a_opcodes, a_operands, a_inputs, a_breaks, a_watchAddress, a_watchCondition, a_watchValue, n_history) => wY_perform_111 post x1 x2 x3 x4 x5 x6 x7 x8 f_memorySize f_stackSize f_frameSize f_horizon f_programLength f_inputCount f_time f_end a_history a_opcodes a_operands a_inputs a_breaks a_watchAddress a_watchCondition a_watchValue n_history
abbrev zyw_execute_132 (post : SY → Prop) (u : SY) : Prop := match u with
  | (f_memorySize, f_stackSize, f_frameSize, f_horizon, f_programLength, f_inputCount, f_time, f_end, a_history, a_opcodes, a_operands, a_inputs, a_breaks, a_watchAddress, a_watchCondition, a_watchValue, n_history) => wY_execute_132 post f_memorySize f_stackSize f_frameSize f_horizon f_programLength f_inputCount f_time f_end a_history a_opcodes a_operands a_inputs a_breaks a_watchAddress a_watchCondition a_watchValue n_history
abbrev zyw_execute_76 (post : SY → Prop) (u : SY) : Prop := match u with
  | (f_memorySize, f_stackSize, f_frameSize, f_horizon, f_programLength, f_inputCount, f_time, f_end, a_history, a_opcodes, a_operands, a_inputs, a_breaks, a_watchAddress, a_watchCondition, a_watchValue, n_history) => wY_execute_76 post f_memorySize f_stackSize f_frameSize f_horizon f_programLength f_inputCount f_time f_end a_history a_opcodes a_operands a_inputs a_breaks a_watchAddress a_watchCondition a_watchValue n_history
abbrev zyw_execute_2 (post : SY → Prop) (n : Nat) (x1 : Int32) (u : SY) : Prop := match u with
  | (f_memorySize, f_stackSize, f_frameSize, f_horizon, f_programLength, f_inputCount, f_time, f_end, a_history, a_opcodes, a_operands, a_inputs, a_breaks, a_watchAddress, a_watchCondition, a_watchValue, n_history) => wY_execute_2 post f_memorySize f_stackSize f_frameSize f_horizon f_programLength f_inputCount f_time f_end n_history n x1 a_history a_opcodes a_operands a_inputs a_breaks a_watchAddress a_watchCondition a_watchValue
abbrev zyw_holds_48 (post : Int32 → Prop) (x1 : Int32) (x2 : Int32) (x3 : Int32) (x4 : Int32) (u : SY) : Prop := match u with
  | (f_memorySize, f_stackSize, f_frameSize, f_horizon, f_programLength, f_inputCount, f_time, f_end, a_history, a_opcodes, a_operands, a_inputs, a_breaks, a_watchAddress, a_watchCondition, a_watchValue, n_history) => wY_holds_48 post x1 x2 x3 x4 f_memorySize f_stackSize f_frameSize f_horizon f_programLength f_inputCount f_time f_end a_history a_opcodes a_operands a_inputs a_breaks a_watchAddress a_watchCondition a_watchValue n_history
abbrev zyw_holds_37 (post : Int32 → Prop) (x1 : Int32) (x2 : Int32) (x3 : Int32) (x4 : Int32) (u : SY) : Prop := match u with
  | (f_memorySize, f_stackSize, f_frameSize, f_horizon, f_programLength, f_inputCount, f_time, f_end, a_history, a_opcodes, a_operands, a_inputs, a_breaks, a_watchAddress, a_watchCondition, a_watchValue, n_history) => wY_holds_37 post x1 x2 x3 x4 f_memorySize f_stackSize f_frameSize f_horizon f_programLength f_inputCount f_time f_end a_history a_opcodes a_operands a_inputs a_breaks a_watchAddress a_watchCondition a_watchValue n_history
abbrev zyw_holds_26 (post : Int32 → Prop) (x1 : Int32) (x2 : Int32) (x3 : Int32) (x4 : Int32) (u : SY) : Prop := match u with
  | (f_memorySize, f_stackSize, f_frameSize, f_horizon, f_programLength, f_inputCount, f_time, f_end, a_history, a_opcodes, a_operands, a_inputs, a_breaks, a_watchAddress, a_watchCondition, a_watchValue, n_history) => wY_holds_26 post x1 x2 x3 x4 f_memorySize f_stackSize f_frameSize f_horizon f_programLength f_inputCount f_time f_end a_history a_opcodes a_operands a_inputs a_breaks a_watchAddress a_watchCondition a_watchValue n_history
abbrev zyw_holds_15 (post : Int32 → Prop) (x1 : Int32) (x2 : Int32) (x3 : Int32) (x4 : Int32) (u : SY) : Prop := match u with
  | (f_memorySize, f_stackSize, f_frameSize, f_horizon, f_programLength, f_inputCount, f_time, f_end, a_history, a_opcodes, a_operands, a_inputs, a_breaks, a_watchAddress, a_watchCondition, a_watchValue, n_history) => wY_holds_15 post x1 x2 x3 x4 f_memorySize f_stackSize f_frameSize f_horizon f_programLength f_inputCount f_time f_end a_history a_opcodes a_operands a_inputs a_breaks a_watchAddress a_watchCondition a_watchValue n_history
abbrev zyw_mask_80 (post : Int32 → Prop) (x4 : Int32) (x5 : Int32) (x6 : Int32) (n : Nat) (x2 : Int32) (x7 : Int32) (u : SY) : Prop := match u with
  | (f_memorySize, f_stackSize, f_frameSize, f_horizon, f_programLength, f_inputCount, f_time, f_end, a_history, a_opcodes, a_operands, a_inputs, a_breaks, a_watchAddress, a_watchCondition, a_watchValue, n_history) => wY_mask_80 post x4 x5 x6 f_memorySize f_stackSize f_frameSize f_horizon f_programLength f_inputCount f_time f_end a_history a_opcodes a_operands a_inputs a_breaks a_watchAddress a_watchCondition a_watchValue n_history n x2 x7
abbrev zyw_mask_39 (post : Int32 → Prop) (x1 : Int32) (x2 : Int32) (u : SY) : Prop := match u with
  | (f_memorySize, f_stackSize, f_frameSize, f_horizon, f_programLength, f_inputCount, f_time, f_end, a_history, a_opcodes, a_operands, a_inputs, a_breaks, a_watchAddress, a_watchCondition, a_watchValue, n_history) => wY_mask_39 post x1 x2 f_memorySize f_stackSize f_frameSize f_horizon f_programLength f_inputCount f_time f_end a_history a_opcodes a_operands a_inputs a_breaks a_watchAddress a_watchCondition a_watchValue n_history
abbrev zyw_run_10 (post : Int32 → SY → Prop) (x1 : Int32) (n : Nat) (x2 : Int32) (u : SY) : Prop := match u with
  | (f_memorySize, f_stackSize, f_frameSize, f_horizon, f_programLength, f_inputCount, f_time, f_end, a_history, a_opcodes, a_operands, a_inputs, a_breaks, a_watchAddress, a_watchCondition, a_watchValue, n_history) => wY_run_10 post x1 n x2 f_memorySize f_stackSize f_frameSize f_horizon f_programLength f_inputCount f_time f_end a_history a_opcodes a_operands a_inputs a_breaks a_watchAddress a_watchCondition a_watchValue n_history
abbrev zyw_reverseContinue_17 (post : Int32 → SY → Prop) (n : Nat) (x1 : Int32) (u : SY) : Prop := match u with
  | (f_memorySize, f_stackSize, f_frameSize, f_horizon, f_programLength, f_inputCount, f_time, f_end, a_history, a_opcodes, a_operands, a_inputs, a_breaks, a_watchAddress, a_watchCondition, a_watchValue, n_history) => wY_reverseContinue_17 post f_memorySize f_stackSize f_frameSize f_horizon f_programLength f_inputCount f_end a_history a_opcodes a_operands a_inputs a_breaks a_watchAddress a_watchCondition a_watchValue n_history n x1 f_time
abbrev zyw_lastWrite_19 (post : Int32 → Prop) (x1 : Int32) (n : Nat) (x2 : Int32) (u : SY) : Prop := match u with
  | (f_memorySize, f_stackSize, f_frameSize, f_horizon, f_programLength, f_inputCount, f_time, f_end, a_history, a_opcodes, a_operands, a_inputs, a_breaks, a_watchAddress, a_watchCondition, a_watchValue, n_history) => wY_lastWrite_19 post x1 f_memorySize f_stackSize f_frameSize f_horizon f_programLength f_inputCount f_time f_end a_history a_opcodes a_operands a_inputs a_breaks a_watchAddress a_watchCondition a_watchValue n_history n x2
abbrev zyw_register_51 (post : Int32 → Prop) (x1 : Int32) (u : SY) : Prop := match u with
  | (f_memorySize, f_stackSize, f_frameSize, f_horizon, f_programLength, f_inputCount, f_time, f_end, a_history, a_opcodes, a_operands, a_inputs, a_breaks, a_watchAddress, a_watchCondition, a_watchValue, n_history) => wY_register_51 post x1 f_memorySize f_stackSize f_frameSize f_horizon f_programLength f_inputCount f_time f_end a_history a_opcodes a_operands a_inputs a_breaks a_watchAddress a_watchCondition a_watchValue n_history
abbrev zyw_setting_105 (post : Int32 → Prop) (x1 : Int32) (x2 : Int32) (u : SY) : Prop := match u with
  | (f_memorySize, f_stackSize, f_frameSize, f_horizon, f_programLength, f_inputCount, f_time, f_end, a_history, a_opcodes, a_operands, a_inputs, a_breaks, a_watchAddress, a_watchCondition, a_watchValue, n_history) => wY_setting_105 post x1 x2 f_memorySize f_stackSize f_frameSize f_horizon f_programLength f_inputCount f_time f_end a_history a_opcodes a_operands a_inputs a_breaks a_watchAddress a_watchCondition a_watchValue n_history
abbrev zyw_setting_88 (post : Int32 → Prop) (x1 : Int32) (x2 : Int32) (u : SY) : Prop := match u with
  | (f_memorySize, f_stackSize, f_frameSize, f_horizon, f_programLength, f_inputCount, f_time, f_end, a_history, a_opcodes, a_operands, a_inputs, a_breaks, a_watchAddress, a_watchCondition, a_watchValue, n_history) => wY_setting_88 post x1 x2 f_memorySize f_stackSize f_frameSize f_horizon f_programLength f_inputCount f_time f_end a_history a_opcodes a_operands a_inputs a_breaks a_watchAddress a_watchCondition a_watchValue n_history
abbrev zyw_setting_71 (post : Int32 → Prop) (x1 : Int32) (x2 : Int32) (u : SY) : Prop := match u with
  | (f_memorySize, f_stackSize, f_frameSize, f_horizon, f_programLength, f_inputCount, f_time, f_end, a_history, a_opcodes, a_operands, a_inputs, a_breaks, a_watchAddress, a_watchCondition, a_watchValue, n_history) => wY_setting_71 post x1 x2 f_memorySize f_stackSize f_frameSize f_horizon f_programLength f_inputCount f_time f_end a_history a_opcodes a_operands a_inputs a_breaks a_watchAddress a_watchCondition a_watchValue n_history
abbrev zyw_setting_45 (post : Int32 → Prop) (x1 : Int32) (x2 : Int32) (u : SY) : Prop := match u with
  | (f_memorySize, f_stackSize, f_frameSize, f_horizon, f_programLength, f_inputCount, f_time, f_end, a_history, a_opcodes, a_operands, a_inputs, a_breaks, a_watchAddress, a_watchCondition, a_watchValue, n_history) => wY_setting_45 post x1 x2 f_memorySize f_stackSize f_frameSize f_horizon f_programLength f_inputCount f_time f_end a_history a_opcodes a_operands a_inputs a_breaks a_watchAddress a_watchCondition a_watchValue n_history
abbrev zyw_setting_25 (post : Int32 → Prop) (x1 : Int32) (x2 : Int32) (u : SY) : Prop := match u with
  | (f_memorySize, f_stackSize, f_frameSize, f_horizon, f_programLength, f_inputCount, f_time, f_end, a_history, a_opcodes, a_operands, a_inputs, a_breaks, a_watchAddress, a_watchCondition, a_watchValue, n_history) => wY_setting_25 post x1 x2 f_memorySize f_stackSize f_frameSize f_horizon f_programLength f_inputCount f_time f_end a_history a_opcodes a_operands a_inputs a_breaks a_watchAddress a_watchCondition a_watchValue n_history
abbrev zx_J (J : Int32 → Int32 → Int32 → Int32 → Int32 → Int32 → Int32 → Int32 → Int32 → Int32 → Int32 → Int32 → Int32 → Int32 → Int32 → Int32 → Int32 → Int32 → Int32 → Int32 → Int32 → Int32 → Int32 → Int32 → Int32 → Int32 → Int32 → Int32 → Int32 → Int32 → (Nat → Int32) → (Nat → Int32) → (Nat → Int32) → (Nat → Int32) → (Nat → Int32) → (Nat → Int32) → (Nat → Int32) → (Nat → Int32) → (Nat → Int32) → (Nat → Int32) → (Nat → Int32) → (Nat → Int32) → Prop) (u : SX) : Prop := match u with
  | (f_wStatus, f_wPc, f_wDepth, f_wFrames, f_wInputsUsed, f_wOutputCount, f_wWrite, f_wOld, f_wStack, f_wFrame, f_wMemory, f_wOutput, f_pageCount, f_pageSize, f_slotCount, f_poolPages, f_spacing, f_memorySize, f_stackSize, f_frameSize, f_horizon, f_programLength, f_inputCount, f_breaksOn, f_time, f_end, f_segment, f_dirty, f_cpCount, f_freeCount, a_opcodes, a_operands, a_inputs, a_breaks, a_watchAddress, a_watchCondition, a_watchValue, a_live, a_cpTime, a_cpPage, a_pool, a_freePages) => J f_wStatus f_wPc f_wDepth f_wFrames f_wInputsUsed f_wOutputCount f_wWrite f_wOld f_wStack f_wFrame f_wMemory f_wOutput f_pageCount f_pageSize f_slotCount f_poolPages f_spacing f_memorySize f_stackSize f_frameSize f_horizon f_programLength f_inputCount f_breaksOn f_time f_end f_segment f_dirty f_cpCount f_freeCount a_opcodes a_operands a_inputs a_breaks a_watchAddress a_watchCondition a_watchValue a_live a_cpTime a_cpPage a_pool a_freePages
end
section
/-! the machine, pure: a step is a list of writes -/
theorem zc_eq {α : Sort _} {Q : α → Prop} {a b : α} (e : a = b) (h : Q a) : Q b := e ▸ h
theorem zc_cl {n : Nat} (h : n < 2 ^ 31) : (nI n).toNatClampNeg = n := nI_clamp h
theorem zc_8 (d : Nat) : (8 : Int32) + nI d = nI (8 + d) := nI_add 8 d
theorem zc_24 (d : Nat) : (24 : Int32) + nI d = nI (24 + d) := nI_add 24 d
theorem zc_32 (d : Nat) : (32 : Int32) + nI d = nI (32 + d) := nI_add 32 d
theorem zc_96 (d : Nat) : (96 : Int32) + nI d = nI (96 + d) := nI_add 96 d
theorem zc_x16 (c p : Nat) : nI c * 16 + nI p = nI (c * 16 + p) := by
  rw [show (16 : Int32) = nI 16 from rfl, pk_mul, nI_add]
theorem zc_x8 (c p : Nat) : nI c * 8 + nI p = nI (c * 8 + p) := by
  rw [show (8 : Int32) = nI 8 from rfl, pk_mul, nI_add]
theorem zc_x16s (c p : Nat) : (nI c + 1) * 16 + nI p = nI ((c + 1) * 16 + p) := by
  rw [nI_1, zc_x16]
theorem zc_inj {a b : Nat} (h : nI a = nI b) (ha : a < 2 ^ 31) (hb : b < 2 ^ 31) : a = b := (nI_eq ha hb).mp h
theorem zc_lt0 {a : Nat} (h : a < 2 ^ 31) : ¬ nI a < 0 := nI_pos h
theorem zc_m1 : (-1 : Int32) < 0 := by decide
theorem zc_ush {w : Nat} (h : w < 2 ^ 31) : ((nI w).toUInt32 >>> ((3 : Int32).toUInt32 &&& Int32.toUInt32 31)).toInt32 = nI (w / 8) := pk_ushrN (n := w) (by omega) 3 3 (by decide)
/-- dirty with the page of word w -/
def zd_or (d : Int32) (w : Nat) : Int32 := d ||| ((1 : Int32) <<< (nI (w / 8) &&& 31))
theorem zd_b1 : ∀ j, j < 32 → bt 1 j = decide (j = 0) := by decide
theorem zd_bt {d : Int32} {w p : Nat} (hw : w < 128) (hp : p < 16) : bt (zd_or d w) p = (bt d p || decide (p = w / 8)) := by
  unfold zd_or
  rw [b_or, b_shl (w / 8) (by omega) 1 (by omega : p < 32), zd_b1 (p - w / 8) (by omega)]
  congr 1
  by_cases h : p = w / 8
  · simp [h]
  · simp only [h, decide_false]
    by_cases h2 : w / 8 ≤ p
    · have : ¬ p - w / 8 = 0 := by omega
      simp [this]
    · simp [h2]
def mp_ap (l : Nat → Int32) : List (Nat × Int32) → (Nat → Int32)
  | [] => l
  | x :: r => mp_ap (upd l x.1 x.2) r
def mp_dp (d : Int32) : List (Nat × Int32) → Int32
  | [] => d
  | x :: r => mp_dp (zd_or d x.1) r
def mp_pops (k : Nat) : Nat := match k with
  | 2 => 1 | 3 => 1 | 4 => 2 | 5 => 2 | 6 => 2 | 7 => 2 | 8 => 2 | 10 => 1 | 11 => 1 | 12 => 2 | 14 => 1 | 18 => 1 | _ => 0
def mp_push (k : Nat) : Nat := match k with
  | 1 => 1 | 3 => 2 | 4 => 2 | 5 => 1 | 6 => 1 | 7 => 1 | 8 => 1 | 9 => 1 | 11 => 1 | 17 => 1 | _ => 0
def zl_D (l : Nat → Int32) : Nat := (l 2).toNatClampNeg
def zl_F (l : Nat → Int32) : Nat := (l 3).toNatClampNeg
def zl_O (l : Nat → Int32) : Nat := (l 5).toNatClampNeg
/-- the words of a state that the code's indices rest on -/
def mp_wf (P : zp_P) (l : Nat → Int32) : Prop := l 2 = nI (zl_D l) ∧ zl_D l ≤ zp_ss P ∧ l 3 = nI (zl_F l) ∧ zl_F l ≤ zp_fs P ∧ l 5 = nI (zl_O l) ∧ zl_O l ≤ 32 ∧ (l 6 = 0 ∨ ∃ a, a < zp_ms P ∧ l 6 = nI (a + 1)) ∧ ∀ w, 128 ≤ w → l w = 0
def mp_f141 (l : Nat → Int32) (k : Nat) : Int32 := if k = 18 ∧ 32 ≤ zl_O l then 7 else 0
def mp_f123 (l : Nat → Int32) (k : Nat) : Int32 := if k = 16 ∧ zl_F l = 0 then 6 else mp_f141 l k
def mp_f101 (P : zp_P) (l : Nat → Int32) (k : Nat) : Int32 := if k = 15 ∧ zp_fs P ≤ zl_F l then 6 else mp_f123 l k
def mp_f85 (P : zp_P) (l : Nat → Int32) (k : Nat) (a : Int32) : Int32 := if a < 0 ∨ nI (zp_ms P) ≤ a then 5 else mp_f101 P l k
def mp_adr (l : Nat → Int32) (k : Nat) (a : Int32) : Int32 := if k = 11 ∨ k = 12 then l (8 + (zl_D l - 1)) else a
def mp_flt (P : zp_P) (l : Nat → Int32) (k : Nat) (a : Int32) : Int32 :=
  if zl_D l < mp_pops k then 3 else if zp_ss P < zl_D l - mp_pops k + mp_push k then 4
  else if 9 ≤ k ∧ k ≤ 12 then mp_f85 P l k (mp_adr l k a) else mp_f101 P l k
def mp_B (d : Nat) (v : Int32) : List (Nat × Int32) := [(2, nI (d - 1)), (2, nI (d - 2)), (8 + (d - 2), v), (2, nI (d - 1))]
/-- X's writes behind the pc's: opcode k, depth d, frames f, outputs o; a the operand, c the pc, i the input -/
def mp_L (k d f o : Nat) (l : Nat → Int32) (a c i : Int32) : List (Nat × Int32) := match k with
  | 0 => [(1, c), (0, 1)]
  | 1 => [(8 + d, a), (2, nI (d + 1))]
  | 2 => [(2, nI (d - 1))]
  | 3 => [(2, nI (d - 1)), (8 + (d - 1), l (8 + (d - 1))), (2, nI d), (8 + d, l (8 + (d - 1))), (2, nI (d + 1))]
  | 4 => [(2, nI (d - 1)), (2, nI (d - 2)), (8 + (d - 2), l (8 + (d - 1))), (2, nI (d - 1)), (8 + (d - 1), l (8 + (d - 2))), (2, nI d)]
  | 5 => mp_B d (l (8 + (d - 2)) + l (8 + (d - 1)))
  | 6 => mp_B d (l (8 + (d - 2)) - l (8 + (d - 1)))
  | 7 => mp_B d (l (8 + (d - 2)) * l (8 + (d - 1)))
  | 8 => mp_B d (if l (8 + (d - 1)) ≤ l (8 + (d - 2)) then 0 else 1)
  | 9 => [(8 + d, l (32 + a.toNatClampNeg)), (2, nI (d + 1))]
  | 10 => [(2, nI (d - 1)), (6, a + 1), (7, l (32 + a.toNatClampNeg)), (32 + a.toNatClampNeg, l (8 + (d - 1)))]
  | 11 => [(2, nI (d - 1)), (8 + (d - 1), l (32 + (l (8 + (d - 1))).toNatClampNeg)), (2, nI d)]
  | 12 => [(2, nI (d - 1)), (2, nI (d - 2)), (6, l (8 + (d - 1)) + 1), (7, l (32 + (l (8 + (d - 1))).toNatClampNeg)), (32 + (l (8 + (d - 1))).toNatClampNeg, l (8 + (d - 2)))]
  | 13 => [(1, a)]
  | 14 => if l (8 + (d - 1)) = 0 then [(2, nI (d - 1)), (1, a)] else [(2, nI (d - 1))]
  | 15 => [(24 + f, c + 1), (3, nI (f + 1)), (1, a)]
  | 16 => [(3, nI (f - 1)), (1, l (24 + (f - 1)))]
  | 17 => [(8 + d, i), (2, nI (d + 1)), (4, l 4 + 1)]
  | 18 => [(2, nI (d - 1)), (96 + o, l (8 + (d - 1))), (5, nI (o + 1))]
  | _ => []
def mp_inp (P : zp_P) (x : Int32) : Int32 := if x < 0 then 0 else if x < nI (zp_ic P) then zp_in P x.toNatClampNeg else 0
def mp_k (P : zp_P) (l : Nat → Int32) : Nat := (zp_op P (l 1).toNatClampNeg).toNatClampNeg
def mp_a (P : zp_P) (l : Nat → Int32) : Int32 := zp_od P (l 1).toNatClampNeg
def mp_r (P : zp_P) (l : Nat → Int32) : List (Nat × Int32) :=
  if l 1 < 0 ∨ nI (zp_pl P) ≤ l 1 then [(0, 2)]
  else if mp_flt P l (mp_k P l) (mp_a P l) = 0 then (1, l 1 + 1) :: mp_L (mp_k P l) (zl_D l) (zl_F l) (zl_O l) l (mp_a P l) (l 1) (mp_inp P (l 4))
  else [(0, mp_flt P l (mp_k P l) (mp_a P l))]
def mp_0 (l : Nat → Int32) : Nat → Int32 := upd (upd l 6 0) 7 0
def mp_ws (P : zp_P) (l : Nat → Int32) : List (Nat × Int32) := (6, 0) :: (7, 0) :: mp_r P (mp_0 l)
def mp_st (P : zp_P) (l : Nat → Int32) : Nat → Int32 := mp_ap l (mp_ws P l)
def mp_tr (P : zp_P) : Nat → (Nat → Int32)
  | 0 => fun _ => 0
  | t + 1 => mp_st P (mp_tr P t)
def mp_ax (P : zp_P) (l : Nat → Int32) (k : Nat) (a : Int32) : Prop := ∃ x, x < zp_ms P ∧ mp_adr l k a = nI x
/-- the value is an index of the inputs -/
def mp_iq (P : zp_P) (x : Int32) : Prop := ∃ q, q < zp_ic P ∧ x = nI q
/-- what no fault means -/
def mp_nf (P : zp_P) (l : Nat → Int32) (k : Nat) (a : Int32) : Prop := mp_pops k ≤ zl_D l ∧ zl_D l - mp_pops k + mp_push k ≤ zp_ss P ∧ (9 ≤ k ∧ k ≤ 12 → mp_ax P l k a) ∧ (k = 15 → zl_F l < zp_fs P) ∧ (k = 16 → 0 < zl_F l) ∧ (k = 18 → zl_O l < 32)
theorem mp_nf_of {P : zp_P} {l : Nat → Int32} {k : Nat} {a : Int32} (hP : zp_ok P) (h : mp_flt P l k a = 0) : mp_nf P l k a := by
  unfold mp_flt at h
  by_cases h1 : zl_D l < mp_pops k
  · rw [if_pos h1] at h; exact absurd h (by decide)
  · rw [if_neg h1] at h
    by_cases h2 : zp_ss P < zl_D l - mp_pops k + mp_push k
    · rw [if_pos h2] at h; exact absurd h (by decide)
    · rw [if_neg h2] at h
      have key : mp_f101 P l k = 0 → (k = 15 → zl_F l < zp_fs P) ∧ (k = 16 → 0 < zl_F l) ∧ (k = 18 → zl_O l < 32) := by
        intro z
        unfold mp_f101 at z
        by_cases h3 : k = 15 ∧ zp_fs P ≤ zl_F l
        · rw [if_pos h3] at z; exact absurd z (by decide)
        · rw [if_neg h3] at z
          unfold mp_f123 at z
          by_cases h4 : k = 16 ∧ zl_F l = 0
          · rw [if_pos h4] at z; exact absurd z (by decide)
          · rw [if_neg h4] at z
            unfold mp_f141 at z
            by_cases h5 : k = 18 ∧ 32 ≤ zl_O l
            · rw [if_pos h5] at z; exact absurd z (by decide)
            · exact ⟨by omega, by omega, by omega⟩
      by_cases h3 : 9 ≤ k ∧ k ≤ 12
      · rw [if_pos h3] at h
        unfold mp_f85 at h
        by_cases h4 : mp_adr l k a < 0 ∨ nI (zp_ms P) ≤ mp_adr l k a
        · rw [if_pos h4] at h; exact absurd h (by decide)
        · rw [if_neg h4] at h
          obtain ⟨x, hx, e⟩ := nI_of (x := mp_adr l k a) (fun z => h4 (Or.inl z))
          have hm := hP.2.1
          have hxm : x < zp_ms P := by
            rcases Nat.lt_or_ge x (zp_ms P) with q | q
            · exact q
            · exact absurd (Or.inr (by rw [e]; exact nI_le q hx)) h4
          exact ⟨by omega, by omega, fun _ => Exists.intro x ⟨hxm, e⟩, key h⟩
      · rw [if_neg h3] at h
        exact ⟨by omega, by omega, fun z => absurd z h3, key h⟩
theorem mp_cov (L : List (Nat × Int32)) : ∀ (l : Nat → Int32) (d : Int32) (p : Nat), p < 16 → (∀ x, x ∈ L → x.1 < 128) → bt (mp_dp d L) p = false → bt d p = false ∧ ∀ i, i < 8 → mp_ap l L (p * 8 + i) = l (p * 8 + i) := by
  induction L with
  | nil => intro l d p hp hL h; exact ⟨h, fun i _ => rfl⟩
  | cons x r ih =>
    intro l d p hp hL h
    have hx : x.1 < 128 := hL x List.mem_cons_self
    obtain ⟨h1, h2⟩ := ih (upd l x.1 x.2) (zd_or d x.1) p hp (fun y hy => hL y (List.mem_cons_of_mem _ hy)) h
    rw [zd_bt hx hp, Bool.or_eq_false_iff] at h1
    have hne : p ≠ x.1 / 8 := of_decide_eq_false h1.2
    refine ⟨h1.1, fun i hi => ?_⟩
    show mp_ap (upd l x.1 x.2) r (p * 8 + i) = _
    rw [h2 i hi, pk_un (by omega)]
theorem mp_dpt (L : List (Nat × Int32)) : ∀ (d : Int32) (p : Nat), p < 16 → (∀ x, x ∈ L → x.1 < 128) → (bt d p = true ∨ ∃ x, x ∈ L ∧ x.1 / 8 = p) → bt (mp_dp d L) p = true := by
  induction L with
  | nil => intro d p hp hL h; rcases h with h | ⟨x, hx, _⟩; exact h; cases hx
  | cons x r ih =>
    intro d p hp hL h
    have hx : x.1 < 128 := hL x List.mem_cons_self
    refine ih (zd_or d x.1) p hp (fun y hy => hL y (List.mem_cons_of_mem _ hy)) ?_
    rw [zd_bt hx hp]
    rcases h with h | ⟨y, hy, e⟩
    · left; rw [h]; rfl
    · rcases List.mem_cons.mp hy with q | q
      · left; rw [← q, e]; simp
      · exact Or.inr ⟨y, q, e⟩
end
section
/-! what each opcode's writes do (printed by gen05.py) -/
def mp_V (l l' : Nat → Int32) (L : List (Nat × Int32)) (k d fs ms : Nat) : Prop := l' 2 = nI d ∧ (∃ f, f ≤ fs ∧ l' 3 = nI f) ∧ (∃ o, o ≤ 32 ∧ l' 5 = nI o) ∧ (l' 6 = l 6 ∨ ∃ x v, x < ms ∧ l' 6 = nI (x + 1) ∧ (32 + x, v) ∈ L) ∧ (l' 4 = l 4 ∨ (k = 17 ∧ l' 4 = l 4 + 1)) ∧ (∀ w, 128 ≤ w → l' w = l w) ∧ (∀ x, x ∈ L → x.1 < 128)
section ZE
variable {l : Nat → Int32} {d f o x fs ms : Nat} {a c i e : Int32}
theorem mp_v0 (h2 : l 2 = nI d) (h3 : l 3 = nI f) (h5 : l 5 = nI o) (hd : d - 0 + 0 ≤ 16) (hd2 : d ≤ 16) (hf : f ≤ fs) (hfs : fs ≤ 8) (ho : o ≤ 32) (hms : ms ≤ 64) : mp_V l (mp_ap l ((1, e) :: (mp_L 0 d f o l a c i))) (mp_L 0 d f o l a c i) 0 (d) fs ms := by
  refine ⟨?_, ⟨f, by omega, ?_⟩, ⟨o, by omega, ?_⟩, Or.inl ?_, Or.inl ?_, fun w hw => ?_, ?_⟩
  · simp (disch := omega) only [mp_L, mp_B, mp_ap, pk_us, pk_un]; exact h2
  · simp (disch := omega) only [mp_L, mp_B, mp_ap, pk_us, pk_un]; exact h3
  · simp (disch := omega) only [mp_L, mp_B, mp_ap, pk_us, pk_un]; exact h5
  · simp (disch := omega) only [mp_L, mp_B, mp_ap, pk_us, pk_un]
  · simp (disch := omega) only [mp_L, mp_B, mp_ap, pk_us, pk_un]
  · simp (disch := omega) only [mp_L, mp_B, mp_ap, pk_us, pk_un]
  · simp only [mp_L, mp_B, List.forall_mem_cons, List.not_mem_nil, false_implies, implies_true, and_true] <;> omega
theorem mp_e0 (h0 : l 0 = 0) (h2 : l 2 = nI d) (hd : d - 0 + 0 ≤ 16) (hd2 : d ≤ 16) (hf : f ≤ fs) (hfs : fs ≤ 8) (ho : o ≤ 32) (hms : ms ≤ 64) : mp_ap l [(0, 0), (0, 1), (2, nI (d)), (1, c)] = mp_ap l ((1, c + 1) :: (mp_L 0 d f o l a c i)) := by
  funext w
  by_cases q0 : w = 0
  · subst q0; simp (disch := omega) only [mp_L, mp_B, mp_ap, pk_us, pk_un, h0, h2]
  by_cases q1 : w = 1
  · subst q1; simp (disch := omega) only [mp_L, mp_B, mp_ap, pk_us, pk_un, h0, h2]
  by_cases q2 : w = 2
  · subst q2; simp (disch := omega) only [mp_L, mp_B, mp_ap, pk_us, pk_un, h0, h2]
  simp (disch := omega) only [mp_L, mp_B, mp_ap, pk_us, pk_un]
theorem mp_v1 (h2 : l 2 = nI d) (h3 : l 3 = nI f) (h5 : l 5 = nI o) (hd : d - 0 + 1 ≤ 16) (hd2 : d ≤ 16) (hf : f ≤ fs) (hfs : fs ≤ 8) (ho : o ≤ 32) (hms : ms ≤ 64) : mp_V l (mp_ap l ((1, e) :: (mp_L 1 d f o l a c i))) (mp_L 1 d f o l a c i) 1 (d + 1) fs ms := by
  refine ⟨?_, ⟨f, by omega, ?_⟩, ⟨o, by omega, ?_⟩, Or.inl ?_, Or.inl ?_, fun w hw => ?_, ?_⟩
  · simp (disch := omega) only [mp_L, mp_B, mp_ap, pk_us, pk_un]
  · simp (disch := omega) only [mp_L, mp_B, mp_ap, pk_us, pk_un]; exact h3
  · simp (disch := omega) only [mp_L, mp_B, mp_ap, pk_us, pk_un]; exact h5
  · simp (disch := omega) only [mp_L, mp_B, mp_ap, pk_us, pk_un]
  · simp (disch := omega) only [mp_L, mp_B, mp_ap, pk_us, pk_un]
  · simp (disch := omega) only [mp_L, mp_B, mp_ap, pk_us, pk_un]
  · simp only [mp_L, mp_B, List.forall_mem_cons, List.not_mem_nil, false_implies, implies_true, and_true] <;> omega
theorem mp_e1 (h0 : l 0 = 0) (h2 : l 2 = nI d) (hd : d - 0 + 1 ≤ 16) (hd2 : d ≤ 16) (hf : f ≤ fs) (hfs : fs ≤ 8) (ho : o ≤ 32) (hms : ms ≤ 64) : mp_ap l [(0, 0), (8 + d, a), (2, nI (d + 1)), (1, c + 1)] = mp_ap l ((1, c + 1) :: (mp_L 1 d f o l a c i)) := by
  funext w
  by_cases q0 : w = 0
  · subst q0; simp (disch := omega) only [mp_L, mp_B, mp_ap, pk_us, pk_un, h0]
  by_cases q1 : w = 1
  · subst q1; simp (disch := omega) only [mp_L, mp_B, mp_ap, pk_us, pk_un, h0]
  by_cases q2 : w = 2
  · subst q2; simp (disch := omega) only [mp_L, mp_B, mp_ap, pk_us, pk_un, h0]
  by_cases q3 : w = 8 + d
  · subst q3; simp (disch := omega) only [mp_L, mp_B, mp_ap, pk_us, pk_un, h0]
  simp (disch := omega) only [mp_L, mp_B, mp_ap, pk_us, pk_un]
theorem mp_v2 (h2 : l 2 = nI d) (h3 : l 3 = nI f) (h5 : l 5 = nI o) (hp : 1 ≤ d) (hd : d - 1 + 0 ≤ 16) (hd2 : d ≤ 16) (hf : f ≤ fs) (hfs : fs ≤ 8) (ho : o ≤ 32) (hms : ms ≤ 64) : mp_V l (mp_ap l ((1, e) :: (mp_L 2 d f o l a c i))) (mp_L 2 d f o l a c i) 2 (d - 1) fs ms := by
  refine ⟨?_, ⟨f, by omega, ?_⟩, ⟨o, by omega, ?_⟩, Or.inl ?_, Or.inl ?_, fun w hw => ?_, ?_⟩
  · simp (disch := omega) only [mp_L, mp_B, mp_ap, pk_us, pk_un]
  · simp (disch := omega) only [mp_L, mp_B, mp_ap, pk_us, pk_un]; exact h3
  · simp (disch := omega) only [mp_L, mp_B, mp_ap, pk_us, pk_un]; exact h5
  · simp (disch := omega) only [mp_L, mp_B, mp_ap, pk_us, pk_un]
  · simp (disch := omega) only [mp_L, mp_B, mp_ap, pk_us, pk_un]
  · simp (disch := omega) only [mp_L, mp_B, mp_ap, pk_us, pk_un]
  · simp only [mp_L, mp_B, List.forall_mem_cons, List.not_mem_nil, false_implies, implies_true, and_true] <;> omega
theorem mp_e2 (h0 : l 0 = 0) (h2 : l 2 = nI d) (hp : 1 ≤ d) (hd : d - 1 + 0 ≤ 16) (hd2 : d ≤ 16) (hf : f ≤ fs) (hfs : fs ≤ 8) (ho : o ≤ 32) (hms : ms ≤ 64) : mp_ap l [(0, 0), (2, nI (d - 1)), (1, c + 1)] = mp_ap l ((1, c + 1) :: (mp_L 2 d f o l a c i)) := by
  funext w
  by_cases q0 : w = 0
  · subst q0; simp (disch := omega) only [mp_L, mp_B, mp_ap, pk_us, pk_un, h0]
  by_cases q1 : w = 1
  · subst q1; simp (disch := omega) only [mp_L, mp_B, mp_ap, pk_us, pk_un, h0]
  by_cases q2 : w = 2
  · subst q2; simp (disch := omega) only [mp_L, mp_B, mp_ap, pk_us, pk_un, h0]
  simp (disch := omega) only [mp_L, mp_B, mp_ap, pk_us, pk_un]
theorem mp_v3 (h2 : l 2 = nI d) (h3 : l 3 = nI f) (h5 : l 5 = nI o) (hp : 1 ≤ d) (hd : d - 1 + 2 ≤ 16) (hd2 : d ≤ 16) (hf : f ≤ fs) (hfs : fs ≤ 8) (ho : o ≤ 32) (hms : ms ≤ 64) : mp_V l (mp_ap l ((1, e) :: (mp_L 3 d f o l a c i))) (mp_L 3 d f o l a c i) 3 (d + 1) fs ms := by
  refine ⟨?_, ⟨f, by omega, ?_⟩, ⟨o, by omega, ?_⟩, Or.inl ?_, Or.inl ?_, fun w hw => ?_, ?_⟩
  · simp (disch := omega) only [mp_L, mp_B, mp_ap, pk_us, pk_un]
  · simp (disch := omega) only [mp_L, mp_B, mp_ap, pk_us, pk_un]; exact h3
  · simp (disch := omega) only [mp_L, mp_B, mp_ap, pk_us, pk_un]; exact h5
  · simp (disch := omega) only [mp_L, mp_B, mp_ap, pk_us, pk_un]
  · simp (disch := omega) only [mp_L, mp_B, mp_ap, pk_us, pk_un]
  · simp (disch := omega) only [mp_L, mp_B, mp_ap, pk_us, pk_un]
  · simp only [mp_L, mp_B, List.forall_mem_cons, List.not_mem_nil, false_implies, implies_true, and_true] <;> omega
theorem mp_e3 (h0 : l 0 = 0) (h2 : l 2 = nI d) (hp : 1 ≤ d) (hd : d - 1 + 2 ≤ 16) (hd2 : d ≤ 16) (hf : f ≤ fs) (hfs : fs ≤ 8) (ho : o ≤ 32) (hms : ms ≤ 64) : mp_ap l [(0, 0), (8 + (d - 1), l (8 + (d - 1))), (8 + d, l (8 + (d - 1))), (2, nI (d + 1)), (1, c + 1)] = mp_ap l ((1, c + 1) :: (mp_L 3 d f o l a c i)) := by
  funext w
  by_cases q0 : w = 0
  · subst q0; simp (disch := omega) only [mp_L, mp_B, mp_ap, pk_us, pk_un, h0]
  by_cases q1 : w = 1
  · subst q1; simp (disch := omega) only [mp_L, mp_B, mp_ap, pk_us, pk_un, h0]
  by_cases q2 : w = 2
  · subst q2; simp (disch := omega) only [mp_L, mp_B, mp_ap, pk_us, pk_un, h0]
  by_cases q3 : w = 8 + (d - 1)
  · subst q3; simp (disch := omega) only [mp_L, mp_B, mp_ap, pk_us, pk_un, h0]
  by_cases q4 : w = 8 + d
  · subst q4; simp (disch := omega) only [mp_L, mp_B, mp_ap, pk_us, pk_un, h0]
  simp (disch := omega) only [mp_L, mp_B, mp_ap, pk_us, pk_un]
theorem mp_v4 (h2 : l 2 = nI d) (h3 : l 3 = nI f) (h5 : l 5 = nI o) (hp : 2 ≤ d) (hd : d - 2 + 2 ≤ 16) (hd2 : d ≤ 16) (hf : f ≤ fs) (hfs : fs ≤ 8) (ho : o ≤ 32) (hms : ms ≤ 64) : mp_V l (mp_ap l ((1, e) :: (mp_L 4 d f o l a c i))) (mp_L 4 d f o l a c i) 4 (d) fs ms := by
  refine ⟨?_, ⟨f, by omega, ?_⟩, ⟨o, by omega, ?_⟩, Or.inl ?_, Or.inl ?_, fun w hw => ?_, ?_⟩
  · simp (disch := omega) only [mp_L, mp_B, mp_ap, pk_us, pk_un]
  · simp (disch := omega) only [mp_L, mp_B, mp_ap, pk_us, pk_un]; exact h3
  · simp (disch := omega) only [mp_L, mp_B, mp_ap, pk_us, pk_un]; exact h5
  · simp (disch := omega) only [mp_L, mp_B, mp_ap, pk_us, pk_un]
  · simp (disch := omega) only [mp_L, mp_B, mp_ap, pk_us, pk_un]
  · simp (disch := omega) only [mp_L, mp_B, mp_ap, pk_us, pk_un]
  · simp only [mp_L, mp_B, List.forall_mem_cons, List.not_mem_nil, false_implies, implies_true, and_true] <;> omega
theorem mp_e4 (h0 : l 0 = 0) (h2 : l 2 = nI d) (hp : 2 ≤ d) (hd : d - 2 + 2 ≤ 16) (hd2 : d ≤ 16) (hf : f ≤ fs) (hfs : fs ≤ 8) (ho : o ≤ 32) (hms : ms ≤ 64) : mp_ap l [(0, 0), (8 + (d - 2), l (8 + (d - 1))), (8 + (d - 1), l (8 + (d - 2))), (2, nI (d)), (1, c + 1)] = mp_ap l ((1, c + 1) :: (mp_L 4 d f o l a c i)) := by
  funext w
  by_cases q0 : w = 0
  · subst q0; simp (disch := omega) only [mp_L, mp_B, mp_ap, pk_us, pk_un, h0]
  by_cases q1 : w = 1
  · subst q1; simp (disch := omega) only [mp_L, mp_B, mp_ap, pk_us, pk_un, h0]
  by_cases q2 : w = 2
  · subst q2; simp (disch := omega) only [mp_L, mp_B, mp_ap, pk_us, pk_un, h0]
  by_cases q3 : w = 8 + (d - 2)
  · subst q3; simp (disch := omega) only [mp_L, mp_B, mp_ap, pk_us, pk_un, h0]
  by_cases q4 : w = 8 + (d - 1)
  · subst q4; simp (disch := omega) only [mp_L, mp_B, mp_ap, pk_us, pk_un, h0]
  simp (disch := omega) only [mp_L, mp_B, mp_ap, pk_us, pk_un]
theorem mp_v5 (h2 : l 2 = nI d) (h3 : l 3 = nI f) (h5 : l 5 = nI o) (hp : 2 ≤ d) (hd : d - 2 + 1 ≤ 16) (hd2 : d ≤ 16) (hf : f ≤ fs) (hfs : fs ≤ 8) (ho : o ≤ 32) (hms : ms ≤ 64) : mp_V l (mp_ap l ((1, e) :: (mp_L 5 d f o l a c i))) (mp_L 5 d f o l a c i) 5 (d - 1) fs ms := by
  refine ⟨?_, ⟨f, by omega, ?_⟩, ⟨o, by omega, ?_⟩, Or.inl ?_, Or.inl ?_, fun w hw => ?_, ?_⟩
  · simp (disch := omega) only [mp_L, mp_B, mp_ap, pk_us, pk_un]
  · simp (disch := omega) only [mp_L, mp_B, mp_ap, pk_us, pk_un]; exact h3
  · simp (disch := omega) only [mp_L, mp_B, mp_ap, pk_us, pk_un]; exact h5
  · simp (disch := omega) only [mp_L, mp_B, mp_ap, pk_us, pk_un]
  · simp (disch := omega) only [mp_L, mp_B, mp_ap, pk_us, pk_un]
  · simp (disch := omega) only [mp_L, mp_B, mp_ap, pk_us, pk_un]
  · simp only [mp_L, mp_B, List.forall_mem_cons, List.not_mem_nil, false_implies, implies_true, and_true] <;> omega
theorem mp_e5 (h0 : l 0 = 0) (h2 : l 2 = nI d) (hp : 2 ≤ d) (hd : d - 2 + 1 ≤ 16) (hd2 : d ≤ 16) (hf : f ≤ fs) (hfs : fs ≤ 8) (ho : o ≤ 32) (hms : ms ≤ 64) : mp_ap l [(0, 0), (8 + (d - 2), l (8 + (d - 2)) + l (8 + (d - 1))), (2, nI (d - 1)), (1, c + 1)] = mp_ap l ((1, c + 1) :: (mp_L 5 d f o l a c i)) := by
  funext w
  by_cases q0 : w = 0
  · subst q0; simp (disch := omega) only [mp_L, mp_B, mp_ap, pk_us, pk_un, h0]
  by_cases q1 : w = 1
  · subst q1; simp (disch := omega) only [mp_L, mp_B, mp_ap, pk_us, pk_un, h0]
  by_cases q2 : w = 2
  · subst q2; simp (disch := omega) only [mp_L, mp_B, mp_ap, pk_us, pk_un, h0]
  by_cases q3 : w = 8 + (d - 2)
  · subst q3; simp (disch := omega) only [mp_L, mp_B, mp_ap, pk_us, pk_un, h0]
  simp (disch := omega) only [mp_L, mp_B, mp_ap, pk_us, pk_un]
theorem mp_v6 (h2 : l 2 = nI d) (h3 : l 3 = nI f) (h5 : l 5 = nI o) (hp : 2 ≤ d) (hd : d - 2 + 1 ≤ 16) (hd2 : d ≤ 16) (hf : f ≤ fs) (hfs : fs ≤ 8) (ho : o ≤ 32) (hms : ms ≤ 64) : mp_V l (mp_ap l ((1, e) :: (mp_L 6 d f o l a c i))) (mp_L 6 d f o l a c i) 6 (d - 1) fs ms := by
  refine ⟨?_, ⟨f, by omega, ?_⟩, ⟨o, by omega, ?_⟩, Or.inl ?_, Or.inl ?_, fun w hw => ?_, ?_⟩
  · simp (disch := omega) only [mp_L, mp_B, mp_ap, pk_us, pk_un]
  · simp (disch := omega) only [mp_L, mp_B, mp_ap, pk_us, pk_un]; exact h3
  · simp (disch := omega) only [mp_L, mp_B, mp_ap, pk_us, pk_un]; exact h5
  · simp (disch := omega) only [mp_L, mp_B, mp_ap, pk_us, pk_un]
  · simp (disch := omega) only [mp_L, mp_B, mp_ap, pk_us, pk_un]
  · simp (disch := omega) only [mp_L, mp_B, mp_ap, pk_us, pk_un]
  · simp only [mp_L, mp_B, List.forall_mem_cons, List.not_mem_nil, false_implies, implies_true, and_true] <;> omega
theorem mp_e6 (h0 : l 0 = 0) (h2 : l 2 = nI d) (hp : 2 ≤ d) (hd : d - 2 + 1 ≤ 16) (hd2 : d ≤ 16) (hf : f ≤ fs) (hfs : fs ≤ 8) (ho : o ≤ 32) (hms : ms ≤ 64) : mp_ap l [(0, 0), (8 + (d - 2), l (8 + (d - 2)) - l (8 + (d - 1))), (2, nI (d - 1)), (1, c + 1)] = mp_ap l ((1, c + 1) :: (mp_L 6 d f o l a c i)) := by
  funext w
  by_cases q0 : w = 0
  · subst q0; simp (disch := omega) only [mp_L, mp_B, mp_ap, pk_us, pk_un, h0]
  by_cases q1 : w = 1
  · subst q1; simp (disch := omega) only [mp_L, mp_B, mp_ap, pk_us, pk_un, h0]
  by_cases q2 : w = 2
  · subst q2; simp (disch := omega) only [mp_L, mp_B, mp_ap, pk_us, pk_un, h0]
  by_cases q3 : w = 8 + (d - 2)
  · subst q3; simp (disch := omega) only [mp_L, mp_B, mp_ap, pk_us, pk_un, h0]
  simp (disch := omega) only [mp_L, mp_B, mp_ap, pk_us, pk_un]
theorem mp_v7 (h2 : l 2 = nI d) (h3 : l 3 = nI f) (h5 : l 5 = nI o) (hp : 2 ≤ d) (hd : d - 2 + 1 ≤ 16) (hd2 : d ≤ 16) (hf : f ≤ fs) (hfs : fs ≤ 8) (ho : o ≤ 32) (hms : ms ≤ 64) : mp_V l (mp_ap l ((1, e) :: (mp_L 7 d f o l a c i))) (mp_L 7 d f o l a c i) 7 (d - 1) fs ms := by
  refine ⟨?_, ⟨f, by omega, ?_⟩, ⟨o, by omega, ?_⟩, Or.inl ?_, Or.inl ?_, fun w hw => ?_, ?_⟩
  · simp (disch := omega) only [mp_L, mp_B, mp_ap, pk_us, pk_un]
  · simp (disch := omega) only [mp_L, mp_B, mp_ap, pk_us, pk_un]; exact h3
  · simp (disch := omega) only [mp_L, mp_B, mp_ap, pk_us, pk_un]; exact h5
  · simp (disch := omega) only [mp_L, mp_B, mp_ap, pk_us, pk_un]
  · simp (disch := omega) only [mp_L, mp_B, mp_ap, pk_us, pk_un]
  · simp (disch := omega) only [mp_L, mp_B, mp_ap, pk_us, pk_un]
  · simp only [mp_L, mp_B, List.forall_mem_cons, List.not_mem_nil, false_implies, implies_true, and_true] <;> omega
theorem mp_e7 (h0 : l 0 = 0) (h2 : l 2 = nI d) (hp : 2 ≤ d) (hd : d - 2 + 1 ≤ 16) (hd2 : d ≤ 16) (hf : f ≤ fs) (hfs : fs ≤ 8) (ho : o ≤ 32) (hms : ms ≤ 64) : mp_ap l [(0, 0), (8 + (d - 2), l (8 + (d - 2)) * l (8 + (d - 1))), (2, nI (d - 1)), (1, c + 1)] = mp_ap l ((1, c + 1) :: (mp_L 7 d f o l a c i)) := by
  funext w
  by_cases q0 : w = 0
  · subst q0; simp (disch := omega) only [mp_L, mp_B, mp_ap, pk_us, pk_un, h0]
  by_cases q1 : w = 1
  · subst q1; simp (disch := omega) only [mp_L, mp_B, mp_ap, pk_us, pk_un, h0]
  by_cases q2 : w = 2
  · subst q2; simp (disch := omega) only [mp_L, mp_B, mp_ap, pk_us, pk_un, h0]
  by_cases q3 : w = 8 + (d - 2)
  · subst q3; simp (disch := omega) only [mp_L, mp_B, mp_ap, pk_us, pk_un, h0]
  simp (disch := omega) only [mp_L, mp_B, mp_ap, pk_us, pk_un]
theorem mp_v8 (h2 : l 2 = nI d) (h3 : l 3 = nI f) (h5 : l 5 = nI o) (hp : 2 ≤ d) (hd : d - 2 + 1 ≤ 16) (hd2 : d ≤ 16) (hf : f ≤ fs) (hfs : fs ≤ 8) (ho : o ≤ 32) (hms : ms ≤ 64) : mp_V l (mp_ap l ((1, e) :: (mp_L 8 d f o l a c i))) (mp_L 8 d f o l a c i) 8 (d - 1) fs ms := by
  refine ⟨?_, ⟨f, by omega, ?_⟩, ⟨o, by omega, ?_⟩, Or.inl ?_, Or.inl ?_, fun w hw => ?_, ?_⟩
  · simp (disch := omega) only [mp_L, mp_B, mp_ap, pk_us, pk_un]
  · simp (disch := omega) only [mp_L, mp_B, mp_ap, pk_us, pk_un]; exact h3
  · simp (disch := omega) only [mp_L, mp_B, mp_ap, pk_us, pk_un]; exact h5
  · simp (disch := omega) only [mp_L, mp_B, mp_ap, pk_us, pk_un]
  · simp (disch := omega) only [mp_L, mp_B, mp_ap, pk_us, pk_un]
  · simp (disch := omega) only [mp_L, mp_B, mp_ap, pk_us, pk_un]
  · simp only [mp_L, mp_B, List.forall_mem_cons, List.not_mem_nil, false_implies, implies_true, and_true] <;> omega
theorem mp_e8 (h0 : l 0 = 0) (h2 : l 2 = nI d) (hp : 2 ≤ d) (hd : d - 2 + 1 ≤ 16) (hd2 : d ≤ 16) (hf : f ≤ fs) (hfs : fs ≤ 8) (ho : o ≤ 32) (hms : ms ≤ 64) : mp_ap l [(0, 0), (8 + (d - 2), if l (8 + (d - 1)) ≤ l (8 + (d - 2)) then 0 else 1), (2, nI (d - 1)), (1, c + 1)] = mp_ap l ((1, c + 1) :: (mp_L 8 d f o l a c i)) := by
  funext w
  by_cases q0 : w = 0
  · subst q0; simp (disch := omega) only [mp_L, mp_B, mp_ap, pk_us, pk_un, h0]
  by_cases q1 : w = 1
  · subst q1; simp (disch := omega) only [mp_L, mp_B, mp_ap, pk_us, pk_un, h0]
  by_cases q2 : w = 2
  · subst q2; simp (disch := omega) only [mp_L, mp_B, mp_ap, pk_us, pk_un, h0]
  by_cases q3 : w = 8 + (d - 2)
  · subst q3; simp (disch := omega) only [mp_L, mp_B, mp_ap, pk_us, pk_un, h0]
  simp (disch := omega) only [mp_L, mp_B, mp_ap, pk_us, pk_un]
theorem mp_v9 (h2 : l 2 = nI d) (h3 : l 3 = nI f) (h5 : l 5 = nI o) (hd : d - 0 + 1 ≤ 16) (hd2 : d ≤ 16) (hf : f ≤ fs) (hfs : fs ≤ 8) (ho : o ≤ 32) (hms : ms ≤ 64) (hx : x < ms) (ha : a = nI x) : mp_V l (mp_ap l ((1, e) :: (mp_L 9 d f o l a c i))) (mp_L 9 d f o l a c i) 9 (d + 1) fs ms := by
  have hc : a.toNatClampNeg = x := by rw [ha]; exact nI_clamp (by omega)
  refine ⟨?_, ⟨f, by omega, ?_⟩, ⟨o, by omega, ?_⟩, Or.inl ?_, Or.inl ?_, fun w hw => ?_, ?_⟩
  · simp (disch := omega) only [mp_L, mp_B, mp_ap, pk_us, pk_un]
  · simp (disch := omega) only [mp_L, mp_B, mp_ap, pk_us, pk_un]; exact h3
  · simp (disch := omega) only [mp_L, mp_B, mp_ap, pk_us, pk_un]; exact h5
  · simp (disch := omega) only [mp_L, mp_B, mp_ap, pk_us, pk_un]
  · simp (disch := omega) only [mp_L, mp_B, mp_ap, pk_us, pk_un]
  · simp (disch := omega) only [mp_L, mp_B, mp_ap, pk_us, pk_un]
  · simp only [mp_L, mp_B, List.forall_mem_cons, List.not_mem_nil, false_implies, implies_true, and_true] <;> omega
theorem mp_e9 (h0 : l 0 = 0) (h2 : l 2 = nI d) (hd : d - 0 + 1 ≤ 16) (hd2 : d ≤ 16) (hf : f ≤ fs) (hfs : fs ≤ 8) (ho : o ≤ 32) (hms : ms ≤ 64) (hx : x < ms) (ha : a = nI x) : mp_ap l [(0, 0), (8 + d, l (32 + a.toNatClampNeg)), (2, nI (d + 1)), (1, c + 1)] = mp_ap l ((1, c + 1) :: (mp_L 9 d f o l a c i)) := by
  have hc : a.toNatClampNeg = x := by rw [ha]; exact nI_clamp (by omega)
  funext w
  by_cases q0 : w = 0
  · subst q0; simp (disch := omega) only [mp_L, mp_B, mp_ap, pk_us, pk_un, h0]
  by_cases q1 : w = 1
  · subst q1; simp (disch := omega) only [mp_L, mp_B, mp_ap, pk_us, pk_un, h0]
  by_cases q2 : w = 2
  · subst q2; simp (disch := omega) only [mp_L, mp_B, mp_ap, pk_us, pk_un, h0]
  by_cases q3 : w = 8 + d
  · subst q3; simp (disch := omega) only [mp_L, mp_B, mp_ap, pk_us, pk_un, h0]
  simp (disch := omega) only [mp_L, mp_B, mp_ap, pk_us, pk_un]
theorem mp_v10 (h2 : l 2 = nI d) (h3 : l 3 = nI f) (h5 : l 5 = nI o) (hp : 1 ≤ d) (hd : d - 1 + 0 ≤ 16) (hd2 : d ≤ 16) (hf : f ≤ fs) (hfs : fs ≤ 8) (ho : o ≤ 32) (hms : ms ≤ 64) (hx : x < ms) (ha : a = nI x) : mp_V l (mp_ap l ((1, e) :: (mp_L 10 d f o l a c i))) (mp_L 10 d f o l a c i) 10 (d - 1) fs ms := by
  have hc : a.toNatClampNeg = x := by rw [ha]; exact nI_clamp (by omega)
  refine ⟨?_, ⟨f, by omega, ?_⟩, ⟨o, by omega, ?_⟩, Or.inr ⟨x, l (8 + (d - 1)), hx, ?_, ?_⟩, Or.inl ?_, fun w hw => ?_, ?_⟩
  · simp (disch := omega) only [mp_L, mp_B, mp_ap, pk_us, pk_un]
  · simp (disch := omega) only [mp_L, mp_B, mp_ap, pk_us, pk_un]; exact h3
  · simp (disch := omega) only [mp_L, mp_B, mp_ap, pk_us, pk_un]; exact h5
  · simp (disch := omega) only [mp_L, mp_B, mp_ap, pk_us, pk_un]; rw [ha]; exact nI_1 x
  · simp only [mp_L, hc, List.mem_cons, Prod.mk.injEq, true_and, or_true, true_or]
  · simp (disch := omega) only [mp_L, mp_B, mp_ap, pk_us, pk_un]
  · simp (disch := omega) only [mp_L, mp_B, mp_ap, pk_us, pk_un]
  · simp only [mp_L, mp_B, List.forall_mem_cons, List.not_mem_nil, false_implies, implies_true, and_true] <;> omega
theorem mp_e10 (h0 : l 0 = 0) (h2 : l 2 = nI d) (hp : 1 ≤ d) (hd : d - 1 + 0 ≤ 16) (hd2 : d ≤ 16) (hf : f ≤ fs) (hfs : fs ≤ 8) (ho : o ≤ 32) (hms : ms ≤ 64) (hx : x < ms) (ha : a = nI x) : mp_ap l [(0, 0), (6, a + 1), (7, l (32 + a.toNatClampNeg)), (32 + a.toNatClampNeg, l (8 + (d - 1))), (2, nI (d - 1)), (1, c + 1)] = mp_ap l ((1, c + 1) :: (mp_L 10 d f o l a c i)) := by
  have hc : a.toNatClampNeg = x := by rw [ha]; exact nI_clamp (by omega)
  funext w
  by_cases q0 : w = 0
  · subst q0; simp (disch := omega) only [mp_L, mp_B, mp_ap, pk_us, pk_un, h0]
  by_cases q1 : w = 1
  · subst q1; simp (disch := omega) only [mp_L, mp_B, mp_ap, pk_us, pk_un, h0]
  by_cases q2 : w = 2
  · subst q2; simp (disch := omega) only [mp_L, mp_B, mp_ap, pk_us, pk_un, h0]
  by_cases q3 : w = 6
  · subst q3; simp (disch := omega) only [mp_L, mp_B, mp_ap, pk_us, pk_un, h0]
  by_cases q4 : w = 7
  · subst q4; simp (disch := omega) only [mp_L, mp_B, mp_ap, pk_us, pk_un, h0]
  by_cases q5 : w = 32 + a.toNatClampNeg
  · subst q5; simp (disch := omega) only [mp_L, mp_B, mp_ap, pk_us, pk_un, h0]
  simp (disch := omega) only [mp_L, mp_B, mp_ap, pk_us, pk_un]
theorem mp_v11 (h2 : l 2 = nI d) (h3 : l 3 = nI f) (h5 : l 5 = nI o) (hp : 1 ≤ d) (hd : d - 1 + 1 ≤ 16) (hd2 : d ≤ 16) (hf : f ≤ fs) (hfs : fs ≤ 8) (ho : o ≤ 32) (hms : ms ≤ 64) (hx : x < ms) (ha : l (8 + (d - 1)) = nI x) : mp_V l (mp_ap l ((1, e) :: (mp_L 11 d f o l a c i))) (mp_L 11 d f o l a c i) 11 (d) fs ms := by
  have hc : (l (8 + (d - 1))).toNatClampNeg = x := by rw [ha]; exact nI_clamp (by omega)
  refine ⟨?_, ⟨f, by omega, ?_⟩, ⟨o, by omega, ?_⟩, Or.inl ?_, Or.inl ?_, fun w hw => ?_, ?_⟩
  · simp (disch := omega) only [mp_L, mp_B, mp_ap, pk_us, pk_un]
  · simp (disch := omega) only [mp_L, mp_B, mp_ap, pk_us, pk_un]; exact h3
  · simp (disch := omega) only [mp_L, mp_B, mp_ap, pk_us, pk_un]; exact h5
  · simp (disch := omega) only [mp_L, mp_B, mp_ap, pk_us, pk_un]
  · simp (disch := omega) only [mp_L, mp_B, mp_ap, pk_us, pk_un]
  · simp (disch := omega) only [mp_L, mp_B, mp_ap, pk_us, pk_un]
  · simp only [mp_L, mp_B, List.forall_mem_cons, List.not_mem_nil, false_implies, implies_true, and_true] <;> omega
theorem mp_e11 (h0 : l 0 = 0) (h2 : l 2 = nI d) (hp : 1 ≤ d) (hd : d - 1 + 1 ≤ 16) (hd2 : d ≤ 16) (hf : f ≤ fs) (hfs : fs ≤ 8) (ho : o ≤ 32) (hms : ms ≤ 64) (hx : x < ms) (ha : l (8 + (d - 1)) = nI x) : mp_ap l [(0, 0), (8 + (d - 1), l (32 + (l (8 + (d - 1))).toNatClampNeg)), (2, nI (d)), (1, c + 1)] = mp_ap l ((1, c + 1) :: (mp_L 11 d f o l a c i)) := by
  have hc : (l (8 + (d - 1))).toNatClampNeg = x := by rw [ha]; exact nI_clamp (by omega)
  funext w
  by_cases q0 : w = 0
  · subst q0; simp (disch := omega) only [mp_L, mp_B, mp_ap, pk_us, pk_un, h0]
  by_cases q1 : w = 1
  · subst q1; simp (disch := omega) only [mp_L, mp_B, mp_ap, pk_us, pk_un, h0]
  by_cases q2 : w = 2
  · subst q2; simp (disch := omega) only [mp_L, mp_B, mp_ap, pk_us, pk_un, h0]
  by_cases q3 : w = 8 + (d - 1)
  · subst q3; simp (disch := omega) only [mp_L, mp_B, mp_ap, pk_us, pk_un, h0]
  simp (disch := omega) only [mp_L, mp_B, mp_ap, pk_us, pk_un]
theorem mp_v12 (h2 : l 2 = nI d) (h3 : l 3 = nI f) (h5 : l 5 = nI o) (hp : 2 ≤ d) (hd : d - 2 + 0 ≤ 16) (hd2 : d ≤ 16) (hf : f ≤ fs) (hfs : fs ≤ 8) (ho : o ≤ 32) (hms : ms ≤ 64) (hx : x < ms) (ha : l (8 + (d - 1)) = nI x) : mp_V l (mp_ap l ((1, e) :: (mp_L 12 d f o l a c i))) (mp_L 12 d f o l a c i) 12 (d - 2) fs ms := by
  have hc : (l (8 + (d - 1))).toNatClampNeg = x := by rw [ha]; exact nI_clamp (by omega)
  refine ⟨?_, ⟨f, by omega, ?_⟩, ⟨o, by omega, ?_⟩, Or.inr ⟨x, l (8 + (d - 2)), hx, ?_, ?_⟩, Or.inl ?_, fun w hw => ?_, ?_⟩
  · simp (disch := omega) only [mp_L, mp_B, mp_ap, pk_us, pk_un]
  · simp (disch := omega) only [mp_L, mp_B, mp_ap, pk_us, pk_un]; exact h3
  · simp (disch := omega) only [mp_L, mp_B, mp_ap, pk_us, pk_un]; exact h5
  · simp (disch := omega) only [mp_L, mp_B, mp_ap, pk_us, pk_un]; rw [ha]; exact nI_1 x
  · simp only [mp_L, hc, List.mem_cons, Prod.mk.injEq, true_and, or_true, true_or]
  · simp (disch := omega) only [mp_L, mp_B, mp_ap, pk_us, pk_un]
  · simp (disch := omega) only [mp_L, mp_B, mp_ap, pk_us, pk_un]
  · simp only [mp_L, mp_B, List.forall_mem_cons, List.not_mem_nil, false_implies, implies_true, and_true] <;> omega
theorem mp_e12 (h0 : l 0 = 0) (h2 : l 2 = nI d) (hp : 2 ≤ d) (hd : d - 2 + 0 ≤ 16) (hd2 : d ≤ 16) (hf : f ≤ fs) (hfs : fs ≤ 8) (ho : o ≤ 32) (hms : ms ≤ 64) (hx : x < ms) (ha : l (8 + (d - 1)) = nI x) : mp_ap l [(0, 0), (6, l (8 + (d - 1)) + 1), (7, l (32 + (l (8 + (d - 1))).toNatClampNeg)), (32 + (l (8 + (d - 1))).toNatClampNeg, l (8 + (d - 2))), (2, nI (d - 2)), (1, c + 1)] = mp_ap l ((1, c + 1) :: (mp_L 12 d f o l a c i)) := by
  have hc : (l (8 + (d - 1))).toNatClampNeg = x := by rw [ha]; exact nI_clamp (by omega)
  funext w
  by_cases q0 : w = 0
  · subst q0; simp (disch := omega) only [mp_L, mp_B, mp_ap, pk_us, pk_un, h0]
  by_cases q1 : w = 1
  · subst q1; simp (disch := omega) only [mp_L, mp_B, mp_ap, pk_us, pk_un, h0]
  by_cases q2 : w = 2
  · subst q2; simp (disch := omega) only [mp_L, mp_B, mp_ap, pk_us, pk_un, h0]
  by_cases q3 : w = 6
  · subst q3; simp (disch := omega) only [mp_L, mp_B, mp_ap, pk_us, pk_un, h0]
  by_cases q4 : w = 7
  · subst q4; simp (disch := omega) only [mp_L, mp_B, mp_ap, pk_us, pk_un, h0]
  by_cases q5 : w = 32 + (l (8 + (d - 1))).toNatClampNeg
  · subst q5; simp (disch := omega) only [mp_L, mp_B, mp_ap, pk_us, pk_un, h0]
  simp (disch := omega) only [mp_L, mp_B, mp_ap, pk_us, pk_un]
theorem mp_v13 (h2 : l 2 = nI d) (h3 : l 3 = nI f) (h5 : l 5 = nI o) (hd : d - 0 + 0 ≤ 16) (hd2 : d ≤ 16) (hf : f ≤ fs) (hfs : fs ≤ 8) (ho : o ≤ 32) (hms : ms ≤ 64) : mp_V l (mp_ap l ((1, e) :: (mp_L 13 d f o l a c i))) (mp_L 13 d f o l a c i) 13 (d) fs ms := by
  refine ⟨?_, ⟨f, by omega, ?_⟩, ⟨o, by omega, ?_⟩, Or.inl ?_, Or.inl ?_, fun w hw => ?_, ?_⟩
  · simp (disch := omega) only [mp_L, mp_B, mp_ap, pk_us, pk_un]; exact h2
  · simp (disch := omega) only [mp_L, mp_B, mp_ap, pk_us, pk_un]; exact h3
  · simp (disch := omega) only [mp_L, mp_B, mp_ap, pk_us, pk_un]; exact h5
  · simp (disch := omega) only [mp_L, mp_B, mp_ap, pk_us, pk_un]
  · simp (disch := omega) only [mp_L, mp_B, mp_ap, pk_us, pk_un]
  · simp (disch := omega) only [mp_L, mp_B, mp_ap, pk_us, pk_un]
  · simp only [mp_L, mp_B, List.forall_mem_cons, List.not_mem_nil, false_implies, implies_true, and_true] <;> omega
theorem mp_e13 (h0 : l 0 = 0) (h2 : l 2 = nI d) (hd : d - 0 + 0 ≤ 16) (hd2 : d ≤ 16) (hf : f ≤ fs) (hfs : fs ≤ 8) (ho : o ≤ 32) (hms : ms ≤ 64) : mp_ap l [(0, 0), (2, nI (d)), (1, a)] = mp_ap l ((1, c + 1) :: (mp_L 13 d f o l a c i)) := by
  funext w
  by_cases q0 : w = 0
  · subst q0; simp (disch := omega) only [mp_L, mp_B, mp_ap, pk_us, pk_un, h0, h2]
  by_cases q1 : w = 1
  · subst q1; simp (disch := omega) only [mp_L, mp_B, mp_ap, pk_us, pk_un, h0, h2]
  by_cases q2 : w = 2
  · subst q2; simp (disch := omega) only [mp_L, mp_B, mp_ap, pk_us, pk_un, h0, h2]
  simp (disch := omega) only [mp_L, mp_B, mp_ap, pk_us, pk_un]
theorem mp_v15 (h2 : l 2 = nI d) (h3 : l 3 = nI f) (h5 : l 5 = nI o) (hd : d - 0 + 0 ≤ 16) (hd2 : d ≤ 16) (hf : f ≤ fs) (hfs : fs ≤ 8) (ho : o ≤ 32) (hms : ms ≤ 64) (hf2 : f < fs) : mp_V l (mp_ap l ((1, e) :: (mp_L 15 d f o l a c i))) (mp_L 15 d f o l a c i) 15 (d) fs ms := by
  refine ⟨?_, ⟨f + 1, by omega, ?_⟩, ⟨o, by omega, ?_⟩, Or.inl ?_, Or.inl ?_, fun w hw => ?_, ?_⟩
  · simp (disch := omega) only [mp_L, mp_B, mp_ap, pk_us, pk_un]; exact h2
  · simp (disch := omega) only [mp_L, mp_B, mp_ap, pk_us, pk_un]
  · simp (disch := omega) only [mp_L, mp_B, mp_ap, pk_us, pk_un]; exact h5
  · simp (disch := omega) only [mp_L, mp_B, mp_ap, pk_us, pk_un]
  · simp (disch := omega) only [mp_L, mp_B, mp_ap, pk_us, pk_un]
  · simp (disch := omega) only [mp_L, mp_B, mp_ap, pk_us, pk_un]
  · simp only [mp_L, mp_B, List.forall_mem_cons, List.not_mem_nil, false_implies, implies_true, and_true] <;> omega
theorem mp_e15 (h0 : l 0 = 0) (h2 : l 2 = nI d) (hd : d - 0 + 0 ≤ 16) (hd2 : d ≤ 16) (hf : f ≤ fs) (hfs : fs ≤ 8) (ho : o ≤ 32) (hms : ms ≤ 64) (hf2 : f < fs) : mp_ap l [(0, 0), (24 + f, c + 1), (3, nI (f + 1)), (2, nI (d)), (1, a)] = mp_ap l ((1, c + 1) :: (mp_L 15 d f o l a c i)) := by
  funext w
  by_cases q0 : w = 0
  · subst q0; simp (disch := omega) only [mp_L, mp_B, mp_ap, pk_us, pk_un, h0, h2]
  by_cases q1 : w = 1
  · subst q1; simp (disch := omega) only [mp_L, mp_B, mp_ap, pk_us, pk_un, h0, h2]
  by_cases q2 : w = 2
  · subst q2; simp (disch := omega) only [mp_L, mp_B, mp_ap, pk_us, pk_un, h0, h2]
  by_cases q3 : w = 24 + f
  · subst q3; simp (disch := omega) only [mp_L, mp_B, mp_ap, pk_us, pk_un, h0, h2]
  by_cases q4 : w = 3
  · subst q4; simp (disch := omega) only [mp_L, mp_B, mp_ap, pk_us, pk_un, h0, h2]
  simp (disch := omega) only [mp_L, mp_B, mp_ap, pk_us, pk_un]
theorem mp_v16 (h2 : l 2 = nI d) (h3 : l 3 = nI f) (h5 : l 5 = nI o) (hd : d - 0 + 0 ≤ 16) (hd2 : d ≤ 16) (hf : f ≤ fs) (hfs : fs ≤ 8) (ho : o ≤ 32) (hms : ms ≤ 64) (hf2 : 0 < f) : mp_V l (mp_ap l ((1, e) :: (mp_L 16 d f o l a c i))) (mp_L 16 d f o l a c i) 16 (d) fs ms := by
  refine ⟨?_, ⟨f - 1, by omega, ?_⟩, ⟨o, by omega, ?_⟩, Or.inl ?_, Or.inl ?_, fun w hw => ?_, ?_⟩
  · simp (disch := omega) only [mp_L, mp_B, mp_ap, pk_us, pk_un]; exact h2
  · simp (disch := omega) only [mp_L, mp_B, mp_ap, pk_us, pk_un]
  · simp (disch := omega) only [mp_L, mp_B, mp_ap, pk_us, pk_un]; exact h5
  · simp (disch := omega) only [mp_L, mp_B, mp_ap, pk_us, pk_un]
  · simp (disch := omega) only [mp_L, mp_B, mp_ap, pk_us, pk_un]
  · simp (disch := omega) only [mp_L, mp_B, mp_ap, pk_us, pk_un]
  · simp only [mp_L, mp_B, List.forall_mem_cons, List.not_mem_nil, false_implies, implies_true, and_true] <;> omega
theorem mp_e16 (h0 : l 0 = 0) (h2 : l 2 = nI d) (hd : d - 0 + 0 ≤ 16) (hd2 : d ≤ 16) (hf : f ≤ fs) (hfs : fs ≤ 8) (ho : o ≤ 32) (hms : ms ≤ 64) (hf2 : 0 < f) : mp_ap l [(0, 0), (3, nI (f - 1)), (2, nI (d)), (1, l (24 + (f - 1)))] = mp_ap l ((1, c + 1) :: (mp_L 16 d f o l a c i)) := by
  funext w
  by_cases q0 : w = 0
  · subst q0; simp (disch := omega) only [mp_L, mp_B, mp_ap, pk_us, pk_un, h0, h2]
  by_cases q1 : w = 1
  · subst q1; simp (disch := omega) only [mp_L, mp_B, mp_ap, pk_us, pk_un, h0, h2]
  by_cases q2 : w = 2
  · subst q2; simp (disch := omega) only [mp_L, mp_B, mp_ap, pk_us, pk_un, h0, h2]
  by_cases q3 : w = 3
  · subst q3; simp (disch := omega) only [mp_L, mp_B, mp_ap, pk_us, pk_un, h0, h2]
  simp (disch := omega) only [mp_L, mp_B, mp_ap, pk_us, pk_un]
theorem mp_v17 (h2 : l 2 = nI d) (h3 : l 3 = nI f) (h5 : l 5 = nI o) (hd : d - 0 + 1 ≤ 16) (hd2 : d ≤ 16) (hf : f ≤ fs) (hfs : fs ≤ 8) (ho : o ≤ 32) (hms : ms ≤ 64) : mp_V l (mp_ap l ((1, e) :: (mp_L 17 d f o l a c i))) (mp_L 17 d f o l a c i) 17 (d + 1) fs ms := by
  refine ⟨?_, ⟨f, by omega, ?_⟩, ⟨o, by omega, ?_⟩, Or.inl ?_, Or.inr ⟨rfl, ?_⟩, fun w hw => ?_, ?_⟩
  · simp (disch := omega) only [mp_L, mp_B, mp_ap, pk_us, pk_un]
  · simp (disch := omega) only [mp_L, mp_B, mp_ap, pk_us, pk_un]; exact h3
  · simp (disch := omega) only [mp_L, mp_B, mp_ap, pk_us, pk_un]; exact h5
  · simp (disch := omega) only [mp_L, mp_B, mp_ap, pk_us, pk_un]
  · simp (disch := omega) only [mp_L, mp_B, mp_ap, pk_us, pk_un]
  · simp (disch := omega) only [mp_L, mp_B, mp_ap, pk_us, pk_un]
  · simp only [mp_L, mp_B, List.forall_mem_cons, List.not_mem_nil, false_implies, implies_true, and_true] <;> omega
theorem mp_e17 (h0 : l 0 = 0) (h2 : l 2 = nI d) (hd : d - 0 + 1 ≤ 16) (hd2 : d ≤ 16) (hf : f ≤ fs) (hfs : fs ≤ 8) (ho : o ≤ 32) (hms : ms ≤ 64) : mp_ap l [(0, 0), (8 + d, i), (4, l 4 + 1), (2, nI (d + 1)), (1, c + 1)] = mp_ap l ((1, c + 1) :: (mp_L 17 d f o l a c i)) := by
  funext w
  by_cases q0 : w = 0
  · subst q0; simp (disch := omega) only [mp_L, mp_B, mp_ap, pk_us, pk_un, h0]
  by_cases q1 : w = 1
  · subst q1; simp (disch := omega) only [mp_L, mp_B, mp_ap, pk_us, pk_un, h0]
  by_cases q2 : w = 2
  · subst q2; simp (disch := omega) only [mp_L, mp_B, mp_ap, pk_us, pk_un, h0]
  by_cases q3 : w = 8 + d
  · subst q3; simp (disch := omega) only [mp_L, mp_B, mp_ap, pk_us, pk_un, h0]
  by_cases q4 : w = 4
  · subst q4; simp (disch := omega) only [mp_L, mp_B, mp_ap, pk_us, pk_un, h0]
  simp (disch := omega) only [mp_L, mp_B, mp_ap, pk_us, pk_un]
theorem mp_v18 (h2 : l 2 = nI d) (h3 : l 3 = nI f) (h5 : l 5 = nI o) (hp : 1 ≤ d) (hd : d - 1 + 0 ≤ 16) (hd2 : d ≤ 16) (hf : f ≤ fs) (hfs : fs ≤ 8) (ho : o ≤ 32) (hms : ms ≤ 64) (ho2 : o < 32) : mp_V l (mp_ap l ((1, e) :: (mp_L 18 d f o l a c i))) (mp_L 18 d f o l a c i) 18 (d - 1) fs ms := by
  refine ⟨?_, ⟨f, by omega, ?_⟩, ⟨o + 1, by omega, ?_⟩, Or.inl ?_, Or.inl ?_, fun w hw => ?_, ?_⟩
  · simp (disch := omega) only [mp_L, mp_B, mp_ap, pk_us, pk_un]
  · simp (disch := omega) only [mp_L, mp_B, mp_ap, pk_us, pk_un]; exact h3
  · simp (disch := omega) only [mp_L, mp_B, mp_ap, pk_us, pk_un]
  · simp (disch := omega) only [mp_L, mp_B, mp_ap, pk_us, pk_un]
  · simp (disch := omega) only [mp_L, mp_B, mp_ap, pk_us, pk_un]
  · simp (disch := omega) only [mp_L, mp_B, mp_ap, pk_us, pk_un]
  · simp only [mp_L, mp_B, List.forall_mem_cons, List.not_mem_nil, false_implies, implies_true, and_true] <;> omega
theorem mp_e18 (h0 : l 0 = 0) (h2 : l 2 = nI d) (hp : 1 ≤ d) (hd : d - 1 + 0 ≤ 16) (hd2 : d ≤ 16) (hf : f ≤ fs) (hfs : fs ≤ 8) (ho : o ≤ 32) (hms : ms ≤ 64) (ho2 : o < 32) : mp_ap l [(0, 0), (96 + o, l (8 + (d - 1))), (5, nI (o + 1)), (2, nI (d - 1)), (1, c + 1)] = mp_ap l ((1, c + 1) :: (mp_L 18 d f o l a c i)) := by
  funext w
  by_cases q0 : w = 0
  · subst q0; simp (disch := omega) only [mp_L, mp_B, mp_ap, pk_us, pk_un, h0]
  by_cases q1 : w = 1
  · subst q1; simp (disch := omega) only [mp_L, mp_B, mp_ap, pk_us, pk_un, h0]
  by_cases q2 : w = 2
  · subst q2; simp (disch := omega) only [mp_L, mp_B, mp_ap, pk_us, pk_un, h0]
  by_cases q3 : w = 96 + o
  · subst q3; simp (disch := omega) only [mp_L, mp_B, mp_ap, pk_us, pk_un, h0]
  by_cases q4 : w = 5
  · subst q4; simp (disch := omega) only [mp_L, mp_B, mp_ap, pk_us, pk_un, h0]
  simp (disch := omega) only [mp_L, mp_B, mp_ap, pk_us, pk_un]
theorem mp_v14 (h2 : l 2 = nI d) (h3 : l 3 = nI f) (h5 : l 5 = nI o) (hp : 1 ≤ d) (hd : d - 1 + 0 ≤ 16) (hd2 : d ≤ 16) (hf : f ≤ fs) (hfs : fs ≤ 8) (ho : o ≤ 32) (hms : ms ≤ 64) : mp_V l (mp_ap l ((1, e) :: (mp_L 14 d f o l a c i))) (mp_L 14 d f o l a c i) 14 (d - 1) fs ms := by
  by_cases z : l (8 + (d - 1)) = 0
  · have eL : (mp_L 14 d f o l a c i) = [(2, nI (d - 1)), (1, a)] := if_pos z
    rw [eL]
    refine ⟨?_, ⟨f, by omega, ?_⟩, ⟨o, by omega, ?_⟩, Or.inl ?_, Or.inl ?_, fun w hw => ?_, ?_⟩
    · simp (disch := omega) only [mp_L, mp_B, mp_ap, pk_us, pk_un]
    · simp (disch := omega) only [mp_L, mp_B, mp_ap, pk_us, pk_un]; exact h3
    · simp (disch := omega) only [mp_L, mp_B, mp_ap, pk_us, pk_un]; exact h5
    · simp (disch := omega) only [mp_L, mp_B, mp_ap, pk_us, pk_un]
    · simp (disch := omega) only [mp_L, mp_B, mp_ap, pk_us, pk_un]
    · simp (disch := omega) only [mp_L, mp_B, mp_ap, pk_us, pk_un]
    · simp only [List.forall_mem_cons, List.not_mem_nil, false_implies, implies_true, and_true] <;> omega
  · have eL : (mp_L 14 d f o l a c i) = [(2, nI (d - 1))] := if_neg z
    rw [eL]
    refine ⟨?_, ⟨f, by omega, ?_⟩, ⟨o, by omega, ?_⟩, Or.inl ?_, Or.inl ?_, fun w hw => ?_, ?_⟩
    · simp (disch := omega) only [mp_L, mp_B, mp_ap, pk_us, pk_un]
    · simp (disch := omega) only [mp_L, mp_B, mp_ap, pk_us, pk_un]; exact h3
    · simp (disch := omega) only [mp_L, mp_B, mp_ap, pk_us, pk_un]; exact h5
    · simp (disch := omega) only [mp_L, mp_B, mp_ap, pk_us, pk_un]
    · simp (disch := omega) only [mp_L, mp_B, mp_ap, pk_us, pk_un]
    · simp (disch := omega) only [mp_L, mp_B, mp_ap, pk_us, pk_un]
    · simp only [List.forall_mem_cons, List.not_mem_nil, false_implies, implies_true, and_true] <;> omega
theorem mp_e14t (z : l (8 + (d - 1)) = 0) (h0 : l 0 = 0) (hp : 1 ≤ d) (hd : d - 1 + 0 ≤ 16) (hd2 : d ≤ 16) (hf : f ≤ fs) (hfs : fs ≤ 8) (ho : o ≤ 32) (hms : ms ≤ 64) : mp_ap l [(0, 0), (2, nI (d - 1)), (1, a)] = mp_ap l ((1, c + 1) :: (mp_L 14 d f o l a c i)) := by
  have eL : (mp_L 14 d f o l a c i) = [(2, nI (d - 1)), (1, a)] := if_pos z
  rw [eL]
  funext w
  by_cases q0 : w = 0
  · subst q0; simp (disch := omega) only [mp_ap, pk_us, pk_un, h0]
  by_cases q1 : w = 1
  · subst q1; simp (disch := omega) only [mp_ap, pk_us, pk_un, h0]
  by_cases q2 : w = 2
  · subst q2; simp (disch := omega) only [mp_ap, pk_us, pk_un, h0]
  simp (disch := omega) only [mp_L, mp_B, mp_ap, pk_us, pk_un]
theorem mp_e14f (z : ¬ l (8 + (d - 1)) = 0) (h0 : l 0 = 0) (hp : 1 ≤ d) (hd : d - 1 + 0 ≤ 16) (hd2 : d ≤ 16) (hf : f ≤ fs) (hfs : fs ≤ 8) (ho : o ≤ 32) (hms : ms ≤ 64) : mp_ap l [(0, 0), (2, nI (d - 1)), (1, c + 1)] = mp_ap l ((1, c + 1) :: (mp_L 14 d f o l a c i)) := by
  have eL : (mp_L 14 d f o l a c i) = [(2, nI (d - 1))] := if_neg z
  rw [eL]
  funext w
  by_cases q0 : w = 0
  · subst q0; simp (disch := omega) only [mp_ap, pk_us, pk_un, h0]
  by_cases q1 : w = 1
  · subst q1; simp (disch := omega) only [mp_ap, pk_us, pk_un, h0]
  by_cases q2 : w = 2
  · subst q2; simp (disch := omega) only [mp_ap, pk_us, pk_un, h0]
  simp (disch := omega) only [mp_L, mp_B, mp_ap, pk_us, pk_un]
end ZE
theorem zk_19 : ∀ k, k ≤ 18 → (k = 0 ∧ mp_pops k = 0 ∧ mp_push k = 0) ∨ (k = 1 ∧ mp_pops k = 0 ∧ mp_push k = 1) ∨ (k = 2 ∧ mp_pops k = 1 ∧ mp_push k = 0) ∨ (k = 3 ∧ mp_pops k = 1 ∧ mp_push k = 2) ∨ (k = 4 ∧ mp_pops k = 2 ∧ mp_push k = 2) ∨ (k = 5 ∧ mp_pops k = 2 ∧ mp_push k = 1) ∨ (k = 6 ∧ mp_pops k = 2 ∧ mp_push k = 1) ∨ (k = 7 ∧ mp_pops k = 2 ∧ mp_push k = 1) ∨ (k = 8 ∧ mp_pops k = 2 ∧ mp_push k = 1) ∨ (k = 9 ∧ mp_pops k = 0 ∧ mp_push k = 1) ∨ (k = 10 ∧ mp_pops k = 1 ∧ mp_push k = 0) ∨ (k = 11 ∧ mp_pops k = 1 ∧ mp_push k = 1) ∨ (k = 12 ∧ mp_pops k = 2 ∧ mp_push k = 0) ∨ (k = 13 ∧ mp_pops k = 0 ∧ mp_push k = 0) ∨ (k = 14 ∧ mp_pops k = 1 ∧ mp_push k = 0) ∨ (k = 15 ∧ mp_pops k = 0 ∧ mp_push k = 0) ∨ (k = 16 ∧ mp_pops k = 0 ∧ mp_push k = 0) ∨ (k = 17 ∧ mp_pops k = 0 ∧ mp_push k = 1) ∨ (k = 18 ∧ mp_pops k = 1 ∧ mp_push k = 0) := by
  intro k hk
  rcases (by omega : k = 0 ∨ k = 1 ∨ k = 2 ∨ k = 3 ∨ k = 4 ∨ k = 5 ∨ k = 6 ∨ k = 7 ∨ k = 8 ∨ k = 9 ∨ k = 10 ∨ k = 11 ∨ k = 12 ∨ k = 13 ∨ k = 14 ∨ k = 15 ∨ k = 16 ∨ k = 17 ∨ k = 18) with rfl | rfl | rfl | rfl | rfl | rfl | rfl | rfl | rfl | rfl | rfl | rfl | rfl | rfl | rfl | rfl | rfl | rfl | rfl
  · exact Or.inl ⟨rfl, rfl, rfl⟩
  · exact Or.inr (Or.inl ⟨rfl, rfl, rfl⟩)
  · exact Or.inr (Or.inr (Or.inl ⟨rfl, rfl, rfl⟩))
  · exact Or.inr (Or.inr (Or.inr (Or.inl ⟨rfl, rfl, rfl⟩)))
  · exact Or.inr (Or.inr (Or.inr (Or.inr (Or.inl ⟨rfl, rfl, rfl⟩))))
  · exact Or.inr (Or.inr (Or.inr (Or.inr (Or.inr (Or.inl ⟨rfl, rfl, rfl⟩)))))
  · exact Or.inr (Or.inr (Or.inr (Or.inr (Or.inr (Or.inr (Or.inl ⟨rfl, rfl, rfl⟩))))))
  · exact Or.inr (Or.inr (Or.inr (Or.inr (Or.inr (Or.inr (Or.inr (Or.inl ⟨rfl, rfl, rfl⟩)))))))
  · exact Or.inr (Or.inr (Or.inr (Or.inr (Or.inr (Or.inr (Or.inr (Or.inr (Or.inl ⟨rfl, rfl, rfl⟩))))))))
  · exact Or.inr (Or.inr (Or.inr (Or.inr (Or.inr (Or.inr (Or.inr (Or.inr (Or.inr (Or.inl ⟨rfl, rfl, rfl⟩)))))))))
  · exact Or.inr (Or.inr (Or.inr (Or.inr (Or.inr (Or.inr (Or.inr (Or.inr (Or.inr (Or.inr (Or.inl ⟨rfl, rfl, rfl⟩))))))))))
  · exact Or.inr (Or.inr (Or.inr (Or.inr (Or.inr (Or.inr (Or.inr (Or.inr (Or.inr (Or.inr (Or.inr (Or.inl ⟨rfl, rfl, rfl⟩)))))))))))
  · exact Or.inr (Or.inr (Or.inr (Or.inr (Or.inr (Or.inr (Or.inr (Or.inr (Or.inr (Or.inr (Or.inr (Or.inr (Or.inl ⟨rfl, rfl, rfl⟩))))))))))))
  · exact Or.inr (Or.inr (Or.inr (Or.inr (Or.inr (Or.inr (Or.inr (Or.inr (Or.inr (Or.inr (Or.inr (Or.inr (Or.inr (Or.inl ⟨rfl, rfl, rfl⟩)))))))))))))
  · exact Or.inr (Or.inr (Or.inr (Or.inr (Or.inr (Or.inr (Or.inr (Or.inr (Or.inr (Or.inr (Or.inr (Or.inr (Or.inr (Or.inr (Or.inl ⟨rfl, rfl, rfl⟩))))))))))))))
  · exact Or.inr (Or.inr (Or.inr (Or.inr (Or.inr (Or.inr (Or.inr (Or.inr (Or.inr (Or.inr (Or.inr (Or.inr (Or.inr (Or.inr (Or.inr (Or.inl ⟨rfl, rfl, rfl⟩)))))))))))))))
  · exact Or.inr (Or.inr (Or.inr (Or.inr (Or.inr (Or.inr (Or.inr (Or.inr (Or.inr (Or.inr (Or.inr (Or.inr (Or.inr (Or.inr (Or.inr (Or.inr (Or.inl ⟨rfl, rfl, rfl⟩))))))))))))))))
  · exact Or.inr (Or.inr (Or.inr (Or.inr (Or.inr (Or.inr (Or.inr (Or.inr (Or.inr (Or.inr (Or.inr (Or.inr (Or.inr (Or.inr (Or.inr (Or.inr (Or.inr (Or.inl ⟨rfl, rfl, rfl⟩)))))))))))))))))
  · exact Or.inr (Or.inr (Or.inr (Or.inr (Or.inr (Or.inr (Or.inr (Or.inr (Or.inr (Or.inr (Or.inr (Or.inr (Or.inr (Or.inr (Or.inr (Or.inr (Or.inr (Or.inr (⟨rfl, rfl, rfl⟩))))))))))))))))))
end
section
/-! X: one instruction (printed by gen06.py) -/
section ZF
variable {P : zp_P} {G : zg_G} {tm en sg cc fc : Nat} {di : Int32} {lv ct cp po fp : Nat → Int32}
theorem za_put {post : SX → Prop} {ix vv : Int32} (w : Nat) (v : Int32) (hx : ix = nI w) (hv : vv = v) (hw : w < 128) (h : post (zx_S P G tm en sg (zd_or di w) cc fc (upd lv w v) ct cp po fp)) : wpX_put post (zx_S P G tm en sg di cc fc lv ct cp po fp) ix vv := by
  subst hx
  subst hv
  refine And.intro (vp_in_nI hw (by omega)) (nm_r (e' := upd lv w vv) (by rw [nI_clamp (by omega)]) (nm_r (e' := zd_or di w) ?_ h))
  rw [zc_ush (by omega)]; rfl
theorem za_push {post : SX → Prop} {d : Nat} {vv v : Int32} (e : Nat) (hd : lv 2 = nI d) (he : e = d + 1) (h16 : d < 16) (hv : vv = v) (h : post (zx_S P G tm en sg (zd_or (zd_or di (8 + d)) 2) cc fc (upd (upd lv (8 + d) v) 2 (nI e)) ct cp po fp)) : wpX_push post (zx_S P G tm en sg di cc fc lv ct cp po fp) vv := by
  subst he
  exact nm_r (e' := nI d) hd (za_put (8 + d) v (zc_8 d) hv (by omega) (za_put 2 (nI (d + 1)) rfl (nI_1 d) (by omega) h))
theorem za_pop {post : Int32 → SX → Prop} {d : Nat} {x : Int32} (e : Nat) (hd : lv 2 = nI d) (he : d = e + 1) (h16 : e < 16) (hx : lv (8 + e) = x) (h : post x (zx_S P G tm en sg (zd_or di 2) cc fc (upd lv 2 (nI e)) ct cp po fp)) : wpX_pop post (zx_S P G tm en sg di cc fc lv ct cp po fp) := by
  subst he
  refine nm_r (e' := nI e) (by rw [hd]; exact nI_pred e) (za_put 2 (nI e) rfl rfl (by omega) ?_)
  have e8 : (8 : Int32) + nI e = nI (8 + e) := zc_8 e
  refine And.intro (by rw [e8]; exact vp_in_nI (by omega) (by omega)) ?_
  rw [e8, nI_clamp (by omega), pk_un (by omega), hx]
  exact h
theorem za_input {post : Int32 → Prop} {x : Int32} (hP : zp_ok P) (h : post (mp_inp P x)) : wpX_input post (zx_S P G tm en sg di cc fc lv ct cp po fp) x := by
  have hi : zp_ic P ≤ 32 := hP.2.2.2.2.2.2.2.2.2.1
  refine br_c (fun z => zc_eq (Q := post) (if_pos z) h) (fun z => br_c (fun z2 => ?_) (fun z2 => zc_eq (Q := post) ((if_neg z).trans (if_neg z2)) h))
  obtain ⟨j, hj, rfl⟩ := nI_of z
  have hj2 := (nI_ltI hj (by omega)).mp z2
  exact And.intro (vp_in_nI (by omega) (by omega)) (zc_eq (Q := post) ((if_neg z).trans (if_pos z2)) h)
theorem za_popsOf {post : Int32 → Prop} {k : Nat} (hk : k ≤ 18) (h : post (nI (mp_pops k))) : wpX_popsOf post (zx_S P G tm en sg di cc fc lv ct cp po fp) (nI k) := by
  rcases zk_19 k hk with ⟨rfl, ep, eq⟩ | ⟨rfl, ep, eq⟩ | ⟨rfl, ep, eq⟩ | ⟨rfl, ep, eq⟩ | ⟨rfl, ep, eq⟩ | ⟨rfl, ep, eq⟩ | ⟨rfl, ep, eq⟩ | ⟨rfl, ep, eq⟩ | ⟨rfl, ep, eq⟩ | ⟨rfl, ep, eq⟩ | ⟨rfl, ep, eq⟩ | ⟨rfl, ep, eq⟩ | ⟨rfl, ep, eq⟩ | ⟨rfl, ep, eq⟩ | ⟨rfl, ep, eq⟩ | ⟨rfl, ep, eq⟩ | ⟨rfl, ep, eq⟩ | ⟨rfl, ep, eq⟩ | ⟨rfl, ep, eq⟩
  all_goals (rw [ep] at h; repeat first | exact h | refine br_t (by decide) ?_ | refine br_f (by decide) ?_)
theorem za_pushesOf {post : Int32 → Prop} {k : Nat} (hk : k ≤ 18) (h : post (nI (mp_push k))) : wpX_pushesOf post (zx_S P G tm en sg di cc fc lv ct cp po fp) (nI k) := by
  rcases zk_19 k hk with ⟨rfl, ep, eq⟩ | ⟨rfl, ep, eq⟩ | ⟨rfl, ep, eq⟩ | ⟨rfl, ep, eq⟩ | ⟨rfl, ep, eq⟩ | ⟨rfl, ep, eq⟩ | ⟨rfl, ep, eq⟩ | ⟨rfl, ep, eq⟩ | ⟨rfl, ep, eq⟩ | ⟨rfl, ep, eq⟩ | ⟨rfl, ep, eq⟩ | ⟨rfl, ep, eq⟩ | ⟨rfl, ep, eq⟩ | ⟨rfl, ep, eq⟩ | ⟨rfl, ep, eq⟩ | ⟨rfl, ep, eq⟩ | ⟨rfl, ep, eq⟩ | ⟨rfl, ep, eq⟩ | ⟨rfl, ep, eq⟩
  all_goals (rw [eq] at h; repeat first | exact h | refine br_t (by decide) ?_ | refine br_f (by decide) ?_)
theorem za_f141 {post : Int32 → Prop} {k : Nat} (hk : k ≤ 18) (hw : mp_wf P lv) (h : post (mp_f141 lv k)) : zxw_faultOf_141 post (nI k) (zx_S P G tm en sg di cc fc lv ct cp po fp) := by
  obtain ⟨_, _, _, _, h5, ho, _, _⟩ := hw
  refine pk_eq k 18 (fun e => pk_lt (zl_O lv) 32 (fun e2 => ?_) (fun e2 => ?_) h5) (fun e => ?_)
  · exact zc_eq (Q := post) (if_neg (by omega)) h
  · exact zc_eq (Q := post) (if_pos (by omega)) h
  · exact zc_eq (Q := post) (if_neg (by omega)) h
theorem za_f123 {post : Int32 → Prop} {k : Nat} (hP : zp_ok P) (hk : k ≤ 18) (hw : mp_wf P lv) (h : post (mp_f123 lv k)) : zxw_faultOf_123 post (nI k) (zx_S P G tm en sg di cc fc lv ct cp po fp) := by
  have h3 := hw.2.2.1
  have hf := hw.2.2.2.1
  have hfs := hP.2.2.2.2.2.1
  refine pk_eq k 16 (fun e => pk_lt 0 (zl_F lv) (fun e2 => ?_) (fun e2 => ?_) rfl h3) (fun e => ?_)
  · exact za_f141 hk hw (zc_eq (Q := post) (if_neg (by omega)) h)
  · exact zc_eq (Q := post) (if_pos (by omega)) h
  · exact za_f141 hk hw (zc_eq (Q := post) (if_neg (by omega)) h)
theorem za_f101 {post : Int32 → Prop} {k : Nat} (hP : zp_ok P) (hk : k ≤ 18) (hw : mp_wf P lv) (h : post (mp_f101 P lv k)) : zxw_faultOf_101 post (nI k) (zx_S P G tm en sg di cc fc lv ct cp po fp) := by
  have h3 := hw.2.2.1
  have hf := hw.2.2.2.1
  have hfs := hP.2.2.2.2.2.1
  refine pk_eq k 15 (fun e => pk_lt (zl_F lv) (zp_fs P) (fun e2 => ?_) (fun e2 => ?_) h3) (fun e => ?_)
  · exact za_f123 hP hk hw (zc_eq (Q := post) (if_neg (by omega)) h)
  · exact zc_eq (Q := post) (if_pos (by omega)) h
  · exact za_f123 hP hk hw (zc_eq (Q := post) (if_neg (by omega)) h)
theorem za_f85 {post : Int32 → Prop} {k : Nat} {a : Int32} (hP : zp_ok P) (hk : k ≤ 18) (hw : mp_wf P lv) (h : post (mp_f85 P lv k a)) : zxw_faultOf_85 post (nI k) a (zx_S P G tm en sg di cc fc lv ct cp po fp) := by
  refine br_c (fun z => zc_eq (Q := post) (if_pos (Or.inl z)) h) (fun z => br_c (fun z2 => ?_) (fun z2 => ?_))
  · exact za_f101 hP hk hw (zc_eq (Q := post) (if_neg (fun q => q.elim z (fun q2 => absurd z2 (Int32.not_lt.mpr q2)))) h)
  · exact zc_eq (Q := post) (if_pos (Or.inr (Int32.not_lt.mp z2))) h
theorem za_f72 {post : Int32 → Prop} {k : Nat} (hP : zp_ok P) (hk : k ≤ 18) (hw : mp_wf P lv) (hd : 1 ≤ zl_D lv) (h : post (mp_f85 P lv k (lv (8 + (zl_D lv - 1))))) : zxw_faultOf_72 post (nI k) (nI (zl_D lv)) (zx_S P G tm en sg di cc fc lv ct cp po fp) := by
  have hd2 := hw.2.1
  have hss := hP.2.2.2.1
  have e : (8 : Int32) + nI (zl_D lv) - 1 = nI (8 + (zl_D lv - 1)) := by
    rw [zc_8, show 8 + zl_D lv = (8 + (zl_D lv - 1)) + 1 by omega]; exact nI_pred _
  refine And.intro (by rw [e]; exact vp_in_nI (by omega) (by omega)) ?_
  exact nm_r (e' := lv (8 + (zl_D lv - 1))) (by rw [e, nI_clamp (by omega)]) (za_f85 hP hk hw h)
theorem za_fault {post : Int32 → Prop} {k : Nat} {a : Int32} (hP : zp_ok P) (hk : k ≤ 18) (hw : mp_wf P lv) (h : post (mp_flt P lv k a)) : wpX_faultOf post (zx_S P G tm en sg di cc fc lv ct cp po fp) (nI k) a := by
  have hd2 := hw.2.1
  have hss := hP.2.2.2.1
  have hpp : mp_pops k ≤ 2 ∧ mp_push k ≤ 2 := by
    have := zk_19 k hk
    omega
  refine nm_r (e' := nI (zl_D lv)) hw.1 (za_popsOf hk (za_pushesOf hk ?_))
  refine pk_le (mp_pops k) (zl_D lv) (fun e1 => ?_) (fun e1 => zc_eq (Q := post) (if_pos e1) h)
  have ex : nI (zl_D lv) - nI (mp_pops k) + nI (mp_push k) = nI (zl_D lv - mp_pops k + mp_push k) := by rw [pk_sub e1, nI_add]
  refine pk_le (zl_D lv - mp_pops k + mp_push k) (zp_ss P) (fun e2 => ?_) (fun e2 => zc_eq (Q := post) ((if_neg (by omega)).trans (if_pos e2)) h) ex
  have hf : mp_flt P lv k a = if 9 ≤ k ∧ k ≤ 12 then mp_f85 P lv k (mp_adr lv k a) else mp_f101 P lv k := (if_neg (by omega)).trans (if_neg (by omega))
  rw [hf] at h
  refine pk_lt k 9 (fun e3 => za_f101 hP hk hw (zc_eq (Q := post) (if_neg (by omega)) h)) (fun e3 => pk_lt 12 k (fun e4 => za_f101 hP hk hw (zc_eq (Q := post) (if_neg (by omega)) h)) (fun e4 => ?_))
  rw [if_pos (by omega)] at h
  have hz : k = 11 ∨ k = 12 → 1 ≤ zl_D lv := by
    have := zk_19 k hk
    omega
  refine pk_eq k 11 (fun e5 => za_f72 hP hk hw (hz (Or.inl e5)) (zc_eq (Q := fun q => post (mp_f85 P lv k q)) (if_pos (Or.inl e5)) h)) (fun e5 => pk_eq k 12 (fun e6 => za_f72 hP hk hw (hz (Or.inr e6)) (zc_eq (Q := fun q => post (mp_f85 P lv k q)) (if_pos (Or.inr e6)) h)) (fun e6 => za_f85 hP hk hw (zc_eq (Q := fun q => post (mp_f85 P lv k q)) (if_neg (by omega)) h)))
theorem za_p0 {post : SX → Prop} {d f o : Nat} {a c i : Int32} (h2 : lv 2 = nI d) (hp : 0 ≤ d) (hd : d - 0 + 0 ≤ 16) (hd2 : d ≤ 16) (h : post (zx_S P G tm en sg (mp_dp di ((1, c + 1) :: mp_L 0 d f o lv a c i)) cc fc (mp_ap lv ((1, c + 1) :: mp_L 0 d f o lv a c i)) ct cp po fp)) : wpX_perform post (zx_S P G tm en sg di cc fc lv ct cp po fp) (nI 0) a c := by
  unfold wpX_perform
  refine za_put 1 (c + 1) rfl rfl (by omega) ?_
  refine br_t (by decide) ?_
  refine nm_e ?_
  refine br_t (by decide) ?_
  refine za_put (1) (c) rfl rfl (by omega) ?_
  refine za_put (0) (1) rfl rfl (by omega) ?_
  exact h
theorem za_p1 {post : SX → Prop} {d f o : Nat} {a c i : Int32} (h2 : lv 2 = nI d) (hp : 0 ≤ d) (hd : d - 0 + 1 ≤ 16) (hd2 : d ≤ 16) (h : post (zx_S P G tm en sg (mp_dp di ((1, c + 1) :: mp_L 1 d f o lv a c i)) cc fc (mp_ap lv ((1, c + 1) :: mp_L 1 d f o lv a c i)) ct cp po fp)) : wpX_perform post (zx_S P G tm en sg di cc fc lv ct cp po fp) (nI 1) a c := by
  unfold wpX_perform
  refine za_put 1 (c + 1) rfl rfl (by omega) ?_
  refine br_f (by decide) ?_
  refine br_f (by decide) ?_
  refine br_t (by decide) ?_
  refine za_push (d + 1) ((pk_un (by omega)).trans h2) rfl (by omega) rfl ?_
  exact h
theorem za_p2 {post : SX → Prop} {d f o : Nat} {a c i : Int32} (h2 : lv 2 = nI d) (hp : 1 ≤ d) (hd : d - 1 + 0 ≤ 16) (hd2 : d ≤ 16) (h : post (zx_S P G tm en sg (mp_dp di ((1, c + 1) :: mp_L 2 d f o lv a c i)) cc fc (mp_ap lv ((1, c + 1) :: mp_L 2 d f o lv a c i)) ct cp po fp)) : wpX_perform post (zx_S P G tm en sg di cc fc lv ct cp po fp) (nI 2) a c := by
  unfold wpX_perform
  refine za_put 1 (c + 1) rfl rfl (by omega) ?_
  refine br_f (by decide) ?_
  refine br_f (by decide) ?_
  refine br_f (by decide) ?_
  refine br_t (by decide) ?_
  refine za_pop (d - 1) ((pk_un (by omega)).trans h2) (by omega) (by omega) (pk_un (by omega)) ?_
  exact h
theorem za_p3 {post : SX → Prop} {d f o : Nat} {a c i : Int32} (h2 : lv 2 = nI d) (hp : 1 ≤ d) (hd : d - 1 + 2 ≤ 16) (hd2 : d ≤ 16) (h : post (zx_S P G tm en sg (mp_dp di ((1, c + 1) :: mp_L 3 d f o lv a c i)) cc fc (mp_ap lv ((1, c + 1) :: mp_L 3 d f o lv a c i)) ct cp po fp)) : wpX_perform post (zx_S P G tm en sg di cc fc lv ct cp po fp) (nI 3) a c := by
  unfold wpX_perform
  refine za_put 1 (c + 1) rfl rfl (by omega) ?_
  refine br_f (by decide) ?_
  refine br_f (by decide) ?_
  refine br_f (by decide) ?_
  refine br_f (by decide) ?_
  refine br_t (by decide) ?_
  refine za_pop (d - 1) ((pk_un (by omega)).trans h2) (by omega) (by omega) (pk_un (by omega)) ?_
  refine za_push (d) pk_us (by omega) (by omega) rfl ?_
  refine za_push (d + 1) pk_us (by omega) (by omega) rfl ?_
  exact h
theorem za_p4 {post : SX → Prop} {d f o : Nat} {a c i : Int32} (h2 : lv 2 = nI d) (hp : 2 ≤ d) (hd : d - 2 + 2 ≤ 16) (hd2 : d ≤ 16) (h : post (zx_S P G tm en sg (mp_dp di ((1, c + 1) :: mp_L 4 d f o lv a c i)) cc fc (mp_ap lv ((1, c + 1) :: mp_L 4 d f o lv a c i)) ct cp po fp)) : wpX_perform post (zx_S P G tm en sg di cc fc lv ct cp po fp) (nI 4) a c := by
  unfold wpX_perform
  refine za_put 1 (c + 1) rfl rfl (by omega) ?_
  refine br_f (by decide) ?_
  refine br_f (by decide) ?_
  refine br_f (by decide) ?_
  refine br_f (by decide) ?_
  refine br_f (by decide) ?_
  refine br_t (by decide) ?_
  unfold wX_perform_133 wpX_performBinary
  refine za_pop (d - 1) ((pk_un (by omega)).trans h2) (by omega) (by omega) (pk_un (by omega)) ?_
  refine za_pop (d - 2) pk_us (by omega) (by omega) ((pk_un (by omega)).trans (pk_un (by omega))) ?_
  refine br_f (by decide) ?_
  refine br_f (by decide) ?_
  refine br_t (by decide) ?_
  refine za_push (d - 1) pk_us (by omega) (by omega) rfl ?_
  refine za_push (d) pk_us (by omega) (by omega) rfl ?_
  exact h
theorem za_p5 {post : SX → Prop} {d f o : Nat} {a c i : Int32} (h2 : lv 2 = nI d) (hp : 2 ≤ d) (hd : d - 2 + 1 ≤ 16) (hd2 : d ≤ 16) (h : post (zx_S P G tm en sg (mp_dp di ((1, c + 1) :: mp_L 5 d f o lv a c i)) cc fc (mp_ap lv ((1, c + 1) :: mp_L 5 d f o lv a c i)) ct cp po fp)) : wpX_perform post (zx_S P G tm en sg di cc fc lv ct cp po fp) (nI 5) a c := by
  unfold wpX_perform
  refine za_put 1 (c + 1) rfl rfl (by omega) ?_
  refine br_f (by decide) ?_
  refine br_f (by decide) ?_
  refine br_f (by decide) ?_
  refine br_f (by decide) ?_
  refine br_f (by decide) ?_
  refine br_f (by decide) ?_
  refine br_t (by decide) ?_
  unfold wX_perform_133 wpX_performBinary
  refine za_pop (d - 1) ((pk_un (by omega)).trans h2) (by omega) (by omega) (pk_un (by omega)) ?_
  refine za_pop (d - 2) pk_us (by omega) (by omega) ((pk_un (by omega)).trans (pk_un (by omega))) ?_
  refine br_f (by decide) ?_
  refine br_f (by decide) ?_
  refine br_f (by decide) ?_
  refine br_t (by decide) ?_
  refine za_push (d - 1) pk_us (by omega) (by omega) rfl ?_
  exact h
theorem za_p6 {post : SX → Prop} {d f o : Nat} {a c i : Int32} (h2 : lv 2 = nI d) (hp : 2 ≤ d) (hd : d - 2 + 1 ≤ 16) (hd2 : d ≤ 16) (h : post (zx_S P G tm en sg (mp_dp di ((1, c + 1) :: mp_L 6 d f o lv a c i)) cc fc (mp_ap lv ((1, c + 1) :: mp_L 6 d f o lv a c i)) ct cp po fp)) : wpX_perform post (zx_S P G tm en sg di cc fc lv ct cp po fp) (nI 6) a c := by
  unfold wpX_perform
  refine za_put 1 (c + 1) rfl rfl (by omega) ?_
  refine br_f (by decide) ?_
  refine br_f (by decide) ?_
  refine br_f (by decide) ?_
  refine br_f (by decide) ?_
  refine br_f (by decide) ?_
  refine br_f (by decide) ?_
  refine br_f (by decide) ?_
  refine br_t (by decide) ?_
  unfold wX_perform_133 wpX_performBinary
  refine za_pop (d - 1) ((pk_un (by omega)).trans h2) (by omega) (by omega) (pk_un (by omega)) ?_
  refine za_pop (d - 2) pk_us (by omega) (by omega) ((pk_un (by omega)).trans (pk_un (by omega))) ?_
  refine br_f (by decide) ?_
  refine br_f (by decide) ?_
  refine br_f (by decide) ?_
  refine br_f (by decide) ?_
  refine br_t (by decide) ?_
  refine za_push (d - 1) pk_us (by omega) (by omega) rfl ?_
  exact h
theorem za_p7 {post : SX → Prop} {d f o : Nat} {a c i : Int32} (h2 : lv 2 = nI d) (hp : 2 ≤ d) (hd : d - 2 + 1 ≤ 16) (hd2 : d ≤ 16) (h : post (zx_S P G tm en sg (mp_dp di ((1, c + 1) :: mp_L 7 d f o lv a c i)) cc fc (mp_ap lv ((1, c + 1) :: mp_L 7 d f o lv a c i)) ct cp po fp)) : wpX_perform post (zx_S P G tm en sg di cc fc lv ct cp po fp) (nI 7) a c := by
  unfold wpX_perform
  refine za_put 1 (c + 1) rfl rfl (by omega) ?_
  refine br_f (by decide) ?_
  refine br_f (by decide) ?_
  refine br_f (by decide) ?_
  refine br_f (by decide) ?_
  refine br_f (by decide) ?_
  refine br_f (by decide) ?_
  refine br_f (by decide) ?_
  refine br_f (by decide) ?_
  refine br_t (by decide) ?_
  unfold wX_perform_133 wpX_performBinary
  refine za_pop (d - 1) ((pk_un (by omega)).trans h2) (by omega) (by omega) (pk_un (by omega)) ?_
  refine za_pop (d - 2) pk_us (by omega) (by omega) ((pk_un (by omega)).trans (pk_un (by omega))) ?_
  refine br_f (by decide) ?_
  refine br_f (by decide) ?_
  refine br_f (by decide) ?_
  refine br_f (by decide) ?_
  refine br_f (by decide) ?_
  refine br_t (by decide) ?_
  refine za_push (d - 1) pk_us (by omega) (by omega) rfl ?_
  exact h
theorem za_p8 {post : SX → Prop} {d f o : Nat} {a c i : Int32} (h2 : lv 2 = nI d) (hp : 2 ≤ d) (hd : d - 2 + 1 ≤ 16) (hd2 : d ≤ 16) (h : post (zx_S P G tm en sg (mp_dp di ((1, c + 1) :: mp_L 8 d f o lv a c i)) cc fc (mp_ap lv ((1, c + 1) :: mp_L 8 d f o lv a c i)) ct cp po fp)) : wpX_perform post (zx_S P G tm en sg di cc fc lv ct cp po fp) (nI 8) a c := by
  unfold wpX_perform
  refine za_put 1 (c + 1) rfl rfl (by omega) ?_
  refine br_f (by decide) ?_
  refine br_f (by decide) ?_
  refine br_f (by decide) ?_
  refine br_f (by decide) ?_
  refine br_f (by decide) ?_
  refine br_f (by decide) ?_
  refine br_f (by decide) ?_
  refine br_f (by decide) ?_
  refine br_f (by decide) ?_
  refine br_t (by decide) ?_
  unfold wX_perform_133 wpX_performBinary
  refine za_pop (d - 1) ((pk_un (by omega)).trans h2) (by omega) (by omega) (pk_un (by omega)) ?_
  refine za_pop (d - 2) pk_us (by omega) (by omega) ((pk_un (by omega)).trans (pk_un (by omega))) ?_
  refine br_f (by decide) ?_
  refine br_t (by decide) ?_
  by_cases z : lv (8 + (d - 1)) ≤ lv (8 + (d - 2))
  · simp only [mp_L, if_pos z] at h
    refine br_t z ?_
    unfold wX_performBinary_94
    refine za_push (d - 1) pk_us (by omega) (by omega) rfl ?_
    exact h
  · simp only [mp_L, if_neg z] at h
    refine br_f z ?_
    unfold wX_performBinary_94
    refine za_push (d - 1) pk_us (by omega) (by omega) rfl ?_
    exact h
theorem za_p9 {post : SX → Prop} {d f o x : Nat} {a c i : Int32} (h2 : lv 2 = nI d) (hp : 0 ≤ d) (hd : d - 0 + 1 ≤ 16) (hd2 : d ≤ 16) (hx : x < 64) (ha : a = nI x) (h : post (zx_S P G tm en sg (mp_dp di ((1, c + 1) :: mp_L 9 d f o lv a c i)) cc fc (mp_ap lv ((1, c + 1) :: mp_L 9 d f o lv a c i)) ct cp po fp)) : wpX_perform post (zx_S P G tm en sg di cc fc lv ct cp po fp) (nI 9) a c := by
  subst ha
  simp only [mp_L, nI_clamp (show x < 2 ^ 31 by omega)] at h
  unfold wpX_perform
  refine za_put 1 (c + 1) rfl rfl (by omega) ?_
  refine br_f (by decide) ?_
  refine br_f (by decide) ?_
  refine br_f (by decide) ?_
  refine br_f (by decide) ?_
  refine br_f (by decide) ?_
  refine br_f (by decide) ?_
  refine br_f (by decide) ?_
  refine br_f (by decide) ?_
  refine br_f (by decide) ?_
  refine br_f (by decide) ?_
  refine br_t (by decide) ?_
  refine br_f (by decide) ?_
  refine br_f (by decide) ?_
  refine br_t (by decide) ?_
  refine And.intro (by rw [zc_32]; exact vp_in_nI (by omega) (by omega)) ?_
  refine za_push (v := lv (32 + x)) (d + 1) ((pk_un (by omega)).trans h2) rfl (by omega) (by rw [zc_32, nI_clamp (by omega)]; exact (pk_un (by omega))) ?_
  exact h
theorem za_p10 {post : SX → Prop} {d f o x : Nat} {a c i : Int32} (h2 : lv 2 = nI d) (hp : 1 ≤ d) (hd : d - 1 + 0 ≤ 16) (hd2 : d ≤ 16) (hx : x < 64) (ha : a = nI x) (h : post (zx_S P G tm en sg (mp_dp di ((1, c + 1) :: mp_L 10 d f o lv a c i)) cc fc (mp_ap lv ((1, c + 1) :: mp_L 10 d f o lv a c i)) ct cp po fp)) : wpX_perform post (zx_S P G tm en sg di cc fc lv ct cp po fp) (nI 10) a c := by
  subst ha
  simp only [mp_L, nI_clamp (show x < 2 ^ 31 by omega)] at h
  unfold wpX_perform
  refine za_put 1 (c + 1) rfl rfl (by omega) ?_
  refine br_f (by decide) ?_
  refine br_f (by decide) ?_
  refine br_f (by decide) ?_
  refine br_f (by decide) ?_
  refine br_f (by decide) ?_
  refine br_f (by decide) ?_
  refine br_f (by decide) ?_
  refine br_f (by decide) ?_
  refine br_f (by decide) ?_
  refine br_f (by decide) ?_
  refine br_f (by decide) ?_
  refine br_t (by decide) ?_
  refine br_f (by decide) ?_
  refine br_f (by decide) ?_
  refine br_f (by decide) ?_
  refine br_f (by decide) ?_
  refine za_pop (d - 1) ((pk_un (by omega)).trans h2) (by omega) (by omega) (pk_un (by omega)) ?_
  refine za_put (6) (nI x + 1) rfl rfl (by omega) ?_
  refine And.intro (by rw [zc_32]; exact vp_in_nI (by omega) (by omega)) ?_
  refine za_put (7) (lv (32 + x)) rfl (by rw [zc_32, nI_clamp (by omega)]; exact ((pk_un (by omega)).trans ((pk_un (by omega)).trans (pk_un (by omega))))) (by omega) ?_
  refine za_put (32 + x) (lv (8 + (d - 1))) (zc_32 x) rfl (by omega) ?_
  exact h
theorem za_p11 {post : SX → Prop} {d f o x : Nat} {a c i : Int32} (h2 : lv 2 = nI d) (hp : 1 ≤ d) (hd : d - 1 + 1 ≤ 16) (hd2 : d ≤ 16) (hx : x < 64) (ha : lv (8 + (d - 1)) = nI x) (h : post (zx_S P G tm en sg (mp_dp di ((1, c + 1) :: mp_L 11 d f o lv a c i)) cc fc (mp_ap lv ((1, c + 1) :: mp_L 11 d f o lv a c i)) ct cp po fp)) : wpX_perform post (zx_S P G tm en sg di cc fc lv ct cp po fp) (nI 11) a c := by
  simp only [mp_L, ha, nI_clamp (show x < 2 ^ 31 by omega)] at h
  unfold wpX_perform
  refine za_put 1 (c + 1) rfl rfl (by omega) ?_
  refine br_f (by decide) ?_
  refine br_f (by decide) ?_
  refine br_f (by decide) ?_
  refine br_f (by decide) ?_
  refine br_f (by decide) ?_
  refine br_f (by decide) ?_
  refine br_f (by decide) ?_
  refine br_f (by decide) ?_
  refine br_f (by decide) ?_
  refine br_f (by decide) ?_
  refine br_f (by decide) ?_
  refine br_f (by decide) ?_
  refine br_t (by decide) ?_
  refine br_t (by decide) ?_
  unfold wX_performMemory_14
  refine za_pop (d - 1) ((pk_un (by omega)).trans h2) (by omega) (by omega) ((pk_un (by omega)).trans ha) ?_
  refine br_f (by decide) ?_
  refine br_t (by decide) ?_
  refine And.intro (by rw [zc_32]; exact vp_in_nI (by omega) (by omega)) ?_
  refine za_push (v := lv (32 + x)) (d) pk_us (by omega) (by omega) (by rw [zc_32, nI_clamp (by omega)]; exact ((pk_un (by omega)).trans (pk_un (by omega)))) ?_
  exact h
theorem za_p12 {post : SX → Prop} {d f o x : Nat} {a c i : Int32} (h2 : lv 2 = nI d) (hp : 2 ≤ d) (hd : d - 2 + 0 ≤ 16) (hd2 : d ≤ 16) (hx : x < 64) (ha : lv (8 + (d - 1)) = nI x) (h : post (zx_S P G tm en sg (mp_dp di ((1, c + 1) :: mp_L 12 d f o lv a c i)) cc fc (mp_ap lv ((1, c + 1) :: mp_L 12 d f o lv a c i)) ct cp po fp)) : wpX_perform post (zx_S P G tm en sg di cc fc lv ct cp po fp) (nI 12) a c := by
  simp only [mp_L, ha, nI_clamp (show x < 2 ^ 31 by omega)] at h
  unfold wpX_perform
  refine za_put 1 (c + 1) rfl rfl (by omega) ?_
  refine br_f (by decide) ?_
  refine br_f (by decide) ?_
  refine br_f (by decide) ?_
  refine br_f (by decide) ?_
  refine br_f (by decide) ?_
  refine br_f (by decide) ?_
  refine br_f (by decide) ?_
  refine br_f (by decide) ?_
  refine br_f (by decide) ?_
  refine br_f (by decide) ?_
  refine br_f (by decide) ?_
  refine br_f (by decide) ?_
  refine br_f (by decide) ?_
  refine br_t (by decide) ?_
  refine br_f (by decide) ?_
  refine br_t (by decide) ?_
  unfold wX_performMemory_14
  refine za_pop (d - 1) ((pk_un (by omega)).trans h2) (by omega) (by omega) ((pk_un (by omega)).trans ha) ?_
  refine br_f (by decide) ?_
  refine br_f (by decide) ?_
  refine za_pop (d - 2) pk_us (by omega) (by omega) ((pk_un (by omega)).trans (pk_un (by omega))) ?_
  refine za_put (6) (nI x + 1) rfl rfl (by omega) ?_
  refine And.intro (by rw [zc_32]; exact vp_in_nI (by omega) (by omega)) ?_
  refine za_put (7) (lv (32 + x)) rfl (by rw [zc_32, nI_clamp (by omega)]; exact ((pk_un (by omega)).trans ((pk_un (by omega)).trans ((pk_un (by omega)).trans (pk_un (by omega)))))) (by omega) ?_
  refine za_put (32 + x) (lv (8 + (d - 2))) (zc_32 x) rfl (by omega) ?_
  exact h
theorem za_p13 {post : SX → Prop} {d f o : Nat} {a c i : Int32} (h2 : lv 2 = nI d) (hp : 0 ≤ d) (hd : d - 0 + 0 ≤ 16) (hd2 : d ≤ 16) (h : post (zx_S P G tm en sg (mp_dp di ((1, c + 1) :: mp_L 13 d f o lv a c i)) cc fc (mp_ap lv ((1, c + 1) :: mp_L 13 d f o lv a c i)) ct cp po fp)) : wpX_perform post (zx_S P G tm en sg di cc fc lv ct cp po fp) (nI 13) a c := by
  unfold wpX_perform
  refine za_put 1 (c + 1) rfl rfl (by omega) ?_
  refine br_f (by decide) ?_
  refine br_f (by decide) ?_
  refine br_f (by decide) ?_
  refine br_f (by decide) ?_
  refine br_f (by decide) ?_
  refine br_f (by decide) ?_
  refine br_f (by decide) ?_
  refine br_f (by decide) ?_
  refine br_f (by decide) ?_
  refine br_f (by decide) ?_
  refine br_f (by decide) ?_
  refine br_f (by decide) ?_
  refine br_f (by decide) ?_
  refine br_f (by decide) ?_
  refine br_t (by decide) ?_
  refine nm_e ?_
  refine br_f (by decide) ?_
  refine br_t (by decide) ?_
  refine za_put (1) (a) rfl rfl (by omega) ?_
  exact h
theorem za_p14 {post : SX → Prop} {d f o : Nat} {a c i : Int32} (h2 : lv 2 = nI d) (hp : 1 ≤ d) (hd : d - 1 + 0 ≤ 16) (hd2 : d ≤ 16) (h : post (zx_S P G tm en sg (mp_dp di ((1, c + 1) :: mp_L 14 d f o lv a c i)) cc fc (mp_ap lv ((1, c + 1) :: mp_L 14 d f o lv a c i)) ct cp po fp)) : wpX_perform post (zx_S P G tm en sg di cc fc lv ct cp po fp) (nI 14) a c := by
  unfold wpX_perform
  refine za_put 1 (c + 1) rfl rfl (by omega) ?_
  refine br_f (by decide) ?_
  refine br_f (by decide) ?_
  refine br_f (by decide) ?_
  refine br_f (by decide) ?_
  refine br_f (by decide) ?_
  refine br_f (by decide) ?_
  refine br_f (by decide) ?_
  refine br_f (by decide) ?_
  refine br_f (by decide) ?_
  refine br_f (by decide) ?_
  refine br_f (by decide) ?_
  refine br_f (by decide) ?_
  refine br_f (by decide) ?_
  refine br_f (by decide) ?_
  refine br_f (by decide) ?_
  refine br_t (by decide) ?_
  refine nm_e ?_
  refine br_f (by decide) ?_
  refine br_f (by decide) ?_
  refine br_t (by decide) ?_
  refine za_pop (d - 1) ((pk_un (by omega)).trans h2) (by omega) (by omega) (pk_un (by omega)) ?_
  by_cases z : lv (8 + (d - 1)) = 0
  · simp only [mp_L, if_pos z] at h
    refine br_t z ?_
    refine za_put (1) (a) rfl rfl (by omega) ?_
    exact h
  · simp only [mp_L, if_neg z] at h
    exact br_f z h
theorem za_p15 {post : SX → Prop} {d f o : Nat} {a c i : Int32} (h2 : lv 2 = nI d) (h3 : lv 3 = nI f) (hp : 0 ≤ d) (hd : d - 0 + 0 ≤ 16) (hd2 : d ≤ 16) (hf : f < 8) (h : post (zx_S P G tm en sg (mp_dp di ((1, c + 1) :: mp_L 15 d f o lv a c i)) cc fc (mp_ap lv ((1, c + 1) :: mp_L 15 d f o lv a c i)) ct cp po fp)) : wpX_perform post (zx_S P G tm en sg di cc fc lv ct cp po fp) (nI 15) a c := by
  unfold wpX_perform
  refine za_put 1 (c + 1) rfl rfl (by omega) ?_
  refine br_f (by decide) ?_
  refine br_f (by decide) ?_
  refine br_f (by decide) ?_
  refine br_f (by decide) ?_
  refine br_f (by decide) ?_
  refine br_f (by decide) ?_
  refine br_f (by decide) ?_
  refine br_f (by decide) ?_
  refine br_f (by decide) ?_
  refine br_f (by decide) ?_
  refine br_f (by decide) ?_
  refine br_f (by decide) ?_
  refine br_f (by decide) ?_
  refine br_f (by decide) ?_
  refine br_f (by decide) ?_
  refine br_f (by decide) ?_
  refine br_t (by decide) ?_
  refine nm_r (e' := nI f) ((pk_un (by omega)).trans h3) ?_
  refine br_f (by decide) ?_
  refine br_f (by decide) ?_
  refine br_f (by decide) ?_
  refine br_t (by decide) ?_
  refine za_put (24 + f) (c + 1) (zc_24 f) rfl (by omega) ?_
  refine za_put (3) (nI (f + 1)) rfl (nI_1 f) (by omega) ?_
  refine za_put (1) (a) rfl rfl (by omega) ?_
  exact h
theorem za_p16 {post : SX → Prop} {d f o : Nat} {a c i : Int32} (h2 : lv 2 = nI d) (h3 : lv 3 = nI f) (hp : 0 ≤ d) (hd : d - 0 + 0 ≤ 16) (hd2 : d ≤ 16) (hf0 : 0 < f) (hf : f ≤ 8) (h : post (zx_S P G tm en sg (mp_dp di ((1, c + 1) :: mp_L 16 d f o lv a c i)) cc fc (mp_ap lv ((1, c + 1) :: mp_L 16 d f o lv a c i)) ct cp po fp)) : wpX_perform post (zx_S P G tm en sg di cc fc lv ct cp po fp) (nI 16) a c := by
  have e1 : nI f - 1 = nI (f - 1) := by
    obtain ⟨g, rfl⟩ : ∃ g, f = g + 1 := ⟨f - 1, by omega⟩
    exact nI_pred g
  have e2 : (24 : Int32) + nI f - 1 = nI (24 + (f - 1)) := by
    rw [zc_24, show 24 + f = (24 + (f - 1)) + 1 by omega]; exact nI_pred _
  unfold wpX_perform
  refine za_put 1 (c + 1) rfl rfl (by omega) ?_
  refine br_f (by decide) ?_
  refine br_f (by decide) ?_
  refine br_f (by decide) ?_
  refine br_f (by decide) ?_
  refine br_f (by decide) ?_
  refine br_f (by decide) ?_
  refine br_f (by decide) ?_
  refine br_f (by decide) ?_
  refine br_f (by decide) ?_
  refine br_f (by decide) ?_
  refine br_f (by decide) ?_
  refine br_f (by decide) ?_
  refine br_f (by decide) ?_
  refine br_f (by decide) ?_
  refine br_f (by decide) ?_
  refine br_f (by decide) ?_
  refine br_f (by decide) ?_
  refine br_t (by decide) ?_
  refine nm_r (e' := nI f) ((pk_un (by omega)).trans h3) ?_
  refine br_f (by decide) ?_
  refine br_f (by decide) ?_
  refine br_f (by decide) ?_
  refine br_f (by decide) ?_
  refine br_t (by decide) ?_
  refine za_put (3) (nI (f - 1)) rfl e1 (by omega) ?_
  refine And.intro (by rw [e2]; exact vp_in_nI (by omega) (by omega)) ?_
  refine za_put (1) (lv (24 + (f - 1))) rfl (by rw [e2, nI_clamp (by omega)]; exact ((pk_un (by omega)).trans (pk_un (by omega)))) (by omega) ?_
  exact h
theorem za_p17 {post : SX → Prop} {d f o : Nat} {a c : Int32} (h2 : lv 2 = nI d) (hP : zp_ok P) (hp : 0 ≤ d) (hd : d - 0 + 1 ≤ 16) (hd2 : d ≤ 16) (h : post (zx_S P G tm en sg (mp_dp di ((1, c + 1) :: mp_L 17 d f o lv a c (mp_inp P (lv 4)))) cc fc (mp_ap lv ((1, c + 1) :: mp_L 17 d f o lv a c (mp_inp P (lv 4)))) ct cp po fp)) : wpX_perform post (zx_S P G tm en sg di cc fc lv ct cp po fp) (nI 17) a c := by
  unfold wpX_perform
  refine za_put 1 (c + 1) rfl rfl (by omega) ?_
  refine br_f (by decide) ?_
  refine br_f (by decide) ?_
  refine br_f (by decide) ?_
  refine br_f (by decide) ?_
  refine br_f (by decide) ?_
  refine br_f (by decide) ?_
  refine br_f (by decide) ?_
  refine br_f (by decide) ?_
  refine br_f (by decide) ?_
  refine br_f (by decide) ?_
  refine br_f (by decide) ?_
  refine br_f (by decide) ?_
  refine br_f (by decide) ?_
  refine br_f (by decide) ?_
  refine br_f (by decide) ?_
  refine br_f (by decide) ?_
  refine br_f (by decide) ?_
  refine br_f (by decide) ?_
  refine br_t (by decide) ?_
  refine br_t (by decide) ?_
  refine nm_r (e' := lv 4) (pk_un (by omega)) ?_
  refine za_input hP ?_
  refine za_push (d + 1) ((pk_un (by omega)).trans h2) rfl (by omega) rfl ?_
  refine za_put (4) (lv 4 + 1) rfl rfl (by omega) ?_
  exact h
theorem za_p18 {post : SX → Prop} {d f o : Nat} {a c i : Int32} (h2 : lv 2 = nI d) (h5 : lv 5 = nI o) (ho : o < 32) (hp : 1 ≤ d) (hd : d - 1 + 0 ≤ 16) (hd2 : d ≤ 16) (h : post (zx_S P G tm en sg (mp_dp di ((1, c + 1) :: mp_L 18 d f o lv a c i)) cc fc (mp_ap lv ((1, c + 1) :: mp_L 18 d f o lv a c i)) ct cp po fp)) : wpX_perform post (zx_S P G tm en sg di cc fc lv ct cp po fp) (nI 18) a c := by
  unfold wpX_perform
  refine za_put 1 (c + 1) rfl rfl (by omega) ?_
  refine br_f (by decide) ?_
  refine br_f (by decide) ?_
  refine br_f (by decide) ?_
  refine br_f (by decide) ?_
  refine br_f (by decide) ?_
  refine br_f (by decide) ?_
  refine br_f (by decide) ?_
  refine br_f (by decide) ?_
  refine br_f (by decide) ?_
  refine br_f (by decide) ?_
  refine br_f (by decide) ?_
  refine br_f (by decide) ?_
  refine br_f (by decide) ?_
  refine br_f (by decide) ?_
  refine br_f (by decide) ?_
  refine br_f (by decide) ?_
  refine br_f (by decide) ?_
  refine br_f (by decide) ?_
  refine br_f (by decide) ?_
  refine br_t (by decide) ?_
  refine br_f (by decide) ?_
  refine nm_r (e' := nI o) ((pk_un (by omega)).trans h5) ?_
  refine za_pop (d - 1) ((pk_un (by omega)).trans h2) (by omega) (by omega) (pk_un (by omega)) ?_
  refine za_put (96 + o) (lv (8 + (d - 1))) (zc_96 o) rfl (by omega) ?_
  refine za_put (5) (nI (o + 1)) rfl (nI_1 o) (by omega) ?_
  exact h
end ZF
end
section
/-! X: advance, over the pure step (printed by gen07.py) -/
section ZG
variable {P : zp_P} {G : zg_G} {tm en sg cc fc : Nat} {di : Int32} {lv ct cp po fp : Nat → Int32}
theorem za_perform {post : SX → Prop} {k : Nat} {a c : Int32} (hP : zp_ok P) (hk : k ≤ 18) (hw : mp_wf P lv) (hn : mp_nf P lv k a) (h : post (zx_S P G tm en sg (mp_dp di ((1, c + 1) :: mp_L k (zl_D lv) (zl_F lv) (zl_O lv) lv a c (mp_inp P (lv 4)))) cc fc (mp_ap lv ((1, c + 1) :: mp_L k (zl_D lv) (zl_F lv) (zl_O lv) lv a c (mp_inp P (lv 4)))) ct cp po fp)) : wpX_perform post (zx_S P G tm en sg di cc fc lv ct cp po fp) (nI k) a c := by
  obtain ⟨h2, hd, h3, hf, h5, ho, _, _⟩ := hw
  obtain ⟨n1, n2, n3, n4, n5, n6⟩ := hn
  have hss := hP.2.2.2.1
  have hfs := hP.2.2.2.2.2.1
  have hms := hP.2.1
  rcases zk_19 k hk with ⟨rfl, ep, eq⟩ | ⟨rfl, ep, eq⟩ | ⟨rfl, ep, eq⟩ | ⟨rfl, ep, eq⟩ | ⟨rfl, ep, eq⟩ | ⟨rfl, ep, eq⟩ | ⟨rfl, ep, eq⟩ | ⟨rfl, ep, eq⟩ | ⟨rfl, ep, eq⟩ | ⟨rfl, ep, eq⟩ | ⟨rfl, ep, eq⟩ | ⟨rfl, ep, eq⟩ | ⟨rfl, ep, eq⟩ | ⟨rfl, ep, eq⟩ | ⟨rfl, ep, eq⟩ | ⟨rfl, ep, eq⟩ | ⟨rfl, ep, eq⟩ | ⟨rfl, ep, eq⟩ | ⟨rfl, ep, eq⟩
  · exact za_p0 h2 (by omega) (by omega) (by omega) h
  · exact za_p1 h2 (by omega) (by omega) (by omega) h
  · exact za_p2 h2 (by omega) (by omega) (by omega) h
  · exact za_p3 h2 (by omega) (by omega) (by omega) h
  · exact za_p4 h2 (by omega) (by omega) (by omega) h
  · exact za_p5 h2 (by omega) (by omega) (by omega) h
  · exact za_p6 h2 (by omega) (by omega) (by omega) h
  · exact za_p7 h2 (by omega) (by omega) (by omega) h
  · exact za_p8 h2 (by omega) (by omega) (by omega) h
  · obtain ⟨x, hx, ha⟩ := n3 (by omega)
    exact za_p9 h2 (by omega) (by omega) (by omega) (by omega) ((if_neg (by omega)).symm.trans ha) h
  · obtain ⟨x, hx, ha⟩ := n3 (by omega)
    exact za_p10 h2 (by omega) (by omega) (by omega) (by omega) ((if_neg (by omega)).symm.trans ha) h
  · obtain ⟨x, hx, ha⟩ := n3 (by omega)
    exact za_p11 h2 (by omega) (by omega) (by omega) (by omega) ((if_pos (by omega)).symm.trans ha) h
  · obtain ⟨x, hx, ha⟩ := n3 (by omega)
    exact za_p12 h2 (by omega) (by omega) (by omega) (by omega) ((if_pos (by omega)).symm.trans ha) h
  · exact za_p13 h2 (by omega) (by omega) (by omega) h
  · exact za_p14 h2 (by omega) (by omega) (by omega) h
  · have := n4 rfl
    exact za_p15 h2 h3 (by omega) (by omega) (by omega) (by omega) h
  · exact za_p16 h2 h3 (by omega) (by omega) (by omega) (n5 rfl) (by omega) h
  · exact za_p17 h2 hP (by omega) (by omega) (by omega) h
  · exact za_p18 h2 h5 (n6 rfl) (by omega) (by omega) (by omega) h
theorem mp_wf0 (hw : mp_wf P lv) : mp_wf P (mp_0 lv) := by
  obtain ⟨h2, hd, h3, hf, h5, ho, h6, h8⟩ := hw
  exact ⟨h2, hd, h3, hf, h5, ho, Or.inl rfl, fun w hw => by unfold mp_0; rw [pk_un (by omega), pk_un (by omega)]; exact h8 w hw⟩
theorem za_adv0 {post : SX → Prop} (hP : zp_ok P) (hw : mp_wf P lv) (h : zxw_advance_96 post (zx_S P G (tm + 1) en sg (mp_dp di (mp_ws P lv)) cc fc (mp_st P lv) ct cp po fp)) : wpX_advance post (zx_S P G tm en sg di cc fc lv ct cp po fp) := by
  have hw0 : mp_wf P (mp_0 lv) := mp_wf0 hw
  have hpl := hP.2.2.2.2.2.2.2.2.1
  have h' : zxw_advance_96 post (zx_S P G (tm + 1) en sg (mp_dp (zd_or (zd_or di 6) 7) (mp_r P (mp_0 lv))) cc fc (mp_ap (mp_0 lv) (mp_r P (mp_0 lv))) ct cp po fp) := h
  refine nm_r (nI_1 tm) (za_put 6 0 rfl rfl (by omega) (za_put 7 0 rfl rfl (by omega) (nm_r (e' := mp_0 lv 1) rfl ?_)))
  refine br_c (fun z => ?_) (fun z => br_c (fun z2 => ?_) (fun z2 => ?_))
  · exact za_put 0 2 rfl rfl (by omega) (zc_eq (Q := fun L => zxw_advance_96 post (zx_S P G (tm + 1) en sg (mp_dp (zd_or (zd_or di 6) 7) L) cc fc (mp_ap (mp_0 lv) L) ct cp po fp)) (if_pos (Or.inl z)) h')
  · obtain ⟨j, hj, ej⟩ := nI_of z
    have hjp : j < zp_pl P := by rw [ej] at z2; exact (nI_ltI hj (by omega)).mp z2
    obtain ⟨k, hk, ek⟩ := hP.2.2.2.2.2.2.2.2.2.2 j hjp
    have ejc : (mp_0 lv 1).toNatClampNeg = j := by rw [ej]; exact nI_clamp hj
    have emk : mp_k P (mp_0 lv) = k := by unfold mp_k; rw [ejc, ek]; exact nI_clamp (by omega)
    have hin : vp_in (mp_0 lv 1) 64 := by rw [ej]; exact vp_in_nI (by omega) (by omega)
    refine And.intro hin (nm_r (e' := nI (mp_k P (mp_0 lv))) (by rw [ejc, emk]; exact ek) (And.intro hin (nm_r (e' := mp_a P (mp_0 lv)) rfl (za_fault hP (by omega) hw0 ?_))))
    have hnb : ¬ (mp_0 lv 1 < 0 ∨ nI (zp_pl P) ≤ mp_0 lv 1) := fun q => q.elim z (fun q2 => absurd z2 (Int32.not_lt.mpr q2))
    refine br_c (fun zf => ?_) (fun zf => ?_)
    · exact za_perform hP (by omega) hw0 (mp_nf_of hP zf) (zc_eq (Q := fun L => zxw_advance_96 post (zx_S P G (tm + 1) en sg (mp_dp (zd_or (zd_or di 6) 7) L) cc fc (mp_ap (mp_0 lv) L) ct cp po fp)) ((if_neg hnb).trans (if_pos zf)) h')
    · exact za_put 0 _ rfl rfl (by omega) (zc_eq (Q := fun L => zxw_advance_96 post (zx_S P G (tm + 1) en sg (mp_dp (zd_or (zd_or di 6) 7) L) cc fc (mp_ap (mp_0 lv) L) ct cp po fp)) ((if_neg hnb).trans (if_neg zf)) h')
  · exact za_put 0 2 rfl rfl (by omega) (zc_eq (Q := fun L => zxw_advance_96 post (zx_S P G (tm + 1) en sg (mp_dp (zd_or (zd_or di 6) 7) L) cc fc (mp_ap (mp_0 lv) L) ct cp po fp)) (if_pos (Or.inr (Int32.not_lt.mp z2))) h')
end ZG
end
section
/-! the pure step: what it keeps (printed by gen08.py) -/
section ZH
variable {P : zp_P} {l : Nat → Int32} {k : Nat} {a c e i : Int32}
theorem mp_Lv (hP : zp_ok P) (hk : k ≤ 18) (hw : mp_wf P l) (hn : mp_nf P l k a) : mp_V l (mp_ap l ((1, e) :: (mp_L k (zl_D l) (zl_F l) (zl_O l) l a c i))) (mp_L k (zl_D l) (zl_F l) (zl_O l) l a c i) k (zl_D l - mp_pops k + mp_push k) (zp_fs P) (zp_ms P) := by
  obtain ⟨h2, hd, h3, hf, h5, ho, _, _⟩ := hw
  obtain ⟨n1, n2, n3, n4, n5, n6⟩ := hn
  have hss := hP.2.2.2.1
  have hfs := hP.2.2.2.2.2.1
  have hms := hP.2.1
  rcases zk_19 k hk with ⟨rfl, ep, eq⟩ | ⟨rfl, ep, eq⟩ | ⟨rfl, ep, eq⟩ | ⟨rfl, ep, eq⟩ | ⟨rfl, ep, eq⟩ | ⟨rfl, ep, eq⟩ | ⟨rfl, ep, eq⟩ | ⟨rfl, ep, eq⟩ | ⟨rfl, ep, eq⟩ | ⟨rfl, ep, eq⟩ | ⟨rfl, ep, eq⟩ | ⟨rfl, ep, eq⟩ | ⟨rfl, ep, eq⟩ | ⟨rfl, ep, eq⟩ | ⟨rfl, ep, eq⟩ | ⟨rfl, ep, eq⟩ | ⟨rfl, ep, eq⟩ | ⟨rfl, ep, eq⟩ | ⟨rfl, ep, eq⟩
  · have ed : zl_D l - mp_pops 0 + mp_push 0 = zl_D l := by omega
    rw [ed]
    exact mp_v0 h2 h3 h5 (by omega) (by omega) hf hfs ho hms 
  · have ed : zl_D l - mp_pops 1 + mp_push 1 = zl_D l + 1 := by omega
    rw [ed]
    exact mp_v1 h2 h3 h5 (by omega) (by omega) hf hfs ho hms 
  · have ed : zl_D l - mp_pops 2 + mp_push 2 = zl_D l - 1 := by omega
    rw [ed]
    exact mp_v2 h2 h3 h5 (by omega) (by omega) (by omega) hf hfs ho hms 
  · have ed : zl_D l - mp_pops 3 + mp_push 3 = zl_D l + 1 := by omega
    rw [ed]
    exact mp_v3 h2 h3 h5 (by omega) (by omega) (by omega) hf hfs ho hms 
  · have ed : zl_D l - mp_pops 4 + mp_push 4 = zl_D l := by omega
    rw [ed]
    exact mp_v4 h2 h3 h5 (by omega) (by omega) (by omega) hf hfs ho hms 
  · have ed : zl_D l - mp_pops 5 + mp_push 5 = zl_D l - 1 := by omega
    rw [ed]
    exact mp_v5 h2 h3 h5 (by omega) (by omega) (by omega) hf hfs ho hms 
  · have ed : zl_D l - mp_pops 6 + mp_push 6 = zl_D l - 1 := by omega
    rw [ed]
    exact mp_v6 h2 h3 h5 (by omega) (by omega) (by omega) hf hfs ho hms 
  · have ed : zl_D l - mp_pops 7 + mp_push 7 = zl_D l - 1 := by omega
    rw [ed]
    exact mp_v7 h2 h3 h5 (by omega) (by omega) (by omega) hf hfs ho hms 
  · have ed : zl_D l - mp_pops 8 + mp_push 8 = zl_D l - 1 := by omega
    rw [ed]
    exact mp_v8 h2 h3 h5 (by omega) (by omega) (by omega) hf hfs ho hms 
  · have ed : zl_D l - mp_pops 9 + mp_push 9 = zl_D l + 1 := by omega
    rw [ed]
    obtain ⟨x, hx, ha⟩ := n3 (by omega)
    exact mp_v9 h2 h3 h5 (by omega) (by omega) hf hfs ho hms hx ((if_neg (by omega)).symm.trans ha) 
  · have ed : zl_D l - mp_pops 10 + mp_push 10 = zl_D l - 1 := by omega
    rw [ed]
    obtain ⟨x, hx, ha⟩ := n3 (by omega)
    exact mp_v10 h2 h3 h5 (by omega) (by omega) (by omega) hf hfs ho hms hx ((if_neg (by omega)).symm.trans ha) 
  · have ed : zl_D l - mp_pops 11 + mp_push 11 = zl_D l := by omega
    rw [ed]
    obtain ⟨x, hx, ha⟩ := n3 (by omega)
    exact mp_v11 h2 h3 h5 (by omega) (by omega) (by omega) hf hfs ho hms hx ((if_pos (by omega)).symm.trans ha) 
  · have ed : zl_D l - mp_pops 12 + mp_push 12 = zl_D l - 2 := by omega
    rw [ed]
    obtain ⟨x, hx, ha⟩ := n3 (by omega)
    exact mp_v12 h2 h3 h5 (by omega) (by omega) (by omega) hf hfs ho hms hx ((if_pos (by omega)).symm.trans ha) 
  · have ed : zl_D l - mp_pops 13 + mp_push 13 = zl_D l := by omega
    rw [ed]
    exact mp_v13 h2 h3 h5 (by omega) (by omega) hf hfs ho hms 
  · have ed : zl_D l - mp_pops 14 + mp_push 14 = zl_D l - 1 := by omega
    rw [ed]
    exact mp_v14 h2 h3 h5 (by omega) (by omega) (by omega) hf hfs ho hms 
  · have ed : zl_D l - mp_pops 15 + mp_push 15 = zl_D l := by omega
    rw [ed]
    exact mp_v15 h2 h3 h5 (by omega) (by omega) hf hfs ho hms (n4 rfl)
  · have ed : zl_D l - mp_pops 16 + mp_push 16 = zl_D l := by omega
    rw [ed]
    exact mp_v16 h2 h3 h5 (by omega) (by omega) hf hfs ho hms (n5 rfl)
  · have ed : zl_D l - mp_pops 17 + mp_push 17 = zl_D l + 1 := by omega
    rw [ed]
    exact mp_v17 h2 h3 h5 (by omega) (by omega) hf hfs ho hms 
  · have ed : zl_D l - mp_pops 18 + mp_push 18 = zl_D l - 1 := by omega
    rw [ed]
    exact mp_v18 h2 h3 h5 (by omega) (by omega) (by omega) hf hfs ho hms (n6 rfl)
theorem mp_wf_of {d f o : Nat} (h2 : l 2 = nI d) (hd : d ≤ zp_ss P) (h3 : l 3 = nI f) (hf : f ≤ zp_fs P) (h5 : l 5 = nI o) (ho : o ≤ 32) (h6 : l 6 = 0 ∨ ∃ a, a < zp_ms P ∧ l 6 = nI (a + 1)) (h8 : ∀ w, 128 ≤ w → l w = 0) (hP : zp_ok P) : mp_wf P l := by
  have hss := hP.2.2.2.1
  have hfs := hP.2.2.2.2.2.1
  have e2 : zl_D l = d := by unfold zl_D; rw [h2]; exact nI_clamp (by omega)
  have e3 : zl_F l = f := by unfold zl_F; rw [h3]; exact nI_clamp (by omega)
  have e5 : zl_O l = o := by unfold zl_O; rw [h5]; exact nI_clamp (by omega)
  exact ⟨by rw [e2]; exact h2, by omega, by rw [e3]; exact h3, by omega, by rw [e5]; exact h5, by omega, h6, h8⟩
theorem mp_wfu {v : Int32} (hw : mp_wf P l) : mp_wf P (upd l 0 v) := by
  obtain ⟨h2, hd, h3, hf, h5, ho, h6, h8⟩ := hw
  exact ⟨h2, hd, h3, hf, h5, ho, h6, fun w hw => by rw [pk_un (by omega)]; exact h8 w hw⟩
/-- the step takes an input -/
def mp_isin (P : zp_P) (l : Nat → Int32) : Prop := ¬ (mp_0 l 1 < 0 ∨ nI (zp_pl P) ≤ mp_0 l 1) ∧ mp_flt P (mp_0 l) (mp_k P (mp_0 l)) (mp_a P (mp_0 l)) = 0 ∧ mp_k P (mp_0 l) = 17
theorem mp_k18 (hP : zp_ok P) (hb : ¬ (l 1 < 0 ∨ nI (zp_pl P) ≤ l 1)) : mp_k P l ≤ 18 ∧ (l 1).toNatClampNeg < zp_pl P ∧ l 1 = nI (l 1).toNatClampNeg ∧ zp_op P (l 1).toNatClampNeg = nI (mp_k P l) := by
  have hpl := hP.2.2.2.2.2.2.2.2.1
  obtain ⟨j, hj, ej⟩ := nI_of (x := l 1) (fun q => hb (Or.inl q))
  have hjp : j < zp_pl P := by
    rcases Nat.lt_or_ge j (zp_pl P) with q | q
    · exact q
    · exact absurd (Or.inr (by rw [ej]; exact nI_le q hj)) hb
  have ec : (l 1).toNatClampNeg = j := by rw [ej]; exact nI_clamp hj
  obtain ⟨k, hk, ek⟩ := hP.2.2.2.2.2.2.2.2.2.2 j hjp
  have emk : mp_k P l = k := by unfold mp_k; rw [ec, ek]; exact nI_clamp (by omega)
  rw [ec, emk]
  exact ⟨hk, hjp, ej, ek⟩
theorem mp_stV (hP : zp_ok P) (hw : mp_wf P l) : mp_wf P (mp_st P l) ∧ (∀ x, x ∈ mp_ws P l → x.1 < 128) ∧ (mp_st P l 6 = 0 ∨ ∃ x v, x < zp_ms P ∧ mp_st P l 6 = nI (x + 1) ∧ (32 + x, v) ∈ mp_ws P l) ∧ (mp_st P l 4 = l 4 ∨ (mp_isin P l ∧ mp_st P l 4 = l 4 + 1)) := by
  have hw0 : mp_wf P (mp_0 l) := mp_wf0 hw
  have est : mp_st P l = mp_ap (mp_0 l) (mp_r P (mp_0 l)) := rfl
  have ews : mp_ws P l = (6, 0) :: (7, 0) :: mp_r P (mp_0 l) := rfl
  have e4 : mp_0 l 4 = l 4 := rfl
  have e6 : mp_0 l 6 = 0 := rfl
  have hmem : (∀ x, x ∈ mp_r P (mp_0 l) → x.1 < 128) → (∀ x, x ∈ mp_ws P l → x.1 < 128) := by
    intro h x hx
    rw [ews] at hx
    rcases List.mem_cons.mp hx with q | q
    · rw [q]; decide
    · rcases List.mem_cons.mp q with q | q
      · rw [q]; decide
      · exact h x q
  have one : ∀ v : Int32, mp_r P (mp_0 l) = [(0, v)] → mp_wf P (mp_st P l) ∧ (∀ x, x ∈ mp_ws P l → x.1 < 128) ∧ (mp_st P l 6 = 0 ∨ ∃ x v, x < zp_ms P ∧ mp_st P l 6 = nI (x + 1) ∧ (32 + x, v) ∈ mp_ws P l) ∧ (mp_st P l 4 = l 4 ∨ (mp_isin P l ∧ mp_st P l 4 = l 4 + 1)) := by
    intro v ev
    have es : mp_st P l = upd (mp_0 l) 0 v := by rw [est, ev]; rfl
    refine ⟨by rw [es]; exact mp_wfu hw0, hmem ?_, Or.inl (by rw [es]; rfl), Or.inl (by rw [es]; rfl)⟩
    rw [ev]
    intro x hx
    rw [List.mem_singleton.mp hx]; exact (by decide : (0 : Nat) < 128)
  by_cases hb : mp_0 l 1 < 0 ∨ nI (zp_pl P) ≤ mp_0 l 1
  · exact one 2 (if_pos hb)
  · by_cases zf : mp_flt P (mp_0 l) (mp_k P (mp_0 l)) (mp_a P (mp_0 l)) = 0
    · obtain ⟨hk, _⟩ := mp_k18 hP hb
      have er : mp_r P (mp_0 l) = (1, mp_0 l 1 + 1) :: mp_L (mp_k P (mp_0 l)) (zl_D (mp_0 l)) (zl_F (mp_0 l)) (zl_O (mp_0 l)) (mp_0 l) (mp_a P (mp_0 l)) (mp_0 l 1) (mp_inp P (mp_0 l 4)) := (if_neg hb).trans (if_pos zf)
      have hn := mp_nf_of hP zf
      obtain ⟨v2, ⟨f, hf, v3⟩, ⟨o, ho, v5⟩, v6, v4, v8, vr⟩ := mp_Lv (e := mp_0 l 1 + 1) (c := mp_0 l 1) (i := mp_inp P (mp_0 l 4)) hP hk hw0 hn
      rw [← er, ← est] at v2 v3 v5 v6 v4 v8
      have hr : ∀ x, x ∈ mp_r P (mp_0 l) → x.1 < 128 := by
        rw [er]
        intro x hx
        rcases List.mem_cons.mp hx with q | q
        · rw [q]; exact (by decide : (1 : Nat) < 128)
        · exact vr x q
      refine ⟨mp_wf_of v2 hn.2.1 v3 hf v5 ho ?_ ?_ hP, hmem hr, ?_, ?_⟩
      · rcases v6 with q | ⟨x, v, hx, q, _⟩
        · exact Or.inl (q.trans e6)
        · exact Or.inr ⟨x, hx, q⟩
      · intro w hw
        rw [v8 w hw]; exact hw0.2.2.2.2.2.2.2 w hw
      · rcases v6 with q | ⟨x, v, hx, q, m⟩
        · exact Or.inl (q.trans e6)
        · refine Or.inr ⟨x, v, hx, q, ?_⟩
          rw [ews, er]
          exact List.mem_cons_of_mem _ (List.mem_cons_of_mem _ (List.mem_cons_of_mem _ m))
      · rcases v4 with q | ⟨hk17, q⟩
        · exact Or.inl q
        · exact Or.inr ⟨⟨hb, zf, hk17⟩, q⟩
    · exact one _ ((if_neg hb).trans (if_neg zf))
theorem mp_L_i {d f o : Nat} {i' : Int32} (hk : k ≠ 17) : mp_L k d f o l a c i = mp_L k d f o l a c i' := by
  unfold mp_L
  split <;> first | rfl | (exact absurd rfl hk)
/-- the same sizes and program, other inputs -/
def zp_si (P : zp_P) (n : Nat) (f : Nat → Int32) : zp_P := (zp_ms P, zp_ss P, zp_fs P, zp_hz P, zp_pl P, n, zp_op P, zp_od P, f)
theorem mp_st_si {n : Nat} {f : Nat → Int32} (h : mp_isin P l → mp_inp (zp_si P n f) (l 4) = mp_inp P (l 4)) : mp_st (zp_si P n f) l = mp_st P l := by
  have e : mp_r (zp_si P n f) (mp_0 l) = mp_r P (mp_0 l) := by
    by_cases hb : mp_0 l 1 < 0 ∨ nI (zp_pl P) ≤ mp_0 l 1
    · exact (if_pos hb).trans (if_pos hb).symm
    · by_cases zf : mp_flt P (mp_0 l) (mp_k P (mp_0 l)) (mp_a P (mp_0 l)) = 0
      · refine ((if_neg hb).trans (if_pos zf)).trans (Eq.trans ?_ ((if_neg hb).trans (if_pos zf)).symm)
        by_cases hk : mp_k P (mp_0 l) = 17
        · have := h ⟨hb, zf, hk⟩
          show _ :: mp_L (mp_k P (mp_0 l)) _ _ _ _ _ _ (mp_inp (zp_si P n f) (l 4)) = _ :: mp_L (mp_k P (mp_0 l)) _ _ _ _ _ _ (mp_inp P (l 4))
          rw [this]; rfl
        · exact congrArg _ (mp_L_i hk)
      · exact ((if_neg hb).trans (if_neg zf)).trans ((if_neg hb).trans (if_neg zf)).symm
  show mp_ap (mp_0 l) (mp_r (zp_si P n f) (mp_0 l)) = mp_ap (mp_0 l) (mp_r P (mp_0 l))
  rw [e]
end ZH
end
section
/-! Y: rows, one instruction (printed by gen09.py) -/
def zr_en (w : Nat) : Nat := if w < 5 then w + 2 else if w < 8 then w + 3 else if w < 32 then w + 8 else if w < 96 then w + 40 else w - 56
def zr_ev (w : Nat) (x : Int32) : Int32 := if w = 6 then x - 1 else x
/-- Y's row t holds the words l -/
def zr_row (h : Nat → Int32) (t : Nat) (l : Nat → Int32) : Prop := ∀ w, w < 128 → h (t * 136 + zr_en w) = zr_ev w (l w)
/-- row t1 holds l, every other one up to E what it shall -/
def zr_B (P : zp_P) (h : Nat → Int32) (t1 E : Nat) (l : Nat → Int32) : Prop := zr_row h t1 l ∧ ∀ t, t ≤ E → t ≠ t1 → zr_row h t (mp_tr P t)
theorem zr_lt {w : Nat} (hw : w < 128) : zr_en w < 136 := by
  unfold zr_en
  repeat' split
  all_goals omega
theorem zr_inj {w v : Nat} (hw : w < 128) (hv : v < 128) (h : zr_en w = zr_en v) : w = v := by
  unfold zr_en at h
  repeat' split at h
  all_goals omega
theorem zr_s {e : Nat} (h : e < 24) : zr_en (8 + e) = 16 + e := by
  unfold zr_en; rw [if_neg (by omega), if_neg (by omega), if_pos (by omega)]; omega
theorem zr_f {e : Nat} (h : e < 8) : zr_en (24 + e) = 32 + e := by
  unfold zr_en; rw [if_neg (by omega), if_neg (by omega), if_pos (by omega)]; omega
theorem zr_m {e : Nat} (h : e < 64) : zr_en (32 + e) = 72 + e := by
  unfold zr_en; rw [if_neg (by omega), if_neg (by omega), if_neg (by omega), if_pos (by omega)]; omega
theorem zr_o {e : Nat} (h : e < 32) : zr_en (96 + e) = 40 + e := by
  unfold zr_en; rw [if_neg (by omega), if_neg (by omega), if_neg (by omega), if_neg (by omega)]; omega
theorem zr_e6 {w : Nat} {x : Int32} (h : w ≠ 6) : zr_ev w x = x := if_neg h
section ZI
variable {P : zp_P} {G : zg_G} {tm en E : Nat} {h l : Nat → Int32}
theorem zr_wq {Q : (Nat → Int32) → Prop} {ix v v' : Int32} (w : Nat) (hB : zr_B P h tm E l) (ht : tm ≤ 1000) (hw : w < 128) (hx : ix = nI (tm * 136 + zr_en w)) (hv : v = zr_ev w v') (c : ∀ h', zr_B P h' tm E (upd l w v') → Q h') : vp_in ix 136136 ∧ ∀ a, a = upd h ix.toNatClampNeg v → Q a := by
  have he := zr_lt hw
  refine ⟨by rw [hx]; exact vp_in_nI (by omega) (by omega), fun a ea => ?_⟩
  rw [ea, hx, nI_clamp (by omega), hv]
  refine c _ ⟨?_, ?_⟩
  · intro u hu
    by_cases q : u = w
    · subst q; rw [pk_us, pk_us]
    · have ne : tm * 136 + zr_en u ≠ tm * 136 + zr_en w := fun e => q (zr_inj hu hw (by omega))
      rw [pk_un ne, pk_un q]; exact hB.1 u hu
  · intro t ht2 hne u hu
    have := zr_lt hu
    rw [pk_un (by omega)]; exact hB.2 t ht2 hne u hu
theorem zr_w {Q : (Nat → Int32) → Prop} {ix v v' : Int32} (w : Nat) (hB : zr_B P h tm E l) (ht : tm ≤ 1000) (hw : w < 128) (h6 : w ≠ 6) (hx : ix = nI (tm * 136 + zr_en w)) (hv : v = v') (c : ∀ h', zr_B P h' tm E (upd l w v') → Q h') : vp_in ix 136136 ∧ ∀ a, a = upd h ix.toNatClampNeg v → Q a :=
  zr_wq w hB ht hw hx (hv.trans (zr_e6 h6).symm) c
theorem zr_in {ix : Int32} (k : Nat) (ht : tm ≤ 1000) (hk : k < 136) (hx : ix = nI (tm * 136 + k)) : vp_in ix 136136 := by
  rw [hx]; exact vp_in_nI (by omega) (by omega)
theorem zr_rd {ix : Int32} (w : Nat) (hR : zr_row h tm l) (ht : tm ≤ 1000) (hw : w < 128) (h6 : w ≠ 6) (hx : ix = nI (tm * 136 + zr_en w)) : h ix.toNatClampNeg = l w := by
  have he := zr_lt hw
  rw [hx, nI_clamp (by omega), hR w hw, zr_e6 h6]
theorem zr_a (t k : Nat) : nI t * 136 + nI k = nI (t * 136 + k) := by
  rw [show (136 : Int32) = nI 136 from rfl, pk_mul, nI_add]
theorem zy_at {post : Int32 → Prop} {t : Nat} {p v : Int32} (k : Nat) (ht : t ≤ 1000) (hk : k < 136) (hp : p = nI k) (hv : h (t * 136 + k) = v) (c : post v) : wpY_at post (zy_S P G tm en h) (nI t) p := by
  subst hp
  refine And.intro (by rw [zr_a]; exact vp_in_nI (by omega) (by omega)) ?_
  rw [zr_a, nI_clamp (by omega), hv]
  exact c
theorem zy_aw {post : Int32 → Prop} {t : Nat} {p : Int32} (w : Nat) (hR : zr_row h t l) (ht : t ≤ 1000) (hw : w < 128) (h6 : w ≠ 6) (hp : p = nI (zr_en w)) (c : post (l w)) : wpY_at post (zy_S P G tm en h) (nI t) p :=
  zy_at (zr_en w) ht (zr_lt hw) hp ((hR w hw).trans (zr_e6 h6)) c
theorem zy_a6 {post : Int32 → Prop} {t : Nat} {p : Int32} (hR : zr_row h t l) (ht : t ≤ 1000) (hp : p = nI 9) (c : post (l 6 - 1)) : wpY_at post (zy_S P G tm en h) (nI t) p :=
  zy_at 9 ht (by omega) hp (hR 6 (by omega)) c
theorem zb_pops {post : Int32 → Prop} {k : Nat} (hk : k ≤ 18) (c : post (nI (mp_pops k))) : wpY_pops post (zy_S P G tm en h) (nI k) := by
  rcases zk_19 k hk with ⟨rfl, ep, eq⟩ | ⟨rfl, ep, eq⟩ | ⟨rfl, ep, eq⟩ | ⟨rfl, ep, eq⟩ | ⟨rfl, ep, eq⟩ | ⟨rfl, ep, eq⟩ | ⟨rfl, ep, eq⟩ | ⟨rfl, ep, eq⟩ | ⟨rfl, ep, eq⟩ | ⟨rfl, ep, eq⟩ | ⟨rfl, ep, eq⟩ | ⟨rfl, ep, eq⟩ | ⟨rfl, ep, eq⟩ | ⟨rfl, ep, eq⟩ | ⟨rfl, ep, eq⟩ | ⟨rfl, ep, eq⟩ | ⟨rfl, ep, eq⟩ | ⟨rfl, ep, eq⟩ | ⟨rfl, ep, eq⟩
  all_goals (rw [ep] at c; repeat first | exact c | refine br_t (by decide) ?_ | refine br_f (by decide) ?_)
theorem zb_pushes {post : Int32 → Prop} {k : Nat} (hk : k ≤ 18) (c : post (nI (mp_push k))) : wpY_pushes post (zy_S P G tm en h) (nI k) := by
  rcases zk_19 k hk with ⟨rfl, ep, eq⟩ | ⟨rfl, ep, eq⟩ | ⟨rfl, ep, eq⟩ | ⟨rfl, ep, eq⟩ | ⟨rfl, ep, eq⟩ | ⟨rfl, ep, eq⟩ | ⟨rfl, ep, eq⟩ | ⟨rfl, ep, eq⟩ | ⟨rfl, ep, eq⟩ | ⟨rfl, ep, eq⟩ | ⟨rfl, ep, eq⟩ | ⟨rfl, ep, eq⟩ | ⟨rfl, ep, eq⟩ | ⟨rfl, ep, eq⟩ | ⟨rfl, ep, eq⟩ | ⟨rfl, ep, eq⟩ | ⟨rfl, ep, eq⟩ | ⟨rfl, ep, eq⟩ | ⟨rfl, ep, eq⟩
  all_goals (rw [eq] at c; repeat first | exact c | refine br_t (by decide) ?_ | refine br_f (by decide) ?_)
theorem zb_f143 {post : Int32 → Prop} {k : Nat} (hR : zr_row h tm l) (ht : tm ≤ 1000) (hk : k ≤ 18) (hw : mp_wf P l) (c : post (mp_f141 l k)) : zyw_fault_143 post (nI k) (zy_S P G tm en h) := by
  obtain ⟨_, _, _, _, h5, ho, _, _⟩ := hw
  refine pk_eq k 18 (fun e => zy_aw 5 hR ht (by omega) (by omega) rfl (pk_eq (zl_O l) 32 (fun e2 => ?_) (fun e2 => ?_) h5)) (fun e => ?_)
  · exact zc_eq (Q := post) (if_pos (by omega)) c
  · exact zc_eq (Q := post) (if_neg (by omega)) c
  · exact zc_eq (Q := post) (if_neg (by omega)) c
theorem zb_f129 {post : Int32 → Prop} {k : Nat} (hR : zr_row h tm l) (ht : tm ≤ 1000) (hP : zp_ok P) (hk : k ≤ 18) (hw : mp_wf P l) (c : post (mp_f123 l k)) : zyw_fault_129 post (nI k) (nI (zl_F l)) (zy_S P G tm en h) := by
  have hf := hw.2.2.2.1
  have hfs := hP.2.2.2.2.2.1
  refine pk_eq k 16 (fun e => pk_eq (zl_F l) 0 (fun e2 => ?_) (fun e2 => ?_)) (fun e => ?_)
  · exact zc_eq (Q := post) (if_pos (by omega)) c
  · exact zb_f143 hR ht hk hw (zc_eq (Q := post) (if_neg (by omega)) c)
  · exact zb_f143 hR ht hk hw (zc_eq (Q := post) (if_neg (by omega)) c)
theorem zb_f114 {post : Int32 → Prop} {k : Nat} (hR : zr_row h tm l) (ht : tm ≤ 1000) (hP : zp_ok P) (hk : k ≤ 18) (hw : mp_wf P l) (c : post (mp_f101 P l k)) : zyw_fault_114 post (nI k) (nI (zl_F l)) (zy_S P G tm en h) := by
  have hf := hw.2.2.2.1
  have hfs := hP.2.2.2.2.2.1
  refine pk_eq k 15 (fun e => pk_eq (zl_F l) (zp_fs P) (fun e2 => ?_) (fun e2 => ?_)) (fun e => ?_)
  · exact zc_eq (Q := post) (if_pos (by omega)) c
  · exact zb_f129 hR ht hP hk hw (zc_eq (Q := post) (if_neg (by omega)) c)
  · exact zb_f129 hR ht hP hk hw (zc_eq (Q := post) (if_neg (by omega)) c)
theorem zb_f84 {post : Int32 → Prop} {k : Nat} {z0 : Int32} (hR : zr_row h tm l) (ht : tm ≤ 1000) (hP : zp_ok P) (hk : k ≤ 18) (hw : mp_wf P l) (c : post (if 9 ≤ k ∧ k ≤ 12 then mp_f85 P l k z0 else mp_f101 P l k)) : zyw_fault_84 post (nI k) (nI (zl_F l)) z0 (zy_S P G tm en h) := by
  refine pk_lt k 9 (fun e => zb_f114 hR ht hP hk hw (zc_eq (Q := post) (if_neg (by omega)) c)) (fun e => pk_lt 12 k (fun e2 => zb_f114 hR ht hP hk hw (zc_eq (Q := post) (if_neg (by omega)) c)) (fun e2 => ?_))
  rw [if_pos (by omega)] at c
  refine br_c (fun z => zc_eq (Q := post) (if_pos (Or.inl z)) c) (fun z => br_c (fun z2 => ?_) (fun z2 => ?_))
  · exact zb_f114 hR ht hP hk hw (zc_eq (Q := post) (if_neg (fun q => q.elim z (fun q2 => absurd z2 (Int32.not_lt.mpr q2)))) c)
  · exact zc_eq (Q := post) (if_pos (Or.inr (Int32.not_lt.mp z2))) c
theorem zb_fault {post : Int32 → Prop} {k : Nat} {a : Int32} (hR : zr_row h tm l) (ht : tm ≤ 1000) (hP : zp_ok P) (hk : k ≤ 18) (hw : mp_wf P l) (c : post (mp_flt P l k a)) : wpY_fault post (zy_S P G tm en h) (nI k) a := by
  have hd2 := hw.2.1
  have hss := hP.2.2.2.1
  have hpp : mp_pops k ≤ 2 ∧ mp_push k ≤ 2 := by
    have := zk_19 k hk
    omega
  unfold wpY_fault
  refine zy_aw 2 hR ht (by omega) (by omega) rfl ?_
  refine zy_aw 3 hR ht (by omega) (by omega) rfl ?_
  rw [hw.1, hw.2.2.1]
  refine zb_pops hk ?_
  refine pk_le (mp_pops k) (zl_D l) (fun e1 => zb_pops hk (zb_pushes hk ?_)) (fun e1 => zc_eq (Q := post) (if_pos e1) c)
  have ex : nI (zl_D l) - nI (mp_pops k) + nI (mp_push k) = nI (zl_D l - mp_pops k + mp_push k) := by rw [pk_sub e1, nI_add]
  refine pk_le (zl_D l - mp_pops k + mp_push k) (zp_ss P) (fun e2 => ?_) (fun e2 => zc_eq (Q := post) ((if_neg (by omega)).trans (if_pos e2)) c) ex
  have hf : mp_flt P l k a = if 9 ≤ k ∧ k ≤ 12 then mp_f85 P l k (mp_adr l k a) else mp_f101 P l k := (if_neg (by omega)).trans (if_neg (by omega))
  rw [hf] at c
  refine pk_eq k 9 (fun e3 => ?_) (fun e3 => pk_eq k 10 (fun e4 => ?_) (fun e4 => ?_))
  · rw [show mp_adr l k a = a from if_neg (by omega)] at c
    exact zb_f84 hR ht hP hk hw c
  · rw [show mp_adr l k a = a from if_neg (by omega)] at c
    exact zb_f84 hR ht hP hk hw c
  · have e16 : (16 : Int32) + nI (zl_D l) - 1 = nI (15 + zl_D l) := by
      rw [show (16 : Int32) = nI 16 from rfl, nI_add, show 16 + zl_D l = (15 + zl_D l) + 1 by omega]; exact nI_pred _
    refine zy_at (15 + zl_D l) ht (by omega) e16 rfl (zb_f84 hR ht hP hk hw ?_)
    by_cases q : 9 ≤ k ∧ k ≤ 12
    · have hz : 1 ≤ zl_D l := by
        have := zk_19 k hk
        omega
      have ev : h (tm * 136 + (15 + zl_D l)) = mp_adr l k a := by
        rw [show mp_adr l k a = l (8 + (zl_D l - 1)) from if_pos (by omega), show 15 + zl_D l = zr_en (8 + (zl_D l - 1)) by rw [zr_s (by omega)]; omega, hR _ (by omega), zr_e6 (by omega)]
      rw [ev]; exact c
    · rw [if_neg q] at c ⊢; exact c
theorem zb_609 {post : SY → Prop} {k d : Nat} {x11 : Int32} (dn : Nat) (hB : zr_B P h tm E l) (ht : tm ≤ 1000) (hk : k ≤ 18) (hd : mp_pops k ≤ d) (hn : dn = d - mp_pops k + mp_push k) (c : ∀ h', zr_B P h' tm E (upd (upd l 2 (nI dn)) 1 x11) → post (zy_S P G tm en h')) : zyw_perform_609 post (nI k) (nI (tm * 136)) (nI d) x11 (zy_S P G tm en h) := by
  subst hn
  unfold zyw_perform_609 wY_perform_609
  refine zb_pops hk ?_
  refine zb_pushes hk ?_
  refine zr_w (v' := nI (d - mp_pops k + mp_push k)) 2 hB ht (by omega) (by omega) (nI_add (tm * 136) 4) (by rw [pk_sub hd, nI_add]) (fun g1 B1 => ?_)
  exact zr_w 1 B1 ht (by omega) (by omega) (nI_add (tm * 136) 3) rfl (fun g2 B2 => c g2 B2)
end ZI
section ZJ
variable {P : zp_P} {G : zg_G} {tm en E d f o x q fs ms : Nat} {h l : Nat → Int32} {a i x6 x7 z0 : Int32}
theorem zb_q0 {post : SY → Prop} {cx : Int32} (hB : zr_B P h tm E (upd l 0 0)) (ht : tm ≤ 1000) (h0 : l 0 = 0) (h2 : l 2 = nI d) (hp : 0 ≤ d) (hd : d - 0 + 0 ≤ 16) (hd2 : d ≤ 16) (hf : f ≤ fs) (hfs : fs ≤ 8) (ho : o ≤ 32) (hms : ms ≤ 64) (c : ∀ h', zr_B P h' tm E (mp_ap l ((1, cx + 1) :: mp_L 0 d f o l a cx i)) → post (zy_S P G tm en h')) : zyw_perform_117 post (nI 0) a cx (nI (tm * 136)) (nI d) x6 x7 (nI (tm * 136 + 16 + (d - 0))) z0 (zy_S P G tm en h) := by
  have ep : mp_pops 0 = 0 := rfl
  have eq : mp_push 0 = 0 := rfl
  refine nm_e ?_
  refine nm_e ?_
  refine br_f (by decide) ?_
  refine br_f (by decide) ?_
  refine br_t (by decide) ?_
  refine zr_w (0) hB ht (by omega) (by omega) (nI_add (tm * 136) 2) rfl (fun g1 B1 => ?_)
  refine zb_609 (d) B1 ht (by omega) (by omega) (by omega) (fun hz Bz => c hz ?_)
  rw [← mp_e0 h0 h2 hd hd2 hf hfs ho hms ]
  exact Bz
theorem zb_q1 {post : SY → Prop} {cx : Int32} (hB : zr_B P h tm E (upd l 0 0)) (ht : tm ≤ 1000) (h0 : l 0 = 0) (h2 : l 2 = nI d) (hp : 0 ≤ d) (hd : d - 0 + 1 ≤ 16) (hd2 : d ≤ 16) (hf : f ≤ fs) (hfs : fs ≤ 8) (ho : o ≤ 32) (hms : ms ≤ 64) (c : ∀ h', zr_B P h' tm E (mp_ap l ((1, cx + 1) :: mp_L 1 d f o l a cx i)) → post (zy_S P G tm en h')) : zyw_perform_117 post (nI 1) a cx (nI (tm * 136)) (nI d) x6 x7 (nI (tm * 136 + 16 + (d - 0))) z0 (zy_S P G tm en h) := by
  have ep : mp_pops 1 = 0 := rfl
  have eq : mp_push 1 = 1 := rfl
  refine nm_e ?_
  refine nm_e ?_
  refine br_f (by decide) ?_
  refine br_f (by decide) ?_
  refine br_f (by decide) ?_
  refine br_t (by decide) ?_
  refine zr_w (8 + d) hB ht (by omega) (by omega) (by rw [zr_s (by omega)]; exact congrArg nI (by omega)) rfl (fun g1 B1 => ?_)
  refine zb_609 (d + 1) B1 ht (by omega) (by omega) (by omega) (fun hz Bz => c hz ?_)
  rw [← mp_e1 h0 h2 hd hd2 hf hfs ho hms ]
  exact Bz
theorem zb_q2 {post : SY → Prop} {cx : Int32} (hB : zr_B P h tm E (upd l 0 0)) (ht : tm ≤ 1000) (h0 : l 0 = 0) (h2 : l 2 = nI d) (e6 : x6 = l (8 + (d - 1))) (hp : 1 ≤ d) (hd : d - 1 + 0 ≤ 16) (hd2 : d ≤ 16) (hf : f ≤ fs) (hfs : fs ≤ 8) (ho : o ≤ 32) (hms : ms ≤ 64) (c : ∀ h', zr_B P h' tm E (mp_ap l ((1, cx + 1) :: mp_L 2 d f o l a cx i)) → post (zy_S P G tm en h')) : zyw_perform_117 post (nI 2) a cx (nI (tm * 136)) (nI d) x6 x7 (nI (tm * 136 + 16 + (d - 1))) z0 (zy_S P G tm en h) := by
  subst e6
  have ep : mp_pops 2 = 1 := rfl
  have eq : mp_push 2 = 0 := rfl
  refine nm_e ?_
  refine nm_e ?_
  refine br_f (by decide) ?_
  refine br_f (by decide) ?_
  refine br_f (by decide) ?_
  refine br_f (by decide) ?_
  refine br_t (by decide) ?_
  refine zb_609 (d - 1) hB ht (by omega) (by omega) (by omega) (fun hz Bz => c hz ?_)
  rw [← mp_e2 h0 h2 hp hd hd2 hf hfs ho hms ]
  exact Bz
theorem zb_q3 {post : SY → Prop} {cx : Int32} (hB : zr_B P h tm E (upd l 0 0)) (ht : tm ≤ 1000) (h0 : l 0 = 0) (h2 : l 2 = nI d) (e6 : x6 = l (8 + (d - 1))) (hp : 1 ≤ d) (hd : d - 1 + 2 ≤ 16) (hd2 : d ≤ 16) (hf : f ≤ fs) (hfs : fs ≤ 8) (ho : o ≤ 32) (hms : ms ≤ 64) (c : ∀ h', zr_B P h' tm E (mp_ap l ((1, cx + 1) :: mp_L 3 d f o l a cx i)) → post (zy_S P G tm en h')) : zyw_perform_117 post (nI 3) a cx (nI (tm * 136)) (nI d) x6 x7 (nI (tm * 136 + 16 + (d - 1))) z0 (zy_S P G tm en h) := by
  subst e6
  have ep : mp_pops 3 = 1 := rfl
  have eq : mp_push 3 = 2 := rfl
  refine nm_e ?_
  refine nm_e ?_
  refine br_f (by decide) ?_
  refine br_f (by decide) ?_
  refine br_f (by decide) ?_
  refine br_f (by decide) ?_
  refine br_f (by decide) ?_
  refine br_t (by decide) ?_
  refine zr_w (8 + (d - 1)) hB ht (by omega) (by omega) (by rw [zr_s (by omega)]; exact congrArg nI (by omega)) rfl (fun g1 B1 => ?_)
  refine zr_w (8 + d) B1 ht (by omega) (by omega) (by rw [zr_s (by omega), nI_1]; exact congrArg nI (by omega)) rfl (fun g2 B2 => ?_)
  refine zb_609 (d + 1) B2 ht (by omega) (by omega) (by omega) (fun hz Bz => c hz ?_)
  rw [← mp_e3 h0 h2 hp hd hd2 hf hfs ho hms ]
  exact Bz
theorem zb_q4 {post : SY → Prop} {cx : Int32} (hB : zr_B P h tm E (upd l 0 0)) (ht : tm ≤ 1000) (h0 : l 0 = 0) (h2 : l 2 = nI d) (e6 : x6 = l (8 + (d - 1))) (e7 : x7 = l (8 + (d - 2))) (hp : 2 ≤ d) (hd : d - 2 + 2 ≤ 16) (hd2 : d ≤ 16) (hf : f ≤ fs) (hfs : fs ≤ 8) (ho : o ≤ 32) (hms : ms ≤ 64) (c : ∀ h', zr_B P h' tm E (mp_ap l ((1, cx + 1) :: mp_L 4 d f o l a cx i)) → post (zy_S P G tm en h')) : zyw_perform_117 post (nI 4) a cx (nI (tm * 136)) (nI d) x6 x7 (nI (tm * 136 + 16 + (d - 2))) z0 (zy_S P G tm en h) := by
  subst e6
  subst e7
  have ep : mp_pops 4 = 2 := rfl
  have eq : mp_push 4 = 2 := rfl
  refine nm_e ?_
  refine nm_e ?_
  refine br_f (by decide) ?_
  refine br_f (by decide) ?_
  refine br_f (by decide) ?_
  refine br_f (by decide) ?_
  refine br_f (by decide) ?_
  refine br_f (by decide) ?_
  refine br_t (by decide) ?_
  refine zr_w (8 + (d - 2)) hB ht (by omega) (by omega) (by rw [zr_s (by omega)]; exact congrArg nI (by omega)) rfl (fun g1 B1 => ?_)
  refine zr_w (8 + (d - 1)) B1 ht (by omega) (by omega) (by rw [zr_s (by omega), nI_1]; exact congrArg nI (by omega)) rfl (fun g2 B2 => ?_)
  refine zb_609 (d) B2 ht (by omega) (by omega) (by omega) (fun hz Bz => c hz ?_)
  rw [← mp_e4 h0 h2 hp hd hd2 hf hfs ho hms ]
  exact Bz
theorem zb_q5 {post : SY → Prop} {cx : Int32} (hB : zr_B P h tm E (upd l 0 0)) (ht : tm ≤ 1000) (h0 : l 0 = 0) (h2 : l 2 = nI d) (e6 : x6 = l (8 + (d - 1))) (e7 : x7 = l (8 + (d - 2))) (hp : 2 ≤ d) (hd : d - 2 + 1 ≤ 16) (hd2 : d ≤ 16) (hf : f ≤ fs) (hfs : fs ≤ 8) (ho : o ≤ 32) (hms : ms ≤ 64) (c : ∀ h', zr_B P h' tm E (mp_ap l ((1, cx + 1) :: mp_L 5 d f o l a cx i)) → post (zy_S P G tm en h')) : zyw_perform_117 post (nI 5) a cx (nI (tm * 136)) (nI d) x6 x7 (nI (tm * 136 + 16 + (d - 2))) z0 (zy_S P G tm en h) := by
  subst e6
  subst e7
  have ep : mp_pops 5 = 2 := rfl
  have eq : mp_push 5 = 1 := rfl
  refine nm_e ?_
  refine nm_e ?_
  refine br_f (by decide) ?_
  refine br_f (by decide) ?_
  refine br_f (by decide) ?_
  refine br_f (by decide) ?_
  refine br_f (by decide) ?_
  refine br_f (by decide) ?_
  refine br_f (by decide) ?_
  refine br_t (by decide) ?_
  refine zr_w (8 + (d - 2)) hB ht (by omega) (by omega) (by rw [zr_s (by omega)]; exact congrArg nI (by omega)) rfl (fun g1 B1 => ?_)
  refine zb_609 (d - 1) B1 ht (by omega) (by omega) (by omega) (fun hz Bz => c hz ?_)
  rw [← mp_e5 h0 h2 hp hd hd2 hf hfs ho hms ]
  exact Bz
theorem zb_q6 {post : SY → Prop} {cx : Int32} (hB : zr_B P h tm E (upd l 0 0)) (ht : tm ≤ 1000) (h0 : l 0 = 0) (h2 : l 2 = nI d) (e6 : x6 = l (8 + (d - 1))) (e7 : x7 = l (8 + (d - 2))) (hp : 2 ≤ d) (hd : d - 2 + 1 ≤ 16) (hd2 : d ≤ 16) (hf : f ≤ fs) (hfs : fs ≤ 8) (ho : o ≤ 32) (hms : ms ≤ 64) (c : ∀ h', zr_B P h' tm E (mp_ap l ((1, cx + 1) :: mp_L 6 d f o l a cx i)) → post (zy_S P G tm en h')) : zyw_perform_117 post (nI 6) a cx (nI (tm * 136)) (nI d) x6 x7 (nI (tm * 136 + 16 + (d - 2))) z0 (zy_S P G tm en h) := by
  subst e6
  subst e7
  have ep : mp_pops 6 = 2 := rfl
  have eq : mp_push 6 = 1 := rfl
  refine nm_e ?_
  refine nm_e ?_
  refine br_f (by decide) ?_
  refine br_f (by decide) ?_
  refine br_f (by decide) ?_
  refine br_f (by decide) ?_
  refine br_f (by decide) ?_
  refine br_f (by decide) ?_
  refine br_f (by decide) ?_
  refine br_f (by decide) ?_
  refine br_t (by decide) ?_
  refine zr_w (8 + (d - 2)) hB ht (by omega) (by omega) (by rw [zr_s (by omega)]; exact congrArg nI (by omega)) rfl (fun g1 B1 => ?_)
  refine zb_609 (d - 1) B1 ht (by omega) (by omega) (by omega) (fun hz Bz => c hz ?_)
  rw [← mp_e6 h0 h2 hp hd hd2 hf hfs ho hms ]
  exact Bz
theorem zb_q7 {post : SY → Prop} {cx : Int32} (hB : zr_B P h tm E (upd l 0 0)) (ht : tm ≤ 1000) (h0 : l 0 = 0) (h2 : l 2 = nI d) (e6 : x6 = l (8 + (d - 1))) (e7 : x7 = l (8 + (d - 2))) (hp : 2 ≤ d) (hd : d - 2 + 1 ≤ 16) (hd2 : d ≤ 16) (hf : f ≤ fs) (hfs : fs ≤ 8) (ho : o ≤ 32) (hms : ms ≤ 64) (c : ∀ h', zr_B P h' tm E (mp_ap l ((1, cx + 1) :: mp_L 7 d f o l a cx i)) → post (zy_S P G tm en h')) : zyw_perform_117 post (nI 7) a cx (nI (tm * 136)) (nI d) x6 x7 (nI (tm * 136 + 16 + (d - 2))) z0 (zy_S P G tm en h) := by
  subst e6
  subst e7
  have ep : mp_pops 7 = 2 := rfl
  have eq : mp_push 7 = 1 := rfl
  refine nm_e ?_
  refine nm_e ?_
  refine br_f (by decide) ?_
  refine br_f (by decide) ?_
  refine br_f (by decide) ?_
  refine br_f (by decide) ?_
  refine br_f (by decide) ?_
  refine br_f (by decide) ?_
  refine br_f (by decide) ?_
  refine br_f (by decide) ?_
  refine br_f (by decide) ?_
  refine br_t (by decide) ?_
  refine zr_w (8 + (d - 2)) hB ht (by omega) (by omega) (by rw [zr_s (by omega)]; exact congrArg nI (by omega)) rfl (fun g1 B1 => ?_)
  refine zb_609 (d - 1) B1 ht (by omega) (by omega) (by omega) (fun hz Bz => c hz ?_)
  rw [← mp_e7 h0 h2 hp hd hd2 hf hfs ho hms ]
  exact Bz
theorem zb_q8 {post : SY → Prop} {cx : Int32} (hB : zr_B P h tm E (upd l 0 0)) (ht : tm ≤ 1000) (h0 : l 0 = 0) (h2 : l 2 = nI d) (e6 : x6 = l (8 + (d - 1))) (e7 : x7 = l (8 + (d - 2))) (hp : 2 ≤ d) (hd : d - 2 + 1 ≤ 16) (hd2 : d ≤ 16) (hf : f ≤ fs) (hfs : fs ≤ 8) (ho : o ≤ 32) (hms : ms ≤ 64) (c : ∀ h', zr_B P h' tm E (mp_ap l ((1, cx + 1) :: mp_L 8 d f o l a cx i)) → post (zy_S P G tm en h')) : zyw_perform_117 post (nI 8) a cx (nI (tm * 136)) (nI d) x6 x7 (nI (tm * 136 + 16 + (d - 2))) z0 (zy_S P G tm en h) := by
  subst e6
  subst e7
  have ep : mp_pops 8 = 2 := rfl
  have eq : mp_push 8 = 1 := rfl
  refine nm_e ?_
  refine nm_e ?_
  refine br_f (by decide) ?_
  refine br_f (by decide) ?_
  refine br_f (by decide) ?_
  refine br_f (by decide) ?_
  refine br_f (by decide) ?_
  refine br_f (by decide) ?_
  refine br_f (by decide) ?_
  refine br_f (by decide) ?_
  refine br_f (by decide) ?_
  refine br_f (by decide) ?_
  refine br_t (by decide) ?_
  by_cases z : l (8 + (d - 1)) ≤ l (8 + (d - 2))
  · refine br_t z ?_
    refine zr_w (v' := if l (8 + (d - 1)) ≤ l (8 + (d - 2)) then 0 else 1) (8 + (d - 2)) hB ht (by omega) (by omega) (by rw [zr_s (by omega)]; exact congrArg nI (by omega)) (if_pos z).symm (fun g1 B1 => ?_)
    refine zb_609 (d - 1) B1 ht (by omega) (by omega) (by omega) (fun hz Bz => c hz ?_)
    rw [← mp_e8 h0 h2 hp hd hd2 hf hfs ho hms ]
    exact Bz
  · refine br_f z ?_
    refine zr_w (v' := if l (8 + (d - 1)) ≤ l (8 + (d - 2)) then 0 else 1) (8 + (d - 2)) hB ht (by omega) (by omega) (by rw [zr_s (by omega)]; exact congrArg nI (by omega)) (if_neg z).symm (fun g1 B1 => ?_)
    refine zb_609 (d - 1) B1 ht (by omega) (by omega) (by omega) (fun hz Bz => c hz ?_)
    rw [← mp_e8 h0 h2 hp hd hd2 hf hfs ho hms ]
    exact Bz
theorem zb_q9 {post : SY → Prop} {cx : Int32} (hB : zr_B P h tm E (upd l 0 0)) (ht : tm ≤ 1000) (h0 : l 0 = 0) (h2 : l 2 = nI d) (hp : 0 ≤ d) (hd : d - 0 + 1 ≤ 16) (hd2 : d ≤ 16) (hf : f ≤ fs) (hfs : fs ≤ 8) (ho : o ≤ 32) (hms : ms ≤ 64) (hx : x < ms) (ha : a = nI x) (c : ∀ h', zr_B P h' tm E (mp_ap l ((1, cx + 1) :: mp_L 9 d f o l a cx i)) → post (zy_S P G tm en h')) : zyw_perform_117 post (nI 9) a cx (nI (tm * 136)) (nI d) x6 x7 (nI (tm * 136 + 16 + (d - 0))) a (zy_S P G tm en h) := by
  have hc : a.toNatClampNeg = x := by rw [ha]; exact nI_clamp (by omega)
  have ex10 : nI (tm * 136) + 72 + a = nI (tm * 136 + zr_en (32 + x)) := by
    rw [ha, show (72 : Int32) = nI 72 from rfl, nI_add, nI_add, zr_m (by omega)]; exact congrArg nI (by omega)
  have ep : mp_pops 9 = 0 := rfl
  have eq : mp_push 9 = 1 := rfl
  refine nm_e ?_
  refine nm_e ?_
  refine br_f (by decide) ?_
  refine br_f (by decide) ?_
  refine br_f (by decide) ?_
  refine br_f (by decide) ?_
  refine br_f (by decide) ?_
  refine br_f (by decide) ?_
  refine br_f (by decide) ?_
  refine br_f (by decide) ?_
  refine br_f (by decide) ?_
  refine br_f (by decide) ?_
  refine br_f (by decide) ?_
  refine br_t (by decide) ?_
  refine And.intro (zr_in _ ht (zr_lt (by omega)) ex10) ?_
  refine zr_w (v' := l (32 + x)) (8 + d) hB ht (by omega) (by omega) (by rw [zr_s (by omega)]; exact congrArg nI (by omega)) (by rw [zr_rd (32 + x) hB.1 ht (by omega) (by omega) ex10, pk_un (by omega)]) (fun g1 B1 => ?_)
  refine zb_609 (d + 1) B1 ht (by omega) (by omega) (by omega) (fun hz Bz => c hz ?_)
  rw [← mp_e9 h0 h2 hd hd2 hf hfs ho hms hx ha ]
  rw [hc]
  exact Bz
theorem zb_q10 {post : SY → Prop} {cx : Int32} (hB : zr_B P h tm E (upd l 0 0)) (ht : tm ≤ 1000) (h0 : l 0 = 0) (h2 : l 2 = nI d) (e6 : x6 = l (8 + (d - 1))) (hp : 1 ≤ d) (hd : d - 1 + 0 ≤ 16) (hd2 : d ≤ 16) (hf : f ≤ fs) (hfs : fs ≤ 8) (ho : o ≤ 32) (hms : ms ≤ 64) (hx : x < ms) (ha : a = nI x) (c : ∀ h', zr_B P h' tm E (mp_ap l ((1, cx + 1) :: mp_L 10 d f o l a cx i)) → post (zy_S P G tm en h')) : zyw_perform_117 post (nI 10) a cx (nI (tm * 136)) (nI d) x6 x7 (nI (tm * 136 + 16 + (d - 1))) a (zy_S P G tm en h) := by
  subst e6
  have hc : a.toNatClampNeg = x := by rw [ha]; exact nI_clamp (by omega)
  have ex10 : nI (tm * 136) + 72 + a = nI (tm * 136 + zr_en (32 + x)) := by
    rw [ha, show (72 : Int32) = nI 72 from rfl, nI_add, nI_add, zr_m (by omega)]; exact congrArg nI (by omega)
  have ep : mp_pops 10 = 1 := rfl
  have eq : mp_push 10 = 0 := rfl
  refine nm_e ?_
  refine nm_e ?_
  refine br_f (by decide) ?_
  refine br_f (by decide) ?_
  refine br_f (by decide) ?_
  refine br_f (by decide) ?_
  refine br_f (by decide) ?_
  refine br_f (by decide) ?_
  refine br_f (by decide) ?_
  refine br_f (by decide) ?_
  refine br_f (by decide) ?_
  refine br_f (by decide) ?_
  refine br_f (by decide) ?_
  refine br_f (by decide) ?_
  refine br_t (by decide) ?_
  refine zr_wq (v' := a + 1) 6 hB ht (by omega) (nI_add (tm * 136) 9) (show a = a + 1 - 1 by rw [ha, nI_1, nI_pred]) (fun g1 B1 => ?_)
  refine And.intro (zr_in _ ht (zr_lt (by omega)) ex10) ?_
  refine zr_w (v' := l (32 + x)) (7) B1 ht (by omega) (by omega) (nI_add (tm * 136) 10) (by rw [zr_rd (32 + x) B1.1 ht (by omega) (by omega) ex10, pk_un (by omega), pk_un (by omega)]) (fun g2 B2 => ?_)
  refine br_t (by decide) ?_
  refine zr_w (32 + x) B2 ht (by omega) (by omega) ex10 rfl (fun g3 B3 => ?_)
  refine zb_609 (d - 1) B3 ht (by omega) (by omega) (by omega) (fun hz Bz => c hz ?_)
  rw [← mp_e10 h0 h2 hp hd hd2 hf hfs ho hms hx ha ]
  rw [hc]
  exact Bz
theorem zb_q11 {post : SY → Prop} {cx : Int32} (hB : zr_B P h tm E (upd l 0 0)) (ht : tm ≤ 1000) (h0 : l 0 = 0) (h2 : l 2 = nI d) (e6 : x6 = l (8 + (d - 1))) (hp : 1 ≤ d) (hd : d - 1 + 1 ≤ 16) (hd2 : d ≤ 16) (hf : f ≤ fs) (hfs : fs ≤ 8) (ho : o ≤ 32) (hms : ms ≤ 64) (hx : x < ms) (ha : l (8 + (d - 1)) = nI x) (c : ∀ h', zr_B P h' tm E (mp_ap l ((1, cx + 1) :: mp_L 11 d f o l a cx i)) → post (zy_S P G tm en h')) : zyw_perform_117 post (nI 11) a cx (nI (tm * 136)) (nI d) x6 x7 (nI (tm * 136 + 16 + (d - 1))) x6 (zy_S P G tm en h) := by
  subst e6
  have hc : (l (8 + (d - 1))).toNatClampNeg = x := by rw [ha]; exact nI_clamp (by omega)
  have ex10 : nI (tm * 136) + 72 + (l (8 + (d - 1))) = nI (tm * 136 + zr_en (32 + x)) := by
    rw [ha, show (72 : Int32) = nI 72 from rfl, nI_add, nI_add, zr_m (by omega)]; exact congrArg nI (by omega)
  have ep : mp_pops 11 = 1 := rfl
  have eq : mp_push 11 = 1 := rfl
  refine nm_e ?_
  refine nm_e ?_
  refine br_f (by decide) ?_
  refine br_f (by decide) ?_
  refine br_f (by decide) ?_
  refine br_f (by decide) ?_
  refine br_f (by decide) ?_
  refine br_f (by decide) ?_
  refine br_f (by decide) ?_
  refine br_f (by decide) ?_
  refine br_f (by decide) ?_
  refine br_f (by decide) ?_
  refine br_f (by decide) ?_
  refine br_f (by decide) ?_
  refine br_f (by decide) ?_
  refine br_t (by decide) ?_
  refine And.intro (zr_in _ ht (zr_lt (by omega)) ex10) ?_
  refine zr_w (v' := l (32 + x)) (8 + (d - 1)) hB ht (by omega) (by omega) (by rw [zr_s (by omega)]; exact congrArg nI (by omega)) (by rw [zr_rd (32 + x) hB.1 ht (by omega) (by omega) ex10, pk_un (by omega)]) (fun g1 B1 => ?_)
  refine zb_609 (d) B1 ht (by omega) (by omega) (by omega) (fun hz Bz => c hz ?_)
  rw [← mp_e11 h0 h2 hp hd hd2 hf hfs ho hms hx ha ]
  rw [hc]
  exact Bz
theorem zb_q12 {post : SY → Prop} {cx : Int32} (hB : zr_B P h tm E (upd l 0 0)) (ht : tm ≤ 1000) (h0 : l 0 = 0) (h2 : l 2 = nI d) (e6 : x6 = l (8 + (d - 1))) (e7 : x7 = l (8 + (d - 2))) (hp : 2 ≤ d) (hd : d - 2 + 0 ≤ 16) (hd2 : d ≤ 16) (hf : f ≤ fs) (hfs : fs ≤ 8) (ho : o ≤ 32) (hms : ms ≤ 64) (hx : x < ms) (ha : l (8 + (d - 1)) = nI x) (c : ∀ h', zr_B P h' tm E (mp_ap l ((1, cx + 1) :: mp_L 12 d f o l a cx i)) → post (zy_S P G tm en h')) : zyw_perform_117 post (nI 12) a cx (nI (tm * 136)) (nI d) x6 x7 (nI (tm * 136 + 16 + (d - 2))) x6 (zy_S P G tm en h) := by
  subst e6
  subst e7
  have hc : (l (8 + (d - 1))).toNatClampNeg = x := by rw [ha]; exact nI_clamp (by omega)
  have ex10 : nI (tm * 136) + 72 + (l (8 + (d - 1))) = nI (tm * 136 + zr_en (32 + x)) := by
    rw [ha, show (72 : Int32) = nI 72 from rfl, nI_add, nI_add, zr_m (by omega)]; exact congrArg nI (by omega)
  have ep : mp_pops 12 = 2 := rfl
  have eq : mp_push 12 = 0 := rfl
  refine nm_e ?_
  refine nm_e ?_
  refine br_f (by decide) ?_
  refine br_f (by decide) ?_
  refine br_f (by decide) ?_
  refine br_f (by decide) ?_
  refine br_f (by decide) ?_
  refine br_f (by decide) ?_
  refine br_f (by decide) ?_
  refine br_f (by decide) ?_
  refine br_f (by decide) ?_
  refine br_f (by decide) ?_
  refine br_f (by decide) ?_
  refine br_f (by decide) ?_
  refine br_f (by decide) ?_
  refine br_f (by decide) ?_
  refine br_t (by decide) ?_
  refine zr_wq (v' := (l (8 + (d - 1))) + 1) 6 hB ht (by omega) (nI_add (tm * 136) 9) (show (l (8 + (d - 1))) = (l (8 + (d - 1))) + 1 - 1 by rw [ha, nI_1, nI_pred]) (fun g1 B1 => ?_)
  refine And.intro (zr_in _ ht (zr_lt (by omega)) ex10) ?_
  refine zr_w (v' := l (32 + x)) (7) B1 ht (by omega) (by omega) (nI_add (tm * 136) 10) (by rw [zr_rd (32 + x) B1.1 ht (by omega) (by omega) ex10, pk_un (by omega), pk_un (by omega)]) (fun g2 B2 => ?_)
  refine br_f (by decide) ?_
  refine zr_w (32 + x) B2 ht (by omega) (by omega) ex10 rfl (fun g3 B3 => ?_)
  refine zb_609 (d - 2) B3 ht (by omega) (by omega) (by omega) (fun hz Bz => c hz ?_)
  rw [← mp_e12 h0 h2 hp hd hd2 hf hfs ho hms hx ha ]
  rw [hc]
  exact Bz
theorem zb_q13 {post : SY → Prop} {cx : Int32} (hB : zr_B P h tm E (upd l 0 0)) (ht : tm ≤ 1000) (h0 : l 0 = 0) (h2 : l 2 = nI d) (hp : 0 ≤ d) (hd : d - 0 + 0 ≤ 16) (hd2 : d ≤ 16) (hf : f ≤ fs) (hfs : fs ≤ 8) (ho : o ≤ 32) (hms : ms ≤ 64) (c : ∀ h', zr_B P h' tm E (mp_ap l ((1, cx + 1) :: mp_L 13 d f o l a cx i)) → post (zy_S P G tm en h')) : zyw_perform_117 post (nI 13) a cx (nI (tm * 136)) (nI d) x6 x7 (nI (tm * 136 + 16 + (d - 0))) z0 (zy_S P G tm en h) := by
  have ep : mp_pops 13 = 0 := rfl
  have eq : mp_push 13 = 0 := rfl
  refine nm_e ?_
  refine nm_e ?_
  refine br_f (by decide) ?_
  refine br_f (by decide) ?_
  refine br_f (by decide) ?_
  refine br_f (by decide) ?_
  refine br_f (by decide) ?_
  refine br_f (by decide) ?_
  refine br_f (by decide) ?_
  refine br_f (by decide) ?_
  refine br_f (by decide) ?_
  refine br_f (by decide) ?_
  refine br_f (by decide) ?_
  refine br_f (by decide) ?_
  refine br_f (by decide) ?_
  refine br_f (by decide) ?_
  refine br_f (by decide) ?_
  refine br_t (by decide) ?_
  refine zb_609 (d) hB ht (by omega) (by omega) (by omega) (fun hz Bz => c hz ?_)
  rw [← mp_e13 h0 h2 hd hd2 hf hfs ho hms ]
  exact Bz
theorem zb_q14t {post : SY → Prop} {cx : Int32} (hB : zr_B P h tm E (upd l 0 0)) (ht : tm ≤ 1000) (z : l (8 + (d - 1)) = 0) (h0 : l 0 = 0) (h2 : l 2 = nI d) (e6 : x6 = l (8 + (d - 1))) (hp : 1 ≤ d) (hd : d - 1 + 0 ≤ 16) (hd2 : d ≤ 16) (hf : f ≤ fs) (hfs : fs ≤ 8) (ho : o ≤ 32) (hms : ms ≤ 64) (c : ∀ h', zr_B P h' tm E (mp_ap l ((1, cx + 1) :: mp_L 14 d f o l a cx i)) → post (zy_S P G tm en h')) : zyw_perform_117 post (nI 14) a cx (nI (tm * 136)) (nI d) x6 x7 (nI (tm * 136 + 16 + (d - 1))) z0 (zy_S P G tm en h) := by
  subst e6
  have ep : mp_pops 14 = 1 := rfl
  have eq : mp_push 14 = 0 := rfl
  refine nm_e ?_
  refine nm_e ?_
  refine br_f (by decide) ?_
  refine br_f (by decide) ?_
  refine br_f (by decide) ?_
  refine br_f (by decide) ?_
  refine br_f (by decide) ?_
  refine br_f (by decide) ?_
  refine br_f (by decide) ?_
  refine br_f (by decide) ?_
  refine br_f (by decide) ?_
  refine br_f (by decide) ?_
  refine br_f (by decide) ?_
  refine br_f (by decide) ?_
  refine br_f (by decide) ?_
  refine br_f (by decide) ?_
  refine br_f (by decide) ?_
  refine br_f (by decide) ?_
  refine br_t (by decide) ?_
  refine br_t z ?_
  refine zb_609 (d - 1) hB ht (by omega) (by omega) (by omega) (fun hz Bz => c hz ?_)
  rw [← mp_e14t z h0 hp hd hd2 hf hfs ho hms ]
  exact Bz
theorem zb_q14f {post : SY → Prop} {cx : Int32} (hB : zr_B P h tm E (upd l 0 0)) (ht : tm ≤ 1000) (z : ¬ l (8 + (d - 1)) = 0) (h0 : l 0 = 0) (h2 : l 2 = nI d) (e6 : x6 = l (8 + (d - 1))) (hp : 1 ≤ d) (hd : d - 1 + 0 ≤ 16) (hd2 : d ≤ 16) (hf : f ≤ fs) (hfs : fs ≤ 8) (ho : o ≤ 32) (hms : ms ≤ 64) (c : ∀ h', zr_B P h' tm E (mp_ap l ((1, cx + 1) :: mp_L 14 d f o l a cx i)) → post (zy_S P G tm en h')) : zyw_perform_117 post (nI 14) a cx (nI (tm * 136)) (nI d) x6 x7 (nI (tm * 136 + 16 + (d - 1))) z0 (zy_S P G tm en h) := by
  subst e6
  have ep : mp_pops 14 = 1 := rfl
  have eq : mp_push 14 = 0 := rfl
  refine nm_e ?_
  refine nm_e ?_
  refine br_f (by decide) ?_
  refine br_f (by decide) ?_
  refine br_f (by decide) ?_
  refine br_f (by decide) ?_
  refine br_f (by decide) ?_
  refine br_f (by decide) ?_
  refine br_f (by decide) ?_
  refine br_f (by decide) ?_
  refine br_f (by decide) ?_
  refine br_f (by decide) ?_
  refine br_f (by decide) ?_
  refine br_f (by decide) ?_
  refine br_f (by decide) ?_
  refine br_f (by decide) ?_
  refine br_f (by decide) ?_
  refine br_f (by decide) ?_
  refine br_t (by decide) ?_
  refine br_f z ?_
  refine zb_609 (d - 1) hB ht (by omega) (by omega) (by omega) (fun hz Bz => c hz ?_)
  rw [← mp_e14f z h0 hp hd hd2 hf hfs ho hms ]
  exact Bz
theorem zb_q15 {post : SY → Prop} {cx : Int32} (hB : zr_B P h tm E (upd l 0 0)) (ht : tm ≤ 1000) (h0 : l 0 = 0) (h2 : l 2 = nI d) (h3 : l 3 = nI f) (hp : 0 ≤ d) (hd : d - 0 + 0 ≤ 16) (hd2 : d ≤ 16) (hf : f ≤ fs) (hfs : fs ≤ 8) (ho : o ≤ 32) (hms : ms ≤ 64) (hf2 : f < fs) (c : ∀ h', zr_B P h' tm E (mp_ap l ((1, cx + 1) :: mp_L 15 d f o l a cx i)) → post (zy_S P G tm en h')) : zyw_perform_117 post (nI 15) a cx (nI (tm * 136)) (nI d) x6 x7 (nI (tm * 136 + 16 + (d - 0))) z0 (zy_S P G tm en h) := by
  have ep : mp_pops 15 = 0 := rfl
  have eq : mp_push 15 = 0 := rfl
  have r1 : h (nI (tm * 136) + 5).toNatClampNeg = nI f := (zr_rd 3 hB.1 ht (by omega) (by omega) (nI_add (tm * 136) 5)).trans h3
  have ei : nI (tm * 136) + 32 + h (nI (tm * 136) + 5).toNatClampNeg = nI (tm * 136 + zr_en (24 + f)) := by
    rw [r1, show (32 : Int32) = nI 32 from rfl, nI_add, nI_add, zr_f (by omega)]; exact congrArg nI (by omega)
  refine nm_e ?_
  refine nm_e ?_
  refine br_f (by decide) ?_
  refine br_f (by decide) ?_
  refine br_f (by decide) ?_
  refine br_f (by decide) ?_
  refine br_f (by decide) ?_
  refine br_f (by decide) ?_
  refine br_f (by decide) ?_
  refine br_f (by decide) ?_
  refine br_f (by decide) ?_
  refine br_f (by decide) ?_
  refine br_f (by decide) ?_
  refine br_f (by decide) ?_
  refine br_f (by decide) ?_
  refine br_f (by decide) ?_
  refine br_f (by decide) ?_
  refine br_f (by decide) ?_
  refine br_f (by decide) ?_
  refine br_t (by decide) ?_
  refine And.intro (zr_in 5 ht (by omega) (nI_add (tm * 136) 5)) ?_
  refine zr_w (24 + f) hB ht (by omega) (by omega) ei rfl (fun g1 B1 => ?_)
  refine And.intro (zr_in 5 ht (by omega) (nI_add (tm * 136) 5)) ?_
  refine zr_w (v' := nI (f + 1)) (3) B1 ht (by omega) (by omega) (nI_add (tm * 136) 5) (by rw [zr_rd (ix := nI (tm * 136) + 5) 3 B1.1 ht (by omega) (by omega) (nI_add (tm * 136) 5), pk_un (by omega), pk_un (by omega), h3, nI_1]) (fun g2 B2 => ?_)
  refine zb_609 (d) B2 ht (by omega) (by omega) (by omega) (fun hz Bz => c hz ?_)
  rw [← mp_e15 h0 h2 hd hd2 hf hfs ho hms hf2 ]
  exact Bz
theorem zb_q16 {post : SY → Prop} {cx : Int32} (hB : zr_B P h tm E (upd l 0 0)) (ht : tm ≤ 1000) (h0 : l 0 = 0) (h2 : l 2 = nI d) (h3 : l 3 = nI f) (hp : 0 ≤ d) (hd : d - 0 + 0 ≤ 16) (hd2 : d ≤ 16) (hf : f ≤ fs) (hfs : fs ≤ 8) (ho : o ≤ 32) (hms : ms ≤ 64) (hf2 : 0 < f) (c : ∀ h', zr_B P h' tm E (mp_ap l ((1, cx + 1) :: mp_L 16 d f o l a cx i)) → post (zy_S P G tm en h')) : zyw_perform_117 post (nI 16) a cx (nI (tm * 136)) (nI d) x6 x7 (nI (tm * 136 + 16 + (d - 0))) z0 (zy_S P G tm en h) := by
  have ep : mp_pops 16 = 0 := rfl
  have eq : mp_push 16 = 0 := rfl
  have r1 : h (nI (tm * 136) + 5).toNatClampNeg = nI f := (zr_rd 3 hB.1 ht (by omega) (by omega) (nI_add (tm * 136) 5)).trans h3
  have e1 : nI f - 1 = nI (f - 1) := by
    obtain ⟨g, rfl⟩ : ∃ g, f = g + 1 := ⟨f - 1, by omega⟩
    exact nI_pred g
  refine nm_e ?_
  refine nm_e ?_
  refine br_f (by decide) ?_
  refine br_f (by decide) ?_
  refine br_f (by decide) ?_
  refine br_f (by decide) ?_
  refine br_f (by decide) ?_
  refine br_f (by decide) ?_
  refine br_f (by decide) ?_
  refine br_f (by decide) ?_
  refine br_f (by decide) ?_
  refine br_f (by decide) ?_
  refine br_f (by decide) ?_
  refine br_f (by decide) ?_
  refine br_f (by decide) ?_
  refine br_f (by decide) ?_
  refine br_f (by decide) ?_
  refine br_f (by decide) ?_
  refine br_f (by decide) ?_
  refine br_f (by decide) ?_
  refine br_t (by decide) ?_
  refine And.intro (zr_in 5 ht (by omega) (nI_add (tm * 136) 5)) ?_
  refine zr_w (v' := nI (f - 1)) (3) hB ht (by omega) (by omega) (nI_add (tm * 136) 5) (by rw [r1, e1]) (fun g1 B1 => ?_)
  have r2 : g1 (nI (tm * 136) + 5).toNatClampNeg = nI (f - 1) := (zr_rd 3 B1.1 ht (by omega) (by omega) (nI_add (tm * 136) 5)).trans pk_us
  have ei : nI (tm * 136) + 32 + g1 (nI (tm * 136) + 5).toNatClampNeg = nI (tm * 136 + zr_en (24 + (f - 1))) := by rw [r2, show (32 : Int32) = nI 32 from rfl, nI_add, nI_add, zr_f (by omega)]; exact congrArg nI (by omega)
  refine And.intro (zr_in 5 ht (by omega) (nI_add (tm * 136) 5)) ?_
  refine And.intro (zr_in _ ht (zr_lt (by omega)) ei) ?_
  refine nm_r (e' := l (24 + (f - 1))) (by rw [zr_rd (24 + (f - 1)) B1.1 ht (by omega) (by omega) ei, pk_un (by omega), pk_un (by omega)]) ?_
  refine zb_609 (d) B1 ht (by omega) (by omega) (by omega) (fun hz Bz => c hz ?_)
  rw [← mp_e16 h0 h2 hd hd2 hf hfs ho hms hf2 ]
  exact Bz
theorem zb_q17 {post : SY → Prop} {cx : Int32} (hB : zr_B P h tm E (upd l 0 0)) (ht : tm ≤ 1000) (h0 : l 0 = 0) (h2 : l 2 = nI d) (h4 : l 4 = nI q) (hq : q < 32) (hi : zp_in P q = i) (hp : 0 ≤ d) (hd : d - 0 + 1 ≤ 16) (hd2 : d ≤ 16) (hf : f ≤ fs) (hfs : fs ≤ 8) (ho : o ≤ 32) (hms : ms ≤ 64) (c : ∀ h', zr_B P h' tm E (mp_ap l ((1, cx + 1) :: mp_L 17 d f o l a cx i)) → post (zy_S P G tm en h')) : zyw_perform_117 post (nI 17) a cx (nI (tm * 136)) (nI d) x6 x7 (nI (tm * 136 + 16 + (d - 0))) z0 (zy_S P G tm en h) := by
  have ep : mp_pops 17 = 0 := rfl
  have eq : mp_push 17 = 1 := rfl
  have r1 : h (nI (tm * 136) + 6).toNatClampNeg = nI q := (zr_rd 4 hB.1 ht (by omega) (by omega) (nI_add (tm * 136) 6)).trans h4
  refine nm_e ?_
  refine nm_e ?_
  refine br_f (by decide) ?_
  refine br_f (by decide) ?_
  refine br_f (by decide) ?_
  refine br_f (by decide) ?_
  refine br_f (by decide) ?_
  refine br_f (by decide) ?_
  refine br_f (by decide) ?_
  refine br_f (by decide) ?_
  refine br_f (by decide) ?_
  refine br_f (by decide) ?_
  refine br_f (by decide) ?_
  refine br_f (by decide) ?_
  refine br_f (by decide) ?_
  refine br_f (by decide) ?_
  refine br_f (by decide) ?_
  refine br_f (by decide) ?_
  refine br_f (by decide) ?_
  refine br_f (by decide) ?_
  refine br_f (by decide) ?_
  refine br_t (by decide) ?_
  refine And.intro (zr_in 6 ht (by omega) (nI_add (tm * 136) 6)) ?_
  refine And.intro (by rw [r1]; exact vp_in_nI (by omega) (by omega)) ?_
  refine zr_w (v' := i) (8 + d) hB ht (by omega) (by omega) (by rw [zr_s (by omega)]; exact congrArg nI (by omega)) (by rw [r1, nI_clamp (by omega)]; exact hi) (fun g1 B1 => ?_)
  refine And.intro (zr_in 6 ht (by omega) (nI_add (tm * 136) 6)) ?_
  refine zr_w (v' := l 4 + 1) (4) B1 ht (by omega) (by omega) (nI_add (tm * 136) 6) (by rw [zr_rd (ix := nI (tm * 136) + 6) 4 B1.1 ht (by omega) (by omega) (nI_add (tm * 136) 6), pk_un (by omega), pk_un (by omega)]) (fun g2 B2 => ?_)
  refine zb_609 (d + 1) B2 ht (by omega) (by omega) (by omega) (fun hz Bz => c hz ?_)
  rw [← mp_e17 h0 h2 hd hd2 hf hfs ho hms ]
  exact Bz
theorem zb_q18 {post : SY → Prop} {cx : Int32} (hB : zr_B P h tm E (upd l 0 0)) (ht : tm ≤ 1000) (h0 : l 0 = 0) (h2 : l 2 = nI d) (h5 : l 5 = nI o) (e6 : x6 = l (8 + (d - 1))) (hp : 1 ≤ d) (hd : d - 1 + 0 ≤ 16) (hd2 : d ≤ 16) (hf : f ≤ fs) (hfs : fs ≤ 8) (ho : o ≤ 32) (hms : ms ≤ 64) (ho2 : o < 32) (c : ∀ h', zr_B P h' tm E (mp_ap l ((1, cx + 1) :: mp_L 18 d f o l a cx i)) → post (zy_S P G tm en h')) : zyw_perform_117 post (nI 18) a cx (nI (tm * 136)) (nI d) x6 x7 (nI (tm * 136 + 16 + (d - 1))) z0 (zy_S P G tm en h) := by
  subst e6
  have ep : mp_pops 18 = 1 := rfl
  have eq : mp_push 18 = 0 := rfl
  have r1 : h (nI (tm * 136) + 8).toNatClampNeg = nI o := (zr_rd 5 hB.1 ht (by omega) (by omega) (nI_add (tm * 136) 8)).trans h5
  have ei : nI (tm * 136) + 40 + h (nI (tm * 136) + 8).toNatClampNeg = nI (tm * 136 + zr_en (96 + o)) := by
    rw [r1, show (40 : Int32) = nI 40 from rfl, nI_add, nI_add, zr_o (by omega)]; exact congrArg nI (by omega)
  refine nm_e ?_
  refine nm_e ?_
  refine br_f (by decide) ?_
  refine br_f (by decide) ?_
  refine br_f (by decide) ?_
  refine br_f (by decide) ?_
  refine br_f (by decide) ?_
  refine br_f (by decide) ?_
  refine br_f (by decide) ?_
  refine br_f (by decide) ?_
  refine br_f (by decide) ?_
  refine br_f (by decide) ?_
  refine br_f (by decide) ?_
  refine br_f (by decide) ?_
  refine br_f (by decide) ?_
  refine br_f (by decide) ?_
  refine br_f (by decide) ?_
  refine br_f (by decide) ?_
  refine br_f (by decide) ?_
  refine br_f (by decide) ?_
  refine br_f (by decide) ?_
  refine br_f (by decide) ?_
  refine br_t (by decide) ?_
  refine And.intro (zr_in 8 ht (by omega) (nI_add (tm * 136) 8)) ?_
  refine zr_w (96 + o) hB ht (by omega) (by omega) ei rfl (fun g1 B1 => ?_)
  refine And.intro (zr_in 8 ht (by omega) (nI_add (tm * 136) 8)) ?_
  refine zr_w (v' := nI (o + 1)) (5) B1 ht (by omega) (by omega) (nI_add (tm * 136) 8) (by rw [zr_rd (ix := nI (tm * 136) + 8) 5 B1.1 ht (by omega) (by omega) (nI_add (tm * 136) 8), pk_un (by omega), pk_un (by omega), h5, nI_1]) (fun g2 B2 => ?_)
  refine zb_609 (d - 1) B2 ht (by omega) (by omega) (by omega) (fun hz Bz => c hz ?_)
  rw [← mp_e18 h0 h2 hp hd hd2 hf hfs ho hms ho2 ]
  exact Bz
end ZJ
end
section
/-! Y: perform, execute (printed by gen10.py) -/
section ZK
variable {P : zp_P} {G : zg_G} {tm en E : Nat} {h l : Nat → Int32}
theorem zb_117 {post : SY → Prop} {k : Nat} {a cx x6 x7 z0 : Int32} (hB : zr_B P h tm E (upd l 0 0)) (ht : tm ≤ 1000) (hP : zp_ok P) (hk : k ≤ 18) (hw : mp_wf P l) (hn : mp_nf P l k a) (h0 : l 0 = 0) (hin : k = 17 → mp_iq P (l 4)) (e6 : 1 ≤ zl_D l → x6 = l (8 + (zl_D l - 1))) (e7 : 2 ≤ zl_D l → x7 = l (8 + (zl_D l - 2))) (hz1 : k = 9 ∨ k = 10 → z0 = a) (hz2 : ¬ (k = 9 ∨ k = 10) → z0 = x6) (c : ∀ h', zr_B P h' tm E (mp_ap l ((1, cx + 1) :: mp_L k (zl_D l) (zl_F l) (zl_O l) l a cx (mp_inp P (l 4)))) → post (zy_S P G tm en h')) : zyw_perform_117 post (nI k) a cx (nI (tm * 136)) (nI (zl_D l)) x6 x7 (nI (tm * 136 + 16 + (zl_D l - mp_pops k))) z0 (zy_S P G tm en h) := by
  obtain ⟨h2, hd, h3, hf, h5, ho, _, _⟩ := hw
  obtain ⟨n1, n2, n3, n4, n5, n6⟩ := hn
  have hss := hP.2.2.2.1
  have hfs := hP.2.2.2.2.2.1
  have hms := hP.2.1
  rcases zk_19 k hk with ⟨rfl, ep, eq⟩ | ⟨rfl, ep, eq⟩ | ⟨rfl, ep, eq⟩ | ⟨rfl, ep, eq⟩ | ⟨rfl, ep, eq⟩ | ⟨rfl, ep, eq⟩ | ⟨rfl, ep, eq⟩ | ⟨rfl, ep, eq⟩ | ⟨rfl, ep, eq⟩ | ⟨rfl, ep, eq⟩ | ⟨rfl, ep, eq⟩ | ⟨rfl, ep, eq⟩ | ⟨rfl, ep, eq⟩ | ⟨rfl, ep, eq⟩ | ⟨rfl, ep, eq⟩ | ⟨rfl, ep, eq⟩ | ⟨rfl, ep, eq⟩ | ⟨rfl, ep, eq⟩ | ⟨rfl, ep, eq⟩
  · rw [ep]
    exact zb_q0 hB ht h0 h2 (by omega) (by omega) (by omega) hf hfs ho hms c
  · rw [ep]
    exact zb_q1 hB ht h0 h2 (by omega) (by omega) (by omega) hf hfs ho hms c
  · rw [ep]
    exact zb_q2 hB ht h0 h2 (e6 (by omega)) (by omega) (by omega) (by omega) hf hfs ho hms c
  · rw [ep]
    exact zb_q3 hB ht h0 h2 (e6 (by omega)) (by omega) (by omega) (by omega) hf hfs ho hms c
  · rw [ep]
    exact zb_q4 hB ht h0 h2 (e6 (by omega)) (e7 (by omega)) (by omega) (by omega) (by omega) hf hfs ho hms c
  · rw [ep]
    exact zb_q5 hB ht h0 h2 (e6 (by omega)) (e7 (by omega)) (by omega) (by omega) (by omega) hf hfs ho hms c
  · rw [ep]
    exact zb_q6 hB ht h0 h2 (e6 (by omega)) (e7 (by omega)) (by omega) (by omega) (by omega) hf hfs ho hms c
  · rw [ep]
    exact zb_q7 hB ht h0 h2 (e6 (by omega)) (e7 (by omega)) (by omega) (by omega) (by omega) hf hfs ho hms c
  · rw [ep]
    exact zb_q8 hB ht h0 h2 (e6 (by omega)) (e7 (by omega)) (by omega) (by omega) (by omega) hf hfs ho hms c
  · rw [ep]
    rw [hz1 (by omega)]
    obtain ⟨x, hx, ha⟩ := n3 (by omega)
    exact zb_q9 hB ht h0 h2 (by omega) (by omega) (by omega) hf hfs ho hms hx ((if_neg (by omega)).symm.trans ha) c
  · rw [ep]
    rw [hz1 (by omega)]
    obtain ⟨x, hx, ha⟩ := n3 (by omega)
    exact zb_q10 hB ht h0 h2 (e6 (by omega)) (by omega) (by omega) (by omega) hf hfs ho hms hx ((if_neg (by omega)).symm.trans ha) c
  · rw [ep]
    rw [hz2 (by omega)]
    obtain ⟨x, hx, ha⟩ := n3 (by omega)
    exact zb_q11 hB ht h0 h2 (e6 (by omega)) (by omega) (by omega) (by omega) hf hfs ho hms hx ((if_pos (by omega)).symm.trans ha) c
  · rw [ep]
    rw [hz2 (by omega)]
    obtain ⟨x, hx, ha⟩ := n3 (by omega)
    exact zb_q12 hB ht h0 h2 (e6 (by omega)) (e7 (by omega)) (by omega) (by omega) (by omega) hf hfs ho hms hx ((if_pos (by omega)).symm.trans ha) c
  · rw [ep]
    exact zb_q13 hB ht h0 h2 (by omega) (by omega) (by omega) hf hfs ho hms c
  · rw [ep]
    by_cases z : l (8 + (zl_D l - 1)) = 0
    · exact zb_q14t hB ht z h0 h2 (e6 (by omega)) (by omega) (by omega) (by omega) hf hfs ho hms c
    · exact zb_q14f hB ht z h0 h2 (e6 (by omega)) (by omega) (by omega) (by omega) hf hfs ho hms c
  · rw [ep]
    exact zb_q15 hB ht h0 h2 h3 (by omega) (by omega) (by omega) hf hfs ho hms (n4 rfl) c
  · rw [ep]
    exact zb_q16 hB ht h0 h2 h3 (by omega) (by omega) (by omega) hf hfs ho hms (n5 rfl) c
  · rw [ep]
    obtain ⟨q, hqi, hq⟩ := hin rfl
    have hic := hP.2.2.2.2.2.2.2.2.2.1
    have hi : zp_in P q = mp_inp P (l 4) := by
      unfold mp_inp
      rw [hq, if_neg (nI_pos (by omega)), if_pos (nI_lt hqi (by omega)), nI_clamp (by omega)]
    exact zb_q17 hB ht h0 h2 hq (by omega) hi (by omega) (by omega) (by omega) hf hfs ho hms c
  · rw [ep]
    exact zb_q18 hB ht h0 h2 h5 (e6 (by omega)) (by omega) (by omega) (by omega) hf hfs ho hms (n6 rfl) c
theorem zb_perform {post : SY → Prop} {k : Nat} {a cx : Int32} (hB : zr_B P h tm E l) (ht : tm ≤ 1000) (hP : zp_ok P) (hk : k ≤ 18) (hw : mp_wf P l) (h0 : l 0 = 0) (hin : mp_flt P l k a = 0 → k = 17 → mp_iq P (l 4)) (c1 : mp_flt P l k a = 0 → ∀ h', zr_B P h' tm E (mp_ap l ((1, cx + 1) :: mp_L k (zl_D l) (zl_F l) (zl_O l) l a cx (mp_inp P (l 4)))) → post (zy_S P G tm en h')) (c2 : ¬ mp_flt P l k a = 0 → ∀ h', zr_B P h' tm E (mp_ap l [(0, mp_flt P l k a)]) → post (zy_S P G tm en h')) : wpY_perform post (zy_S P G tm en h) (nI k) a cx := by
  have hss := hP.2.2.2.1
  have hdd := hw.2.1
  refine nm_r (e' := nI (tm * 136)) (pk_mul tm 136) (zb_fault hB.1 ht hP hk hw ?_)
  refine zr_w 0 hB ht (by omega) (by omega) (nI_add (tm * 136) 2) rfl (fun h1 B1 => ?_)
  refine And.intro (zr_in 2 ht (by omega) (nI_add (tm * 136) 2)) ?_
  have r0 : h1 (nI (tm * 136) + 2).toNatClampNeg = mp_flt P l k a := (zr_rd 0 B1.1 ht (by omega) (by omega) (nI_add (tm * 136) 2)).trans pk_us
  by_cases zf : mp_flt P l k a = 0
  · refine br_t (r0.trans zf) ?_
    rw [zf] at B1
    have hn := mp_nf_of hP zf
    have i4 : vp_in (nI (tm * 136) + 4) 136136 := zr_in 4 ht (by omega) (nI_add (tm * 136) 4)
    have r2 : h1 (nI (tm * 136) + 4).toNatClampNeg = nI (zl_D l) := ((zr_rd 2 B1.1 ht (by omega) (by omega) (nI_add (tm * 136) 4)).trans (pk_un (by omega))).trans hw.1
    have e16 : nI (tm * 136) + 16 + nI (zl_D l) = nI (tm * 136 + 16 + zl_D l) := by
      rw [show (16 : Int32) = nI 16 from rfl, nI_add, nI_add]
    have e15 : nI (tm * 136) + 16 + nI (zl_D l) - 1 = nI (tm * 136 + (15 + zl_D l)) := by
      rw [e16, show tm * 136 + 16 + zl_D l = (tm * 136 + (15 + zl_D l)) + 1 by omega]; exact nI_pred _
    have e14 : nI (tm * 136) + 16 + nI (zl_D l) - 2 = nI (tm * 136 + (14 + zl_D l)) := by
      rw [e16, show (2 : Int32) = nI 2 from rfl, pk_sub (by omega)]; exact congrArg nI (by omega)
    have e8 : nI (tm * 136) + 16 + nI (zl_D l) - nI (mp_pops k) = nI (tm * 136 + 16 + (zl_D l - mp_pops k)) := by
      have := hn.1
      rw [e16, pk_sub (by omega)]; exact congrArg nI (by omega)
    have e6 : 1 ≤ zl_D l → h1 (nI (tm * 136) + 16 + nI (zl_D l) - 1).toNatClampNeg = l (8 + (zl_D l - 1)) := fun q =>
      (zr_rd (8 + (zl_D l - 1)) B1.1 ht (by omega) (by omega) (e15.trans (by rw [zr_s (by omega)]; exact congrArg nI (by omega)))).trans (pk_un (by omega))
    have e7 : 2 ≤ zl_D l → h1 (nI (tm * 136) + 16 + nI (zl_D l) - 2).toNatClampNeg = l (8 + (zl_D l - 2)) := fun q =>
      (zr_rd (8 + (zl_D l - 2)) B1.1 ht (by omega) (by omega) (e14.trans (by rw [zr_s (by omega)]; exact congrArg nI (by omega)))).trans (pk_un (by omega))
    refine And.intro i4 (nm_r (e' := nI (zl_D l)) r2 (And.intro (zr_in (15 + zl_D l) ht (by omega) e15) (nm_e (And.intro (zr_in (14 + zl_D l) ht (by omega) e14) (nm_e (zb_pops hk (nm_r (e' := nI (tm * 136 + 16 + (zl_D l - mp_pops k))) e8 ?_)))))))
    refine pk_eq k 9 (fun e => ?_) (fun e => pk_eq k 10 (fun e2 => ?_) (fun e2 => ?_))
    · exact zb_117 B1 ht hP hk hw hn h0 (hin zf) e6 e7 (fun _ => rfl) (fun q => absurd (Or.inl e) q) (c1 zf)
    · exact zb_117 B1 ht hP hk hw hn h0 (hin zf) e6 e7 (fun _ => rfl) (fun q => absurd (Or.inr e2) q) (c1 zf)
    · exact zb_117 B1 ht hP hk hw hn h0 (hin zf) e6 e7 (fun q => absurd q (by omega)) (fun _ => rfl) (c1 zf)
  · exact br_f (fun q => zf (r0.symm.trans q)) (c2 zf h1 B1)
theorem zb_76 {post : SY → Prop} (hB : zr_B P h tm E l) (ht : tm ≤ 1000) (hP : zp_ok P) (hw : mp_wf P l) (h0 : l 0 = 0) (hin : mp_isin P l → mp_iq P (l 4)) (c : ∀ h', zr_B P h' tm E (mp_st P l) → post (zy_S P G tm en h')) : zyw_execute_76 post (zy_S P G tm en h) := by
  have hw0 : mp_wf P (mp_0 l) := mp_wf0 hw
  have hpl := hP.2.2.2.2.2.2.2.2.1
  refine zr_wq 6 hB ht (by omega) (zr_a tm 9) (show (-1 : Int32) = 0 - 1 by decide) (fun h1 B1 => ?_)
  refine zr_w 7 B1 ht (by omega) (by omega) (zr_a tm 10) rfl (fun h2 B2 => ?_)
  refine zy_aw 1 B2.1 ht (by omega) (by omega) rfl ?_
  refine br_c (fun z => ?_) (fun z => br_c (fun z2 => ?_) (fun z2 => ?_))
  · refine zr_w 0 B2 ht (by omega) (by omega) (zr_a tm 2) rfl (fun h3 B3 => c h3 ?_)
    exact zc_eq (Q := fun L => zr_B P h3 tm E (mp_ap (mp_0 l) L)) (if_pos (Or.inl z)).symm B3
  · have hnb : ¬ (mp_0 l 1 < 0 ∨ nI (zp_pl P) ≤ mp_0 l 1) := fun q => q.elim z (fun q2 => absurd z2 (Int32.not_lt.mpr q2))
    obtain ⟨hk, hj, ej, ek⟩ := mp_k18 hP hnb
    have hi : vp_in (mp_0 l 1) 64 := by rw [ej]; exact vp_in_nI (by omega) (by omega)
    refine And.intro hi (And.intro hi ?_)
    show wpY_perform _ _ (zp_op P (mp_0 l 1).toNatClampNeg) (mp_a P (mp_0 l)) (mp_0 l 1)
    rw [ek]
    refine zb_perform B2 ht hP hk hw0 h0 (fun zf z17 => hin ⟨hnb, zf, z17⟩) (fun zf h3 B3 => c h3 ?_) (fun zf h3 B3 => c h3 ?_)
    · exact zc_eq (Q := fun L => zr_B P h3 tm E (mp_ap (mp_0 l) L)) ((if_neg hnb).trans (if_pos zf)).symm B3
    · exact zc_eq (Q := fun L => zr_B P h3 tm E (mp_ap (mp_0 l) L)) ((if_neg hnb).trans (if_neg zf)).symm B3
  · refine zr_w 0 B2 ht (by omega) (by omega) (zr_a tm 2) rfl (fun h3 B3 => c h3 ?_)
    exact zc_eq (Q := fun L => zr_B P h3 tm E (mp_ap (mp_0 l) L)) (if_pos (Or.inr (Int32.not_lt.mp z2))).symm B3
def zr_cp (h h1 : Nat → Int32) (tm j : Nat) : Prop := (∀ q, ¬ ((tm + 1) * 136 ≤ q ∧ q < (tm + 1) * 136 + j) → h1 q = h q) ∧ ∀ i, i < j → h1 ((tm + 1) * 136 + i) = h (tm * 136 + i)
theorem zb_copy {post : SY → Prop} (ht : tm < 1000) (c : ∀ h', zr_cp h h' tm 136 → (nI (tm + 1) ≤ nI en → zyw_execute_76 post (zy_S P G (tm + 1) en h')) ∧ (¬ nI (tm + 1) ≤ nI en → zyw_execute_76 post (zy_S P G (tm + 1) (tm + 1) h'))) : ∀ (m n j : Nat) (h1 : Nat → Int32), j + m = 136 → m < n → zr_cp h h1 tm j → zyw_execute_2 post n (nI j) (zy_S P G tm en h1) := by
  intro m
  induction m with
  | zero =>
    intro n j h1 hj hn hc
    obtain ⟨n, rfl⟩ : ∃ n', n = n' + 1 := ⟨n - 1, by omega⟩
    obtain rfl : j = 136 := by omega
    exact br_t (by decide) (nm_r (nI_1 tm) (c h1 hc))
  | succ m ih =>
    intro n j h1 hj hn hc
    obtain ⟨n, rfl⟩ : ∃ n', n = n' + 1 := ⟨n - 1, by omega⟩
    have e1 : nI tm * 136 + nI j = nI (tm * 136 + j) := zr_a tm j
    have e2 : (nI tm + 1) * 136 + nI j = nI ((tm + 1) * 136 + j) := by rw [nI_1]; exact zr_a (tm + 1) j
    refine br_f (nI_ge (b := 136) (by omega) (by omega)) (And.intro (by rw [e1]; exact vp_in_nI (by omega) (by omega)) (And.intro (by rw [e2]; exact vp_in_nI (by omega) (by omega)) ?_))
    refine nm_r (e' := upd h1 ((tm + 1) * 136 + j) (h1 (tm * 136 + j))) (by rw [e1, e2, nI_clamp (by omega), nI_clamp (by omega)]) (nm_r (nI_1 j) ?_)
    refine ih n (j + 1) _ (by omega) (by omega) ⟨fun q hq => ?_, fun i hi => ?_⟩
    · rw [pk_un (by omega)]; exact hc.1 q (by omega)
    · by_cases z : i = j
      · subst z; rw [pk_us]; exact hc.1 _ (by omega)
      · rw [pk_un (by omega)]; exact hc.2 i (by omega)
theorem zr_cpB (hr : ∀ t, t ≤ en → zr_row h t (mp_tr P t)) (hte : tm ≤ en) {h1 : Nat → Int32} (hc : zr_cp h h1 tm 136) (hE : E ≤ en ∨ E = tm + 1) : zr_B P h1 (tm + 1) E (mp_tr P tm) := by
  refine ⟨fun u hu => ?_, fun t ht hne u hu => ?_⟩
  · have := zr_lt hu
    rw [hc.2 _ this]; exact hr tm hte u hu
  · have := zr_lt hu
    rw [hc.1 _ (by omega)]; exact hr t (by omega) u hu
theorem zb_exec {post : SY → Prop} (hP : zp_ok P) (hw : mp_wf P (mp_tr P tm)) (h0 : mp_tr P tm 0 = 0) (hin : mp_isin P (mp_tr P tm) → mp_iq P (mp_tr P tm 4)) (hr : ∀ t, t ≤ en → zr_row h t (mp_tr P t)) (hte : tm ≤ en) (he : en ≤ 1000) (ht : tm < 1000) (c : ∀ h', (∀ t, t ≤ max en (tm + 1) → zr_row h' t (mp_tr P t)) → post (zy_S P G (tm + 1) (max en (tm + 1)) h')) : wpY_execute post (zy_S P G tm en h) := by
  refine ⟨137, zb_copy ht ?_ 136 137 0 h rfl (by omega) ⟨fun q _ => rfl, fun i hi => absurd hi (by omega)⟩⟩
  intro h1 hc
  have fin : ∀ E h', zr_B P h' (tm + 1) E (mp_st P (mp_tr P tm)) → ∀ t, t ≤ E → zr_row h' t (mp_tr P t) := by
    intro E h' hB t hE
    by_cases q : t = tm + 1
    · subst q; exact hB.1
    · exact hB.2 t hE q
  refine pk_le (tm + 1) en (fun q => ?_) (fun q => ?_)
  · refine zb_76 (zr_cpB hr hte hc (E := en) (Or.inl (by omega))) (by omega) hP hw h0 hin (fun h' hB => ?_)
    have em : max en (tm + 1) = en := by omega
    rw [em] at c
    exact c h' (fin en h' hB)
  · refine zb_76 (zr_cpB hr hte hc (E := tm + 1) (Or.inr rfl)) (by omega) hP hw h0 hin (fun h' hB => ?_)
    have em : max en (tm + 1) = tm + 1 := by omega
    rw [em] at c
    exact c h' (fin (tm + 1) h' hB)
end ZK
end
section
/-! stop mask and hindrance, both sides (printed by gen11.py) -/
def mk_h (c old now v : Int32) : Int32 := if c = 1 then 1 else if c = 2 then (if now = old then 0 else 1) else if c = 3 then (if now = v then 1 else 0) else if c = 4 then (if v ≤ now then 0 else 1) else if c = 5 then (if now ≤ v then 0 else 1) else if c = 6 then (if now = v then (if old = v then 0 else 1) else 0) else 0
def mk_1 (G : zg_G) (a now old : Int32) (k m : Nat) : Nat := if zg_wa G k = a then (if mk_h (zg_wc G k) old now (zg_wv G k) = 0 then m else m + 2 ^ (k + 1)) else m
def mk_r (G : zg_G) (a now old : Int32) : Nat → Nat → Nat → Nat
  | 0, _, m => m
  | r + 1, k, m => mk_r G a now old r (k + 1) (mk_1 G a now old k m)
def mk_m0 (G : zg_G) (l : Nat → Int32) : Nat := if l 0 = 0 then (if l 1 < 0 then 0 else if 64 ≤ l 1 then 0 else if zg_br G (l 1).toNatClampNeg = 0 then 0 else 1) else 0
def mk_39 (G : zg_G) (l : Nat → Int32) (m : Nat) : Nat := if l 6 = 0 then m else mk_r G (l 6 - 1) (l (32 + (l 6 - 1).toNatClampNeg)) (l 7) 4 0 m
/-- the stop mask at the words l -/
def mk_msk (G : zg_G) (l : Nat → Int32) : Nat := mk_39 G l (mk_m0 G l)
theorem mk_or : ∀ k, k < 4 → ∀ m, m < 2 ^ (k + 1) → nI m ||| ((2 : Int32) <<< (nI k &&& 31)) = nI (m + 2 ^ (k + 1)) := by decide +kernel
theorem mk_ad : ∀ k, k < 4 → ∀ m, m < 2 ^ (k + 1) → nI m + ((2 : Int32) <<< (nI k &&& 31)) = nI (m + 2 ^ (k + 1)) := by decide +kernel
section ZL
variable {P : zp_P} {G : zg_G} {tm en sg cc fc : Nat} {di : Int32} {lv ct cp po fp h l : Nat → Int32}
theorem mk_1lt {a now old : Int32} {k m : Nat} (h : m < 2 ^ (k + 1)) : mk_1 G a now old k m < 2 ^ (k + 1 + 1) := by
  have e : 2 ^ (k + 1 + 1) = 2 ^ (k + 1) * 2 := Nat.pow_succ ..
  unfold mk_1
  repeat' split
  all_goals omega
theorem mk_rlt {a now old : Int32} : ∀ (r k m : Nat), m < 2 ^ (k + 1) → mk_r G a now old r k m < 2 ^ (k + r + 1) := by
  intro r
  induction r with
  | zero => intro k m h; exact h
  | succ r ih =>
    intro k m h
    have := ih (k + 1) _ (mk_1lt (G := G) (a := a) (now := now) (old := old) h)
    rw [show k + (r + 1) + 1 = k + 1 + r + 1 by omega]
    exact this
theorem mk_m0lt : mk_m0 G l < 2 ^ (0 + 1) := by
  unfold mk_m0
  repeat' split
  all_goals decide
theorem mk_lt : mk_msk G l < 32 := by
  unfold mk_msk mk_39
  have h0 : mk_m0 G l < 2 ^ (0 + 1) := mk_m0lt
  split
  · omega
  · have := mk_rlt (G := G) (a := l 6 - 1) (now := l (32 + (l 6 - 1).toNatClampNeg)) (old := l 7) 4 0 (mk_m0 G l) h0
    omega
theorem mk_r0 {a now old : Int32} (hz : ∀ k, k < 4 → zg_wa G k = a → mk_h (zg_wc G k) old now (zg_wv G k) = 0) : ∀ (r k m : Nat), k + r ≤ 4 → mk_r G a now old r k m = m := by
  intro r
  induction r with
  | zero => intro k m h; rfl
  | succ r ih =>
    intro k m h
    have e : mk_1 G a now old k m = m := by
      unfold mk_1
      split
      · next q => rw [if_pos (hz k (by omega) q)]
      · rfl
    show mk_r G a now old r (k + 1) (mk_1 G a now old k m) = m
    rw [e]; exact ih (k + 1) m (by omega)
theorem mk_h0 {c old now v : Int32} (h : c = 0) : mk_h c old now v = 0 := by
  subst h
  unfold mk_h
  rw [if_neg (by decide), if_neg (by decide), if_neg (by decide), if_neg (by decide), if_neg (by decide), if_neg (by decide)]
theorem mk_X {post : Int32 → Prop} {k : Nat} {old now : Int32} (hk : k < 4) (h : post (mk_h (zg_wc G k) old now (zg_wv G k))) : wpX_conditionHolds post (zx_S P G tm en sg di cc fc lv ct cp po fp) (nI k) old now := by
  have hi : vp_in (nI k) 4 := vp_in_nI hk (by omega)
  refine And.intro hi (nm_r (e' := zg_wv G k) (by rw [nI_clamp (by omega)]) (And.intro hi (nm_r (e' := zg_wc G k) (by rw [nI_clamp (by omega)]) ?_)))
  generalize zg_wc G k = cv at h ⊢
  generalize zg_wv G k = v at h ⊢
  by_cases c1 : cv = 1
  · subst c1; replace h : post 1 := zc_eq (Q := post) (if_pos rfl) h
    repeat first | exact h | refine br_t (by decide) ?_ | refine br_f (by decide) ?_
  by_cases c2 : cv = 2
  · subst c2; by_cases z : now = old
    · replace h : post 0 := zc_eq (Q := post) ((if_neg (by decide)).trans ((if_pos rfl).trans (if_pos z))) h
      repeat first | exact h | refine br_t (by decide) ?_ | refine br_f (by decide) ?_ | refine br_t z ?_ | refine br_f z ?_
    · replace h : post 1 := zc_eq (Q := post) ((if_neg (by decide)).trans ((if_pos rfl).trans (if_neg z))) h
      repeat first | exact h | refine br_t (by decide) ?_ | refine br_f (by decide) ?_ | refine br_t z ?_ | refine br_f z ?_
  by_cases c3 : cv = 3
  · subst c3; by_cases z : now = v
    · replace h : post 1 := zc_eq (Q := post) ((if_neg (by decide)).trans ((if_neg (by decide)).trans ((if_pos rfl).trans (if_pos z)))) h
      repeat first | exact h | refine br_t (by decide) ?_ | refine br_f (by decide) ?_ | refine br_t z ?_ | refine br_f z ?_
    · replace h : post 0 := zc_eq (Q := post) ((if_neg (by decide)).trans ((if_neg (by decide)).trans ((if_pos rfl).trans (if_neg z)))) h
      repeat first | exact h | refine br_t (by decide) ?_ | refine br_f (by decide) ?_ | refine br_t z ?_ | refine br_f z ?_
  by_cases c4 : cv = 4
  · subst c4; by_cases z : v ≤ now
    · replace h : post 0 := zc_eq (Q := post) ((if_neg (by decide)).trans ((if_neg (by decide)).trans ((if_neg (by decide)).trans ((if_pos rfl).trans (if_pos z))))) h
      have z2 : ¬ now < v := Int32.not_lt.mpr z
      repeat first | exact h | refine br_t (by decide) ?_ | refine br_f (by decide) ?_ | refine br_t z ?_ | refine br_f z ?_ | refine br_t z2 ?_ | refine br_f z2 ?_
    · replace h : post 1 := zc_eq (Q := post) ((if_neg (by decide)).trans ((if_neg (by decide)).trans ((if_neg (by decide)).trans ((if_pos rfl).trans (if_neg z))))) h
      have z2 : now < v := Int32.not_le.mp z
      repeat first | exact h | refine br_t (by decide) ?_ | refine br_f (by decide) ?_ | refine br_t z ?_ | refine br_f z ?_ | refine br_t z2 ?_ | refine br_f z2 ?_
  by_cases c5 : cv = 5
  · subst c5; by_cases z : now ≤ v
    · replace h : post 0 := zc_eq (Q := post) ((if_neg (by decide)).trans ((if_neg (by decide)).trans ((if_neg (by decide)).trans ((if_neg (by decide)).trans ((if_pos rfl).trans (if_pos z)))))) h
      have z2 : ¬ v < now := Int32.not_lt.mpr z
      repeat first | exact h | refine br_t (by decide) ?_ | refine br_f (by decide) ?_ | refine br_t z ?_ | refine br_f z ?_ | refine br_t z2 ?_ | refine br_f z2 ?_
    · replace h : post 1 := zc_eq (Q := post) ((if_neg (by decide)).trans ((if_neg (by decide)).trans ((if_neg (by decide)).trans ((if_neg (by decide)).trans ((if_pos rfl).trans (if_neg z)))))) h
      have z2 : v < now := Int32.not_le.mp z
      repeat first | exact h | refine br_t (by decide) ?_ | refine br_f (by decide) ?_ | refine br_t z ?_ | refine br_f z ?_ | refine br_t z2 ?_ | refine br_f z2 ?_
  by_cases c6 : cv = 6
  · subst c6; by_cases z : now = v
    · by_cases z2 : old = v
      · replace h : post 0 := zc_eq (Q := post) ((if_neg (by decide)).trans ((if_neg (by decide)).trans ((if_neg (by decide)).trans ((if_neg (by decide)).trans ((if_neg (by decide)).trans ((if_pos rfl).trans ((if_pos z).trans (if_pos z2)))))))) h
        repeat first | exact h | refine br_t (by decide) ?_ | refine br_f (by decide) ?_ | refine br_t z ?_ | refine br_f z ?_ | refine br_t z2 ?_ | refine br_f z2 ?_
      · replace h : post 1 := zc_eq (Q := post) ((if_neg (by decide)).trans ((if_neg (by decide)).trans ((if_neg (by decide)).trans ((if_neg (by decide)).trans ((if_neg (by decide)).trans ((if_pos rfl).trans ((if_pos z).trans (if_neg z2)))))))) h
        repeat first | exact h | refine br_t (by decide) ?_ | refine br_f (by decide) ?_ | refine br_t z ?_ | refine br_f z ?_ | refine br_t z2 ?_ | refine br_f z2 ?_
    · replace h : post 0 := zc_eq (Q := post) ((if_neg (by decide)).trans ((if_neg (by decide)).trans ((if_neg (by decide)).trans ((if_neg (by decide)).trans ((if_neg (by decide)).trans ((if_pos rfl).trans (if_neg z))))))) h
      repeat first | exact h | refine br_t (by decide) ?_ | refine br_f (by decide) ?_ | refine br_t z ?_ | refine br_f z ?_
  replace h : post 0 := zc_eq (Q := post) ((if_neg c1).trans ((if_neg c2).trans ((if_neg c3).trans ((if_neg c4).trans ((if_neg c5).trans (if_neg c6)))))) h
  refine br_c (fun _ => h) (fun _ => br_c (fun _ => h) (fun _ => br_f c1 (br_f c2 (br_f c3 (br_f c4 (br_f c5 (br_f c6 trivial)))))))
theorem mk_Y {post : Int32 → Prop} {cv old now v : Int32} (h : post (mk_h cv old now v)) {hh : Nat → Int32} : wpY_holds post (zy_S P G tm en hh) cv old now v := by
  by_cases c1 : cv = 1
  · subst c1; replace h : post 1 := zc_eq (Q := post) (if_pos rfl) h
    repeat first | exact h | refine br_t (by decide) ?_ | refine br_f (by decide) ?_
  by_cases c2 : cv = 2
  · subst c2; by_cases z : now = old
    · replace h : post 0 := zc_eq (Q := post) ((if_neg (by decide)).trans ((if_pos rfl).trans (if_pos z))) h
      repeat first | exact h | refine br_t (by decide) ?_ | refine br_f (by decide) ?_ | refine br_t z ?_ | refine br_f z ?_
    · replace h : post 1 := zc_eq (Q := post) ((if_neg (by decide)).trans ((if_pos rfl).trans (if_neg z))) h
      repeat first | exact h | refine br_t (by decide) ?_ | refine br_f (by decide) ?_ | refine br_t z ?_ | refine br_f z ?_
  by_cases c3 : cv = 3
  · subst c3; by_cases z : now = v
    · replace h : post 1 := zc_eq (Q := post) ((if_neg (by decide)).trans ((if_neg (by decide)).trans ((if_pos rfl).trans (if_pos z)))) h
      repeat first | exact h | refine br_t (by decide) ?_ | refine br_f (by decide) ?_ | refine br_t z ?_ | refine br_f z ?_
    · replace h : post 0 := zc_eq (Q := post) ((if_neg (by decide)).trans ((if_neg (by decide)).trans ((if_pos rfl).trans (if_neg z)))) h
      repeat first | exact h | refine br_t (by decide) ?_ | refine br_f (by decide) ?_ | refine br_t z ?_ | refine br_f z ?_
  by_cases c4 : cv = 4
  · subst c4; by_cases z : v ≤ now
    · replace h : post 0 := zc_eq (Q := post) ((if_neg (by decide)).trans ((if_neg (by decide)).trans ((if_neg (by decide)).trans ((if_pos rfl).trans (if_pos z))))) h
      have z2 : ¬ now < v := Int32.not_lt.mpr z
      repeat first | exact h | refine br_t (by decide) ?_ | refine br_f (by decide) ?_ | refine br_t z ?_ | refine br_f z ?_ | refine br_t z2 ?_ | refine br_f z2 ?_
    · replace h : post 1 := zc_eq (Q := post) ((if_neg (by decide)).trans ((if_neg (by decide)).trans ((if_neg (by decide)).trans ((if_pos rfl).trans (if_neg z))))) h
      have z2 : now < v := Int32.not_le.mp z
      repeat first | exact h | refine br_t (by decide) ?_ | refine br_f (by decide) ?_ | refine br_t z ?_ | refine br_f z ?_ | refine br_t z2 ?_ | refine br_f z2 ?_
  by_cases c5 : cv = 5
  · subst c5; by_cases z : now ≤ v
    · replace h : post 0 := zc_eq (Q := post) ((if_neg (by decide)).trans ((if_neg (by decide)).trans ((if_neg (by decide)).trans ((if_neg (by decide)).trans ((if_pos rfl).trans (if_pos z)))))) h
      have z2 : ¬ v < now := Int32.not_lt.mpr z
      repeat first | exact h | refine br_t (by decide) ?_ | refine br_f (by decide) ?_ | refine br_t z ?_ | refine br_f z ?_ | refine br_t z2 ?_ | refine br_f z2 ?_
    · replace h : post 1 := zc_eq (Q := post) ((if_neg (by decide)).trans ((if_neg (by decide)).trans ((if_neg (by decide)).trans ((if_neg (by decide)).trans ((if_pos rfl).trans (if_neg z)))))) h
      have z2 : v < now := Int32.not_le.mp z
      repeat first | exact h | refine br_t (by decide) ?_ | refine br_f (by decide) ?_ | refine br_t z ?_ | refine br_f z ?_ | refine br_t z2 ?_ | refine br_f z2 ?_
  by_cases c6 : cv = 6
  · subst c6; by_cases z : now = v
    · by_cases z2 : old = v
      · replace h : post 0 := zc_eq (Q := post) ((if_neg (by decide)).trans ((if_neg (by decide)).trans ((if_neg (by decide)).trans ((if_neg (by decide)).trans ((if_neg (by decide)).trans ((if_pos rfl).trans ((if_pos z).trans (if_pos z2)))))))) h
        repeat first | exact h | refine br_t (by decide) ?_ | refine br_f (by decide) ?_ | refine br_t z ?_ | refine br_f z ?_ | refine br_t z2 ?_ | refine br_f z2 ?_
      · replace h : post 1 := zc_eq (Q := post) ((if_neg (by decide)).trans ((if_neg (by decide)).trans ((if_neg (by decide)).trans ((if_neg (by decide)).trans ((if_neg (by decide)).trans ((if_pos rfl).trans ((if_pos z).trans (if_neg z2)))))))) h
        repeat first | exact h | refine br_t (by decide) ?_ | refine br_f (by decide) ?_ | refine br_t z ?_ | refine br_f z ?_ | refine br_t z2 ?_ | refine br_f z2 ?_
    · replace h : post 0 := zc_eq (Q := post) ((if_neg (by decide)).trans ((if_neg (by decide)).trans ((if_neg (by decide)).trans ((if_neg (by decide)).trans ((if_neg (by decide)).trans ((if_pos rfl).trans (if_neg z))))))) h
      repeat first | exact h | refine br_t (by decide) ?_ | refine br_f (by decide) ?_ | refine br_t z ?_ | refine br_f z ?_
  replace h : post 0 := zc_eq (Q := post) ((if_neg c1).trans ((if_neg c2).trans ((if_neg c3).trans ((if_neg c4).trans ((if_neg c5).trans (if_neg c6)))))) h
  exact br_f c1 (br_f c2 (br_f c3 (br_f c4 (br_f c5 (br_f c6 h)))))
theorem mk_X84 {post : Int32 → Prop} {a now old : Int32} : ∀ (r n k m : Nat), k + r = 4 → r < n → m < 2 ^ (k + 1) → post (nI (mk_r G a now old r k m)) → zxw_stopMask_84 post a now old n (nI m) (nI k) (zx_S P G tm en sg di cc fc lv ct cp po fp) := by
  intro r
  induction r with
  | zero =>
    intro n k m hk hn hm hp
    obtain ⟨n, rfl⟩ : ∃ n', n = n' + 1 := ⟨n - 1, by omega⟩
    obtain rfl : k = 4 := by omega
    exact br_t (by decide) hp
  | succ r ih =>
    intro n k m hk hn hm hp
    obtain ⟨n, rfl⟩ : ∃ n', n = n' + 1 := ⟨n - 1, by omega⟩
    have hp2 : post (nI (mk_r G a now old r (k + 1) (mk_1 G a now old k m))) := hp
    have ec : (nI k).toNatClampNeg = k := nI_clamp (by omega)
    refine br_f (nI_ge (b := 4) (by omega) (by omega)) (And.intro (vp_in_nI (by omega) (by omega)) ?_)
    rw [ec]
    by_cases z : zg_wa G k = a
    · refine br_t z (mk_X (by omega) ?_)
      by_cases z2 : mk_h (zg_wc G k) old now (zg_wv G k) = 0
      · have e : mk_1 G a now old k m = m := (if_pos z).trans (if_pos z2)
        rw [e] at hp2
        refine br_t z2 (nm_r (nI_1 k) ?_)
        refine ih n (k + 1) m (by omega) (by omega) ?_ hp2
        have := Nat.pow_succ (n := 2) (m := k + 1)
        omega
      · have e : mk_1 G a now old k m = m + 2 ^ (k + 1) := (if_pos z).trans (if_neg z2)
        rw [e] at hp2
        refine br_f z2 (nm_r (mk_or k (by omega) m hm) (nm_r (nI_1 k) ?_))
        refine ih n (k + 1) _ (by omega) (by omega) ?_ hp2
        have := Nat.pow_succ (n := 2) (m := k + 1)
        omega
    · have e : mk_1 G a now old k m = m := if_neg z
      rw [e] at hp2
      refine br_f z (nm_r (nI_1 k) ?_)
      refine ih n (k + 1) m (by omega) (by omega) ?_ hp2
      have := Nat.pow_succ (n := 2) (m := k + 1)
      omega
theorem mk_Y80 {post : Int32 → Prop} {a now old : Int32} : ∀ (r n k m : Nat), k + r = 4 → r < n → m < 2 ^ (k + 1) → post (nI (mk_r G a now old r k m)) → zyw_mask_80 post a old now n (nI m) (nI k) (zy_S P G tm en h) := by
  intro r
  induction r with
  | zero =>
    intro n k m hk hn hm hp
    obtain ⟨n, rfl⟩ : ∃ n', n = n' + 1 := ⟨n - 1, by omega⟩
    obtain rfl : k = 4 := by omega
    exact br_t (by decide) hp
  | succ r ih =>
    intro n k m hk hn hm hp
    obtain ⟨n, rfl⟩ : ∃ n', n = n' + 1 := ⟨n - 1, by omega⟩
    have hp2 : post (nI (mk_r G a now old r (k + 1) (mk_1 G a now old k m))) := hp
    have ec : (nI k).toNatClampNeg = k := nI_clamp (by omega)
    have hi : vp_in (nI k) 4 := vp_in_nI (by omega) (by omega)
    refine br_f (nI_ge (b := 4) (by omega) (by omega)) (And.intro hi ?_)
    rw [ec]
    by_cases z : zg_wa G k = a
    · refine br_t z (And.intro hi (And.intro hi (mk_Y ?_)))
      by_cases z2 : mk_h (zg_wc G k) old now (zg_wv G k) = 0
      · have e : mk_1 G a now old k m = m := (if_pos z).trans (if_pos z2)
        rw [e] at hp2
        refine br_t z2 (nm_r (nI_1 k) ?_)
        refine ih n (k + 1) m (by omega) (by omega) ?_ hp2
        have := Nat.pow_succ (n := 2) (m := k + 1)
        omega
      · have e : mk_1 G a now old k m = m + 2 ^ (k + 1) := (if_pos z).trans (if_neg z2)
        rw [e] at hp2
        refine br_f z2 (nm_r (mk_ad k (by omega) m hm) (nm_r (nI_1 k) ?_))
        refine ih n (k + 1) _ (by omega) (by omega) ?_ hp2
        have := Nat.pow_succ (n := 2) (m := k + 1)
        omega
    · have e : mk_1 G a now old k m = m := if_neg z
      rw [e] at hp2
      refine br_f z (nm_r (nI_1 k) ?_)
      refine ih n (k + 1) m (by omega) (by omega) ?_ hp2
      have := Nat.pow_succ (n := 2) (m := k + 1)
      omega
theorem mk_X39 {post : Int32 → Prop} {m : Nat} (hP : zp_ok P) (hw : mp_wf P lv) (hm : m < 2 ^ (0 + 1)) (c : post (nI (mk_39 G lv m))) : zxw_stopMask_39 post (nI m) (zx_S P G tm en sg di cc fc lv ct cp po fp) := by
  have hms := hP.2.1
  rcases hw.2.2.2.2.2.2.1 with q | ⟨a, ha, q⟩
  · refine nm_r (e' := -1) (by rw [q]; decide) (br_t (by decide) (zc_eq (Q := fun x => post (nI x)) (if_pos q) c))
  · have e1 : lv 6 - 1 = nI a := by rw [q]; exact nI_pred a
    have e39 : mk_39 G lv m = mk_r G (nI a) (lv (32 + a)) (lv 7) 4 0 m := by
      unfold mk_39
      rw [if_neg (by rw [q]; exact nI_ne0 (by omega) (by omega)), e1, nI_clamp (by omega)]
    rw [e39] at c
    refine nm_r (e' := nI a) e1 (br_f (nI_pos (by omega)) (br_f (nI_ge ha (by omega)) (And.intro (by rw [zc_32]; exact vp_in_nI (by omega) (by omega)) ?_)))
    refine nm_r (e' := lv (32 + a)) (by rw [zc_32, nI_clamp (by omega)]) (nm_e ⟨5, ?_⟩)
    exact mk_X84 4 5 0 m rfl (by omega) hm c
theorem mk_Xm {post : Int32 → Prop} (hP : zp_ok P) (hw : mp_wf P lv) (c : post (nI (mk_msk G lv))) : wpX_stopMask post (zx_S P G tm en sg di cc fc lv ct cp po fp) := by
  have k0 : mk_m0 G lv = 0 → zxw_stopMask_39 post (nI 0) (zx_S P G tm en sg di cc fc lv ct cp po fp) := fun e => mk_X39 hP hw (by decide) (zc_eq (Q := fun x => post (nI (mk_39 G lv x))) e c)
  have k1 : mk_m0 G lv = 1 → zxw_stopMask_39 post (nI 1) (zx_S P G tm en sg di cc fc lv ct cp po fp) := fun e => mk_X39 hP hw (by decide) (zc_eq (Q := fun x => post (nI (mk_39 G lv x))) e c)
  refine nm_e (br_c (fun z => br_c (fun z2 => k0 ((if_pos z).trans (if_pos z2))) (fun z2 => br_c (fun z3 => k0 ((if_pos z).trans ((if_neg z2).trans (if_pos z3)))) (fun z3 => ?_))) (fun z => k0 (if_neg z)))
  refine And.intro ?_ (br_c (fun z4 => k0 ((if_pos z).trans ((if_neg z2).trans ((if_neg z3).trans (if_pos z4))))) (fun z4 => k1 ((if_pos z).trans ((if_neg z2).trans ((if_neg z3).trans (if_neg z4))))))
  obtain ⟨j, hj, e⟩ := nI_of z2
  rw [e] at z3 ⊢
  have : j < 64 := by
    rcases Nat.lt_or_ge j 64 with q | q
    · exact q
    · exact absurd (nI_le q hj) z3
  exact vp_in_nI this (by omega)
theorem mk_Y39 {post : Int32 → Prop} {t m : Nat} (hP : zp_ok P) (hw : mp_wf P l) (hR : zr_row h t l) (ht : t ≤ 1000) (hm : m < 2 ^ (0 + 1)) (c : post (nI (mk_39 G l m))) : zyw_mask_39 post (nI t) (nI m) (zy_S P G tm en h) := by
  have hms := hP.2.1
  unfold zyw_mask_39 wY_mask_39
  refine zy_a6 hR ht rfl ?_
  rcases hw.2.2.2.2.2.2.1 with q | ⟨a, ha, q⟩
  · exact br_t (by rw [q]; decide) (zc_eq (Q := fun x => post (nI x)) (if_pos q) c)
  · have e1 : l 6 - 1 = nI a := by rw [q]; exact nI_pred a
    have e39 : mk_39 G l m = mk_r G (nI a) (l (32 + a)) (l 7) 4 0 m := by
      unfold mk_39
      rw [if_neg (by rw [q]; exact nI_ne0 (by omega) (by omega)), e1, nI_clamp (by omega)]
    rw [e39] at c
    rw [e1]
    refine br_f (fun z => absurd zc_m1 (by rw [← z]; exact nI_pos (by omega))) ?_
    refine zy_aw 7 hR ht (by omega) (by omega) rfl ?_
    refine zy_aw (32 + a) hR ht (by omega) (by omega) (by rw [zr_m (by omega)]; exact nI_add 72 a) ?_
    exact ⟨5, mk_Y80 4 5 0 m rfl (by omega) hm c⟩
theorem mk_Ym {post : Int32 → Prop} {t : Nat} (hP : zp_ok P) (hw : mp_wf P l) (hR : zr_row h t l) (ht : t ≤ 1000) (c : post (nI (mk_msk G l))) : wpY_mask post (zy_S P G tm en h) (nI t) := by
  have k0 : mk_m0 G l = 0 → zyw_mask_39 post (nI t) (nI 0) (zy_S P G tm en h) := fun e => mk_Y39 hP hw hR ht (by decide) (zc_eq (Q := fun x => post (nI (mk_39 G l x))) e c)
  have k1 : mk_m0 G l = 1 → zyw_mask_39 post (nI t) (nI 1) (zy_S P G tm en h) := fun e => mk_Y39 hP hw hR ht (by decide) (zc_eq (Q := fun x => post (nI (mk_39 G l x))) e c)
  unfold wpY_mask
  refine zy_aw 1 hR ht (by omega) (by omega) rfl ?_
  refine zy_aw 0 hR ht (by omega) (by omega) rfl ?_
  refine br_c (fun z => br_c (fun z2 => k0 ((if_pos z).trans (if_pos z2))) (fun z2 => br_c (fun z3 => k0 ((if_pos z).trans ((if_neg z2).trans (if_pos z3)))) (fun z3 => ?_))) (fun z => k0 (if_neg z))
  refine And.intro ?_ (br_c (fun z4 => k0 ((if_pos z).trans ((if_neg z2).trans ((if_neg z3).trans (if_pos z4))))) (fun z4 => k1 ((if_pos z).trans ((if_neg z2).trans ((if_neg z3).trans (if_neg z4))))))
  obtain ⟨j, hj, e⟩ := nI_of z2
  rw [e] at z3 ⊢
  have : j < 64 := by
    rcases Nat.lt_or_ge j 64 with q | q
    · exact q
    · exact absurd (nI_le q hj) z3
  exact vp_in_nI this (by omega)
/-- the hindrance at the words l, instant t -/
def hn_h (P : zp_P) (l : Nat → Int32) (t : Nat) : Int32 := if l 0 = 0 then (if t < zp_hz P then (if l 1 < 0 then 0 else if nI (zp_pl P) ≤ l 1 then 0 else if zp_op P (l 1).toNatClampNeg = 17 then (if l 4 < nI (zp_ic P) then 0 else 5) else 0) else 4) else 3
theorem hn_in (hP : zp_ok P) {x : Int32} (z : ¬ x < 0) (z2 : ¬ nI (zp_pl P) ≤ x) : vp_in x 64 := by
  have hpl := hP.2.2.2.2.2.2.2.2.1
  obtain ⟨j, hj, e⟩ := nI_of z
  rw [e] at z2 ⊢
  have : j < zp_pl P := by
    rcases Nat.lt_or_ge j (zp_pl P) with q | q
    · exact q
    · exact absurd (nI_le q hj) z2
  exact vp_in_nI (by omega) (by omega)
theorem hn_X {post : Int32 → Prop} (hP : zp_ok P) (ht : tm ≤ 1000) (c : post (hn_h P lv tm)) : wpX_hindrance post (zx_S P G tm en sg di cc fc lv ct cp po fp) := by
  have hhz := hP.2.2.2.2.2.2.2.1
  refine br_c (fun z => pk_lt tm (zp_hz P) (fun z2 => nm_e (br_c (fun z3 => ?_) (fun z3 => br_c (fun z4 => ?_) (fun z4 => And.intro (hn_in hP z3 z4) (br_c (fun z5 => br_c (fun z6 => ?_) (fun z6 => ?_)) (fun z5 => ?_)))))) (fun z2 => ?_)) (fun z => ?_)
  · exact zc_eq (Q := post) ((if_pos z).trans ((if_pos z2).trans (if_pos z3))) c
  · exact zc_eq (Q := post) ((if_pos z).trans ((if_pos z2).trans ((if_neg z3).trans (if_pos z4)))) c
  · exact zc_eq (Q := post) ((if_pos z).trans ((if_pos z2).trans ((if_neg z3).trans ((if_neg z4).trans ((if_pos z5).trans (if_pos z6)))))) c
  · exact zc_eq (Q := post) ((if_pos z).trans ((if_pos z2).trans ((if_neg z3).trans ((if_neg z4).trans ((if_pos z5).trans (if_neg z6)))))) c
  · exact zc_eq (Q := post) ((if_pos z).trans ((if_pos z2).trans ((if_neg z3).trans ((if_neg z4).trans (if_neg z5))))) c
  · exact zc_eq (Q := post) ((if_pos z).trans (if_neg (by omega))) c
  · exact zc_eq (Q := post) (if_neg z) c
theorem hn_Y {post : Int32 → Prop} {q : Nat} (hP : zp_ok P) (hR : zr_row h tm l) (ht : tm ≤ zp_hz P) (h4 : l 4 = nI q) (hq : q ≤ zp_ic P) (c : post (hn_h P l tm)) : wpY_hindrance post (zy_S P G tm en h) := by
  have hhz := hP.2.2.2.2.2.2.2.1
  have hic := hP.2.2.2.2.2.2.2.2.2.1
  unfold wpY_hindrance
  refine zy_aw 1 hR (by omega) (by omega) (by omega) rfl ?_
  refine zy_aw 0 hR (by omega) (by omega) (by omega) rfl ?_
  refine br_c (fun z => pk_eq tm (zp_hz P) (fun z2 => ?_) (fun z2 => br_c (fun z3 => ?_) (fun z3 => br_c (fun z4 => ?_) (fun z4 => And.intro (hn_in hP z3 z4) (br_c (fun z5 => ?_) (fun z5 => ?_)))))) (fun z => ?_)
  · exact zc_eq (Q := post) ((if_pos z).trans (if_neg (by omega))) c
  · exact br_t rfl (zc_eq (Q := post) ((if_pos z).trans ((if_pos (by omega)).trans (if_pos z3))) c)
  · exact br_t rfl (zc_eq (Q := post) ((if_pos z).trans ((if_pos (by omega)).trans ((if_neg z3).trans (if_pos z4)))) c)
  · refine br_f (by decide) ?_
    refine zy_aw 4 hR (by omega) (by omega) (by omega) rfl ?_
    rw [h4]
    refine pk_eq q (zp_ic P) (fun z6 => ?_) (fun z6 => ?_)
    · exact zc_eq (Q := post) ((if_pos z).trans ((if_pos (by omega)).trans ((if_neg z3).trans ((if_neg z4).trans ((if_pos z5).trans (if_neg (by rw [h4]; exact nI_nlt (by omega) (by omega)))))))) c
    · exact zc_eq (Q := post) ((if_pos z).trans ((if_pos (by omega)).trans ((if_neg z3).trans ((if_neg z4).trans ((if_pos z5).trans (if_pos (by rw [h4]; exact nI_lt (by omega) (by omega)))))))) c
  · exact br_t rfl (zc_eq (Q := post) ((if_pos z).trans ((if_pos (by omega)).trans ((if_neg z3).trans ((if_neg z4).trans (if_neg z5))))) c)
  · exact zc_eq (Q := post) (if_neg z) c
end ZL
end
section
/-! untouched pages, positions, the checkpoint store: pure -/
def zu_Unt (S : Nat → Nat → Int32) (a b p : Nat) : Prop := ∀ u, a < u → u ≤ b → (∀ i, i < 8 → S u (p * 8 + i) = S a (p * 8 + i)) ∧ ∀ x, x < 64 → S u 6 = nI (x + 1) → (32 + x) / 8 ≠ p
theorem zu_refl {S : Nat → Nat → Int32} {a p : Nat} : zu_Unt S a a p := fun u h1 h2 => absurd h1 (by omega)
theorem zu_val {S : Nat → Nat → Int32} {a b p u i : Nat} (h : zu_Unt S a b p) (h1 : a ≤ u) (h2 : u ≤ b) (hi : i < 8) : S u (p * 8 + i) = S a (p * 8 + i) := by
  by_cases q : a = u
  · rw [q]
  · exact (h u (by omega) h2).1 i hi
theorem zu_trans {S : Nat → Nat → Int32} {a b c p : Nat} (h1 : zu_Unt S a b p) (h2 : zu_Unt S b c p) (hab : a ≤ b) : zu_Unt S a c p := by
  intro u hu huc
  by_cases q : u ≤ b
  · exact h1 u hu q
  · refine ⟨fun i hi => ?_, (h2 u (by omega) huc).2⟩
    rw [(h2 u (by omega) huc).1 i hi]
    exact zu_val h1 hab (Nat.le_refl b) hi
theorem zu_sub {S : Nat → Nat → Int32} {a b c p : Nat} (h : zu_Unt S a c p) (hbc : b ≤ c) : zu_Unt S a b p := fun u h1 h2 => h u h1 (by omega)
theorem mp_wft {P : zp_P} (hP : zp_ok P) : ∀ t, mp_wf P (mp_tr P t) := by
  intro t
  induction t with
  | zero => exact mp_wf_of (d := 0) (f := 0) (o := 0) rfl (by omega) rfl (by omega) rfl (by omega) (Or.inl rfl) (fun _ _ => rfl) hP
  | succ t ih => exact (mp_stV hP ih).1
theorem zu_step {P : zp_P} (hP : zp_ok P) {a t p : Nat} {d : Int32} (hat : a ≤ t) (hp : p < 16) (hb : bt (mp_dp d (mp_ws P (mp_tr P t))) p = false) (h : bt d p = false → zu_Unt (mp_tr P) a t p) : zu_Unt (mp_tr P) a (t + 1) p := by
  obtain ⟨_, hr, h6, _⟩ := mp_stV hP (mp_wft hP t)
  obtain ⟨hd, hv⟩ := mp_cov (mp_ws P (mp_tr P t)) (mp_tr P t) d p hp hr hb
  have hm := hP.2.1
  have h1 : zu_Unt (mp_tr P) t (t + 1) p := by
    intro u hu hu2
    obtain rfl : u = t + 1 := by omega
    refine ⟨hv, fun x hx e6 e => ?_⟩
    rcases h6 with q | ⟨y, v, hy, q, hmem⟩
    · have e0 : nI (x + 1) = 0 := e6.symm.trans q
      exact nI_ne0 (by omega) (by omega) e0
    · have exy : x = y := by
        have := zc_inj (e6.symm.trans q) (by omega) (by omega)
        omega
      subst exy
      have := mp_dpt (mp_ws P (mp_tr P t)) d p hp hr (Or.inr ⟨_, hmem, e⟩)
      rw [this] at hb
      exact absurd hb (by decide)
  exact zu_trans (h hd) h1 hat
/-- the segment is the latest checkpoint up to tm; a page whose dirty bit is 0 is untouched since -/
def zu_Pos (P : zp_P) (T : Nat → Nat) (cc tm sg : Nat) (di : Int32) : Prop := sg < cc ∧ T sg ≤ tm ∧ (sg + 1 < cc → tm < T (sg + 1)) ∧ ∀ p, p < 16 → bt di p = false → zu_Unt (mp_tr P) (T sg) tm p
/-- what a checkpoint says of page p between the instants a and b -/
def zu_Pg (S : Nat → Nat → Int32) (po : Nat → Int32) (a b p : Nat) (ref : Int32) : Prop := (ref < 0 ∧ zu_Unt S a b p) ∨ ∃ r, r < 192 ∧ ref = nI r ∧ ∀ i, i < 8 → po (r * 8 + i) = S b (p * 8 + i)
/-- owned pool pages (at the places A of cp) and free ones are all different -/
def zs_Uq (A : Nat → Prop) (cp fp : Nat → Int32) (fc : Nat) : Prop := fc ≤ 192 ∧ (∀ i, i < fc → ∃ r, r < 192 ∧ fp i = nI r) ∧ (∀ i j, i < fc → j < fc → fp i = fp j → i = j) ∧ (∀ i q, i < fc → A q → fp i ≠ cp q) ∧ ∀ q q', A q → A q' → 0 ≤ cp q → cp q = cp q' → q = q'
def zs_T (T : Nat → Nat) (cc : Nat) (ct : Nat → Int32) : Prop := 1 ≤ cc ∧ cc ≤ 32 ∧ T 0 = 0 ∧ (∀ c, c < cc → ct c = nI (T c) ∧ T c ≤ 1000) ∧ ∀ c, c + 1 < cc → T c < T (c + 1)
def zs_A (cc : Nat) (q : Nat) : Prop := 16 ≤ q ∧ q < cc * 16
def zs_Pgs (P : zp_P) (T : Nat → Nat) (cc : Nat) (cp po : Nat → Int32) : Prop := ∀ c p, c + 1 < cc → p < 16 → zu_Pg (mp_tr P) po (T c) (T (c + 1)) p (cp ((c + 1) * 16 + p))
def zs_St (P : zp_P) (T : Nat → Nat) (cc fc : Nat) (ct cp po fp : Nat → Int32) : Prop := zs_T T cc ct ∧ zs_Pgs P T cc cp po ∧ zs_Uq (zs_A cc) cp fp fc
theorem zs_mono {T : Nat → Nat} {cc : Nat} {ct : Nat → Int32} (h : zs_T T cc ct) : ∀ j i, i ≤ j → j < cc → T i ≤ T j := by
  intro j
  induction j with
  | zero => intro i hi hj; obtain rfl : i = 0 := by omega
            exact Nat.le_refl _
  | succ j ih =>
    intro i hi hj
    by_cases q : i = j + 1
    · rw [q]; exact Nat.le_refl _
    · have := ih i (by omega) (by omega)
      have := h.2.2.2.2 j hj
      omega
/-- the answer r is the latest instant in (a, b] with Q, or 0 -/
def zl_H (Q : Nat → Prop) (a b : Nat) (r : Int32) : Prop := (r = 0 ∧ ∀ u, a < u → u ≤ b → ¬ Q u) ∨ ∃ hh, r = nI hh ∧ a < hh ∧ hh ≤ b ∧ Q hh ∧ ∀ u, hh < u → u ≤ b → ¬ Q u
theorem zl_H0 {Q : Nat → Prop} {a : Nat} : zl_H Q a a 0 := Or.inl ⟨rfl, fun u h1 h2 => absurd h1 (by omega)⟩
theorem zl_Ht {Q : Nat → Prop} {a b : Nat} (hab : a ≤ b) (hq : Q (b + 1)) : zl_H Q a (b + 1) (nI (b + 1)) := Or.inr ⟨b + 1, rfl, by omega, by omega, hq, fun u h1 h2 => absurd h1 (by omega)⟩
theorem zl_Hf {Q : Nat → Prop} {a b : Nat} {r : Int32} (h : zl_H Q a b r) (hq : ¬ Q (b + 1)) : zl_H Q a (b + 1) r := by
  have key : ∀ c, (∀ u, c < u → u ≤ b → ¬ Q u) → ∀ u, c < u → u ≤ b + 1 → ¬ Q u := by
    intro c hc u h1 h2
    by_cases e : u = b + 1
    · rw [e]; exact hq
    · exact hc u h1 (by omega)
  rcases h with ⟨e, h⟩ | ⟨hh, e, h1, h2, h3, h4⟩
  · exact Or.inl ⟨e, key a h⟩
  · exact Or.inr ⟨hh, e, h1, by omega, h3, key hh h4⟩
end
section
/-! X: moving in the known history -/
section ZM
variable {P : zp_P} {G : zg_G} {tm en sg cc fc : Nat} {di : Int32} {lv ct cp po fp : Nat → Int32} {T : Nat → Nat}
theorem za_adv {post : SX → Prop} (hP : zp_ok P) (hT : zs_T T cc ct) (hp : zu_Pos P T cc tm sg di) (ht : tm ≤ 1000) (h : ∀ sg' di', zu_Pos P T cc (tm + 1) sg' di' → post (zx_S P G (tm + 1) en sg' di' cc fc (mp_tr P (tm + 1)) ct cp po fp)) : wpX_advance post (zx_S P G tm en sg di cc fc (mp_tr P tm) ct cp po fp) := by
  refine za_adv0 hP (mp_wft hP tm) ?_
  obtain ⟨hs, hle, hlt, hu⟩ := hp
  have hcc := hT.2.1
  have hu' : ∀ p, p < 16 → bt (mp_dp di (mp_ws P (mp_tr P tm))) p = false → zu_Unt (mp_tr P) (T sg) (tm + 1) p := fun p hp16 hb => zu_step hP hle hp16 hb (hu p hp16)
  refine pk_le cc (sg + 1) (fun q => h sg _ ⟨hs, by omega, fun z => absurd z (by omega), hu'⟩) (fun q => ?_) rfl (nI_1 sg)
  obtain ⟨ec, hc⟩ := hT.2.2.2.1 (sg + 1) q
  have e1 : (nI sg + 1).toNatClampNeg = sg + 1 := by rw [nI_1]; exact nI_clamp (by omega)
  have hlt2 := hlt q
  refine And.intro (by rw [nI_1]; exact vp_in_nI (by omega) (by omega)) ?_
  rw [e1, ec]
  refine pk_eq (T (sg + 1)) (tm + 1) (fun q2 => nm_r (nI_1 sg) ?_) (fun q2 => ?_)
  · refine h (sg + 1) 0 ⟨q, by omega, fun z => ?_, fun p _ _ => ?_⟩
    · have := hT.2.2.2.2 (sg + 1) z
      omega
    · rw [q2]; exact zu_refl
  · exact h sg _ ⟨hs, by omega, fun _ => by omega, hu'⟩
theorem zm_cab7 {post : Int32 → Prop} {t : Nat} (hT : zs_T T cc ct) (ht : t ≤ 1000) (h : ∀ c, c < cc → T c ≤ t → (c + 1 < cc → t < T (c + 1)) → post (nI c)) : ∀ c n, c < n → c < cc → (c + 1 < cc → t < T (c + 1)) → zxw_checkpointAtOrBefore_7 post (nI t) n (nI c) (zx_S P G tm en sg di cc fc lv ct cp po fp) := by
  have hcc := hT.2.1
  intro c
  induction c with
  | zero =>
    intro n hn hc hl
    obtain ⟨n, rfl⟩ : ∃ n', n = n' + 1 := ⟨n - 1, by omega⟩
    exact br_t (by decide) (h 0 hc (by rw [hT.2.2.1]; omega) hl)
  | succ c ih =>
    intro n hn hc hl
    obtain ⟨n, rfl⟩ : ∃ n', n = n' + 1 := ⟨n - 1, by omega⟩
    obtain ⟨ec, hb⟩ := hT.2.2.2.1 (c + 1) hc
    refine br_f (nI_nle (by omega) (by omega)) (And.intro (vp_in_nI (by omega) (by omega)) ?_)
    rw [nI_clamp (by omega), ec]
    refine pk_lt t (T (c + 1)) (fun q => nm_r (pk_m1 c) (ih n (by omega) (by omega) (fun _ => q))) (fun q => h (c + 1) hc q hl)
theorem zm_cab {post : Int32 → Prop} {t : Nat} (hT : zs_T T cc ct) (ht : t ≤ 1000) (h : ∀ c, c < cc → T c ≤ t → (c + 1 < cc → t < T (c + 1)) → post (nI c)) : wpX_checkpointAtOrBefore post (zx_S P G tm en sg di cc fc lv ct cp po fp) (nI t) := by
  have h1 := hT.1
  refine nm_r (e' := nI (cc - 1)) ?_ ⟨cc, zm_cab7 hT ht h (cc - 1) cc (by omega) (by omega) (fun z => absurd z (by omega))⟩
  obtain ⟨m, rfl⟩ : ∃ m, cc = m + 1 := ⟨cc - 1, by omega⟩
  exact nI_pred m
/-- the page that newestPage finds -/
def zn_R (S : Nat → Nat → Int32) (po : Nat → Int32) (t p : Nat) (ref : Int32) : Prop := (ref < 0 ∧ ∀ i, i < 8 → S t (p * 8 + i) = 0) ∨ ∃ r, r < 192 ∧ ref = nI r ∧ ∀ i, i < 8 → po (r * 8 + i) = S t (p * 8 + i)
theorem zm_np2 {post : Int32 → Prop} {t p : Nat} (hT : zs_T T cc ct) (hg : zs_Pgs P T cc cp po) (hp : p < 16) (h : ∀ r, zn_R (mp_tr P) po t p r → post r) : ∀ j n, j < n → j < cc → (∀ i, i < 8 → mp_tr P t (p * 8 + i) = mp_tr P (T j) (p * 8 + i)) → zxw_newestPage_2 post (nI p) n (nI j) (zx_S P G tm en sg di cc fc lv ct cp po fp) := by
  have hcc := hT.2.1
  intro j
  induction j with
  | zero =>
    intro n hn hc hl
    obtain ⟨n, rfl⟩ : ∃ n', n = n' + 1 := ⟨n - 1, by omega⟩
    refine br_t (by decide) (h _ (Or.inl ⟨by decide, fun i hi => ?_⟩))
    rw [hl i hi, hT.2.2.1]; rfl
  | succ j ih =>
    intro n hn hc hl
    obtain ⟨n, rfl⟩ : ∃ n', n = n' + 1 := ⟨n - 1, by omega⟩
    have e : nI (j + 1) * 16 + nI p = nI ((j + 1) * 16 + p) := zc_x16 (j + 1) p
    refine br_f (nI_nle (by omega) (by omega)) (And.intro (by rw [e]; exact vp_in_nI (by omega) (by omega)) (nm_r (e' := cp ((j + 1) * 16 + p)) (by rw [e, nI_clamp (by omega)]) ?_))
    rcases hg j p hc hp with ⟨q, hu⟩ | ⟨r, hr, q, hv⟩
    · refine br_t q (nm_r (pk_m1 j) (ih n (by omega) (by omega) (fun i hi => ?_)))
      rw [hl i hi]
      exact zu_val hu (Nat.le_of_lt (hT.2.2.2.2 j hc)) (Nat.le_refl _) hi
    · rw [q]
      exact br_f (nI_pos (by omega)) (h _ (Or.inr ⟨r, hr, rfl, fun i hi => (hv i hi).trans (hl i hi).symm⟩))
theorem zm_np {post : Int32 → Prop} {c p : Nat} (hT : zs_T T cc ct) (hg : zs_Pgs P T cc cp po) (hp : p < 16) (hc : c < cc) (h : ∀ r, zn_R (mp_tr P) po (T c) p r → post r) : wpX_newestPage post (zx_S P G tm en sg di cc fc lv ct cp po fp) (nI c) (nI p) :=
  ⟨c + 1, zm_np2 hT hg hp h c (c + 1) (by omega) hc (fun _ _ => rfl)⟩
theorem zm_r18 {post : SX → Prop} {J : Int32 → (Nat → Int32) → (Nat → Int32) → (Nat → Int32) → (Nat → Int32) → (Nat → Int32) → (Nat → Int32) → (Nat → Int32) → (Nat → Int32) → (Nat → Int32) → (Nat → Int32) → (Nat → Int32) → (Nat → Int32) → Prop} {t p : Nat} {x1 ref : Int32} (hp : p < 16) (hr : zn_R (mp_tr P) po t p ref) (h : ∀ lv', (∀ w, lv' w = if w < (p + 1) * 8 then mp_tr P t w else lv w) → J (nI (p + 1)) (zp_op P) (zp_od P) (zp_in P) (zg_br G) (zg_wa G) (zg_wc G) (zg_wv G) lv' ct cp po fp) : ∀ m n i lv', i + m = 8 → m < n → (∀ w, lv' w = if w < p * 8 + i then mp_tr P t w else lv w) → zxw_restore_18 post J x1 (nI p) ref n (nI i) (zx_S P G tm en sg di cc fc lv' ct cp po fp) := by
  intro m
  induction m with
  | zero =>
    intro n i lv' hi hn hl
    obtain ⟨n, rfl⟩ : ∃ n', n = n' + 1 := ⟨n - 1, by omega⟩
    obtain rfl : i = 8 := by omega
    refine br_t (by decide) (nm_r (nI_1 p) (h lv' (fun w => ?_)))
    rw [hl w, show (p + 1) * 8 = p * 8 + 8 by omega]
  | succ m ih =>
    intro n i lv' hi hn hl
    obtain ⟨n, rfl⟩ : ∃ n', n = n' + 1 := ⟨n - 1, by omega⟩
    have e2 : nI p * 8 + nI i = nI (p * 8 + i) := zc_x8 p i
    have next : ∀ v, v = mp_tr P t (p * 8 + i) → zxw_restore_18 post J x1 (nI p) ref n (nI (i + 1)) (zx_S P G tm en sg di cc fc (upd lv' (p * 8 + i) v) ct cp po fp) := by
      intro v ev
      refine ih n (i + 1) _ (by omega) (by omega) (fun w => ?_)
      by_cases q : w = p * 8 + i
      · subst q; rw [pk_us, if_pos (by omega), ev]
      · rw [pk_un q, hl w]
        by_cases q2 : w < p * 8 + i
        · rw [if_pos q2, if_pos (by omega)]
        · rw [if_neg q2, if_neg (by omega)]
    refine br_f (nI_ge (b := 8) (by omega) (by omega)) ?_
    rcases hr with ⟨q, hz⟩ | ⟨r, hr, q, hv⟩
    · refine br_f (fun z => absurd q (Int32.not_lt.mpr z)) (And.intro (by rw [e2]; exact vp_in_nI (by omega) (by omega)) (nm_r (e' := upd lv' (p * 8 + i) 0) (by rw [e2, nI_clamp (by omega)]) (nm_r (nI_1 i) (next 0 (hz i (by omega)).symm))))
    · subst q
      have e3 : nI r * 8 + nI i = nI (r * 8 + i) := zc_x8 r i
      refine br_t (nI_pos' (by omega)) (And.intro (by rw [e3]; exact vp_in_nI (by omega) (by omega)) (And.intro (by rw [e2]; exact vp_in_nI (by omega) (by omega)) (nm_r (e' := upd lv' (p * 8 + i) (po (r * 8 + i))) (by rw [e2, e3, nI_clamp (by omega), nI_clamp (by omega)]) (nm_r (nI_1 i) (next _ (hv i (by omega)))))))
theorem zm_r2 {post : SX → Prop} {c : Nat} (hT : zs_T T cc ct) (hg : zs_Pgs P T cc cp po) (hc : c < cc) (hz : ∀ w, 128 ≤ w → lv w = mp_tr P (T c) w) (h : post (zx_S P G (T c) en c 0 cc fc (mp_tr P (T c)) ct cp po fp)) : ∀ m n p lv', p + m = 16 → m < n → (∀ w, lv' w = if w < p * 8 then mp_tr P (T c) w else lv w) → zxw_restore_2 post (nI c) n (nI p) (zx_S P G tm en sg di cc fc lv' ct cp po fp) := by
  have hcc := hT.2.1
  intro m
  induction m with
  | zero =>
    intro n p lv' hp hn hl
    obtain ⟨n, rfl⟩ : ∃ n', n = n' + 1 := ⟨n - 1, by omega⟩
    obtain rfl : p = 16 := by omega
    have el : lv' = mp_tr P (T c) := by
      funext w
      rw [hl w]
      split
      · rfl
      · exact hz w (by omega)
    subst el
    refine br_t (by decide) (And.intro (vp_in_nI (by omega) (by omega)) (nm_r (e' := nI (T c)) ?_ h))
    rw [nI_clamp (by omega)]; exact (hT.2.2.2.1 c hc).1
  | succ m ih =>
    intro n p lv' hp hn hl
    obtain ⟨n, rfl⟩ : ∃ n', n = n' + 1 := ⟨n - 1, by omega⟩
    refine br_f (nI_ge (b := 16) (by omega) (by omega)) (zm_np hT hg (by omega) hc (fun r hr => ⟨9, ?_⟩))
    exact zm_r18 (lv := lv) (by omega) hr (fun lv2 h2 => ih n (p + 1) lv2 (by omega) (by omega) h2) 8 9 0 lv' rfl (by omega) hl
theorem zm_restore {post : SX → Prop} {c : Nat} (hP : zp_ok P) (hT : zs_T T cc ct) (hg : zs_Pgs P T cc cp po) (hc : c < cc) (hz : ∀ w, 128 ≤ w → lv w = 0) (h : post (zx_S P G (T c) en c 0 cc fc (mp_tr P (T c)) ct cp po fp)) : wpX_restore post (zx_S P G tm en sg di cc fc lv ct cp po fp) (nI c) := by
  refine ⟨17, zm_r2 (lv := lv) hT hg hc (fun w hw => ?_) h 16 17 0 lv rfl (by omega) (fun w => (if_neg (by omega)).symm)⟩
  rw [hz w hw, (mp_wft hP (T c)).2.2.2.2.2.2.2 w hw]
theorem zm_z {t : Nat} (hP : zp_ok P) : ∀ w, 128 ≤ w → mp_tr P t w = 0 := (mp_wft hP t).2.2.2.2.2.2.2
theorem zm_at {c : Nat} (hT : zs_T T cc ct) (hc : c < cc) : zu_Pos P T cc (T c) c 0 := ⟨hc, Nat.le_refl _, fun z => hT.2.2.2.2 c z, fun p _ _ => zu_refl⟩
theorem zm_m44 {post : SX → Prop} {t : Nat} (hP : zp_ok P) (hT : zs_T T cc ct) (ht : t ≤ 1000) (h : ∀ sg' di', zu_Pos P T cc t sg' di' → post (zx_S P G t en sg' di' cc fc (mp_tr P t) ct cp po fp)) : ∀ m n u sg di, u + m = t → m < n → zu_Pos P T cc u sg di → zxw_moveTo_44 post (nI t) n (nI u) (zx_S P G u en sg di cc fc (mp_tr P u) ct cp po fp) := by
  intro m
  induction m with
  | zero =>
    intro n u sg di hu hn hp
    obtain ⟨n, rfl⟩ : ∃ n', n = n' + 1 := ⟨n - 1, by omega⟩
    obtain rfl : u = t := by omega
    exact br_t (Int32.le_refl _) (h sg di hp)
  | succ m ih =>
    intro n u sg di hu hn hp
    obtain ⟨n, rfl⟩ : ∃ n', n = n' + 1 := ⟨n - 1, by omega⟩
    exact br_f (nI_ge (by omega) (by omega)) (za_adv hP hT hp (by omega) (fun sg2 di2 hp2 => nm_r (nI_1 u) (ih n (u + 1) sg2 di2 (by omega) (by omega) hp2)))
theorem zm_moveTo {post : SX → Prop} {t : Nat} (hP : zp_ok P) (hT : zs_T T cc ct) (hg : zs_Pgs P T cc cp po) (hp : zu_Pos P T cc tm sg di) (ht : t ≤ 1000) (htm : tm ≤ 1000) (h : ∀ sg' di', zu_Pos P T cc t sg' di' → post (zx_S P G t en sg' di' cc fc (mp_tr P t) ct cp po fp)) : wpX_moveTo post (zx_S P G tm en sg di cc fc (mp_tr P tm) ct cp po fp) (nI t) := by
  have hcc := hT.2.1
  have h31 : ∀ c, c < cc → T c ≤ t → zxw_moveTo_31 post (nI t) (nI c) (zx_S P G tm en sg di cc fc (mp_tr P tm) ct cp po fp) := by
    intro c hc hct
    unfold zxw_moveTo_31 wX_moveTo_31
    refine zm_restore hP hT hg hc (zm_z hP) ⟨t - T c + 1, ?_⟩
    exact zm_m44 hP hT ht h (t - T c) (t - T c + 1) (T c) c 0 (by omega) (by omega) (zm_at hT hc)
  refine pk_eq t tm (fun e => ?_) (fun e => ?_)
  · subst e; exact h sg di hp
  · refine zm_cab hT ht (fun c hc hct hcl => ?_)
    refine pk_lt t tm (fun q => h31 c hc hct) (fun q => pk_le c sg (fun q2 => ⟨t - tm + 1, ?_⟩) (fun q2 => h31 c hc hct) rfl rfl (by omega) (by have := hp.1; omega))
    exact zm_m44 hP hT ht h (t - tm) (t - tm + 1) tm sg di (by omega) (by omega) hp
theorem zm_mbw {post : Int32 → Prop} {c p : Nat} (hT : zs_T T cc ct) (hg : zs_Pgs P T cc cp po) (hp : p < 16) (hc : c < cc) (h0 : c + 1 < cc → zu_Unt (mp_tr P) (T c) (T (c + 1)) p → post 0) (h1 : post 1) : wpX_mayBeWritten post (zx_S P G tm en sg di cc fc lv ct cp po fp) (nI c) (nI p) := by
  have hcc := hT.2.1
  refine pk_lt (c + 1) cc (fun q => ?_) (fun q => h1) (nI_1 c)
  have e : (nI c + 1) * 16 + nI p = nI ((c + 1) * 16 + p) := zc_x16s c p
  refine And.intro (by rw [e]; exact vp_in_nI (by omega) (by omega)) ?_
  rw [e, nI_clamp (by omega)]
  rcases hg c p q hp with ⟨z, hu⟩ | ⟨r, hr, z, hv⟩
  · exact br_t z (h0 q hu)
  · exact br_f (by rw [z]; exact nI_pos (by omega)) h1
end ZM
end
section
/-! X: scans of the history -/
def zg_cnt (f : Nat → Int32) : Nat → Nat
  | 0 => 0
  | n + 1 => zg_cnt f n + (if f n = 0 then 0 else 1)
theorem zg_cnt0 {f : Nat → Int32} : ∀ n, zg_cnt f n = 0 → ∀ j, j < n → f j = 0 := by
  intro n
  induction n with
  | zero => intro _ j hj; exact absurd hj (by omega)
  | succ n ih =>
    intro h j hj
    have h' : zg_cnt f n + (if f n = 0 then 0 else 1) = 0 := h
    by_cases q : f n = 0
    · rw [if_pos q] at h'
      by_cases e : j = n
      · rw [e]; exact q
      · exact ih (by omega) j (by omega)
    · rw [if_neg q] at h'; omega
def zg_wk (P : zp_P) (G : zg_G) (k : Nat) : Prop := ∃ a, a < zp_ms P ∧ zg_wa G k = nI a
/-- breaks and watches are as the calls make them -/
def zg_ok (P : zp_P) (G : zg_G) : Prop := zg_bo G = zg_cnt (zg_br G) 64 ∧ (∀ k, k < 4 → zg_wk P G k) ∧ ∀ j, zg_br G j = 0 ∨ zg_br G j = 1
def zq_M (P : zp_P) (G : zg_G) (u : Nat) : Prop := ¬ mk_msk G (mp_tr P u) = 0
def zq_k (P : zp_P) (G : zg_G) (T : Nat → Nat) (cc c k : Nat) : Prop := zg_wc G k = 0 ∨ (c + 1 < cc ∧ ∀ a, a < 64 → zg_wa G k = nI a → zu_Unt (mp_tr P) (T c) (T (c + 1)) ((32 + a) / 8))
section ZN
variable {P : zp_P} {G : zg_G} {tm en sg cc fc : Nat} {di : Int32} {lv ct cp po fp : Nat → Int32} {T : Nat → Nat}
theorem zq_none {c u : Nat} (hP : zp_ok P) (hb : zg_cnt (zg_br G) 64 = 0) (hk : ∀ k, k < 4 → zq_k P G T cc c k) (h1 : T c < u) (h2 : c + 1 < cc → u ≤ T (c + 1)) : mk_msk G (mp_tr P u) = 0 := by
  have hms := hP.2.1
  have hbr := zg_cnt0 64 hb
  have e0 : mk_m0 G (mp_tr P u) = 0 := by
    unfold mk_m0
    by_cases z1 : mp_tr P u 0 = 0
    · rw [if_pos z1]
      by_cases z2 : mp_tr P u 1 < 0
      · rw [if_pos z2]
      · rw [if_neg z2]
        by_cases z3 : 64 ≤ mp_tr P u 1
        · rw [if_pos z3]
        · rw [if_neg z3]
          obtain ⟨j, hj, e⟩ := nI_of z2
          have : j < 64 := by
            rcases Nat.lt_or_ge j 64 with q | q
            · exact q
            · exact absurd (by rw [e]; exact nI_le q hj) z3
          rw [if_pos]
          rw [e, nI_clamp hj]; exact hbr j this
    · rw [if_neg z1]
  unfold mk_msk
  rw [e0]
  unfold mk_39
  rcases (mp_wft hP u).2.2.2.2.2.2.1 with q | ⟨x, hx, q⟩
  · rw [if_pos q]
  · have e1 : mp_tr P u 6 - 1 = nI x := by rw [q]; exact nI_pred x
    rw [if_neg (by rw [q]; exact nI_ne0 (by omega) (by omega)), e1]
    refine mk_r0 (fun k hk4 hw => ?_) 4 0 0 (by omega)
    rcases hk k hk4 with z | ⟨hc, hu⟩
    · exact mk_h0 z
    · exact absurd rfl ((hu x (by omega) hw u h1 (h2 hc)).2 x (by omega) q)
theorem zs_11 {post : Int32 → Prop} {c : Nat} (hP : zp_ok P) (hG : zg_ok P G) (hT : zs_T T cc ct) (hg : zs_Pgs P T cc cp po) (hc : c < cc) (h0 : (∀ k, k < 4 → zq_k P G T cc c k) → post 0) (h1 : post 1) : ∀ m n k, k + m = 4 → m < n → (∀ j, j < k → zq_k P G T cc c j) → zxw_segmentMayStop_11 post (nI c) n (nI k) (zx_S P G tm en sg di cc fc lv ct cp po fp) := by
  have hms := hP.2.1
  intro m
  induction m with
  | zero =>
    intro n k hk hn hq
    obtain ⟨n, rfl⟩ : ∃ n', n = n' + 1 := ⟨n - 1, by omega⟩
    obtain rfl : k = 4 := by omega
    exact br_t (by decide) (h0 hq)
  | succ m ih =>
    intro n k hk hn hq
    obtain ⟨n, rfl⟩ : ∃ n', n = n' + 1 := ⟨n - 1, by omega⟩
    have hi : vp_in (nI k) 4 := vp_in_nI (by omega) (by omega)
    have next : zq_k P G T cc c k → zxw_segmentMayStop_11 post (nI c) n (nI (k + 1)) (zx_S P G tm en sg di cc fc lv ct cp po fp) := fun z => ih n (k + 1) (by omega) (by omega) (lt_s hq z)
    refine br_f (nI_ge (b := 4) (by omega) (by omega)) (And.intro hi ?_)
    rw [nI_clamp (by omega)]
    refine br_c (fun z => nm_r (nI_1 k) (next (Or.inl z))) (fun z => And.intro hi ?_)
    obtain ⟨a, ha, ea⟩ := hG.2.1 k (by omega)
    refine nm_r (e' := nI ((32 + a) / 8)) (by rw [ea, zc_32, zc_ush (by omega)]) (zm_mbw hT hg (by omega) hc (fun q hu => br_t rfl (nm_r (nI_1 k) (next (Or.inr ⟨q, fun a' ha' ea' => ?_⟩)))) (br_f (by decide) h1))
    have : a' = a := zc_inj (ea'.symm.trans ea) (by omega) (by omega)
    rw [this]; exact hu
theorem zs_sms {post : Int32 → Prop} {c : Nat} (hP : zp_ok P) (hG : zg_ok P G) (hT : zs_T T cc ct) (hg : zs_Pgs P T cc cp po) (hc : c < cc) (h0 : (∀ u, T c < u → (c + 1 < cc → u ≤ T (c + 1)) → ¬ zq_M P G u) → post 0) (h1 : post 1) : wpX_segmentMayStop post (zx_S P G tm en sg di cc fc lv ct cp po fp) (nI c) := by
  have hb : zg_bo G ≤ 64 := by
    have : ∀ n, zg_cnt (zg_br G) n ≤ n := by
      intro n
      induction n with
      | zero => exact Nat.le_refl _
      | succ n ih =>
        show zg_cnt (zg_br G) n + (if zg_br G n = 0 then 0 else 1) ≤ n + 1
        split <;> omega
    rw [hG.1]; exact this 64
  refine pk_le (zg_bo G) 0 (fun q => ⟨5, zs_11 hP hG hT hg hc (fun hk => h0 (fun u hu1 hu2 hM => hM (zq_none hP (by rw [← hG.1]; omega) hk hu1 hu2))) h1 4 5 0 rfl (by omega) (fun j hj => absurd hj (by omega))⟩) (fun q => h1)
theorem zs_ls19 {post : Int32 → SX → Prop} {c b : Nat} (hP : zp_ok P) (hT : zs_T T cc ct) (hb : b ≤ 1000) (h : ∀ r sg' di', zl_H (zq_M P G) (T c) b r → zu_Pos P T cc b sg' di' → post r (zx_S P G b en sg' di' cc fc (mp_tr P b) ct cp po fp)) : ∀ m n u r sg di, u + m = b → m < n → T c ≤ u → zu_Pos P T cc u sg di → zl_H (zq_M P G) (T c) u r → zxw_lastStopIn_19 post (nI b) n r (nI u) (zx_S P G u en sg di cc fc (mp_tr P u) ct cp po fp) := by
  intro m
  induction m with
  | zero =>
    intro n u r sg di hu hn hc hp hH
    obtain ⟨n, rfl⟩ : ∃ n', n = n' + 1 := ⟨n - 1, by omega⟩
    obtain rfl : u = b := by omega
    exact br_t (Int32.le_refl _) (h r sg di hH hp)
  | succ m ih =>
    intro n u r sg di hu hn hc hp hH
    obtain ⟨n, rfl⟩ : ∃ n', n = n' + 1 := ⟨n - 1, by omega⟩
    refine br_f (nI_ge (by omega) (by omega)) (za_adv hP hT hp (by omega) (fun sg2 di2 hp2 => mk_Xm hP (mp_wft hP _) ?_))
    have hl := mk_lt (G := G) (l := mp_tr P (u + 1))
    refine pk_eq (mk_msk G (mp_tr P (u + 1))) 0 (fun q => nm_r (nI_1 u) (ih n (u + 1) r sg2 di2 (by omega) (by omega) (by omega) hp2 (zl_Hf hH (fun z => z q)))) (fun q => nm_r (nI_1 u) (nm_r (nI_1 u) (ih n (u + 1) _ sg2 di2 (by omega) (by omega) (by omega) hp2 (zl_Ht hc q))))
theorem zs_lsi {post : Int32 → SX → Prop} {c b : Nat} (hP : zp_ok P) (hT : zs_T T cc ct) (hg : zs_Pgs P T cc cp po) (hc : c < cc) (hb : b ≤ 1000) (hcb : T c ≤ b) (h : ∀ r sg' di', zl_H (zq_M P G) (T c) b r → zu_Pos P T cc b sg' di' → post r (zx_S P G b en sg' di' cc fc (mp_tr P b) ct cp po fp)) : wpX_lastStopIn post (zx_S P G tm en sg di cc fc (mp_tr P tm) ct cp po fp) (nI c) (nI b) := by
  have hcc := hT.2.1
  refine And.intro (vp_in_nI (by omega) (by omega)) (nm_r (e' := nI (T c)) (by rw [nI_clamp (by omega)]; exact (hT.2.2.2.1 c hc).1) (zm_restore hP hT hg hc (zm_z hP) ⟨b - T c + 1, ?_⟩))
  exact zs_ls19 hP hT hb h (b - T c) (b - T c + 1) (T c) 0 c 0 (by omega) (by omega) (Nat.le_refl _) (zm_at hT hc) zl_H0
/-- what reverseContinue answers from instant t: r, at instant hh -/
def zq_R (Q : Nat → Prop) (t : Nat) (r : Int32) (hh : Nat) : Prop := (r = 2 ∧ hh < t ∧ Q hh ∧ ∀ u, hh < u → u < t → ¬ Q u) ∨ (r = 6 ∧ hh = 0 ∧ ∀ u, u < t → ¬ Q u)
theorem zs_rcE {post : Int32 → SX → Prop} {t n : Nat} {x1 : Int32} (hP : zp_ok P) (hT : zs_T T cc ct) (hg : zs_Pgs P T cc cp po) (htm : tm ≤ 1000) (hp : zu_Pos P T cc tm sg di) (ht : 0 < t) (hn : ∀ u, 0 < u → u < t → ¬ zq_M P G u) (h : ∀ r hh sg' di', zq_R (zq_M P G) t r hh → zu_Pos P T cc hh sg' di' → post r (zx_S P G hh en sg' di' cc fc (mp_tr P hh) ct cp po fp)) : zxw_reverseContinue_25 post (n + 1) x1 (-1) (zx_S P G tm en sg di cc fc (mp_tr P tm) ct cp po fp) := by
  refine br_t (by decide) (zm_moveTo (t := 0) hP hT hg hp (by omega) htm (fun sg' di' hp' => mk_Xm hP (mp_wft hP _) ?_))
  have hl := mk_lt (G := G) (l := mp_tr P 0)
  refine pk_eq (mk_msk G (mp_tr P 0)) 0 (fun q => h 6 0 sg' di' (Or.inr ⟨rfl, rfl, fun u hu => ?_⟩) hp') (fun q => h 2 0 sg' di' (Or.inl ⟨rfl, ht, q, hn⟩) hp')
  by_cases e : u = 0
  · rw [e]; exact fun z => z q
  · exact hn u (by omega) hu
theorem zs_rcB {post : Int32 → SX → Prop} {t n c b : Nat} (hP : zp_ok P) (hG : zg_ok P G) (hT : zs_T T cc ct) (hg : zs_Pgs P T cc cp po) (htm : tm ≤ 1000) (hp : zu_Pos P T cc tm sg di) (hc : c < cc) (h1 : T c ≤ b) (h2 : c + 1 < cc → b ≤ T (c + 1)) (hb : b ≤ 1000) (hbt : b < t) (hn : ∀ u, b < u → u < t → ¬ zq_M P G u) (h : ∀ r hh sg' di', zq_R (zq_M P G) t r hh → zu_Pos P T cc hh sg' di' → post r (zx_S P G hh en sg' di' cc fc (mp_tr P hh) ct cp po fp))
    (nxt : ∀ (tm' sg' : Nat) (di' : Int32), zu_Pos P T cc tm' sg' di' → tm' ≤ 1000 → (∀ u, T c < u → u < t → ¬ zq_M P G u) → ∀ x3' : Int32, x3' = nI c + (-1) → zxw_reverseContinue_25 post n (nI (T c)) x3' (zx_S P G tm' en sg' di' cc fc (mp_tr P tm') ct cp po fp)) : zxw_reverseContinue_25 post (n + 1) (nI b) (nI c) (zx_S P G tm en sg di cc fc (mp_tr P tm) ct cp po fp) := by
  have hcc := hT.2.1
  obtain ⟨ec, hc1⟩ := hT.2.2.2.1 c hc
  have hi : vp_in (nI c) 32 := vp_in_nI (by omega) (by omega)
  have ecl : ct (nI c).toNatClampNeg = nI (T c) := by rw [nI_clamp (by omega)]; exact ec
  refine br_f (nI_pos (by omega)) (And.intro hi ?_)
  have hall : (∀ u, T c < u → u ≤ b → ¬ zq_M P G u) → ∀ u, T c < u → u < t → ¬ zq_M P G u := by
    intro hz u hu1 hu2
    by_cases q : u ≤ b
    · exact hz u hu1 q
    · exact hn u (by omega) hu2
  refine pk_le b (T c) (fun q => And.intro hi (nm_r ecl (nxt tm sg di hp htm (hall (fun u hu1 hu2 => absurd hu1 (by omega)))))) (fun q => ?_) rfl ecl
  refine zs_sms hP hG hT hg hc (fun hz => br_t rfl (And.intro hi (nm_r ecl (nxt tm sg di hp htm (hall (fun u hu1 hu2 => hz u hu1 (fun z => Nat.le_trans hu2 (h2 z)))))))) (br_f (by decide) ?_)
  refine zs_lsi hP hT hg hc hb h1 (fun r sg' di' hH hp' => ?_)
  rcases hH with ⟨e, hz⟩ | ⟨hh, e, hh1, hh2, hQ, hz⟩
  · subst e
    exact br_t (by decide) (And.intro hi (nm_r ecl (nxt b sg' di' hp' hb (hall hz))))
  · subst e
    refine br_f (nI_nle (by omega) (by omega)) (zm_moveTo hP hT hg hp' (by omega) hb (fun sg2 di2 hp2 => h 2 hh sg2 di2 (Or.inl ⟨rfl, by omega, hQ, fun u hu1 hu2 => ?_⟩) hp2))
    by_cases q2 : u ≤ b
    · exact hz u hu1 q2
    · exact hn u (by omega) hu2
theorem zs_rc25 {post : Int32 → SX → Prop} {t : Nat} (hP : zp_ok P) (hG : zg_ok P G) (hT : zs_T T cc ct) (hg : zs_Pgs P T cc cp po) (ht : 0 < t) (h : ∀ r hh sg' di', zq_R (zq_M P G) t r hh → zu_Pos P T cc hh sg' di' → post r (zx_S P G hh en sg' di' cc fc (mp_tr P hh) ct cp po fp)) : ∀ c n b tm sg di, c + 1 < n → tm ≤ 1000 → zu_Pos P T cc tm sg di → c < cc → T c ≤ b → (c + 1 < cc → b ≤ T (c + 1)) → b ≤ 1000 → b < t → (∀ u, b < u → u < t → ¬ zq_M P G u) → zxw_reverseContinue_25 post n (nI b) (nI c) (zx_S P G tm en sg di cc fc (mp_tr P tm) ct cp po fp) := by
  intro c
  induction c with
  | zero =>
    intro n b tm sg di hn htm hp hc h1 h2 hb hbt hnn
    obtain ⟨n, rfl⟩ : ∃ n', n = n' + 1 + 1 := ⟨n - 2, by omega⟩
    refine zs_rcB hP hG hT hg htm hp hc h1 h2 hb hbt hnn h (fun tm' sg' di' hp' ht' hz x3' e3 => ?_)
    have e : x3' = -1 := e3.trans (by decide)
    subst e
    refine zs_rcE hP hT hg ht' hp' ht ?_ h
    rw [hT.2.2.1] at hz
    exact hz
  | succ c ih =>
    intro n b tm sg di hn htm hp hc h1 h2 hb hbt hnn
    obtain ⟨n, rfl⟩ : ∃ n', n = n' + 1 := ⟨n - 1, by omega⟩
    refine zs_rcB hP hG hT hg htm hp hc h1 h2 hb hbt hnn h (fun tm' sg' di' hp' ht' hz x3' e3 => ?_)
    have e : x3' = nI c := e3.trans (pk_m1 c)
    subst e
    have hlt := hT.2.2.2.2 c hc
    exact ih n (T (c + 1)) tm' sg' di' (by omega) ht' hp' (by omega) (by omega) (fun _ => Nat.le_refl _) (hT.2.2.2.1 (c + 1) hc).2 (by omega) hz
theorem zs_rc {post : Int32 → SX → Prop} (hP : zp_ok P) (hG : zg_ok P G) (hT : zs_T T cc ct) (hg : zs_Pgs P T cc cp po) (htm : tm ≤ 1000) (hp : zu_Pos P T cc tm sg di) (h0 : tm = 0 → post 6 (zx_S P G tm en sg di cc fc (mp_tr P tm) ct cp po fp)) (h : tm ≠ 0 → ∀ r hh sg' di', zq_R (zq_M P G) tm r hh → zu_Pos P T cc hh sg' di' → post r (zx_S P G hh en sg' di' cc fc (mp_tr P hh) ct cp po fp)) : wpX_reverseContinue post (zx_S P G tm en sg di cc fc (mp_tr P tm) ct cp po fp) := by
  refine pk_eq tm 0 (fun q => h0 q) (fun q => ?_)
  have e1 : nI tm - 1 = nI (tm - 1) := by
    obtain ⟨m, rfl⟩ : ∃ m, tm = m + 1 := ⟨tm - 1, by omega⟩
    exact nI_pred m
  refine nm_r e1 (zm_cab hT (by omega) (fun c hc hc1 hc2 => ⟨c + 2, ?_⟩))
  exact zs_rc25 hP hG hT hg (by omega) (h q) c (c + 2) (tm - 1) tm sg di (by omega) htm hp hc hc1 (fun z => Nat.le_of_lt (hc2 z)) (by omega) (by omega) (fun u hu1 hu2 => absurd hu1 (by omega))
end ZN
end
section
/-! X: lastWrite, memoryAt -/
def zq_W (P : zp_P) (a u : Nat) : Prop := mp_tr P u 6 = nI (a + 1)
section ZO
variable {P : zp_P} {G : zg_G} {tm en sg cc fc : Nat} {di : Int32} {lv ct cp po fp : Nat → Int32} {T : Nat → Nat}
theorem zw_20 {post : Int32 → SX → Prop} {c b a : Nat} (hP : zp_ok P) (hT : zs_T T cc ct) (hb : b ≤ 1000) (h : ∀ r sg' di', zl_H (zq_W P a) (T c) b r → zu_Pos P T cc b sg' di' → post r (zx_S P G b en sg' di' cc fc (mp_tr P b) ct cp po fp)) : ∀ m n u r sg di, u + m = b → m < n → T c ≤ u → zu_Pos P T cc u sg di → zl_H (zq_W P a) (T c) u r → zxw_lastWriteIn_20 post (nI b) (nI a) n r (nI u) (zx_S P G u en sg di cc fc (mp_tr P u) ct cp po fp) := by
  intro m
  induction m with
  | zero =>
    intro n u r sg di hu hn hc hp hH
    obtain ⟨n, rfl⟩ : ∃ n', n = n' + 1 := ⟨n - 1, by omega⟩
    obtain rfl : u = b := by omega
    exact br_t (Int32.le_refl _) (h r sg di hH hp)
  | succ m ih =>
    intro n u r sg di hu hn hc hp hH
    obtain ⟨n, rfl⟩ : ∃ n', n = n' + 1 := ⟨n - 1, by omega⟩
    refine br_f (nI_ge (by omega) (by omega)) (za_adv hP hT hp (by omega) (fun sg2 di2 hp2 => ?_))
    refine br_c (fun q => nm_r (nI_1 u) (nm_r (nI_1 u) (ih n (u + 1) _ sg2 di2 (by omega) (by omega) (by omega) hp2 (zl_Ht hc (q.trans (nI_1 a)))))) (fun q => nm_r (nI_1 u) (ih n (u + 1) r sg2 di2 (by omega) (by omega) (by omega) hp2 (zl_Hf hH (fun z => q (Eq.trans z (nI_1 a).symm)))))
theorem zw_in {post : Int32 → SX → Prop} {c b a : Nat} (hP : zp_ok P) (hT : zs_T T cc ct) (hg : zs_Pgs P T cc cp po) (hc : c < cc) (hb : b ≤ 1000) (hcb : T c ≤ b) (h : ∀ r sg' di', zl_H (zq_W P a) (T c) b r → zu_Pos P T cc b sg' di' → post r (zx_S P G b en sg' di' cc fc (mp_tr P b) ct cp po fp)) : wpX_lastWriteIn post (zx_S P G tm en sg di cc fc (mp_tr P tm) ct cp po fp) (nI c) (nI b) (nI a) := by
  have hcc := hT.2.1
  refine And.intro (vp_in_nI (by omega) (by omega)) (nm_r (e' := nI (T c)) (by rw [nI_clamp (by omega)]; exact (hT.2.2.2.1 c hc).1) (zm_restore hP hT hg hc (zm_z hP) ⟨b - T c + 1, ?_⟩))
  exact zw_20 hP hT hb h (b - T c) (b - T c + 1) (T c) 0 c 0 (by omega) (by omega) (Nat.le_refl _) (zm_at hT hc) zl_H0
theorem zw_121 {post : Int32 → SX → Prop} {t : Nat} {r : Int32} (hP : zp_ok P) (hT : zs_T T cc ct) (hg : zs_Pgs P T cc cp po) (ht : t ≤ 1000) (htm : tm ≤ 1000) (hp : zu_Pos P T cc tm sg di) (h : ∀ sg' di', zu_Pos P T cc t sg' di' → post r (zx_S P G t en sg' di' cc fc (mp_tr P t) ct cp po fp)) : zxw_lastWrite_121 post (nI t) r (zx_S P G tm en sg di cc fc (mp_tr P tm) ct cp po fp) := by
  unfold zxw_lastWrite_121 wX_lastWrite_121
  exact zm_moveTo hP hT hg hp ht htm h
/-- the answer so far: none behind the instant b, or the last of all -/
def zq_L (P : zp_P) (a b t : Nat) (r : Int32) : Prop := (r = 0 ∧ ∀ u, b < u → u ≤ t → ¬ zq_W P a u) ∨ (r ≠ 0 ∧ zl_H (zq_W P a) 0 t r)
theorem zw_63B {post : Int32 → SX → Prop} {t n c b a : Nat} (hP : zp_ok P) (hT : zs_T T cc ct) (hg : zs_Pgs P T cc cp po) (ha : a < 64) (ht : t ≤ 1000) (htm : tm ≤ 1000) (hp : zu_Pos P T cc tm sg di) (hc : c < cc) (h1 : T c ≤ b) (h2 : c + 1 < cc → b ≤ T (c + 1)) (hbt : b ≤ t) (hn : ∀ u, b < u → u ≤ t → ¬ zq_W P a u)
    (nxt : ∀ (r : Int32) (tm' sg' : Nat) (di' : Int32), zu_Pos P T cc tm' sg' di' → tm' ≤ 1000 → zq_L P a (T c) t r → ∀ x7' : Int32, x7' = nI c + (-1) → zxw_lastWrite_63 post (nI a) (nI t) (nI ((32 + a) / 8)) n r (nI (T c)) x7' (zx_S P G tm' en sg' di' cc fc (mp_tr P tm') ct cp po fp)) : zxw_lastWrite_63 post (nI a) (nI t) (nI ((32 + a) / 8)) (n + 1) 0 (nI b) (nI c) (zx_S P G tm en sg di cc fc (mp_tr P tm) ct cp po fp) := by
  have hcc := hT.2.1
  obtain ⟨ec, hc1⟩ := hT.2.2.2.1 c hc
  have hi : vp_in (nI c) 32 := vp_in_nI (by omega) (by omega)
  have ecl : ct (nI c).toNatClampNeg = nI (T c) := by rw [nI_clamp (by omega)]; exact ec
  have hall : (∀ u, T c < u → u ≤ b → ¬ zq_W P a u) → zq_L P a (T c) t 0 := by
    intro hz
    refine Or.inl ⟨rfl, fun u hu1 hu2 => ?_⟩
    by_cases q : u ≤ b
    · exact hz u hu1 q
    · exact hn u (by omega) hu2
  refine br_f (nI_pos (by omega)) (br_t rfl (And.intro hi ?_))
  refine pk_le b (T c) (fun q => And.intro hi (nm_r ecl (nxt 0 tm sg di hp htm (hall (fun u hu1 hu2 => absurd hu1 (by omega)))))) (fun q => ?_) rfl ecl
  refine zm_mbw hT hg (by omega) hc (fun q2 hu => br_t rfl (And.intro hi (nm_r ecl (nxt 0 tm sg di hp htm (hall (fun u hu1 hu2 hW => ?_)))))) (br_f (by decide) ?_)
  · exact (hu u hu1 (Nat.le_trans hu2 (h2 q2))).2 a ha hW rfl
  · refine zw_in hP hT hg hc (by omega) h1 (fun r sg' di' hH hp' => And.intro hi (nm_r ecl (nxt r b sg' di' hp' (by omega) ?_)))
    rcases hH with ⟨e, hz⟩ | ⟨hh, e, hh1, hh2, hQ, hz⟩
    · subst e; exact hall hz
    · refine Or.inr ⟨by rw [e]; exact nI_ne0 (by omega) (by omega), Or.inr ⟨hh, e, by omega, by omega, hQ, fun u hu1 hu2 => ?_⟩⟩
      by_cases q3 : u ≤ b
      · exact hz u hu1 q3
      · exact hn u (by omega) hu2
theorem zw_63 {post : Int32 → SX → Prop} {t a : Nat} (hP : zp_ok P) (hT : zs_T T cc ct) (hg : zs_Pgs P T cc cp po) (ha : a < 64) (ht : t ≤ 1000) (h : ∀ r sg' di', zl_H (zq_W P a) 0 t r → zu_Pos P T cc t sg' di' → post r (zx_S P G t en sg' di' cc fc (mp_tr P t) ct cp po fp)) : ∀ c n b tm sg di, c + 1 < n → tm ≤ 1000 → zu_Pos P T cc tm sg di → c < cc → T c ≤ b → (c + 1 < cc → b ≤ T (c + 1)) → b ≤ t → (∀ u, b < u → u ≤ t → ¬ zq_W P a u) → zxw_lastWrite_63 post (nI a) (nI t) (nI ((32 + a) / 8)) n 0 (nI b) (nI c) (zx_S P G tm en sg di cc fc (mp_tr P tm) ct cp po fp) := by
  intro c
  induction c with
  | zero =>
    intro n b tm sg di hn htm hp hc h1 h2 hbt hnn
    obtain ⟨n, rfl⟩ : ∃ n', n = n' + 1 + 1 := ⟨n - 2, by omega⟩
    refine zw_63B hP hT hg ha ht htm hp hc h1 h2 hbt hnn (fun r tm' sg' di' hp' ht' hL x7' e7 => ?_)
    have e : x7' = -1 := e7.trans (by decide)
    subst e
    refine br_t (by decide) (zw_121 hP hT hg ht ht' hp' (fun sg2 di2 hp2 => h r sg2 di2 ?_ hp2))
    rcases hL with ⟨e, hz⟩ | ⟨_, hH⟩
    · rw [hT.2.2.1] at hz
      exact Or.inl ⟨e, hz⟩
    · exact hH
  | succ c ih =>
    intro n b tm sg di hn htm hp hc h1 h2 hbt hnn
    obtain ⟨n, rfl⟩ : ∃ n', n = n' + 1 := ⟨n - 1, by omega⟩
    refine zw_63B hP hT hg ha ht htm hp hc h1 h2 hbt hnn (fun r tm' sg' di' hp' ht' hL x7' e7 => ?_)
    have e : x7' = nI c := e7.trans (pk_m1 c)
    subst e
    have hlt := hT.2.2.2.2 c hc
    have hcc := hT.2.1
    rcases hL with ⟨e, hz⟩ | ⟨hr, hH⟩
    · subst e
      exact ih n (T (c + 1)) tm' sg' di' (by omega) ht' hp' (by omega) (by omega) (fun _ => Nat.le_refl _) (by omega) hz
    · obtain ⟨n, rfl⟩ : ∃ n', n = n' + 1 := ⟨n - 1, by omega⟩
      exact br_f (nI_pos (by omega)) (br_f hr (zw_121 hP hT hg ht ht' hp' (fun sg2 di2 hp2 => h r sg2 di2 hH hp2)))
theorem zw_lw {post : Int32 → SX → Prop} {a : Nat} (hP : zp_ok P) (hT : zs_T T cc ct) (hg : zs_Pgs P T cc cp po) (htm : tm ≤ 1000) (hp : zu_Pos P T cc tm sg di) (ha : a < zp_ms P) (h : ∀ r sg' di', zl_H (zq_W P a) 0 tm r → zu_Pos P T cc tm sg' di' → post r (zx_S P G tm en sg' di' cc fc (mp_tr P tm) ct cp po fp)) : wpX_lastWrite post (zx_S P G tm en sg di cc fc (mp_tr P tm) ct cp po fp) (nI a) := by
  have hms := hP.2.1
  refine br_f (nI_pos (by omega)) (br_t (nI_lt ha (by omega)) ?_)
  refine br_c (fun q => ?_) (fun q => ?_)
  · have hW : zq_W P a tm := q.trans (nI_1 a)
    have h0 : 0 < tm := by
      rcases Nat.eq_zero_or_pos tm with e | e
      · rw [e] at hW
        exact absurd (show nI (a + 1) = 0 from hW.symm) (nI_ne0 (by omega) (by omega))
      · exact e
    exact h _ sg di (Or.inr ⟨tm, rfl, h0, Nat.le_refl _, hW, fun u hu1 hu2 => absurd hu1 (by omega)⟩) hp
  · refine nm_r (e' := nI ((32 + a) / 8)) (by rw [zc_32, zc_ush (by omega)]) ⟨sg + 2, ?_⟩
    exact zw_63 hP hT hg (by omega) htm h sg (sg + 2) tm tm sg di (by omega) htm hp hp.1 hp.2.1 (fun z => Nat.le_of_lt (hp.2.2.1 z)) (Nat.le_refl _) (fun u hu1 hu2 => absurd hu1 (by omega))
theorem zw_cw {post : Int32 → Prop} {c wd : Nat} (hT : zs_T T cc ct) (hg : zs_Pgs P T cc cp po) (hc : c < cc) (hw : wd < 128) (h : post (mp_tr P (T c) wd)) : wpX_checkpointWord post (zx_S P G tm en sg di cc fc lv ct cp po fp) (nI c) (nI wd) := by
  have e7 : nI wd &&& 7 = nI (wd % 8) := pk_andN (by omega) 3 (by decide)
  have eu : ((nI wd).toUInt32 >>> ((3 : Int32).toUInt32 &&& Int32.toUInt32 31)).toInt32 = nI (wd / 8) := zc_ush (by omega)
  unfold wpX_checkpointWord
  rw [eu, e7]
  refine zm_np hT hg (by omega) hc (fun r hr => ?_)
  have ew : wd / 8 * 8 + wd % 8 = wd := by omega
  rcases hr with ⟨q, hz⟩ | ⟨r, hr, q, hv⟩
  · refine br_f (fun z => absurd q (Int32.not_lt.mpr z)) ?_
    have := hz (wd % 8) (by omega)
    rw [ew] at this
    exact zc_eq (Q := post) this h
  · subst q
    have e3 : nI r * 8 + nI (wd % 8) = nI (r * 8 + wd % 8) := zc_x8 r (wd % 8)
    refine br_t (nI_pos' (by omega)) (And.intro (by rw [e3]; exact vp_in_nI (by omega) (by omega)) ?_)
    have := hv (wd % 8) (by omega)
    rw [ew] at this
    rw [e3, nI_clamp (by omega)]
    exact zc_eq (Q := post) this.symm h
theorem zw_ma {post : Int32 → SX → Prop} {t a : Nat} (hP : zp_ok P) (hT : zs_T T cc ct) (hg : zs_Pgs P T cc cp po) (htm : tm ≤ 1000) (hp : zu_Pos P T cc tm sg di) (hen : en ≤ 1000) (ht : t ≤ en) (ha : a < zp_ms P) (h : ∀ sg' di', zu_Pos P T cc tm sg' di' → post (mp_tr P t (32 + a)) (zx_S P G tm en sg' di' cc fc (mp_tr P tm) ct cp po fp)) : wpX_memoryAt post (zx_S P G tm en sg di cc fc (mp_tr P tm) ct cp po fp) (nI t) (nI a) := by
  have hms := hP.2.1
  have hcc := hT.2.1
  refine br_f (nI_pos (by omega)) (br_f (nI_nlt ht (by omega)) (br_f (nI_pos (by omega)) (br_t (nI_lt ha (by omega)) (nm_r (zc_32 a) ?_))))
  refine pk_eq t tm (fun q => ?_) (fun q => ?_)
  · subst q
    refine And.intro (vp_in_nI (by omega) (by omega)) ?_
    rw [nI_clamp (by omega)]
    exact h sg di hp
  · refine zm_cab hT (by omega) (fun c hc hc1 hc2 => ?_)
    rw [zc_ush (by omega)]
    have hi : vp_in (nI c) 32 := vp_in_nI (by omega) (by omega)
    have ecl : ct (nI c).toNatClampNeg = nI (T c) := by rw [nI_clamp (by omega)]; exact (hT.2.2.2.1 c hc).1
    have hcb := (hT.2.2.2.1 c hc).2
    have h80 : mp_tr P t (32 + a) = mp_tr P (T c) (32 + a) → zxw_memoryAt_80 post (nI (32 + a)) (nI c) (zx_S P G tm en sg di cc fc (mp_tr P tm) ct cp po fp) := by
      intro e
      unfold zxw_memoryAt_80 wX_memoryAt_80
      refine zw_cw hT hg hc (by omega) ?_
      rw [← e]
      exact h sg di hp
    refine zm_mbw hT hg (by omega) hc (fun q2 hu => And.intro hi ?_) (And.intro hi ?_)
    · have e : mp_tr P t (32 + a) = mp_tr P (T c) (32 + a) := by
        have := zu_val (i := (32 + a) % 8) hu hc1 (Nat.le_of_lt (hc2 q2)) (by omega)
        rw [show (32 + a) / 8 * 8 + (32 + a) % 8 = 32 + a by omega] at this
        exact this
      exact br_c (fun _ => h80 e) (fun _ => br_t rfl (h80 e))
    · refine pk_eq t (T c) (fun q2 => h80 (by rw [q2])) (fun q2 => br_f (by decide) ?_) rfl ecl
      refine zm_moveTo hP hT hg hp (by omega) htm (fun sg2 di2 hp2 => And.intro (vp_in_nI (by omega) (by omega)) (nm_r (e' := mp_tr P t (32 + a)) (by rw [nI_clamp (by omega)]) ?_))
      exact zm_moveTo hP hT hg hp2 htm (by omega) (fun sg3 di3 hp3 => h sg3 di3 hp3)
end ZO
end
section
/-! owned and free pages; X: release, dropFuture -/
theorem zs_Umono {A B : Nat → Prop} {cp fp : Nat → Int32} {fc : Nat} (h : zs_Uq A cp fp fc) (hB : ∀ q, B q → A q) : zs_Uq B cp fp fc :=
  ⟨h.1, h.2.1, h.2.2.1, fun i q hi hq => h.2.2.2.1 i q hi (hB q hq), fun q q' hq hq' => h.2.2.2.2 q q' (hB q hq) (hB q' hq')⟩
theorem zs_Uext {A : Nat → Prop} {cp cp' fp : Nat → Int32} {fc : Nat} (h : zs_Uq A cp fp fc) (e : ∀ q, A q → cp' q = cp q) : zs_Uq A cp' fp fc :=
  ⟨h.1, h.2.1, h.2.2.1, fun i q hi hq => by rw [e q hq]; exact h.2.2.2.1 i q hi hq, fun q q' hq hq' => by rw [e q hq, e q' hq']; exact h.2.2.2.2 q q' hq hq'⟩
theorem zs_Urel {A B : Nat → Prop} {cp fp : Nat → Int32} {fc q0 r : Nat} (h : zs_Uq A cp fp fc) (h0 : A q0) (hr : r < 192) (e0 : cp q0 = nI r) (hB : ∀ q, B q → A q ∧ q ≠ q0) (hf : fc < 192) : zs_Uq B cp (upd fp fc (nI r)) (fc + 1) := by
  obtain ⟨h1, h2, h3, h4, h5⟩ := h
  have hp : (0 : Int32) ≤ cp q0 := by rw [e0]; exact nI_pos' (by omega)
  have hne : ∀ i, i < fc → fp i ≠ nI r := fun i hi => by rw [← e0]; exact h4 i q0 hi h0
  refine ⟨by omega, fun i hi => ?_, fun i j hi hj e => ?_, fun i q hi hq => ?_, fun q q' hq hq' => h5 q q' (hB q hq).1 (hB q' hq').1⟩
  · by_cases z : i = fc
    · subst z; exact ⟨r, hr, pk_us⟩
    · rw [pk_un z]; exact h2 i (by omega)
  · by_cases z : i = fc
    · by_cases z2 : j = fc
      · omega
      · subst z
        rw [pk_us, pk_un z2] at e
        exact absurd e.symm (hne j (by omega))
    · by_cases z2 : j = fc
      · subst z2
        rw [pk_us, pk_un z] at e
        exact absurd e (hne i (by omega))
      · rw [pk_un z, pk_un z2] at e
        exact h3 i j (by omega) (by omega) e
  · by_cases z : i = fc
    · subst z
      rw [pk_us]
      intro e
      exact (hB q hq).2 (h5 q0 q h0 (hB q hq).1 hp (e0.trans e)).symm
    · rw [pk_un z]; exact h4 i q (by omega) (hB q hq).1
theorem zs_Umv {A B : Nat → Prop} {cp fp : Nat → Int32} {fc q0 q1 : Nat} (h : zs_Uq A cp fp fc) (h0 : A q0) (hp : 0 ≤ cp q0) (hB : ∀ q, B q → A q ∧ q ≠ q0) : zs_Uq B (upd cp q1 (cp q0)) fp fc := by
  obtain ⟨h1, h2, h3, h4, h5⟩ := h
  refine ⟨h1, h2, h3, fun i q hi hq => ?_, fun q q' hq hq' hz e => ?_⟩
  · by_cases z : q = q1
    · subst z; rw [pk_us]; exact h4 i q0 hi h0
    · rw [pk_un z]; exact h4 i q hi (hB q hq).1
  · by_cases z : q = q1
    · by_cases z2 : q' = q1
      · rw [z, z2]
      · subst z
        rw [pk_us, pk_un z2] at e
        exact absurd (h5 q0 q' h0 (hB q' hq').1 hp e).symm (hB q' hq').2
    · by_cases z2 : q' = q1
      · subst z2
        rw [pk_us, pk_un z] at e
        rw [pk_un z] at hz
        exact absurd (h5 q q0 (hB q hq).1 h0 hz e) (hB q hq).2
      · rw [pk_un z, pk_un z2] at e
        rw [pk_un z] at hz
        exact h5 q q' (hB q hq).1 (hB q' hq').1 hz e
/-- every entry is negative or a page -/
def zs_rf (cc : Nat) (cp : Nat → Int32) : Prop := ∀ q, zs_A cc q → cp q < 0 ∨ ∃ r, r < 192 ∧ cp q = nI r
theorem zs_rf_of {P : zp_P} {T : Nat → Nat} {cc : Nat} {cp po : Nat → Int32} (hg : zs_Pgs P T cc cp po) : zs_rf cc cp := by
  intro q hq
  have h1 := hq.1
  have h2 := hq.2
  have e : (q / 16 - 1 + 1) * 16 + q % 16 = q := by omega
  have := hg (q / 16 - 1) (q % 16) (by omega) (by omega)
  rw [e] at this
  rcases this with ⟨z, _⟩ | ⟨r, hr, z, _⟩
  · exact Or.inl z
  · exact Or.inr ⟨r, hr, z⟩
section ZQ
variable {P : zp_P} {G : zg_G} {tm en sg cc fc : Nat} {di : Int32} {lv ct cp po fp : Nat → Int32} {T : Nat → Nat}
theorem zx_rel {post : SX → Prop} {A B : Nat → Prop} {q0 r : Nat} (hU : zs_Uq A cp fp fc) (h0 : A q0) (hr : r < 192) (e0 : cp q0 = nI r) (hB : ∀ q, B q → A q ∧ q ≠ q0) (h : ∀ fc' fp', zs_Uq B cp fp' fc' → post (zx_S P G tm en sg di cc fc' lv ct cp po fp')) : wpX_release post (zx_S P G tm en sg di cc fc lv ct cp po fp) (nI r) := by
  have hf := hU.1
  refine pk_le 192 fc (fun q => h fc fp (zs_Umono hU (fun q hq => (hB q hq).1))) (fun q => ?_)
  refine And.intro (vp_in_nI q (by omega)) (nm_r (e' := upd fp fc (nI r)) (by rw [nI_clamp (by omega)]) (nm_r (nI_1 fc) ?_))
  exact h _ _ (zs_Urel hU h0 hr e0 hB q)
def zd_A (c p q : Nat) : Prop := 16 ≤ q ∧ q < (c + 1) * 16 ∧ ¬ (c * 16 ≤ q ∧ q < c * 16 + p)
theorem zd_25 {post : SX → Prop} {J : Int32 → Int32 → Int32 → Int32 → Int32 → Int32 → Int32 → Int32 → Int32 → Int32 → Int32 → Int32 → Int32 → Int32 → Int32 → Int32 → Int32 → Int32 → Int32 → Int32 → Int32 → Int32 → Int32 → Int32 → Int32 → Int32 → Int32 → Int32 → Int32 → Int32 → Int32 → (Nat → Int32) → (Nat → Int32) → (Nat → Int32) → (Nat → Int32) → (Nat → Int32) → (Nat → Int32) → (Nat → Int32) → (Nat → Int32) → (Nat → Int32) → (Nat → Int32) → (Nat → Int32) → (Nat → Int32) → Prop} {c : Nat} (hc : c < 31) (hr : zs_rf (c + 2) cp) (h : ∀ fc' fp', zs_Uq (zs_A (c + 1)) cp fp' fc' → zx_J (J (nI c)) (zx_S P G tm en sg di cc fc' lv ct cp po fp')) : ∀ m n p fc fp, p + m = 16 → m < n → zs_Uq (zd_A (c + 1) p) cp fp fc → zxw_dropFuture_25 post J (nI (c + 1)) n (nI p) (zx_S P G tm en sg di cc fc lv ct cp po fp) := by
  intro m
  induction m with
  | zero =>
    intro n p fc fp hp hn hU
    obtain ⟨n, rfl⟩ : ∃ n', n = n' + 1 := ⟨n - 1, by omega⟩
    obtain rfl : p = 16 := by omega
    refine br_t (by decide) (nm_r (pk_m1 c) (h fc fp (zs_Umono hU (fun q hq => ?_))))
    unfold zs_A at hq
    unfold zd_A
    omega
  | succ m ih =>
    intro n p fc fp hp hn hU
    obtain ⟨n, rfl⟩ : ∃ n', n = n' + 1 := ⟨n - 1, by omega⟩
    have e : nI (c + 1) * 16 + nI p = nI ((c + 1) * 16 + p) := zc_x16 (c + 1) p
    refine br_f (nI_ge (b := 16) (by omega) (by omega)) (And.intro (by rw [e]; exact vp_in_nI (by omega) (by omega)) (nm_r (e' := cp ((c + 1) * 16 + p)) (by rw [e, nI_clamp (by omega)]) ?_))
    have hB : ∀ q, zd_A (c + 1) (p + 1) q → zd_A (c + 1) p q ∧ q ≠ (c + 1) * 16 + p := by
      intro q hq
      unfold zd_A at hq ⊢
      omega
    have h0 : zd_A (c + 1) p ((c + 1) * 16 + p) := by
      unfold zd_A
      omega
    have hz : zs_A (c + 2) ((c + 1) * 16 + p) := by
      unfold zs_A
      omega
    rcases hr _ hz with z | ⟨r, hr2, z⟩
    · exact br_t z (nm_r (nI_1 p) (ih n (p + 1) fc fp (by omega) (by omega) (zs_Umono hU (fun q hq => (hB q hq).1))))
    · rw [z]
      exact br_f (nI_pos (by omega)) (zx_rel hU h0 hr2 z hB (fun fc' fp' hU' => nm_r (nI_1 p) (ih n (p + 1) fc' fp' (by omega) (by omega) hU')))
theorem zd_15 {post : SX → Prop} (hcc : cc ≤ 32) (hr : zs_rf cc cp) (h : ∀ fc' fp', zs_Uq (zs_A (sg + 1)) cp fp' fc' → post (zx_S P G tm en sg di (sg + 1) fc' lv ct cp po fp')) : ∀ m n c fc fp, c = sg + m → m < n → c < cc → zs_Uq (zs_A (c + 1)) cp fp fc → zxw_dropFuture_15 post n (nI c) (zx_S P G tm en sg di cc fc lv ct cp po fp) := by
  intro m
  induction m with
  | zero =>
    intro n c fc fp hm hn hc hU
    obtain ⟨n, rfl⟩ : ∃ n', n = n' + 1 := ⟨n - 1, by omega⟩
    obtain rfl : c = sg := by omega
    exact br_t (Int32.le_refl _) (nm_r (nI_1 c) (h fc fp hU))
  | succ m ih =>
    intro n c fc fp hm hn hc hU
    obtain ⟨n, rfl⟩ : ∃ n', n = n' + 1 := ⟨n - 1, by omega⟩
    obtain ⟨d, rfl⟩ : ∃ d, c = d + 1 := ⟨c - 1, by omega⟩
    refine br_f (nI_ge (by omega) (by omega)) ⟨17, zd_25 (by omega) ?_ (fun fc' fp' hU' => ih n d fc' fp' (by omega) (by omega) (by omega) hU') 16 17 0 fc fp rfl (by omega) (zs_Umono hU (fun q hq => ?_))⟩
    · intro q hq
      refine hr q ?_
      unfold zs_A at hq ⊢
      omega
    · unfold zd_A at hq
      unfold zs_A
      omega
theorem zd_drop {post : SX → Prop} (hS : zs_St P T cc fc ct cp po fp) (hp : zu_Pos P T cc tm sg di) (h : ∀ fc' fp', zs_St P T (sg + 1) fc' ct cp po fp' → zu_Pos P T (sg + 1) tm sg di → post (zx_S P G tm tm sg di (sg + 1) fc' lv ct cp po fp')) : wpX_dropFuture post (zx_S P G tm en sg di cc fc lv ct cp po fp) := by
  obtain ⟨hT, hg, hU⟩ := hS
  obtain ⟨hs, hle, hlt, hu⟩ := hp
  have h1 := hT.1
  have hcc := hT.2.1
  have e1 : nI cc - 1 = nI (cc - 1) := by
    obtain ⟨m, rfl⟩ : ∃ m, cc = m + 1 := ⟨cc - 1, by omega⟩
    exact nI_pred m
  refine nm_r e1 ⟨cc, zd_15 hcc (zs_rf_of hg) (fun fc' fp' hU' => h fc' fp' ⟨⟨by omega, by omega, hT.2.2.1, fun c hc => hT.2.2.2.1 c (by omega), fun c hc => hT.2.2.2.2 c (by omega)⟩, fun c p hc hp => hg c p (by omega) hp, hU'⟩ ⟨by omega, hle, fun z => absurd z (by omega), hu⟩) (cc - 1 - sg) cc (cc - 1) fc fp (by omega) (by omega) (by omega) ?_⟩
  rw [show cc - 1 + 1 = cc by omega]; exact hU
end ZQ
end
section
/-! X: chooseVictim, merge, makeRoom -/
theorem zs_Umap {A B : Nat → Prop} {cp cp' fp : Nat → Int32} {fc : Nat} (g : Nat → Nat) (h : zs_Uq A cp fp fc) (hg : ∀ q, B q → A (g q) ∧ cp' q = cp (g q)) (hi : ∀ q q', B q → B q' → g q = g q' → q = q') : zs_Uq B cp' fp fc := by
  obtain ⟨h1, h2, h3, h4, h5⟩ := h
  refine ⟨h1, h2, h3, fun i q hq hB => ?_, fun q q' hq hq' hz e => ?_⟩
  · rw [(hg q hB).2]; exact h4 i _ hq (hg q hB).1
  · rw [(hg q hq).2] at hz e
    rw [(hg q' hq').2] at e
    exact hi q q' hq hq' (h5 _ _ (hg q hq).1 (hg q' hq').1 hz e)
theorem zu_Pm1 {S : Nat → Nat → Int32} {po : Nat → Int32} {a b c p : Nat} {r0 r1 : Int32} (hA : zu_Pg S po a b p r0) (hB : zu_Pg S po b c p r1) (hab : a ≤ b) (h0 : r0 < 0) : zu_Pg S po a c p r1 := by
  rcases hA with ⟨_, u1⟩ | ⟨r, hr, e, _⟩
  · rcases hB with ⟨z, u2⟩ | q
    · exact Or.inl ⟨z, zu_trans u1 u2 hab⟩
    · exact Or.inr q
  · rw [e] at h0; exact absurd h0 (nI_pos (by omega))
theorem zu_Pm2 {S : Nat → Nat → Int32} {po : Nat → Int32} {a b c p : Nat} {r1 : Int32} (hB : zu_Pg S po b c p r1) (h1 : ¬ r1 < 0) : zu_Pg S po a c p r1 := by
  rcases hB with ⟨z, u2⟩ | q
  · exact absurd z h1
  · exact Or.inr q
theorem zu_Pm3 {S : Nat → Nat → Int32} {po : Nat → Int32} {a b c p : Nat} {r0 r1 : Int32} (hA : zu_Pg S po a b p r0) (hB : zu_Pg S po b c p r1) (hbc : b ≤ c) (h0 : ¬ r0 < 0) (h1 : r1 < 0) : zu_Pg S po a c p r0 := by
  rcases hA with ⟨z, _⟩ | ⟨r, hr, e, hv⟩
  · exact absurd z h0
  · rcases hB with ⟨_, u2⟩ | ⟨r', hr', e', _⟩
    · exact Or.inr ⟨r, hr, e, fun i hi => (hv i hi).trans (zu_val u2 hbc (Nat.le_refl _) hi).symm⟩
    · rw [e'] at h1; exact absurd h1 (nI_pos (by omega))
def ze_A (cc k p q : Nat) : Prop := zs_A cc q ∧ ¬ ((k + 1) * 16 ≤ q ∧ q < (k + 1) * 16 + p)
def ze_I (P : zp_P) (T : Nat → Nat) (k p : Nat) (cp cp1 po : Nat → Int32) : Prop := (∀ q, ¬ ((k + 1 + 1) * 16 ≤ q ∧ q < (k + 1 + 1) * 16 + p) → cp1 q = cp q) ∧ ∀ p', p' < p → zu_Pg (mp_tr P) po (T k) (T (k + 1 + 1)) p' (cp1 ((k + 1 + 1) * 16 + p'))
def zf_ct (j c : Nat) (f g : Nat → Int32) : Prop := ∀ q, g q = if j ≤ q ∧ q < c then f (q + 1) else f q
def zf_cp (j N : Nat) (f g : Nat → Int32) : Prop := ∀ q, g q = if j * 16 ≤ q ∧ q < N then f (q + 16) else f q
section ZR
variable {P : zp_P} {G : zg_G} {tm en sg cc fc : Nat} {di : Int32} {lv ct cp po fp : Nat → Int32} {T : Nat → Nat}
theorem ze_cv6 {post : Int32 → Prop} (hcc : cc ≤ 32) (h1 : 1 ≤ cc) (h : ∀ j, (j = 0 ∨ (1 ≤ j ∧ j + 1 < cc)) → post (nI j)) : ∀ m n b x2 j, j + m = cc → 1 ≤ j → m < n → (b = 0 ∨ (1 ≤ b ∧ b + 1 < cc)) → zxw_chooseVictim_6 post n (nI b) x2 (nI j) (zx_S P G tm en sg di cc fc lv ct cp po fp) := by
  have e1 : nI cc - 1 = nI (cc - 1) := by
    obtain ⟨m, rfl⟩ : ∃ m, cc = m + 1 := ⟨cc - 1, by omega⟩
    exact nI_pred m
  intro m
  induction m with
  | zero =>
    intro n b x2 j hj hj1 hn hb
    obtain ⟨n, rfl⟩ : ∃ n', n = n' + 1 := ⟨n - 1, by omega⟩
    exact pk_le (cc - 1) j (fun q => h b hb) (fun q => absurd q (by omega)) e1
  | succ m ih =>
    intro n b x2 j hj hj1 hn hb
    obtain ⟨n, rfl⟩ : ∃ n', n = n' + 1 := ⟨n - 1, by omega⟩
    refine pk_le (cc - 1) j (fun q => h b hb) (fun q => ?_) e1
    have e2 : nI j - 1 = nI (j - 1) := by
      obtain ⟨i, rfl⟩ : ∃ i, j = i + 1 := ⟨j - 1, by omega⟩
      exact nI_pred i
    refine And.intro (by rw [nI_1]; exact vp_in_nI (by omega) (by omega)) (And.intro (by rw [e2]; exact vp_in_nI (by omega) (by omega)) (nm_e ?_))
    have n1 : ∀ x, zxw_chooseVictim_6 post n (nI j) x (nI (j + 1)) (zx_S P G tm en sg di cc fc lv ct cp po fp) := fun x => ih n j x (j + 1) (by omega) (by omega) (by omega) (Or.inr ⟨hj1, by omega⟩)
    refine br_c (fun _ => nm_r (nI_1 j) (n1 _)) (fun _ => br_c (fun _ => nm_r (nI_1 j) (ih n b x2 (j + 1) (by omega) (by omega) (by omega) hb)) (fun _ => nm_r (nI_1 j) (n1 _)))
theorem ze_cv {post : Int32 → Prop} (hcc : cc ≤ 32) (h1 : 1 ≤ cc) (h : ∀ j, (j = 0 ∨ (1 ≤ j ∧ j + 1 < cc)) → post (nI j)) : wpX_chooseVictim post (zx_S P G tm en sg di cc fc lv ct cp po fp) :=
  ⟨cc, ze_cv6 hcc h1 h (cc - 1) cc 0 0 1 (by omega) (by omega) (by omega) (Or.inl rfl)⟩
theorem ze_m2 {post : SX → Prop} {k : Nat} (hT : zs_T T cc ct) (hg : zs_Pgs P T cc cp po) (hk : k + 1 + 1 < cc) (h : ∀ cp1 fc' fp', ze_I P T k 16 cp cp1 po → zs_Uq (ze_A cc k 16) cp1 fp' fc' → ∃ n, zxw_merge_68 post n (nI (k + 1)) (zx_S P G tm en sg di cc fc' lv ct cp1 po fp')) : ∀ m n p cp1 fc fp, p + m = 16 → m < n → ze_I P T k p cp cp1 po → zs_Uq (ze_A cc k p) cp1 fp fc → zxw_merge_2 post (nI (k + 1)) n (nI p) (zx_S P G tm en sg di cc fc lv ct cp1 po fp) := by
  have hcc := hT.2.1
  intro m
  induction m with
  | zero =>
    intro n p cp1 fc fp hp hn hI hU
    obtain ⟨n, rfl⟩ : ∃ n', n = n' + 1 := ⟨n - 1, by omega⟩
    obtain rfl : p = 16 := by omega
    exact br_t (by decide) (h cp1 fc fp hI hU)
  | succ m ih =>
    intro n p cp1 fc fp hp hn hI hU
    obtain ⟨n, rfl⟩ : ∃ n', n = n' + 1 := ⟨n - 1, by omega⟩
    have e : nI (k + 1) * 16 + nI p = nI ((k + 1) * 16 + p) := zc_x16 (k + 1) p
    have c0 : cp1 ((k + 1) * 16 + p) = cp ((k + 1) * 16 + p) := hI.1 _ (by omega)
    have c1 : cp1 ((k + 1 + 1) * 16 + p) = cp ((k + 1 + 1) * 16 + p) := hI.1 _ (by omega)
    have g0 := hg k p (by omega) (by omega)
    have g1 := hg (k + 1) p hk (by omega)
    have l0 := hT.2.2.2.2 k (by omega)
    have l1 := hT.2.2.2.2 (k + 1) hk
    have hB : ∀ q, ze_A cc k (p + 1) q → ze_A cc k p q ∧ q ≠ (k + 1) * 16 + p := by
      intro q hq
      unfold ze_A zs_A at hq ⊢
      omega
    have hA0 : ze_A cc k p ((k + 1) * 16 + p) := by
      unfold ze_A zs_A
      omega
    have hI1 : zu_Pg (mp_tr P) po (T k) (T (k + 1 + 1)) p (cp1 ((k + 1 + 1) * 16 + p)) → ze_I P T k (p + 1) cp cp1 po := by
      intro z
      refine ⟨fun q hq => hI.1 q (by omega), fun p' hp' => ?_⟩
      by_cases e2 : p' = p
      · subst e2; exact z
      · exact hI.2 p' (by omega)
    refine br_f (nI_ge (b := 16) (by omega) (by omega)) (And.intro (by rw [e]; exact vp_in_nI (by omega) (by omega)) (nm_r (e' := cp ((k + 1) * 16 + p)) (by rw [e, nI_clamp (by omega), c0]) ?_))
    refine br_c (fun z => nm_r (nI_1 p) (ih n (p + 1) cp1 fc fp (by omega) (by omega) (hI1 (by rw [c1]; exact zu_Pm1 g0 g1 (by omega) z)) (zs_Umono hU (fun q hq => (hB q hq).1)))) (fun z => ?_)
    have hi : vp_in (nI ((k + 1 + 1) * 16 + p)) 512 := vp_in_nI (by omega) (by omega)
    refine nm_r (zc_x16s (k + 1) p) (And.intro hi ?_)
    rw [nI_clamp (by omega), c1]
    refine br_c (fun z2 => And.intro hi (nm_r (e' := upd cp1 ((k + 1 + 1) * 16 + p) (cp1 ((k + 1) * 16 + p))) (by rw [c0]) (nm_r (nI_1 p) ?_))) (fun z2 => ?_)
    · refine ih n (p + 1) _ fc fp (by omega) (by omega) ⟨fun q hq => ?_, fun p' hp' => ?_⟩ (zs_Umv hU hA0 (by rw [c0]; exact Int32.not_lt.mp z) hB)
      · rw [pk_un (by omega)]; exact hI.1 q (by omega)
      · by_cases e2 : p' = p
        · subst e2; rw [pk_us, c0]; exact zu_Pm3 g0 g1 (by omega) z z2
        · rw [pk_un (by omega)]; exact hI.2 p' (by omega)
    · obtain ⟨r, hr, e0⟩ : ∃ r, r < 192 ∧ cp ((k + 1) * 16 + p) = nI r := by
        rcases g0 with ⟨y, _⟩ | ⟨r, hr, y, _⟩
        · exact absurd y z
        · exact ⟨r, hr, y⟩
      rw [e0]
      refine zx_rel hU hA0 hr (c0.trans e0) hB (fun fc' fp' hU' => nm_r (nI_1 p) (ih n (p + 1) cp1 fc' fp' (by omega) (by omega) (hI1 (by rw [c1]; exact zu_Pm2 g1 z2)) hU'))
theorem ze_94 {post : SX → Prop} {J : Int32 → (Nat → Int32) → (Nat → Int32) → (Nat → Int32) → (Nat → Int32) → (Nat → Int32) → (Nat → Int32) → (Nat → Int32) → (Nat → Int32) → (Nat → Int32) → (Nat → Int32) → (Nat → Int32) → (Nat → Int32) → Prop} {j c : Nat} {cp1 : Nat → Int32} (hcc : cc ≤ 32) (hc : c + 1 < cc) (hj : j ≤ c) (h : ∀ cp', zf_cp j ((c + 1) * 16) cp1 cp' → J (nI (c + 1)) (zp_op P) (zp_od P) (zp_in P) (zg_br G) (zg_wa G) (zg_wc G) (zg_wv G) lv ct cp' po fp) : ∀ m n p cp', p + m = 16 → m < n → zf_cp j (c * 16 + p) cp1 cp' → zxw_merge_94 post J (nI c) n (nI p) (zx_S P G tm en sg di cc fc lv ct cp' po fp) := by
  intro m
  induction m with
  | zero =>
    intro n p cp' hp hn hf
    obtain ⟨n, rfl⟩ : ∃ n', n = n' + 1 := ⟨n - 1, by omega⟩
    obtain rfl : p = 16 := by omega
    refine br_t (by decide) (nm_r (nI_1 c) (h cp' ?_))
    rw [show (c + 1) * 16 = c * 16 + 16 by omega]; exact hf
  | succ m ih =>
    intro n p cp' hp hn hf
    obtain ⟨n, rfl⟩ : ∃ n', n = n' + 1 := ⟨n - 1, by omega⟩
    have e1 : (nI c + 1) * 16 + nI p = nI ((c + 1) * 16 + p) := zc_x16s c p
    have e2 : nI c * 16 + nI p = nI (c * 16 + p) := zc_x16 c p
    refine br_f (nI_ge (b := 16) (by omega) (by omega)) (And.intro (by rw [e1]; exact vp_in_nI (by omega) (by omega)) (And.intro (by rw [e2]; exact vp_in_nI (by omega) (by omega)) (nm_r (e' := upd cp' (c * 16 + p) (cp' ((c + 1) * 16 + p))) (by rw [e1, e2, nI_clamp (by omega), nI_clamp (by omega)]) (nm_r (nI_1 p) (ih n (p + 1) _ (by omega) (by omega) (fun q => ?_))))))
    by_cases z : q = c * 16 + p
    · subst z
      rw [pk_us, hf, if_neg (by omega), if_pos (by omega)]
      exact congrArg cp1 (by omega)
    · rw [pk_un z, hf]
      by_cases z2 : j * 16 ≤ q ∧ q < c * 16 + p
      · rw [if_pos z2, if_pos (by omega)]
      · rw [if_neg z2, if_neg (by omega)]
theorem ze_68 {post : SX → Prop} {j : Nat} {cp1 : Nat → Int32} (hcc : cc ≤ 32) (h1 : 1 ≤ cc) (h : ∀ ct' cp', zf_ct j (cc - 1) ct ct' → zf_cp j ((cc - 1) * 16) cp1 cp' → post (zx_S P G tm en sg di (cc - 1) fc lv ct' cp' po fp)) : ∀ m n c ct' cp', c + m = cc - 1 → j ≤ c → m < n → zf_ct j c ct ct' → zf_cp j (c * 16) cp1 cp' → zxw_merge_68 post n (nI c) (zx_S P G tm en sg di cc fc lv ct' cp' po fp) := by
  have e1 : nI cc - 1 = nI (cc - 1) := by
    obtain ⟨m, rfl⟩ : ∃ m, cc = m + 1 := ⟨cc - 1, by omega⟩
    exact nI_pred m
  intro m
  induction m with
  | zero =>
    intro n c ct' cp' hc hj hn hf hg
    obtain ⟨n, rfl⟩ : ∃ n', n = n' + 1 := ⟨n - 1, by omega⟩
    obtain rfl : c = cc - 1 := by omega
    exact pk_le (cc - 1) (cc - 1) (fun _ => nm_r e1 (h ct' cp' hf hg)) (fun q => absurd q (by omega)) e1
  | succ m ih =>
    intro n c ct' cp' hc hj hn hf hg
    obtain ⟨n, rfl⟩ : ∃ n', n = n' + 1 := ⟨n - 1, by omega⟩
    refine pk_le (cc - 1) c (fun q => absurd q (by omega)) (fun q => ?_) e1
    have e2 : (nI c + 1).toNatClampNeg = c + 1 := by rw [nI_1]; exact nI_clamp (by omega)
    refine And.intro (by rw [nI_1]; exact vp_in_nI (by omega) (by omega)) (And.intro (vp_in_nI (by omega) (by omega)) (nm_r (e' := upd ct' c (ct' (c + 1))) (by rw [e2, nI_clamp (by omega)]) ⟨17, ?_⟩))
    refine ze_94 hcc (by omega) hj (fun cp2 h2 => ih n (c + 1) _ cp2 (by omega) (by omega) (by omega) (fun q => ?_) h2) 16 17 0 cp' rfl (by omega) hg
    by_cases z : q = c
    · subst z
      rw [pk_us, hf, if_neg (by omega), if_pos (by omega)]
    · rw [pk_un z, hf]
      by_cases z2 : j ≤ q ∧ q < c
      · rw [if_pos z2, if_pos (by omega)]
      · rw [if_neg z2, if_neg (by omega)]
def zf_T (k : Nat) (T : Nat → Nat) (c : Nat) : Nat := if c ≤ k then T c else T (c + 1)
theorem ze_St {k : Nat} {cp1 ct' cp' : Nat → Int32} (hT : zs_T T cc ct) (hg : zs_Pgs P T cc cp po) (hk : k + 1 + 1 < cc) (hI : ze_I P T k 16 cp cp1 po) (hU : zs_Uq (ze_A cc k 16) cp1 fp fc) (h1 : zf_ct (k + 1) (cc - 1) ct ct') (h2 : zf_cp (k + 1) ((cc - 1) * 16) cp1 cp') : zs_St P (zf_T k T) (cc - 1) fc ct' cp' po fp := by
  have hcc := hT.2.1
  refine ⟨⟨by omega, by omega, hT.2.2.1, fun c hc => ?_, fun c hc => ?_⟩, fun c p hc hp => ?_, ?_⟩
  · unfold zf_T
    rw [h1 c]
    by_cases q : c ≤ k
    · rw [if_neg (by omega), if_pos q]; exact hT.2.2.2.1 c (by omega)
    · rw [if_pos (by omega), if_neg q]; exact hT.2.2.2.1 (c + 1) (by omega)
  · unfold zf_T
    have a1 := hT.2.2.2.2 c (by omega)
    have a2 := hT.2.2.2.2 (c + 1) (by omega)
    by_cases q : c ≤ k
    · rw [if_pos q]
      by_cases q2 : c + 1 ≤ k
      · rw [if_pos q2]; exact a1
      · rw [if_neg q2]; omega
    · rw [if_neg q, if_neg (by omega)]; exact a2
  · unfold zf_T
    rw [h2]
    by_cases q : c + 1 ≤ k
    · rw [if_pos (by omega), if_pos q, if_neg (by omega), hI.1 _ (by omega)]
      exact hg c p (by omega) hp
    · by_cases q2 : c = k
      · subst q2
        rw [if_pos (Nat.le_refl _), if_neg (by omega), if_pos (by omega), show (c + 1) * 16 + p + 16 = (c + 1 + 1) * 16 + p by omega]
        exact hI.2 p hp
      · rw [if_neg (by omega), if_neg (by omega), if_pos (by omega), hI.1 _ (by omega), show (c + 1) * 16 + p + 16 = (c + 1 + 1) * 16 + p by omega]
        exact hg (c + 1) p (by omega) hp
  · refine zs_Umap (fun q => if q < (k + 1) * 16 then q else q + 16) hU (fun q hq => ?_) (fun q q' hq hq' e => ?_)
    · unfold zs_A at hq
      rw [h2 q]
      by_cases z : q < (k + 1) * 16
      · rw [if_pos z, if_neg (by omega)]
        refine ⟨?_, rfl⟩
        unfold ze_A zs_A
        omega
      · rw [if_neg z, if_pos (by omega)]
        refine ⟨?_, rfl⟩
        unfold ze_A zs_A
        omega
    · split at e <;> split at e <;> omega
theorem ze_merge {post : SX → Prop} {j : Nat} (hS : zs_St P T cc fc ct cp po fp) (hj : 1 ≤ j) (hjc : j + 1 < cc) (h : ∀ T' fc' ct' cp' fp', zs_St P T' (cc - 1) fc' ct' cp' po fp' → T' (cc - 1 - 1) = T (cc - 1) → post (zx_S P G tm en sg di (cc - 1) fc' lv ct' cp' po fp')) : wpX_merge post (zx_S P G tm en sg di cc fc lv ct cp po fp) (nI j) := by
  obtain ⟨hT, hg, hU⟩ := hS
  obtain ⟨k, rfl⟩ : ∃ k, j = k + 1 := ⟨j - 1, by omega⟩
  have hcc := hT.2.1
  refine ⟨17, ze_m2 hT hg hjc (fun cp1 fc' fp' hI hU' => ⟨33, ?_⟩) 16 17 0 cp fc fp rfl (by omega) ⟨fun q _ => rfl, fun p' hp' => absurd hp' (by omega)⟩ (zs_Umono hU (fun q hq => hq.1))⟩
  refine ze_68 (j := k + 1) (cp1 := cp1) hcc (by omega) (fun ct' cp' h1 h2 => h _ fc' ct' cp' fp' (ze_St hT hg hjc hI hU' h1 h2) ?_) (cc - 1 - (k + 1)) 33 (k + 1) ct cp1 (by omega) (Nat.le_refl _) (by omega) (fun q => (if_neg (by omega)).symm) (fun q => (if_neg (by omega)).symm)
  unfold zf_T
  rw [if_neg (by omega)]
  exact congrArg T (by omega)
theorem ze_26 {post : SX → Prop} {J : Int32 → Int32 → Int32 → Int32 → Int32 → Int32 → Int32 → Int32 → Int32 → Int32 → Int32 → Int32 → Int32 → Int32 → Int32 → Int32 → Int32 → Int32 → Int32 → Int32 → Int32 → Int32 → Int32 → Int32 → Int32 → Int32 → Int32 → Int32 → Int32 → Int32 → Int32 → (Nat → Int32) → (Nat → Int32) → (Nat → Int32) → (Nat → Int32) → (Nat → Int32) → (Nat → Int32) → (Nat → Int32) → (Nat → Int32) → (Nat → Int32) → (Nat → Int32) → (Nat → Int32) → (Nat → Int32) → Prop} {i : Nat} {x1 : Int32} (hS : zs_St P T cc fc ct cp po fp) (hc : ∀ T' cc' fc' ct' cp' fp', zs_St P T' cc' fc' ct' cp' po fp' → T' (cc' - 1) = T (cc - 1) → zx_J (J (nI (i + 1))) (zx_S P G tm en sg di cc' fc' lv ct' cp' po fp')) (hs : post (zx_S P G tm en sg di cc fc lv ct cp po fp)) : zxw_makeRoom_26 post J x1 (nI i) (zx_S P G tm en sg di cc fc lv ct cp po fp) := by
  unfold zxw_makeRoom_26 wX_makeRoom_26
  have hcc := hS.1.2.1
  refine ze_cv hcc hS.1.1 (fun j hj => ?_)
  refine pk_eq j 0 (fun q => hs) (fun q => ?_)
  exact ze_merge hS (by omega) (by omega) (fun T' fc' ct' cp' fp' hS' hT' => nm_r (nI_1 i) (hc T' (cc - 1) fc' ct' cp' fp' hS' hT'))
theorem ze_mr2 {post : SX → Prop} {tl : Nat} {x1 : Int32} (h : ∀ T' cc' fc' ct' cp' fp', zs_St P T' cc' fc' ct' cp' po fp' → T' (cc' - 1) = tl → post (zx_S P G tm en sg di cc' fc' lv ct' cp' po fp')) : ∀ m n i T cc fc ct cp fp, i + m = 32 → m < n → zs_St P T cc fc ct cp po fp → T (cc - 1) = tl → zxw_makeRoom_2 post x1 n (nI i) (zx_S P G tm en sg di cc fc lv ct cp po fp) := by
  intro m
  induction m with
  | zero =>
    intro n i T cc fc ct cp fp hi hn hS hl
    obtain ⟨n, rfl⟩ : ∃ n', n = n' + 1 := ⟨n - 1, by omega⟩
    obtain rfl : i = 32 := by omega
    exact br_t (by decide) (h T cc fc ct cp fp hS hl)
  | succ m ih =>
    intro n i T cc fc ct cp fp hi hn hS hl
    obtain ⟨n, rfl⟩ : ∃ n', n = n' + 1 := ⟨n - 1, by omega⟩
    have k26 : zxw_makeRoom_26 post (wX_makeRoom_2 post x1 n) x1 (nI i) (zx_S P G tm en sg di cc fc lv ct cp po fp) :=
      ze_26 hS (fun T' cc' fc' ct' cp' fp' hS' hT' => ih n (i + 1) T' cc' fc' ct' cp' fp' (by omega) (by omega) hS' (hT'.trans hl)) (h T cc fc ct cp fp hS hl)
    exact br_f (nI_ge (b := 32) (by omega) (by omega)) (br_c (fun _ => k26) (fun _ => br_c (fun _ => k26) (fun _ => h T cc fc ct cp fp hS hl)))
theorem ze_mr {post : SX → Prop} {x1 : Int32} (hS : zs_St P T cc fc ct cp po fp) (h : ∀ T' cc' fc' ct' cp' fp', zs_St P T' cc' fc' ct' cp' po fp' → T' (cc' - 1) = T (cc - 1) → post (zx_S P G tm en sg di cc' fc' lv ct' cp' po fp')) : wpX_makeRoom post (zx_S P G tm en sg di cc fc lv ct cp po fp) x1 :=
  ⟨33, ze_mr2 h 32 33 0 T cc fc ct cp fp rfl (by omega) hS rfl⟩
end ZR
end
section
/-! X: takeCheckpoint, executeOne -/
theorem zt_bit {d : Int32} {p : Nat} (hp : p < 32) : ((d.toUInt32 >>> ((nI p).toUInt32 &&& Int32.toUInt32 31)).toInt32) &&& 1 = nI (if bt d p = true then 1 else 0) := by
  apply b_ext
  intro i hi
  rw [b_and, b_ushr p hp, zd_b1 i hi]
  by_cases e : i = 0
  · subst e
    rw [Nat.add_zero, decide_eq_true (rfl : 0 = 0), Bool.and_true]
    cases bt d p
    · rw [if_neg (by decide)]; decide
    · rw [if_pos rfl]; decide
  · rw [decide_eq_false e, Bool.and_false]
    cases bt d p
    · rw [if_neg (by decide)]; exact (b_0 i).symm
    · rw [if_pos rfl]
      have := zd_b1 i hi
      rw [decide_eq_false e] at this
      exact this.symm
def zt_cnt (d : Int32) : Nat → Nat
  | 0 => 0
  | n + 1 => zt_cnt d n + (if bt d n = true then 1 else 0)
theorem zt_cs (d : Int32) (n : Nat) : zt_cnt d (n + 1) = zt_cnt d n + (if bt d n = true then 1 else 0) := rfl
theorem zt_le (d : Int32) : ∀ n, zt_cnt d n ≤ n := by
  intro n
  induction n with
  | zero => exact Nat.le_refl _
  | succ n ih => rw [zt_cs]; split <;> omega
theorem zt_mono (d : Int32) (p : Nat) : ∀ m, zt_cnt d p ≤ zt_cnt d (p + m) := by
  intro m
  induction m with
  | zero => exact Nat.le_refl _
  | succ m ih => rw [show p + (m + 1) = (p + m) + 1 by omega, zt_cs]; omega
def zt_A (N q : Nat) : Prop := 16 ≤ q ∧ q < N
theorem zs_Uneg {N fc : Nat} {cp fp : Nat → Int32} (h : zs_Uq (zt_A N) cp fp fc) : zs_Uq (zt_A (N + 1)) (upd cp N (-1)) fp fc := by
  obtain ⟨h1, h2, h3, h4, h5⟩ := h
  have hin : ∀ q, zt_A (N + 1) q → q ≠ N → zt_A N q := by
    intro q hq hne
    unfold zt_A at hq ⊢
    omega
  refine ⟨h1, h2, h3, fun i q hi hq => ?_, fun q q' hq hq' hz e => ?_⟩
  · by_cases z : q = N
    · subst z
      rw [pk_us]
      obtain ⟨r, hr, er⟩ := h2 i hi
      rw [er]
      intro e
      exact absurd zc_m1 (by rw [← e]; exact nI_pos (by omega))
    · rw [pk_un z]; exact h4 i q hi (hin q hq z)
  · have n1 : q ≠ N := by
      intro z
      subst z
      rw [pk_us] at hz
      exact absurd hz (by decide)
    have n2 : q' ≠ N := by
      intro z
      subst z
      rw [e, pk_us] at hz
      exact absurd hz (by decide)
    rw [pk_un n1] at hz e
    rw [pk_un n2] at e
    exact h5 q q' (hin q hq n1) (hin q' hq' n2) hz e
theorem zs_Upop {N fc r : Nat} {cp fp : Nat → Int32} (h : zs_Uq (zt_A N) cp fp fc) (hf : 0 < fc) (hr : r < 192) (er : fp (fc - 1) = nI r) : zs_Uq (zt_A (N + 1)) (upd cp N (nI r)) fp (fc - 1) := by
  obtain ⟨h1, h2, h3, h4, h5⟩ := h
  have hin : ∀ q, zt_A (N + 1) q → q ≠ N → zt_A N q := by
    intro q hq hne
    unfold zt_A at hq ⊢
    omega
  refine ⟨by omega, fun i hi => h2 i (by omega), fun i j hi hj => h3 i j (by omega) (by omega), fun i q hi hq => ?_, fun q q' hq hq' hz e => ?_⟩
  · by_cases z : q = N
    · subst z
      rw [pk_us, ← er]
      intro e
      have := h3 i (fc - 1) (by omega) (by omega) e
      omega
    · rw [pk_un z]; exact h4 i q (by omega) (hin q hq z)
  · by_cases n1 : q = N
    · by_cases n2 : q' = N
      · rw [n1, n2]
      · subst n1
        rw [pk_us, pk_un n2, ← er] at e
        exact absurd e (h4 (fc - 1) q' (by omega) (hin q' hq' n2))
    · by_cases n2 : q' = N
      · subst n2
        rw [pk_us, pk_un n1, ← er] at e
        exact absurd e.symm (h4 (fc - 1) q (by omega) (hin q hq n1))
      · rw [pk_un n1] at hz e
        rw [pk_un n2] at e
        exact h5 q q' (hin q hq n1) (hin q' hq' n2) hz e
def zt_Pq (P : zp_P) (T : Nat → Nat) (N : Nat) (cp po : Nat → Int32) : Prop := ∀ q, 16 ≤ q → q < N → zu_Pg (mp_tr P) po (T (q / 16 - 1)) (T (q / 16)) (q % 16) (cp q)
section ZS
variable {P : zp_P} {G : zg_G} {tm en sg cc fc : Nat} {di : Int32} {lv ct cp po fp : Nat → Int32} {T : Nat → Nat}
theorem zt_22 {post : Int32 → SX → Prop} {p r : Nat} (hp : p < 16) (hr : r < 192) (h : ∀ po', (∀ q, po' q = if r * 8 ≤ q ∧ q < r * 8 + 8 then lv (p * 8 + (q - r * 8)) else po q) → post (nI r) (zx_S P G tm en sg di cc fc lv ct cp po' fp)) : ∀ m n i po', i + m = 8 → m < n → (∀ q, po' q = if r * 8 ≤ q ∧ q < r * 8 + i then lv (p * 8 + (q - r * 8)) else po q) → zxw_storePage_22 post (nI p) (nI r) n (nI i) (zx_S P G tm en sg di cc fc lv ct cp po' fp) := by
  intro m
  induction m with
  | zero =>
    intro n i po' hi hn hf
    obtain ⟨n, rfl⟩ : ∃ n', n = n' + 1 := ⟨n - 1, by omega⟩
    obtain rfl : i = 8 := by omega
    exact br_t (by decide) (h po' hf)
  | succ m ih =>
    intro n i po' hi hn hf
    obtain ⟨n, rfl⟩ : ∃ n', n = n' + 1 := ⟨n - 1, by omega⟩
    have e1 : nI p * 8 + nI i = nI (p * 8 + i) := zc_x8 p i
    have e2 : nI r * 8 + nI i = nI (r * 8 + i) := zc_x8 r i
    refine br_f (nI_ge (b := 8) (by omega) (by omega)) (And.intro (by rw [e1]; exact vp_in_nI (by omega) (by omega)) (And.intro (by rw [e2]; exact vp_in_nI (by omega) (by omega)) (nm_r (e' := upd po' (r * 8 + i) (lv (p * 8 + i))) (by rw [e1, e2, nI_clamp (by omega), nI_clamp (by omega)]) (nm_r (nI_1 i) (ih n (i + 1) _ (by omega) (by omega) (fun q => ?_))))))
    by_cases z : q = r * 8 + i
    · subst z
      rw [pk_us, if_pos (by omega)]
      exact congrArg lv (by omega)
    · rw [pk_un z, hf]
      by_cases z2 : r * 8 ≤ q ∧ q < r * 8 + i
      · rw [if_pos z2, if_pos (by omega)]
      · rw [if_neg z2, if_neg (by omega)]
theorem zt_sp {post : Int32 → SX → Prop} {A : Nat → Prop} {p : Nat} (hp : p < 16) (hU : zs_Uq A cp fp fc) (hf : 0 < fc) (h : ∀ r po', r < 192 → fp (fc - 1) = nI r → (∀ i, i < 8 → po' (r * 8 + i) = lv (p * 8 + i)) → (∀ q, ¬ (r * 8 ≤ q ∧ q < r * 8 + 8) → po' q = po q) → post (nI r) (zx_S P G tm en sg di cc (fc - 1) lv ct cp po' fp)) : wpX_storePage post (zx_S P G tm en sg di cc fc lv ct cp po fp) (nI p) := by
  have hf2 := hU.1
  have e1 : nI fc - 1 = nI (fc - 1) := by
    obtain ⟨m, rfl⟩ : ∃ m, fc = m + 1 := ⟨fc - 1, by omega⟩
    exact nI_pred m
  obtain ⟨r, hr, er⟩ := hU.2.1 (fc - 1) (by omega)
  refine nm_r e1 (And.intro (vp_in_nI (by omega) (by omega)) (nm_r (e' := nI r) (by rw [nI_clamp (by omega)]; exact er) ⟨9, ?_⟩))
  refine zt_22 (lv := lv) (po := po) hp hr (fun po' hf' => h r po' hr er (fun i hi => ?_) (fun q hq => ?_)) 8 9 0 po rfl (by omega) (fun q => (if_neg (by omega)).symm)
  · rw [hf', if_pos (by omega)]; exact congrArg lv (by omega)
  · rw [hf', if_neg hq]
theorem zt_77 {post : SX → Prop} {sl : Nat} (h1 : 1 ≤ sl) (hs : sl < 32) (hT : T sl = tm) (hun : ∀ p, p < 16 → bt di p = false → zu_Unt (mp_tr P) (T (sl - 1)) tm p) (h : ∀ fc' cp' po', zt_Pq P T ((sl + 1) * 16) cp' po' → zs_Uq (zt_A ((sl + 1) * 16)) cp' fp fc' → post (zx_S P G tm en sl 0 (sl + 1) fc' (mp_tr P tm) ct cp' po' fp)) : ∀ m n p fc cp po, p + m = 16 → m < n → zt_Pq P T (sl * 16 + p) cp po → zs_Uq (zt_A (sl * 16 + p)) cp fp fc → zt_cnt di 16 ≤ fc + zt_cnt di p → zxw_takeCheckpoint_77 post (nI sl) n (nI p) (zx_S P G tm en sg di sl fc (mp_tr P tm) ct cp po fp) := by
  intro m
  induction m with
  | zero =>
    intro n p fc cp po hp hn hq hU hc
    obtain ⟨n, rfl⟩ : ∃ n', n = n' + 1 := ⟨n - 1, by omega⟩
    obtain rfl : p = 16 := by omega
    rw [show sl * 16 + 16 = (sl + 1) * 16 by omega] at hq hU
    exact br_t (by decide) (nm_r (nI_1 sl) (h fc cp po hq hU))
  | succ m ih =>
    intro n p fc cp po hp hn hq hU hc
    obtain ⟨n, rfl⟩ : ∃ n', n = n' + 1 := ⟨n - 1, by omega⟩
    have e1 : nI sl * 16 + nI p = nI (sl * 16 + p) := zc_x16 sl p
    have hi : vp_in (nI sl * 16 + nI p) 512 := by rw [e1]; exact vp_in_nI (by omega) (by omega)
    have ed : (sl * 16 + p) / 16 = sl := by omega
    have em : (sl * 16 + p) % 16 = p := by omega
    refine br_f (nI_ge (b := 16) (by omega) (by omega)) ?_
    rw [zt_bit (by omega)]
    have hcs := zt_cs di p
    cases hb : bt di p with
    | false =>
      rw [hb, if_neg (by decide)] at hcs
      refine br_t (by rw [if_neg (by decide)]; rfl) (And.intro hi (nm_r (e' := upd cp (sl * 16 + p) (-1)) (by rw [e1, nI_clamp (by omega)]) (nm_r (nI_1 p) (ih n (p + 1) fc _ po (by omega) (by omega) (fun q hq1 hq2 => ?_) (zs_Uneg hU) (by omega)))))
      by_cases z : q = sl * 16 + p
      · subst z
        rw [pk_us, ed, em, hT]
        exact Or.inl ⟨zc_m1, hun p (by omega) hb⟩
      · rw [pk_un z]; exact hq q hq1 (by omega)
    | true =>
      rw [hb, if_pos rfl] at hcs
      have hmo := zt_mono di (p + 1) (15 - p)
      rw [show p + 1 + (15 - p) = 16 by omega] at hmo
      refine br_f (by rw [if_pos rfl]; decide) (zt_sp (by omega) hU (by omega) (fun r po' hr er hv ho => ?_))
      refine And.intro hi (nm_r (e' := upd cp (sl * 16 + p) (nI r)) (by rw [e1, nI_clamp (by omega)]) (nm_r (nI_1 p) (ih n (p + 1) (fc - 1) _ po' (by omega) (by omega) (fun q hq1 hq2 => ?_) (zs_Upop hU (by omega) hr er) (by omega))))
      by_cases z : q = sl * 16 + p
      · subst z
        rw [pk_us, ed, em, hT]
        exact Or.inr ⟨r, hr, rfl, hv⟩
      · rw [pk_un z]
        rcases hq q hq1 (by omega) with y | ⟨r', hr', er', hv'⟩
        · exact Or.inl y
        · refine Or.inr ⟨r', hr', er', fun i hi => ?_⟩
          have hne : r' ≠ r := by
            intro e
            subst e
            exact hU.2.2.2.1 (fc - 1) q (by omega) ⟨hq1, by omega⟩ (er.trans er'.symm)
          rw [ho _ (by omega)]; exact hv' i hi
theorem zt_4 {post : SX → Prop} (K : ∀ n, zxw_takeCheckpoint_4 post (n + 1) (nI (zt_cnt di 16)) (nI 16) (zx_S P G tm en sg di cc fc lv ct cp po fp)) : ∀ m n p, p + m = 16 → m < n → zxw_takeCheckpoint_4 post n (nI (zt_cnt di p)) (nI p) (zx_S P G tm en sg di cc fc lv ct cp po fp) := by
  intro m
  induction m with
  | zero =>
    intro n p hp hn
    obtain ⟨n, rfl⟩ : ∃ n', n = n' + 1 := ⟨n - 1, by omega⟩
    obtain rfl : p = 16 := by omega
    exact K n
  | succ m ih =>
    intro n p hp hn
    obtain ⟨n, rfl⟩ : ∃ n', n = n' + 1 := ⟨n - 1, by omega⟩
    exact br_f (nI_ge (b := 16) (by omega) (by omega)) (nm_r (e' := nI (zt_cnt di (p + 1))) (by rw [zt_bit (by omega), nI_add, zt_cs]) (nm_r (nI_1 p) (ih n (p + 1) (by omega) (by omega))))
def zt_T (T : Nat → Nat) (sl tm c : Nat) : Nat := if c = sl then tm else T c
theorem zt_take {post : SX → Prop} (hS : zs_St P T cc fc ct cp po fp) (hp : zu_Pos P T cc tm sg di) (hsg : sg = cc - 1) (hlt : T sg < tm) (htm : tm ≤ 1000) (h : ∀ T' cc' fc' ct' cp' po' fp' sg' di', zs_St P T' cc' fc' ct' cp' po' fp' → T' (cc' - 1) ≤ tm → zu_Pos P T' cc' tm sg' di' → post (zx_S P G tm en sg' di' cc' fc' (mp_tr P tm) ct' cp' po' fp')) : wpX_takeCheckpoint post (zx_S P G tm en sg di cc fc (mp_tr P tm) ct cp po fp) := by
  refine ⟨17, zt_4 (fun n => ?_) 16 17 0 rfl (by omega)⟩
  have hn16 := zt_le di 16
  refine br_t (by decide) (ze_mr hS (fun T' cc' fc' ct' cp' fp' hS' hl => ?_))
  obtain ⟨hT', hg', hU'⟩ := hS'
  have hc1 := hT'.1
  have hc2 := hT'.2.1
  have hf := hU'.1
  have e1 : nI cc' - 1 = nI (cc' - 1) := by
    obtain ⟨m, rfl⟩ : ∃ m, cc' = m + 1 := ⟨cc' - 1, by omega⟩
    exact nI_pred m
  have hlT : T' (cc' - 1) = T sg := by rw [hl, hsg]
  have hpo : zu_Pos P T' cc' tm (cc' - 1) di := ⟨by omega, by omega, fun z => absurd z (by omega), fun p hp16 hb => by rw [hlT]; exact hp.2.2.2 p hp16 hb⟩
  have stop : post (zx_S P G tm en (cc' - 1) di cc' fc' (mp_tr P tm) ct' cp' po fp') := h T' cc' fc' ct' cp' po fp' (cc' - 1) di ⟨hT', hg', hU'⟩ (by omega) hpo
  refine nm_r e1 (br_c (fun _ => stop) (fun z => pk_le (zt_cnt di 16) fc' (fun q => ?_) (fun _ => stop)))
  have hc3 : cc' < 32 := by
    rcases Nat.lt_or_ge cc' 32 with y | y
    · exact y
    · exact absurd (nI_le y (by omega)) z
  refine And.intro (vp_in_nI hc3 (by omega)) (nm_r (e' := upd ct' cc' (nI tm)) (by rw [nI_clamp (by omega)]) ⟨17, ?_⟩)
  have tn : ∀ c, c ≠ cc' → zt_T T' cc' tm c = T' c := fun c hc => if_neg hc
  have ts : zt_T T' cc' tm cc' = tm := if_pos rfl
  refine zt_77 (T := zt_T T' cc' tm) (sl := cc') hc1 hc3 ts (fun p hp16 hb => ?_) (fun fc2 cp2 po2 hq2 hU2 => ?_) 16 17 0 fc' cp' po rfl (by omega) (fun q hq1 hq2 => ?_) (zs_Umono hU' (fun q hq => ?_)) (by show _ ≤ fc' + 0; omega)
  · rw [tn _ (by omega), hlT]; exact hp.2.2.2 p hp16 hb
  · refine h (zt_T T' cc' tm) (cc' + 1) fc2 (upd ct' cc' (nI tm)) cp2 po2 fp' cc' 0 ⟨⟨by omega, by omega, ?_, fun c hc => ?_, fun c hc => ?_⟩, fun c p hc hp16 => ?_, zs_Umono hU2 (fun q hq => hq)⟩ ?_ ?_
    · rw [tn 0 (by omega)]; exact hT'.2.2.1
    · by_cases y : c = cc'
      · subst y; rw [pk_us, ts]; exact ⟨rfl, htm⟩
      · rw [pk_un y, tn c y]; exact hT'.2.2.2.1 c (by omega)
    · rw [tn c (by omega)]
      by_cases y : c + 1 = cc'
      · rw [y, ts, show c = cc' - 1 by omega, hlT]; exact hlt
      · rw [tn _ y]; exact hT'.2.2.2.2 c (by omega)
    · have := hq2 ((c + 1) * 16 + p) (by omega) (by omega)
      rw [show ((c + 1) * 16 + p) / 16 = c + 1 by omega, show ((c + 1) * 16 + p) % 16 = p by omega] at this
      exact this
    · rw [show cc' + 1 - 1 = cc' by omega, ts]; exact Nat.le_refl _
    · exact ⟨by omega, by rw [ts]; exact Nat.le_refl _, fun y => absurd y (by omega), fun p _ _ => by rw [ts]; exact zu_refl⟩
  · rw [tn _ (by omega), tn _ (by omega)]
    have := hg' (q / 16 - 1) (q % 16) (by omega) (by omega)
    rw [show (q / 16 - 1 + 1) * 16 + q % 16 = q by omega, show q / 16 - 1 + 1 = q / 16 by omega] at this
    exact this
  · exact hq
theorem zt_exec {post : SX → Prop} (hP : zp_ok P) (hS : zs_St P T cc fc ct cp po fp) (hp : zu_Pos P T cc tm sg di) (hl : T (cc - 1) ≤ en) (htm : tm < 1000) (hte : tm ≤ en) (hen : en ≤ 1000) (h : ∀ T' cc' fc' ct' cp' po' fp' sg' di', zs_St P T' cc' fc' ct' cp' po' fp' → T' (cc' - 1) ≤ max en (tm + 1) → zu_Pos P T' cc' (tm + 1) sg' di' → post (zx_S P G (tm + 1) (max en (tm + 1)) sg' di' cc' fc' (mp_tr P (tm + 1)) ct' cp' po' fp')) : wpX_executeOne post (zx_S P G tm en sg di cc fc (mp_tr P tm) ct cp po fp) := by
  unfold wpX_executeOne
  refine za_adv hP hS.1 hp (by omega) (fun sg' di' hp' => ?_)
  have hcc := hS.1.2.1
  refine pk_le (tm + 1) en (fun q => ?_) (fun q => ?_)
  · have em : max en (tm + 1) = en := by omega
    rw [em] at h
    exact h T cc fc ct cp po fp sg' di' hS hl hp'
  · have em : max en (tm + 1) = tm + 1 := by omega
    rw [em] at h
    have hs1 := hp'.1
    have hs2 := hp'.2.1
    obtain ⟨ec, hb⟩ := hS.1.2.2.2.1 sg' hs1
    have ec2 : ct (nI sg').toNatClampNeg = nI (T sg') := by rw [nI_clamp (by omega)]; exact ec
    refine And.intro (vp_in_nI (by omega) (by omega)) (pk_lt (tm + 1 - T sg') 8 (fun q2 => ?_) (fun q2 => ?_) (by rw [ec2, pk_sub hs2]))
    · exact h T cc fc ct cp po fp sg' di' hS (by omega) hp'
    · have hsg : sg' = cc - 1 := by
        rcases Nat.lt_or_ge (sg' + 1) cc with y | y
        · have a1 := hp'.2.2.1 y
          have a2 := zs_mono hS.1 (cc - 1) (sg' + 1) (by omega) (by omega)
          omega
        · omega
      exact zt_take hS hp' hsg (by omega) (by omega) (fun T' cc' fc' ct' cp' po' fp' sg2 di2 hS' hl' hp2 => h T' cc' fc' ct' cp' po' fp' sg2 di2 hS' hl' hp2)
end ZS
end
section
/-! the relation; other inputs, the same history -/
def zz_us (P : zp_P) (x : Int32) : Prop := ∃ q, q ≤ zp_ic P ∧ x = nI q
/-- X's side: sizes, breaks, store, position; the history up to en -/
def zz_X (P : zp_P) (G : zg_G) (T : Nat → Nat) (tm en sg cc fc : Nat) (di : Int32) (ct cp po fp : Nat → Int32) : Prop := zp_ok P ∧ zg_ok P G ∧ zs_St P T cc fc ct cp po fp ∧ zu_Pos P T cc tm sg di ∧ T (cc - 1) ≤ en ∧ tm ≤ en ∧ en ≤ zp_hz P ∧ (∀ t, t < en → mp_tr P t 0 = 0) ∧ ∀ t, t ≤ en → zz_us P (mp_tr P t 4)
/-- Y's side: the rows up to en -/
def zz_Y (P : zp_P) (en : Nat) (h : Nat → Int32) : Prop := ∀ t, t ≤ en → zr_row h t (mp_tr P t)
def i_Rel (_k : Nat) (u : SX) (v : SY) : Prop := ∃ (P : zp_P) (G : zg_G) (T : Nat → Nat) (tm en sg cc fc : Nat) (di : Int32) (ct cp po fp h : Nat → Int32), zz_X P G T tm en sg cc fc di ct cp po fp ∧ zz_Y P en h ∧ u = (zx_S P G tm en sg di cc fc (mp_tr P tm) ct cp po fp) ∧ v = (zy_S P G tm en h)
theorem i_up {k : Nat} {u : SX} {v : SY} (h : i_Rel k u v) : i_Rel (k + 5) u v := h
theorem zz_el {k : Nat} {Q : SX → SY → Prop} {u : SX} {v : SY} (h : ∀ (P : zp_P) (G : zg_G) (T : Nat → Nat) (tm en sg cc fc : Nat) (di : Int32) (ct cp po fp h : Nat → Int32), zz_X P G T tm en sg cc fc di ct cp po fp → zz_Y P en h → Q (zx_S P G tm en sg di cc fc (mp_tr P tm) ct cp po fp) (zy_S P G tm en h)) (I : i_Rel k u v) : Q u v := by
  obtain ⟨P, G, T, tm, en, sg, cc, fc, di, ct, cp, po, fp, hh, hX, hY, eu, ev⟩ := I
  rw [eu, ev]
  exact h P G T tm en sg cc fc di ct cp po fp hh hX hY
section ZT
variable {P : zp_P} {G : zg_G} {tm en sg cc fc : Nat} {di : Int32} {lv ct cp po fp h : Nat → Int32} {T : Nat → Nat}
theorem zz_in {k : Nat} (hX : zz_X P G T tm en sg cc fc di ct cp po fp) (hY : zz_Y P en h) : i_Rel k (zx_S P G tm en sg di cc fc (mp_tr P tm) ct cp po fp) (zy_S P G tm en h) := ⟨P, G, T, tm, en, sg, cc, fc, di, ct, cp, po, fp, h, hX, hY, rfl, rfl⟩
theorem zz_le (hX : zz_X P G T tm en sg cc fc di ct cp po fp) : en ≤ 1000 ∧ tm ≤ 1000 ∧ tm ≤ en := by
  have h1 := hX.1.2.2.2.2.2.2.2.1
  have h2 := hX.2.2.2.2.2.1
  have h3 := hX.2.2.2.2.2.2.1
  omega
/-- the same with another position -/
theorem zz_mv (hX : zz_X P G T tm en sg cc fc di ct cp po fp) {tm' sg' : Nat} {di' : Int32} (ht : tm' ≤ en) (hp : zu_Pos P T cc tm' sg' di') : zz_X P G T tm' en sg' cc fc di' ct cp po fp := by
  obtain ⟨a1, a2, a3, a4, a5, a6, a7, a8, a9⟩ := hX
  exact ⟨a1, a2, a3, hp, a5, ht, a7, a8, a9⟩
theorem zz_isin {l : Nat → Int32} (h : mp_isin P l) : mp_st P l 4 = l 4 + 1 := by
  obtain ⟨hb, zf, hk⟩ := h
  have er : mp_r P (mp_0 l) = (1, mp_0 l 1 + 1) :: mp_L (mp_k P (mp_0 l)) (zl_D (mp_0 l)) (zl_F (mp_0 l)) (zl_O (mp_0 l)) (mp_0 l) (mp_a P (mp_0 l)) (mp_0 l 1) (mp_inp P (mp_0 l 4)) := (if_neg hb).trans (if_pos zf)
  show mp_ap (mp_0 l) (mp_r P (mp_0 l)) 4 = l 4 + 1
  rw [er, hk]
  simp only [mp_L, mp_ap, pk_us]
  rfl
theorem zz_used (hP : zp_ok P) : ∀ d t q, mp_tr P t 4 = nI q → ∃ q', q ≤ q' ∧ q' ≤ q + d ∧ mp_tr P (t + d) 4 = nI q' := by
  intro d
  induction d with
  | zero => intro t q e; exact ⟨q, Nat.le_refl _, Nat.le_refl _, e⟩
  | succ d ih =>
    intro t q e
    obtain ⟨q', h1, h2, e2⟩ := ih t q e
    rcases (mp_stV hP (mp_wft hP (t + d))).2.2.2 with z | ⟨_, z⟩
    · exact ⟨q', h1, by omega, z.trans e2⟩
    · refine ⟨q' + 1, by omega, by omega, ?_⟩
      show mp_st P (mp_tr P (t + d)) 4 = nI (q' + 1)
      rw [z, e2, nI_1]
theorem zz_inp {n q : Nat} {f : Nat → Int32} (hn : n ≤ 32) (hq : q < n) : mp_inp (zp_si P n f) (nI q) = f q := by
  show (if nI q < 0 then 0 else if nI q < nI n then f (nI q).toNatClampNeg else 0) = f q
  rw [if_neg (nI_pos (by omega)), if_pos (nI_lt hq (by omega)), nI_clamp (by omega)]
theorem zz_inp0 {q : Nat} (hP : zp_ok P) (hq : q < zp_ic P) : mp_inp P (nI q) = zp_in P q := by
  have := hP.2.2.2.2.2.2.2.2.2.1
  unfold mp_inp
  rw [if_neg (nI_pos (by omega)), if_pos (nI_lt hq (by omega)), nI_clamp (by omega)]
def zz_ub (B : Nat) (x : Int32) : Prop := ∃ q, q ≤ B ∧ x = nI q
theorem zz_ag {n E B : Nat} {f : Nat → Int32} (hP : zp_ok P) (h1 : B ≤ zp_ic P) (h2 : B ≤ n) (hn : n ≤ 32) (hf : ∀ i, i < B → f i = zp_in P i) (hu : ∀ t, t ≤ E → zz_ub B (mp_tr P t 4)) : ∀ t, t ≤ E → mp_tr (zp_si P n f) t = mp_tr P t := by
  intro t
  induction t with
  | zero => intro _; rfl
  | succ t ih =>
    intro ht
    show mp_st (zp_si P n f) (mp_tr (zp_si P n f) t) = mp_st P (mp_tr P t)
    rw [ih (by omega)]
    refine mp_st_si (fun hi => ?_)
    obtain ⟨q, hq, e⟩ := hu t (by omega)
    obtain ⟨q', hq', e'⟩ := hu (t + 1) ht
    have e2 : nI q' = nI (q + 1) := e'.symm.trans ((zz_isin hi).trans (by rw [e, nI_1]))
    have e3 := zc_inj e2 (by omega) (by omega)
    rw [e, zz_inp hn (by omega), zz_inp0 hP (by omega)]
    exact hf q (by omega)
theorem zz_Unt {P' : zp_P} {E a b p : Nat} (hag : ∀ t, t ≤ E → mp_tr P' t = mp_tr P t) (hb : b ≤ E) (h : zu_Unt (mp_tr P) a b p) : zu_Unt (mp_tr P') a b p := by
  intro u h1 h2
  rw [hag u (by omega), hag a (by omega)]
  exact h u h1 h2
theorem zz_Pg {P' : zp_P} {E a b p : Nat} {r : Int32} (hag : ∀ t, t ≤ E → mp_tr P' t = mp_tr P t) (hb : b ≤ E) (h : zu_Pg (mp_tr P) po a b p r) : zu_Pg (mp_tr P') po a b p r := by
  rcases h with ⟨z, hu⟩ | ⟨x, hx, e, hv⟩
  · exact Or.inl ⟨z, zz_Unt hag hb hu⟩
  · exact Or.inr ⟨x, hx, e, fun i hi => by rw [hag b hb]; exact hv i hi⟩
theorem zz_St {P' : zp_P} {E : Nat} (hag : ∀ t, t ≤ E → mp_tr P' t = mp_tr P t) (hb : T (cc - 1) ≤ E) (h : zs_St P T cc fc ct cp po fp) : zs_St P' T cc fc ct cp po fp := by
  refine ⟨h.1, fun c p hc hp => zz_Pg hag ?_ (h.2.1 c p hc hp), h.2.2⟩
  have := zs_mono h.1 (cc - 1) (c + 1) (by omega) (by omega)
  omega
theorem zz_Pos {P' : zp_P} {E : Nat} (hag : ∀ t, t ≤ E → mp_tr P' t = mp_tr P t) (hb : tm ≤ E) (h : zu_Pos P T cc tm sg di) : zu_Pos P' T cc tm sg di :=
  ⟨h.1, h.2.1, h.2.2.1, fun p hp hz => zz_Unt hag hb (h.2.2.2 p hp hz)⟩
theorem zz_Yag {P' : zp_P} {E : Nat} (hag : ∀ t, t ≤ E → mp_tr P' t = mp_tr P t) (hE : E ≤ en) (hY : zz_Y P en h) : zz_Y P' E h := by
  intro t ht
  rw [hag t ht]
  exact hY t (by omega)
theorem zz_oksi {n : Nat} {f : Nat → Int32} (hP : zp_ok P) (hn : n ≤ 32) : zp_ok (zp_si P n f) := by
  obtain ⟨a1, a2, a3, a4, a5, a6, a7, a8, a9, a10, a11⟩ := hP
  exact ⟨a1, a2, a3, a4, a5, a6, a7, a8, a9, hn, a11⟩
/-- other inputs: the history up to E (at most en) stays; the store as it is given -/
theorem zz_Xag {n E B cc' fc' : Nat} {f fp' : Nat → Int32} (hX : zz_X P G T tm en sg cc fc di ct cp po fp) (hE : E ≤ en) (ht : tm ≤ E) (hn : n ≤ 32) (h2 : B ≤ n) (hf : ∀ i, i < B → f i = zp_in P i) (h1 : B ≤ zp_ic P) (hu : ∀ t, t ≤ E → zz_ub B (mp_tr P t 4)) (hS : zs_St P T cc' fc' ct cp po fp') (hp : zu_Pos P T cc' tm sg di) (hl : T (cc' - 1) ≤ E) : zz_X (zp_si P n f) G T tm E sg cc' fc' di ct cp po fp' ∧ mp_tr (zp_si P n f) tm = mp_tr P tm ∧ (zz_Y P en h → zz_Y (zp_si P n f) E h) := by
  obtain ⟨a1, a2, a3, a4, a5, a6, a7, a8, a9⟩ := hX
  have hag := zz_ag a1 h1 h2 hn hf hu
  refine ⟨⟨zz_oksi a1 hn, a2, zz_St hag hl hS, zz_Pos hag ht hp, hl, ht, Nat.le_trans hE a7, fun t h => ?_, fun t h => ?_⟩, hag tm ht, fun hY => zz_Yag hag hE hY⟩
  · rw [hag t (by omega)]; exact a8 t (by omega)
  · rw [hag t h]
    obtain ⟨q, hq, e⟩ := hu t h
    exact ⟨q, Nat.le_trans hq h2, e⟩
end ZT
end
section
/-! the owed ones: program, inputs, breaks, watches -/
theorem i_vc_emit {k : Nat} {u : SX} {v : SY} (I : i_Rel k u v) (hk : k + 5 ≤ 2564) (v1 : Int32) (v2 : Int32) : wpX_emit (fun r u' => wpY_emit (fun r' v' => r' = r ∧ i_Rel (k + 5) u' v') v v1 v2) u v1 v2 := by
  refine zz_el (Q := fun u v => wpX_emit (fun r u' => wpY_emit (fun r' v' => r' = r ∧ i_Rel (k + 5) u' v') v v1 v2) u v1 v2) ?_ I
  intro P G T tm en sg cc fc di ct cp po fp h hX hY
  have same : i_Rel (k + 5) (zx_S P G tm en sg di cc fc (mp_tr P tm) ct cp po fp) (zy_S P G tm en h) := zz_in hX hY
  have hpl := hX.1.2.2.2.2.2.2.2.2.1
  have hle := zz_le hX
  refine br_c (fun z => br_t z ⟨rfl, same⟩) (fun z => br_c (fun z2 => ?_) (fun z2 => br_f z (br_f z2 ⟨rfl, same⟩)))
  refine pk_eq en 0 (fun q => ?_) (fun q => br_f z (br_t z2 (br_f (nI_ne0 (by omega) (by omega)) ⟨rfl, same⟩)))
  refine pk_lt (zp_pl P) 64 (fun q2 => ?_) (fun q2 => br_f z (br_t z2 (br_t (by rw [q]; rfl) (br_t (congrArg nI (show zp_pl P = 64 by omega)) ⟨rfl, same⟩))))
  have hi : vp_in (nI (zp_pl P)) 64 := vp_in_nI q2 (by omega)
  have ec : (nI (zp_pl P)).toNatClampNeg = zp_pl P := nI_clamp (by omega)
  refine And.intro hi (nm_r (e' := upd (zp_op P) (zp_pl P) v1) (by rw [ec]) (And.intro hi (nm_r (e' := upd (zp_od P) (zp_pl P) v2) (by rw [ec]) (nm_r (nI_1 (zp_pl P)) ?_))))
  refine br_f z (br_t z2 (br_t (by rw [q]; rfl) (br_f (fun e => ?_) ?_)))
  · have : zp_pl P = 64 := zc_inj e (by omega) (by omega)
    omega
  refine And.intro hi (nm_r (e' := upd (zp_op P) (zp_pl P) v1) (by rw [ec]) (And.intro hi (nm_r (e' := upd (zp_od P) (zp_pl P) v2) (by rw [ec]) (nm_r (nI_1 (zp_pl P)) ⟨rfl, ?_⟩))))
  obtain ⟨a1, a2, a3, a4, a5, a6, a7, a8, a9⟩ := hX
  subst q
  obtain rfl : tm = 0 := by omega
  have hag : ∀ t, t ≤ 0 → mp_tr (zp_ms P, zp_ss P, zp_fs P, zp_hz P, zp_pl P + 1, zp_ic P, upd (zp_op P) (zp_pl P) v1, upd (zp_od P) (zp_pl P) v2, zp_in P) t = mp_tr P t := by
    intro t ht
    obtain rfl : t = 0 := by omega
    rfl
  refine zz_in (P := (zp_ms P, zp_ss P, zp_fs P, zp_hz P, zp_pl P + 1, zp_ic P, upd (zp_op P) (zp_pl P) v1, upd (zp_od P) (zp_pl P) v2, zp_in P)) ⟨?_, a2, zz_St hag a5 a3, zz_Pos hag (Nat.le_refl _) a4, a5, Nat.le_refl _, Nat.zero_le _, fun t ht => absurd ht (by omega), fun t ht => ?_⟩ (zz_Yag hag (Nat.le_refl _) hY)
  · obtain ⟨b1, b2, b3, b4, b5, b6, b7, b8, b9, b10, b11⟩ := a1
    refine ⟨b1, b2, b3, b4, b5, b6, b7, b8, q2, b10, fun i hi => ?_⟩
    show ∃ k, k ≤ 18 ∧ upd (zp_op P) (zp_pl P) v1 i = nI k
    by_cases e : i = zp_pl P
    · subst e
      rw [pk_us]
      exact nI_of2 (M := 18) (n := 18) rfl z z2
    · rw [pk_un e]
      have hi' : i < zp_pl P + 1 := hi
      exact b11 i (by omega)
  · rw [hag t ht]; exact a9 t ht
theorem i_vc_feed {k : Nat} {u : SX} {v : SY} (I : i_Rel k u v) (hk : k + 5 ≤ 2564) (v1 : Int32) : wpX_feed (fun r u' => wpY_feed (fun r' v' => r' = r ∧ i_Rel (k + 5) u' v') v v1) u v1 := by
  refine zz_el (Q := fun u v => wpX_feed (fun r u' => wpY_feed (fun r' v' => r' = r ∧ i_Rel (k + 5) u' v') v v1) u v1) ?_ I
  intro P G T tm en sg cc fc di ct cp po fp h hX hY
  have same : i_Rel (k + 5) (zx_S P G tm en sg di cc fc (mp_tr P tm) ct cp po fp) (zy_S P G tm en h) := zz_in hX hY
  have hic := hX.1.2.2.2.2.2.2.2.2.2.1
  refine pk_lt (zp_ic P) 32 (fun q => ?_) (fun q => br_t (congrArg nI (show zp_ic P = 32 by omega)) ⟨rfl, same⟩)
  have hi : vp_in (nI (zp_ic P)) 32 := vp_in_nI q (by omega)
  have ec : (nI (zp_ic P)).toNatClampNeg = zp_ic P := nI_clamp (by omega)
  refine And.intro hi (nm_r (e' := upd (zp_in P) (zp_ic P) v1) (by rw [ec]) (nm_r (nI_1 (zp_ic P)) (br_f (fun e => ?_) (And.intro hi (nm_r (e' := upd (zp_in P) (zp_ic P) v1) (by rw [ec]) (nm_r (nI_1 (zp_ic P)) ⟨rfl, ?_⟩))))))
  · have : zp_ic P = 32 := zc_inj e (by omega) (by omega)
    omega
  · obtain ⟨hX', e, hY'⟩ := zz_Xag (n := zp_ic P + 1) (E := en) (B := zp_ic P) (f := upd (zp_in P) (zp_ic P) v1) (h := h) hX (Nat.le_refl _) (zz_le hX).2.2 (by omega) (by omega) (fun i hi => pk_un (by omega)) (Nat.le_refl _) hX.2.2.2.2.2.2.2.2 hX.2.2.1 hX.2.2.2.1 hX.2.2.2.2.1
    have := zz_in (k := k + 5) hX' (hY' hY)
    rw [e] at this
    exact this
section ZU
variable {P P' : zp_P} {G : zg_G} {tm en sg cc fc : Nat} {di : Int32} {lv ct cp po fp h : Nat → Int32} {T : Nat → Nat}
theorem zd_drop2 {post : SX → Prop} (hS : zs_St P T cc fc ct cp po fp) (hp : zu_Pos P T cc tm sg di) (h : ∀ fc' fp', zs_St P T (sg + 1) fc' ct cp po fp' → zu_Pos P T (sg + 1) tm sg di → post (zx_S P' G tm tm sg di (sg + 1) fc' lv ct cp po fp')) : wpX_dropFuture post (zx_S P' G tm en sg di cc fc lv ct cp po fp) := by
  obtain ⟨hT, hg, hU⟩ := hS
  obtain ⟨hs, hle, hlt, hu⟩ := hp
  have h1 := hT.1
  have hcc := hT.2.1
  have e1 : nI cc - 1 = nI (cc - 1) := by
    obtain ⟨m, rfl⟩ : ∃ m, cc = m + 1 := ⟨cc - 1, by omega⟩
    exact nI_pred m
  refine nm_r e1 ⟨cc, zd_15 (P := P') hcc (zs_rf_of hg) (fun fc' fp' hU' => h fc' fp' ⟨⟨by omega, by omega, hT.2.2.1, fun c hc => hT.2.2.2.1 c (by omega), fun c hc => hT.2.2.2.2 c (by omega)⟩, fun c p hc hp => hg c p (by omega) hp, hU'⟩ ⟨by omega, hle, fun z => absurd z (by omega), hu⟩) (cc - 1 - sg) cc (cc - 1) fc fp (by omega) (by omega) (by omega) ?_⟩
  rw [show cc - 1 + 1 = cc by omega]; exact hU
theorem zz_hu {q : Nat} (hX : zz_X P G T tm en sg cc fc di ct cp po fp) (hq : q ≤ zp_ic P) (e : mp_tr P tm 4 = nI q) : ∀ t, t ≤ tm → zz_ub q (mp_tr P t 4) := by
  intro t ht
  have hic := hX.1.2.2.2.2.2.2.2.2.2.1
  have hle := zz_le hX
  obtain ⟨x, hx, ex⟩ := hX.2.2.2.2.2.2.2.2 t (by omega)
  obtain ⟨y, hy1, hy2, ey⟩ := zz_used hX.1 (tm - t) t x ex
  rw [show t + (tm - t) = tm by omega] at ey
  have := zc_inj (ey.symm.trans e) (by omega) (by omega)
  exact ⟨x, by omega, ex⟩
end ZU
theorem i_vc_replaceInput {k : Nat} {u : SX} {v : SY} (I : i_Rel k u v) (hk : k + 5 ≤ 2564) (v1 : Int32) (v2 : Int32) : wpX_replaceInput (fun r u' => wpY_replaceInput (fun r' v' => r' = r ∧ i_Rel (k + 5) u' v') v v1 v2) u v1 v2 := by
  refine zz_el (Q := fun u v => wpX_replaceInput (fun r u' => wpY_replaceInput (fun r' v' => r' = r ∧ i_Rel (k + 5) u' v') v v1 v2) u v1 v2) ?_ I
  intro P G T tm en sg cc fc di ct cp po fp h hX hY
  have same : i_Rel (k + 5) (zx_S P G tm en sg di cc fc (mp_tr P tm) ct cp po fp) (zy_S P G tm en h) := zz_in hX hY
  have hic := hX.1.2.2.2.2.2.2.2.2.2.1
  have hle := zz_le hX
  refine br_c (fun z => br_t z ⟨rfl, same⟩) (fun z => br_c (fun z2 => ?_) (fun z2 => br_f z (br_f z2 ⟨rfl, same⟩)))
  obtain ⟨q, hq, eq⟩ := hX.2.2.2.2.2.2.2.2 tm (by omega)
  refine br_c (fun z3 => ?_) (fun z3 => br_f z (br_t z2 (zy_aw 4 (hY tm (by omega)) (by omega) (by omega) (by omega) rfl (br_f z3 ⟨rfl, same⟩))))
  obtain ⟨j, hj, rfl⟩ := nI_of z
  have hj2 : j < zp_ic P := (nI_ltI hj (by omega)).mp z2
  have hqj : q ≤ j := by
    rw [eq] at z3
    exact (nI_leI (by omega) hj).mp z3
  have hi : vp_in (nI j) 32 := vp_in_nI (by omega) (by omega)
  have ec : (nI j).toNatClampNeg = j := nI_clamp hj
  refine And.intro hi (nm_r (e' := upd (zp_in P) j v2) (by rw [ec]) ?_)
  refine zd_drop2 (P := P) (P' := zp_si P (zp_ic P) (upd (zp_in P) j v2)) hX.2.2.1 hX.2.2.2.1 (fun fc' fp' hS' hp' => ?_)
  refine br_f z (br_t z2 (zy_aw 4 (hY tm (by omega)) (by omega) (by omega) (by omega) rfl (br_t z3 (And.intro hi (nm_r (e' := upd (zp_in P) j v2) (by rw [ec]) ⟨rfl, ?_⟩)))))
  obtain ⟨hX', e, hY'⟩ := zz_Xag (n := zp_ic P) (E := tm) (B := q) (f := upd (zp_in P) j v2) (h := h) hX hle.2.2 (Nat.le_refl _) hic hq (fun i hi => pk_un (by omega)) hq (zz_hu hX hq eq) hS' hp' hp'.2.1
  have := zz_in (k := k + 5) hX' (hY' hY)
  rw [e] at this
  exact this
theorem i_vc_truncate {k : Nat} {u : SX} {v : SY} (I : i_Rel k u v) (hk : k + 5 ≤ 2564) : wpX_truncate (fun r u' => wpY_truncate (fun r' v' => r' = r ∧ i_Rel (k + 5) u' v') v) u := by
  refine zz_el (Q := fun u v => wpX_truncate (fun r u' => wpY_truncate (fun r' v' => r' = r ∧ i_Rel (k + 5) u' v') v) u) ?_ I
  intro P G T tm en sg cc fc di ct cp po fp h hX hY
  have hic := hX.1.2.2.2.2.2.2.2.2.2.1
  have hle := zz_le hX
  obtain ⟨q, hq, eq⟩ := hX.2.2.2.2.2.2.2.2 tm (by omega)
  refine nm_r (e' := nI q) eq ?_
  refine zd_drop2 (P := P) (P' := zp_si P q (zp_in P)) hX.2.2.1 hX.2.2.2.1 (fun fc' fp' hS' hp' => ?_)
  show wpY_truncate _ (zy_S P G tm en h)
  unfold wpY_truncate
  refine zy_aw 4 (hY tm (by omega)) (by omega) (by omega) (by omega) rfl ⟨rfl, ?_⟩
  rw [eq]
  obtain ⟨hX', e, hY'⟩ := zz_Xag (n := q) (E := tm) (B := q) (f := zp_in P) (h := h) hX hle.2.2 (Nat.le_refl _) (by omega) (Nat.le_refl _) (fun i hi => rfl) hq (zz_hu hX hq eq) hS' hp' hp'.2.1
  have := zz_in (k := k + 5) hX' (hY' hY)
  rw [e] at this
  exact this
theorem zg_cntU {f : Nat → Int32} {j : Nat} {x : Int32} : ∀ n, (n ≤ j → zg_cnt (upd f j x) n = zg_cnt f n) ∧ (j < n → zg_cnt (upd f j x) n + (if f j = 0 then 0 else 1) = zg_cnt f n + (if x = 0 then 0 else 1)) := by
  intro n
  induction n with
  | zero => exact ⟨fun _ => rfl, fun h => absurd h (by omega)⟩
  | succ n ih =>
    have e1 : zg_cnt (upd f j x) (n + 1) = zg_cnt (upd f j x) n + (if upd f j x n = 0 then 0 else 1) := rfl
    have e2 : zg_cnt f (n + 1) = zg_cnt f n + (if f n = 0 then 0 else 1) := rfl
    refine ⟨fun h => ?_, fun h => ?_⟩
    · rw [e1, e2, pk_un (by omega), ih.1 (by omega)]
    · by_cases q : j = n
      · subst q
        rw [e1, e2, pk_us, ih.1 (Nat.le_refl _)]
        omega
      · have := ih.2 (by omega)
        rw [e1, e2, pk_un (by omega)]
        omega
theorem zg_nar {x : Int32} (h : x = 0 ∨ x = 1) : vp_nar .boolean x = x := by
  rcases h with rfl | rfl
  · rfl
  · rfl
theorem i_vc_setBreak {k : Nat} {u : SX} {v : SY} (I : i_Rel k u v) (hk : k + 5 ≤ 2564) (v1 : Int32) (v2 : Int32) : wpX_setBreak (fun r u' => wpY_setBreak (fun r' v' => r' = r ∧ i_Rel (k + 5) u' v') v v1 (lw_bz v2)) u v1 (lw_bz v2) := by
  refine zz_el (Q := fun u v => wpX_setBreak (fun r u' => wpY_setBreak (fun r' v' => r' = r ∧ i_Rel (k + 5) u' v') v v1 (lw_bz v2)) u v1 (lw_bz v2)) ?_ I
  intro P G T tm en sg cc fc di ct cp po fp h hX hY
  have same : i_Rel (k + 5) (zx_S P G tm en sg di cc fc (mp_tr P tm) ct cp po fp) (zy_S P G tm en h) := zz_in hX hY
  have h01 := lw_bz_01 v2
  revert h01
  generalize lw_bz v2 = b
  intro h01
  refine br_c (fun z => br_t z ⟨rfl, same⟩) (fun z => br_c (fun z2 => ?_) (fun z2 => br_f z (br_f z2 ⟨rfl, same⟩)))
  obtain ⟨j, hj, rfl⟩ := nI_of z
  have hj2 : j < 64 := (nI_ltI (b := 64) hj (by omega)).mp z2
  have hi : vp_in (nI j) 64 := vp_in_nI hj2 (by omega)
  have ec : (nI j).toNatClampNeg = j := nI_clamp hj
  refine And.intro hi ?_
  rw [ec]
  obtain ⟨a1, ⟨c1, c2, c3⟩, a3, a4, a5, a6, a7, a8, a9⟩ := hX
  have hcu := (zg_cntU (f := zg_br G) (j := j) (x := b) 64).2 hj2
  refine br_c (fun q => ?_) (fun q => And.intro hi (nm_r (e' := upd (zg_br G) j b) (by rw [zg_nar h01]) ?_))
  · refine br_f z (br_t z2 (And.intro hi (nm_r (e' := zg_br G) ?_ ⟨rfl, same⟩)))
    rw [ec, zg_nar h01, ← q]
    funext i
    by_cases e : i = j
    · subst e; rw [pk_us]
    · rw [pk_un e]
  · have key : ∀ bo : Nat, bo = zg_cnt (upd (zg_br G) j b) 64 → i_Rel (k + 5) (zx_S P (bo, upd (zg_br G) j b, zg_wa G, zg_wc G, zg_wv G) tm en sg di cc fc (mp_tr P tm) ct cp po fp) (zy_S P (bo, upd (zg_br G) j b, zg_wa G, zg_wc G, zg_wv G) tm en h) := by
      intro bo hbo
      refine zz_in (G := (bo, upd (zg_br G) j b, zg_wa G, zg_wc G, zg_wv G)) ⟨a1, ⟨hbo, c2, fun i => ?_⟩, a3, a4, a5, a6, a7, a8, a9⟩ hY
      show upd (zg_br G) j b i = 0 ∨ upd (zg_br G) j b i = 1
      by_cases e : i = j
      · subst e; rw [pk_us]; exact h01
      · rw [pk_un e]; exact c3 i
    have hY2 : ∀ bo : Nat, bo = zg_cnt (upd (zg_br G) j b) 64 → wpY_setBreak (fun r' v' => r' = 0 ∧ i_Rel (k + 5) (zx_S P (bo, upd (zg_br G) j b, zg_wa G, zg_wc G, zg_wv G) tm en sg di cc fc (mp_tr P tm) ct cp po fp) v') (zy_S P G tm en h) (nI j) b := by
      intro bo hbo
      exact br_f z (br_t z2 (And.intro hi (nm_r (e' := upd (zg_br G) j b) (by rw [ec, zg_nar h01]) ⟨rfl, key bo hbo⟩)))
    refine br_c (fun q2 => ?_) (fun q2 => ?_)
    · have q3 : ¬ zg_br G j = 0 := fun e => q (e.trans q2.symm)
      rw [if_neg q3, if_pos q2] at hcu
      have e1 : nI (zg_bo G) - 1 = nI (zg_bo G - 1) := by
        obtain ⟨m, hm⟩ : ∃ m, zg_bo G = m + 1 := ⟨zg_bo G - 1, by omega⟩
        rw [hm]; exact nI_pred m
      exact nm_r e1 (hY2 _ (by omega))
    · have q3 : zg_br G j = 0 := by
        rcases c3 j with e | e
        · exact e
        · rcases h01 with e2 | e2
          · exact absurd e2 q2
          · exact absurd (e.trans e2.symm) q
      rw [if_pos q3, if_neg q2] at hcu
      exact nm_r (nI_1 (zg_bo G)) (hY2 _ (by omega))
theorem i_vc_setWatch {k : Nat} {u : SX} {v : SY} (I : i_Rel k u v) (hk : k + 5 ≤ 2564) (v1 : Int32) (v2 : Int32) (v3 : Int32) (v4 : Int32) : wpX_setWatch (fun r u' => wpY_setWatch (fun r' v' => r' = r ∧ i_Rel (k + 5) u' v') v v1 v2 v3 v4) u v1 v2 v3 v4 := by
  refine zz_el (Q := fun u v => wpX_setWatch (fun r u' => wpY_setWatch (fun r' v' => r' = r ∧ i_Rel (k + 5) u' v') v v1 v2 v3 v4) u v1 v2 v3 v4) ?_ I
  intro P G T tm en sg cc fc di ct cp po fp h hX hY
  have same : i_Rel (k + 5) (zx_S P G tm en sg di cc fc (mp_tr P tm) ct cp po fp) (zy_S P G tm en h) := zz_in hX hY
  have hms := hX.1.2.1
  refine br_c (fun z => br_t z ⟨rfl, same⟩) (fun z => br_c (fun z2 => ?_) (fun z2 => br_f z (br_t (Int32.not_lt.mp z2) ⟨rfl, same⟩)))
  have y2 : ¬ (4 : Int32) ≤ v1 := fun y => absurd z2 (Int32.not_lt.mpr y)
  refine br_c (fun z3 => br_f z (br_f y2 (br_t z3 ⟨rfl, same⟩))) (fun z3 => br_c (fun z4 => ?_) (fun z4 => br_f z (br_f y2 (br_f z3 (br_f z4 ⟨rfl, same⟩)))))
  refine br_c (fun z5 => br_f z (br_f y2 (br_f z3 (br_t z4 (br_t z5 ⟨rfl, same⟩))))) (fun z5 => br_c (fun z6 => ?_) (fun z6 => br_f z (br_f y2 (br_f z3 (br_t z4 (br_f z5 (br_f z6 ⟨rfl, same⟩)))))))
  obtain ⟨j, hj, rfl⟩ := nI_of z
  have hj2 : j < 4 := (nI_ltI (b := 4) hj (by omega)).mp z2
  have hi : vp_in (nI j) 4 := vp_in_nI hj2 (by omega)
  have ec : (nI j).toNatClampNeg = j := nI_clamp hj
  refine And.intro hi (nm_r (e' := upd (zg_wa G) j v2) (by rw [ec]) (And.intro hi (nm_r (e' := upd (zg_wc G) j v3) (by rw [ec]) (And.intro hi (nm_r (e' := upd (zg_wv G) j v4) (by rw [ec]) ?_)))))
  refine br_f z (br_f y2 (br_f z3 (br_t z4 (br_f z5 (br_t z6 (And.intro hi (nm_r (e' := upd (zg_wa G) j v2) (by rw [ec]) (And.intro hi (nm_r (e' := upd (zg_wc G) j v3) (by rw [ec]) (And.intro hi (nm_r (e' := upd (zg_wv G) j v4) (by rw [ec]) ⟨rfl, ?_⟩)))))))))))
  obtain ⟨a1, ⟨c1, c2, c3⟩, a3, a4, a5, a6, a7, a8, a9⟩ := hX
  refine zz_in (G := (zg_bo G, zg_br G, upd (zg_wa G) j v2, upd (zg_wc G) j v3, upd (zg_wv G) j v4)) ⟨a1, ⟨c1, fun i hi4 => ?_, c3⟩, a3, a4, a5, a6, a7, a8, a9⟩ hY
  show ∃ a, a < zp_ms P ∧ upd (zg_wa G) j v2 i = nI a
  by_cases e : i = j
  · subst e
    rw [pk_us]
    obtain ⟨a, ha, rfl⟩ := nI_of z3
    exact ⟨a, (nI_ltI ha (by omega)).mp z4, rfl⟩
  · rw [pk_un e]; exact c2 i hi4
end
section
/-! the owed ones: movement, questions about history -/
section ZV
variable {P : zp_P} {G : zg_G} {tm en sg cc fc : Nat} {di : Int32} {lv ct cp po fp h l : Nat → Int32} {T : Nat → Nat}
theorem zz_hn0 {t : Nat} (hP : zp_ok P) (hu : zz_us P (l 4)) (e : hn_h P l t = 0) : l 0 = 0 ∧ t < zp_hz P ∧ (mp_isin P l → mp_iq P (l 4)) := by
  have hic := hP.2.2.2.2.2.2.2.2.2.1
  unfold hn_h at e
  by_cases z1 : l 0 = 0
  · rw [if_pos z1] at e
    by_cases z2 : t < zp_hz P
    · rw [if_pos z2] at e
      refine ⟨z1, z2, fun hi => ?_⟩
      obtain ⟨hb, zf, hk⟩ := hi
      have hb' : ¬ (l 1 < 0 ∨ nI (zp_pl P) ≤ l 1) := hb
      have hop := (mp_k18 hP hb).2.2.2
      rw [hk] at hop
      have hop' : zp_op P (l 1).toNatClampNeg = 17 := hop
      rw [if_neg (fun y => hb' (Or.inl y)), if_neg (fun y => hb' (Or.inr y)), if_pos hop'] at e
      by_cases z3 : l 4 < nI (zp_ic P)
      · obtain ⟨q, hq, eq⟩ := hu
        rw [eq] at z3
        exact ⟨q, (nI_ltI (by omega) (by omega)).mp z3, eq⟩
      · rw [if_neg z3] at e
        exact absurd e (by decide)
    · rw [if_neg z2] at e
      exact absurd e (by decide)
  · rw [if_neg z1] at e
    exact absurd e (by decide)
theorem zz_next {T' : Nat → Nat} {sg' cc' fc' : Nat} {di' : Int32} {ct' cp' po' fp' : Nat → Int32} (hX : zz_X P G T tm en sg cc fc di ct cp po fp) (e : hn_h P (mp_tr P tm) tm = 0) (hS : zs_St P T' cc' fc' ct' cp' po' fp') (hl : T' (cc' - 1) ≤ max en (tm + 1)) (hp : zu_Pos P T' cc' (tm + 1) sg' di') : zz_X P G T' (tm + 1) (max en (tm + 1)) sg' cc' fc' di' ct' cp' po' fp' := by
  obtain ⟨a1, a2, a3, a4, a5, a6, a7, a8, a9⟩ := hX
  have hic := a1.2.2.2.2.2.2.2.2.2.1
  obtain ⟨s0, s1, s2⟩ := zz_hn0 a1 (a9 tm a6) e
  refine ⟨a1, a2, hS, hp, hl, by omega, by omega, fun t ht => ?_, fun t ht => ?_⟩
  · by_cases q : t < en
    · exact a8 t q
    · obtain rfl : t = tm := by omega
      exact s0
  · by_cases q : t ≤ en
    · exact a9 t q
    · obtain rfl : t = tm + 1 := by omega
      rcases (mp_stV a1 (mp_wft a1 tm)).2.2.2 with y | ⟨hi, y⟩
      · obtain ⟨x, hx, ex⟩ := a9 tm a6
        exact ⟨x, hx, Eq.trans y ex⟩
      · obtain ⟨x, hx, ex⟩ := s2 hi
        refine ⟨x + 1, hx, Eq.trans y ?_⟩
        rw [ex, nI_1]
theorem zz_yex {Q : SY → Prop} (hX : zz_X P G T tm en sg cc fc di ct cp po fp) (hY : zz_Y P en h) (e : hn_h P (mp_tr P tm) tm = 0) (c : ∀ h', zz_Y P (max en (tm + 1)) h' → Q (zy_S P G (tm + 1) (max en (tm + 1)) h')) : wpY_execute Q (zy_S P G tm en h) := by
  obtain ⟨s0, s1, s2⟩ := zz_hn0 hX.1 (hX.2.2.2.2.2.2.2.2 tm hX.2.2.2.2.2.1) e
  have hle := zz_le hX
  have hhz := hX.1.2.2.2.2.2.2.2.1
  exact zb_exec hX.1 (mp_wft hX.1 tm) s0 s2 hY hle.2.2 hle.1 (by omega) c
theorem zz_xex {Q : SX → Prop} (hX : zz_X P G T tm en sg cc fc di ct cp po fp) (e : hn_h P (mp_tr P tm) tm = 0) (c : ∀ T' cc' fc' ct' cp' po' fp' sg' di', zz_X P G T' (tm + 1) (max en (tm + 1)) sg' cc' fc' di' ct' cp' po' fp' → Q (zx_S P G (tm + 1) (max en (tm + 1)) sg' di' cc' fc' (mp_tr P (tm + 1)) ct' cp' po' fp')) : wpX_executeOne Q (zx_S P G tm en sg di cc fc (mp_tr P tm) ct cp po fp) := by
  obtain ⟨s0, s1, s2⟩ := zz_hn0 hX.1 (hX.2.2.2.2.2.2.2.2 tm hX.2.2.2.2.2.1) e
  have hle := zz_le hX
  have hhz := hX.1.2.2.2.2.2.2.2.1
  exact zt_exec hX.1 hX.2.2.1 hX.2.2.2.1 hX.2.2.2.2.1 (by omega) hle.2.2 hle.1 (fun T' cc' fc' ct' cp' po' fp' sg' di' hS hl hp => c T' cc' fc' ct' cp' po' fp' sg' di' (zz_next hX e hS hl hp))
theorem zz_yhn {Q : Int32 → Prop} (hX : zz_X P G T tm en sg cc fc di ct cp po fp) (hY : zz_Y P en h) (c : Q (hn_h P (mp_tr P tm) tm)) : wpY_hindrance Q (zy_S P G tm en h) := by
  have hle := zz_le hX
  obtain ⟨q, hq, e⟩ := hX.2.2.2.2.2.2.2.2 tm hle.2.2
  exact hn_Y hX.1 (hY tm hle.2.2) (Nat.le_trans hle.2.2 hX.2.2.2.2.2.2.1) e hq c
theorem zz_yit {Q : Int32 → SY → Prop} {N d n : Nat} (hX : zz_X P G T tm en sg cc fc di ct cp po fp) (hY : zz_Y P en h) (hN : N < 2 ^ 31) (hd : d ≤ 1000) (hdN : d < N) (e : hn_h P (mp_tr P tm) tm = 0) (c : ∀ h', zz_Y P (max en (tm + 1)) h' → (nI (mk_msk G (mp_tr P (tm + 1))) = 0 → ∀ x : Int32, x = nI d + 1 → zyw_run_10 Q (nI N) n x (zy_S P G (tm + 1) (max en (tm + 1)) h')) ∧ (¬ nI (mk_msk G (mp_tr P (tm + 1))) = 0 → Q 2 (zy_S P G (tm + 1) (max en (tm + 1)) h'))) : zyw_run_10 Q (nI N) (n + 1) (nI d) (zy_S P G tm en h) := by
  have hle := zz_le hX
  have hhz := hX.1.2.2.2.2.2.2.2.1
  obtain ⟨s0, s1, s2⟩ := zz_hn0 hX.1 (hX.2.2.2.2.2.2.2.2 tm hX.2.2.2.2.2.1) e
  refine br_f (nI_ge hdN hN) (br_f (nI_nlt (b := d) (a := 1000) hd (by omega)) ?_)
  refine zz_yhn hX hY (br_t e ?_)
  refine zz_yex hX hY e (fun h' hY' => ?_)
  refine mk_Ym hX.1 (mp_wft hX.1 (tm + 1)) (hY' (tm + 1) (by omega)) (by omega) ?_
  exact c h' hY'
theorem zz_run {k N : Nat} {WY : (Int32 → SY → Prop) → Prop} (hN : N < 2 ^ 31) : ∀ m n d T tm en sg cc fc di ct cp po fp, zp_hz P - tm ≤ m → m < n → d ≤ tm → zz_X P G T tm en sg cc fc di ct cp po fp → (∀ Q : Int32 → SY → Prop, (∀ h, zz_Y P en h → ∀ n', m < n' → zyw_run_10 Q (nI N) n' (nI d) (zy_S P G tm en h)) → WY Q) → zxw_run_10 (fun r u' => WY (fun r' v' => r' = r ∧ i_Rel k u' v')) (nI N) n (nI d) (zx_S P G tm en sg di cc fc (mp_tr P tm) ct cp po fp) := by
  intro m
  induction m with
  | zero =>
    intro n d T tm en sg cc fc di ct cp po fp hm hn hd hX C
    obtain ⟨n, rfl⟩ : ∃ n', n = n' + 1 := ⟨n - 1, by omega⟩
    have hle := zz_le hX
    refine pk_le N d (fun q => C _ (fun h hY n' hn' => ?_)) (fun q => hn_X hX.1 hle.2.1 (br_c (fun z => ?_) (fun z => C _ (fun h hY n' hn' => ?_))))
    · obtain ⟨n', rfl⟩ : ∃ j, n' = j + 1 := ⟨n' - 1, by omega⟩
      exact br_t (nI_le q (by omega)) ⟨rfl, zz_in hX hY⟩
    · have := (zz_hn0 hX.1 (hX.2.2.2.2.2.2.2.2 tm hX.2.2.2.2.2.1) z).2.1
      omega
    · obtain ⟨n', rfl⟩ : ∃ j, n' = j + 1 := ⟨n' - 1, by omega⟩
      exact br_f (nI_ge q hN) (br_f (nI_nlt (b := d) (a := 1000) (by omega) (by omega)) (zz_yhn hX hY (br_f z ⟨rfl, zz_in hX hY⟩)))
  | succ m ih =>
    intro n d T tm en sg cc fc di ct cp po fp hm hn hd hX C
    obtain ⟨n, rfl⟩ : ∃ n', n = n' + 1 := ⟨n - 1, by omega⟩
    have hle := zz_le hX
    refine pk_le N d (fun q => C _ (fun h hY n' hn' => ?_)) (fun q => hn_X hX.1 hle.2.1 (br_c (fun z => ?_) (fun z => C _ (fun h hY n' hn' => ?_))))
    · obtain ⟨n', rfl⟩ : ∃ j, n' = j + 1 := ⟨n' - 1, by omega⟩
      exact br_t (nI_le q (by omega)) ⟨rfl, zz_in hX hY⟩
    · refine zz_xex hX z (fun T' cc' fc' ct' cp' po' fp' sg' di' hX' => mk_Xm hX.1 (mp_wft hX.1 (tm + 1)) ?_)
      refine br_c (fun z2 => nm_r (nI_1 d) (ih n (d + 1) T' (tm + 1) _ sg' cc' fc' di' ct' cp' po' fp' (by omega) (by omega) (by omega) hX' (fun Q hq => C Q (fun h hY n' hn' => ?_)))) (fun z2 => C _ (fun h hY n' hn' => ?_))
      · obtain ⟨n', rfl⟩ : ∃ j, n' = j + 1 := ⟨n' - 1, by omega⟩
        exact zz_yit hX hY hN (by omega) q z (fun h' hY' => br_t z2 (nm_r (nI_1 d) (hq h' hY' n' (by omega))))
      · obtain ⟨n', rfl⟩ : ∃ j, n' = j + 1 := ⟨n' - 1, by omega⟩
        exact zz_yit hX hY hN (by omega) q z (fun h' hY' => br_f z2 ⟨rfl, zz_in hX' hY'⟩)
    · obtain ⟨n', rfl⟩ : ∃ j, n' = j + 1 := ⟨n' - 1, by omega⟩
      exact br_f (nI_ge q hN) (br_f (nI_nlt (b := d) (a := 1000) (by omega) (by omega)) (zz_yhn hX hY (br_f z ⟨rfl, zz_in hX hY⟩)))
theorem zz_rc17 {Q : Int32 → SY → Prop} {t hh : Nat} {r : Int32} (hP : zp_ok P) (hY : zz_Y P en h) (hen : en ≤ 1000) (hte : t ≤ en) (hR : zq_R (zq_M P G) t r hh) (c : Q r (zy_S P G hh en h)) : ∀ u n x, u < t → u + 1 < n → hh ≤ u → zyw_reverseContinue_17 Q n (nI u) (zy_S P G x en h) := by
  intro u
  induction u with
  | zero =>
    intro n x hu hn hh0
    obtain ⟨n, rfl⟩ : ∃ j, n = j + 1 + 1 := ⟨n - 2, by omega⟩
    have hl := mk_lt (G := G) (l := mp_tr P 0)
    refine br_f (by decide) (mk_Ym hP (mp_wft hP 0) (hY 0 (by omega)) (by omega) (pk_eq (mk_msk G (mp_tr P 0)) 0 (fun z => nm_r (e' := -1) (by decide) (br_t (by decide) ?_)) (fun z => ?_)))
    · rcases hR with ⟨e, h1, h2, h3⟩ | ⟨e, h1, h2⟩
      · obtain rfl : hh = 0 := by omega
        exact absurd z h2
      · subst e
        subst h1
        exact c
    · rcases hR with ⟨e, h1, h2, h3⟩ | ⟨e, h1, h2⟩
      · obtain rfl : hh = 0 := by omega
        subst e
        exact c
      · exact absurd z (h2 0 hu)
  | succ u ih =>
    intro n x hu hn hh0
    obtain ⟨n, rfl⟩ : ∃ j, n = j + 1 := ⟨n - 1, by omega⟩
    have hl := mk_lt (G := G) (l := mp_tr P (u + 1))
    refine br_f (nI_pos (by omega)) (mk_Ym hP (mp_wft hP (u + 1)) (hY (u + 1) (by omega)) (by omega) (pk_eq (mk_msk G (mp_tr P (u + 1))) 0 (fun z => nm_r (pk_m1 u) (ih n (u + 1) (by omega) (by omega) ?_)) (fun z => ?_)))
    · rcases hR with ⟨e, h1, h2, h3⟩ | ⟨e, h1, h2⟩
      · rcases Nat.lt_or_ge hh (u + 1) with y | y
        · omega
        · obtain rfl : hh = u + 1 := by omega
          exact absurd z h2
      · omega
    · rcases hR with ⟨e, h1, h2, h3⟩ | ⟨e, h1, h2⟩
      · rcases Nat.lt_or_ge hh (u + 1) with y | y
        · exact absurd z (h3 (u + 1) y hu)
        · obtain rfl : hh = u + 1 := by omega
          subst e
          exact c
      · exact absurd z (h2 (u + 1) hu)
theorem zz_lw19 {Q : Int32 → Prop} {t a : Nat} {r : Int32} (hP : zp_ok P) (hY : zz_Y P en h) (hen : en ≤ 1000) (hte : t ≤ en) (ha : a < 64) (hH : zl_H (zq_W P a) 0 t r) (c : Q r) : ∀ u n, u ≤ t → u < n → (∀ u', u < u' → u' ≤ t → ¬ zq_W P a u') → zyw_lastWrite_19 Q (nI a) n (nI u) (zy_S P G tm en h) := by
  have hms := hP.2.1
  intro u
  induction u with
  | zero =>
    intro n hu hn hz
    obtain ⟨n, rfl⟩ : ∃ j, n = j + 1 := ⟨n - 1, by omega⟩
    refine br_t (by decide) ?_
    rcases hH with ⟨e, _⟩ | ⟨hh, e, h1, h2, h3, _⟩
    · subst e; exact c
    · exact absurd h3 (hz hh h1 h2)
  | succ u ih =>
    intro n hu hn hz
    obtain ⟨n, rfl⟩ : ∃ j, n = j + 1 := ⟨n - 1, by omega⟩
    have hiff : mp_tr P (u + 1) 6 - 1 = nI a ↔ zq_W P a (u + 1) := by
      unfold zq_W
      rcases (mp_wft hP (u + 1)).2.2.2.2.2.2.1 with q | ⟨b, hb, q⟩
      · rw [q]
        refine ⟨fun y => ?_, fun y => absurd y.symm (nI_ne0 (by omega) (by omega))⟩
        exact absurd (show (-1 : Int32) < 0 from zc_m1) (by rw [show (-1 : Int32) = 0 - 1 from by decide, y]; exact nI_pos (by omega))
      · rw [q, nI_pred]
        refine ⟨fun y => ?_, fun y => ?_⟩
        · have := zc_inj y (by omega) (by omega)
          rw [this]
        · have := zc_inj y (by omega) (by omega)
          exact congrArg nI (by omega)
    refine br_f (nI_nlt (b := 1) (a := u + 1) (by omega) (by omega)) (zy_a6 (hY (u + 1) (by omega)) (by omega) rfl (br_c (fun z => ?_) (fun z => nm_r (pk_m1 u) (ih n (by omega) (by omega) (fun u' h1 h2 => ?_)))))
    · have hW := hiff.mp z
      rcases hH with ⟨e, h0⟩ | ⟨hh, e, h1, h2, h3, h4⟩
      · exact absurd hW (h0 (u + 1) (by omega) hu)
      · have : hh = u + 1 := by
          rcases Nat.lt_trichotomy hh (u + 1) with y | y | y
          · exact absurd hW (h4 (u + 1) y hu)
          · exact y
          · exact absurd h3 (hz hh y h2)
        rw [e, this] at c
        exact c
    · by_cases y : u' = u + 1
      · rw [y]; exact fun w => z (hiff.mpr w)
      · exact hz u' (by omega) h2
end ZV
theorem i_vc_step {k : Nat} {u : SX} {v : SY} (I : i_Rel k u v) (hk : k + 5 ≤ 2564) : wpX_step (fun r u' => wpY_step (fun r' v' => r' = r ∧ i_Rel (k + 5) u' v') v) u := by
  refine zz_el (Q := fun u v => wpX_step (fun r u' => wpY_step (fun r' v' => r' = r ∧ i_Rel (k + 5) u' v') v) u) ?_ I
  intro P G T tm en sg cc fc di ct cp po fp h hX hY
  have hle := zz_le hX
  show wpX_step _ (zx_S P G tm en sg di cc fc (mp_tr P tm) ct cp po fp)
  unfold wpX_step
  refine hn_X hX.1 hle.2.1 (br_c (fun z => ?_) (fun z => ?_))
  · refine zz_xex hX z (fun T' cc' fc' ct' cp' po' fp' sg' di' hX' => ?_)
    show wpY_step _ (zy_S P G tm en h)
    unfold wpY_step
    exact zz_yhn hX hY (br_t z (zz_yex hX hY z (fun h' hY' => ⟨rfl, zz_in hX' hY'⟩)))
  · show wpY_step _ (zy_S P G tm en h)
    unfold wpY_step
    exact zz_yhn hX hY (br_f z ⟨rfl, zz_in hX hY⟩)
theorem i_vc_run {k : Nat} {u : SX} {v : SY} (I : i_Rel k u v) (hk : k + 5 ≤ 2564) (v1 : Int32) : wpX_run (fun r u' => wpY_run (fun r' v' => r' = r ∧ i_Rel (k + 5) u' v') v v1) u v1 := by
  refine zz_el (Q := fun u v => wpX_run (fun r u' => wpY_run (fun r' v' => r' = r ∧ i_Rel (k + 5) u' v') v v1) u v1) ?_ I
  intro P G T tm en sg cc fc di ct cp po fp h hX hY
  refine br_c (fun z => ?_) (fun z => br_f z ⟨rfl, zz_in hX hY⟩)
  obtain ⟨N, hN, eN⟩ := nI_of (x := v1) (fun y => absurd (Int32.lt_of_le_of_lt z y) (by decide))
  rw [eN]
  refine ⟨1002, zz_run (WY := fun Q => wpY_run Q (zy_S P G tm en h) (nI N)) hN 1001 1002 0 T tm en sg cc fc di ct cp po fp ?_ (by omega) (by omega) hX (fun Q hq => ?_)⟩
  · have := hX.1.2.2.2.2.2.2.2.1
    omega
  · rw [eN] at z
    exact br_t z ⟨1002, hq h hY 1002 (by omega)⟩
theorem i_vc_stepBack {k : Nat} {u : SX} {v : SY} (I : i_Rel k u v) (hk : k + 5 ≤ 2564) : wpX_stepBack (fun r u' => wpY_stepBack (fun r' v' => r' = r ∧ i_Rel (k + 5) u' v') v) u := by
  refine zz_el (Q := fun u v => wpX_stepBack (fun r u' => wpY_stepBack (fun r' v' => r' = r ∧ i_Rel (k + 5) u' v') v) u) ?_ I
  intro P G T tm en sg cc fc di ct cp po fp h hX hY
  have hle := zz_le hX
  refine br_c (fun z => br_t z ⟨rfl, zz_in hX hY⟩) (fun z => ?_)
  have h0 : 0 < tm := by
    rcases Nat.eq_zero_or_pos tm with e | e
    · rw [e] at z; exact absurd rfl z
    · exact e
  have e1 : nI tm - 1 = nI (tm - 1) := by
    obtain ⟨m, rfl⟩ : ∃ m, tm = m + 1 := ⟨tm - 1, by omega⟩
    exact nI_pred m
  rw [e1]
  exact zm_moveTo hX.1 hX.2.2.1.1 hX.2.2.1.2.1 hX.2.2.2.1 (by omega) hle.2.1 (fun sg' di' hp' => br_f z (nm_r e1 ⟨rfl, zz_in (zz_mv hX (by omega) hp') hY⟩))
theorem i_vc_reverseContinue {k : Nat} {u : SX} {v : SY} (I : i_Rel k u v) (hk : k + 5 ≤ 2564) : wpX_reverseContinue (fun r u' => wpY_reverseContinue (fun r' v' => r' = r ∧ i_Rel (k + 5) u' v') v) u := by
  refine zz_el (Q := fun u v => wpX_reverseContinue (fun r u' => wpY_reverseContinue (fun r' v' => r' = r ∧ i_Rel (k + 5) u' v') v) u) ?_ I
  intro P G T tm en sg cc fc di ct cp po fp h hX hY
  have hle := zz_le hX
  refine zs_rc hX.1 hX.2.1 hX.2.2.1.1 hX.2.2.1.2.1 hle.2.1 hX.2.2.2.1 (fun z => br_t (by rw [z]; rfl) ⟨rfl, zz_in hX hY⟩) (fun z r hh sg' di' hR hp' => ?_)
  have e1 : nI tm - 1 = nI (tm - 1) := by
    obtain ⟨m, rfl⟩ : ∃ m, tm = m + 1 := ⟨tm - 1, by omega⟩
    exact nI_pred m
  have hh1 : hh ≤ tm - 1 := by
    rcases hR with ⟨_, h1, _⟩ | ⟨_, h1, _⟩ <;> omega
  refine br_f (nI_ne0 (by omega) (by omega)) (nm_r e1 ⟨tm + 1, ?_⟩)
  exact zz_rc17 hX.1 hY hle.1 hle.2.2 hR ⟨rfl, zz_in (zz_mv hX (by omega) hp') hY⟩ (tm - 1) (tm + 1) tm (by omega) (by omega) hh1
theorem i_vc_travel {k : Nat} {u : SX} {v : SY} (I : i_Rel k u v) (hk : k + 5 ≤ 2564) (v1 : Int32) : wpX_travel (fun r u' => wpY_travel (fun r' v' => r' = r ∧ i_Rel (k + 5) u' v') v v1) u v1 := by
  refine zz_el (Q := fun u v => wpX_travel (fun r u' => wpY_travel (fun r' v' => r' = r ∧ i_Rel (k + 5) u' v') v v1) u v1) ?_ I
  intro P G T tm en sg cc fc di ct cp po fp h hX hY
  have hle := zz_le hX
  refine br_c (fun z => br_t z ⟨rfl, zz_in hX hY⟩) (fun z => br_c (fun z2 => ?_) (fun z2 => br_f z (br_f z2 ⟨rfl, zz_in hX hY⟩)))
  obtain ⟨t, ht, rfl⟩ := nI_of z
  have ht2 : t ≤ en := (nI_leI ht (by omega)).mp z2
  exact zm_moveTo hX.1 hX.2.2.1.1 hX.2.2.1.2.1 hX.2.2.2.1 (by omega) hle.2.1 (fun sg' di' hp' => br_f z (br_t z2 ⟨rfl, zz_in (zz_mv hX ht2 hp') hY⟩))
theorem i_vc_lastWrite {k : Nat} {u : SX} {v : SY} (I : i_Rel k u v) (hk : k + 5 ≤ 2564) (v1 : Int32) : wpX_lastWrite (fun r u' => wpY_lastWrite (fun r' => r' = r ∧ i_Rel (k + 5) u' v) v v1) u v1 := by
  refine zz_el (Q := fun u v => wpX_lastWrite (fun r u' => wpY_lastWrite (fun r' => r' = r ∧ i_Rel (k + 5) u' v) v v1) u v1) ?_ I
  intro P G T tm en sg cc fc di ct cp po fp h hX hY
  have hle := zz_le hX
  have hms := hX.1.2.1
  by_cases z : v1 < 0
  · exact br_t z (br_t z ⟨rfl, zz_in hX hY⟩)
  · by_cases z2 : v1 < nI (zp_ms P)
    · obtain ⟨a, ha, rfl⟩ := nI_of z
      have ha2 : a < zp_ms P := (nI_ltI ha (by omega)).mp z2
      refine zw_lw hX.1 hX.2.2.1.1 hX.2.2.1.2.1 hle.2.1 hX.2.2.2.1 ha2 (fun r sg' di' hH hp' => br_f z (br_t z2 ⟨tm + 1, ?_⟩))
      exact zz_lw19 hX.1 hY hle.1 hle.2.2 (by omega) hH ⟨rfl, zz_in (zz_mv hX hle.2.2 hp') hY⟩ tm (tm + 1) (Nat.le_refl _) (by omega) (fun u' h1 h2 => absurd h1 (by omega))
    · exact br_f z (br_f z2 (br_f z (br_f z2 ⟨rfl, zz_in hX hY⟩)))
theorem i_vc_memoryAt {k : Nat} {u : SX} {v : SY} (I : i_Rel k u v) (hk : k + 5 ≤ 2564) (v1 : Int32) (v2 : Int32) : wpX_memoryAt (fun r u' => wpY_memoryAt (fun r' => r' = r ∧ i_Rel (k + 5) u' v) v v1 v2) u v1 v2 := by
  refine zz_el (Q := fun u v => wpX_memoryAt (fun r u' => wpY_memoryAt (fun r' => r' = r ∧ i_Rel (k + 5) u' v) v v1 v2) u v1 v2) ?_ I
  intro P G T tm en sg cc fc di ct cp po fp h hX hY
  have hle := zz_le hX
  have hms := hX.1.2.1
  have same : i_Rel (k + 5) (zx_S P G tm en sg di cc fc (mp_tr P tm) ct cp po fp) (zy_S P G tm en h) := zz_in hX hY
  by_cases z : v1 < 0
  · exact br_t z (br_t z ⟨rfl, same⟩)
  · by_cases z2 : nI en < v1
    · exact br_f z (br_t z2 (br_f z (br_t z2 ⟨rfl, same⟩)))
    · by_cases z3 : v2 < 0
      · exact br_f z (br_f z2 (br_t z3 (br_f z (br_f z2 (br_t z3 ⟨rfl, same⟩)))))
      · by_cases z4 : v2 < nI (zp_ms P)
        · obtain ⟨t, ht, rfl⟩ := nI_of z
          obtain ⟨a, ha, rfl⟩ := nI_of z3
          have ht2 : t ≤ en := by
            rcases Nat.lt_or_ge en t with y | y
            · exact absurd (nI_lt y ht) z2
            · exact y
          have ha2 : a < zp_ms P := (nI_ltI ha (by omega)).mp z4
          refine zw_ma hX.1 hX.2.2.1.1 hX.2.2.1.2.1 hle.2.1 hX.2.2.2.1 hle.1 ht2 ha2 (fun sg' di' hp' => br_f z (br_f z2 (br_f z3 (br_t z4 ?_))))
          exact zy_aw (32 + a) (hY t ht2) (by omega) (by omega) (by omega) (by rw [zr_m (by omega)]; exact nI_add 72 a) ⟨rfl, zz_in (zz_mv hX hle.2.2 hp') hY⟩
        · exact br_f z (br_f z2 (br_f z3 (br_f z4 (br_f z (br_f z2 (br_f z3 (br_f z4 ⟨rfl, same⟩)))))))
end
section
/-! the owed ones: questions about the present; the constructors (printed by gen22.py) -/
theorem i_vc_stopMask {k : Nat} {u : SX} {v : SY} (I : i_Rel k u v) (hk : k + 5 ≤ 2564) : wpX_stopMask (fun r => wpY_stopMask (fun r' => r' = r ∧ i_Rel (k + 5) u v) v) u := by
  refine zz_el (Q := fun u v => wpX_stopMask (fun r => wpY_stopMask (fun r' => r' = r ∧ i_Rel (k + 5) u v) v) u) ?_ I
  intro P G T tm en sg cc fc di ct cp po fp h hX hY
  have same : i_Rel (k + 5) (zx_S P G tm en sg di cc fc (mp_tr P tm) ct cp po fp) (zy_S P G tm en h) := zz_in hX hY
  have hle := zz_le hX
  refine mk_Xm hX.1 (mp_wft hX.1 tm) ?_
  show wpY_stopMask _ (zy_S P G tm en h)
  unfold wpY_stopMask
  exact mk_Ym hX.1 (mp_wft hX.1 tm) (hY tm hle.2.2) hle.2.1 ⟨rfl, same⟩
theorem i_vc_register {k : Nat} {u : SX} {v : SY} (I : i_Rel k u v) (hk : k + 5 ≤ 2564) (v1 : Int32) : wpX_register (fun r => wpY_register (fun r' => r' = r ∧ i_Rel (k + 5) u v) v v1) u v1 := by
  refine zz_el (Q := fun u v => wpX_register (fun r => wpY_register (fun r' => r' = r ∧ i_Rel (k + 5) u v) v v1) u v1) ?_ I
  intro P G T tm en sg cc fc di ct cp po fp h hX hY
  have same : i_Rel (k + 5) (zx_S P G tm en sg di cc fc (mp_tr P tm) ct cp po fp) (zy_S P G tm en h) := zz_in hX hY
  have hle := zz_le hX
  have hR := hY tm hle.2.2
  have ht := hle.2.1
  by_cases z : v1 < 0
  · have n : ∀ j : Nat, j < 16 → ¬ v1 = nI j := fun j hj e => by rw [e] at z; exact nI_pos (by omega) z
    exact br_t z (br_f (n 0 (by omega)) (br_f (n 1 (by omega)) (br_f (n 7 (by omega)) (br_t (Int32.lt_trans z (by decide)) (br_f (n 11 (by omega)) (br_f (n 12 (by omega)) (br_f (n 13 (by omega)) (br_f (n 14 (by omega)) (br_f (n 15 (by omega)) ⟨rfl, same⟩)))))))))
  by_cases z2 : 15 < v1
  · have n : ∀ j : Nat, j < 16 → ¬ v1 = nI j := fun j hj e => by rw [e] at z2; exact nI_nlt (b := j) (a := 15) (by omega) (by omega) z2
    exact br_f z (br_t z2 (br_f (n 0 (by omega)) (br_f (n 1 (by omega)) (br_f (n 7 (by omega)) (br_f (fun y => absurd (Int32.lt_trans z2 y) (by decide)) (br_t (Int32.lt_trans (by decide) z2) (br_f (n 11 (by omega)) (br_f (n 12 (by omega)) (br_f (n 13 (by omega)) (br_f (n 14 (by omega)) (br_f (n 15 (by omega)) ⟨rfl, same⟩)))))))))))
  obtain ⟨j, hj, rfl⟩ := nI_of2 (M := 15) (n := 15) rfl z (Int32.not_lt.mp z2)
  rcases (by omega : j = 0 ∨ j = 1 ∨ j = 2 ∨ j = 3 ∨ j = 4 ∨ j = 5 ∨ j = 6 ∨ j = 7 ∨ j = 8 ∨ j = 9 ∨ j = 10 ∨ j = 11 ∨ j = 12 ∨ j = 13 ∨ j = 14 ∨ j = 15) with rfl | rfl | rfl | rfl | rfl | rfl | rfl | rfl | rfl | rfl | rfl | rfl | rfl | rfl | rfl | rfl
  · refine br_f (by decide) ?_
    refine br_f (by decide) ?_
    refine br_t (by decide) ?_
    refine br_t (by decide) ?_
    exact ⟨rfl, same⟩
  · refine br_f (by decide) ?_
    refine br_f (by decide) ?_
    refine br_f (by decide) ?_
    refine br_t (by decide) ?_
    refine br_f (by decide) ?_
    refine br_t (by decide) ?_
    exact ⟨rfl, same⟩
  · refine br_f (by decide) ?_
    refine br_f (by decide) ?_
    refine br_f (by decide) ?_
    refine br_f (by decide) ?_
    refine br_t (by decide) ?_
    refine br_f (by decide) ?_
    refine br_f (by decide) ?_
    refine br_f (by decide) ?_
    refine br_f (by decide) ?_
    refine br_f (by decide) ?_
    refine zy_aw 0 hR ht (by omega) (by omega) rfl ?_
    exact ⟨rfl, same⟩
  · refine br_f (by decide) ?_
    refine br_f (by decide) ?_
    refine br_f (by decide) ?_
    refine br_f (by decide) ?_
    refine br_f (by decide) ?_
    refine br_t (by decide) ?_
    refine br_f (by decide) ?_
    refine br_f (by decide) ?_
    refine br_f (by decide) ?_
    refine br_f (by decide) ?_
    refine br_f (by decide) ?_
    refine zy_aw 1 hR ht (by omega) (by omega) rfl ?_
    exact ⟨rfl, same⟩
  · refine br_f (by decide) ?_
    refine br_f (by decide) ?_
    refine br_f (by decide) ?_
    refine br_f (by decide) ?_
    refine br_f (by decide) ?_
    refine br_f (by decide) ?_
    refine br_t (by decide) ?_
    refine br_f (by decide) ?_
    refine br_f (by decide) ?_
    refine br_f (by decide) ?_
    refine br_f (by decide) ?_
    refine br_f (by decide) ?_
    refine zy_aw 2 hR ht (by omega) (by omega) rfl ?_
    exact ⟨rfl, same⟩
  · refine br_f (by decide) ?_
    refine br_f (by decide) ?_
    refine br_f (by decide) ?_
    refine br_f (by decide) ?_
    refine br_f (by decide) ?_
    refine br_f (by decide) ?_
    refine br_f (by decide) ?_
    refine br_t (by decide) ?_
    refine br_f (by decide) ?_
    refine br_f (by decide) ?_
    refine br_f (by decide) ?_
    refine br_f (by decide) ?_
    refine br_f (by decide) ?_
    refine zy_aw 3 hR ht (by omega) (by omega) rfl ?_
    exact ⟨rfl, same⟩
  · refine br_f (by decide) ?_
    refine br_f (by decide) ?_
    refine br_f (by decide) ?_
    refine br_f (by decide) ?_
    refine br_f (by decide) ?_
    refine br_f (by decide) ?_
    refine br_f (by decide) ?_
    refine br_f (by decide) ?_
    refine br_t (by decide) ?_
    refine br_f (by decide) ?_
    refine br_f (by decide) ?_
    refine br_f (by decide) ?_
    refine br_f (by decide) ?_
    refine br_f (by decide) ?_
    refine zy_aw 4 hR ht (by omega) (by omega) rfl ?_
    exact ⟨rfl, same⟩
  · refine br_f (by decide) ?_
    refine br_f (by decide) ?_
    refine br_f (by decide) ?_
    refine br_f (by decide) ?_
    refine br_f (by decide) ?_
    refine br_f (by decide) ?_
    refine br_f (by decide) ?_
    refine br_f (by decide) ?_
    refine br_f (by decide) ?_
    refine br_t (by decide) ?_
    refine br_f (by decide) ?_
    refine br_f (by decide) ?_
    refine br_t (by decide) ?_
    exact ⟨rfl, same⟩
  · refine br_f (by decide) ?_
    refine br_f (by decide) ?_
    refine br_f (by decide) ?_
    refine br_f (by decide) ?_
    refine br_f (by decide) ?_
    refine br_f (by decide) ?_
    refine br_f (by decide) ?_
    refine br_f (by decide) ?_
    refine br_f (by decide) ?_
    refine br_f (by decide) ?_
    refine br_t (by decide) ?_
    refine br_f (by decide) ?_
    refine br_f (by decide) ?_
    refine br_f (by decide) ?_
    refine br_f (by decide) ?_
    refine br_f (by decide) ?_
    refine zy_aw 5 hR ht (by omega) (by omega) rfl ?_
    exact ⟨rfl, same⟩
  · refine br_f (by decide) ?_
    refine br_f (by decide) ?_
    refine br_f (by decide) ?_
    refine br_f (by decide) ?_
    refine br_f (by decide) ?_
    refine br_f (by decide) ?_
    refine br_f (by decide) ?_
    refine br_f (by decide) ?_
    refine br_f (by decide) ?_
    refine br_f (by decide) ?_
    refine br_f (by decide) ?_
    refine br_t (by decide) ?_
    refine br_f (by decide) ?_
    refine br_f (by decide) ?_
    refine br_f (by decide) ?_
    refine br_f (by decide) ?_
    refine br_f (by decide) ?_
    refine zy_a6 hR ht rfl ?_
    exact ⟨rfl, same⟩
  · refine br_f (by decide) ?_
    refine br_f (by decide) ?_
    refine br_f (by decide) ?_
    refine br_f (by decide) ?_
    refine br_f (by decide) ?_
    refine br_f (by decide) ?_
    refine br_f (by decide) ?_
    refine br_f (by decide) ?_
    refine br_f (by decide) ?_
    refine br_f (by decide) ?_
    refine br_f (by decide) ?_
    refine br_f (by decide) ?_
    refine br_t (by decide) ?_
    refine br_f (by decide) ?_
    refine br_f (by decide) ?_
    refine br_f (by decide) ?_
    refine br_f (by decide) ?_
    refine br_f (by decide) ?_
    refine zy_aw 7 hR ht (by omega) (by omega) rfl ?_
    exact ⟨rfl, same⟩
  · refine br_f (by decide) ?_
    refine br_f (by decide) ?_
    refine br_f (by decide) ?_
    refine br_f (by decide) ?_
    refine br_f (by decide) ?_
    refine br_f (by decide) ?_
    refine br_f (by decide) ?_
    refine br_f (by decide) ?_
    refine br_f (by decide) ?_
    refine br_f (by decide) ?_
    refine br_f (by decide) ?_
    refine br_f (by decide) ?_
    refine br_f (by decide) ?_
    refine br_t (by decide) ?_
    refine br_f (by decide) ?_
    refine br_f (by decide) ?_
    refine br_f (by decide) ?_
    refine br_f (by decide) ?_
    refine br_t (by decide) ?_
    refine br_t (by decide) ?_
    exact ⟨rfl, same⟩
  · refine br_f (by decide) ?_
    refine br_f (by decide) ?_
    refine br_f (by decide) ?_
    refine br_f (by decide) ?_
    refine br_f (by decide) ?_
    refine br_f (by decide) ?_
    refine br_f (by decide) ?_
    refine br_f (by decide) ?_
    refine br_f (by decide) ?_
    refine br_f (by decide) ?_
    refine br_f (by decide) ?_
    refine br_f (by decide) ?_
    refine br_f (by decide) ?_
    refine br_f (by decide) ?_
    refine br_t (by decide) ?_
    refine br_f (by decide) ?_
    refine br_f (by decide) ?_
    refine br_f (by decide) ?_
    refine br_f (by decide) ?_
    refine br_t (by decide) ?_
    refine br_f (by decide) ?_
    refine br_t (by decide) ?_
    exact ⟨rfl, same⟩
  · refine br_f (by decide) ?_
    refine br_f (by decide) ?_
    refine br_f (by decide) ?_
    refine br_f (by decide) ?_
    refine br_f (by decide) ?_
    refine br_f (by decide) ?_
    refine br_f (by decide) ?_
    refine br_f (by decide) ?_
    refine br_f (by decide) ?_
    refine br_f (by decide) ?_
    refine br_f (by decide) ?_
    refine br_f (by decide) ?_
    refine br_f (by decide) ?_
    refine br_f (by decide) ?_
    refine br_f (by decide) ?_
    refine br_t (by decide) ?_
    refine br_f (by decide) ?_
    refine br_f (by decide) ?_
    refine br_f (by decide) ?_
    refine br_f (by decide) ?_
    refine br_t (by decide) ?_
    refine br_f (by decide) ?_
    refine br_f (by decide) ?_
    refine br_t (by decide) ?_
    exact ⟨rfl, same⟩
  · refine br_f (by decide) ?_
    refine br_f (by decide) ?_
    refine br_f (by decide) ?_
    refine br_f (by decide) ?_
    refine br_f (by decide) ?_
    refine br_f (by decide) ?_
    refine br_f (by decide) ?_
    refine br_f (by decide) ?_
    refine br_f (by decide) ?_
    refine br_f (by decide) ?_
    refine br_f (by decide) ?_
    refine br_f (by decide) ?_
    refine br_f (by decide) ?_
    refine br_f (by decide) ?_
    refine br_f (by decide) ?_
    refine br_f (by decide) ?_
    refine br_t (by decide) ?_
    refine br_f (by decide) ?_
    refine br_f (by decide) ?_
    refine br_f (by decide) ?_
    refine br_f (by decide) ?_
    refine br_t (by decide) ?_
    refine br_f (by decide) ?_
    refine br_f (by decide) ?_
    refine br_f (by decide) ?_
    refine br_t (by decide) ?_
    exact ⟨rfl, same⟩
  · refine br_f (by decide) ?_
    refine br_f (by decide) ?_
    refine br_f (by decide) ?_
    refine br_f (by decide) ?_
    refine br_f (by decide) ?_
    refine br_f (by decide) ?_
    refine br_f (by decide) ?_
    refine br_f (by decide) ?_
    refine br_f (by decide) ?_
    refine br_f (by decide) ?_
    refine br_f (by decide) ?_
    refine br_f (by decide) ?_
    refine br_f (by decide) ?_
    refine br_f (by decide) ?_
    refine br_f (by decide) ?_
    refine br_f (by decide) ?_
    refine br_f (by decide) ?_
    refine br_t (by decide) ?_
    refine br_f (by decide) ?_
    refine br_f (by decide) ?_
    refine br_f (by decide) ?_
    refine br_f (by decide) ?_
    refine br_t (by decide) ?_
    refine br_f (by decide) ?_
    refine br_f (by decide) ?_
    refine br_f (by decide) ?_
    refine br_f (by decide) ?_
    refine br_t (by decide) ?_
    exact ⟨rfl, same⟩
theorem i_vc_memory {k : Nat} {u : SX} {v : SY} (I : i_Rel k u v) (hk : k + 5 ≤ 2564) (v1 : Int32) : wpX_memory (fun r => wpY_memory (fun r' => r' = r ∧ i_Rel (k + 5) u v) v v1) u v1 := by
  refine zz_el (Q := fun u v => wpX_memory (fun r => wpY_memory (fun r' => r' = r ∧ i_Rel (k + 5) u v) v v1) u v1) ?_ I
  intro P G T tm en sg cc fc di ct cp po fp h hX hY
  have same : i_Rel (k + 5) (zx_S P G tm en sg di cc fc (mp_tr P tm) ct cp po fp) (zy_S P G tm en h) := zz_in hX hY
  have hle := zz_le hX
  have hms := hX.1.2.1
  have hen : ¬ nI tm < 0 := nI_pos (by omega)
  have hen2 : ¬ nI en < nI tm := nI_nlt hle.2.2 (by omega)
  have yy : ∀ (r : Int32), ((v1 < 0 → r = 0) ∧ (¬ v1 < 0 → ¬ v1 < nI (zp_ms P) → r = 0) ∧ (∀ a, a < zp_ms P → v1 = nI a → r = mp_tr P tm (32 + a))) → wpY_memory (fun r' => r' = r ∧ i_Rel (k + 5) (zx_S P G tm en sg di cc fc (mp_tr P tm) ct cp po fp) (zy_S P G tm en h)) (zy_S P G tm en h) v1 := by
    intro r ⟨c1, c2, c3⟩
    unfold wpY_memory
    refine br_f hen (br_f hen2 (br_c (fun z => ⟨(c1 z).symm, same⟩) (fun z => br_c (fun z2 => ?_) (fun z2 => ⟨(c2 z z2).symm, same⟩))))
    obtain ⟨a, ha, rfl⟩ := nI_of z
    have ha2 : a < zp_ms P := (nI_ltI ha (by omega)).mp z2
    exact zy_aw (32 + a) (hY tm hle.2.2) hle.2.1 (by omega) (by omega) (by rw [zr_m (by omega)]; exact nI_add 72 a) ⟨(c3 a ha2 rfl).symm, same⟩
  refine br_c (fun z => yy 0 ⟨fun _ => rfl, fun z2 => absurd z z2, fun a ha e => absurd z (by rw [e]; exact nI_pos (by omega))⟩) (fun z => br_c (fun z2 => ?_) (fun z2 => yy 0 ⟨fun _ => rfl, fun _ _ => rfl, fun a ha e => absurd (by rw [e]; exact nI_lt ha (by omega)) z2⟩))
  obtain ⟨a, ha, rfl⟩ := nI_of z
  have ha2 : a < zp_ms P := (nI_ltI ha (by omega)).mp z2
  refine And.intro (by rw [zc_32]; exact vp_in_nI (by omega) (by omega)) ?_
  rw [zc_32, nI_clamp (by omega)]
  exact yy _ ⟨fun y => absurd y z, fun _ y => absurd z2 y, fun b hb e => by rw [zc_inj e (by omega) (by omega)]⟩
theorem i_vc_stack {k : Nat} {u : SX} {v : SY} (I : i_Rel k u v) (hk : k + 5 ≤ 2564) (v1 : Int32) : wpX_stack (fun r => wpY_stack (fun r' => r' = r ∧ i_Rel (k + 5) u v) v v1) u v1 := by
  refine zz_el (Q := fun u v => wpX_stack (fun r => wpY_stack (fun r' => r' = r ∧ i_Rel (k + 5) u v) v v1) u v1) ?_ I
  intro P G T tm en sg cc fc di ct cp po fp h hX hY
  have same : i_Rel (k + 5) (zx_S P G tm en sg di cc fc (mp_tr P tm) ct cp po fp) (zy_S P G tm en h) := zz_in hX hY
  have hle := zz_le hX
  have hw := mp_wft hX.1 tm
  have hd := hw.2.1
  have hss := hX.1.2.2.2.1
  refine br_c (fun z => br_t z ⟨rfl, same⟩) (fun z => br_c (fun z2 => ?_) (fun z2 => br_f z (zy_aw 2 (hY tm hle.2.2) hle.2.1 (by omega) (by omega) rfl (br_f z2 ⟨rfl, same⟩))))
  obtain ⟨j, hj, rfl⟩ := nI_of z
  have hj2 : j < zl_D (mp_tr P tm) := by
    rw [hw.1] at z2
    exact (nI_ltI hj (by omega)).mp z2
  refine And.intro (by rw [zc_8]; exact vp_in_nI (by omega) (by omega)) ?_
  rw [zc_8, nI_clamp (by omega)]
  refine br_f z (zy_aw 2 (hY tm hle.2.2) hle.2.1 (by omega) (by omega) rfl (br_t z2 ?_))
  exact zy_aw (8 + j) (hY tm hle.2.2) hle.2.1 (by omega) (by omega) (by rw [zr_s (by omega)]; exact nI_add 16 j) ⟨rfl, same⟩
theorem i_vc_frame {k : Nat} {u : SX} {v : SY} (I : i_Rel k u v) (hk : k + 5 ≤ 2564) (v1 : Int32) : wpX_frame (fun r => wpY_frame (fun r' => r' = r ∧ i_Rel (k + 5) u v) v v1) u v1 := by
  refine zz_el (Q := fun u v => wpX_frame (fun r => wpY_frame (fun r' => r' = r ∧ i_Rel (k + 5) u v) v v1) u v1) ?_ I
  intro P G T tm en sg cc fc di ct cp po fp h hX hY
  have same : i_Rel (k + 5) (zx_S P G tm en sg di cc fc (mp_tr P tm) ct cp po fp) (zy_S P G tm en h) := zz_in hX hY
  have hle := zz_le hX
  have hw := mp_wft hX.1 tm
  have hd := hw.2.2.2.1
  have hss := hX.1.2.2.2.2.2.1
  refine br_c (fun z => br_t z ⟨rfl, same⟩) (fun z => br_c (fun z2 => ?_) (fun z2 => br_f z (zy_aw 3 (hY tm hle.2.2) hle.2.1 (by omega) (by omega) rfl (br_f z2 ⟨rfl, same⟩))))
  obtain ⟨j, hj, rfl⟩ := nI_of z
  have hj2 : j < zl_F (mp_tr P tm) := by
    rw [hw.2.2.1] at z2
    exact (nI_ltI hj (by omega)).mp z2
  refine And.intro (by rw [zc_24]; exact vp_in_nI (by omega) (by omega)) ?_
  rw [zc_24, nI_clamp (by omega)]
  refine br_f z (zy_aw 3 (hY tm hle.2.2) hle.2.1 (by omega) (by omega) rfl (br_t z2 ?_))
  exact zy_aw (24 + j) (hY tm hle.2.2) hle.2.1 (by omega) (by omega) (by rw [zr_f (by omega)]; exact nI_add 32 j) ⟨rfl, same⟩
theorem i_vc_output {k : Nat} {u : SX} {v : SY} (I : i_Rel k u v) (hk : k + 5 ≤ 2564) (v1 : Int32) : wpX_output (fun r => wpY_output (fun r' => r' = r ∧ i_Rel (k + 5) u v) v v1) u v1 := by
  refine zz_el (Q := fun u v => wpX_output (fun r => wpY_output (fun r' => r' = r ∧ i_Rel (k + 5) u v) v v1) u v1) ?_ I
  intro P G T tm en sg cc fc di ct cp po fp h hX hY
  have same : i_Rel (k + 5) (zx_S P G tm en sg di cc fc (mp_tr P tm) ct cp po fp) (zy_S P G tm en h) := zz_in hX hY
  have hle := zz_le hX
  have hw := mp_wft hX.1 tm
  have hd := hw.2.2.2.2.2.1
  refine br_c (fun z => br_t z ⟨rfl, same⟩) (fun z => br_c (fun z2 => ?_) (fun z2 => br_f z (zy_aw 5 (hY tm hle.2.2) hle.2.1 (by omega) (by omega) rfl (br_f z2 ⟨rfl, same⟩))))
  obtain ⟨j, hj, rfl⟩ := nI_of z
  have hj2 : j < zl_O (mp_tr P tm) := by
    rw [hw.2.2.2.2.1] at z2
    exact (nI_ltI hj (by omega)).mp z2
  refine And.intro (by rw [zc_96]; exact vp_in_nI (by omega) (by omega)) ?_
  rw [zc_96, nI_clamp (by omega)]
  refine br_f z (zy_aw 5 (hY tm hle.2.2) hle.2.1 (by omega) (by omega) rfl (br_t z2 ?_))
  exact zy_aw (96 + j) (hY tm hle.2.2) hle.2.1 (by omega) (by omega) (by rw [zr_o (by omega)]; exact nI_add 40 j) ⟨rfl, same⟩
theorem i_vc_input {k : Nat} {u : SX} {v : SY} (I : i_Rel k u v) (hk : k + 5 ≤ 2564) (v1 : Int32) : wpX_input (fun r => wpY_input (fun r' => r' = r ∧ i_Rel (k + 5) u v) v v1) u v1 := by
  refine zz_el (Q := fun u v => wpX_input (fun r => wpY_input (fun r' => r' = r ∧ i_Rel (k + 5) u v) v v1) u v1) ?_ I
  intro P G T tm en sg cc fc di ct cp po fp h hX hY
  have same : i_Rel (k + 5) (zx_S P G tm en sg di cc fc (mp_tr P tm) ct cp po fp) (zy_S P G tm en h) := zz_in hX hY
  have hle := zz_le hX
  have hic := hX.1.2.2.2.2.2.2.2.2.2.1
  refine br_c (fun z => br_t z ⟨rfl, same⟩) (fun z => br_c (fun z2 => ?_) (fun z2 => br_f z (br_f z2 ⟨rfl, same⟩)))
  obtain ⟨j, hj, rfl⟩ := nI_of z
  have hj2 : j < zp_ic P := (nI_ltI hj (by omega)).mp z2
  have hi : vp_in (nI j) 32 := vp_in_nI (by omega) (by omega)
  exact And.intro hi (br_f z (br_t z2 (And.intro hi ⟨rfl, same⟩)))
theorem i_vc_setting {k : Nat} {u : SX} {v : SY} (I : i_Rel k u v) (hk : k + 5 ≤ 2564) (v1 : Int32) (v2 : Int32) : wpX_setting (fun r => wpY_setting (fun r' => r' = r ∧ i_Rel (k + 5) u v) v v1 v2) u v1 v2 := by
  refine zz_el (Q := fun u v => wpX_setting (fun r => wpY_setting (fun r' => r' = r ∧ i_Rel (k + 5) u v) v v1 v2) u v1 v2) ?_ I
  intro P G T tm en sg cc fc di ct cp po fp h hX hY
  have same : i_Rel (k + 5) (zx_S P G tm en sg di cc fc (mp_tr P tm) ct cp po fp) (zy_S P G tm en h) := zz_in hX hY
  have hle := zz_le hX
  have hpl := hX.1.2.2.2.2.2.2.2.2.1
  refine br_c (fun z => ?_) (fun z => br_f z ⟨rfl, same⟩)
  have z' : ¬ v2 < 0 := Int32.not_lt.mpr z
  have i64 : ¬ (64 : Int32) ≤ v2 → vp_in v2 64 := by
    intro y
    obtain ⟨j, hj, e⟩ := nI_of z'
    rw [e] at y ⊢
    have : j < 64 := by
      rcases Nat.lt_or_ge j 64 with q | q
      · exact q
      · exact absurd (nI_le q hj) y
    exact vp_in_nI this (by omega)
  have i4 : ¬ (4 : Int32) ≤ v2 → vp_in v2 4 := by
    intro y
    obtain ⟨j, hj, e⟩ := nI_of z'
    rw [e] at y ⊢
    have : j < 4 := by
      rcases Nat.lt_or_ge j 4 with q | q
      · exact q
      · exact absurd (nI_le q hj) y
    exact vp_in_nI this (by omega)
  have ipl : ¬ nI (zp_pl P) ≤ v2 → vp_in v2 64 := fun y => hn_in hX.1 z' y
  have none : (∀ j : Nat, j < 6 → ¬ v1 = nI j) → wpY_setting (fun r' => r' = 0 ∧ i_Rel (k + 5) (zx_S P G tm en sg di cc fc (mp_tr P tm) ct cp po fp) (zy_S P G tm en h)) (zy_S P G tm en h) v1 v2 := fun n => br_t z (br_f (n 0 (by omega)) (br_f (n 1 (by omega)) (br_f (n 2 (by omega)) (br_f (n 3 (by omega)) (br_f (n 4 (by omega)) (br_f (n 5 (by omega)) ⟨rfl, same⟩))))))
  by_cases y1 : v1 < 0
  · exact br_t y1 (none (fun j hj e => by rw [e] at y1; exact nI_pos (by omega) y1))
  by_cases y2 : 5 < v1
  · exact br_f y1 (br_t y2 (none (fun j hj e => by rw [e] at y2; exact nI_nlt (b := j) (a := 5) (by omega) (by omega) y2)))
  obtain ⟨j, hj, rfl⟩ := nI_of2 (M := 5) (n := 5) rfl y1 (Int32.not_lt.mp y2)
  rcases (by omega : j = 0 ∨ j = 1 ∨ j = 2 ∨ j = 3 ∨ j = 4 ∨ j = 5) with rfl | rfl | rfl | rfl | rfl | rfl
  · refine br_f (by decide) ?_
    refine br_f (by decide) ?_
    refine br_t (by decide) ?_
    by_cases q : nI (zp_pl P) ≤ v2
    · exact br_t q (br_t z (br_t (by decide) (br_t q (br_f (by decide) (br_f (by decide) (br_f (by decide) (br_f (by decide) (br_f (by decide) (⟨rfl, same⟩)))))))))
    · exact br_f q (And.intro (ipl q) (br_t z (br_t (by decide) (br_f q (And.intro (ipl q) ⟨rfl, same⟩)))))
  · refine br_f (by decide) ?_
    refine br_f (by decide) ?_
    refine br_f (by decide) ?_
    refine br_t (by decide) ?_
    by_cases q : nI (zp_pl P) ≤ v2
    · exact br_t q (br_t z (br_f (by decide) (br_t (by decide) (br_t q (br_f (by decide) (br_f (by decide) (br_f (by decide) (br_f (by decide) (⟨rfl, same⟩)))))))))
    · exact br_f q (And.intro (ipl q) (br_t z (br_f (by decide) (br_t (by decide) (br_f q (And.intro (ipl q) ⟨rfl, same⟩))))))
  · refine br_f (by decide) ?_
    refine br_f (by decide) ?_
    refine br_f (by decide) ?_
    refine br_f (by decide) ?_
    refine br_t (by decide) ?_
    by_cases q : (64 : Int32) ≤ v2
    · exact br_t q (br_t z (br_f (by decide) (br_f (by decide) (br_t (by decide) (br_t q (br_f (by decide) (br_f (by decide) (br_f (by decide) (⟨rfl, same⟩)))))))))
    · refine br_f q (And.intro (i64 q) (br_c (fun q2 => br_t z (br_f (by decide) (br_f (by decide) (br_t (by decide) (br_f q (And.intro (i64 q) (br_t q2 ⟨rfl, same⟩))))))) (fun q2 => br_t z (br_f (by decide) (br_f (by decide) (br_t (by decide) (br_f q (And.intro (i64 q) (br_f q2 ⟨rfl, same⟩)))))))))
  · refine br_f (by decide) ?_
    refine br_f (by decide) ?_
    refine br_f (by decide) ?_
    refine br_f (by decide) ?_
    refine br_f (by decide) ?_
    refine br_t (by decide) ?_
    by_cases q : (4 : Int32) ≤ v2
    · exact br_t q (br_t z (br_f (by decide) (br_f (by decide) (br_f (by decide) (br_t (by decide) (br_t q (br_f (by decide) (br_f (by decide) (⟨rfl, same⟩)))))))))
    · exact br_f q (And.intro (i4 q) (br_t z (br_f (by decide) (br_f (by decide) (br_f (by decide) (br_t (by decide) (br_f q (And.intro (i4 q) ⟨rfl, same⟩))))))))
  · refine br_f (by decide) ?_
    refine br_f (by decide) ?_
    refine br_f (by decide) ?_
    refine br_f (by decide) ?_
    refine br_f (by decide) ?_
    refine br_f (by decide) ?_
    refine br_t (by decide) ?_
    by_cases q : (4 : Int32) ≤ v2
    · exact br_t q (br_t z (br_f (by decide) (br_f (by decide) (br_f (by decide) (br_f (by decide) (br_t (by decide) (br_t q (br_f (by decide) (⟨rfl, same⟩)))))))))
    · exact br_f q (And.intro (i4 q) (br_t z (br_f (by decide) (br_f (by decide) (br_f (by decide) (br_f (by decide) (br_t (by decide) (br_f q (And.intro (i4 q) ⟨rfl, same⟩)))))))))
  · refine br_f (by decide) ?_
    refine br_f (by decide) ?_
    refine br_f (by decide) ?_
    refine br_f (by decide) ?_
    refine br_f (by decide) ?_
    refine br_f (by decide) ?_
    refine br_f (by decide) ?_
    refine br_t (by decide) ?_
    by_cases q : (4 : Int32) ≤ v2
    · exact br_t q (br_t z (br_f (by decide) (br_f (by decide) (br_f (by decide) (br_f (by decide) (br_f (by decide) (br_t (by decide) (br_t q (⟨rfl, same⟩)))))))))
    · exact br_f q (And.intro (i4 q) (br_t z (br_f (by decide) (br_f (by decide) (br_f (by decide) (br_f (by decide) (br_f (by decide) (br_t (by decide) (br_f q (And.intro (i4 q) ⟨rfl, same⟩))))))))))
def zi_c (x lo hi : Int32) : Int32 := if lo ≤ x then (if x ≤ hi then x else hi) else lo
theorem zi_X {post : Int32 → Prop} {x lo hi : Int32} (u : SX) (c : post (zi_c x lo hi)) : wpX_clamp post u x lo hi := by
  obtain ⟨a0, a1, a2, a3, a4, a5, a6, a7, a8, a9, a10, a11, a12, a13, a14, a15, a16, a17, a18, a19, a20, a21, a22, a23, a24, a25, a26, a27, a28, a29, a30, a31, a32, a33, a34, a35, a36, a37, a38, a39, a40, a41⟩ := u
  exact br_c (fun z => br_c (fun z2 => zc_eq (Q := post) ((if_pos z).trans (if_pos z2)) c) (fun z2 => zc_eq (Q := post) ((if_pos z).trans (if_neg z2)) c)) (fun z => zc_eq (Q := post) (if_neg z) c)
theorem zi_Y {post : Int32 → Prop} {x lo hi : Int32} (u : SY) (c : post (zi_c x lo hi)) : wpY_clamp post u x lo hi := by
  obtain ⟨a0, a1, a2, a3, a4, a5, a6, a7, a8, a9, a10, a11, a12, a13, a14, a15, a16⟩ := u
  exact br_c (fun z => br_c (fun z2 => zc_eq (Q := post) ((if_pos z).trans (if_pos z2)) c) (fun z2 => zc_eq (Q := post) ((if_pos z).trans (if_neg z2)) c)) (fun z => zc_eq (Q := post) (if_neg z) c)
theorem zi_n (x : Int32) {a b : Nat} (hab : a ≤ b) (hb : b < 2 ^ 31) : ∃ n, a ≤ n ∧ n ≤ b ∧ zi_c x (nI a) (nI b) = nI n := by
  unfold zi_c
  by_cases z : nI a ≤ x
  · rw [if_pos z]
    by_cases z2 : x ≤ nI b
    · rw [if_pos z2]
      obtain ⟨j, hj, e⟩ := nI_of (x := x) (fun y => absurd (Int32.lt_of_le_of_lt z y) (nI_pos (by omega)))
      rw [e] at z z2 ⊢
      exact ⟨j, (nI_leI (by omega) hj).mp z, (nI_leI hj hb).mp z2, rfl⟩
    · rw [if_neg z2]; exact ⟨b, hab, Nat.le_refl _, rfl⟩
  · rw [if_neg z]; exact ⟨a, Nat.le_refl _, hab, rfl⟩
theorem zi_253 {post : SX → Prop} {P : zp_P} {G : zg_G} (c : ∀ fp, (∀ q, q < 192 → fp q = nI q) → post (zx_S P G 0 0 0 0 1 192 (fun _ => 0) (fun _ => 0) (fun _ => 0) (fun _ => 0) fp)) : ∀ m n i fp, i + m = 192 → m < n → (∀ q, q < i → fp q = nI q) → zxw_init_253 post n (nI i) (zx_S P G 0 0 0 0 0 0 (fun _ => 0) (fun _ => 0) (fun _ => 0) (fun _ => 0) fp) := by
  intro m
  induction m with
  | zero =>
    intro n i fp hi hn hf
    obtain ⟨n, rfl⟩ : ∃ j, n = j + 1 := ⟨n - 1, by omega⟩
    obtain rfl : i = 192 := by omega
    exact br_t (by decide) (c fp hf)
  | succ m ih =>
    intro n i fp hi hn hf
    obtain ⟨n, rfl⟩ : ∃ j, n = j + 1 := ⟨n - 1, by omega⟩
    refine br_f (nI_ge (b := 192) (by omega) (by omega)) (And.intro (vp_in_nI (by omega) (by omega)) (nm_r (e' := upd fp i (nI i)) (by rw [nI_clamp (by omega)]) (nm_r (nI_1 i) (ih n (i + 1) _ (by omega) (by omega) (fun q hq => ?_)))))
    by_cases e : q = i
    · subst e; rw [pk_us]
    · rw [pk_un e]; exact hf q (by omega)
theorem zi_rel {a b c d : Nat} {fp : Nat → Int32} (ha : 8 ≤ a ∧ a ≤ 64) (hb : 4 ≤ b ∧ b ≤ 16) (hc : 2 ≤ c ∧ c ≤ 8) (hd : 16 ≤ d ∧ d ≤ 1000) (hf : ∀ q, q < 192 → fp q = nI q) : i_Rel 4 (zx_S (a, b, c, d, 0, 0, (fun _ => 0), (fun _ => 0), (fun _ => 0)) (0, (fun _ => 0), (fun _ => 0), (fun _ => 0), (fun _ => 0)) 0 0 0 0 1 192 (fun _ => 0) (fun _ => 0) (fun _ => 0) (fun _ => 0) fp) (zy_S (a, b, c, d, 0, 0, (fun _ => 0), (fun _ => 0), (fun _ => 0)) (0, (fun _ => 0), (fun _ => 0), (fun _ => 0), (fun _ => 0)) 0 0 (upd (fun _ => 0) 9 (-1))) := by
  have hcnt : ∀ n, zg_cnt (fun _ => 0) n = 0 := by
    intro n
    induction n with
    | zero => rfl
    | succ n ih => show zg_cnt (fun _ => 0) n + (if (0 : Int32) = 0 then 0 else 1) = 0; rw [ih, if_pos rfl]
  refine zz_in (P := (a, b, c, d, 0, 0, (fun _ => 0), (fun _ => 0), (fun _ => 0))) (G := (0, (fun _ => 0), (fun _ => 0), (fun _ => 0), (fun _ => 0))) (T := fun _ => 0) ⟨?_, ⟨(hcnt 64).symm, fun i _ => ⟨0, by show 0 < a; omega, rfl⟩, fun _ => Or.inl rfl⟩, ⟨⟨Nat.le_refl _, by omega, rfl, fun x hx => ⟨rfl, Nat.zero_le _⟩, fun x hx => absurd hx (by omega)⟩, fun x p hx => absurd hx (by omega), ⟨Nat.le_refl _, fun i hi => ⟨i, hi, hf i hi⟩, fun i j hi hj e => ?_, fun i q hi hq => absurd hq.1 (by have := hq.2; omega), fun q q' hq => absurd hq.1 (by have := hq.2; omega)⟩⟩, ⟨by omega, Nat.le_refl _, fun y => absurd y (by omega), fun p _ _ => zu_refl⟩, Nat.le_refl _, Nat.le_refl _, Nat.zero_le _, fun t ht => absurd ht (by omega), fun t ht => ?_⟩ (fun t ht => ?_)
  · exact ⟨ha.1, ha.2, hb.1, hb.2, hc.1, hc.2, hd.1, hd.2, Nat.zero_le _, Nat.zero_le _, fun i hi => absurd hi (Nat.not_lt_zero i)⟩
  · rw [hf i hi, hf j hj] at e
    exact zc_inj e (by omega) (by omega)
  · obtain rfl : t = 0 := by omega
    exact ⟨0, Nat.zero_le _, rfl⟩
  · obtain rfl : t = 0 := by omega
    intro x hx
    show upd (fun _ => 0) 9 (-1) (0 * 136 + zr_en x) = zr_ev x 0
    by_cases e : x = 6
    · subst e; decide
    · rw [zr_e6 e, pk_un]
      intro y
      exact e (zr_inj hx (by omega : (6 : Nat) < 128) (by rw [show zr_en 6 = 9 from rfl]; omega))
theorem i_vc0 (k0 : Int32) (k1 : Int32) (k2 : Int32) (k3 : Int32) : wpX_init (fun u => wpY_init (fun v => i_Rel 4 u v) k0 k1 k2 k3) k0 k1 k2 k3 := by
  obtain ⟨a, ha1, ha2, ea⟩ := zi_n k0 (a := 8) (b := 64) (by omega) (by omega)
  obtain ⟨b, hb1, hb2, eb⟩ := zi_n k1 (a := 4) (b := 16) (by omega) (by omega)
  obtain ⟨c, hc1, hc2, ec⟩ := zi_n k2 (a := 2) (b := 8) (by omega) (by omega)
  obtain ⟨d, hd1, hd2, ed⟩ := zi_n k3 (a := 16) (b := 1000) (by omega) (by omega)
  unfold wpX_init
  refine zi_X _ ?_
  refine zi_X _ ?_
  refine zi_X _ ?_
  refine zi_X _ ?_
  refine ⟨193, ?_⟩
  have key : ∀ fp : Nat → Int32, (∀ q, q < 192 → fp q = nI q) → wpY_init (fun v => i_Rel 4 (zx_S (a, b, c, d, 0, 0, (fun _ => 0), (fun _ => 0), (fun _ => 0)) (0, (fun _ => 0), (fun _ => 0), (fun _ => 0), (fun _ => 0)) 0 0 0 0 1 192 (fun _ => 0) (fun _ => 0) (fun _ => 0) (fun _ => 0) fp) v) k0 k1 k2 k3 := by
    intro fp hf
    refine And.intro (by decide) (nm_r (e' := 136136) (by decide) (And.intro (Nat.le_refl _) ?_))
    refine zi_Y _ ?_
    refine zi_Y _ ?_
    refine zi_Y _ ?_
    refine zi_Y _ ?_
    refine And.intro (vp_in_nI (n := 9) (by omega) (by omega)) (nm_r (e' := upd (fun _ => 0) 9 (-1)) (by rfl) ?_)
    show i_Rel 4 _ (zi_c k0 (nI 8) (nI 64), zi_c k1 (nI 4) (nI 16), zi_c k2 (nI 2) (nI 8), zi_c k3 (nI 16) (nI 1000), 0, 0, 0, 0, upd (fun _ => 0) 9 (-1), (fun _ => 0), (fun _ => 0), (fun _ => 0), (fun _ => 0), (fun _ => 0), (fun _ => 0), (fun _ => 0), 136136)
    rw [ea, eb, ec, ed]
    exact zi_rel ⟨ha1, ha2⟩ ⟨hb1, hb2⟩ ⟨hc1, hc2⟩ ⟨hd1, hd2⟩ hf
  have L := zi_253 (P := (a, b, c, d, 0, 0, (fun _ => 0), (fun _ => 0), (fun _ => 0))) (G := (0, (fun _ => 0), (fun _ => 0), (fun _ => 0), (fun _ => 0))) (post := fun u => wpY_init (fun v => i_Rel 4 u v) k0 k1 k2 k3) key 192 193 0 (fun _ => 0) rfl (by omega) (fun q hq => absurd hq (by omega))
  show wX_init_253 _ 0 1 2 3 4 5 6 7 8 24 32 96 16 8 32 192 8 (zi_c k0 (nI 8) (nI 64)) (zi_c k1 (nI 4) (nI 16)) (zi_c k2 (nI 2) (nI 8)) (zi_c k3 (nI 16) (nI 1000)) 0 0 0 0 0 0 0 0 0 193 0 (fun _ => 0) (fun _ => 0) (fun _ => 0) (fun _ => 0) (fun _ => 0) (fun _ => 0) (fun _ => 0) (fun _ => 0) (fun _ => 0) (fun _ => 0) (fun _ => 0) (fun _ => 0)
  rw [ea, eb, ec, ed]
  exact L
end
