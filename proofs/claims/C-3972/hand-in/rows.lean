section
/-! pure rows to paste: stores, nI and lN arithmetic, masks, shifts, narrowing, branches by naturals (pk_le, pk_lt, pk_eq), loops (lp1 .. lp16: the measure of the state; rp1 ..: recursion), negatives. Take what you need -/
theorem pk_us {f : Nat → Int32} {k : Nat} {x : Int32} : upd f k x k = x := if_pos rfl
theorem pk_un {f : Nat → Int32} {k j : Nat} {x : Int32} (h : j ≠ k) : upd f k x j = f j := if_neg h
theorem pk_uLs {f : Nat → Int64} {k : Nat} {x : Int64} : vp_updL f k x k = x := if_pos rfl
theorem pk_uLn {f : Nat → Int64} {k j : Nat} {x : Int64} (h : j ≠ k) : vp_updL f k x j = f j := if_neg h
theorem pk_sub {a b : Nat} (h : b ≤ a) : nI a - nI b = nI (a - b) := by
  obtain ⟨c, rfl⟩ : ∃ c, a = c + b := ⟨a - b, by omega⟩
  rw [← nI_add, Int32.add_sub_cancel, Nat.add_sub_cancel]
theorem pk_m1 (n : Nat) : nI (n + 1) + (-1) = nI n := by
  rw [← nI_1, Int32.add_assoc, show (1 : Int32) + (-1) = 0 from rfl, Int32.add_zero]
theorem pk_mul (a b : Nat) : nI a * nI b = nI (a * b) := (Int32.ofNat_mul a b).symm
theorem pk_div {a d : Nat} (ha : a < 2 ^ 31) (h0 : 0 < d) (hd : d < 2 ^ 31) : nI a / nI d = nI (a / d) := by
  apply Int32.toInt_inj.mp
  rw [lg_idiv_nonneg (by rw [nI_toInt ha]; omega) (by rw [nI_toInt hd]; omega), nI_toInt ha, nI_toInt hd, nI_toInt (Nat.lt_of_le_of_lt (Nat.div_le_self a d) ha)]
  first | rfl | exact (Int.natCast_ediv _ _).symm
theorem pk_rem {a d : Nat} (ha : a < 2 ^ 31) (h0 : 0 < d) (hd : d < 2 ^ 31) : nI a - nI a / nI d * nI d = nI (a % d) := by
  rw [pk_div ha h0 hd, pk_mul, pk_sub (Nat.div_mul_le_self a d)]
  exact congrArg nI (by have := Nat.div_add_mod' a d; omega)
theorem pk_sub_toInt {a b : Nat} (ha : a < 2 ^ 30) (hb : b < 2 ^ 30) : (nI a - nI b).toInt = (a : Int) - b := by
  rw [Int32.toInt_sub, nI_toInt (by omega), nI_toInt (by omega)]
  exact Int.bmod_eq_of_le (by omega) (by omega)
theorem pk_sneg {a b : Nat} (hb : b < 2 ^ 30) (h : a < b) : nI a - nI b < 0 := by
  rw [Int32.lt_iff_toInt_lt, pk_sub_toInt (by omega) hb, show (0 : Int32).toInt = 0 from by decide]
  omega
theorem pk_ix (x : Int32) {n : Nat} (hn : n < 2 ^ 31) : x < 0 ∨ nI n ≤ x ∨ ∃ j : Nat, j < n ∧ x = nI j := by
  by_cases h : x < 0
  · exact Or.inl h
  · obtain ⟨j, hj, rfl⟩ := nI_of h
    by_cases h2 : j < n
    · exact Or.inr (Or.inr ⟨j, h2, rfl⟩)
    · exact Or.inr (Or.inl (nI_le (by omega) hj))
theorem pk_le {x y : Int32} {A B : Prop} (a b : Nat) (f : a ≤ b → A) (g : b < a → B) (hx : x = nI a := by rfl) (hy : y = nI b := by rfl) (ha : a < 2 ^ 31 := by omega) (hb : b < 2 ^ 31 := by omega) : (x ≤ y → A) ∧ (¬ x ≤ y → B) := by
  subst hx hy
  rw [nI_leI ha hb]
  exact ⟨f, fun z => g (by omega)⟩
theorem pk_lt {x y : Int32} {A B : Prop} (a b : Nat) (f : a < b → A) (g : b ≤ a → B) (hx : x = nI a := by rfl) (hy : y = nI b := by rfl) (ha : a < 2 ^ 31 := by omega) (hb : b < 2 ^ 31 := by omega) : (x < y → A) ∧ (¬ x < y → B) := by
  subst hx hy
  rw [nI_ltI ha hb]
  exact ⟨f, fun z => g (by omega)⟩
theorem pk_eq {x y : Int32} {A B : Prop} (a b : Nat) (f : a = b → A) (g : a ≠ b → B) (hx : x = nI a := by rfl) (hy : y = nI b := by rfl) (ha : a < 2 ^ 31 := by omega) (hb : b < 2 ^ 31 := by omega) : (x = y → A) ∧ (¬ x = y → B) := by
  subst hx hy
  rw [nI_eq ha hb]
  exact ⟨f, g⟩
theorem pk_in {x : Int32} (n N : Nat) (h : n < N) (hx : x = nI n := by rfl) (hN : N < 2 ^ 31 := by omega) : vp_in x N := by
  subst hx
  exact vp_in_nI h hN
theorem pk_cl {x : Int32} (n : Nat) (hx : x = nI n := by rfl) (h : n < 2 ^ 31 := by omega) : x.toNatClampNeg = n := by
  subst hx
  exact nI_clamp h
theorem pk_tn {n : Nat} (h : n < 2 ^ 32) : (nI n).toBitVec.toNat = n := Nat.mod_eq_of_lt h
theorem pk_and (x : Int32) {m : Int32} (k : Nat) (hm : m.toBitVec.toNat = 2 ^ k - 1) : x &&& m = nI (x.toBitVec.toNat % 2 ^ k) := by
  apply Int32.toBitVec_inj.mp
  apply BitVec.eq_of_toNat_eq
  rw [Int32.toBitVec_and, BitVec.toNat_and, hm, Nat.and_two_pow_sub_one_eq_mod]
  show _ = (BitVec.ofNat 32 _).toNat
  rw [BitVec.toNat_ofNat]
  exact (Nat.mod_eq_of_lt (Nat.lt_of_le_of_lt (Nat.mod_le _ _) x.toBitVec.isLt)).symm
theorem pk_andN {n : Nat} (h : n < 2 ^ 32) {m : Int32} (k : Nat) (hm : m.toBitVec.toNat = 2 ^ k - 1) : nI n &&& m = nI (n % 2 ^ k) := by
  rw [pk_and _ k hm, pk_tn h]
theorem pk_andE (x : Int32) {m : Int32} (k : Nat) (hm : m.toBitVec.toNat = 2 ^ k - 1) : ∃ j : Nat, j < 2 ^ k ∧ x &&& m = nI j := ⟨_, Nat.mod_lt _ (Nat.two_pow_pos k), pk_and x k hm⟩
theorem pk_andIn (x : Int32) {m : Int32} (k : Nat) (hm : m.toBitVec.toNat = 2 ^ k - 1) (hk : k ≤ 30) : vp_in (x &&& m) (2 ^ k) := by
  obtain ⟨j, hj, e⟩ := pk_andE x k hm
  rw [e]
  exact vp_in_nI hj (Nat.lt_of_le_of_lt (Nat.pow_le_pow_right (by decide) hk) (by decide))
theorem pk_shl (a s : Int32) (k : Nat) (hs : (s.toBitVec.smod 32).toNat = k) : (a <<< s).toBitVec.toNat = a.toBitVec.toNat * 2 ^ k % 2 ^ 32 := by
  show (a.toBitVec <<< (s.toBitVec.smod 32).toNat).toNat = _
  rw [hs, BitVec.toNat_shiftLeft, Nat.shiftLeft_eq]
theorem pk_shlN {n : Nat} (s : Int32) (k : Nat) (hs : (s.toBitVec.smod 32).toNat = k) (h : n * 2 ^ k < 2 ^ 32) : nI n <<< s = nI (n * 2 ^ k) := by
  apply Int32.toBitVec_inj.mp
  apply BitVec.eq_of_toNat_eq
  have hn : n < 2 ^ 32 := Nat.lt_of_le_of_lt (Nat.le_mul_of_pos_right n (Nat.two_pow_pos k)) h
  rw [pk_shl _ _ k hs, pk_tn hn, pk_tn h, Nat.mod_eq_of_lt h]
theorem pk_shr (a s : Int32) (k : Nat) (hs : (s.toBitVec.smod 32).toNat = k) : (a >>> s).toInt = a.toInt >>> k := by
  show (a.toBitVec.sshiftRight (s.toBitVec.smod 32).toNat).toInt = _
  rw [hs, BitVec.toInt_sshiftRight]
  rfl
theorem pk_shrN {n : Nat} (h : n < 2 ^ 31) (s : Int32) (k : Nat) (hs : (s.toBitVec.smod 32).toNat = k) : nI n >>> s = nI (n / 2 ^ k) := by
  apply Int32.toInt_inj.mp
  have h2 : n / 2 ^ k ≤ n := Nat.div_le_self _ _
  rw [pk_shr _ _ k hs, nI_toInt h, nI_toInt (by omega), Int.shiftRight_eq_div_pow]
  rfl
theorem pk_ushr (x s : Int32) (k : Nat) (hs : ((s.toUInt32 &&& Int32.toUInt32 31).toBitVec % 32).toNat = k) : (x.toUInt32 >>> (s.toUInt32 &&& Int32.toUInt32 31)).toInt32.toBitVec.toNat = x.toBitVec.toNat / 2 ^ k := by
  have e : (x.toUInt32 >>> (s.toUInt32 &&& Int32.toUInt32 31)).toInt32.toBitVec = x.toBitVec >>> k := by
    rw [← hs]
    exact UInt32.toBitVec_shiftRight _ _
  rw [e, BitVec.toNat_ushiftRight, Nat.shiftRight_eq_div_pow]
theorem pk_ushrN {n : Nat} (hn : n < 2 ^ 32) (s : Int32) (k : Nat) (hs : ((s.toUInt32 &&& Int32.toUInt32 31).toBitVec % 32).toNat = k) : ((nI n).toUInt32 >>> (s.toUInt32 &&& Int32.toUInt32 31)).toInt32 = nI (n / 2 ^ k) := by
  apply Int32.toBitVec_inj.mp
  apply BitVec.eq_of_toNat_eq
  rw [pk_ushr _ s k hs, pk_tn hn, pk_tn (Nat.lt_of_le_of_lt (Nat.div_le_self _ _) hn)]
theorem pk_nb (z : Int32) : narrow .byte (.int z.toInt8.toInt32) = .int z.toInt8.toInt32 := congrArg Value.int (by simp)
theorem pk_ns (z : Int32) : narrow .short (.int z.toInt16.toInt32) = .int z.toInt16.toInt32 := congrArg Value.int (by simp)
theorem pk_fb (r : Int32) : fits .byte (.int r.toInt8.toInt32) = true := by
  have ⟨a, b⟩ := lg_i2b_range r
  have h1 : (-128 : Int32).toInt = -128 := by decide
  have h2 : (127 : Int32).toInt = 127 := by decide
  simp only [fits, Bool.and_eq_true, decide_eq_true_eq, Int32.le_iff_toInt_le, h1, h2]
  omega
theorem pk_fs (r : Int32) : fits .short (.int r.toInt16.toInt32) = true := by
  have ⟨a, b⟩ := lg_i2s_range r
  have h1 : (-32768 : Int32).toInt = -32768 := by decide
  have h2 : (32767 : Int32).toInt = 32767 := by decide
  simp only [fits, Bool.and_eq_true, decide_eq_true_eq, Int32.le_iff_toInt_le, h1, h2]
  omega
theorem pk_charN {q : Nat} (hq : q < 65536) : narrow .char (.int (nI q)) = .int (nI q) ∧ fits .char (.int (nI q)) = true := by
  constructor
  · have e : (nI q).toUInt32.toUInt16.toUInt32.toInt32 = nI q := by
      apply Int32.toBitVec_inj.mp
      apply BitVec.eq_of_toNat_eq
      show (nI q).toUInt32.toUInt16.toUInt32.toNat = q % 2 ^ 32
      rw [UInt16.toNat_toUInt32, UInt32.toNat_toUInt16, show (nI q).toUInt32.toNat = q % 2 ^ 32 from rfl]
      omega
    exact congrArg Value.int e
  · have a : (0 : Int32) ≤ nI q := nI_pos' (by omega)
    have b : nI q ≤ 65535 := nI_le (b := 65535) (by omega) (by decide)
    show (decide ((0 : Int32) ≤ nI q) && decide (nI q ≤ 65535)) = true
    rw [decide_eq_true a, decide_eq_true b]
    rfl
theorem pk_char (x : Int32) : (x.toUInt32 % 65536).toInt32 = nI (x.toBitVec.toNat % 65536) := by
  apply Int32.toBitVec_inj.mp
  apply BitVec.eq_of_toNat_eq
  rw [pk_tn (by omega)]
  show (x.toUInt32 % 65536).toNat = _
  rw [UInt32.toNat_mod]
  rfl
theorem pk_nc (x : Int32) : narrow .char (.int (x.toUInt32 % 65536).toInt32) = .int (x.toUInt32 % 65536).toInt32 := by
  rw [pk_char]
  exact (pk_charN (Nat.mod_lt _ (by decide))).1
theorem pk_fc (x : Int32) : fits .char (.int (x.toUInt32 % 65536).toInt32) = true := by
  rw [pk_char]
  exact (pk_charN (Nat.mod_lt _ (by decide))).2
theorem pk_vb (z : Int32) : vp_nar .byte z.toInt8.toInt32 = z.toInt8.toInt32 := by rw [vp_nar_byte]; simp
theorem pk_vs (z : Int32) : vp_nar .short z.toInt16.toInt32 = z.toInt16.toInt32 := by rw [vp_nar_short]; simp
theorem pk_vc (z : Int32) : vp_nar .char (z.toUInt32 % 65536).toInt32 = (z.toUInt32 % 65536).toInt32 := Value.int.inj (pk_nc z)
theorem pk_lT {n : Nat} (h : n < 2 ^ 63) : (lN n).toInt = (n : Int) := lg_ofNat_toInt h
theorem pk_lLT {a b : Nat} (ha : a < 2 ^ 63) (hb : b < 2 ^ 63) : lN a < lN b ↔ a < b := by
  rw [Int64.lt_iff_toInt_lt, pk_lT ha, pk_lT hb]; omega
theorem pk_lLE {a b : Nat} (ha : a < 2 ^ 63) (hb : b < 2 ^ 63) : lN a ≤ lN b ↔ a ≤ b := by
  rw [Int64.le_iff_toInt_le, pk_lT ha, pk_lT hb]; omega
theorem pk_lEQ {a b : Nat} (ha : a < 2 ^ 63) (hb : b < 2 ^ 63) : lN a = lN b ↔ a = b := by
  rw [← Int64.toInt_inj, pk_lT ha, pk_lT hb]; omega
theorem pk_lOf {x : Int64} (h : ¬ x < 0) : ∃ k : Nat, k < 2 ^ 63 ∧ x = lN k := by
  rw [Int64.lt_iff_toInt_lt] at h
  have h0 : (0 : Int64).toInt = 0 := by decide
  have hx := Int64.toInt_lt x
  refine ⟨x.toInt.toNat, by omega, Int64.toInt_inj.mp ?_⟩
  rw [pk_lT (by omega)]
  omega
theorem pk_lDiv {a b : Nat} (ha : a < 2 ^ 63) (h0 : 0 < b) (hb : b < 2 ^ 63) : lN a / lN b = lN (a / b) := by
  apply Int64.toInt_inj.mp
  rw [lg_ldiv_nonneg (by rw [pk_lT ha]; omega) (by rw [pk_lT hb]; omega), pk_lT ha, pk_lT hb, pk_lT (Nat.lt_of_le_of_lt (Nat.div_le_self a b) ha)]
  rfl
theorem pk_lRem {a b : Nat} (ha : a < 2 ^ 63) (h0 : 0 < b) (hb : b < 2 ^ 63) : lN a - lN a / lN b * lN b = lN (a % b) := by
  rw [pk_lDiv ha h0 hb, lN_mul, lN_sub (Nat.div_mul_le_self a b)]
  exact congrArg lN (by have := Nat.div_add_mod' a b; omega)
theorem pk_loop {σ : Type} (W : Nat → Nat → σ → Prop) (I : Nat → σ → Prop) (e i0 : Nat) (s : σ) (hi : i0 ≤ e) (h0 : I i0 s) (hx : ∀ n s, I e s → W (n + 1) e s)
    (hs : ∀ n i s, i < e → I i s → (∀ s', I (i + 1) s' → W n (i + 1) s') → W (n + 1) i s) : ∃ n, W n i0 s :=
  ⟨e + 1, loop_i W I e hx hs (e + 1) i0 s hi (by omega) h0⟩
theorem pk_loopD {σ : Type} (W : Nat → Nat → σ → Prop) (I : Nat → σ → Prop) (hx : ∀ n s, I 0 s → W (n + 1) 0 s)
    (hs : ∀ n i s, I (i + 1) s → (∀ s', I i s' → W n i s') → W (n + 1) (i + 1) s) : ∀ (e : Nat) (s : σ), I e s → W (e + 1) e s := by
  intro e
  induction e with
  | zero => exact fun s h => hx 0 s h
  | succ e ih => exact fun s h => hs (e + 1) e s h (fun s' h' => ih s' h')
theorem lp1 {A1 : Type} (W : Nat → A1 → Prop) (I : A1 → Prop) (μ : A1 → Nat) (hs : ∀ (n : Nat) (a1 : A1), I a1 → (∀ (b1 : A1), I b1 → μ b1 < μ a1 → W n b1) → W (n + 1) a1) (a1 : A1) (h : I a1) : ∃ n, W n a1 :=
  loop_m (σ := A1) (fun n s => W n s) (fun s => I s) (fun s => μ s) (fun n s hI hk => hs n s hI (fun b1 h9 hm => hk b1 h9 hm)) a1 h
theorem lp2 {A1 A2 : Type} (W : Nat → A1 → A2 → Prop) (I : A1 → A2 → Prop) (μ : A1 → A2 → Nat) (hs : ∀ (n : Nat) (a1 : A1) (a2 : A2), I a1 a2 → (∀ (b1 : A1) (b2 : A2), I b1 b2 → μ b1 b2 < μ a1 a2 → W n b1 b2) → W (n + 1) a1 a2) (a1 : A1) (a2 : A2) (h : I a1 a2) : ∃ n, W n a1 a2 :=
  loop_m (σ := A1 × A2) (fun n s => W n s.1 s.2) (fun s => I s.1 s.2) (fun s => μ s.1 s.2) (fun n s hI hk => hs n s.1 s.2 hI (fun b1 b2 h9 hm => hk (b1, b2) h9 hm)) (a1, a2) h
theorem lp3 {A1 A2 A3 : Type} (W : Nat → A1 → A2 → A3 → Prop) (I : A1 → A2 → A3 → Prop) (μ : A1 → A2 → A3 → Nat) (hs : ∀ (n : Nat) (a1 : A1) (a2 : A2) (a3 : A3), I a1 a2 a3 → (∀ (b1 : A1) (b2 : A2) (b3 : A3), I b1 b2 b3 → μ b1 b2 b3 < μ a1 a2 a3 → W n b1 b2 b3) → W (n + 1) a1 a2 a3) (a1 : A1) (a2 : A2) (a3 : A3) (h : I a1 a2 a3) : ∃ n, W n a1 a2 a3 :=
  loop_m (σ := A1 × A2 × A3) (fun n s => W n s.1 s.2.1 s.2.2) (fun s => I s.1 s.2.1 s.2.2) (fun s => μ s.1 s.2.1 s.2.2) (fun n s hI hk => hs n s.1 s.2.1 s.2.2 hI (fun b1 b2 b3 h9 hm => hk (b1, b2, b3) h9 hm)) (a1, a2, a3) h
theorem lp4 {A1 A2 A3 A4 : Type} (W : Nat → A1 → A2 → A3 → A4 → Prop) (I : A1 → A2 → A3 → A4 → Prop) (μ : A1 → A2 → A3 → A4 → Nat) (hs : ∀ (n : Nat) (a1 : A1) (a2 : A2) (a3 : A3) (a4 : A4), I a1 a2 a3 a4 → (∀ (b1 : A1) (b2 : A2) (b3 : A3) (b4 : A4), I b1 b2 b3 b4 → μ b1 b2 b3 b4 < μ a1 a2 a3 a4 → W n b1 b2 b3 b4) → W (n + 1) a1 a2 a3 a4) (a1 : A1) (a2 : A2) (a3 : A3) (a4 : A4) (h : I a1 a2 a3 a4) : ∃ n, W n a1 a2 a3 a4 :=
  loop_m (σ := A1 × A2 × A3 × A4) (fun n s => W n s.1 s.2.1 s.2.2.1 s.2.2.2) (fun s => I s.1 s.2.1 s.2.2.1 s.2.2.2) (fun s => μ s.1 s.2.1 s.2.2.1 s.2.2.2) (fun n s hI hk => hs n s.1 s.2.1 s.2.2.1 s.2.2.2 hI (fun b1 b2 b3 b4 h9 hm => hk (b1, b2, b3, b4) h9 hm)) (a1, a2, a3, a4) h
theorem lp5 {A1 A2 A3 A4 A5 : Type} (W : Nat → A1 → A2 → A3 → A4 → A5 → Prop) (I : A1 → A2 → A3 → A4 → A5 → Prop) (μ : A1 → A2 → A3 → A4 → A5 → Nat) (hs : ∀ (n : Nat) (a1 : A1) (a2 : A2) (a3 : A3) (a4 : A4) (a5 : A5), I a1 a2 a3 a4 a5 → (∀ (b1 : A1) (b2 : A2) (b3 : A3) (b4 : A4) (b5 : A5), I b1 b2 b3 b4 b5 → μ b1 b2 b3 b4 b5 < μ a1 a2 a3 a4 a5 → W n b1 b2 b3 b4 b5) → W (n + 1) a1 a2 a3 a4 a5) (a1 : A1) (a2 : A2) (a3 : A3) (a4 : A4) (a5 : A5) (h : I a1 a2 a3 a4 a5) : ∃ n, W n a1 a2 a3 a4 a5 :=
  loop_m (σ := A1 × A2 × A3 × A4 × A5) (fun n s => W n s.1 s.2.1 s.2.2.1 s.2.2.2.1 s.2.2.2.2) (fun s => I s.1 s.2.1 s.2.2.1 s.2.2.2.1 s.2.2.2.2) (fun s => μ s.1 s.2.1 s.2.2.1 s.2.2.2.1 s.2.2.2.2) (fun n s hI hk => hs n s.1 s.2.1 s.2.2.1 s.2.2.2.1 s.2.2.2.2 hI (fun b1 b2 b3 b4 b5 h9 hm => hk (b1, b2, b3, b4, b5) h9 hm)) (a1, a2, a3, a4, a5) h
theorem lp6 {A1 A2 A3 A4 A5 A6 : Type} (W : Nat → A1 → A2 → A3 → A4 → A5 → A6 → Prop) (I : A1 → A2 → A3 → A4 → A5 → A6 → Prop) (μ : A1 → A2 → A3 → A4 → A5 → A6 → Nat) (hs : ∀ (n : Nat) (a1 : A1) (a2 : A2) (a3 : A3) (a4 : A4) (a5 : A5) (a6 : A6), I a1 a2 a3 a4 a5 a6 → (∀ (b1 : A1) (b2 : A2) (b3 : A3) (b4 : A4) (b5 : A5) (b6 : A6), I b1 b2 b3 b4 b5 b6 → μ b1 b2 b3 b4 b5 b6 < μ a1 a2 a3 a4 a5 a6 → W n b1 b2 b3 b4 b5 b6) → W (n + 1) a1 a2 a3 a4 a5 a6) (a1 : A1) (a2 : A2) (a3 : A3) (a4 : A4) (a5 : A5) (a6 : A6) (h : I a1 a2 a3 a4 a5 a6) : ∃ n, W n a1 a2 a3 a4 a5 a6 :=
  loop_m (σ := A1 × A2 × A3 × A4 × A5 × A6) (fun n s => W n s.1 s.2.1 s.2.2.1 s.2.2.2.1 s.2.2.2.2.1 s.2.2.2.2.2) (fun s => I s.1 s.2.1 s.2.2.1 s.2.2.2.1 s.2.2.2.2.1 s.2.2.2.2.2) (fun s => μ s.1 s.2.1 s.2.2.1 s.2.2.2.1 s.2.2.2.2.1 s.2.2.2.2.2) (fun n s hI hk => hs n s.1 s.2.1 s.2.2.1 s.2.2.2.1 s.2.2.2.2.1 s.2.2.2.2.2 hI (fun b1 b2 b3 b4 b5 b6 h9 hm => hk (b1, b2, b3, b4, b5, b6) h9 hm)) (a1, a2, a3, a4, a5, a6) h
theorem lp7 {A1 A2 A3 A4 A5 A6 A7 : Type} (W : Nat → A1 → A2 → A3 → A4 → A5 → A6 → A7 → Prop) (I : A1 → A2 → A3 → A4 → A5 → A6 → A7 → Prop) (μ : A1 → A2 → A3 → A4 → A5 → A6 → A7 → Nat) (hs : ∀ (n : Nat) (a1 : A1) (a2 : A2) (a3 : A3) (a4 : A4) (a5 : A5) (a6 : A6) (a7 : A7), I a1 a2 a3 a4 a5 a6 a7 → (∀ (b1 : A1) (b2 : A2) (b3 : A3) (b4 : A4) (b5 : A5) (b6 : A6) (b7 : A7), I b1 b2 b3 b4 b5 b6 b7 → μ b1 b2 b3 b4 b5 b6 b7 < μ a1 a2 a3 a4 a5 a6 a7 → W n b1 b2 b3 b4 b5 b6 b7) → W (n + 1) a1 a2 a3 a4 a5 a6 a7) (a1 : A1) (a2 : A2) (a3 : A3) (a4 : A4) (a5 : A5) (a6 : A6) (a7 : A7) (h : I a1 a2 a3 a4 a5 a6 a7) : ∃ n, W n a1 a2 a3 a4 a5 a6 a7 :=
  loop_m (σ := A1 × A2 × A3 × A4 × A5 × A6 × A7) (fun n s => W n s.1 s.2.1 s.2.2.1 s.2.2.2.1 s.2.2.2.2.1 s.2.2.2.2.2.1 s.2.2.2.2.2.2) (fun s => I s.1 s.2.1 s.2.2.1 s.2.2.2.1 s.2.2.2.2.1 s.2.2.2.2.2.1 s.2.2.2.2.2.2) (fun s => μ s.1 s.2.1 s.2.2.1 s.2.2.2.1 s.2.2.2.2.1 s.2.2.2.2.2.1 s.2.2.2.2.2.2) (fun n s hI hk => hs n s.1 s.2.1 s.2.2.1 s.2.2.2.1 s.2.2.2.2.1 s.2.2.2.2.2.1 s.2.2.2.2.2.2 hI (fun b1 b2 b3 b4 b5 b6 b7 h9 hm => hk (b1, b2, b3, b4, b5, b6, b7) h9 hm)) (a1, a2, a3, a4, a5, a6, a7) h
theorem lp8 {A1 A2 A3 A4 A5 A6 A7 A8 : Type} (W : Nat → A1 → A2 → A3 → A4 → A5 → A6 → A7 → A8 → Prop) (I : A1 → A2 → A3 → A4 → A5 → A6 → A7 → A8 → Prop) (μ : A1 → A2 → A3 → A4 → A5 → A6 → A7 → A8 → Nat) (hs : ∀ (n : Nat) (a1 : A1) (a2 : A2) (a3 : A3) (a4 : A4) (a5 : A5) (a6 : A6) (a7 : A7) (a8 : A8), I a1 a2 a3 a4 a5 a6 a7 a8 → (∀ (b1 : A1) (b2 : A2) (b3 : A3) (b4 : A4) (b5 : A5) (b6 : A6) (b7 : A7) (b8 : A8), I b1 b2 b3 b4 b5 b6 b7 b8 → μ b1 b2 b3 b4 b5 b6 b7 b8 < μ a1 a2 a3 a4 a5 a6 a7 a8 → W n b1 b2 b3 b4 b5 b6 b7 b8) → W (n + 1) a1 a2 a3 a4 a5 a6 a7 a8) (a1 : A1) (a2 : A2) (a3 : A3) (a4 : A4) (a5 : A5) (a6 : A6) (a7 : A7) (a8 : A8) (h : I a1 a2 a3 a4 a5 a6 a7 a8) : ∃ n, W n a1 a2 a3 a4 a5 a6 a7 a8 :=
  loop_m (σ := A1 × A2 × A3 × A4 × A5 × A6 × A7 × A8) (fun n s => W n s.1 s.2.1 s.2.2.1 s.2.2.2.1 s.2.2.2.2.1 s.2.2.2.2.2.1 s.2.2.2.2.2.2.1 s.2.2.2.2.2.2.2) (fun s => I s.1 s.2.1 s.2.2.1 s.2.2.2.1 s.2.2.2.2.1 s.2.2.2.2.2.1 s.2.2.2.2.2.2.1 s.2.2.2.2.2.2.2) (fun s => μ s.1 s.2.1 s.2.2.1 s.2.2.2.1 s.2.2.2.2.1 s.2.2.2.2.2.1 s.2.2.2.2.2.2.1 s.2.2.2.2.2.2.2) (fun n s hI hk => hs n s.1 s.2.1 s.2.2.1 s.2.2.2.1 s.2.2.2.2.1 s.2.2.2.2.2.1 s.2.2.2.2.2.2.1 s.2.2.2.2.2.2.2 hI (fun b1 b2 b3 b4 b5 b6 b7 b8 h9 hm => hk (b1, b2, b3, b4, b5, b6, b7, b8) h9 hm)) (a1, a2, a3, a4, a5, a6, a7, a8) h
theorem lp9 {A1 A2 A3 A4 A5 A6 A7 A8 A9 : Type} (W : Nat → A1 → A2 → A3 → A4 → A5 → A6 → A7 → A8 → A9 → Prop) (I : A1 → A2 → A3 → A4 → A5 → A6 → A7 → A8 → A9 → Prop) (μ : A1 → A2 → A3 → A4 → A5 → A6 → A7 → A8 → A9 → Nat) (hs : ∀ (n : Nat) (a1 : A1) (a2 : A2) (a3 : A3) (a4 : A4) (a5 : A5) (a6 : A6) (a7 : A7) (a8 : A8) (a9 : A9), I a1 a2 a3 a4 a5 a6 a7 a8 a9 → (∀ (b1 : A1) (b2 : A2) (b3 : A3) (b4 : A4) (b5 : A5) (b6 : A6) (b7 : A7) (b8 : A8) (b9 : A9), I b1 b2 b3 b4 b5 b6 b7 b8 b9 → μ b1 b2 b3 b4 b5 b6 b7 b8 b9 < μ a1 a2 a3 a4 a5 a6 a7 a8 a9 → W n b1 b2 b3 b4 b5 b6 b7 b8 b9) → W (n + 1) a1 a2 a3 a4 a5 a6 a7 a8 a9) (a1 : A1) (a2 : A2) (a3 : A3) (a4 : A4) (a5 : A5) (a6 : A6) (a7 : A7) (a8 : A8) (a9 : A9) (h : I a1 a2 a3 a4 a5 a6 a7 a8 a9) : ∃ n, W n a1 a2 a3 a4 a5 a6 a7 a8 a9 :=
  loop_m (σ := A1 × A2 × A3 × A4 × A5 × A6 × A7 × A8 × A9) (fun n s => W n s.1 s.2.1 s.2.2.1 s.2.2.2.1 s.2.2.2.2.1 s.2.2.2.2.2.1 s.2.2.2.2.2.2.1 s.2.2.2.2.2.2.2.1 s.2.2.2.2.2.2.2.2) (fun s => I s.1 s.2.1 s.2.2.1 s.2.2.2.1 s.2.2.2.2.1 s.2.2.2.2.2.1 s.2.2.2.2.2.2.1 s.2.2.2.2.2.2.2.1 s.2.2.2.2.2.2.2.2) (fun s => μ s.1 s.2.1 s.2.2.1 s.2.2.2.1 s.2.2.2.2.1 s.2.2.2.2.2.1 s.2.2.2.2.2.2.1 s.2.2.2.2.2.2.2.1 s.2.2.2.2.2.2.2.2) (fun n s hI hk => hs n s.1 s.2.1 s.2.2.1 s.2.2.2.1 s.2.2.2.2.1 s.2.2.2.2.2.1 s.2.2.2.2.2.2.1 s.2.2.2.2.2.2.2.1 s.2.2.2.2.2.2.2.2 hI (fun b1 b2 b3 b4 b5 b6 b7 b8 b9 h9 hm => hk (b1, b2, b3, b4, b5, b6, b7, b8, b9) h9 hm)) (a1, a2, a3, a4, a5, a6, a7, a8, a9) h
theorem lp10 {A1 A2 A3 A4 A5 A6 A7 A8 A9 A10 : Type} (W : Nat → A1 → A2 → A3 → A4 → A5 → A6 → A7 → A8 → A9 → A10 → Prop) (I : A1 → A2 → A3 → A4 → A5 → A6 → A7 → A8 → A9 → A10 → Prop) (μ : A1 → A2 → A3 → A4 → A5 → A6 → A7 → A8 → A9 → A10 → Nat) (hs : ∀ (n : Nat) (a1 : A1) (a2 : A2) (a3 : A3) (a4 : A4) (a5 : A5) (a6 : A6) (a7 : A7) (a8 : A8) (a9 : A9) (a10 : A10), I a1 a2 a3 a4 a5 a6 a7 a8 a9 a10 → (∀ (b1 : A1) (b2 : A2) (b3 : A3) (b4 : A4) (b5 : A5) (b6 : A6) (b7 : A7) (b8 : A8) (b9 : A9) (b10 : A10), I b1 b2 b3 b4 b5 b6 b7 b8 b9 b10 → μ b1 b2 b3 b4 b5 b6 b7 b8 b9 b10 < μ a1 a2 a3 a4 a5 a6 a7 a8 a9 a10 → W n b1 b2 b3 b4 b5 b6 b7 b8 b9 b10) → W (n + 1) a1 a2 a3 a4 a5 a6 a7 a8 a9 a10) (a1 : A1) (a2 : A2) (a3 : A3) (a4 : A4) (a5 : A5) (a6 : A6) (a7 : A7) (a8 : A8) (a9 : A9) (a10 : A10) (h : I a1 a2 a3 a4 a5 a6 a7 a8 a9 a10) : ∃ n, W n a1 a2 a3 a4 a5 a6 a7 a8 a9 a10 :=
  loop_m (σ := A1 × A2 × A3 × A4 × A5 × A6 × A7 × A8 × A9 × A10) (fun n s => W n s.1 s.2.1 s.2.2.1 s.2.2.2.1 s.2.2.2.2.1 s.2.2.2.2.2.1 s.2.2.2.2.2.2.1 s.2.2.2.2.2.2.2.1 s.2.2.2.2.2.2.2.2.1 s.2.2.2.2.2.2.2.2.2) (fun s => I s.1 s.2.1 s.2.2.1 s.2.2.2.1 s.2.2.2.2.1 s.2.2.2.2.2.1 s.2.2.2.2.2.2.1 s.2.2.2.2.2.2.2.1 s.2.2.2.2.2.2.2.2.1 s.2.2.2.2.2.2.2.2.2) (fun s => μ s.1 s.2.1 s.2.2.1 s.2.2.2.1 s.2.2.2.2.1 s.2.2.2.2.2.1 s.2.2.2.2.2.2.1 s.2.2.2.2.2.2.2.1 s.2.2.2.2.2.2.2.2.1 s.2.2.2.2.2.2.2.2.2) (fun n s hI hk => hs n s.1 s.2.1 s.2.2.1 s.2.2.2.1 s.2.2.2.2.1 s.2.2.2.2.2.1 s.2.2.2.2.2.2.1 s.2.2.2.2.2.2.2.1 s.2.2.2.2.2.2.2.2.1 s.2.2.2.2.2.2.2.2.2 hI (fun b1 b2 b3 b4 b5 b6 b7 b8 b9 b10 h9 hm => hk (b1, b2, b3, b4, b5, b6, b7, b8, b9, b10) h9 hm)) (a1, a2, a3, a4, a5, a6, a7, a8, a9, a10) h
theorem lp11 {A1 A2 A3 A4 A5 A6 A7 A8 A9 A10 A11 : Type} (W : Nat → A1 → A2 → A3 → A4 → A5 → A6 → A7 → A8 → A9 → A10 → A11 → Prop) (I : A1 → A2 → A3 → A4 → A5 → A6 → A7 → A8 → A9 → A10 → A11 → Prop) (μ : A1 → A2 → A3 → A4 → A5 → A6 → A7 → A8 → A9 → A10 → A11 → Nat) (hs : ∀ (n : Nat) (a1 : A1) (a2 : A2) (a3 : A3) (a4 : A4) (a5 : A5) (a6 : A6) (a7 : A7) (a8 : A8) (a9 : A9) (a10 : A10) (a11 : A11), I a1 a2 a3 a4 a5 a6 a7 a8 a9 a10 a11 → (∀ (b1 : A1) (b2 : A2) (b3 : A3) (b4 : A4) (b5 : A5) (b6 : A6) (b7 : A7) (b8 : A8) (b9 : A9) (b10 : A10) (b11 : A11), I b1 b2 b3 b4 b5 b6 b7 b8 b9 b10 b11 → μ b1 b2 b3 b4 b5 b6 b7 b8 b9 b10 b11 < μ a1 a2 a3 a4 a5 a6 a7 a8 a9 a10 a11 → W n b1 b2 b3 b4 b5 b6 b7 b8 b9 b10 b11) → W (n + 1) a1 a2 a3 a4 a5 a6 a7 a8 a9 a10 a11) (a1 : A1) (a2 : A2) (a3 : A3) (a4 : A4) (a5 : A5) (a6 : A6) (a7 : A7) (a8 : A8) (a9 : A9) (a10 : A10) (a11 : A11) (h : I a1 a2 a3 a4 a5 a6 a7 a8 a9 a10 a11) : ∃ n, W n a1 a2 a3 a4 a5 a6 a7 a8 a9 a10 a11 :=
  loop_m (σ := A1 × A2 × A3 × A4 × A5 × A6 × A7 × A8 × A9 × A10 × A11) (fun n s => W n s.1 s.2.1 s.2.2.1 s.2.2.2.1 s.2.2.2.2.1 s.2.2.2.2.2.1 s.2.2.2.2.2.2.1 s.2.2.2.2.2.2.2.1 s.2.2.2.2.2.2.2.2.1 s.2.2.2.2.2.2.2.2.2.1 s.2.2.2.2.2.2.2.2.2.2) (fun s => I s.1 s.2.1 s.2.2.1 s.2.2.2.1 s.2.2.2.2.1 s.2.2.2.2.2.1 s.2.2.2.2.2.2.1 s.2.2.2.2.2.2.2.1 s.2.2.2.2.2.2.2.2.1 s.2.2.2.2.2.2.2.2.2.1 s.2.2.2.2.2.2.2.2.2.2) (fun s => μ s.1 s.2.1 s.2.2.1 s.2.2.2.1 s.2.2.2.2.1 s.2.2.2.2.2.1 s.2.2.2.2.2.2.1 s.2.2.2.2.2.2.2.1 s.2.2.2.2.2.2.2.2.1 s.2.2.2.2.2.2.2.2.2.1 s.2.2.2.2.2.2.2.2.2.2) (fun n s hI hk => hs n s.1 s.2.1 s.2.2.1 s.2.2.2.1 s.2.2.2.2.1 s.2.2.2.2.2.1 s.2.2.2.2.2.2.1 s.2.2.2.2.2.2.2.1 s.2.2.2.2.2.2.2.2.1 s.2.2.2.2.2.2.2.2.2.1 s.2.2.2.2.2.2.2.2.2.2 hI (fun b1 b2 b3 b4 b5 b6 b7 b8 b9 b10 b11 h9 hm => hk (b1, b2, b3, b4, b5, b6, b7, b8, b9, b10, b11) h9 hm)) (a1, a2, a3, a4, a5, a6, a7, a8, a9, a10, a11) h
theorem lp12 {A1 A2 A3 A4 A5 A6 A7 A8 A9 A10 A11 A12 : Type} (W : Nat → A1 → A2 → A3 → A4 → A5 → A6 → A7 → A8 → A9 → A10 → A11 → A12 → Prop) (I : A1 → A2 → A3 → A4 → A5 → A6 → A7 → A8 → A9 → A10 → A11 → A12 → Prop) (μ : A1 → A2 → A3 → A4 → A5 → A6 → A7 → A8 → A9 → A10 → A11 → A12 → Nat) (hs : ∀ (n : Nat) (a1 : A1) (a2 : A2) (a3 : A3) (a4 : A4) (a5 : A5) (a6 : A6) (a7 : A7) (a8 : A8) (a9 : A9) (a10 : A10) (a11 : A11) (a12 : A12), I a1 a2 a3 a4 a5 a6 a7 a8 a9 a10 a11 a12 → (∀ (b1 : A1) (b2 : A2) (b3 : A3) (b4 : A4) (b5 : A5) (b6 : A6) (b7 : A7) (b8 : A8) (b9 : A9) (b10 : A10) (b11 : A11) (b12 : A12), I b1 b2 b3 b4 b5 b6 b7 b8 b9 b10 b11 b12 → μ b1 b2 b3 b4 b5 b6 b7 b8 b9 b10 b11 b12 < μ a1 a2 a3 a4 a5 a6 a7 a8 a9 a10 a11 a12 → W n b1 b2 b3 b4 b5 b6 b7 b8 b9 b10 b11 b12) → W (n + 1) a1 a2 a3 a4 a5 a6 a7 a8 a9 a10 a11 a12) (a1 : A1) (a2 : A2) (a3 : A3) (a4 : A4) (a5 : A5) (a6 : A6) (a7 : A7) (a8 : A8) (a9 : A9) (a10 : A10) (a11 : A11) (a12 : A12) (h : I a1 a2 a3 a4 a5 a6 a7 a8 a9 a10 a11 a12) : ∃ n, W n a1 a2 a3 a4 a5 a6 a7 a8 a9 a10 a11 a12 :=
  loop_m (σ := A1 × A2 × A3 × A4 × A5 × A6 × A7 × A8 × A9 × A10 × A11 × A12) (fun n s => W n s.1 s.2.1 s.2.2.1 s.2.2.2.1 s.2.2.2.2.1 s.2.2.2.2.2.1 s.2.2.2.2.2.2.1 s.2.2.2.2.2.2.2.1 s.2.2.2.2.2.2.2.2.1 s.2.2.2.2.2.2.2.2.2.1 s.2.2.2.2.2.2.2.2.2.2.1 s.2.2.2.2.2.2.2.2.2.2.2) (fun s => I s.1 s.2.1 s.2.2.1 s.2.2.2.1 s.2.2.2.2.1 s.2.2.2.2.2.1 s.2.2.2.2.2.2.1 s.2.2.2.2.2.2.2.1 s.2.2.2.2.2.2.2.2.1 s.2.2.2.2.2.2.2.2.2.1 s.2.2.2.2.2.2.2.2.2.2.1 s.2.2.2.2.2.2.2.2.2.2.2) (fun s => μ s.1 s.2.1 s.2.2.1 s.2.2.2.1 s.2.2.2.2.1 s.2.2.2.2.2.1 s.2.2.2.2.2.2.1 s.2.2.2.2.2.2.2.1 s.2.2.2.2.2.2.2.2.1 s.2.2.2.2.2.2.2.2.2.1 s.2.2.2.2.2.2.2.2.2.2.1 s.2.2.2.2.2.2.2.2.2.2.2) (fun n s hI hk => hs n s.1 s.2.1 s.2.2.1 s.2.2.2.1 s.2.2.2.2.1 s.2.2.2.2.2.1 s.2.2.2.2.2.2.1 s.2.2.2.2.2.2.2.1 s.2.2.2.2.2.2.2.2.1 s.2.2.2.2.2.2.2.2.2.1 s.2.2.2.2.2.2.2.2.2.2.1 s.2.2.2.2.2.2.2.2.2.2.2 hI (fun b1 b2 b3 b4 b5 b6 b7 b8 b9 b10 b11 b12 h9 hm => hk (b1, b2, b3, b4, b5, b6, b7, b8, b9, b10, b11, b12) h9 hm)) (a1, a2, a3, a4, a5, a6, a7, a8, a9, a10, a11, a12) h
theorem lp13 {A1 A2 A3 A4 A5 A6 A7 A8 A9 A10 A11 A12 A13 : Type} (W : Nat → A1 → A2 → A3 → A4 → A5 → A6 → A7 → A8 → A9 → A10 → A11 → A12 → A13 → Prop) (I : A1 → A2 → A3 → A4 → A5 → A6 → A7 → A8 → A9 → A10 → A11 → A12 → A13 → Prop) (μ : A1 → A2 → A3 → A4 → A5 → A6 → A7 → A8 → A9 → A10 → A11 → A12 → A13 → Nat) (hs : ∀ (n : Nat) (a1 : A1) (a2 : A2) (a3 : A3) (a4 : A4) (a5 : A5) (a6 : A6) (a7 : A7) (a8 : A8) (a9 : A9) (a10 : A10) (a11 : A11) (a12 : A12) (a13 : A13), I a1 a2 a3 a4 a5 a6 a7 a8 a9 a10 a11 a12 a13 → (∀ (b1 : A1) (b2 : A2) (b3 : A3) (b4 : A4) (b5 : A5) (b6 : A6) (b7 : A7) (b8 : A8) (b9 : A9) (b10 : A10) (b11 : A11) (b12 : A12) (b13 : A13), I b1 b2 b3 b4 b5 b6 b7 b8 b9 b10 b11 b12 b13 → μ b1 b2 b3 b4 b5 b6 b7 b8 b9 b10 b11 b12 b13 < μ a1 a2 a3 a4 a5 a6 a7 a8 a9 a10 a11 a12 a13 → W n b1 b2 b3 b4 b5 b6 b7 b8 b9 b10 b11 b12 b13) → W (n + 1) a1 a2 a3 a4 a5 a6 a7 a8 a9 a10 a11 a12 a13) (a1 : A1) (a2 : A2) (a3 : A3) (a4 : A4) (a5 : A5) (a6 : A6) (a7 : A7) (a8 : A8) (a9 : A9) (a10 : A10) (a11 : A11) (a12 : A12) (a13 : A13) (h : I a1 a2 a3 a4 a5 a6 a7 a8 a9 a10 a11 a12 a13) : ∃ n, W n a1 a2 a3 a4 a5 a6 a7 a8 a9 a10 a11 a12 a13 :=
  loop_m (σ := A1 × A2 × A3 × A4 × A5 × A6 × A7 × A8 × A9 × A10 × A11 × A12 × A13) (fun n s => W n s.1 s.2.1 s.2.2.1 s.2.2.2.1 s.2.2.2.2.1 s.2.2.2.2.2.1 s.2.2.2.2.2.2.1 s.2.2.2.2.2.2.2.1 s.2.2.2.2.2.2.2.2.1 s.2.2.2.2.2.2.2.2.2.1 s.2.2.2.2.2.2.2.2.2.2.1 s.2.2.2.2.2.2.2.2.2.2.2.1 s.2.2.2.2.2.2.2.2.2.2.2.2) (fun s => I s.1 s.2.1 s.2.2.1 s.2.2.2.1 s.2.2.2.2.1 s.2.2.2.2.2.1 s.2.2.2.2.2.2.1 s.2.2.2.2.2.2.2.1 s.2.2.2.2.2.2.2.2.1 s.2.2.2.2.2.2.2.2.2.1 s.2.2.2.2.2.2.2.2.2.2.1 s.2.2.2.2.2.2.2.2.2.2.2.1 s.2.2.2.2.2.2.2.2.2.2.2.2) (fun s => μ s.1 s.2.1 s.2.2.1 s.2.2.2.1 s.2.2.2.2.1 s.2.2.2.2.2.1 s.2.2.2.2.2.2.1 s.2.2.2.2.2.2.2.1 s.2.2.2.2.2.2.2.2.1 s.2.2.2.2.2.2.2.2.2.1 s.2.2.2.2.2.2.2.2.2.2.1 s.2.2.2.2.2.2.2.2.2.2.2.1 s.2.2.2.2.2.2.2.2.2.2.2.2) (fun n s hI hk => hs n s.1 s.2.1 s.2.2.1 s.2.2.2.1 s.2.2.2.2.1 s.2.2.2.2.2.1 s.2.2.2.2.2.2.1 s.2.2.2.2.2.2.2.1 s.2.2.2.2.2.2.2.2.1 s.2.2.2.2.2.2.2.2.2.1 s.2.2.2.2.2.2.2.2.2.2.1 s.2.2.2.2.2.2.2.2.2.2.2.1 s.2.2.2.2.2.2.2.2.2.2.2.2 hI (fun b1 b2 b3 b4 b5 b6 b7 b8 b9 b10 b11 b12 b13 h9 hm => hk (b1, b2, b3, b4, b5, b6, b7, b8, b9, b10, b11, b12, b13) h9 hm)) (a1, a2, a3, a4, a5, a6, a7, a8, a9, a10, a11, a12, a13) h
theorem lp14 {A1 A2 A3 A4 A5 A6 A7 A8 A9 A10 A11 A12 A13 A14 : Type} (W : Nat → A1 → A2 → A3 → A4 → A5 → A6 → A7 → A8 → A9 → A10 → A11 → A12 → A13 → A14 → Prop) (I : A1 → A2 → A3 → A4 → A5 → A6 → A7 → A8 → A9 → A10 → A11 → A12 → A13 → A14 → Prop) (μ : A1 → A2 → A3 → A4 → A5 → A6 → A7 → A8 → A9 → A10 → A11 → A12 → A13 → A14 → Nat) (hs : ∀ (n : Nat) (a1 : A1) (a2 : A2) (a3 : A3) (a4 : A4) (a5 : A5) (a6 : A6) (a7 : A7) (a8 : A8) (a9 : A9) (a10 : A10) (a11 : A11) (a12 : A12) (a13 : A13) (a14 : A14), I a1 a2 a3 a4 a5 a6 a7 a8 a9 a10 a11 a12 a13 a14 → (∀ (b1 : A1) (b2 : A2) (b3 : A3) (b4 : A4) (b5 : A5) (b6 : A6) (b7 : A7) (b8 : A8) (b9 : A9) (b10 : A10) (b11 : A11) (b12 : A12) (b13 : A13) (b14 : A14), I b1 b2 b3 b4 b5 b6 b7 b8 b9 b10 b11 b12 b13 b14 → μ b1 b2 b3 b4 b5 b6 b7 b8 b9 b10 b11 b12 b13 b14 < μ a1 a2 a3 a4 a5 a6 a7 a8 a9 a10 a11 a12 a13 a14 → W n b1 b2 b3 b4 b5 b6 b7 b8 b9 b10 b11 b12 b13 b14) → W (n + 1) a1 a2 a3 a4 a5 a6 a7 a8 a9 a10 a11 a12 a13 a14) (a1 : A1) (a2 : A2) (a3 : A3) (a4 : A4) (a5 : A5) (a6 : A6) (a7 : A7) (a8 : A8) (a9 : A9) (a10 : A10) (a11 : A11) (a12 : A12) (a13 : A13) (a14 : A14) (h : I a1 a2 a3 a4 a5 a6 a7 a8 a9 a10 a11 a12 a13 a14) : ∃ n, W n a1 a2 a3 a4 a5 a6 a7 a8 a9 a10 a11 a12 a13 a14 :=
  loop_m (σ := A1 × A2 × A3 × A4 × A5 × A6 × A7 × A8 × A9 × A10 × A11 × A12 × A13 × A14) (fun n s => W n s.1 s.2.1 s.2.2.1 s.2.2.2.1 s.2.2.2.2.1 s.2.2.2.2.2.1 s.2.2.2.2.2.2.1 s.2.2.2.2.2.2.2.1 s.2.2.2.2.2.2.2.2.1 s.2.2.2.2.2.2.2.2.2.1 s.2.2.2.2.2.2.2.2.2.2.1 s.2.2.2.2.2.2.2.2.2.2.2.1 s.2.2.2.2.2.2.2.2.2.2.2.2.1 s.2.2.2.2.2.2.2.2.2.2.2.2.2) (fun s => I s.1 s.2.1 s.2.2.1 s.2.2.2.1 s.2.2.2.2.1 s.2.2.2.2.2.1 s.2.2.2.2.2.2.1 s.2.2.2.2.2.2.2.1 s.2.2.2.2.2.2.2.2.1 s.2.2.2.2.2.2.2.2.2.1 s.2.2.2.2.2.2.2.2.2.2.1 s.2.2.2.2.2.2.2.2.2.2.2.1 s.2.2.2.2.2.2.2.2.2.2.2.2.1 s.2.2.2.2.2.2.2.2.2.2.2.2.2) (fun s => μ s.1 s.2.1 s.2.2.1 s.2.2.2.1 s.2.2.2.2.1 s.2.2.2.2.2.1 s.2.2.2.2.2.2.1 s.2.2.2.2.2.2.2.1 s.2.2.2.2.2.2.2.2.1 s.2.2.2.2.2.2.2.2.2.1 s.2.2.2.2.2.2.2.2.2.2.1 s.2.2.2.2.2.2.2.2.2.2.2.1 s.2.2.2.2.2.2.2.2.2.2.2.2.1 s.2.2.2.2.2.2.2.2.2.2.2.2.2) (fun n s hI hk => hs n s.1 s.2.1 s.2.2.1 s.2.2.2.1 s.2.2.2.2.1 s.2.2.2.2.2.1 s.2.2.2.2.2.2.1 s.2.2.2.2.2.2.2.1 s.2.2.2.2.2.2.2.2.1 s.2.2.2.2.2.2.2.2.2.1 s.2.2.2.2.2.2.2.2.2.2.1 s.2.2.2.2.2.2.2.2.2.2.2.1 s.2.2.2.2.2.2.2.2.2.2.2.2.1 s.2.2.2.2.2.2.2.2.2.2.2.2.2 hI (fun b1 b2 b3 b4 b5 b6 b7 b8 b9 b10 b11 b12 b13 b14 h9 hm => hk (b1, b2, b3, b4, b5, b6, b7, b8, b9, b10, b11, b12, b13, b14) h9 hm)) (a1, a2, a3, a4, a5, a6, a7, a8, a9, a10, a11, a12, a13, a14) h
theorem lp15 {A1 A2 A3 A4 A5 A6 A7 A8 A9 A10 A11 A12 A13 A14 A15 : Type} (W : Nat → A1 → A2 → A3 → A4 → A5 → A6 → A7 → A8 → A9 → A10 → A11 → A12 → A13 → A14 → A15 → Prop) (I : A1 → A2 → A3 → A4 → A5 → A6 → A7 → A8 → A9 → A10 → A11 → A12 → A13 → A14 → A15 → Prop) (μ : A1 → A2 → A3 → A4 → A5 → A6 → A7 → A8 → A9 → A10 → A11 → A12 → A13 → A14 → A15 → Nat) (hs : ∀ (n : Nat) (a1 : A1) (a2 : A2) (a3 : A3) (a4 : A4) (a5 : A5) (a6 : A6) (a7 : A7) (a8 : A8) (a9 : A9) (a10 : A10) (a11 : A11) (a12 : A12) (a13 : A13) (a14 : A14) (a15 : A15), I a1 a2 a3 a4 a5 a6 a7 a8 a9 a10 a11 a12 a13 a14 a15 → (∀ (b1 : A1) (b2 : A2) (b3 : A3) (b4 : A4) (b5 : A5) (b6 : A6) (b7 : A7) (b8 : A8) (b9 : A9) (b10 : A10) (b11 : A11) (b12 : A12) (b13 : A13) (b14 : A14) (b15 : A15), I b1 b2 b3 b4 b5 b6 b7 b8 b9 b10 b11 b12 b13 b14 b15 → μ b1 b2 b3 b4 b5 b6 b7 b8 b9 b10 b11 b12 b13 b14 b15 < μ a1 a2 a3 a4 a5 a6 a7 a8 a9 a10 a11 a12 a13 a14 a15 → W n b1 b2 b3 b4 b5 b6 b7 b8 b9 b10 b11 b12 b13 b14 b15) → W (n + 1) a1 a2 a3 a4 a5 a6 a7 a8 a9 a10 a11 a12 a13 a14 a15) (a1 : A1) (a2 : A2) (a3 : A3) (a4 : A4) (a5 : A5) (a6 : A6) (a7 : A7) (a8 : A8) (a9 : A9) (a10 : A10) (a11 : A11) (a12 : A12) (a13 : A13) (a14 : A14) (a15 : A15) (h : I a1 a2 a3 a4 a5 a6 a7 a8 a9 a10 a11 a12 a13 a14 a15) : ∃ n, W n a1 a2 a3 a4 a5 a6 a7 a8 a9 a10 a11 a12 a13 a14 a15 :=
  loop_m (σ := A1 × A2 × A3 × A4 × A5 × A6 × A7 × A8 × A9 × A10 × A11 × A12 × A13 × A14 × A15) (fun n s => W n s.1 s.2.1 s.2.2.1 s.2.2.2.1 s.2.2.2.2.1 s.2.2.2.2.2.1 s.2.2.2.2.2.2.1 s.2.2.2.2.2.2.2.1 s.2.2.2.2.2.2.2.2.1 s.2.2.2.2.2.2.2.2.2.1 s.2.2.2.2.2.2.2.2.2.2.1 s.2.2.2.2.2.2.2.2.2.2.2.1 s.2.2.2.2.2.2.2.2.2.2.2.2.1 s.2.2.2.2.2.2.2.2.2.2.2.2.2.1 s.2.2.2.2.2.2.2.2.2.2.2.2.2.2) (fun s => I s.1 s.2.1 s.2.2.1 s.2.2.2.1 s.2.2.2.2.1 s.2.2.2.2.2.1 s.2.2.2.2.2.2.1 s.2.2.2.2.2.2.2.1 s.2.2.2.2.2.2.2.2.1 s.2.2.2.2.2.2.2.2.2.1 s.2.2.2.2.2.2.2.2.2.2.1 s.2.2.2.2.2.2.2.2.2.2.2.1 s.2.2.2.2.2.2.2.2.2.2.2.2.1 s.2.2.2.2.2.2.2.2.2.2.2.2.2.1 s.2.2.2.2.2.2.2.2.2.2.2.2.2.2) (fun s => μ s.1 s.2.1 s.2.2.1 s.2.2.2.1 s.2.2.2.2.1 s.2.2.2.2.2.1 s.2.2.2.2.2.2.1 s.2.2.2.2.2.2.2.1 s.2.2.2.2.2.2.2.2.1 s.2.2.2.2.2.2.2.2.2.1 s.2.2.2.2.2.2.2.2.2.2.1 s.2.2.2.2.2.2.2.2.2.2.2.1 s.2.2.2.2.2.2.2.2.2.2.2.2.1 s.2.2.2.2.2.2.2.2.2.2.2.2.2.1 s.2.2.2.2.2.2.2.2.2.2.2.2.2.2) (fun n s hI hk => hs n s.1 s.2.1 s.2.2.1 s.2.2.2.1 s.2.2.2.2.1 s.2.2.2.2.2.1 s.2.2.2.2.2.2.1 s.2.2.2.2.2.2.2.1 s.2.2.2.2.2.2.2.2.1 s.2.2.2.2.2.2.2.2.2.1 s.2.2.2.2.2.2.2.2.2.2.1 s.2.2.2.2.2.2.2.2.2.2.2.1 s.2.2.2.2.2.2.2.2.2.2.2.2.1 s.2.2.2.2.2.2.2.2.2.2.2.2.2.1 s.2.2.2.2.2.2.2.2.2.2.2.2.2.2 hI (fun b1 b2 b3 b4 b5 b6 b7 b8 b9 b10 b11 b12 b13 b14 b15 h9 hm => hk (b1, b2, b3, b4, b5, b6, b7, b8, b9, b10, b11, b12, b13, b14, b15) h9 hm)) (a1, a2, a3, a4, a5, a6, a7, a8, a9, a10, a11, a12, a13, a14, a15) h
theorem lp16 {A1 A2 A3 A4 A5 A6 A7 A8 A9 A10 A11 A12 A13 A14 A15 A16 : Type} (W : Nat → A1 → A2 → A3 → A4 → A5 → A6 → A7 → A8 → A9 → A10 → A11 → A12 → A13 → A14 → A15 → A16 → Prop) (I : A1 → A2 → A3 → A4 → A5 → A6 → A7 → A8 → A9 → A10 → A11 → A12 → A13 → A14 → A15 → A16 → Prop) (μ : A1 → A2 → A3 → A4 → A5 → A6 → A7 → A8 → A9 → A10 → A11 → A12 → A13 → A14 → A15 → A16 → Nat) (hs : ∀ (n : Nat) (a1 : A1) (a2 : A2) (a3 : A3) (a4 : A4) (a5 : A5) (a6 : A6) (a7 : A7) (a8 : A8) (a9 : A9) (a10 : A10) (a11 : A11) (a12 : A12) (a13 : A13) (a14 : A14) (a15 : A15) (a16 : A16), I a1 a2 a3 a4 a5 a6 a7 a8 a9 a10 a11 a12 a13 a14 a15 a16 → (∀ (b1 : A1) (b2 : A2) (b3 : A3) (b4 : A4) (b5 : A5) (b6 : A6) (b7 : A7) (b8 : A8) (b9 : A9) (b10 : A10) (b11 : A11) (b12 : A12) (b13 : A13) (b14 : A14) (b15 : A15) (b16 : A16), I b1 b2 b3 b4 b5 b6 b7 b8 b9 b10 b11 b12 b13 b14 b15 b16 → μ b1 b2 b3 b4 b5 b6 b7 b8 b9 b10 b11 b12 b13 b14 b15 b16 < μ a1 a2 a3 a4 a5 a6 a7 a8 a9 a10 a11 a12 a13 a14 a15 a16 → W n b1 b2 b3 b4 b5 b6 b7 b8 b9 b10 b11 b12 b13 b14 b15 b16) → W (n + 1) a1 a2 a3 a4 a5 a6 a7 a8 a9 a10 a11 a12 a13 a14 a15 a16) (a1 : A1) (a2 : A2) (a3 : A3) (a4 : A4) (a5 : A5) (a6 : A6) (a7 : A7) (a8 : A8) (a9 : A9) (a10 : A10) (a11 : A11) (a12 : A12) (a13 : A13) (a14 : A14) (a15 : A15) (a16 : A16) (h : I a1 a2 a3 a4 a5 a6 a7 a8 a9 a10 a11 a12 a13 a14 a15 a16) : ∃ n, W n a1 a2 a3 a4 a5 a6 a7 a8 a9 a10 a11 a12 a13 a14 a15 a16 :=
  loop_m (σ := A1 × A2 × A3 × A4 × A5 × A6 × A7 × A8 × A9 × A10 × A11 × A12 × A13 × A14 × A15 × A16) (fun n s => W n s.1 s.2.1 s.2.2.1 s.2.2.2.1 s.2.2.2.2.1 s.2.2.2.2.2.1 s.2.2.2.2.2.2.1 s.2.2.2.2.2.2.2.1 s.2.2.2.2.2.2.2.2.1 s.2.2.2.2.2.2.2.2.2.1 s.2.2.2.2.2.2.2.2.2.2.1 s.2.2.2.2.2.2.2.2.2.2.2.1 s.2.2.2.2.2.2.2.2.2.2.2.2.1 s.2.2.2.2.2.2.2.2.2.2.2.2.2.1 s.2.2.2.2.2.2.2.2.2.2.2.2.2.2.1 s.2.2.2.2.2.2.2.2.2.2.2.2.2.2.2) (fun s => I s.1 s.2.1 s.2.2.1 s.2.2.2.1 s.2.2.2.2.1 s.2.2.2.2.2.1 s.2.2.2.2.2.2.1 s.2.2.2.2.2.2.2.1 s.2.2.2.2.2.2.2.2.1 s.2.2.2.2.2.2.2.2.2.1 s.2.2.2.2.2.2.2.2.2.2.1 s.2.2.2.2.2.2.2.2.2.2.2.1 s.2.2.2.2.2.2.2.2.2.2.2.2.1 s.2.2.2.2.2.2.2.2.2.2.2.2.2.1 s.2.2.2.2.2.2.2.2.2.2.2.2.2.2.1 s.2.2.2.2.2.2.2.2.2.2.2.2.2.2.2) (fun s => μ s.1 s.2.1 s.2.2.1 s.2.2.2.1 s.2.2.2.2.1 s.2.2.2.2.2.1 s.2.2.2.2.2.2.1 s.2.2.2.2.2.2.2.1 s.2.2.2.2.2.2.2.2.1 s.2.2.2.2.2.2.2.2.2.1 s.2.2.2.2.2.2.2.2.2.2.1 s.2.2.2.2.2.2.2.2.2.2.2.1 s.2.2.2.2.2.2.2.2.2.2.2.2.1 s.2.2.2.2.2.2.2.2.2.2.2.2.2.1 s.2.2.2.2.2.2.2.2.2.2.2.2.2.2.1 s.2.2.2.2.2.2.2.2.2.2.2.2.2.2.2) (fun n s hI hk => hs n s.1 s.2.1 s.2.2.1 s.2.2.2.1 s.2.2.2.2.1 s.2.2.2.2.2.1 s.2.2.2.2.2.2.1 s.2.2.2.2.2.2.2.1 s.2.2.2.2.2.2.2.2.1 s.2.2.2.2.2.2.2.2.2.1 s.2.2.2.2.2.2.2.2.2.2.1 s.2.2.2.2.2.2.2.2.2.2.2.1 s.2.2.2.2.2.2.2.2.2.2.2.2.1 s.2.2.2.2.2.2.2.2.2.2.2.2.2.1 s.2.2.2.2.2.2.2.2.2.2.2.2.2.2.1 s.2.2.2.2.2.2.2.2.2.2.2.2.2.2.2 hI (fun b1 b2 b3 b4 b5 b6 b7 b8 b9 b10 b11 b12 b13 b14 b15 b16 h9 hm => hk (b1, b2, b3, b4, b5, b6, b7, b8, b9, b10, b11, b12, b13, b14, b15, b16) h9 hm)) (a1, a2, a3, a4, a5, a6, a7, a8, a9, a10, a11, a12, a13, a14, a15, a16) h
theorem pk_least (P : Nat → Prop) (h : ∃ k, P k) : ∃ k, P k ∧ ∀ j, j < k → ¬ P j := by
  obtain ⟨k, hk⟩ := h
  induction k using Nat.strongRecOn with
  | ind k ih =>
    by_cases e : ∃ j, j < k ∧ P j
    · obtain ⟨j, hj, pj⟩ := e
      exact ih j hj pj
    · exact ⟨k, hk, fun j hj pj => e ⟨j, hj, pj⟩⟩
theorem rp1 {ρ A1 : Type} (W : Nat → (ρ → Prop) → A1 → Prop) (ok : A1 → Prop) (μ : A1 → Nat) (val : A1 → ρ)
    (hs : ∀ (d : Nat) (post : ρ → Prop) (a1 : A1), ok a1 → post (val a1) → (∀ (post' : ρ → Prop) (b1 : A1), ok b1 → μ b1 < μ a1 → post' (val b1) → W d post' b1) → W (d + 1) post a1) :
    ∀ (d : Nat) (post : ρ → Prop) (a1 : A1), ok a1 → μ a1 < d → post (val a1) → W d post a1 := by
  intro d
  induction d with
  | zero => intro post a1 _ h; omega
  | succ d ih =>
    intro post a1 ho hm hp
    exact hs d post a1 ho hp (fun post' b1 ho' hm' hp' => ih post' b1 ho' (by omega) hp')
theorem rp2 {ρ A1 A2 : Type} (W : Nat → (ρ → Prop) → A1 → A2 → Prop) (ok : A1 → A2 → Prop) (μ : A1 → A2 → Nat) (val : A1 → A2 → ρ)
    (hs : ∀ (d : Nat) (post : ρ → Prop) (a1 : A1) (a2 : A2), ok a1 a2 → post (val a1 a2) → (∀ (post' : ρ → Prop) (b1 : A1) (b2 : A2), ok b1 b2 → μ b1 b2 < μ a1 a2 → post' (val b1 b2) → W d post' b1 b2) → W (d + 1) post a1 a2) :
    ∀ (d : Nat) (post : ρ → Prop) (a1 : A1) (a2 : A2), ok a1 a2 → μ a1 a2 < d → post (val a1 a2) → W d post a1 a2 := by
  intro d
  induction d with
  | zero => intro post a1 a2 _ h; omega
  | succ d ih =>
    intro post a1 a2 ho hm hp
    exact hs d post a1 a2 ho hp (fun post' b1 b2 ho' hm' hp' => ih post' b1 b2 ho' (by omega) hp')
theorem rp3 {ρ A1 A2 A3 : Type} (W : Nat → (ρ → Prop) → A1 → A2 → A3 → Prop) (ok : A1 → A2 → A3 → Prop) (μ : A1 → A2 → A3 → Nat) (val : A1 → A2 → A3 → ρ)
    (hs : ∀ (d : Nat) (post : ρ → Prop) (a1 : A1) (a2 : A2) (a3 : A3), ok a1 a2 a3 → post (val a1 a2 a3) → (∀ (post' : ρ → Prop) (b1 : A1) (b2 : A2) (b3 : A3), ok b1 b2 b3 → μ b1 b2 b3 < μ a1 a2 a3 → post' (val b1 b2 b3) → W d post' b1 b2 b3) → W (d + 1) post a1 a2 a3) :
    ∀ (d : Nat) (post : ρ → Prop) (a1 : A1) (a2 : A2) (a3 : A3), ok a1 a2 a3 → μ a1 a2 a3 < d → post (val a1 a2 a3) → W d post a1 a2 a3 := by
  intro d
  induction d with
  | zero => intro post a1 a2 a3 _ h; omega
  | succ d ih =>
    intro post a1 a2 a3 ho hm hp
    exact hs d post a1 a2 a3 ho hp (fun post' b1 b2 b3 ho' hm' hp' => ih post' b1 b2 b3 ho' (by omega) hp')
theorem rp4 {ρ A1 A2 A3 A4 : Type} (W : Nat → (ρ → Prop) → A1 → A2 → A3 → A4 → Prop) (ok : A1 → A2 → A3 → A4 → Prop) (μ : A1 → A2 → A3 → A4 → Nat) (val : A1 → A2 → A3 → A4 → ρ)
    (hs : ∀ (d : Nat) (post : ρ → Prop) (a1 : A1) (a2 : A2) (a3 : A3) (a4 : A4), ok a1 a2 a3 a4 → post (val a1 a2 a3 a4) → (∀ (post' : ρ → Prop) (b1 : A1) (b2 : A2) (b3 : A3) (b4 : A4), ok b1 b2 b3 b4 → μ b1 b2 b3 b4 < μ a1 a2 a3 a4 → post' (val b1 b2 b3 b4) → W d post' b1 b2 b3 b4) → W (d + 1) post a1 a2 a3 a4) :
    ∀ (d : Nat) (post : ρ → Prop) (a1 : A1) (a2 : A2) (a3 : A3) (a4 : A4), ok a1 a2 a3 a4 → μ a1 a2 a3 a4 < d → post (val a1 a2 a3 a4) → W d post a1 a2 a3 a4 := by
  intro d
  induction d with
  | zero => intro post a1 a2 a3 a4 _ h; omega
  | succ d ih =>
    intro post a1 a2 a3 a4 ho hm hp
    exact hs d post a1 a2 a3 a4 ho hp (fun post' b1 b2 b3 b4 ho' hm' hp' => ih post' b1 b2 b3 b4 ho' (by omega) hp')
theorem rp5 {ρ A1 A2 A3 A4 A5 : Type} (W : Nat → (ρ → Prop) → A1 → A2 → A3 → A4 → A5 → Prop) (ok : A1 → A2 → A3 → A4 → A5 → Prop) (μ : A1 → A2 → A3 → A4 → A5 → Nat) (val : A1 → A2 → A3 → A4 → A5 → ρ)
    (hs : ∀ (d : Nat) (post : ρ → Prop) (a1 : A1) (a2 : A2) (a3 : A3) (a4 : A4) (a5 : A5), ok a1 a2 a3 a4 a5 → post (val a1 a2 a3 a4 a5) → (∀ (post' : ρ → Prop) (b1 : A1) (b2 : A2) (b3 : A3) (b4 : A4) (b5 : A5), ok b1 b2 b3 b4 b5 → μ b1 b2 b3 b4 b5 < μ a1 a2 a3 a4 a5 → post' (val b1 b2 b3 b4 b5) → W d post' b1 b2 b3 b4 b5) → W (d + 1) post a1 a2 a3 a4 a5) :
    ∀ (d : Nat) (post : ρ → Prop) (a1 : A1) (a2 : A2) (a3 : A3) (a4 : A4) (a5 : A5), ok a1 a2 a3 a4 a5 → μ a1 a2 a3 a4 a5 < d → post (val a1 a2 a3 a4 a5) → W d post a1 a2 a3 a4 a5 := by
  intro d
  induction d with
  | zero => intro post a1 a2 a3 a4 a5 _ h; omega
  | succ d ih =>
    intro post a1 a2 a3 a4 a5 ho hm hp
    exact hs d post a1 a2 a3 a4 a5 ho hp (fun post' b1 b2 b3 b4 b5 ho' hm' hp' => ih post' b1 b2 b3 b4 b5 ho' (by omega) hp')
theorem rp6 {ρ A1 A2 A3 A4 A5 A6 : Type} (W : Nat → (ρ → Prop) → A1 → A2 → A3 → A4 → A5 → A6 → Prop) (ok : A1 → A2 → A3 → A4 → A5 → A6 → Prop) (μ : A1 → A2 → A3 → A4 → A5 → A6 → Nat) (val : A1 → A2 → A3 → A4 → A5 → A6 → ρ)
    (hs : ∀ (d : Nat) (post : ρ → Prop) (a1 : A1) (a2 : A2) (a3 : A3) (a4 : A4) (a5 : A5) (a6 : A6), ok a1 a2 a3 a4 a5 a6 → post (val a1 a2 a3 a4 a5 a6) → (∀ (post' : ρ → Prop) (b1 : A1) (b2 : A2) (b3 : A3) (b4 : A4) (b5 : A5) (b6 : A6), ok b1 b2 b3 b4 b5 b6 → μ b1 b2 b3 b4 b5 b6 < μ a1 a2 a3 a4 a5 a6 → post' (val b1 b2 b3 b4 b5 b6) → W d post' b1 b2 b3 b4 b5 b6) → W (d + 1) post a1 a2 a3 a4 a5 a6) :
    ∀ (d : Nat) (post : ρ → Prop) (a1 : A1) (a2 : A2) (a3 : A3) (a4 : A4) (a5 : A5) (a6 : A6), ok a1 a2 a3 a4 a5 a6 → μ a1 a2 a3 a4 a5 a6 < d → post (val a1 a2 a3 a4 a5 a6) → W d post a1 a2 a3 a4 a5 a6 := by
  intro d
  induction d with
  | zero => intro post a1 a2 a3 a4 a5 a6 _ h; omega
  | succ d ih =>
    intro post a1 a2 a3 a4 a5 a6 ho hm hp
    exact hs d post a1 a2 a3 a4 a5 a6 ho hp (fun post' b1 b2 b3 b4 b5 b6 ho' hm' hp' => ih post' b1 b2 b3 b4 b5 b6 ho' (by omega) hp')
theorem rec_p {σ ρ : Type} (W : Nat → (ρ → Prop) → σ → Prop) (ok : σ → Prop) (μ : σ → Nat) (val : σ → ρ)
    (hs : ∀ d s post, ok s → post (val s) → (∀ s' post', ok s' → μ s' < μ s → post' (val s') → W d post' s') → W (d + 1) post s) :
    ∀ d s post, ok s → μ s < d → post (val s) → W d post s := by
  intro d
  induction d with
  | zero => intro s post _ h; omega
  | succ d ih =>
    intro s post ho hm hp
    exact hs d s post ho hp (fun s' post' ho' hm' hp' => ih s' post' ho' (by omega) hp')
theorem rec_q {σ ρ : Type} (W : Nat → (ρ → Prop) → σ → Prop) (ok : σ → Prop) (μ : σ → Nat) (Q : σ → ρ → Prop)
    (hs : ∀ d s post, ok s → (∀ r, Q s r → post r) → (∀ s' post', ok s' → μ s' < μ s → (∀ r, Q s' r → post' r) → W d post' s') → W (d + 1) post s) :
    ∀ d s post, ok s → μ s < d → (∀ r, Q s r → post r) → W d post s := by
  intro d
  induction d with
  | zero => intro s post _ h; omega
  | succ d ih =>
    intro s post ho hm hp
    exact hs d s post ho hp (fun s' post' ho' hm' hp' => ih s' post' ho' (by omega) hp')
def bx_sum (f : Nat → Int32) : Nat → Int32
  | 0 => 0
  | n + 1 => bx_sum f n + f n
theorem ek_u {A : Prop} {B : Nat → Prop} {k N : Nat} (hk : k < N) (h : B k) : (some k = none → A) ∧ (∀ y : Nat, some k = some y → (y < N ∧ B y)) :=
  ⟨fun z => absurd z (Option.some_ne_none k), fun _ e => (by cases e; exact ⟨hk, h⟩)⟩
theorem ek_nu {A : Prop} {B : Nat → Prop} (h : A) : ((none : Option Nat) = none → A) ∧ (∀ y : Nat, (none : Option Nat) = some y → B y) :=
  ⟨fun _ => h, fun _ e => (by cases e)⟩
theorem ek_if {c d A B : Prop} (e : c ↔ d) (f : d → A) (g : ¬ d → B) : (c → A) ∧ (¬ c → B) :=
  ⟨fun z => f (e.mp z), fun z => g (fun y => z (e.mpr y))⟩
theorem ek_v {α : Sort _} {P : α → Prop} {a b : α} (e : a = b) (h : P b) : P a := e ▸ h
theorem co_some {x : Option Nat} {A : Prop} {B : Nat → Prop} (i : Nat) (h : B i) (hx : x = some i := by rfl) : (x = none → A) ∧ (∀ y : Nat, x = some y → B y) := by
  subst hx
  exact ⟨fun e => (nomatch e), fun y e => Option.some.inj e ▸ h⟩
theorem co_none {x : Option Nat} {A : Prop} {B : Nat → Prop} (h : A) (hx : x = none := by rfl) : (x = none → A) ∧ (∀ y : Nat, x = some y → B y) := by
  subst hx
  exact ⟨fun _ => h, fun y e => (nomatch e)⟩
theorem co_any {x : Option Nat} {A : Prop} {B : Nat → Prop} (hn : x = none → A) (hs : ∀ i : Nat, x = some i → B i) : (x = none → A) ∧ (∀ y : Nat, x = some y → B y) := ⟨hn, hs⟩
theorem co_2 {P : Nat → Prop} (h0 : P 0) (h1 : P 1) {i : Nat} (hi : i < 2) : P i :=
  match i, hi with
  | 0, _ => h0
  | 1, _ => h1
theorem co_3 {P : Nat → Prop} (h0 : P 0) (h1 : P 1) (h2 : P 2) {i : Nat} (hi : i < 3) : P i :=
  match i, hi with
  | 0, _ => h0
  | 1, _ => h1
  | 2, _ => h2
theorem co_4 {P : Nat → Prop} (h0 : P 0) (h1 : P 1) (h2 : P 2) (h3 : P 3) {i : Nat} (hi : i < 4) : P i :=
  match i, hi with
  | 0, _ => h0
  | 1, _ => h1
  | 2, _ => h2
  | 3, _ => h3
theorem co_dec {N : Nat} {P : Nat → Prop} [DecidablePred P] (h : (List.range N).all (fun i => decide (P i)) = true) {i : Nat} (hi : i < N) : P i := by
  have := List.all_eq_true.mp h i (List.mem_range.mpr hi)
  exact of_decide_eq_true this
theorem co_tab {α : Type} {l : List α} {d : α} {P : α → Prop} (h : ∀ a, a ∈ l → P a) {i : Nat} (hi : i < l.length) : P (l.getD i d) := by
  rw [List.getD_eq_getElem?_getD, List.getElem?_eq_getElem hi]
  exact h _ (List.getElem_mem hi)
theorem pk_mu {x : Int32} {L : Nat} (h0 : ¬ x < 0) (h : ¬ nI L ≤ x) (hL : L < 2 ^ 31) : ∃ j : Nat, j < L ∧ x = nI j ∧ x + 1 = nI (j + 1) ∧ x.toNatClampNeg = j ∧ L - (x + 1).toNatClampNeg < L - x.toNatClampNeg := by
  obtain ⟨j, hj, rfl⟩ := nI_of h0
  have hl : j < L := Nat.not_le.mp fun q => h (nI_le q hj)
  refine ⟨j, hl, rfl, nI_1 j, nI_clamp hj, ?_⟩
  rw [nI_1, nI_clamp (by omega), nI_clamp hj]
  omega
theorem op_s {α : Type} {r : Option α} {A : Prop} {B : α → Prop} {y : α} (h : r = some y) (b : B y) : (r = none → A) ∧ ∀ z, r = some z → B z :=
  ⟨fun e => (by rw [h] at e; cases e), fun z e => (by rw [h] at e; cases e; exact b)⟩
def l_holds {α : Type} (a : Nat → Option Nat) (LP : List Nat) (p : Nat → α) (c : Nat) (b : Nat → α) : Prop :=
  ∀ j, j < c → ∃ y, a j = some y ∧ y ∈ LP ∧ p y = b j
theorem l_holds_0 {α : Type} {a : Nat → Option Nat} {LP : List Nat} {p b : Nat → α} : l_holds a LP p 0 b := fun j h => absurd h (Nat.not_lt_zero j)
theorem l_in_new (LP : List Nat) (q : Nat) : q ∈ LP ++ [q] := List.mem_append.mpr (Or.inr (List.mem_singleton.mpr rfl))
def l_sum (b : Nat → Int32) : Nat → Int32
  | 0 => 0
  | k + 1 => l_sum b k + b k
theorem sb_shr0 (x : Int32) : x >>> ((0 : Int32) &&& 31) = x := by
  rw [show ((0 : Int32) &&& 31) = 0 by decide]
  simp
theorem sb_shl0 (x : Int32) : x <<< ((0 : Int32) &&& 31) = x := by
  rw [show ((0 : Int32) &&& 31) = 0 by decide]
  simp
theorem sb_cl0 : (0 : Int32).toNatClampNeg = 0 := by decide
theorem sb_m1 {p : Nat} (h : 0 < p) : nI p + (-1) = nI (p - 1) := by
  obtain ⟨q, rfl⟩ : ∃ q, p = q + 1 := ⟨p - 1, by omega⟩
  exact pk_m1 q
def sb_b (c : Nat) : Int32 := (nI c).toInt8.toInt32
theorem sb_byte : ∀ c, c < 256 → sb_b c &&& 255 = nI c ∧ ((nI c).toUInt32 % 65536).toInt32 = nI c ∧ nI c ≤ 255 := by decide +kernel
def sb_Fit (a : Nat → Int32) : Prop := ∀ j, fits .byte (.int (a j)) = true
def sb_Lat (t : Nat → Nat) (n : Nat) (a : Nat → Int32) : Prop := ∀ j, j < n → t j < 256 ∧ a j = sb_b (t j)
theorem sb_fitB (c : Nat) : fits .byte (.int (sb_b c)) = true := pk_fb _
theorem sb_fit0 : sb_Fit (fun _ => 0) := fun _ => by
  show fits .byte (.int 0) = true
  decide
theorem sb_fitU {a : Nat → Int32} {k : Nat} {x : Int32} (h : sb_Fit a) (hx : fits .byte (.int x) = true) : sb_Fit (upd a k x) := by
  intro j
  by_cases e : j = k
  · subst e
    rw [pk_us]
    exact hx
  · rw [pk_un e]
    exact h j
def sb_cat (t : Nat → Nat) (n : Nat) (s : Nat → Nat) : Nat → Nat := fun j => if j < n then t j else s (j - n)
theorem sb_cat_lo {t s : Nat → Nat} {n j : Nat} (h : j < n) : sb_cat t n s j = t j := if_pos h
theorem sb_cat_hi {t s : Nat → Nat} {n j : Nat} : sb_cat t n s (n + j) = s j := by
  show (if n + j < n then t (n + j) else s (n + j - n)) = s j
  rw [if_neg (by omega), Nat.add_sub_cancel_left]
theorem sb_latPut {t s : Nat → Nat} {n w : Nat} {a a' : Nat → Int32} (h : sb_Lat t n a) (hk : ∀ j, j < n → a' j = a j) (hs : ∀ i, i < w → s i < 256 ∧ a' (n + i) = sb_b (s i)) : sb_Lat (sb_cat t n s) (n + w) a' := by
  intro j hj
  by_cases e : j < n
  · rw [sb_cat_lo e, hk j e]
    exact h j e
  · obtain ⟨i, rfl⟩ : ∃ i, j = n + i := ⟨j - n, by omega⟩
    rw [sb_cat_hi]
    exact hs i (by omega)
theorem sb_latKeep {t : Nat → Nat} {n : Nat} {a a' : Nat → Int32} (h : sb_Lat t n a) (hk : ∀ j, j < n → a' j = a j) : sb_Lat t n a' := fun j hj => by
  rw [hk j hj]
  exact h j hj
def sb_cap (q m : Nat) : Nat := if q ≤ m then m else if 2 * m + 2 < q then q else 2 * m + 2
def sb_Room (q m mc ms : Nat) : Prop := q ≤ m ∨ (1 ≤ mc ∧ sb_cap q m ≤ ms ∧ sb_cap q m ≤ 65536)
theorem sb_cap_ge (q m : Nat) : q ≤ sb_cap q m := by
  unfold sb_cap
  split
  · omega
  · split <;> omega
theorem sb_cap_gem (q m : Nat) : m ≤ sb_cap q m := by
  unfold sb_cap
  split
  · omega
  · split <;> omega
theorem sb_cap_le {q m mc ms : Nat} (hm : m ≤ 65536) (hr : sb_Room q m mc ms) : sb_cap q m ≤ 65536 := by
  rcases hr with h | h
  · rw [sb_cap, if_pos h]
    exact hm
  · exact h.2.2
theorem sb_at {P : Int32 → Prop} {x y : Int32} (e : x = y) (h : P y) : P x := e ▸ h
def sb_dg (w : Nat) : Nat := if w < 10 then 1 else if w < 100 then 2 else if w < 1000 then 3 else if w < 10000 then 4 else if w < 100000 then 5 else if w < 1000000 then 6 else if w < 10000000 then 7 else if w < 100000000 then 8 else if w < 1000000000 then 9 else 10
def sb_dec (v : Nat) : Nat → Nat := fun i => 48 + v / 10 ^ (sb_dg v - 1 - i) % 10
theorem sb_dg_in (w : Nat) : 1 ≤ sb_dg w ∧ sb_dg w ≤ 10 := by
  unfold sb_dg
  constructor <;> (repeat' split) <;> omega
theorem sb_dg100 {w : Nat} (h : 100 ≤ w) (hw : w < 2 ^ 31) : sb_dg w = sb_dg (w / 100) + 2 := by
  rw [sb_dg, sb_dg, if_neg (show ¬ w < 10 by omega), if_neg (show ¬ w < 100 by omega)]
  by_cases h3 : w < 1000
  · rw [if_pos h3, if_pos (show w / 100 < 10 by omega)]
  rw [if_neg h3, if_neg (show ¬ w / 100 < 10 by omega)]
  by_cases h4 : w < 10000
  · rw [if_pos h4, if_pos (show w / 100 < 100 by omega)]
  rw [if_neg h4, if_neg (show ¬ w / 100 < 100 by omega)]
  by_cases h5 : w < 100000
  · rw [if_pos h5, if_pos (show w / 100 < 1000 by omega)]
  rw [if_neg h5, if_neg (show ¬ w / 100 < 1000 by omega)]
  by_cases h6 : w < 1000000
  · rw [if_pos h6, if_pos (show w / 100 < 10000 by omega)]
  rw [if_neg h6, if_neg (show ¬ w / 100 < 10000 by omega)]
  by_cases h7 : w < 10000000
  · rw [if_pos h7, if_pos (show w / 100 < 100000 by omega)]
  rw [if_neg h7, if_neg (show ¬ w / 100 < 100000 by omega)]
  by_cases h8 : w < 100000000
  · rw [if_pos h8, if_pos (show w / 100 < 1000000 by omega)]
  rw [if_neg h8, if_neg (show ¬ w / 100 < 1000000 by omega)]
  by_cases h9 : w < 1000000000
  · rw [if_pos h9, if_pos (show w / 100 < 10000000 by omega)]
  rw [if_neg h9, if_neg (show ¬ w / 100 < 10000000 by omega)]
  rw [if_pos (show w / 100 < 100000000 by omega)]
theorem sb_negT {w : Nat} (h : w < 2 ^ 31) : (-nI w).toInt = -(w : Int) := by
  rw [Int32.toInt_neg, nI_toInt h]
  exact Int.bmod_eq_of_le (by omega) (by omega)
theorem sb_nle {a b : Nat} (ha : a < 2 ^ 31) (hb : b < 2 ^ 31) : -nI a ≤ -nI b ↔ b ≤ a := by
  rw [Int32.le_iff_toInt_le, sb_negT ha, sb_negT hb]
  omega
theorem sb_nlt {a b : Nat} (ha : a < 2 ^ 31) (hb : b < 2 ^ 31) : -nI a < -nI b ↔ b < a := by
  rw [Int32.lt_iff_toInt_lt, sb_negT ha, sb_negT hb]
  omega
theorem sb_cmp {A B : Prop} {x : Int32} (v c : Nat) (f : c ≤ v → A) (g : v < c → B) (hv : v < 2 ^ 31) (hx : x = -nI c := by rfl) (hc : c < 2 ^ 31 := by omega) : (-nI v ≤ x → A) ∧ (¬ -nI v ≤ x → B) := by
  subst hx
  rw [sb_nle hv hc]
  exact ⟨f, fun z => g (by omega)⟩
theorem sb_ndiv {w : Nat} (hw : w < 2 ^ 31) : (-nI w) / 100 = -nI (w / 100) := by
  apply Int32.toInt_inj.mp
  have h100 : (100 : Int32).toInt = 100 := by decide
  rw [Int32.toInt_div, sb_negT hw, h100, sb_negT (by omega), Int.neg_tdiv, Int.tdiv_eq_ediv_of_nonneg (by omega), Int.bmod_eq_of_le (by omega) (by omega)]
  omega
theorem sb_nrem {w : Nat} (hw : w < 2 ^ 31) : (-nI (w / 100)) * 100 - (-nI w) = nI (w % 100) := by
  have h := pk_rem (a := w) (d := 100) hw (by decide) (by decide)
  rw [pk_div hw (by decide) (by decide)] at h
  rw [← h]
  show (-nI (w / 100)) * nI 100 - (-nI w) = nI w - nI (w / 100) * nI 100
  rw [Int32.neg_mul, Int32.sub_neg, Int32.add_comm, ← Int32.sub_eq_add_neg]
end
section
/-! rows on bits, shifts and unsigned numbers, to paste: each family out of a closed proof of our own, whole with what it rests on; each by itself clean at Lean in its own claim (generation 39, form 5). Take a family whole -/
/-! ===== Int32 by its bits: bt x i ===== -/
def bt (x : Int32) (i : Nat) : Bool := x.toBitVec.getLsbD i
theorem b_ext {x y : Int32} (h : ∀ i, i < 32 → bt x i = bt y i) : x = y := Int32.toBitVec_inj.mp (BitVec.eq_of_getLsbD_eq (fun i hi => h i hi))
theorem b_or (x y : Int32) (i : Nat) : bt (x ||| y) i = (bt x i || bt y i) := by unfold bt; rw [Int32.toBitVec_or, BitVec.getLsbD_or]
theorem b_and (x y : Int32) (i : Nat) : bt (x &&& y) i = (bt x i && bt y i) := by unfold bt; rw [Int32.toBitVec_and, BitVec.getLsbD_and]
theorem b_xor (x y : Int32) (i : Nat) : bt (x ^^^ y) i = (bt x i ^^ bt y i) := by unfold bt; rw [Int32.toBitVec_xor, BitVec.getLsbD_xor]
theorem b_big {x : Int32} {i : Nat} (h : 32 ≤ i) : bt x i = false := BitVec.getLsbD_of_ge _ _ h
theorem b_255 (i : Nat) : bt 255 i = decide (i < 8) := by
  rcases Nat.lt_or_ge i 32 with h | h
  · exact (by decide +kernel : ∀ i, i < 32 → bt 255 i = decide (i < 8)) i h
  · rw [b_big h, decide_eq_false (by omega)]
theorem b_65535 (i : Nat) : bt 65535 i = decide (i < 16) := by
  rcases Nat.lt_or_ge i 32 with h | h
  · exact (by decide +kernel : ∀ i, i < 32 → bt 65535 i = decide (i < 16)) i h
  · rw [b_big h, decide_eq_false (by omega)]
theorem b_m1 : ∀ i, i < 32 → bt (-1) i = true := by decide +kernel
theorem b_0 (i : Nat) : bt 0 i = false := BitVec.getLsbD_zero
theorem s_l : ∀ n, n < 32 → ((nI n &&& 31).toBitVec.smod 32).toNat = n := by decide +kernel
theorem s_u : ∀ n, n < 32 → (((nI n).toUInt32 &&& Int32.toUInt32 31).toBitVec % 32).toNat = n := by decide +kernel
theorem b_shl (n : Nat) (hn : n < 32) (x : Int32) {i : Nat} (hi : i < 32) : bt (x <<< (nI n &&& 31)) i = (decide (n ≤ i) && bt x (i - n)) := by
  unfold bt
  rw [Int32.toBitVec_shiftLeft]
  show (x.toBitVec <<< ((nI n &&& 31).toBitVec.smod 32).toNat).getLsbD i = _
  rw [s_l n hn, BitVec.getLsbD_shiftLeft]
  rcases Nat.lt_or_ge i n with h | h
  · simp [h, Nat.not_le.mpr h]
  · simp [hi, h, Nat.not_lt.mpr h]
theorem b_ushr (n : Nat) (hn : n < 32) (x : Int32) (i : Nat) : bt ((x.toUInt32 >>> ((nI n).toUInt32 &&& Int32.toUInt32 31)).toInt32) i = bt x (n + i) := by
  show (x.toUInt32 >>> ((nI n).toUInt32 &&& Int32.toUInt32 31)).toBitVec.getLsbD i = x.toUInt32.toBitVec.getLsbD (n + i)
  rw [UInt32.toBitVec_shiftRight]
  show (x.toUInt32.toBitVec >>> (((nI n).toUInt32 &&& Int32.toUInt32 31).toBitVec % 32).toNat).getLsbD i = _
  rw [s_u n hn, BitVec.getLsbD_ushiftRight]
theorem b_sshr (n : Nat) (hn : n < 32) (x : Int32) {i : Nat} (hi : i < 32) : bt (x >>> (nI n &&& 31)) i = if n + i < 32 then bt x (n + i) else bt x 31 := by
  unfold bt
  rw [Int32.toBitVec_shiftRight]
  show (x.toBitVec.sshiftRight ((nI n &&& 31).toBitVec.smod 32).toNat).getLsbD i = _
  rw [s_l n hn, BitVec.getLsbD_sshiftRight, BitVec.msb_eq_getLsbD_last]
  simp [hi]
theorem b_shl8 (x : Int32) {i : Nat} (hi : i < 32) : bt (x <<< ((8 : Int32) &&& 31)) i = (decide (8 ≤ i) && bt x (i - 8)) := b_shl 8 (by omega) x hi
theorem b_shl16 (x : Int32) {i : Nat} (hi : i < 32) : bt (x <<< ((16 : Int32) &&& 31)) i = (decide (16 ≤ i) && bt x (i - 16)) := b_shl 16 (by omega) x hi
theorem b_shl24 (x : Int32) {i : Nat} (hi : i < 32) : bt (x <<< ((24 : Int32) &&& 31)) i = (decide (24 ≤ i) && bt x (i - 24)) := b_shl 24 (by omega) x hi
theorem b_sshr8 (x : Int32) {i : Nat} (hi : i < 32) : bt (x >>> ((8 : Int32) &&& 31)) i = if 8 + i < 32 then bt x (8 + i) else bt x 31 := b_sshr 8 (by omega) x hi
/-! ===== nI under and, xor, >>>, one bit, 65535 ===== -/
theorem nx_and (a b : Nat) : nI a &&& nI b = nI (a &&& b) := by
  apply Int32.toBitVec_inj.1
  show BitVec.ofNat 32 a &&& BitVec.ofNat 32 b = BitVec.ofNat 32 (a &&& b)
  apply BitVec.eq_of_getLsbD_eq
  intro i hi
  simp [hi]
theorem nx_xor (a b : Nat) : nI a ^^^ nI b = nI (a ^^^ b) := by
  apply Int32.toBitVec_inj.1
  show BitVec.ofNat 32 a ^^^ BitVec.ofNat 32 b = BitVec.ofNat 32 (a ^^^ b)
  apply BitVec.eq_of_getLsbD_eq
  intro i hi
  simp [hi]
theorem nx_cnt : ∀ j : Fin 32, (UInt32.ofNat j.val &&& Int32.toUInt32 31).toNat % 32 = j.val := by decide +kernel
theorem nx_ush {k j : Nat} (hk : k < 65536) (hj : j < 32) : ((nI k).toUInt32 >>> ((nI j).toUInt32 &&& Int32.toUInt32 31)).toInt32 = nI (k >>> j) := by
  have hs : k >>> j ≤ k := by
    rw [Nat.shiftRight_eq_div_pow]
    exact Nat.div_le_self _ _
  have e2 : UInt32.ofNat k >>> (UInt32.ofNat j &&& Int32.toUInt32 31) = UInt32.ofNat (k >>> j) := by
    apply UInt32.toNat_inj.1
    have h1 : (UInt32.ofNat k).toNat = k := Nat.mod_eq_of_lt (by omega)
    have h2 : (UInt32.ofNat (k >>> j)).toNat = k >>> j := Nat.mod_eq_of_lt (by omega)
    rw [UInt32.toNat_shiftRight, nx_cnt ⟨j, hj⟩, h1, h2]
  show (UInt32.ofNat k >>> (UInt32.ofNat j &&& Int32.toUInt32 31)).toInt32 = _
  rw [e2]
  rfl
theorem nx_bit {k j : Nat} (hk : k < 65536) (hj : j < 16) : (((nI k).toUInt32 >>> ((nI j).toUInt32 &&& Int32.toUInt32 31)).toInt32 &&& 1) = 0 ↔ k.testBit j = false := by
  rw [nx_ush hk (by omega)]
  show nI (k >>> j) &&& nI 1 = 0 ↔ _
  rw [nx_and, Nat.and_one_is_mod, ← nI_0, nI_eq (by omega) (by omega), Nat.testBit_eq_decide_div_mod_eq, Nat.shiftRight_eq_div_pow, decide_eq_false_iff_not]
  generalize k / 2 ^ j = z
  omega
theorem nx_mod (k : Nat) : nI k &&& 65535 = nI (k % 65536) := by
  show nI k &&& nI 65535 = _
  rw [nx_and, show (65535 : Nat) = 2 ^ 16 - 1 from rfl, Nat.and_two_pow_sub_one_eq_mod]
theorem nx_m16 {k : Nat} (h : k < 65536) : nI k &&& 65535 = nI k := by rw [nx_mod, Nat.mod_eq_of_lt h]
theorem nx_mask (x : Int32) : ∃ k, k < 65536 ∧ x &&& 65535 = nI k := by
  have e : x = nI x.toBitVec.toNat := by
    apply Int32.toBitVec_inj.1
    show x.toBitVec = BitVec.ofNat 32 x.toBitVec.toNat
    simp
  refine ⟨x.toBitVec.toNat % 65536, Nat.mod_lt _ (by omega), ?_⟩
  rw [← nx_mod, ← e]
/-! ===== Int32 as a set of bits: test, set ===== -/
def nf_M (m : Int32) : Nat := 4294967296 - m.toBitVec.toNat
theorem nf_sh : ∀ l, l < 32 → ((1 : Int32) <<< (nI l &&& 31)).toBitVec = BitVec.twoPow 32 l := by decide +kernel
theorem nf_sl : ∀ l, l < 32 → (((nI l).toUInt32 &&& Int32.toUInt32 31).toBitVec % 32).toNat = l := by decide +kernel
theorem nf_tp : ∀ l, l < 32 → BitVec.twoPow 32 l ≠ 0#32 := by decide +kernel
theorem nf_bit (m : Int32) (l : Nat) (hl : l < 32) : ((m.toUInt32 >>> ((nI l).toUInt32 &&& Int32.toUInt32 31)).toInt32 &&& 1) = 0 ↔ (m &&& ((1 : Int32) <<< (nI l &&& 31))) = 0 := by
  have e : ((m.toUInt32 >>> ((nI l).toUInt32 &&& Int32.toUInt32 31)).toInt32).toBitVec = m.toBitVec >>> l := by
    show m.toBitVec >>> (((nI l).toUInt32 &&& Int32.toUInt32 31).toBitVec % 32) = m.toBitVec >>> l
    rw [BitVec.ushiftRight_eq', nf_sl l hl]
  rw [← Int32.toBitVec_inj, ← Int32.toBitVec_inj, Int32.toBitVec_and, Int32.toBitVec_and, nf_sh l hl, e, BitVec.and_twoPow]
  show (m.toBitVec >>> l &&& 1#32) = 0#32 ↔ _ = 0#32
  rw [BitVec.and_one_eq_setWidth_ofBool_getLsbD, BitVec.getLsbD_ushiftRight, Nat.add_zero]
  cases hb : m.toBitVec.getLsbD l
  · exact ⟨fun _ => by simp, fun _ => by decide⟩
  · exact ⟨fun z => absurd z (by decide), fun z => absurd ((if_pos rfl).symm.trans z) (nf_tp l hl)⟩
theorem nf_gr (m k : Int32) (h : m &&& k = 0) (hk : k ≠ 0) : nf_M (m ||| k) < nf_M m := by
  have hm := m.toBitVec.isLt
  have hm' := (m ||| k).toBitVec.isLt
  have h1 : m.toBitVec.toNat ≤ (m ||| k).toBitVec.toNat := by
    rw [Int32.toBitVec_or, BitVec.toNat_or]
    exact Nat.left_le_or
  have h2 : m.toBitVec.toNat ≠ (m ||| k).toBitVec.toNat := by
    intro e
    have e2 : m = m ||| k := Int32.toBitVec_inj.mp (BitVec.eq_of_toNat_eq e)
    apply hk
    apply Int32.toBitVec_inj.mp
    show k.toBitVec = 0#32
    apply BitVec.eq_of_getLsbD_eq
    intro i hi
    have a : m.toBitVec.getLsbD i = (m.toBitVec.getLsbD i || k.toBitVec.getLsbD i) := by rw [← BitVec.getLsbD_or, ← Int32.toBitVec_or, ← e2]
    have b : (m.toBitVec.getLsbD i && k.toBitVec.getLsbD i) = false := by
      rw [← BitVec.getLsbD_and, ← Int32.toBitVec_and, h]
      exact BitVec.getLsbD_zero
    rw [BitVec.getLsbD_zero]
    revert a b
    cases m.toBitVec.getLsbD i <;> cases k.toBitVec.getLsbD i <;> simp
  unfold nf_M
  omega
/-! ===== a byte read unsigned ===== -/
theorem bp_b (x : Int32) : x.toInt8.toInt32 &&& 255 = x &&& 255 := by
  apply Int32.toBitVec_inj.mp
  rw [Int32.toBitVec_and, Int32.toBitVec_and, Int8.toBitVec_toInt32, Int32.toBitVec_toInt8]
  apply BitVec.eq_of_getLsbD_eq
  intro i hi
  rw [BitVec.getLsbD_and, BitVec.getLsbD_and]
  have hm : ∀ i < 32, 8 ≤ i → (255 : Int32).toBitVec.getLsbD i = false := by decide
  rcases Nat.lt_or_ge i 8 with z | z
  · rw [BitVec.getLsbD_signExtend, BitVec.getLsbD_signExtend, if_pos z, if_pos hi]
    simp only [z, hi, decide_true, Bool.true_and]
  · rw [hm i hi z]; simp
/-! ===== the char cast and 65535 ===== -/
theorem em_w (v : Int32) : ∃ w : Nat, w < 65536 ∧ (v.toUInt32 % 65536).toInt32 = nI w ∧ v &&& 65535 = nI w := by
  have hr := lw_u16_r v
  have h0 : (0 : Int32).toInt = 0 := by decide
  obtain ⟨w, h1, h2⟩ := nI_of (x := lw_u16 v) (by rw [Int32.lt_iff_toInt_lt]; omega)
  have h3 : (v.toUInt32 % 65536).toInt32 = nI w := h2
  rw [h2, nI_toInt h1] at hr
  exact ⟨w, by omega, h3, by rw [← lg_i2c_mask, ← lg_i2c_nf, h3]⟩
/-! ===== Int64 as a set of bits: test, set, clear ===== -/
theorem ts_nf {x : Bool} (h : ¬ x = false) : x = true := by cases x <;> first | rfl | exact absurd rfl h
theorem ts_nt {x : Bool} (h : ¬ x = true) : x = false := by cases x <;> first | rfl | exact absurd rfl h
theorem ts_bit {w : Int64} {s : UInt64} {j : Nat} (hj : j < 64) (hs : s.toNat = j) : ((w.toUInt64 >>> s).toInt64 &&& 1) = 0 ↔ w.toBitVec.getLsbD j = false := by
  have e : (w.toUInt64 >>> s).toInt64.toBitVec = w.toBitVec >>> j := by
    apply BitVec.eq_of_toNat_eq
    show (w.toUInt64 >>> s).toNat = _
    rw [UInt64.toNat_shiftRight, hs, Nat.mod_eq_of_lt hj, BitVec.toNat_ushiftRight]
    rfl
  rw [← Int64.toBitVec_inj, Int64.toBitVec_and, e]
  show w.toBitVec >>> j &&& 1#64 = 0#64 ↔ _
  constructor
  · intro h
    have t := congrArg (fun x => x.getLsbD 0) h
    simpa using t
  · intro h
    apply BitVec.eq_of_getLsbD_eq
    intro i hi
    cases i with
    | zero => simp [h]
    | succ i => simp
theorem ts_or {w m : Int64} {j : Nat} (hj : j < 64) (hm : m.toBitVec = BitVec.twoPow 64 j) : (w ||| m) = w ↔ w.toBitVec.getLsbD j = true := by
  rw [← Int64.toBitVec_inj, Int64.toBitVec_or, hm]
  constructor
  · intro h
    have t := congrArg (fun x => x.getLsbD j) h
    simp only [BitVec.getLsbD_or, BitVec.getLsbD_twoPow] at t
    simpa [hj] using t.symm
  · intro h
    apply BitVec.eq_of_getLsbD_eq
    intro i hi
    rw [BitVec.getLsbD_or, BitVec.getLsbD_twoPow]
    by_cases e : j = i
    · subst e; rw [h, Bool.true_or]
    · simp [e]
theorem ts_and {w m : Int64} {j : Nat} (hj : j < 64) (hm : m.toBitVec = BitVec.twoPow 64 j) : (w &&& (m ^^^ (-1))) = w ↔ w.toBitVec.getLsbD j = false := by
  have ha : (-1 : Int64).toBitVec = BitVec.allOnes 64 := by decide
  rw [← Int64.toBitVec_inj, Int64.toBitVec_and, Int64.toBitVec_xor, hm, ha]
  constructor
  · intro h
    have t := congrArg (fun x => x.getLsbD j) h
    simp only [BitVec.getLsbD_and, BitVec.getLsbD_xor, BitVec.getLsbD_twoPow, BitVec.getLsbD_allOnes] at t
    simpa [hj] using t.symm
  · intro h
    apply BitVec.eq_of_getLsbD_eq
    intro i hi
    rw [BitVec.getLsbD_and, BitVec.getLsbD_xor, BitVec.getLsbD_twoPow, BitVec.getLsbD_allOnes]
    by_cases e : j = i
    · subst e; rw [h, Bool.false_and]
    · simp [e, hi]
/-! ===== lN n to 2^64: shifts, and, or, masks, one bit ===== -/
theorem wb_tb (n : Nat) : (lN n).toBitVec = BitVec.ofNat 64 n := rfl
theorem wb_inj {a b : Int64} (h : a.toBitVec = b.toBitVec) : a = b := Int64.toBitVec_inj.mp h
theorem wb_tn {n : Nat} (h : n < 2 ^ 64) : (lN n).toBitVec.toNat = n := by rw [wb_tb, BitVec.toNat_ofNat, Nat.mod_eq_of_lt h]
theorem wb_of (x : Int64) : ∃ n, n < 2 ^ 64 ∧ x = lN n := ⟨x.toBitVec.toNat, x.toBitVec.isLt, wb_inj (by rw [wb_tb]; simp)⟩
theorem wb_of32 (x : Int32) : ∃ n, n < 2 ^ 32 ∧ x = nI n := ⟨x.toBitVec.toNat, x.toBitVec.isLt, Int32.toBitVec_inj.mp (by show _ = BitVec.ofNat 32 _; simp)⟩
theorem wb_c : ∀ k, k < 64 → ((nI k).toInt64 &&& 63) = lN k := by decide +kernel
theorem wb_cu : ∀ k, k < 64 → ((nI k).toInt64.toUInt64 &&& Int64.toUInt64 63) = UInt64.ofNat k := by decide +kernel
theorem wb_sm : ∀ k, k < 64 → (BitVec.ofNat 64 k).smod 64 = BitVec.ofNat 64 k := by decide +kernel
theorem wb_pw {a b : Nat} (h : a ≤ b) : 2 ^ b = 2 ^ a * 2 ^ (b - a) := by rw [← Nat.pow_add]; congr 1; omega
theorem wb_lt2 {a b : Nat} (h : a < b) : 2 ^ a < 2 ^ b := Nat.pow_lt_pow_right (by decide) h
theorem wb_mod (n : Nat) : lN n = lN (n % 2 ^ 64) := wb_inj (by rw [wb_tb, wb_tb]; apply BitVec.eq_of_toNat_eq; rw [BitVec.toNat_ofNat, BitVec.toNat_ofNat, Nat.mod_mod])
theorem wb_shr {n k : Nat} (hn : n < 2 ^ 64) (hk : k < 64) : ((lN n).toUInt64 >>> ((nI k).toInt64.toUInt64 &&& Int64.toUInt64 63)).toInt64 = lN (n / 2 ^ k) := by
  rw [wb_cu k hk]
  apply wb_inj
  apply BitVec.eq_of_toNat_eq
  show ((lN n).toUInt64 >>> UInt64.ofNat k).toNat = (BitVec.ofNat 64 _).toNat
  have h1 : (UInt64.ofNat k).toNat = k := by
    show (BitVec.ofNat 64 k).toNat = k
    rw [BitVec.toNat_ofNat, Nat.mod_eq_of_lt (by omega)]
  have h2 : (lN n).toUInt64.toNat = n := wb_tn hn
  rw [UInt64.toNat_shiftRight, h1, h2, Nat.mod_eq_of_lt hk, Nat.shiftRight_eq_div_pow, BitVec.toNat_ofNat, Nat.mod_eq_of_lt (Nat.lt_of_le_of_lt (Nat.div_le_self _ _) hn)]
theorem wb_shl (n : Nat) {k : Nat} (hk : k < 64) : lN n <<< ((nI k).toInt64 &&& 63) = lN (n * 2 ^ k) := by
  rw [wb_c k hk]
  apply wb_inj
  rw [Int64.toBitVec_shiftLeft, wb_tb, wb_tb, wb_tb, wb_sm k hk]
  apply BitVec.eq_of_toNat_eq
  rw [BitVec.shiftLeft_eq', BitVec.toNat_shiftLeft, BitVec.toNat_ofNat, BitVec.toNat_ofNat, BitVec.toNat_ofNat, Nat.mod_eq_of_lt (show k < 2 ^ 64 by omega), Nat.shiftLeft_eq, Nat.mul_mod, Nat.mod_mod, ← Nat.mul_mod]
theorem wb_and {a b : Nat} (ha : a < 2 ^ 64) (hb : b < 2 ^ 64) : lN a &&& lN b = lN (a &&& b) := by
  apply wb_inj
  rw [Int64.toBitVec_and, wb_tb, wb_tb, wb_tb]
  apply BitVec.eq_of_toNat_eq
  rw [BitVec.toNat_and, BitVec.toNat_ofNat, BitVec.toNat_ofNat, BitVec.toNat_ofNat, Nat.mod_eq_of_lt ha, Nat.mod_eq_of_lt hb, Nat.mod_eq_of_lt (Nat.and_lt_two_pow _ hb)]
theorem wb_or {a b : Nat} (ha : a < 2 ^ 64) (hb : b < 2 ^ 64) : lN a ||| lN b = lN (a ||| b) := by
  apply wb_inj
  rw [Int64.toBitVec_or, wb_tb, wb_tb, wb_tb]
  apply BitVec.eq_of_toNat_eq
  rw [BitVec.toNat_or, BitVec.toNat_ofNat, BitVec.toNat_ofNat, BitVec.toNat_ofNat, Nat.mod_eq_of_lt ha, Nat.mod_eq_of_lt hb, Nat.mod_eq_of_lt (Nat.or_lt_two_pow ha hb)]
theorem wb_mask {n k : Nat} (hn : n < 2 ^ 64) (hk : k < 64) : lN n &&& lN (2 ^ k - 1) = lN (n % 2 ^ k) := by
  rw [wb_and hn (by have := wb_lt2 hk; omega), Nat.and_two_pow_sub_one_eq_mod]
theorem wb_a1 {n : Nat} (hn : n < 2 ^ 64) : lN n &&& 1 = lN (n % 2) := wb_mask (k := 1) hn (by decide)
theorem wb_bit {n k : Nat} (hn : n < 2 ^ 64) (hk : k < 64) : ((lN n).toUInt64 >>> ((nI k).toInt64.toUInt64 &&& Int64.toUInt64 63)).toInt64 &&& 1 = lN (n / 2 ^ k % 2) := by
  rw [wb_shr hn hk, wb_a1 (Nat.lt_of_le_of_lt (Nat.div_le_self _ _) hn)]
theorem wb_xor {q k : Nat} (hk : k < 63) (h : 2 ^ k ≤ q) (h2 : q < 2 ^ (k + 1)) : lN q ^^^ lN (2 ^ k) = lN (q - 2 ^ k) := by
  obtain ⟨r, rfl⟩ : ∃ r, q = 2 ^ k + r := ⟨q - 2 ^ k, by omega⟩
  have hr : r < 2 ^ k := by rw [Nat.pow_succ] at h2; omega
  have hx : (2 ^ k + r) ^^^ 2 ^ k = r := by
    apply Nat.eq_of_testBit_eq
    intro i
    rw [Nat.testBit_xor, Nat.testBit_two_pow]
    rcases Nat.lt_trichotomy i k with h | h | h
    · rw [Nat.testBit_two_pow_add_gt h]
      simp [show ¬ k = i by omega]
    · subst h
      rw [Nat.testBit_two_pow_add_eq]
      simp
    · have a1 : 2 ^ (k + 1) ≤ 2 ^ i := Nat.pow_le_pow_right (by decide) h
      rw [Nat.testBit_lt_two_pow (show 2 ^ k + r < 2 ^ i by omega), Nat.testBit_lt_two_pow (show r < 2 ^ i by omega)]
      simp [show ¬ k = i by omega]
  have b1 := wb_lt2 (show k + 1 < 64 by omega)
  have b2 := wb_lt2 (show k < 64 by omega)
  apply wb_inj
  rw [Int64.toBitVec_xor, wb_tb, wb_tb, wb_tb]
  apply BitVec.eq_of_toNat_eq
  rw [BitVec.toNat_xor, BitVec.toNat_ofNat, BitVec.toNat_ofNat, BitVec.toNat_ofNat, Nat.mod_eq_of_lt (by omega : 2 ^ k + r < 2 ^ 64), Nat.mod_eq_of_lt b2, hx, Nat.add_sub_cancel_left, Nat.mod_eq_of_lt (by omega)]
/-! ===== lN: masks, 'or' of parts that don't overlap is a sum ===== -/
theorem u_tn {n : Nat} (h : n < 2 ^ 64) : (UInt64.ofNat n).toNat = n := Nat.mod_eq_of_lt h
theorem g_and {a b c : Nat} (ha : a < 2 ^ 64) (hb : b < 2 ^ 64) (hc : a &&& b = c) : lN a &&& lN b = lN c := by
  subst hc
  have h : UInt64.ofNat a &&& UInt64.ofNat b = UInt64.ofNat (a &&& b) := UInt64.toNat_inj.mp (by rw [UInt64.toNat_and, u_tn ha, u_tn hb, u_tn (Nat.and_lt_two_pow a hb)])
  have h2 := congrArg UInt64.toInt64 h
  exact h2
theorem g_and1 {a : Nat} (ha : a < 2 ^ 64) : lN a &&& 1 = lN (a % 2) := g_and (b := 1) ha (by decide) (Nat.and_two_pow_sub_one_eq_mod a 1)
theorem g_mask {a s p : Nat} (hp : 2 ^ s = p) (hs : s < 64) (ha : a < 2 ^ 64) : lN a &&& lN (p - 1) = lN (a % p) := by
  subst hp
  have := Nat.pow_lt_pow_right (show 1 < 2 by decide) hs
  exact g_and ha (by omega) (Nat.and_two_pow_sub_one_eq_mod a s)
theorem g_or {k p a b : Nat} (hp : 2 ^ k = p) (ha : a < p) (h : b * p + a < 2 ^ 64) : lN (b * p) ||| lN a = lN (b * p + a) := by
  subst hp
  have h1 : b * 2 ^ k ||| a = b * 2 ^ k + a := by rw [← Nat.shiftLeft_eq, Nat.shiftLeft_add_eq_or_of_lt ha]
  have h3 : UInt64.ofNat (b * 2 ^ k) ||| UInt64.ofNat a = UInt64.ofNat (b * 2 ^ k + a) := UInt64.toNat_inj.mp (by rw [UInt64.toNat_or, u_tn (by omega), u_tn (by omega), u_tn h, h1])
  have h2 := congrArg UInt64.toInt64 h3
  exact h2
theorem g_or' {k p a b : Nat} (hp : 2 ^ k = p) (ha : a < p) (h : a + b * p < 2 ^ 64) : lN a ||| lN (b * p) = lN (a + b * p) := by
  rw [Int64.or_comm, g_or hp ha (by omega), Nat.add_comm]
theorem g_ushr {a k p : Nat} {y : UInt64} (hy : y = UInt64.ofNat k) (hk : k < 64) (hp : 2 ^ k = p) (ha : a < 2 ^ 64) : ((lN a).toUInt64 >>> y).toInt64 = lN (a / p) := by
  subst hy hp
  have h : UInt64.ofNat a >>> UInt64.ofNat k = UInt64.ofNat (a / 2 ^ k) := UInt64.toNat_inj.mp (by rw [UInt64.toNat_shiftRight, u_tn ha, u_tn (by omega), u_tn (Nat.lt_of_le_of_lt (Nat.div_le_self _ _) ha), Nat.mod_eq_of_lt hk, Nat.shiftRight_eq_div_pow])
  have h2 := congrArg UInt64.toInt64 h
  exact h2
theorem g_shl {a k p : Nat} {y : Int64} (hy : y.toBitVec.smod 64 = BitVec.ofNat 64 k) (hk : k < 64) (hp : 2 ^ k = p) (ha : a < 2 ^ 64) : lN a <<< y = lN (a * p) := by
  subst hp
  apply Int64.toBitVec_inj.mp
  rw [Int64.toBitVec_shiftLeft, hy]
  apply BitVec.eq_of_toNat_eq
  have hb : (lN a).toBitVec.toNat = a := Nat.mod_eq_of_lt ha
  have hk' : (BitVec.ofNat 64 k).toNat = k := Nat.mod_eq_of_lt (by omega)
  have h : ((lN a).toBitVec <<< BitVec.ofNat 64 k).toNat = (a * 2 ^ k) % 2 ^ 64 := by simp only [BitVec.shiftLeft_eq', BitVec.toNat_shiftLeft, hb, hk', Nat.shiftLeft_eq]
  exact h
/-! ===== lN to 2^62 under >> and >>> ===== -/
theorem pf_lI {a : Nat} (h : a < 2 ^ 63) : (lN a).toInt = (a : Int) := lg_ofNat_toInt h
theorem pf_shr {a d : Nat} {D : Int64} (hD : (D.toBitVec.smod 64).toNat = d) (h : a < 2 ^ 62) : lN a >>> D = lN (a / 2 ^ d) := by
  have hd : a / 2 ^ d ≤ a := Nat.div_le_self _ _
  apply Int64.toInt_inj.mp
  have e : (lN a >>> D).toInt = (lN a).toInt >>> d := by
    rw [← hD]
    exact BitVec.toInt_sshiftRight ..
  rw [e, Int.shiftRight_eq_div_pow, pf_lI (by omega), pf_lI (by omega)]
  rfl
theorem pf_ushr {a d : Nat} {D : UInt64} (hD : D.toNat % 64 = d) (h : a < 2 ^ 62) : ((lN a).toUInt64 >>> D).toInt64 = lN (a / 2 ^ d) := by
  have hd : a / 2 ^ d ≤ a := Nat.div_le_self _ _
  have e : (lN a).toUInt64 >>> D = UInt64.ofNat (a / 2 ^ d) := UInt64.toNat_inj.mp (by
    rw [UInt64.toNat_shiftRight, hD, Nat.shiftRight_eq_div_pow, UInt64.toNat_ofNat']
    show (UInt64.ofNat a).toNat / 2 ^ d = _
    rw [UInt64.toNat_ofNat', Nat.mod_eq_of_lt (by omega), Nat.mod_eq_of_lt (by omega)])
  rw [e]
  rfl
theorem pf_andw (x : Int64) : ∃ m, m < 2 ^ 32 ∧ x &&& 4294967295 = lN m := ⟨x.toBitVec.toNat % 2 ^ 32, Nat.mod_lt _ (by decide), Int64.toBitVec_inj.mp (BitVec.eq_of_toNat_eq (by
  show (x.toBitVec &&& 4294967295#64).toNat = (BitVec.ofNat 64 (x.toBitVec.toNat % 2 ^ 32)).toNat
  rw [BitVec.toNat_and, show (4294967295#64).toNat = 2 ^ 32 - 1 from by decide, Nat.and_two_pow_sub_one_eq_mod, BitVec.toNat_ofNat]
  omega))⟩
/-! ===== Int64 as an unsigned number: uN x ===== -/
def uN (x : Int64) : Nat := x.toUInt64.toNat
theorem uN_lt (x : Int64) : uN x < 18446744073709551616 := x.toUInt64.toNat_lt
theorem uN_inj {x y : Int64} (h : uN x = uN y) : x = y := congrArg UInt64.toInt64 (UInt64.toNat_inj.mp h)
theorem uN_add (x y : Int64) : uN (x + y) = (uN x + uN y) % 18446744073709551616 := by
  show (x.toUInt64 + y.toUInt64).toNat = _
  exact UInt64.toNat_add _ _
theorem uN_mul (x y : Int64) : uN (x * y) = (uN x * uN y) % 18446744073709551616 := by
  show (x.toUInt64 * y.toUInt64).toNat = _
  exact UInt64.toNat_mul _ _
theorem uN_shl (x : Int64) : uN (x <<< ((1 : Int32).toInt64 &&& 63)) = (2 * uN x) % 18446744073709551616 := by
  have h : (((1 : Int32).toInt64 &&& 63).toBitVec.smod 64).toNat = 1 := by decide
  show (x.toBitVec <<< (((1 : Int32).toInt64 &&& 63).toBitVec.smod 64).toNat).toNat = _
  rw [h, BitVec.toNat_shiftLeft, Nat.shiftLeft_eq, Nat.mul_comm]
  rfl
theorem uN_shr (x : Int64) (s : UInt64) : uN (x.toUInt64 >>> s).toInt64 = uN x / 2 ^ (s.toNat % 64) := by
  show (x.toUInt64 >>> s).toNat = _
  rw [UInt64.toNat_shiftRight, Nat.shiftRight_eq_div_pow]
  rfl
theorem uN_s32 (x : Int64) : uN (x.toUInt64 >>> ((32 : Int32).toInt64.toUInt64 &&& Int64.toUInt64 63)).toInt64 = uN x / 4294967296 := by
  have h : ((32 : Int32).toInt64.toUInt64 &&& Int64.toUInt64 63).toNat % 64 = 32 := by decide
  rw [uN_shr, h]
theorem uN_s63 (x : Int64) : uN (x.toUInt64 >>> ((63 : Int32).toInt64.toUInt64 &&& Int64.toUInt64 63)).toInt64 = uN x / 9223372036854775808 := by
  have h : ((63 : Int32).toInt64.toUInt64 &&& Int64.toUInt64 63).toNat % 64 = 63 := by decide
  rw [uN_shr, h]
theorem uN_lo (x : Int64) : uN (x &&& 4294967295) = uN x % 4294967296 := by
  show (x.toUInt64 &&& Int64.toUInt64 4294967295).toNat = _
  rw [UInt64.toNat_and]
  exact Nat.and_two_pow_sub_one_eq_mod _ 32
theorem uN_bit (x : Int64) : (x &&& 1) = 0 ↔ uN x % 2 = 0 := by
  have h : uN (x &&& 1) = uN x % 2 := by
    show (x.toUInt64 &&& Int64.toUInt64 1).toNat = _
    rw [UInt64.toNat_and]
    exact Nat.and_two_pow_sub_one_eq_mod _ 1
  rw [← h]
  exact ⟨fun z => by rw [z]; rfl, fun z => uN_inj (z.trans rfl)⟩
theorem uN_or {x y : Int64} (hy : uN y < 2) : uN ((x <<< ((1 : Int32).toInt64 &&& 63)) ||| y) = (2 * uN x) % 18446744073709551616 + uN y := by
  have h1 : uN ((x <<< ((1 : Int32).toInt64 &&& 63)) ||| y) = uN (x <<< ((1 : Int32).toInt64 &&& 63)) ||| uN y := UInt64.toNat_or _ _
  have h2 : (2 * uN x) % 18446744073709551616 = 2 ^ 1 * (uN x % 9223372036854775808) := by omega
  rw [h1, uN_shl, h2]
  exact (Nat.two_pow_add_eq_or_of_lt (i := 1) hy _).symm
theorem nat_xor {a : Nat} (h : a < 18446744073709551616) : a ^^^ 2 ^ 63 = (a + 9223372036854775808) % 18446744073709551616 := by
  have h1 : (a ^^^ 2 ^ 63) % 2 ^ 63 = a % 2 ^ 63 := by rw [Nat.xor_mod_two_pow, Nat.mod_self, Nat.xor_zero]
  have h2 : (a ^^^ 2 ^ 63) / 2 ^ 63 = (a / 2 ^ 63) ^^^ 1 := by rw [Nat.xor_div_two_pow, Nat.div_self (Nat.two_pow_pos 63)]
  have h3 : a / 2 ^ 63 = 0 ∨ a / 2 ^ 63 = 1 := by omega
  generalize a ^^^ 2 ^ 63 = t at h1 h2
  rcases h3 with h3 | h3
  · rw [h3] at h2
    have h2 : t / 2 ^ 63 = 1 := h2
    omega
  · rw [h3] at h2
    have h2 : t / 2 ^ 63 = 0 := h2
    omega
theorem uN_xor (x : Int64) : uN (x ^^^ (-9223372036854775808)) = (uN x + 9223372036854775808) % 18446744073709551616 := by
  rw [← nat_xor (uN_lt x)]
  exact UInt64.toNat_xor _ _
theorem uN_int (x : Int64) : x.toInt = if 2 * uN x < 18446744073709551616 then (uN x : Int) else (uN x : Int) - 18446744073709551616 := BitVec.toInt_eq_toNat_cond _
theorem uN_le (x y : Int64) : (x ^^^ (-9223372036854775808)) ≤ (y ^^^ (-9223372036854775808)) ↔ uN x ≤ uN y := by
  have hx := uN_lt x
  have hy := uN_lt y
  rw [Int64.le_iff_toInt_le, uN_int, uN_int, uN_xor, uN_xor]
  omega
theorem uN_sk (x : Int64) {k : Nat} (hk : k < 64) : uN (x.toUInt64 >>> ((nI k).toInt64.toUInt64 &&& Int64.toUInt64 63)).toInt64 = uN x / 2 ^ k := by
  have h : ((nI k).toInt64.toUInt64 &&& Int64.toUInt64 63).toNat % 64 = k := by
    rw [nI_l (by omega), UInt64.toNat_and]
    have e : (lN k).toUInt64.toNat = k % 2 ^ 64 := rfl
    have e2 : (Int64.toUInt64 63).toNat = 2 ^ 6 - 1 := by decide
    rw [e, e2, Nat.and_two_pow_sub_one_eq_mod]
    omega
  rw [uN_shr, h]
/-! ===== unsigned comparison by xor with the least ===== -/
theorem lN_bv (n : Nat) : (lN n).toBitVec = BitVec.ofNat 64 n := rfl
theorem lN_nat {n : Nat} (h : n < 2 ^ 64) : (lN n).toBitVec.toNat = n := by rw [lN_bv, BitVec.toNat_ofNat]; exact Nat.mod_eq_of_lt h
theorem lN_xor (a b : Nat) : lN a ^^^ lN b = lN (a ^^^ b) := by
  apply Int64.toBitVec_inj.mp; rw [Int64.toBitVec_xor, lN_bv, lN_bv, lN_bv]; apply BitVec.eq_of_getLsbD_eq; intro i hi; simp [BitVec.getLsbD_ofNat, Nat.testBit_xor, hi]
theorem lN_ti {m : Nat} (h : m < 2 ^ 64) : (lN m).toInt = if m < 2 ^ 63 then (m : Int) else (m : Int) - 2 ^ 64 := by
  have c := BitVec.toInt_eq_toNat_cond (lN m).toBitVec
  rw [lN_nat h] at c
  show (lN m).toBitVec.toInt = _
  rw [c]
  split <;> split <;> omega
theorem xor63 {x : Nat} (h : x < 2 ^ 63) : x ^^^ 2 ^ 63 = 2 ^ 63 + x := by
  apply Nat.eq_of_testBit_eq
  intro i
  rw [Nat.testBit_xor, Nat.testBit_two_pow]
  rcases Nat.lt_trichotomy i 63 with z | z | z
  · rw [Nat.testBit_two_pow_add_gt z, decide_eq_false (by omega)]; simp
  · subst z; rw [Nat.testBit_two_pow_add_eq]; simp
  · have hp : 2 ^ 64 ≤ 2 ^ i := Nat.pow_le_pow_right (by decide) z
    rw [Nat.testBit_lt_two_pow (show x < 2 ^ i by omega), Nat.testBit_lt_two_pow (show 2 ^ 63 + x < 2 ^ i by omega), decide_eq_false (by omega)]; rfl
theorem xorS {a : Nat} (h : a < 2 ^ 64) : (lN a ^^^ (-9223372036854775808)).toInt = (a : Int) - 2 ^ 63 := by
  rw [show (-9223372036854775808 : Int64) = lN (2 ^ 63) from by decide +kernel, lN_xor]
  rcases Nat.lt_or_ge a (2 ^ 63) with z | z
  · rw [xor63 z, lN_ti (by omega), if_neg (by omega)]; omega
  · obtain ⟨x, rfl⟩ : ∃ x, a = 2 ^ 63 + x := ⟨a - 2 ^ 63, by omega⟩
    rw [← xor63 (by omega), Nat.xor_assoc, Nat.xor_self, Nat.xor_zero, lN_ti (by omega), if_pos (by omega), xor63 (by omega)]; omega
theorem ultL {a b : Nat} (ha : a < 2 ^ 64) (hb : b < 2 ^ 64) : ((lN b ^^^ (-9223372036854775808)) ≤ (lN a ^^^ (-9223372036854775808))) ↔ b ≤ a := by
  rw [Int64.le_iff_toInt_le, xorS ha, xorS hb]; omega
/-! ===== Int64 masks of n low bits ===== -/
theorem cr_bits (W U M : BitVec 64) : ((W &&& U) &&& (U &&& (M ^^^ BitVec.allOnes 64))) = 0#64 ↔ (W &&& U) &&& M = W &&& U := by
  constructor
  · intro h
    apply BitVec.eq_of_getLsbD_eq
    intro i hi
    have e := congrArg (fun x => BitVec.getLsbD x i) h
    simp only [BitVec.getLsbD_and, BitVec.getLsbD_xor, BitVec.getLsbD_allOnes, BitVec.getLsbD_zero, hi, decide_true] at e ⊢
    revert e
    cases W.getLsbD i <;> cases U.getLsbD i <;> cases M.getLsbD i <;> decide
  · intro h
    apply BitVec.eq_of_getLsbD_eq
    intro i hi
    have e := congrArg (fun x => BitVec.getLsbD x i) h
    simp only [BitVec.getLsbD_and, BitVec.getLsbD_xor, BitVec.getLsbD_allOnes, BitVec.getLsbD_zero, hi, decide_true] at e ⊢
    revert e
    cases W.getLsbD i <;> cases U.getLsbD i <;> cases M.getLsbD i <;> decide
theorem cr_mask (w U m : Int64) (n : Nat) (hm : m.toBitVec.toNat = 2 ^ n - 1) : ((w &&& U) &&& (U &&& (m ^^^ (-1)))) = 0 ↔ (w &&& U).toBitVec.toNat < 2 ^ n := by
  have e0 : (-1 : Int64).toBitVec = BitVec.allOnes 64 := by decide
  have z0 : (0 : Int64).toBitVec = 0#64 := by decide
  rw [← Int64.toBitVec_inj, z0, Int64.toBitVec_and, Int64.toBitVec_and, Int64.toBitVec_and, Int64.toBitVec_xor, e0, cr_bits]
  generalize w.toBitVec &&& U.toBitVec = T
  rw [← BitVec.toNat_inj, BitVec.toNat_and, hm, Nat.and_two_pow_sub_one_eq_mod]
  constructor
  · intro h
    have t := Nat.mod_lt T.toNat (Nat.two_pow_pos n)
    rw [h] at t
    exact t
  · exact Nat.mod_eq_of_lt
theorem cr_shr (t : Int64) (x : UInt64) (n : Nat) (hx : x.toNat % 64 = n) : (t.toUInt64 >>> x).toInt64 = 0 ↔ t.toBitVec.toNat < 2 ^ n := by
  rw [← Int64.toBitVec_inj, ← BitVec.toNat_inj]
  show (t.toUInt64 >>> x).toNat = 0 ↔ t.toUInt64.toNat < 2 ^ n
  rw [UInt64.toNat_shiftRight, hx, Nat.shiftRight_eq_div_pow]
  constructor
  · intro h
    have d : t.toUInt64.toNat / 2 ^ n < 1 := by
      rw [h]
      decide
    have e := (Nat.div_lt_iff_lt_mul (Nat.two_pow_pos n)).mp d
    rw [Nat.one_mul] at e
    exact e
  · exact Nat.div_eq_of_lt
theorem cr_amt (s : Int64) : ∃ n, n < 64 ∧ s &&& 63 = lN n ∧ (s.toUInt64 &&& Int64.toUInt64 63).toNat % 64 = n := by
  have e : (s.toUInt64 &&& Int64.toUInt64 63).toNat = s.toUInt64.toNat % 2 ^ 6 := by
    rw [UInt64.toNat_and, show (Int64.toUInt64 63).toNat = 2 ^ 6 - 1 from by decide, Nat.and_two_pow_sub_one_eq_mod]
  refine ⟨s.toUInt64.toNat % 2 ^ 6, by omega, ?_, by omega⟩
  rw [← Int64.toBitVec_inj, ← BitVec.toNat_inj]
  show (s.toUInt64 &&& Int64.toUInt64 63).toNat = (BitVec.ofNat 64 (s.toUInt64.toNat % 2 ^ 6)).toNat
  rw [e, BitVec.toNat_ofNat]
  omega
end
section
/-! genomes as involutions on the ends 0..7, components of two genomes, the distance -/
def gd_Inv (g : Nat → Nat) : Prop := ∀ a, a < 8 → g a < 8 ∧ g (g a) = a
def gd_Cl (s r : Nat → Nat) (S : Nat → Prop) : Prop := ∀ z, z < 8 → S z → S (s z) ∧ S (r z)
def gd_Cn (s r : Nat → Nat) (a b : Nat) : Prop := ∀ S : Nat → Prop, gd_Cl s r S → (S a ↔ S b)
theorem gd_Cn_rfl {s r : Nat → Nat} (a : Nat) : gd_Cn s r a a := fun _ _ => Iff.rfl
theorem gd_Cn_sym {s r : Nat → Nat} {a b : Nat} (h : gd_Cn s r a b) : gd_Cn s r b a := fun S c => (h S c).symm
theorem gd_Cn_tr {s r : Nat → Nat} {a b c : Nat} (h : gd_Cn s r a b) (k : gd_Cn s r b c) : gd_Cn s r a c := fun S e => (h S e).trans (k S e)
theorem gd_Cl_sw {s r : Nat → Nat} {S : Nat → Prop} (h : gd_Cl s r S) : gd_Cl r s S := fun z hz k => ⟨(h z hz k).2, (h z hz k).1⟩
theorem gd_Cn_sw {s r : Nat → Nat} {a b : Nat} (h : gd_Cn s r a b) : gd_Cn r s a b := fun S c => h S (gd_Cl_sw c)
theorem gd_Cn_s {s r : Nat → Nat} (hs : gd_Inv s) {a : Nat} (ha : a < 8) : gd_Cn s r a (s a) := by
  intro S c
  refine ⟨fun k => (c a ha k).1, fun k => ?_⟩
  have h := (c (s a) (hs a ha).1 k).1
  rwa [(hs a ha).2] at h
theorem gd_Cn_r {s r : Nat → Nat} (hr : gd_Inv r) {a : Nat} (ha : a < 8) : gd_Cn s r a (r a) := gd_Cn_sw (gd_Cn_s hr ha)
theorem gd_Cn_lt {s r : Nat → Nat} (hs : gd_Inv s) (hr : gd_Inv r) {a b : Nat} (h : gd_Cn s r a b) (ha : a < 8) : b < 8 :=
  (h (fun z => z < 8) (fun z hz _ => ⟨(hs z hz).1, (hr z hz).1⟩)).mp ha
def gd_SL (s r : Nat → Nat) (x : Nat) : Prop := ∃ y, y < 8 ∧ gd_Cn s r x y ∧ s y = y
def gd_RL (s r : Nat → Nat) (x : Nat) : Prop := ∃ y, y < 8 ∧ gd_Cn s r x y ∧ r y = y
def gd_Ev (s r : Nat → Nat) (x : Nat) : Prop := gd_SL s r x ∧ gd_RL s r x
def gd_Rg (s r : Nat → Nat) (x : Nat) : Prop := ¬ gd_SL s r x ∧ ¬ gd_RL s r x
theorem gd_SL_c {s r : Nat → Nat} {x y : Nat} (c : gd_Cn s r x y) : gd_SL s r x ↔ gd_SL s r y :=
  ⟨fun ⟨z, hz, k, e⟩ => ⟨z, hz, gd_Cn_tr (gd_Cn_sym c) k, e⟩, fun ⟨z, hz, k, e⟩ => ⟨z, hz, gd_Cn_tr c k, e⟩⟩
theorem gd_RL_c {s r : Nat → Nat} {x y : Nat} (c : gd_Cn s r x y) : gd_RL s r x ↔ gd_RL s r y :=
  ⟨fun ⟨z, hz, k, e⟩ => ⟨z, hz, gd_Cn_tr (gd_Cn_sym c) k, e⟩, fun ⟨z, hz, k, e⟩ => ⟨z, hz, gd_Cn_tr c k, e⟩⟩
theorem gd_Ev_c {s r : Nat → Nat} {x y : Nat} (c : gd_Cn s r x y) : gd_Ev s r x ↔ gd_Ev s r y := and_congr (gd_SL_c c) (gd_RL_c c)
theorem gd_Rg_c {s r : Nat → Nat} {x y : Nat} (c : gd_Cn s r x y) : gd_Rg s r x ↔ gd_Rg s r y := and_congr (not_congr (gd_SL_c c)) (not_congr (gd_RL_c c))
theorem gd_SL_sw {s r : Nat → Nat} {x : Nat} : gd_SL s r x ↔ gd_RL r s x :=
  ⟨fun ⟨z, hz, k, e⟩ => ⟨z, hz, gd_Cn_sw k, e⟩, fun ⟨z, hz, k, e⟩ => ⟨z, hz, gd_Cn_sw k, e⟩⟩
/-- L holds one end of each component with P -/
def gd_Rp (s r : Nat → Nat) (P : Nat → Prop) (L : List Nat) : Prop :=
  (∀ x, x ∈ L → x < 8 ∧ P x) ∧ L.Pairwise (fun x y => ¬ gd_Cn s r x y) ∧ (∀ x, x < 8 → P x → ∃ y, y ∈ L ∧ gd_Cn s r x y)
theorem gd_len {s r : Nat → Nat} : ∀ (L M : List Nat), L.Pairwise (fun x y => ¬ gd_Cn s r x y) → (∀ x, x ∈ L → ∃ y, y ∈ M ∧ gd_Cn s r x y) → L.length ≤ M.length
  | [], M, _, _ => Nat.zero_le _
  | x :: t, M, hp, hc => by
    obtain ⟨y, hy, hxy⟩ := hc x (List.mem_cons_self ..)
    have hp' := List.pairwise_cons.mp hp
    have h := gd_len t (M.erase y) hp'.2 (fun z hz => by
      obtain ⟨w, hw, hzw⟩ := hc z (List.mem_cons_of_mem _ hz)
      refine ⟨w, (List.mem_erase_of_ne ?_).mpr hw, hzw⟩
      intro e
      subst e
      exact hp'.1 z hz (gd_Cn_tr hxy (gd_Cn_sym hzw)))
    have hl := List.length_erase_of_mem hy
    have h0 : 0 < M.length := List.length_pos_of_mem hy
    simp only [List.length_cons]
    omega
theorem gd_Rp_u {s r : Nat → Nat} {P : Nat → Prop} {L M : List Nat} (h : gd_Rp s r P L) (k : gd_Rp s r P M) : L.length = M.length :=
  Nat.le_antisymm (gd_len L M h.2.1 fun x hx => k.2.2 x (h.1 x hx).1 (h.1 x hx).2) (gd_len M L k.2.1 fun x hx => h.2.2 x (k.1 x hx).1 (k.1 x hx).2)
theorem gd_Rp_sw {s r : Nat → Nat} {P Q : Nat → Prop} {L : List Nat} (e : ∀ x, P x ↔ Q x) (h : gd_Rp s r P L) : gd_Rp r s Q L := by
  refine ⟨fun x hx => ⟨(h.1 x hx).1, (e x).mp (h.1 x hx).2⟩, h.2.1.imp fun k c => k (gd_Cn_sw c), fun x hx q => ?_⟩
  obtain ⟨y, hy, c⟩ := h.2.2 x hx ((e x).mpr q)
  exact ⟨y, hy, gd_Cn_sw c⟩
/-- n is the distance of s and r -/
def gd_D (s r : Nat → Nat) (n : Nat) : Prop := ∃ R E : List Nat, gd_Rp s r (gd_Rg s r) R ∧ gd_Rp s r (gd_Ev s r) E ∧ 2 * n + 2 * R.length + E.length = 8
theorem gd_D_u {s r : Nat → Nat} {n m : Nat} (h : gd_D s r n) (k : gd_D s r m) : n = m := by
  obtain ⟨R, E, hR, hE, e⟩ := h
  obtain ⟨R', E', hR', hE', e'⟩ := k
  have h1 := gd_Rp_u hR hR'
  have h2 := gd_Rp_u hE hE'
  omega
theorem gd_D_4 {s r : Nat → Nat} {n : Nat} (h : gd_D s r n) : n ≤ 4 := by
  obtain ⟨R, E, _, _, e⟩ := h
  omega
theorem gd_D_sw {s r : Nat → Nat} {n : Nat} (h : gd_D s r n) : gd_D r s n := by
  obtain ⟨R, E, hR, hE, e⟩ := h
  refine ⟨R, E, gd_Rp_sw (fun x => ?_) hR, gd_Rp_sw (fun x => ?_) hE, e⟩
  · unfold gd_Rg
    rw [gd_SL_sw (s := s), ← gd_SL_sw (s := r)]
    exact and_comm
  · unfold gd_Ev
    rw [gd_SL_sw (s := s), ← gd_SL_sw (s := r)]
    exact and_comm
/-- the genome with a and b joined, what they were joined with joined too -/
def gd_tie (g : Nat → Nat) (a b : Nat) : Nat → Nat := fun x => if x = a then b else if x = b then a else g x
def gd_cut (g : Nat → Nat) (a : Nat) : Nat → Nat := fun x => if x = a then a else if x = g a then g a else g x
def gd_mk (s : Nat → Nat) (a b : Nat) : Nat → Nat :=
  if s a = a then (if s b = b then gd_tie s a b else gd_tie (gd_cut s b) a b)
  else (if s b = b then gd_tie (gd_cut s a) a b else gd_tie (gd_tie s a b) (s a) (s b))
def gd_M (s : Nat → Nat) (a b : Nat) (s' : Nat → Nat) : Prop :=
  (a < 8 ∧ b < 8 ∧ a ≠ b ∧ s a ≠ b ∧ s b ≠ a) ∧ s' a = b ∧ s' b = a ∧
  (∀ x, x < 8 → x ≠ a → x ≠ b → x ≠ s a → x ≠ s b → s' x = s x) ∧
  (s a ≠ a → s b ≠ b → s' (s a) = s b ∧ s' (s b) = s a) ∧ (s a ≠ a → s b = b → s' (s a) = s a) ∧ (s a = a → s b ≠ b → s' (s b) = s b)
theorem gd_mk_M {s : Nat → Nat} (hs : gd_Inv s) {a b : Nat} (ha : a < 8) (hb : b < 8) (ab : a ≠ b) (sab : s a ≠ b) : gd_M s a b (gd_mk s a b) := by
  have h1 := hs a ha
  have h2 := hs b hb
  have sba : s b ≠ a := fun e => sab (by rw [← e]; exact h2.2)
  refine ⟨⟨ha, hb, ab, sab, sba⟩, ?_⟩
  unfold gd_mk
  by_cases ea : s a = a
  · by_cases eb : s b = b
    · rw [if_pos ea, if_pos eb]
      unfold gd_tie
      grind
    · rw [if_pos ea, if_neg eb]
      unfold gd_tie gd_cut
      grind
  · by_cases eb : s b = b
    · rw [if_neg ea, if_pos eb]
      unfold gd_tie gd_cut
      grind
    · rw [if_neg ea, if_neg eb]
      unfold gd_tie
      grind
theorem gd_M_inv {s s' : Nat → Nat} (hs : gd_Inv s) {a b : Nat} (M : gd_M s a b s') : gd_Inv s' := by
  obtain ⟨⟨ha, hb, ab, sab, sba⟩, e1, e2, e3, e4, e5, e6⟩ := M
  have h1 := hs a ha
  have h2 := hs b hb
  intro x hx
  by_cases xa : x = a
  · subst xa
    exact ⟨by rw [e1]; exact hb, by rw [e1, e2]⟩
  by_cases xb : x = b
  · subst xb
    exact ⟨by rw [e2]; exact ha, by rw [e2, e1]⟩
  by_cases xsa : x = s a
  · subst xsa
    by_cases sb : s b = b
    · have h := e5 xa sb
      exact ⟨by rw [h]; exact h1.1, by rw [h, h]⟩
    · have h := e4 xa sb
      exact ⟨by rw [h.1]; exact h2.1, by rw [h.1, h.2]⟩
  by_cases xsb : x = s b
  · subst xsb
    by_cases sa : s a = a
    · have h := e6 sa xb
      exact ⟨by rw [h]; exact h2.1, by rw [h, h]⟩
    · have h := e4 sa xb
      exact ⟨by rw [h.2]; exact h1.1, by rw [h.2, h.1]⟩
  have h := e3 x hx xa xb xsa xsb
  have h3 := hs x hx
  refine ⟨by rw [h]; exact h3.1, ?_⟩
  rw [h, e3 (s x) h3.1 ?_ ?_ ?_ ?_, h3.2]
  · intro e
    exact xsa (by rw [← e, h3.2])
  · intro e
    exact xsb (by rw [← e, h3.2])
  · intro e
    exact xa (by rw [← h3.2, e, h1.2])
  · intro e
    exact xb (by rw [← h3.2, e, h2.2])
end
section
/-! one step of the greedy way changes the distance by one -/
theorem gd_J_Cn {s r s' : Nat → Nat} (hs : gd_Inv s) (hr : gd_Inv r) {a b : Nat} (M : gd_M s a b s') (rab : r a = b) {x y : Nat} (hx : x ≠ a ∧ x ≠ b) (hy : y ≠ a ∧ y ≠ b) : gd_Cn s' r x y ↔ gd_Cn s r x y := by
  obtain ⟨⟨ha, hb, ab, sab, sba⟩, e1, e2, e3, e4, e5, e6⟩ := M
  have h1 := hs a ha
  have h2 := hs b hb
  have rba : r b = a := by rw [← rab]; exact (hr a ha).2
  have rne : ∀ z, z < 8 → z ≠ a → z ≠ b → r z ≠ a ∧ r z ≠ b := by
    intro z hz za zb
    have h3 := hr z hz
    exact ⟨fun e => zb (by rw [← h3.2, e, rab]), fun e => za (by rw [← h3.2, e, rba])⟩
  constructor
  · intro c S cl
    have T : gd_Cl s' r (fun z => S z ∧ z ≠ a ∧ z ≠ b) := by
      intro z hz ⟨Sz, za, zb⟩
      refine ⟨?_, (cl z hz Sz).2, rne z hz za zb⟩
      have h3 := hs z hz
      by_cases zsa : z = s a
      · subst zsa
        have Sa : S a := by have := (cl (s a) hz Sz).1; rwa [h1.2] at this
        have Sb : S b := by have := (cl a ha Sa).2; rwa [rab] at this
        by_cases sb : s b = b
        · have h := e5 za sb
          show S (s' (s a)) ∧ s' (s a) ≠ a ∧ s' (s a) ≠ b
          rw [h]
          exact ⟨Sz, za, zb⟩
        · have h := (e4 za sb).1
          show S (s' (s a)) ∧ s' (s a) ≠ a ∧ s' (s a) ≠ b
          rw [h]
          exact ⟨(cl b hb Sb).1, sba, sb⟩
      by_cases zsb : z = s b
      · subst zsb
        have Sb : S b := by have := (cl (s b) hz Sz).1; rwa [h2.2] at this
        have Sa : S a := by have := (cl b hb Sb).2; rwa [rba] at this
        by_cases sa : s a = a
        · have h := e6 sa zb
          show S (s' (s b)) ∧ s' (s b) ≠ a ∧ s' (s b) ≠ b
          rw [h]
          exact ⟨Sz, za, zb⟩
        · have h := (e4 sa zb).2
          show S (s' (s b)) ∧ s' (s b) ≠ a ∧ s' (s b) ≠ b
          rw [h]
          exact ⟨(cl a ha Sa).1, sa, sab⟩
      have h := e3 z hz za zb zsa zsb
      show S (s' z) ∧ s' z ≠ a ∧ s' z ≠ b
      rw [h]
      exact ⟨(cl z hz Sz).1, fun e => zsa (by rw [← e, h3.2]), fun e => zsb (by rw [← e, h3.2])⟩
    have k := c _ T
    exact ⟨fun h => (k.mp ⟨h, hx⟩).1, fun h => (k.mpr ⟨h, hy⟩).1⟩
  · intro c S cl
    have T : gd_Cl s r (fun z => (S z ∧ z ≠ a ∧ z ≠ b) ∨ ((z = a ∨ z = b) ∧ ((s a ≠ a ∧ S (s a)) ∨ (s b ≠ b ∧ S (s b))))) := by
      intro z hz hT
      rcases hT with ⟨Sz, za, zb⟩ | ⟨zab, K⟩
      · have h3 := hs z hz
        refine ⟨?_, Or.inl ⟨(cl z hz Sz).2, rne z hz za zb⟩⟩
        by_cases sza : s z = a
        · have ez : z = s a := by rw [← sza, h3.2]
          have hne : s a ≠ a := by rw [← ez]; exact za
          exact Or.inr ⟨Or.inl sza, Or.inl ⟨hne, by rw [← ez]; exact Sz⟩⟩
        by_cases szb : s z = b
        · have ez : z = s b := by rw [← szb, h3.2]
          have hne : s b ≠ b := by rw [← ez]; exact zb
          exact Or.inr ⟨Or.inr szb, Or.inr ⟨hne, by rw [← ez]; exact Sz⟩⟩
        have zsa : z ≠ s a := fun e => sza (by rw [e, h1.2])
        have zsb : z ≠ s b := fun e => szb (by rw [e, h2.2])
        have h := (cl z hz Sz).1
        rw [e3 z hz za zb zsa zsb] at h
        exact Or.inl ⟨h, sza, szb⟩
      · rcases zab with rfl | rfl
        · refine ⟨?_, Or.inr ⟨Or.inr rab, K⟩⟩
          by_cases sa : s z = z
          · exact Or.inr ⟨Or.inl sa, K⟩
          · refine Or.inl ⟨?_, sa, sab⟩
            rcases K with ⟨_, k⟩ | ⟨k0, k⟩
            · exact k
            · have h := (cl (s b) h2.1 k).1
              rwa [(e4 sa k0).2] at h
        · refine ⟨?_, Or.inr ⟨Or.inl rba, K⟩⟩
          by_cases sb : s z = z
          · exact Or.inr ⟨Or.inr sb, K⟩
          · refine Or.inl ⟨?_, sba, sb⟩
            rcases K with ⟨k0, k⟩ | ⟨_, k⟩
            · have h := (cl (s a) h1.1 k).1
              rwa [(e4 k0 sb).1] at h
            · exact k
    have k := c _ T
    constructor
    · intro h
      rcases k.mp (Or.inl ⟨h, hx⟩) with h' | ⟨h', _⟩
      · exact h'.1
      · rcases h' with h' | h'
        · exact absurd h' hy.1
        · exact absurd h' hy.2
    · intro h
      rcases k.mpr (Or.inl ⟨h, hy⟩) with h' | ⟨h', _⟩
      · exact h'.1
      · rcases h' with h' | h'
        · exact absurd h' hx.1
        · exact absurd h' hx.2
theorem gd_pair {s r : Nat → Nat} {a b x y : Nat} (ea : s a = a ∨ s a = b) (eb : s b = a ∨ s b = b) (fa : r a = a ∨ r a = b) (fb : r b = a ∨ r b = b) (c : gd_Cn s r x y) : (x = a ∨ x = b) ↔ (y = a ∨ y = b) := by
  refine c (fun z => z = a ∨ z = b) ?_
  intro z _ hz
  rcases hz with rfl | rfl
  · exact ⟨ea, fa⟩
  · exact ⟨eb, fb⟩
theorem gd_out {a b x : Nat} (h : ¬ (x = a ∨ x = b)) : x ≠ a ∧ x ≠ b := ⟨fun e => h (Or.inl e), fun e => h (Or.inr e)⟩
theorem gd_J_RL {s r s' : Nat → Nat} (hs : gd_Inv s) (hr : gd_Inv r) {a b : Nat} (M : gd_M s a b s') (rab : r a = b) {x : Nat} (hx : x ≠ a ∧ x ≠ b) : gd_RL s' r x ↔ gd_RL s r x := by
  have ab := M.1.2.2.1
  have rba : r b = a := by rw [← rab]; exact (hr a M.1.1).2
  have ne : ∀ y, r y = y → y ≠ a ∧ y ≠ b := by
    intro y e
    exact ⟨fun h => ab (by rw [h] at e; rw [← e, rab]), fun h => ab (by rw [h] at e; rw [← e, rba])⟩
  constructor
  · rintro ⟨y, hy, c, e⟩
    exact ⟨y, hy, (gd_J_Cn hs hr M rab hx (ne y e)).mp c, e⟩
  · rintro ⟨y, hy, c, e⟩
    exact ⟨y, hy, (gd_J_Cn hs hr M rab hx (ne y e)).mpr c, e⟩
theorem gd_J_SL {s r s' : Nat → Nat} (hs : gd_Inv s) (hr : gd_Inv r) {a b : Nat} (M : gd_M s a b s') (rab : r a = b) {x : Nat} (hx : x ≠ a ∧ x ≠ b) : gd_SL s' r x ↔ gd_SL s r x := by
  have J := @gd_J_Cn s r s' hs hr a b M rab
  obtain ⟨⟨ha, hb, ab, sab, sba⟩, e1, e2, e3, e4, e5, e6⟩ := M
  have h1 := hs a ha
  have h2 := hs b hb
  have rba : r b = a := by rw [← rab]; exact (hr a ha).2
  have cab : gd_Cn s r a b := by have h := gd_Cn_r (s := s) hr ha; rwa [rab] at h
  constructor
  · rintro ⟨y, hy, c, e⟩
    have ya : y ≠ a := fun h => ab (by rw [h, e1] at e; exact e.symm)
    have yb : y ≠ b := fun h => ab (by rw [h, e2] at e; exact e)
    have c' := (J hx ⟨ya, yb⟩).mp c
    by_cases ysa : y = s a
    · have sa : s a ≠ a := by rw [← ysa]; exact ya
      have ca : gd_Cn s r x a := gd_Cn_tr c' (by rw [ysa]; exact gd_Cn_sym (gd_Cn_s hs ha))
      by_cases sb : s b = b
      · exact ⟨b, hb, gd_Cn_tr ca cab, sb⟩
      · exfalso
        have h := (e4 sa sb).1
        rw [← ysa, e] at h
        exact ab (by rw [← h1.2, ← ysa, h, h2.2])
    by_cases ysb : y = s b
    · have sb : s b ≠ b := by rw [← ysb]; exact yb
      have cb : gd_Cn s r x b := gd_Cn_tr c' (by rw [ysb]; exact gd_Cn_sym (gd_Cn_s hs hb))
      by_cases sa : s a = a
      · exact ⟨a, ha, gd_Cn_tr cb (gd_Cn_sym cab), sa⟩
      · exfalso
        have h := (e4 sa sb).2
        rw [← ysb, e] at h
        exact ab (by rw [← h1.2, ← h, ysb, h2.2])
    exact ⟨y, hy, c', by rw [← e3 y hy ya yb ysa ysb]; exact e⟩
  · rintro ⟨y, hy, c, e⟩
    by_cases ya : y = a
    · subst ya
      by_cases sb : s b = b
      · exfalso
        have h := (gd_pair (Or.inl e) (Or.inr sb) (Or.inr rab) (Or.inl rba) c).mpr (Or.inl rfl)
        rcases h with h | h
        · exact hx.1 h
        · exact hx.2 h
      · exact ⟨s b, h2.1, (J hx ⟨sba, sb⟩).mpr (gd_Cn_tr (gd_Cn_tr c cab) (gd_Cn_s hs hb)), e6 e sb⟩
    by_cases yb : y = b
    · subst yb
      by_cases sa : s a = a
      · exfalso
        have h := (gd_pair (Or.inl sa) (Or.inr e) (Or.inr rab) (Or.inl rba) c).mpr (Or.inr rfl)
        rcases h with h | h
        · exact hx.1 h
        · exact hx.2 h
      · exact ⟨s a, h1.1, (J hx ⟨sa, sab⟩).mpr (gd_Cn_tr (gd_Cn_tr c (gd_Cn_sym cab)) (gd_Cn_s hs ha)), e5 sa e⟩
    have ysa : y ≠ s a := fun h => ya (by rw [← e, h, h1.2])
    have ysb : y ≠ s b := fun h => yb (by rw [← e, h, h2.2])
    exact ⟨y, hy, (J hx ⟨ya, yb⟩).mpr c, by rw [e3 y hy ya yb ysa ysb]; exact e⟩
theorem gd_pw {s r : Nat → Nat} {y : Nat} {L : List Nat} (hp : L.Pairwise (fun x y => ¬ gd_Cn s r x y)) (hy : y ∈ L) : (∀ z, z ∈ L.erase y → ¬ gd_Cn s r y z) ∧ (L.erase y).Pairwise (fun x y => ¬ gd_Cn s r x y) := by
  have h := (List.perm_cons_erase hy).pairwise hp (fun h c => h (gd_Cn_sym c))
  exact ⟨fun z hz => (List.pairwise_cons.mp h).1 z hz, (List.pairwise_cons.mp h).2⟩
theorem gd_J {s r s' : Nat → Nat} (hs : gd_Inv s) (hr : gd_Inv r) {a b : Nat} (M : gd_M s a b s') (rab : r a = b) {n : Nat} (h : gd_D s' r n) : gd_D s r (n + 1) := by
  have J := @gd_J_Cn s r s' hs hr a b M rab
  have JS := @gd_J_SL s r s' hs hr a b M rab
  have JR := @gd_J_RL s r s' hs hr a b M rab
  have JRg : ∀ {x : Nat}, x ≠ a ∧ x ≠ b → (gd_Rg s' r x ↔ gd_Rg s r x) := fun hx => and_congr (not_congr (JS hx)) (not_congr (JR hx))
  have JEv : ∀ {x : Nat}, x ≠ a ∧ x ≠ b → (gd_Ev s' r x ↔ gd_Ev s r x) := fun hx => and_congr (JS hx) (JR hx)
  have hs' := gd_M_inv hs M
  obtain ⟨⟨ha, hb, ab, sab, sba⟩, e1, e2, e3, e4, e5, e6⟩ := M
  have h1 := hs a ha
  have h2 := hs b hb
  have rba : r b = a := by rw [← rab]; exact (hr a ha).2
  have cab : gd_Cn s r a b := by have h := gd_Cn_r (s := s) hr ha; rwa [rab] at h
  have cab' : gd_Cn s' r a b := by have h := gd_Cn_r (s := s') hr ha; rwa [rab] at h
  have pr : ∀ {x y : Nat}, gd_Cn s' r x y → ((x = a ∨ x = b) ↔ (y = a ∨ y = b)) := fun c => gd_pair (Or.inr e1) (Or.inl e2) (Or.inr rab) (Or.inl rba) c
  have nSL : ∀ {x : Nat}, (x = a ∨ x = b) → ¬ gd_SL s' r x := by
    rintro x hx ⟨y, _, c, e⟩
    rcases (pr c).mp hx with rfl | rfl
    · exact ab (by rw [← e1]; exact e.symm)
    · exact ab (by rw [← e2]; exact e)
  have nRL : ∀ {x : Nat}, (x = a ∨ x = b) → ¬ gd_RL s' r x := by
    rintro x hx ⟨y, _, c, e⟩
    rcases (pr c).mp hx with rfl | rfl
    · exact ab (by rw [← rab]; exact e.symm)
    · exact ab (by rw [← rba]; exact e)
  obtain ⟨R, E, hR, hE, en⟩ := h
  obtain ⟨y0, hy0, c0⟩ := hR.2.2 a ha ⟨nSL (Or.inl rfl), nRL (Or.inl rfl)⟩
  have y0ab := (pr c0).mp (Or.inl rfl)
  obtain ⟨pw1, pw2⟩ := gd_pw hR.2.1 hy0
  have outR : ∀ z, z ∈ R.erase y0 → z ≠ a ∧ z ≠ b := by
    intro z hz
    refine gd_out fun zab => pw1 z hz (gd_Cn_tr (gd_Cn_sym c0) ?_)
    rcases zab with rfl | rfl
    · exact gd_Cn_rfl _
    · exact cab'
  have outE : ∀ z, z ∈ E → z ≠ a ∧ z ≠ b := fun z hz => gd_out fun zab => nSL zab (hE.1 z hz).2.1
  have lR := List.length_erase_of_mem hy0
  have pR : 0 < R.length := List.length_pos_of_mem hy0
  refine ⟨R.erase y0, E, ⟨?_, ?_, ?_⟩, ⟨?_, ?_, ?_⟩, by omega⟩
  · intro z hz
    have h := hR.1 z (List.mem_of_mem_erase hz)
    exact ⟨h.1, (JRg (outR z hz)).mp h.2⟩
  · exact pw2.imp_of_mem fun hx hy h c => h ((J (outR _ hx) (outR _ hy)).mpr c)
  · intro x hx rg
    have key : ∃ x', x' < 8 ∧ (x' ≠ a ∧ x' ≠ b) ∧ gd_Cn s r x x' := by
      by_cases xab : x = a ∨ x = b
      · have cxa : gd_Cn s r x a := by
          rcases xab with rfl | rfl
          · exact gd_Cn_rfl _
          · exact gd_Cn_sym cab
        have sa : s a ≠ a := fun e => rg.1 ⟨a, ha, cxa, e⟩
        exact ⟨s a, h1.1, ⟨sa, sab⟩, gd_Cn_tr cxa (gd_Cn_s hs ha)⟩
      · exact ⟨x, hx, gd_out xab, gd_Cn_rfl _⟩
    obtain ⟨x', hx', ox', c⟩ := key
    obtain ⟨y, hy, cy⟩ := hR.2.2 x' hx' ((JRg ox').mpr ((gd_Rg_c c).mp rg))
    have oy : y ≠ a ∧ y ≠ b := gd_out fun h => by
      rcases (pr cy).mpr h with h | h
      · exact ox'.1 h
      · exact ox'.2 h
    have ne : y ≠ y0 := fun e => by
      rcases y0ab with h | h
      · exact oy.1 (e.trans h)
      · exact oy.2 (e.trans h)
    exact ⟨y, (List.mem_erase_of_ne ne).mpr hy, gd_Cn_tr c ((J ox' oy).mp cy)⟩
  · intro z hz
    have h := hE.1 z hz
    exact ⟨h.1, (JEv (outE z hz)).mp h.2⟩
  · exact hE.2.1.imp_of_mem fun hx hy h c => h ((J (outE _ hx) (outE _ hy)).mpr c)
  · intro x hx ev
    obtain ⟨y, hy, c, e⟩ := ev.2
    have oy : y ≠ a ∧ y ≠ b := ⟨fun h => ab (by rw [h] at e; rw [← e, rab]), fun h => ab (by rw [h] at e; rw [← e, rba])⟩
    obtain ⟨w, hw, cw⟩ := hE.2.2 y hy ((JEv oy).mpr ((gd_Ev_c c).mp ev))
    exact ⟨w, hw, gd_Cn_tr c ((J oy (outE w hw)).mp cw)⟩
/-- a joint cut off whose ends are loose in the other genome -/
theorem gd_K {s r s' : Nat → Nat} (hs : gd_Inv s) (hr : gd_Inv r) {a b : Nat} (ha : a < 8) (hb : b < 8) (ab : a ≠ b) (sa : s a = b) (sb : s b = a) (ra : r a = a) (rb : r b = b) (sa' : s' a = a) (sb' : s' b = b) (e3 : ∀ x, x < 8 → x ≠ a → x ≠ b → s' x = s x) {n : Nat} (h : gd_D s' r n) : gd_D s r (n + 1) := by
  have pr : ∀ {x y : Nat}, gd_Cn s r x y → ((x = a ∨ x = b) ↔ (y = a ∨ y = b)) := fun c => gd_pair (Or.inr sa) (Or.inl sb) (Or.inl ra) (Or.inr rb) c
  have pr' : ∀ {x y : Nat}, gd_Cn s' r x y → ((x = a ∨ x = b) ↔ (y = a ∨ y = b)) := fun c => gd_pair (Or.inl sa') (Or.inr sb') (Or.inl ra) (Or.inr rb) c
  have pa : ∀ {y : Nat}, gd_Cn s' r a y → y = a := fun {y} c => by
    have := (gd_pair (Or.inl sa') (Or.inl sa') (Or.inl ra) (Or.inl ra) c).mp (Or.inl rfl)
    rcases this with h | h <;> exact h
  have pb : ∀ {y : Nat}, gd_Cn s' r b y → y = b := fun {y} c => by
    have := (gd_pair (Or.inl sb') (Or.inl sb') (Or.inl rb) (Or.inl rb) c).mp (Or.inl rfl)
    rcases this with h | h <;> exact h
  have sne : ∀ z, z < 8 → z ≠ a → z ≠ b → s z ≠ a ∧ s z ≠ b := by
    intro z hz za zb
    have h3 := hs z hz
    exact ⟨fun e => zb (by rw [← h3.2, e, sa]), fun e => za (by rw [← h3.2, e, sb])⟩
  have rne : ∀ z, z < 8 → z ≠ a → z ≠ b → r z ≠ a ∧ r z ≠ b := by
    intro z hz za zb
    have h3 := hr z hz
    exact ⟨fun e => za (by rw [← h3.2, e, ra]), fun e => zb (by rw [← h3.2, e, rb])⟩
  have J : ∀ {x y : Nat}, x ≠ a ∧ x ≠ b → y ≠ a ∧ y ≠ b → (gd_Cn s' r x y ↔ gd_Cn s r x y) := by
    intro x y hx hy
    constructor
    · intro c S cl
      have k := c (fun z => S z ∧ z ≠ a ∧ z ≠ b) (by
        intro z hz ⟨Sz, za, zb⟩
        have h := cl z hz Sz
        rw [e3 z hz za zb]
        exact ⟨⟨h.1, sne z hz za zb⟩, h.2, rne z hz za zb⟩)
      exact ⟨fun h => (k.mp ⟨h, hx⟩).1, fun h => (k.mpr ⟨h, hy⟩).1⟩
    · intro c S cl
      have k := c (fun z => S z ∧ z ≠ a ∧ z ≠ b) (by
        intro z hz ⟨Sz, za, zb⟩
        have h := cl z hz Sz
        rw [e3 z hz za zb] at h
        exact ⟨⟨h.1, sne z hz za zb⟩, h.2, rne z hz za zb⟩)
      exact ⟨fun h => (k.mp ⟨h, hx⟩).1, fun h => (k.mpr ⟨h, hy⟩).1⟩
  have go : ∀ {x y : Nat}, x ≠ a ∧ x ≠ b → gd_Cn s r x y → y ≠ a ∧ y ≠ b := fun hx c => gd_out fun h => by
    rcases (pr c).mpr h with h | h
    · exact hx.1 h
    · exact hx.2 h
  have go' : ∀ {x y : Nat}, x ≠ a ∧ x ≠ b → gd_Cn s' r x y → y ≠ a ∧ y ≠ b := fun hx c => gd_out fun h => by
    rcases (pr' c).mpr h with h | h
    · exact hx.1 h
    · exact hx.2 h
  have JS : ∀ {x : Nat}, x ≠ a ∧ x ≠ b → (gd_SL s' r x ↔ gd_SL s r x) := by
    intro x hx
    constructor
    · rintro ⟨y, hy, c, e⟩
      have o := go' hx c
      exact ⟨y, hy, (J hx o).mp c, by rw [← e3 y hy o.1 o.2]; exact e⟩
    · rintro ⟨y, hy, c, e⟩
      have o := go hx c
      exact ⟨y, hy, (J hx o).mpr c, by rw [e3 y hy o.1 o.2]; exact e⟩
  have JR : ∀ {x : Nat}, x ≠ a ∧ x ≠ b → (gd_RL s' r x ↔ gd_RL s r x) := by
    intro x hx
    constructor
    · rintro ⟨y, hy, c, e⟩
      exact ⟨y, hy, (J hx (go' hx c)).mp c, e⟩
    · rintro ⟨y, hy, c, e⟩
      exact ⟨y, hy, (J hx (go hx c)).mpr c, e⟩
  have JRg : ∀ {x : Nat}, x ≠ a ∧ x ≠ b → (gd_Rg s' r x ↔ gd_Rg s r x) := fun hx => and_congr (not_congr (JS hx)) (not_congr (JR hx))
  have JEv : ∀ {x : Nat}, x ≠ a ∧ x ≠ b → (gd_Ev s' r x ↔ gd_Ev s r x) := fun hx => and_congr (JS hx) (JR hx)
  have nSL : ∀ {x : Nat}, (x = a ∨ x = b) → ¬ gd_SL s r x := by
    rintro x hx ⟨y, _, c, e⟩
    rcases (pr c).mp hx with rfl | rfl
    · exact ab (by rw [← sa]; exact e.symm)
    · exact ab (by rw [← sb]; exact e)
  have yRL : ∀ {x : Nat}, (x = a ∨ x = b) → gd_RL s r x := by
    rintro x (rfl | rfl)
    · exact ⟨_, ha, gd_Cn_rfl _, ra⟩
    · exact ⟨_, hb, gd_Cn_rfl _, rb⟩
  have yRL' : ∀ {x : Nat}, (x = a ∨ x = b) → gd_RL s' r x := by
    rintro x (rfl | rfl)
    · exact ⟨_, ha, gd_Cn_rfl _, ra⟩
    · exact ⟨_, hb, gd_Cn_rfl _, rb⟩
  obtain ⟨R, E, hR, hE, en⟩ := h
  obtain ⟨y0, hy0, c0⟩ := hE.2.2 a ha ⟨⟨a, ha, gd_Cn_rfl _, sa'⟩, ⟨a, ha, gd_Cn_rfl _, ra⟩⟩
  obtain ⟨y1, hy1, c1⟩ := hE.2.2 b hb ⟨⟨b, hb, gd_Cn_rfl _, sb'⟩, ⟨b, hb, gd_Cn_rfl _, rb⟩⟩
  have ey0 := pa c0
  have ey1 := pb c1
  subst ey0 ey1
  obtain ⟨pw1, pw2⟩ := gd_pw hE.2.1 hy0
  have hb1 : y1 ∈ E.erase y0 := (List.mem_erase_of_ne (fun e => ab e.symm)).mpr hy1
  obtain ⟨pw3, pw4⟩ := gd_pw pw2 hb1
  have outE : ∀ z, z ∈ (E.erase y0).erase y1 → z ≠ y0 ∧ z ≠ y1 := by
    intro z hz
    refine ⟨fun e => ?_, fun e => ?_⟩
    · exact pw1 z (List.mem_of_mem_erase hz) (by rw [e]; exact gd_Cn_rfl _)
    · exact pw3 z hz (by rw [e]; exact gd_Cn_rfl _)
  have outR : ∀ z, z ∈ R → z ≠ y0 ∧ z ≠ y1 := fun z hz => gd_out fun zab => (hR.1 z hz).2.2 (yRL' zab)
  have l1 := List.length_erase_of_mem hy0
  have l2 := List.length_erase_of_mem hb1
  have l3 : 0 < E.length := List.length_pos_of_mem hy0
  have l4 : 0 < (E.erase y0).length := List.length_pos_of_mem hb1
  refine ⟨R, (E.erase y0).erase y1, ⟨?_, ?_, ?_⟩, ⟨?_, ?_, ?_⟩, by omega⟩
  · intro z hz
    have h := hR.1 z hz
    exact ⟨h.1, (JRg (outR z hz)).mp h.2⟩
  · exact hR.2.1.imp_of_mem fun hx hy h c => h ((J (outR _ hx) (outR _ hy)).mpr c)
  · intro x hx rg
    have ox : x ≠ y0 ∧ x ≠ y1 := gd_out fun h => rg.2 (yRL h)
    obtain ⟨w, hw, cw⟩ := hR.2.2 x hx ((JRg ox).mpr rg)
    exact ⟨w, hw, (J ox (outR w hw)).mp cw⟩
  · intro z hz
    have h := hE.1 z (List.mem_of_mem_erase (List.mem_of_mem_erase hz))
    exact ⟨h.1, (JEv (outE z hz)).mp h.2⟩
  · exact pw4.imp_of_mem fun hx hy h c => h ((J (outE _ hx) (outE _ hy)).mpr c)
  · intro x hx ev
    have ox : x ≠ y0 ∧ x ≠ y1 := gd_out fun h => nSL h ev.1
    obtain ⟨w, hw, cw⟩ := hE.2.2 x hx ((JEv ox).mpr ev)
    have ow := go' ox cw
    exact ⟨w, (List.mem_erase_of_ne ow.2).mpr ((List.mem_erase_of_ne ow.1).mpr hw), (J ox ow).mp cw⟩
end
section
/-! a search over all genomes; the distance exists -/
def gs_okA (k b : Nat) : List Nat → Bool
  | [] => true
  | x :: t => !(Nat.beq x b) && ((Nat.beq x k == Nat.beq b t.length) && gs_okA k b t)
def gs_tst (P : List Nat → Bool) : Nat → Nat → List Nat → Bool
  | 0, _, l => P l
  | n + 1, k, l => [0, 1, 2, 3, 4, 5, 6, 7].all (fun b => !(gs_okA k b l) || gs_tst P n (k + 1) (b :: l))
def gs_rev (g : Nat → Nat) : Nat → List Nat
  | 0 => []
  | k + 1 => g k :: gs_rev g k
theorem gs_rev_len (g : Nat → Nat) : ∀ k, (gs_rev g k).length = k
  | 0 => rfl
  | k + 1 => by rw [gs_rev, List.length_cons, gs_rev_len g k]
theorem gs_beq_iff {a b c d : Nat} (h : a = b ↔ c = d) : (Nat.beq a b == Nat.beq c d) = true := by
  by_cases e : a = b
  · have e2 := h.mp e
    subst e e2
    rw [Nat.beq_refl, Nat.beq_refl]
    rfl
  · have e2 : ¬ c = d := fun z => e (h.mpr z)
    have h1 : Nat.beq a b = false := Bool.eq_false_iff.mpr fun z => e (Nat.eq_of_beq_eq_true z)
    have h2 : Nat.beq c d = false := Bool.eq_false_iff.mpr fun z => e2 (Nat.eq_of_beq_eq_true z)
    rw [h1, h2]
    rfl
theorem gs_okA_g {g : Nat → Nat} (hg : gd_Inv g) {k : Nat} (hk : k < 8) : ∀ j, j ≤ k → gs_okA k (g k) (gs_rev g j) = true
  | 0, _ => rfl
  | j + 1, hj => by
    have h1 := hg k hk
    have h2 := hg j (by omega)
    have ne : Nat.beq (g j) (g k) = false := Bool.eq_false_iff.mpr fun z => by
      have e := Nat.eq_of_beq_eq_true z
      have : j = k := by rw [← h2.2, e, h1.2]
      omega
    have iff : (Nat.beq (g j) k == Nat.beq (g k) (gs_rev g j).length) = true := by
      rw [gs_rev_len]
      exact gs_beq_iff ⟨fun e => by rw [← e, h2.2], fun e => by rw [← e, h1.2]⟩
    rw [gs_rev, gs_okA, ne, iff, gs_okA_g hg hk j (by omega)]
    rfl
theorem gs_sound {P : List Nat → Bool} {g : Nat → Nat} (hg : gd_Inv g) : ∀ n k, n + k = 8 → gs_tst P n k (gs_rev g k) = true → P (gs_rev g 8) = true
  | 0, k, hk, h => by
    have e : k = 8 := by omega
    subst e
    exact h
  | n + 1, k, hk, h => by
    rw [gs_tst, List.all_eq_true] at h
    have h1 := hg k (by omega)
    have hm : g k ∈ [0, 1, 2, 3, 4, 5, 6, 7] := by
      have := h1.1
      generalize g k = q at this
      simp only [List.mem_cons, List.not_mem_nil, or_false]
      omega
    have h2 := h (g k) hm
    rw [gs_okA_g hg (by omega) k (Nat.le_refl k)] at h2
    have h3 : gs_tst P n (k + 1) (gs_rev g (k + 1)) = true := h2
    exact gs_sound hg n (k + 1) (by omega) h3
theorem gs_all {P : List Nat → Bool} (h : gs_tst P 8 0 [] = true) {g : Nat → Nat} (hg : gd_Inv g) : P (gs_rev g 8) = true := gs_sound hg 8 0 rfl h
def gs_of (l : List Nat) (a : Nat) : Nat := l.getD (7 - a) 0
theorem gs_of_aux (g : Nat → Nat) : ∀ k a, a < k → (gs_rev g k).getD (k - 1 - a) 0 = g a
  | 0, a, h => by omega
  | k + 1, a, h => by
    by_cases e : a = k
    · subst e
      rw [show a + 1 - 1 - a = 0 by omega, gs_rev]
      rfl
    · rw [show k + 1 - 1 - a = (k - 1 - a) + 1 by omega, gs_rev, List.getD_cons_succ]
      exact gs_of_aux g k a (by omega)
theorem gs_of_rev {g : Nat → Nat} {a : Nat} (h : a < 8) : gs_of (gs_rev g 8) a = g a := gs_of_aux g 8 a h
theorem gs_inv {g : Nat → Nat} (hg : gd_Inv g) : gd_Inv (gs_of (gs_rev g 8)) := by
  intro a ha
  have h := hg a ha
  rw [gs_of_rev ha]
  exact ⟨h.1, by rw [gs_of_rev h.1]; exact h.2⟩
def gs_up (l : List Nat) : Nat := ((List.range 8).filter (fun x => decide (x < gs_of l x))).length
def gs_lo (l : List Nat) : Nat := ((List.range 8).filter (fun x => decide (gs_of l x = x))).length
theorem gs_cnt8 : gs_tst (fun l => Nat.beq (2 * gs_up l + gs_lo l) 8) 8 0 [] = true := by decide +kernel
theorem gd_base {s r : Nat → Nat} (hs : gd_Inv s) (e : ∀ a, a < 8 → s a = r a) : gd_D s r 0 := by
  have cls : ∀ {x y : Nat}, x < 8 → gd_Cn s r x y → y = x ∨ y = s x := by
    intro x y hx c
    have h := hs x hx
    exact (gd_pair (a := x) (b := s x) (Or.inr rfl) (Or.inl h.2) (Or.inr (e x hx).symm) (Or.inl (by rw [← e _ h.1]; exact h.2)) c).mp (Or.inl rfl)
  have hcnt := Nat.eq_of_beq_eq_true (gs_all gs_cnt8 hs)
  have eU : gs_up (gs_rev s 8) = ((List.range 8).filter (fun x => decide (x < s x))).length := by
    unfold gs_up
    exact congrArg List.length (List.filter_congr fun x hx => by rw [gs_of_rev (List.mem_range.mp hx)])
  have eL : gs_lo (gs_rev s 8) = ((List.range 8).filter (fun x => decide (s x = x))).length := by
    unfold gs_lo
    exact congrArg List.length (List.filter_congr fun x hx => by rw [gs_of_rev (List.mem_range.mp hx)])
  rw [eU, eL] at hcnt
  have mU : ∀ x, x ∈ (List.range 8).filter (fun x => decide (x < s x)) ↔ x < 8 ∧ x < s x := by
    intro x
    rw [List.mem_filter, List.mem_range, decide_eq_true_iff]
  have mL : ∀ x, x ∈ (List.range 8).filter (fun x => decide (s x = x)) ↔ x < 8 ∧ s x = x := by
    intro x
    rw [List.mem_filter, List.mem_range, decide_eq_true_iff]
  have pwU : ((List.range 8).filter (fun x => decide (x < s x))).Pairwise (· < ·) := List.pairwise_lt_range.filter _
  have pwL : ((List.range 8).filter (fun x => decide (s x = x))).Pairwise (· < ·) := List.pairwise_lt_range.filter _
  refine ⟨(List.range 8).filter (fun x => decide (x < s x)), (List.range 8).filter (fun x => decide (s x = x)), ⟨?_, ?_, ?_⟩, ⟨?_, ?_, ?_⟩, by omega⟩
  · intro x hx
    obtain ⟨h8, h⟩ := (mU x).mp hx
    have hx2 := hs x h8
    refine ⟨h8, ?_, ?_⟩
    · rintro ⟨y, hy, c, ey⟩
      rcases cls h8 c with h' | h'
      · subst h'
        omega
      · subst h'
        omega
    · rintro ⟨y, hy, c, ey⟩
      rw [← e y hy] at ey
      rcases cls h8 c with h' | h'
      · subst h'
        omega
      · subst h'
        omega
  · refine pwU.imp_of_mem fun {x y} hx hy h c => ?_
    obtain ⟨hx8, hx1⟩ := (mU x).mp hx
    obtain ⟨hy8, hy1⟩ := (mU y).mp hy
    have hx2 := hs x hx8
    rcases cls hx8 c with h' | h'
    · omega
    · subst h'
      omega
  · intro x hx rg
    have hx2 := hs x hx
    have ne : s x ≠ x := fun h => rg.1 ⟨x, hx, gd_Cn_rfl _, h⟩
    by_cases lt : x < s x
    · exact ⟨x, (mU x).mpr ⟨hx, lt⟩, gd_Cn_rfl _⟩
    · exact ⟨s x, (mU _).mpr ⟨hx2.1, by omega⟩, gd_Cn_s hs hx⟩
  · intro x hx
    obtain ⟨h8, h⟩ := (mL x).mp hx
    exact ⟨h8, ⟨x, h8, gd_Cn_rfl _, h⟩, ⟨x, h8, gd_Cn_rfl _, by rw [← e x h8]; exact h⟩⟩
  · refine pwL.imp_of_mem fun {x y} hx hy h c => ?_
    obtain ⟨hx8, hx1⟩ := (mL x).mp hx
    rcases cls hx8 c with h' | h'
    · omega
    · omega
  · intro x hx ev
    have hx2 := hs x hx
    obtain ⟨y, hy, c, ey⟩ := ev.1
    have hh : s x = x := by
      rcases cls hx c with h' | h'
      · subst h'
        exact ey
      · subst h'
        omega
    exact ⟨x, (mL x).mpr ⟨hx, hh⟩, gd_Cn_rfl _⟩
theorem gd_cnt {p q : Nat → Bool} : ∀ l : List Nat, (∀ x, x ∈ l → p x = true → q x = true) → (∃ a, a ∈ l ∧ q a = true ∧ p a = false) → l.countP p < l.countP q
  | [], _, h => by
    obtain ⟨a, ha, _⟩ := h
    cases ha
  | x :: t, hm, h => by
    have hm' : ∀ y, y ∈ t → p y = true → q y = true := fun y hy => hm y (List.mem_cons_of_mem _ hy)
    have le : t.countP p ≤ t.countP q := List.countP_mono_left hm'
    rw [List.countP_cons, List.countP_cons]
    obtain ⟨a, ha, qa, pa⟩ := h
    rcases List.mem_cons.mp ha with e | e
    · subst e
      rw [qa, pa]
      simp only [Bool.false_eq_true, if_false, if_true]
      omega
    · have lt := gd_cnt t hm' ⟨a, e, qa, pa⟩
      have hx := hm x (List.mem_cons_self ..)
      cases hpx : p x
      · simp only [Bool.false_eq_true, if_false]
        omega
      · rw [hx hpx]
        simp only [if_true]
        omega
/-- how many ends are joined otherwise -/
def gd_mu (s r : Nat → Nat) : Nat := (List.range 8).countP (fun x => decide (s x ≠ r x))
theorem gd_mu_lt {s r s' : Nat → Nat} {a : Nat} (ha : a < 8) (h1 : s a ≠ r a) (h2 : s' a = r a) (h : ∀ x, x < 8 → s x = r x → s' x = r x) : gd_mu s' r < gd_mu s r := by
  refine gd_cnt _ (fun x hx => ?_) ⟨a, List.mem_range.mpr ha, decide_eq_true h1, ?_⟩
  · intro k
    have k' := of_decide_eq_true k
    exact decide_eq_true fun e => k' (h x (List.mem_range.mp hx) e)
  · exact decide_eq_false fun k => k h2
theorem gd_mu_M {s r s' : Nat → Nat} (hs : gd_Inv s) (hr : gd_Inv r) {a b : Nat} (M : gd_M s a b s') (rab : r a = b) : gd_mu s' r < gd_mu s r := by
  obtain ⟨⟨ha, hb, ab, sab, sba⟩, e1, e2, e3, e4, e5, e6⟩ := M
  have h1 := hs a ha
  have h2 := hs b hb
  have rba : r b = a := by rw [← rab]; exact (hr a ha).2
  refine gd_mu_lt ha (by rw [rab]; exact sab) (by rw [e1, rab]) fun x hx e => ?_
  have h3 := hr x hx
  by_cases xa : x = a
  · subst xa
    exact absurd (e.trans rab) sab
  by_cases xb : x = b
  · subst xb
    exact absurd (e.trans rba) sba
  by_cases xsa : x = s a
  · exfalso
    have e' : r x = a := by rw [← e, xsa, h1.2]
    exact xb (by rw [← h3.2, e', rab])
  by_cases xsb : x = s b
  · exfalso
    have e' : r x = b := by rw [← e, xsb, h2.2]
    exact xa (by rw [← h3.2, e', rba])
  rw [e3 x hx xa xb xsa xsb]
  exact e
theorem gd_cut_a (s : Nat → Nat) (a : Nat) : gd_cut s a a = a := if_pos rfl
theorem gd_cut_b (s : Nat → Nat) (a : Nat) : gd_cut s a (s a) = s a := by
  unfold gd_cut
  by_cases h : s a = a
  · rw [if_pos h]
    exact h.symm
  · rw [if_neg h, if_pos rfl]
theorem gd_cut_x {s : Nat → Nat} {a x : Nat} (h : x ≠ a) (h' : x ≠ s a) : gd_cut s a x = s x := by
  unfold gd_cut
  rw [if_neg h, if_neg h']
theorem gd_cut_inv {s : Nat → Nat} (hs : gd_Inv s) {a : Nat} (ha : a < 8) : gd_Inv (gd_cut s a) := by
  intro x hx
  have h1 := hs a ha
  have h2 := hs x hx
  by_cases xa : x = a
  · subst xa
    exact ⟨by rw [gd_cut_a]; exact hx, by rw [gd_cut_a, gd_cut_a]⟩
  by_cases xb : x = s a
  · subst xb
    exact ⟨by rw [gd_cut_b]; exact hx, by rw [gd_cut_b, gd_cut_b]⟩
  rw [gd_cut_x xa xb]
  refine ⟨h2.1, ?_⟩
  rw [gd_cut_x ?_ ?_, h2.2]
  · intro e
    exact xb (by rw [← e, h2.2])
  · intro e
    exact xa (by rw [← h2.2, e, h1.2])
theorem gd_rloose {s r : Nat → Nat} (hs : gd_Inv s) (hr : gd_Inv r) (h1 : ∀ a, a < 8 → r a ≠ a → s a = r a) {a : Nat} (ha : a < 8) (sa : s a ≠ a) (ra : r a = a) : r (s a) = s a := by
  have k := hs a ha
  have kr := hr (s a) k.1
  by_cases e : r (s a) = s a
  · exact e
  · exfalso
    have e2 := h1 (s a) k.1 e
    rw [k.2] at e2
    rw [← e2, ra] at kr
    exact sa kr.2.symm
theorem gd_ex {r : Nat → Nat} (hr : gd_Inv r) : ∀ (m : Nat) (s : Nat → Nat), gd_Inv s → gd_mu s r < m → ∃ n, gd_D s r n
  | 0, s, _, h => absurd h (Nat.not_lt_zero _)
  | m + 1, s, hs, h => by
    by_cases h1 : ∃ a, a < 8 ∧ r a ≠ a ∧ s a ≠ r a
    · obtain ⟨a, ha, ra, sa⟩ := h1
      have M := gd_mk_M hs ha (hr a ha).1 (fun e => ra e.symm) sa
      have lt := gd_mu_M hs hr M rfl
      obtain ⟨n, hn⟩ := gd_ex hr m _ (gd_M_inv hs M) (by omega)
      exact ⟨n + 1, gd_J hs hr M rfl hn⟩
    have h1' : ∀ a, a < 8 → r a ≠ a → s a = r a := fun a ha ra => Classical.byContradiction fun k => h1 ⟨a, ha, ra, k⟩
    by_cases h2 : ∃ a, a < 8 ∧ s a ≠ a ∧ r a = a
    · obtain ⟨a, ha, sa, ra⟩ := h2
      have k := hs a ha
      have rb := gd_rloose hs hr h1' ha sa ra
      have lt : gd_mu (gd_cut s a) r < gd_mu s r := by
        refine gd_mu_lt ha (by rw [ra]; exact sa) (by rw [gd_cut_a, ra]) fun x hx e => ?_
        by_cases xa : x = a
        · subst xa
          rw [gd_cut_a, ra]
        by_cases xb : x = s a
        · subst xb
          rw [gd_cut_b, rb]
        rw [gd_cut_x xa xb]
        exact e
      obtain ⟨n, hn⟩ := gd_ex hr m _ (gd_cut_inv hs ha) (by omega)
      exact ⟨n + 1, gd_K hs hr ha k.1 (fun e => sa e.symm) rfl k.2 ra rb (gd_cut_a s a) (gd_cut_b s a) (fun x hx xa xb => gd_cut_x xa xb) hn⟩
    · refine ⟨0, gd_base hs fun a ha => ?_⟩
      by_cases ra : r a = a
      · rw [ra]
        exact Classical.byContradiction fun k => h2 ⟨a, ha, k, ra⟩
      · exact h1' a ha ra
noncomputable def gd_dist (s r : Nat → Nat) : Nat := Classical.epsilon (fun n => gd_D s r n)
theorem gd_dist_D {s r : Nat → Nat} (hs : gd_Inv s) (hr : gd_Inv r) : gd_D s r (gd_dist s r) := Classical.epsilon_spec (gd_ex hr _ s hs (Nat.lt_succ_self _))
theorem gd_dist_eq {s r : Nat → Nat} (hs : gd_Inv s) (hr : gd_Inv r) {n : Nat} (h : gd_D s r n) : gd_dist s r = n := gd_D_u (gd_dist_D hs hr) h
theorem gd_dist_4 {s r : Nat → Nat} (hs : gd_Inv s) (hr : gd_Inv r) : gd_dist s r ≤ 4 := gd_D_4 (gd_dist_D hs hr)
theorem gd_dist_sw {s r : Nat → Nat} (hs : gd_Inv s) (hr : gd_Inv r) : gd_dist s r = gd_dist r s := gd_dist_eq hs hr (gd_D_sw (gd_dist_D hr hs))
theorem gd_D_cg {s r t q : Nat → Nat} (hs : ∀ a, a < 8 → s a = t a) (hr : ∀ a, a < 8 → r a = q a) {n : Nat} (h : gd_D s r n) : gd_D t q n := by
  have cl : ∀ {S : Nat → Prop}, gd_Cl s r S ↔ gd_Cl t q S := by
    intro S
    constructor
    · intro c z hz k
      rw [← hs z hz, ← hr z hz]
      exact c z hz k
    · intro c z hz k
      rw [hs z hz, hr z hz]
      exact c z hz k
  have cn : ∀ {x y : Nat}, gd_Cn s r x y ↔ gd_Cn t q x y := ⟨fun c S e => c S (cl.mpr e), fun c S e => c S (cl.mp e)⟩
  have sl : ∀ {x : Nat}, gd_SL s r x ↔ gd_SL t q x := ⟨fun ⟨y, hy, c, e⟩ => ⟨y, hy, cn.mp c, by rw [← hs y hy]; exact e⟩, fun ⟨y, hy, c, e⟩ => ⟨y, hy, cn.mpr c, by rw [hs y hy]; exact e⟩⟩
  have rl : ∀ {x : Nat}, gd_RL s r x ↔ gd_RL t q x := ⟨fun ⟨y, hy, c, e⟩ => ⟨y, hy, cn.mp c, by rw [← hr y hy]; exact e⟩, fun ⟨y, hy, c, e⟩ => ⟨y, hy, cn.mpr c, by rw [hr y hy]; exact e⟩⟩
  have rp : ∀ {P Q : Nat → Prop} {L : List Nat}, (∀ x, P x ↔ Q x) → gd_Rp s r P L → gd_Rp t q Q L := by
    intro P Q L e h
    refine ⟨fun x hx => ⟨(h.1 x hx).1, (e x).mp (h.1 x hx).2⟩, h.2.1.imp fun k c => k (cn.mpr c), fun x hx w => ?_⟩
    obtain ⟨y, hy, c⟩ := h.2.2 x hx ((e x).mpr w)
    exact ⟨y, hy, cn.mp c⟩
  obtain ⟨R, E, hR, hE, e⟩ := h
  exact ⟨R, E, rp (fun x => and_congr (not_congr sl) (not_congr rl)) hR, rp (fun x => and_congr sl rl) hE, e⟩
theorem gd_dist_cg {s r t q : Nat → Nat} (hs : gd_Inv s) (hr : gd_Inv r) (ht : gd_Inv t) (hq : gd_Inv q) (es : ∀ a, a < 8 → s a = t a) (er : ∀ a, a < 8 → r a = q a) : gd_dist s r = gd_dist t q := gd_dist_eq hs hr (gd_D_cg (fun a ha => (es a ha).symm) (fun a ha => (er a ha).symm) (gd_dist_D ht hq))
end
section
/-! slots of the component; its small methods -/
def gx_enc (g : Nat → Nat) (a : Nat) : Int32 := if g a = a then -1 else nI (g a)
def gx_Sl (o : Nat → Int32) (s : Nat) (g : Nat → Nat) : Prop := ∀ a, a < 8 → o (8 * s + a) = gx_enc g a
def gx_Fr (s : Nat) (o o' : Nat → Int32) : Prop := ∀ j, ¬ (8 * s ≤ j ∧ j < 8 * s + 8) → o' j = o j
theorem gx_Fr_rfl (s : Nat) (o : Nat → Int32) : gx_Fr s o o := fun _ _ => rfl
theorem gx_Fr_tr {s : Nat} {o o' o'' : Nat → Int32} (h : gx_Fr s o o') (k : gx_Fr s o' o'') : gx_Fr s o o'' := fun j hj => (k j hj).trans (h j hj)
theorem gx_Fr_Sl {s t : Nat} {o o' : Nat → Int32} {g : Nat → Nat} (h : gx_Fr s o o') (ts : t ≠ s) (H : gx_Sl o t g) : gx_Sl o' t g := fun a ha => (h _ (by omega)).trans (H a ha)
theorem gx_Fr_u {s a : Nat} {o : Nat → Int32} {v : Int32} (ha : a < 8) : gx_Fr s o (upd o (8 * s + a) v) := fun j hj => pk_un (by omega)
theorem gd_tie_a (g : Nat → Nat) (a b : Nat) : gd_tie g a b a = b := if_pos rfl
theorem gd_tie_b (g : Nat → Nat) {a b : Nat} (ab : a ≠ b) : gd_tie g a b b = a := by
  unfold gd_tie
  rw [if_neg (fun e => ab e.symm), if_pos rfl]
theorem gd_tie_x (g : Nat → Nat) {a b x : Nat} (xa : x ≠ a) (xb : x ≠ b) : gd_tie g a b x = g x := by
  unfold gd_tie
  rw [if_neg xa, if_neg xb]
theorem gx_8 : (8 : Int32) = nI 8 := rfl
theorem gx_ix (s a : Nat) : nI s * 8 + nI a = nI (8 * s + a) := by rw [gx_8, pk_mul, nI_add, Nat.mul_comm]
theorem gx_in {s a : Nat} (hs : s < 5) (ha : a < 8) : vp_in (nI s * 8 + nI a) 40 := by rw [gx_ix]; exact vp_in_nI (by omega) (by omega)
theorem gx_cl {s a : Nat} (hs : s < 5) (ha : a < 8) : (nI s * 8 + nI a).toNatClampNeg = 8 * s + a := by rw [gx_ix]; exact nI_clamp (by omega)
theorem gx_m1 : ∀ b, b < 8 → ¬ nI b = -1 := by decide
theorem gx_encL {g : Nat → Nat} {a : Nat} (h : g a = a) : gx_enc g a = -1 := if_pos h
theorem gx_encJ {g : Nat → Nat} {a : Nat} (h : g a ≠ a) : gx_enc g a = nI (g a) := if_neg h
theorem gx_nle8 {i : Nat} (h : i < 8) : ¬ (8 : Int32) ≤ nI i := nI_ge (b := 8) h (by decide)
theorem gx_le8 : (8 : Int32) ≤ nI 8 := nI_le (a := 8) (Nat.le_refl 8) (by decide)
theorem gx_nI1 {i : Nat} : nI i + 1 = nI (i + 1) := nI_1 i
def gj_bad (v : Int32) (n : Nat) : Prop := v < 0 ∨ nI n ≤ v
theorem gj_arg (v : Int32) (n : Nat) (hn : n < 2 ^ 31) : gj_bad v n ∨ ∃ j : Nat, j < n ∧ v = nI j := by
  rcases pk_ix v hn with h | h | h
  · exact Or.inl (Or.inl h)
  · exact Or.inl (Or.inr h)
  · exact Or.inr h
section
variable {fl ff : Int32} {o ge pa fc : Nat → Int32} {s a b c : Nat} {g : Nat → Nat}
theorem gx_bad1 {post : Int32 → Prop} {v : Int32} (h : gj_bad v 3) (hp : post 1) : wpX_bad post (fl, ff, o, ge, pa, fc) v := by
  unfold wpX_bad
  dsimp only
  by_cases h0 : v < 0
  · exact br_t h0 hp
  · have h3 : ¬ v < 3 := Int32.not_lt.mpr (h.resolve_left h0)
    exact br_f h0 (br_f h3 hp)
theorem gx_bad0 {post : Int32 → Prop} (h : s < 3) (hp : post 0) : wpX_bad post (fl, ff, o, ge, pa, fc) (nI s) := by
  unfold wpX_bad
  dsimp only
  have h3 : nI s < 3 := nI_lt (b := 3) h (by decide)
  exact br_f (nI_pos (by omega)) (br_t h3 hp)
theorem gx_be1 {post : Int32 → Prop} {v : Int32} (h : gj_bad v 8) (hp : post 1) : wpX_badEnd post (fl, ff, o, ge, pa, fc) v := by
  unfold wpX_badEnd
  dsimp only
  by_cases h0 : v < 0
  · exact br_t h0 hp
  · have h3 : ¬ v < 8 := Int32.not_lt.mpr (h.resolve_left h0)
    exact br_f h0 (br_f h3 hp)
theorem gx_be0 {post : Int32 → Prop} (h : a < 8) (hp : post 0) : wpX_badEnd post (fl, ff, o, ge, pa, fc) (nI a) := by
  unfold wpX_badEnd
  dsimp only
  have h3 : nI a < 8 := nI_lt (b := 8) h (by decide)
  exact br_f (nI_pos (by omega)) (br_t h3 hp)
theorem gx_loose {post : Int32 → Prop} (hs : s < 5) (ha : a < 8) (hg : gd_Inv g) (H : gx_Sl o s g) (h1 : g a = a → post 1) (h0 : g a ≠ a → post 0) : wpX_loose post (fl, ff, o, ge, pa, fc) (nI s) (nI a) := by
  unfold wpX_loose
  dsimp only
  rw [gx_cl hs ha, H a ha]
  refine ⟨gx_in hs ha, ?_⟩
  by_cases e : g a = a
  · rw [gx_encL e]
    exact br_t rfl (h1 e)
  · rw [gx_encJ e]
    exact br_f (gx_m1 _ (hg a ha).1) (h0 e)
theorem gx_tie {post : SX → Prop} (hs : s < 5) (ha : a < 8) (hb : b < 8) (ab : a ≠ b) (H : gx_Sl o s g) (k : ∀ o', gx_Sl o' s (gd_tie g a b) → gx_Fr s o o' → post (fl, ff, o', ge, pa, fc)) : wpX_tie post (fl, ff, o, ge, pa, fc) (nI s) (nI a) (nI b) := by
  unfold wpX_tie
  dsimp only
  rw [gx_cl hs ha, gx_cl hs hb]
  refine ⟨gx_in hs ha, nm_e ⟨gx_in hs hb, nm_e (k _ ?_ (gx_Fr_tr (gx_Fr_u ha) (gx_Fr_u hb)))⟩⟩
  intro x hx
  by_cases xb : x = b
  · subst xb
    rw [pk_us, gx_encJ (by rw [gd_tie_b g ab]; exact ab), gd_tie_b g ab]
  rw [pk_un (by omega)]
  by_cases xa : x = a
  · subst xa
    rw [pk_us, gx_encJ (by rw [gd_tie_a]; exact fun e => ab e.symm), gd_tie_a]
  rw [pk_un (by omega), H x hx]
  unfold gx_enc
  rw [gd_tie_x g xa xb]
theorem gx_untie {post : SX → Prop} (hs : s < 5) (ha : a < 8) (hg : g a < 8) (ne : g a ≠ a) (H : gx_Sl o s g) (k : ∀ o', gx_Sl o' s (gd_cut g a) → gx_Fr s o o' → post (fl, ff, o', ge, pa, fc)) : wpX_untie post (fl, ff, o, ge, pa, fc) (nI s) (nI a) := by
  unfold wpX_untie
  dsimp only
  rw [gx_cl hs ha]
  have e : o (8 * s + a) = nI (g a) := (H a ha).trans (gx_encJ ne)
  refine ⟨gx_in hs ha, nm_r e ⟨gx_in hs ha, nm_e ⟨gx_in hs hg, ?_⟩⟩⟩
  rw [gx_cl hs hg]
  refine nm_e (k _ ?_ (gx_Fr_tr (gx_Fr_u ha) (gx_Fr_u hg)))
  intro x hx
  by_cases xb : x = g a
  · subst xb
    rw [pk_us, gx_encL (gd_cut_b g a)]
  rw [pk_un (by omega)]
  by_cases xa : x = a
  · subst xa
    rw [pk_us, gx_encL (gd_cut_a g x)]
  rw [pk_un (by omega), H x hx]
  unfold gx_enc
  rw [gd_cut_x xa xb]
theorem gx_exch {post : SX → Prop} (hs : s < 5) (ha : a < 8) (hc : c < 8) (hg : gd_Inv g) (ac : a ≠ c) (ga : g a ≠ a) (gc : g c ≠ c) (H : gx_Sl o s g) (k : ∀ o', gx_Sl o' s (gd_tie (gd_tie g a c) (g a) (g c)) → gx_Fr s o o' → post (fl, ff, o', ge, pa, fc)) : wpX_exchange post (fl, ff, o, ge, pa, fc) (nI s) (nI a) (nI c) := by
  unfold wpX_exchange
  dsimp only
  rw [gx_cl hs ha, gx_cl hs hc]
  have h1 := hg a ha
  have h2 := hg c hc
  have e1 : o (8 * s + a) = nI (g a) := (H a ha).trans (gx_encJ ga)
  have e2 : o (8 * s + c) = nI (g c) := (H c hc).trans (gx_encJ gc)
  refine ⟨gx_in hs ha, nm_r e1 ⟨gx_in hs hc, nm_r e2 ?_⟩⟩
  refine gx_tie hs ha hc ac H fun o1 H1 F1 => ?_
  refine gx_tie hs h1.1 h2.1 (fun e => ac (by rw [← h1.2, e, h2.2])) H1 fun o2 H2 F2 => ?_
  exact k o2 H2 (gx_Fr_tr F1 F2)
theorem gx_copyL {post : SX → Prop} {t : Nat} (hs : s < 5) (ht : t < 5) (H : gx_Sl o s g) (k : ∀ o', gx_Sl o' t g → gx_Fr t o o' → post (fl, ff, o', ge, pa, fc)) : ∀ d i o1, i + d = 8 → (∀ a, a < i → o1 (8 * t + a) = gx_enc g a) → (∀ j, ¬ (8 * t ≤ j ∧ j < 8 * t + i) → o1 j = o j) → wX_copyTo_2 post (nI s) (nI t) fl ff (d + 1) (nI i) o1 ge pa fc
  | 0, i, o1, hi, h1, h2 => by
    have e : i = 8 := by omega
    subst e
    exact br_t gx_le8 (k o1 h1 h2)
  | d + 1, i, o1, hi, h1, h2 => by
    have i8 : i < 8 := by omega
    refine br_f (gx_nle8 i8) ⟨gx_in hs i8, gx_in ht i8, nm_e (nm_r gx_nI1 ?_)⟩
    rw [gx_cl hs i8, gx_cl ht i8]
    refine gx_copyL hs ht H k d (i + 1) _ (by omega) ?_ ?_
    · intro a ha
      by_cases e : a = i
      · subst e
        rw [pk_us, h2 _ (by omega)]
        exact H a i8
      · rw [pk_un (by omega)]
        exact h1 a (by omega)
    · intro j hj
      rw [pk_un (by omega)]
      exact h2 j (by omega)
theorem gx_copyTo {post : SX → Prop} {t : Nat} (hs : s < 5) (ht : t < 5) (H : gx_Sl o s g) (k : ∀ o', gx_Sl o' t g → gx_Fr t o o' → post (fl, ff, o', ge, pa, fc)) : wpX_copyTo post (fl, ff, o, ge, pa, fc) (nI s) (nI t) := by
  unfold wpX_copyTo
  dsimp only
  exact ⟨8 + 1, gx_copyL hs ht H k 8 0 o rfl (fun a ha => absurd ha (Nat.not_lt_zero a)) (fun j _ => rfl)⟩
def gj_nl (g : Nat → Nat) : Nat → Nat
  | 0 => 0
  | i + 1 => if g i = i then gj_nl g i else gj_nl g i + 1
def gj_up (g : Nat → Nat) : Nat → Nat
  | 0 => 0
  | i + 1 => if g i ≤ i then gj_up g i else gj_up g i + 1
theorem gj_nl_cg {g h : Nat → Nat} : ∀ k, (∀ a, a < k → g a = h a) → gj_nl g k = gj_nl h k
  | 0, _ => rfl
  | k + 1, e => by
    rw [gj_nl, gj_nl, gj_nl_cg k (fun a ha => e a (by omega)), e k (by omega)]
theorem gj_up_cg {g h : Nat → Nat} : ∀ k, (∀ a, a < k → g a = h a) → gj_up g k = gj_up h k
  | 0, _ => rfl
  | k + 1, e => by
    rw [gj_up, gj_up, gj_up_cg k (fun a ha => e a (by omega)), e k (by omega)]
theorem gj_nl_le (g : Nat → Nat) : ∀ i, gj_nl g i ≤ i
  | 0 => Nat.le_refl 0
  | i + 1 => by
    have := gj_nl_le g i
    rw [gj_nl]
    split <;> omega
theorem gj_up_le (g : Nat → Nat) : ∀ i, gj_up g i ≤ i
  | 0 => Nat.le_refl 0
  | i + 1 => by
    have := gj_up_le g i
    rw [gj_up]
    split <;> omega
theorem gj_ju : gs_tst (fun l => Nat.beq (gj_nl (gs_of l) 8 / 2) (gj_up (gs_of l) 8)) 8 0 [] = true := by decide +kernel
theorem gj_nl_up {g : Nat → Nat} (hg : gd_Inv g) : gj_nl g 8 / 2 = gj_up g 8 := by
  have h := Nat.eq_of_beq_eq_true (gs_all gj_ju hg)
  rwa [gj_nl_cg (h := g) 8 (fun a ha => gs_of_rev ha), gj_up_cg (h := g) 8 (fun a ha => gs_of_rev ha)] at h
theorem gx_jointsL {post : Int32 → Prop} (hs : s < 5) (hg : gd_Inv g) (H : gx_Sl o s g) (hp : post (nI (gj_up g 8))) : ∀ d i, i + d = 8 → wX_jointsOf_4 post (nI s) fl ff o ge pa fc (d + 1) (nI (gj_nl g i)) (nI i)
  | 0, i, hi => by
    have e : i = 8 := by omega
    subst e
    have e2 : nI (gj_nl g 8) / 2 = nI (gj_nl g 8 / 2) := pk_div (d := 2) (by have := gj_nl_le g 8; omega) (by decide) (by decide)
    refine br_t gx_le8 ⟨by decide, ?_⟩
    rw [e2, gj_nl_up hg]
    exact hp
  | d + 1, i, hi => by
    have i8 : i < 8 := by omega
    have ih := gx_jointsL hs hg H hp d (i + 1) (by omega)
    rw [gj_nl] at ih
    refine br_f (gx_nle8 i8) (gx_loose hs i8 hg H (fun e => ?_) (fun e => ?_))
    · rw [if_pos e] at ih
      exact br_f (by decide) (nm_r gx_nI1 ih)
    · rw [if_neg e] at ih
      exact br_t rfl (nm_r gx_nI1 (nm_r gx_nI1 ih))
theorem gx_joints {post : Int32 → Prop} (hs : s < 5) (hg : gd_Inv g) (H : gx_Sl o s g) (hp : post (nI (gj_up g 8))) : wpX_jointsOf post (fl, ff, o, ge, pa, fc) (nI s) := by
  unfold wpX_jointsOf
  dsimp only
  exact ⟨8 + 1, gx_jointsL hs hg H hp 8 0 rfl⟩
end
end
section
/-! slots of the reference; its small methods -/
def gy_Sl (p : Nat → Int32) (s : Nat) (g : Nat → Nat) : Prop := ∀ a, a < 8 → p (8 * s + a) = nI (g a)
theorem gy_Fr_Sl {s t : Nat} {o o' : Nat → Int32} {g : Nat → Nat} (h : gx_Fr s o o') (ts : t ≠ s) (H : gy_Sl o t g) : gy_Sl o' t g := fun a ha => (h _ (by omega)).trans (H a ha)
theorem gy_ix (s a : Nat) : 8 * nI s + nI a = nI (8 * s + a) := by rw [gx_8, pk_mul, nI_add]
theorem gy_in {s a : Nat} (hs : s < 5) (ha : a < 8) : vp_in (8 * nI s + nI a) 40 := by rw [gy_ix]; exact vp_in_nI (by omega) (by omega)
theorem gy_cl {s a : Nat} (hs : s < 5) (ha : a < 8) : (8 * nI s + nI a).toNatClampNeg = 8 * s + a := by rw [gy_ix]; exact nI_clamp (by omega)
theorem gy_eq8 {a b : Nat} (ha : a < 8) (hb : b < 8) : nI a = nI b ↔ a = b := nI_eq (by omega) (by omega)
theorem gy_le8 {a b : Nat} (ha : a < 8) (hb : b < 8) : nI a ≤ nI b ↔ a ≤ b := nI_leI (by omega) (by omega)
section
variable {p se nu : Nat → Int32} {s a b c : Nat} {g : Nat → Nat}
theorem gy_slot0 {post : Int32 → Prop} {v : Int32} (h : gj_bad v 3) (hp : post 0) : wpY_isSlot post (p, se, nu) v := by
  unfold wpY_isSlot
  dsimp only
  by_cases h0 : v < 0
  · exact br_t h0 hp
  · have h3 : 2 < v := Int32.lt_of_lt_of_le (b := nI 3) (by decide) (h.resolve_left h0)
    exact br_f h0 (br_t h3 hp)
theorem gy_slot1 {post : Int32 → Prop} (h : s < 3) (hp : post 1) : wpY_isSlot post (p, se, nu) (nI s) := by
  unfold wpY_isSlot
  dsimp only
  have h3 : ¬ 2 < nI s := nI_nlt (a := 2) (by omega) (by decide)
  exact br_f (nI_pos (by omega)) (br_f h3 hp)
theorem gy_end0 {post : Int32 → Prop} {v : Int32} (h : gj_bad v 8) (hp : post 0) : wpY_isEnd post (p, se, nu) v := by
  unfold wpY_isEnd
  dsimp only
  by_cases h0 : v < 0
  · exact br_t h0 hp
  · have h3 : 7 < v := Int32.lt_of_lt_of_le (b := nI 8) (by decide) (h.resolve_left h0)
    exact br_f h0 (br_t h3 hp)
theorem gy_end1 {post : Int32 → Prop} (h : a < 8) (hp : post 1) : wpY_isEnd post (p, se, nu) (nI a) := by
  unfold wpY_isEnd
  dsimp only
  have h3 : ¬ 7 < nI a := nI_nlt (a := 7) (by omega) (by decide)
  exact br_f (nI_pos (by omega)) (br_f h3 hp)
theorem gy_loose {post : Int32 → Prop} (hs : s < 5) (ha : a < 8) (hg : gd_Inv g) (H : gy_Sl p s g) (h1 : g a = a → post 1) (h0 : g a ≠ a → post 0) : wpY_isLoose post (p, se, nu) (nI s) (nI a) := by
  unfold wpY_isLoose
  dsimp only
  rw [gy_cl hs ha, H a ha, gy_eq8 (hg a ha).1 ha]
  exact ⟨gy_in hs ha, br_c h1 h0⟩
theorem gy_link {post : SY → Prop} (hs : s < 5) (ha : a < 8) (hb : b < 8) (ab : a ≠ b) (H : gy_Sl p s g) (k : ∀ p', gy_Sl p' s (gd_tie g a b) → gx_Fr s p p' → post (p', se, nu)) : wpY_link post (p, se, nu) (nI s) (nI a) (nI b) := by
  unfold wpY_link
  dsimp only
  rw [gy_cl hs ha, gy_cl hs hb]
  refine ⟨gy_in hs ha, nm_e ⟨gy_in hs hb, nm_e (k _ ?_ (gx_Fr_tr (gx_Fr_u ha) (gx_Fr_u hb)))⟩⟩
  intro x hx
  by_cases xb : x = b
  · subst xb
    rw [pk_us, gd_tie_b g ab]
  rw [pk_un (by omega)]
  by_cases xa : x = a
  · subst xa
    rw [pk_us, gd_tie_a]
  rw [pk_un (by omega), H x hx, gd_tie_x g xa xb]
theorem gy_unlink {post : SY → Prop} (hs : s < 5) (ha : a < 8) (hg : g a < 8) (H : gy_Sl p s g) (k : ∀ p', gy_Sl p' s (gd_cut g a) → gx_Fr s p p' → post (p', se, nu)) : wpY_unlink post (p, se, nu) (nI s) (nI a) := by
  unfold wpY_unlink
  dsimp only
  rw [gy_cl hs ha]
  refine ⟨gy_in hs ha, nm_r (H a ha) ⟨gy_in hs ha, nm_e ⟨gy_in hs hg, ?_⟩⟩⟩
  rw [gy_cl hs hg]
  refine nm_e (k _ ?_ (gx_Fr_tr (gx_Fr_u ha) (gx_Fr_u hg)))
  intro x hx
  by_cases xb : x = g a
  · subst xb
    rw [pk_us, gd_cut_b]
  rw [pk_un (by omega)]
  by_cases xa : x = a
  · subst xa
    rw [pk_us, gd_cut_a]
  rw [pk_un (by omega), H x hx, gd_cut_x xa xb]
theorem gy_exch {post : SY → Prop} (hs : s < 5) (ha : a < 8) (hc : c < 8) (hg : gd_Inv g) (ac : a ≠ c) (H : gy_Sl p s g) (k : ∀ p', gy_Sl p' s (gd_tie (gd_tie g a c) (g a) (g c)) → gx_Fr s p p' → post (p', se, nu)) : wpY_exchange post (p, se, nu) (nI s) (nI a) (nI c) := by
  unfold wpY_exchange
  dsimp only
  rw [gy_cl hs ha, gy_cl hs hc]
  have h1 := hg a ha
  have h2 := hg c hc
  refine ⟨gy_in hs ha, nm_r (H a ha) ⟨gy_in hs hc, nm_r (H c hc) ?_⟩⟩
  refine gy_link hs ha hc ac H fun o1 H1 F1 => ?_
  refine gy_link hs h1.1 h2.1 (fun e => ac (by rw [← h1.2, e, h2.2])) H1 fun o2 H2 F2 => ?_
  exact k o2 H2 (gx_Fr_tr F1 F2)
theorem gy_copyL {post : SY → Prop} {t : Nat} (hs : s < 5) (ht : t < 5) (H : gy_Sl p s g) (k : ∀ p', gy_Sl p' t g → gx_Fr t p p' → post (p', se, nu)) : ∀ d i o1, i + d = 8 → (∀ a, a < i → o1 (8 * t + a) = nI (g a)) → (∀ j, ¬ (8 * t ≤ j ∧ j < 8 * t + i) → o1 j = p j) → wY_copyTo_2 post (nI s) (nI t) (d + 1) (nI i) o1 se nu
  | 0, i, o1, hi, h1, h2 => by
    have e : i = 8 := by omega
    subst e
    exact br_t gx_le8 (k o1 h1 h2)
  | d + 1, i, o1, hi, h1, h2 => by
    have i8 : i < 8 := by omega
    refine br_f (gx_nle8 i8) ⟨gy_in hs i8, gy_in ht i8, nm_e (nm_r gx_nI1 ?_)⟩
    rw [gy_cl hs i8, gy_cl ht i8]
    refine gy_copyL hs ht H k d (i + 1) _ (by omega) ?_ ?_
    · intro a ha
      by_cases e : a = i
      · subst e
        rw [pk_us, h2 _ (by omega)]
        exact H a i8
      · rw [pk_un (by omega)]
        exact h1 a (by omega)
    · intro j hj
      rw [pk_un (by omega)]
      exact h2 j (by omega)
theorem gy_copyTo {post : SY → Prop} {t : Nat} (hs : s < 5) (ht : t < 5) (H : gy_Sl p s g) (k : ∀ p', gy_Sl p' t g → gx_Fr t p p' → post (p', se, nu)) : wpY_copyTo post (p, se, nu) (nI s) (nI t) := by
  unfold wpY_copyTo
  dsimp only
  exact ⟨8 + 1, gy_copyL hs ht H k 8 0 p rfl (fun a ha => absurd ha (Nat.not_lt_zero a)) (fun j _ => rfl)⟩
theorem gy_countL {post : Int32 → Prop} (hs : s < 5) (hg : gd_Inv g) (H : gy_Sl p s g) (hp : post (nI (gj_up g 8))) : ∀ d i, i + d = 8 → wY_count_4 post (nI s) p se nu (d + 1) (nI (gj_up g i)) (nI i)
  | 0, i, hi => by
    have e : i = 8 := by omega
    subst e
    exact br_t gx_le8 hp
  | d + 1, i, hi => by
    have i8 : i < 8 := by omega
    have ih := gy_countL hs hg H hp d (i + 1) (by omega)
    rw [gj_up] at ih
    refine br_f (gx_nle8 i8) ⟨gy_in hs i8, ?_⟩
    rw [gy_cl hs i8, H i i8, gy_le8 (hg i i8).1 i8]
    refine br_c (fun e => ?_) (fun e => ?_)
    · rw [if_pos e] at ih
      exact nm_r gx_nI1 ih
    · rw [if_neg e] at ih
      exact nm_r gx_nI1 (nm_r gx_nI1 ih)
theorem gy_count {post : Int32 → Prop} (hs : s < 5) (hg : gd_Inv g) (H : gy_Sl p s g) (hp : post (nI (gj_up g 8))) : wpY_count post (p, se, nu) (nI s) := by
  unfold wpY_count
  dsimp only
  exact ⟨8 + 1, gy_countL hs hg H hp 8 0 rfl⟩
/-- the step that makes the joint of a and b -/
theorem gy_make {post : SY → Prop} (hs : s < 5) (ha : a < 8) (hb : b < 8) (ab : a ≠ b) (hg : gd_Inv g) (H : gy_Sl p s g) (k : ∀ p', gy_Sl p' s (gd_mk g a b) → gx_Fr s p p' → post (p', se, nu)) : wpY_make post (p, se, nu) (nI s) (nI a) (nI b) := by
  have h1 := hg a ha
  have h2 := hg b hb
  unfold wpY_make
  dsimp only
  unfold gd_mk at k
  refine gy_loose hs ha hg H (fun ga => br_f (by decide) ?_) (fun ga => br_t rfl ?_)
  · rw [if_pos ga] at k
    refine gy_loose hs hb hg H (fun gb => br_f (by decide) ?_) (fun gb => br_t rfl ?_)
    · rw [if_pos gb] at k
      exact gy_link hs ha hb ab H k
    · rw [if_neg gb] at k
      unfold wY_make_28
      refine gy_loose hs ha hg H (fun _ => br_f (by decide) ?_) (fun ga' => absurd ga ga')
      refine gy_unlink hs hb h2.1 H fun p1 H1 F1 => ?_
      exact gy_link hs ha hb ab H1 fun p2 H2 F2 => k p2 H2 (gx_Fr_tr F1 F2)
  · rw [if_neg ga] at k
    unfold wY_make_28
    refine gy_loose hs ha hg H (fun ga' => absurd ga' ga) (fun _ => br_t rfl ?_)
    refine gy_loose hs hb hg H (fun gb => br_f (by decide) ?_) (fun gb => br_t rfl ?_)
    · rw [if_pos gb] at k
      refine gy_unlink hs ha h1.1 H fun p1 H1 F1 => ?_
      exact gy_link hs ha hb ab H1 fun p2 H2 F2 => k p2 H2 (gx_Fr_tr F1 F2)
    · rw [if_neg gb] at k
      exact gy_exch hs ha hb hg ab H k
end
end
section
/-! the component's walk along joints of two genomes in turn -/
def gx_G (u w : Nat → Nat) : Bool → Nat → Nat
  | true => u
  | false => w
def gx_b : Bool → Int32
  | true => 1
  | false => 0
theorem gx_G_inv {u w : Nat → Nat} (hu : gd_Inv u) (hw : gd_Inv w) : ∀ q, gd_Inv (gx_G u w q)
  | true => hu
  | false => hw
theorem gx_G_Cn {u w : Nat → Nat} (hu : gd_Inv u) (hw : gd_Inv w) {x : Nat} (hx : x < 8) : ∀ q, gd_Cn u w x (gx_G u w q x)
  | true => gd_Cn_s hu hx
  | false => gd_Cn_r hw hx
theorem gx_bool (q f : Bool) : q = f ∨ q = !f := by cases q <;> cases f <;> decide
def gx_Wk (u w : Nat → Nat) (f : Bool) (fr : Nat) (V : List Nat) (cur : Nat) (q : Bool) : Prop :=
  V.Nodup ∧ (∀ x, x ∈ V → x < 8 ∧ gd_Cn u w fr x) ∧ fr ∈ V ∧ cur ∈ V ∧ (cur = fr → q = f) ∧
  (∀ x, x ∈ V → ∀ t : Bool, ¬ (x = cur ∧ t = q) → ¬ (x = fr ∧ t = !f) →
    gx_G u w t x ∈ V ∧ gx_G u w t x ≠ x ∧ ¬ (gx_G u w t x = cur ∧ t = q) ∧ ¬ (gx_G u w t x = fr ∧ t = !f))
theorem gx_Wk0 {u w : Nat → Nat} {f : Bool} {fr : Nat} (hf : fr < 8) : gx_Wk u w f fr [fr] fr f := by
  refine ⟨List.nodup_cons.mpr ⟨List.not_mem_nil, List.nodup_nil⟩, ?_, List.mem_cons_self .., List.mem_cons_self .., fun _ => rfl, ?_⟩
  · intro x hx
    have e := List.mem_singleton.mp hx
    subst e
    exact ⟨hf, gd_Cn_rfl _⟩
  · intro x hx t h1 h2
    have e := List.mem_singleton.mp hx
    subst e
    exfalso
    rcases gx_bool t f with e | e
    · exact h1 ⟨rfl, e⟩
    · exact h2 ⟨rfl, e⟩
theorem gx_Wk_len {u w : Nat → Nat} {f q : Bool} {fr cur : Nat} {V : List Nat} (W : gx_Wk u w f fr V cur q) : V.length ≤ 8 := by
  have h := W.1.length_le_of_subset (l₂ := List.range 8) (fun x hx => List.mem_range.mpr (W.2.1 x hx).1)
  rwa [List.length_range] at h
theorem gx_Wk_s {u w : Nat → Nat} (hu : gd_Inv u) (hw : gd_Inv w) {f q : Bool} {fr cur : Nat} {V : List Nat} (W : gx_Wk u w f fr V cur q) (n1 : gx_G u w q cur ≠ cur) (n2 : gx_G u w q cur ≠ fr) : gx_G u w q cur ∉ V ∧ gx_Wk u w f fr (gx_G u w q cur :: V) (gx_G u w q cur) (!q) := by
  obtain ⟨nd, hV, hfr, hcur, hcf, hsl⟩ := W
  have c8 := (hV cur hcur).1
  have gi := gx_G_inv hu hw q cur c8
  have nV : gx_G u w q cur ∉ V := by
    intro hb
    have h := hsl _ hb q (fun k => n1 k.1) (fun k => n2 k.1)
    exact h.2.2.1 ⟨gi.2, rfl⟩
  refine ⟨nV, List.nodup_cons.mpr ⟨nV, nd⟩, ?_, List.mem_cons_of_mem _ hfr, List.mem_cons_self .., fun k => absurd k n2, ?_⟩
  · intro x hx
    rcases List.mem_cons.mp hx with e | e
    · subst e
      exact ⟨gi.1, gd_Cn_tr (hV cur hcur).2 (gx_G_Cn hu hw c8 q)⟩
    · exact hV x e
  · intro x hx t h1 h2
    rcases List.mem_cons.mp hx with e | e
    · subst e
      have et : t = q := by
        rcases gx_bool t q with k | k
        · exact k
        · exact absurd ⟨rfl, k⟩ h1
      subst et
      rw [gi.2]
      refine ⟨List.mem_cons_of_mem _ hcur, fun k => n1 k.symm, fun k => n1 k.1.symm, fun k => ?_⟩
      have k1 := hcf k.1
      have k2 := k.2
      rw [k1] at k2
      cases f <;> cases k2
    · by_cases hc : x = cur ∧ t = q
      · obtain ⟨e1, e2⟩ := hc
        subst e1 e2
        refine ⟨List.mem_cons_self .., n1, fun k => ?_, fun k => n2 k.1⟩
        have k2 := k.2
        cases t <;> cases k2
      · have h := hsl x e t hc h2
        refine ⟨List.mem_cons_of_mem _ h.1, h.2.1, fun k => ?_, h.2.2.2⟩
        exact nV (by rw [← k.1]; exact h.1)
theorem gx_cls {u w : Nat → Nat} {fr : Nat} {V : List Nat} (hV : ∀ x, x ∈ V → x < 8 ∧ gd_Cn u w fr x) (hfr : fr ∈ V) (cl : ∀ x, x ∈ V → ∀ t : Bool, gx_G u w t x ∈ V) (x : Nat) : gd_Cn u w fr x ↔ x ∈ V := by
  refine ⟨fun c => ?_, fun h => (hV x h).2⟩
  have h : gd_Cl u w (fun z => z ∈ V) := fun z _ k => ⟨cl z k true, cl z k false⟩
  exact (c _ h).mp hfr
theorem gx_Wk_e1 {u w : Nat → Nat} {f q : Bool} {fr cur : Nat} {V : List Nat} (W : gx_Wk u w f fr V cur q) (e1 : gx_G u w q cur = cur) (e2 : gx_G u w (!f) fr = fr) : (∀ x, gd_Cn u w fr x ↔ x ∈ V) ∧ (gd_Ev u w fr ↔ q = f) := by
  obtain ⟨nd, hV, hfr, hcur, hcf, hsl⟩ := W
  have cl : ∀ x, x ∈ V → ∀ t : Bool, gx_G u w t x ∈ V := by
    intro x hx t
    by_cases h1 : x = cur ∧ t = q
    · obtain ⟨k1, k2⟩ := h1
      subst k1 k2
      rw [e1]
      exact hx
    by_cases h2 : x = fr ∧ t = !f
    · obtain ⟨k1, k2⟩ := h2
      subst k1 k2
      rw [e2]
      exact hx
    exact (hsl x hx t h1 h2).1
  have cls := gx_cls hV hfr cl
  refine ⟨cls, ?_⟩
  have lo : ∀ t, (∃ y, y < 8 ∧ gd_Cn u w fr y ∧ gx_G u w t y = y) ↔ (t = q ∨ t = !f) := by
    intro t
    constructor
    · rintro ⟨y, hy, c, e⟩
      have hm := (cls y).mp c
      by_cases h1 : y = cur ∧ t = q
      · exact Or.inl h1.2
      by_cases h2 : y = fr ∧ t = !f
      · exact Or.inr h2.2
      exact absurd e (hsl y hm t h1 h2).2.1
    · rintro (k | k)
      · exact ⟨cur, (hV cur hcur).1, (hV cur hcur).2, by rw [k]; exact e1⟩
      · exact ⟨fr, (hV fr hfr).1, (hV fr hfr).2, by rw [k]; exact e2⟩
  have hS := lo true
  have hR := lo false
  have hS' : gd_SL u w fr ↔ (true = q ∨ true = !f) := hS
  have hR' : gd_RL u w fr ↔ (false = q ∨ false = !f) := hR
  unfold gd_Ev
  rw [hS', hR']
  cases q <;> cases f <;> decide
theorem gx_Wk_e2 {u w : Nat → Nat} (hu : gd_Inv u) (hw : gd_Inv w) {f q : Bool} {fr cur : Nat} {V : List Nat} (W : gx_Wk u w f fr V cur q) (n1 : gx_G u w q cur ≠ cur) (e1 : gx_G u w q cur = fr) : gx_G u w (!f) fr ≠ fr ∧ (∀ x, gd_Cn u w fr x ↔ x ∈ V) := by
  obtain ⟨nd, hV, hfr, hcur, hcf, hsl⟩ := W
  have c8 := (hV cur hcur).1
  have gi := gx_G_inv hu hw q cur c8
  rw [e1] at gi
  have nc : fr ≠ cur := fun k => n1 (by rw [e1, k])
  have qf : q = !f := by
    rcases gx_bool q f with k | k
    · exfalso
      have k2 : ¬ (fr = fr ∧ q = !f) := by
        rintro ⟨_, h⟩
        rw [k] at h
        cases f <;> cases h
      have h := hsl fr hfr q (fun z => nc z.1) k2
      exact h.2.2.1 ⟨gi.2, rfl⟩
    · exact k
  have e2 : gx_G u w (!f) fr = cur := by rw [← qf]; exact gi.2
  refine ⟨by rw [e2]; exact fun k => nc k.symm, gx_cls hV hfr ?_⟩
  intro x hx t
  by_cases h1 : x = cur ∧ t = q
  · obtain ⟨k1, k2⟩ := h1
    subst k1 k2
    rw [e1]
    exact hfr
  by_cases h2 : x = fr ∧ t = !f
  · obtain ⟨k1, k2⟩ := h2
    subst k1 k2
    rw [e2]
    exact hcur
  exact (hsl x hx t h1 h2).1
/-- the flags of the ends passed -/
def gx_PB (p : Nat → Int32) (S : Nat → Prop) : Prop := ∀ x, x < 8 → (S x → p x = 1) ∧ (¬ S x → p x = 0)
theorem gx_PB_cg {p : Nat → Int32} {S T : Nat → Prop} (h : gx_PB p S) (e : ∀ x, x < 8 → (S x ↔ T x)) : gx_PB p T := fun x hx => ⟨fun k => (h x hx).1 ((e x hx).mpr k), fun k => (h x hx).2 fun z => k ((e x hx).mp z)⟩
theorem gx_PB_u {p : Nat → Int32} {S : Nat → Prop} {b : Nat} (h : gx_PB p S) : gx_PB (upd p b 1) (fun x => S x ∨ x = b) := by
  intro x hx
  by_cases e : x = b
  · subst e
    exact ⟨fun _ => pk_us, fun k => absurd (Or.inr rfl) k⟩
  · rw [pk_un e]
    exact ⟨fun k => (h x hx).1 (k.resolve_right e), fun k => (h x hx).2 fun z => k (Or.inl z)⟩
theorem gx_nb1 : vp_nar .boolean 1 = 1 := rfl
theorem gx_nb0 : vp_nar .boolean 0 = 0 := rfl
section
variable {fl ff : Int32} {o ge pa fc : Nat → Int32} {s r fr : Nat} {u w : Nat → Nat} {f : Bool} {S : Nat → Prop}
theorem gx_str60 {post : Int32 → SX → Prop} {J : Int32 → Int32 → Int32 → Int32 → (Nat → Int32) → (Nat → Int32) → (Nat → Int32) → (Nat → Int32) → Prop} {x1 x2 : Int32} {h : Nat → Nat} {cur n : Nat} {q : Bool} (hb : h cur < 8) (hf : fr < 8)
    (h1 : h cur = cur → post (nI n) (fl, ff, o, ge, pa, fc))
    (h2 : h cur ≠ cur → h cur = fr → post (nI (n + 1)) (fl, ff, o, ge, pa, fc))
    (h3 : h cur ≠ cur → h cur ≠ fr → J (nI (h cur)) (gx_b (!q)) (nI (n + 1)) (nI (n + 1)) o ge (upd pa (h cur) 1) fc) :
    wX_string_60 post J x1 x2 (nI fr) (gx_b q) (nI n) (nI n) (gx_enc h cur) fl ff o ge pa fc := by
  unfold wX_string_60
  by_cases e : h cur = cur
  · rw [gx_encL e]
    refine br_t rfl ?_
    unfold wX_string_74
    exact br_t rfl (h1 e)
  · rw [gx_encJ e]
    have nm := gx_m1 _ hb
    refine br_f nm ?_
    rw [gy_eq8 hb hf]
    refine br_c (fun e2 => ?_) (fun e2 => ?_)
    · unfold wX_string_74
      refine br_f nm ?_
      rw [gx_nI1]
      exact h2 e e2
    · refine ⟨vp_in_nI hb (by decide), ?_⟩
      rw [nI_clamp (by omega), gx_nb1]
      refine nm_e (nm_r gx_nI1 ?_)
      have h4 := h3 e e2
      cases q
      · exact br_t rfl (nm_r gx_nI1 h4)
      · exact br_f (by decide) (nm_r gx_nI1 h4)
theorem gx_strL {post : Int32 → SX → Prop} (hs : s < 5) (hr : r < 5) (hu : gd_Inv u) (hw : gd_Inv w) (Hu : gx_Sl o s u) (Hw : gx_Sl o r w) (hf : fr < 8)
    (hT : gx_G u w (!f) fr = fr ∨ gd_Rg u w fr)
    (K : ∀ n p', n < 16 → gx_PB p' (fun x => S x ∨ gd_Cn u w fr x) → (gx_G u w (!f) fr = fr → (n % 2 = 0 ↔ gd_Ev u w fr)) → post (nI n) (fl, ff, o, ge, p', fc)) :
    ∀ m V cur q n p, gx_Wk u w f fr V cur q → V.length + m = 9 → n + 1 = V.length → (q = f ↔ n % 2 = 0) → gx_PB p (fun x => S x ∨ x ∈ V) → wX_string_21 post (nI s) (nI r) (nI fr) fl ff m (nI cur) (gx_b q) (nI n) (nI n) o ge p fc
  | 0, V, cur, q, n, p, W, hm, hn, hq, hp => by
    have := gx_Wk_len W
    omega
  | m + 1, V, cur, q, n, p, W, hm, hn, hq, hp => by
    have l8 := gx_Wk_len W
    have c8 := (W.2.1 cur W.2.2.2.1).1
    have gi := gx_G_inv hu hw q cur c8
    have n16 : ¬ (16 : Int32) ≤ nI n := nI_ge (b := 16) (by omega) (by decide)
    have body : wX_string_60 post (wX_string_21 post (nI s) (nI r) (nI fr) fl ff m) (nI s) (nI r) (nI fr) (gx_b q) (nI n) (nI n) (gx_enc (gx_G u w q) cur) fl ff o ge p fc := by
      refine gx_str60 gi.1 hf (fun e => ?_) (fun e e2 => ?_) (fun e e2 => ?_)
      · have e0 : gx_G u w (!f) fr = fr := by
          rcases hT with k | k
          · exact k
          · exfalso
            have c := (W.2.1 cur W.2.2.2.1).2
            cases q
            · exact k.2 ⟨cur, c8, c, e⟩
            · exact k.1 ⟨cur, c8, c, e⟩
        obtain ⟨k1, k2⟩ := gx_Wk_e1 W e e0
        exact K n p (by omega) (gx_PB_cg hp fun x _ => or_congr Iff.rfl (k1 x).symm) fun _ => by rw [k2, hq]
      · obtain ⟨k1, k2⟩ := gx_Wk_e2 hu hw W e e2
        exact K (n + 1) p (by omega) (gx_PB_cg hp fun x _ => or_congr Iff.rfl (k2 x).symm) fun k => absurd k k1
      · obtain ⟨k1, k2⟩ := gx_Wk_s hu hw W e e2
        refine gx_strL hs hr hu hw Hu Hw hf hT K m _ _ _ (n + 1) _ k2 ?_ ?_ ?_ ?_
        · rw [List.length_cons]
          omega
        · rw [List.length_cons]
          omega
        · have hb : ((!q) = f ↔ ¬ q = f) := by cases q <;> cases f <;> decide
          rw [hb, hq]
          omega
        · refine gx_PB_cg (gx_PB_u hp) fun x _ => ?_
          rw [List.mem_cons, or_assoc]
          exact or_congr Iff.rfl or_comm
    refine br_f n16 ?_
    cases q
    · refine br_t rfl ⟨gx_in hr c8, ?_⟩
      rw [gx_cl hr c8, Hw cur c8]
      exact body
    · refine br_f (by decide) ⟨gx_in hs c8, ?_⟩
      rw [gx_cl hs c8, Hu cur c8]
      exact body
theorem gx_string {post : Int32 → SX → Prop} (hs : s < 5) (hr : r < 5) (hu : gd_Inv u) (hw : gd_Inv w) (Hu : gx_Sl o s u) (Hw : gx_Sl o r w) (hf : fr < 8)
    (hT : gx_G u w (!f) fr = fr ∨ gd_Rg u w fr) (hp : gx_PB pa S)
    (K : ∀ n p', n < 16 → gx_PB p' (fun x => S x ∨ gd_Cn u w fr x) → (gx_G u w (!f) fr = fr → (n % 2 = 0 ↔ gd_Ev u w fr)) → post (nI n) (fl, ff, o, ge, p', fc)) :
    wpX_string post (fl, ff, o, ge, pa, fc) (nI s) (nI r) (nI fr) (gx_b f) := by
  unfold wpX_string
  dsimp only
  refine ⟨vp_in_nI hf (by decide), ?_⟩
  rw [nI_clamp (by omega), gx_nb1]
  refine nm_e ⟨8, ?_⟩
  refine gx_strL hs hr hu hw Hu Hw hf hT K 8 [fr] fr f 0 _ (gx_Wk0 hf) rfl rfl ⟨fun _ => rfl, fun _ => rfl⟩ ?_
  refine gx_PB_cg (gx_PB_u hp) fun x _ => ?_
  rw [List.mem_singleton]
theorem gx_clearL {post : SX → Prop} (K : ∀ p', gx_PB p' (fun _ => False) → post (fl, ff, o, ge, p', fc)) : ∀ d i p, i + d = 8 → (∀ x, x < i → p x = 0) → wX_clearPassed_2 post fl ff (d + 1) (nI i) o ge p fc
  | 0, i, p, hi, h => by
    have e : i = 8 := by omega
    subst e
    exact br_t gx_le8 (K p fun x hx => ⟨fun k => k.elim, fun _ => h x hx⟩)
  | d + 1, i, p, hi, h => by
    have i8 : i < 8 := by omega
    refine br_f (gx_nle8 i8) ⟨vp_in_nI i8 (by decide), ?_⟩
    rw [nI_clamp (by omega), gx_nb0]
    refine nm_e (nm_r gx_nI1 ?_)
    refine gx_clearL K d (i + 1) _ (by omega) fun x hx => ?_
    by_cases e : x = i
    · subst e
      exact pk_us
    · rw [pk_un e]
      exact h x (by omega)
theorem gx_clear {post : SX → Prop} (K : ∀ p', gx_PB p' (fun _ => False) → post (fl, ff, o, ge, p', fc)) : wpX_clearPassed post (fl, ff, o, ge, pa, fc) := by
  unfold wpX_clearPassed
  dsimp only
  exact ⟨8 + 1, gx_clearL K 8 0 pa rfl fun x hx => absurd hx (Nat.not_lt_zero x)⟩
end
end
section
/-! the component's distance -/
def gx_Ext (u w : Nat → Nat) (x : Nat) : Prop := u x = x ∨ w x = x
def gx_I1 (u w : Nat → Nat) (i : Nat) (E : List Nat) : Prop :=
  (∀ x, x ∈ E → x < i ∧ gx_Ext u w x ∧ gd_Ev u w x) ∧ E.Pairwise (fun x y => ¬ gd_Cn u w x y) ∧ (∀ b, b < i → gx_Ext u w b → gd_Ev u w b → ∃ y, y ∈ E ∧ gd_Cn u w b y)
def gx_S1 (u w : Nat → Nat) (i x : Nat) : Prop := ∃ b, b < i ∧ gx_Ext u w b ∧ gd_Cn u w b x
def gx_I2 (u w : Nat → Nat) (i : Nat) (R : List Nat) : Prop :=
  (∀ x, x ∈ R → x < i ∧ gd_Rg u w x) ∧ R.Pairwise (fun x y => ¬ gd_Cn u w x y) ∧ (∀ b, b < i → gd_Rg u w b → ∃ y, y ∈ R ∧ gd_Cn u w b y)
def gx_S2 (u w : Nat → Nat) (i x : Nat) : Prop := ¬ gd_Rg u w x ∨ ∃ b, b < i ∧ gd_Cn u w b x
theorem gx_I1_0 {u w : Nat → Nat} : gx_I1 u w 0 [] := ⟨fun x h => absurd h List.not_mem_nil, List.Pairwise.nil, fun b h => absurd h (Nat.not_lt_zero b)⟩
theorem gx_I2_0 {u w : Nat → Nat} : gx_I2 u w 0 [] := ⟨fun x h => absurd h List.not_mem_nil, List.Pairwise.nil, fun b h => absurd h (Nat.not_lt_zero b)⟩
/-- an end that needs no walk: passed already, or joined in both -/
theorem gx_I1_skip {u w : Nat → Nat} {i : Nat} {E : List Nat} (I : gx_I1 u w i E) (h : gx_S1 u w i i ∨ ¬ gx_Ext u w i) : gx_I1 u w (i + 1) E ∧ ∀ x, gx_S1 u w i x ↔ gx_S1 u w (i + 1) x := by
  constructor
  · refine ⟨fun x hx => ⟨by have := (I.1 x hx).1; omega, (I.1 x hx).2⟩, I.2.1, fun b hb ext ev => ?_⟩
    by_cases e : b = i
    · subst e
      rcases h with ⟨c, hc, ec, cn⟩ | h
      · obtain ⟨y, hy, cy⟩ := I.2.2 c hc ec ((gd_Ev_c cn).mpr ev)
        exact ⟨y, hy, gd_Cn_tr (gd_Cn_sym cn) cy⟩
      · exact absurd ext h
    · exact I.2.2 b (by omega) ext ev
  · intro x
    constructor
    · rintro ⟨b, hb, eb, cb⟩
      exact ⟨b, by omega, eb, cb⟩
    · rintro ⟨b, hb, eb, cb⟩
      by_cases e : b = i
      · subst e
        rcases h with ⟨c, hc, ec, cn⟩ | h
        · exact ⟨c, hc, ec, gd_Cn_tr cn cb⟩
        · exact absurd eb h
      · exact ⟨b, by omega, eb, cb⟩
theorem gx_I1_go {u w : Nat → Nat} {i : Nat} {E : List Nat} (I : gx_I1 u w i E) (h : ¬ gx_S1 u w i i) (ext : gx_Ext u w i) : (gd_Ev u w i → gx_I1 u w (i + 1) (i :: E)) ∧ (¬ gd_Ev u w i → gx_I1 u w (i + 1) E) ∧ ∀ x, (gx_S1 u w i x ∨ gd_Cn u w i x) ↔ gx_S1 u w (i + 1) x := by
  refine ⟨fun ev => ⟨?_, ?_, ?_⟩, fun ev => ⟨?_, I.2.1, ?_⟩, ?_⟩
  · intro x hx
    rcases List.mem_cons.mp hx with e | e
    · subst e
      exact ⟨by omega, ext, ev⟩
    · exact ⟨by have := (I.1 x e).1; omega, (I.1 x e).2⟩
  · refine List.pairwise_cons.mpr ⟨fun y hy c => h ⟨y, (I.1 y hy).1, (I.1 y hy).2.1, gd_Cn_sym c⟩, I.2.1⟩
  · intro b hb eb vb
    by_cases e : b = i
    · subst e
      exact ⟨b, List.mem_cons_self .., gd_Cn_rfl _⟩
    · obtain ⟨y, hy, c⟩ := I.2.2 b (by omega) eb vb
      exact ⟨y, List.mem_cons_of_mem _ hy, c⟩
  · exact fun x hx => ⟨by have := (I.1 x hx).1; omega, (I.1 x hx).2⟩
  · intro b hb eb vb
    by_cases e : b = i
    · subst e
      exact absurd vb ev
    · exact I.2.2 b (by omega) eb vb
  · intro x
    constructor
    · rintro (⟨b, hb, eb, cb⟩ | c)
      · exact ⟨b, by omega, eb, cb⟩
      · exact ⟨i, by omega, ext, c⟩
    · rintro ⟨b, hb, eb, cb⟩
      by_cases e : b = i
      · subst e
        exact Or.inr cb
      · exact Or.inl ⟨b, by omega, eb, cb⟩
theorem gx_I2_skip {u w : Nat → Nat} {i : Nat} {R : List Nat} (I : gx_I2 u w i R) (h : gx_S2 u w i i) : gx_I2 u w (i + 1) R ∧ ∀ x, gx_S2 u w i x ↔ gx_S2 u w (i + 1) x := by
  constructor
  · refine ⟨fun x hx => ⟨by have := (I.1 x hx).1; omega, (I.1 x hx).2⟩, I.2.1, fun b hb rg => ?_⟩
    by_cases e : b = i
    · subst e
      rcases h with h | ⟨c, hc, cn⟩
      · exact absurd rg h
      · obtain ⟨y, hy, cy⟩ := I.2.2 c hc ((gd_Rg_c cn).mpr rg)
        exact ⟨y, hy, gd_Cn_tr (gd_Cn_sym cn) cy⟩
    · exact I.2.2 b (by omega) rg
  · intro x
    constructor
    · rintro (k | ⟨b, hb, cb⟩)
      · exact Or.inl k
      · exact Or.inr ⟨b, by omega, cb⟩
    · rintro (k | ⟨b, hb, cb⟩)
      · exact Or.inl k
      · by_cases e : b = i
        · subst e
          rcases h with h | ⟨c, hc, cn⟩
          · exact Or.inl fun z => h ((gd_Rg_c cb).mpr z)
          · exact Or.inr ⟨c, hc, gd_Cn_tr cn cb⟩
        · exact Or.inr ⟨b, by omega, cb⟩
theorem gx_I2_go {u w : Nat → Nat} {i : Nat} {R : List Nat} (I : gx_I2 u w i R) (h : ¬ gx_S2 u w i i) : gd_Rg u w i ∧ gx_I2 u w (i + 1) (i :: R) ∧ ∀ x, (gx_S2 u w i x ∨ gd_Cn u w i x) ↔ gx_S2 u w (i + 1) x := by
  have rg : gd_Rg u w i := Classical.byContradiction fun k => h (Or.inl k)
  refine ⟨rg, ⟨?_, ?_, ?_⟩, ?_⟩
  · intro x hx
    rcases List.mem_cons.mp hx with e | e
    · subst e
      exact ⟨by omega, rg⟩
    · exact ⟨by have := (I.1 x e).1; omega, (I.1 x e).2⟩
  · exact List.pairwise_cons.mpr ⟨fun y hy c => h (Or.inr ⟨y, (I.1 y hy).1, gd_Cn_sym c⟩), I.2.1⟩
  · intro b hb vb
    by_cases e : b = i
    · subst e
      exact ⟨b, List.mem_cons_self .., gd_Cn_rfl _⟩
    · obtain ⟨y, hy, c⟩ := I.2.2 b (by omega) vb
      exact ⟨y, List.mem_cons_of_mem _ hy, c⟩
  · intro x
    constructor
    · rintro ((k | ⟨b, hb, cb⟩) | c)
      · exact Or.inl k
      · exact Or.inr ⟨b, by omega, cb⟩
      · exact Or.inr ⟨i, by omega, c⟩
    · rintro (k | ⟨b, hb, cb⟩)
      · exact Or.inl (Or.inl k)
      · by_cases e : b = i
        · subst e
          exact Or.inr cb
        · exact Or.inl (Or.inr ⟨b, by omega, cb⟩)
theorem gx_I1_8 {u w : Nat → Nat} {E : List Nat} (I : gx_I1 u w 8 E) : gd_Rp u w (gd_Ev u w) E ∧ ∀ x, gx_S1 u w 8 x ↔ gx_S2 u w 0 x := by
  constructor
  · refine ⟨fun x hx => ⟨(I.1 x hx).1, (I.1 x hx).2.2⟩, I.2.1, fun x hx ev => ?_⟩
    obtain ⟨y, hy, c, e⟩ := ev.1
    obtain ⟨z, hz, cz⟩ := I.2.2 y hy (Or.inl e) ((gd_Ev_c c).mp ev)
    exact ⟨z, hz, gd_Cn_tr c cz⟩
  · intro x
    constructor
    · rintro ⟨b, hb, eb, c⟩
      refine Or.inl fun rg => ?_
      rcases eb with e | e
      · exact rg.1 ⟨b, hb, gd_Cn_sym c, e⟩
      · exact rg.2 ⟨b, hb, gd_Cn_sym c, e⟩
    · rintro (k | ⟨b, hb, _⟩)
      · by_cases hs : gd_SL u w x
        · obtain ⟨y, hy, c, e⟩ := hs
          exact ⟨y, hy, Or.inl e, gd_Cn_sym c⟩
        by_cases hr : gd_RL u w x
        · obtain ⟨y, hy, c, e⟩ := hr
          exact ⟨y, hy, Or.inr e, gd_Cn_sym c⟩
        exact absurd ⟨hs, hr⟩ k
      · exact absurd hb (Nat.not_lt_zero b)
theorem gx_I2_8 {u w : Nat → Nat} {R : List Nat} (I : gx_I2 u w 8 R) : gd_Rp u w (gd_Rg u w) R := ⟨I.1, I.2.1, I.2.2⟩
theorem gx_fin {u w : Nat → Nat} (hu : gd_Inv u) (hw : gd_Inv w) {E R : List Nat} (hE : gd_Rp u w (gd_Ev u w) E) (hR : gd_Rp u w (gd_Rg u w) R) : (4 - nI R.length) - nI E.length / 2 = nI (gd_dist u w) := by
  obtain ⟨R', E', hR', hE', e⟩ := gd_dist_D hu hw
  have e1 := gd_Rp_u hE hE'
  have e2 := gd_Rp_u hR hR'
  generalize gd_dist u w = n at e
  have k1 : (4 : Int32) - nI R.length = nI (4 - R.length) := pk_sub (a := 4) (by omega)
  have k2 : nI E.length / 2 = nI (E.length / 2) := pk_div (d := 2) (by omega) (by decide) (by decide)
  rw [k1, k2, pk_sub (by omega)]
  exact congrArg nI (by omega)
section
variable {fl ff : Int32} {o ge pa fc : Nat → Int32} {s r : Nat} {u w : Nat → Nat}
theorem gx_d90 {post : Int32 → SX → Prop} (hs : s < 5) (hr : r < 5) (hu : gd_Inv u) (hw : gd_Inv w) (Hu : gx_Sl o s u) (Hw : gx_Sl o r w) {E : List Nat} (hE : gd_Rp u w (gd_Ev u w) E)
    (K : ∀ p', post (nI (gd_dist u w)) (fl, ff, o, ge, p', fc)) :
    ∀ d i R p, i + d = 8 → gx_I2 u w i R → gx_PB p (gx_S2 u w i) → wX_distanceOf_90 post (nI s) (nI r) (nI E.length) (d + 1) (nI R.length) (nI i) fl ff o ge p fc
  | 0, i, R, p, hi, I, hp => by
    have e : i = 8 := by omega
    subst e
    refine br_t gx_le8 ⟨by decide, ?_⟩
    rw [gx_fin hu hw hE (gx_I2_8 I)]
    exact K p
  | d + 1, i, R, p, hi, I, hp => by
    have i8 : i < 8 := by omega
    refine br_f (gx_nle8 i8) ⟨vp_in_nI i8 (by decide), ?_⟩
    rw [nI_clamp (by omega)]
    by_cases h : gx_S2 u w i i
    · rw [(hp i i8).1 h]
      obtain ⟨I', e⟩ := gx_I2_skip I h
      exact br_f (by decide) (nm_r gx_nI1 (gx_d90 hs hr hu hw Hu Hw hE K d (i + 1) R p (by omega) I' (gx_PB_cg hp fun x _ => e x)))
    · rw [(hp i i8).2 h]
      obtain ⟨rg, I', e⟩ := gx_I2_go I h
      refine br_t rfl (gx_string (f := true) hs hr hu hw Hu Hw i8 (Or.inr rg) hp fun n p' hn hp' _ => ?_)
      exact nm_r gx_nI1 (nm_r gx_nI1 (gx_d90 hs hr hu hw Hu Hw hE K d (i + 1) (i :: R) p' (by omega) I' (gx_PB_cg hp' fun x _ => e x)))
theorem gx_d46 {post : Int32 → SX → Prop} {J : Int32 → Int32 → Int32 → Int32 → (Nat → Int32) → (Nat → Int32) → (Nat → Int32) → (Nat → Int32) → Prop} (hs : s < 5) (hr : r < 5) (hu : gd_Inv u) (hw : gd_Inv w) (Hu : gx_Sl o s u) (Hw : gx_Sl o r w) {S : Nat → Prop} {i c : Nat} (i8 : i < 8) (ext : gx_Ext u w i) (hp : gx_PB pa S)
    (h1 : gd_Ev u w i → ∀ p', gx_PB p' (fun x => S x ∨ gd_Cn u w i x) → J (nI (c + 1)) (nI (i + 1)) fl ff o ge p' fc)
    (h0 : ¬ gd_Ev u w i → ∀ p', gx_PB p' (fun x => S x ∨ gd_Cn u w i x) → J (nI c) (nI (i + 1)) fl ff o ge p' fc) :
    wX_distanceOf_46 post J (nI s) (nI r) (nI c) (nI i) fl ff o ge pa fc := by
  have go : ∀ f : Bool, gx_G u w (!f) i = i → wpX_string (fun r_41 u => match u with | (f_listed_42, f_found_43, a_other_44, a_genome_45, a_passed_46, a_foundCode_47) => (¬ (2 : Int32) = 0 ∧ ((((r_41 - r_41 / 2 * 2) = 0 → (∀ x3_51 : Int32, x3_51 = nI c + 1 → (∀ x4_52 : Int32, x4_52 = nI i + 1 → (J x3_51 x4_52 f_listed_42 f_found_43 a_other_44 a_genome_45 a_passed_46 a_foundCode_47)))) ∧ (¬ (r_41 - r_41 / 2 * 2) = 0 → (∀ x4_50 : Int32, x4_50 = nI i + 1 → (J (nI c) x4_50 f_listed_42 f_found_43 a_other_44 a_genome_45 a_passed_46 a_foundCode_47))))))) (fl, ff, o, ge, pa, fc) (nI s) (nI r) (nI i) (gx_b f) := by
    intro f hf
    refine gx_string (f := f) hs hr hu hw Hu Hw i8 (Or.inl hf) hp fun n p' hn hp' hpar => ?_
    have par := hpar hf
    have e : nI n - nI n / 2 * 2 = nI (n % 2) := pk_rem (d := 2) (by omega) (by decide) (by decide)
    refine ⟨by decide, ?_⟩
    rw [e]
    by_cases ev : gd_Ev u w i
    · rw [par.mpr ev]
      exact br_t rfl (nm_r gx_nI1 (nm_r gx_nI1 (h1 ev p' hp')))
    · have e1 : n % 2 = 1 := by
        have : ¬ n % 2 = 0 := fun k => ev (par.mp k)
        omega
      rw [e1]
      exact br_f (by decide) (nm_r gx_nI1 (h0 ev p' hp'))
  unfold wX_distanceOf_46
  refine gx_loose hr i8 hw Hw (fun e => ?_) (fun e => ?_)
  · exact go true e
  · exact go false (ext.resolve_right e)
theorem gx_d9 {post : Int32 → SX → Prop} (hs : s < 5) (hr : r < 5) (hu : gd_Inv u) (hw : gd_Inv w) (Hu : gx_Sl o s u) (Hw : gx_Sl o r w)
    (K : ∀ p', post (nI (gd_dist u w)) (fl, ff, o, ge, p', fc)) :
    ∀ d i E p, i + d = 8 → gx_I1 u w i E → gx_PB p (gx_S1 u w i) → wX_distanceOf_9 post (nI s) (nI r) (d + 1) (nI E.length) (nI i) fl ff o ge p fc
  | 0, i, E, p, hi, I, hp => by
    have e : i = 8 := by omega
    subst e
    obtain ⟨hE, e⟩ := gx_I1_8 I
    exact br_t gx_le8 ⟨8 + 1, gx_d90 hs hr hu hw Hu Hw hE K 8 0 [] p rfl gx_I2_0 (gx_PB_cg hp fun x _ => e x)⟩
  | d + 1, i, E, p, hi, I, hp => by
    have i8 : i < 8 := by omega
    refine br_f (gx_nle8 i8) ⟨vp_in_nI i8 (by decide), ?_⟩
    rw [nI_clamp (by omega)]
    by_cases h : gx_S1 u w i i
    · rw [(hp i i8).1 h]
      obtain ⟨I', e⟩ := gx_I1_skip I (Or.inl h)
      exact br_f (by decide) (nm_r gx_nI1 (gx_d9 hs hr hu hw Hu Hw K d (i + 1) E p (by omega) I' (gx_PB_cg hp fun x _ => e x)))
    · rw [(hp i i8).2 h]
      have walk : gx_Ext u w i → wX_distanceOf_46 post (wX_distanceOf_9 post (nI s) (nI r) (d + 1)) (nI s) (nI r) (nI E.length) (nI i) fl ff o ge p fc := by
        intro ext
        obtain ⟨I1, I0, e⟩ := gx_I1_go I h ext
        refine gx_d46 hs hr hu hw Hu Hw i8 ext hp (fun ev p' hp' => ?_) (fun ev p' hp' => ?_)
        · exact gx_d9 hs hr hu hw Hu Hw K d (i + 1) (i :: E) p' (by omega) (I1 ev) (gx_PB_cg hp' fun x _ => e x)
        · exact gx_d9 hs hr hu hw Hu Hw K d (i + 1) E p' (by omega) (I0 ev) (gx_PB_cg hp' fun x _ => e x)
      refine br_t rfl (gx_loose hs i8 hu Hu (fun e => ?_) (fun e => ?_))
      · exact br_f (by decide) (walk (Or.inl e))
      · refine br_t rfl (gx_loose hr i8 hw Hw (fun e2 => ?_) (fun e2 => ?_))
        · exact br_f (by decide) (walk (Or.inr e2))
        · obtain ⟨I', e3⟩ := gx_I1_skip I (Or.inr fun k => k.elim e e2)
          exact br_t rfl (nm_r gx_nI1 (gx_d9 hs hr hu hw Hu Hw K d (i + 1) E p (by omega) I' (gx_PB_cg hp fun x _ => e3 x)))
theorem gx_dist {post : Int32 → SX → Prop} (hs : s < 5) (hr : r < 5) (hu : gd_Inv u) (hw : gd_Inv w) (Hu : gx_Sl o s u) (Hw : gx_Sl o r w)
    (K : ∀ p', post (nI (gd_dist u w)) (fl, ff, o, ge, p', fc)) : wpX_distanceOf post (fl, ff, o, ge, pa, fc) (nI s) (nI r) := by
  unfold wpX_distanceOf
  dsimp only
  refine gx_clear fun p hp => ?_
  refine ⟨8 + 1, gx_d9 hs hr hu hw Hu Hw K 8 0 [] p rfl gx_I1_0 (gx_PB_cg hp fun x _ => ⟨fun k => k.elim, ?_⟩)⟩
  rintro ⟨b, hb, _⟩
  exact absurd hb (Nat.not_lt_zero b)
end
end
section
/-! the reference's way is the distance -/
def gj_P1 (g h : Nat → Nat) (a : Nat) : Prop := ¬ h a ≤ a ∧ g a ≠ h a
def gj_P2 (g h : Nat → Nat) (a : Nat) : Prop := g a ≠ a ∧ h a = a
theorem gd_step1 {g h : Nat → Nat} (hg : gd_Inv g) (hh : gd_Inv h) {a : Nat} (ha : a < 8) (p : gj_P1 g h a) : gd_Inv (gd_mk g a (h a)) ∧ gd_mu (gd_mk g a (h a)) h < gd_mu g h ∧ gd_dist g h = gd_dist (gd_mk g a (h a)) h + 1 := by
  have M := gd_mk_M hg ha (hh a ha).1 (fun e => p.1 (by omega)) p.2
  have i := gd_M_inv hg M
  exact ⟨i, gd_mu_M hg hh M rfl, gd_dist_eq hg hh (gd_J hg hh M rfl (gd_dist_D i hh))⟩
theorem gj_all {g h : Nat → Nat} (hg : gd_Inv g) (hh : gd_Inv h) {k : Nat} (k8 : k ≤ 8) (n : ∀ b, b < k → ¬ gj_P1 g h b) : ∀ b, b < k → h b ≠ b → g b = h b := by
  intro b hb ne
  refine Classical.byContradiction fun q => ?_
  have h1 := hh b (by omega)
  by_cases le : h b ≤ b
  · refine n (h b) (by omega) ⟨by rw [h1.2]; omega, fun e => q ?_⟩
    rw [h1.2] at e
    have h2 := hg (h b) h1.1
    rw [e] at h2
    exact h2.2
  · exact n b hb ⟨le, q⟩
theorem gd_step2 {g h : Nat → Nat} (hg : gd_Inv g) (hh : gd_Inv h) (n : ∀ b, b < 8 → ¬ gj_P1 g h b) {a : Nat} (ha : a < 8) (p : gj_P2 g h a) : gd_Inv (gd_cut g a) ∧ gd_mu (gd_cut g a) h < gd_mu g h ∧ gd_dist g h = gd_dist (gd_cut g a) h + 1 := by
  have h1 := gj_all hg hh (Nat.le_refl 8) n
  obtain ⟨ga, ra⟩ := p
  have k := hg a ha
  have rb := gd_rloose hg hh h1 ha ga ra
  have i := gd_cut_inv hg ha
  refine ⟨i, ?_, gd_dist_eq hg hh (gd_K hg hh ha k.1 (fun e => ga e.symm) rfl k.2 ra rb (gd_cut_a g a) (gd_cut_b g a) (fun x hx xa xb => gd_cut_x xa xb) (gd_dist_D i hh))⟩
  refine gd_mu_lt ha (by rw [ra]; exact ga) (by rw [gd_cut_a, ra]) fun x hx e => ?_
  by_cases xa : x = a
  · subst xa
    rw [gd_cut_a, ra]
  by_cases xb : x = g a
  · subst xb
    rw [gd_cut_b, rb]
  rw [gd_cut_x xa xb]
  exact e
theorem gd_step0 {g h : Nat → Nat} (hg : gd_Inv g) (hh : gd_Inv h) (n : ∀ b, b < 8 → ¬ gj_P1 g h b) (m : ∀ b, b < 8 → ¬ gj_P2 g h b) : gd_dist g h = 0 := by
  refine gd_dist_eq hg hh (gd_base hg fun a ha => ?_)
  by_cases ra : h a = a
  · rw [ra]
    exact Classical.byContradiction fun k => m a ha ⟨k, ra⟩
  · exact gj_all hg hh (Nat.le_refl 8) n a ha ra
section
variable {p se nu : Nat → Int32} {s r : Nat} {g h : Nat → Nat}
theorem gy_n61 {post : Int32 → SY → Prop} (hs : s < 5) (hr : r < 5) (hg : gd_Inv g) (hh : gd_Inv h) (Hg : gy_Sl p s g) (Hh : gy_Sl p r h)
    (K2 : ∀ a, a < 8 → (∀ b, b < a → ¬ gj_P2 g h b) → gj_P2 g h a → ∀ p', gy_Sl p' s (gd_cut g a) → gx_Fr s p p' → post 1 (p', se, nu))
    (K3 : (∀ b, b < 8 → ¬ gj_P2 g h b) → post 0 (p, se, nu)) :
    ∀ d i, i + d = 8 → (∀ b, b < i → ¬ gj_P2 g h b) → wY_goNearer_61 post (nI s) (nI r) p se nu (d + 1) (nI i)
  | 0, i, hi, n => by
    have e : i = 8 := by omega
    subst e
    exact br_t gx_le8 (K3 n)
  | d + 1, i, hi, n => by
    have i8 : i < 8 := by omega
    have ih : ¬ gj_P2 g h i → wY_goNearer_61 post (nI s) (nI r) p se nu (d + 1) (nI (i + 1)) := fun k => gy_n61 hs hr hg hh Hg Hh K2 K3 d (i + 1) (by omega) fun b hb => by
      by_cases e : b = i
      · subst e
        exact k
      · exact n b (by omega)
    refine br_f (gx_nle8 i8) (gy_loose hs i8 hg Hg (fun e => ?_) (fun e => ?_))
    · exact br_f (by decide) (nm_r gx_nI1 (ih fun k => k.1 e))
    · refine br_t rfl (gy_loose hr i8 hh Hh (fun e2 => ?_) (fun e2 => ?_))
      · exact br_f (by decide) (gy_unlink hs i8 (hg i i8).1 Hg fun p' H F => K2 i i8 n ⟨e, e2⟩ p' H F)
      · exact br_t rfl (nm_r gx_nI1 (ih fun k => e2 k.2))
theorem gy_n2 {post : Int32 → SY → Prop} (hs : s < 5) (hr : r < 5) (hg : gd_Inv g) (hh : gd_Inv h) (Hg : gy_Sl p s g) (Hh : gy_Sl p r h)
    (K1 : ∀ a, a < 8 → (∀ b, b < a → ¬ gj_P1 g h b) → gj_P1 g h a → ∀ p', gy_Sl p' s (gd_mk g a (h a)) → gx_Fr s p p' → post 1 (p', se, nu))
    (K2 : (∀ b, b < 8 → ¬ gj_P1 g h b) → ∀ a, a < 8 → (∀ b, b < a → ¬ gj_P2 g h b) → gj_P2 g h a → ∀ p', gy_Sl p' s (gd_cut g a) → gx_Fr s p p' → post 1 (p', se, nu))
    (K3 : (∀ b, b < 8 → ¬ gj_P1 g h b) → (∀ b, b < 8 → ¬ gj_P2 g h b) → post 0 (p, se, nu)) :
    ∀ d i, i + d = 8 → (∀ b, b < i → ¬ gj_P1 g h b) → wY_goNearer_2 post (nI s) (nI r) p se nu (d + 1) (nI i)
  | 0, i, hi, n => by
    have e : i = 8 := by omega
    subst e
    exact br_t gx_le8 ⟨8 + 1, gy_n61 hs hr hg hh Hg Hh (K2 n) (K3 n) 8 0 rfl fun b hb => absurd hb (Nat.not_lt_zero b)⟩
  | d + 1, i, hi, n => by
    have i8 : i < 8 := by omega
    have ih : ¬ gj_P1 g h i → wY_goNearer_2 post (nI s) (nI r) p se nu (d + 1) (nI (i + 1)) := fun k => gy_n2 hs hr hg hh Hg Hh K1 K2 K3 d (i + 1) (by omega) fun b hb => by
      by_cases e : b = i
      · subst e
        exact k
      · exact n b (by omega)
    have hh8 := (hh i i8).1
    have hg8 := (hg i i8).1
    refine br_f (gx_nle8 i8) ⟨gy_in hr i8, ?_⟩
    rw [gy_cl hr i8, gy_cl hs i8]
    refine nm_r (Hh i i8) ?_
    rw [gy_le8 hh8 i8, Hg i i8, gy_eq8 hg8 hh8]
    refine br_c (fun e => ?_) (fun e => ⟨gy_in hs i8, br_c (fun e2 => ?_) (fun e2 => ?_)⟩)
    · exact nm_r gx_nI1 (ih fun k => k.1 e)
    · exact nm_r gx_nI1 (ih fun k => k.2 e2)
    · exact gy_make hs i8 hh8 (fun k => e (by omega)) hg Hg fun p' H F => K1 i i8 n ⟨e, e2⟩ p' H F
theorem gy_near {post : Int32 → SY → Prop} (hs : s < 5) (hr : r < 5) (hg : gd_Inv g) (hh : gd_Inv h) (Hg : gy_Sl p s g) (Hh : gy_Sl p r h)
    (K1 : ∀ a, a < 8 → (∀ b, b < a → ¬ gj_P1 g h b) → gj_P1 g h a → ∀ p', gy_Sl p' s (gd_mk g a (h a)) → gx_Fr s p p' → post 1 (p', se, nu))
    (K2 : (∀ b, b < 8 → ¬ gj_P1 g h b) → ∀ a, a < 8 → (∀ b, b < a → ¬ gj_P2 g h b) → gj_P2 g h a → ∀ p', gy_Sl p' s (gd_cut g a) → gx_Fr s p p' → post 1 (p', se, nu))
    (K3 : (∀ b, b < 8 → ¬ gj_P1 g h b) → (∀ b, b < 8 → ¬ gj_P2 g h b) → post 0 (p, se, nu)) :
    wpY_goNearer post (p, se, nu) (nI s) (nI r) := by
  unfold wpY_goNearer
  dsimp only
  exact ⟨8 + 1, gy_n2 hs hr hg hh Hg Hh K1 K2 K3 8 0 rfl fun b hb => absurd hb (Nat.not_lt_zero b)⟩
theorem gy_wayL {post : Int32 → SY → Prop} {p0 : Nat → Int32} (hr : r < 5) (r3 : r ≠ 3) (hh : gd_Inv h) : ∀ m g c p, gd_mu g h < m → gd_Inv g → gy_Sl p 3 g → gy_Sl p r h → gx_Fr 3 p0 p → (∀ p', gx_Fr 3 p0 p' → post (nI (c + gd_dist g h)) (p', se, nu)) → wY_way_8 post (nI r) m (nI c) p se nu
  | 0, g, c, p, hm, _, _, _, _, _ => absurd hm (Nat.not_lt_zero _)
  | m + 1, g, c, p, hm, hg, Hg, Hh, F, K => by
    refine gy_near (s := 3) (by decide) hr hg hh Hg Hh (fun a ha _ pa p' H' F' => ?_) (fun n a ha _ pa p' H' F' => ?_) (fun n n2 => ?_)
    · obtain ⟨i, mu, e⟩ := gd_step1 hg hh ha pa
      refine br_f (by decide) (nm_r gx_nI1 ?_)
      refine gy_wayL hr r3 hh m _ (c + 1) p' (by omega) i H' (gy_Fr_Sl F' r3 Hh) (gx_Fr_tr F F') fun p'' F'' => ?_
      have k := K p'' F''
      rw [e] at k
      rw [show c + 1 + gd_dist (gd_mk g a (h a)) h = c + (gd_dist (gd_mk g a (h a)) h + 1) by omega]
      exact k
    · obtain ⟨i, mu, e⟩ := gd_step2 hg hh n ha pa
      refine br_f (by decide) (nm_r gx_nI1 ?_)
      refine gy_wayL hr r3 hh m _ (c + 1) p' (by omega) i H' (gy_Fr_Sl F' r3 Hh) (gx_Fr_tr F F') fun p'' F'' => ?_
      have k := K p'' F''
      rw [e] at k
      rw [show c + 1 + gd_dist (gd_cut g a) h = c + (gd_dist (gd_cut g a) h + 1) by omega]
      exact k
    · have e := gd_step0 hg hh n n2
      have k := K p F
      rw [e] at k
      exact br_t rfl k
theorem gy_way {post : Int32 → SY → Prop} (hs : s < 5) (hr : r < 5) (r3 : r ≠ 3) (hg : gd_Inv g) (hh : gd_Inv h) (Hg : gy_Sl p s g) (Hh : gy_Sl p r h) (K : ∀ p', gx_Fr 3 p p' → post (nI (gd_dist g h)) (p', se, nu)) : wpY_way post (p, se, nu) (nI s) (nI r) := by
  unfold wpY_way
  dsimp only
  refine gy_copyTo (t := 3) hs (by decide) Hg fun p1 H1 F1 => ?_
  refine ⟨gd_mu g h + 1, gy_wayL hr r3 hh _ g 0 p1 (Nat.lt_succ_self _) hg H1 (gy_Fr_Sl F1 r3 Hh) F1 fun p' F' => ?_⟩
  rw [Nat.zero_add]
  exact K p' F'
end
end
section
/-! the component's approach -/
section
variable {fl ff : Int32} {o ge pa fc : Nat → Int32} {s r a b : Nat} {g h : Nat → Nat}
theorem gx_make {post : SX → Prop} (hs : s < 5) (ha : a < 8) (hb : b < 8) (ab : a ≠ b) (hg : gd_Inv g) (H : gx_Sl o s g) (k : ∀ o', gx_Sl o' s (gd_mk g a b) → gx_Fr s o o' → post (fl, ff, o', ge, pa, fc)) : wpX_makeJoint post (fl, ff, o, ge, pa, fc) (nI s) (nI a) (nI b) := by
  have h1 := hg a ha
  have h2 := hg b hb
  unfold wpX_makeJoint
  dsimp only
  unfold gd_mk at k
  refine gx_loose hs ha hg H (fun ga => br_f (by decide) ?_) (fun ga => br_t rfl ?_)
  · rw [if_pos ga] at k
    unfold wX_makeJoint_28
    refine gx_loose hs ha hg H (fun _ => br_f (by decide) ?_) (fun ga' => absurd ga ga')
    refine gx_loose hs hb hg H (fun gb => br_f (by decide) ?_) (fun gb => br_t rfl ?_)
    · rw [if_pos gb] at k
      exact gx_tie hs ha hb ab H k
    · rw [if_neg gb] at k
      refine gx_untie hs hb h2.1 gb H fun p1 H1 F1 => ?_
      exact gx_tie hs ha hb ab H1 fun p2 H2 F2 => k p2 H2 (gx_Fr_tr F1 F2)
  · rw [if_neg ga] at k
    refine gx_loose hs hb hg H (fun gb => br_f (by decide) ?_) (fun gb => br_t rfl ?_)
    · rw [if_pos gb] at k
      unfold wX_makeJoint_28
      refine gx_loose hs ha hg H (fun ga' => absurd ga' ga) (fun _ => br_t rfl ?_)
      refine gx_untie hs ha h1.1 ga H fun p1 H1 F1 => ?_
      exact gx_tie hs ha hb ab H1 fun p2 H2 F2 => k p2 H2 (gx_Fr_tr F1 F2)
    · rw [if_neg gb] at k
      exact gx_exch hs ha hb hg ab ga gb H k
theorem gx_encE {x y : Nat} (hg : gd_Inv g) (hx : x < 8) (hy : y < 8) (ne : y ≠ x) : gx_enc g x = nI y ↔ g x = y := by
  by_cases e : g x = x
  · rw [gx_encL e, e]
    exact ⟨fun k => absurd k.symm (gx_m1 y hy), fun k => absurd k.symm ne⟩
  · rw [gx_encJ e]
    exact gy_eq8 (hg x hx).1 hy
theorem gx_encI {x : Nat} (hg : gd_Inv g) (hh : gd_Inv h) (hx : x < 8) (ne : g x ≠ x) : gx_enc h x = gx_enc g x ↔ h x = g x := by
  rw [gx_encJ ne]
  exact gx_encE hh hx (hg x hx).1 ne
theorem gx_a84 {post : Int32 → SX → Prop} (hs : s < 5) (hr : r < 5) (hg : gd_Inv g) (hh : gd_Inv h) (Hg : gx_Sl o s g) (Hh : gx_Sl o r h) (n1 : ∀ b, b < 8 → ¬ gj_P1 g h b)
    (K2 : ∀ a, a < 8 → (∀ b, b < a → ¬ gj_P2 g h b) → gj_P2 g h a → ∀ o', gx_Sl o' s (gd_cut g a) → gx_Fr s o o' → wpX_distanceOf (fun r u => match u with | (f_listed_40, f_found_41, a_other_42, a_genome_43, a_passed_44, a_foundCode_45) => post r (f_listed_40, f_found_41, a_other_42, a_genome_43, a_passed_44, a_foundCode_45)) (fl, ff, o', ge, pa, fc) (nI s) (nI r))
    (K3 : (∀ b, b < 8 → ¬ gj_P2 g h b) → post (-4) (fl, ff, o, ge, pa, fc)) :
    ∀ d i, i + d = 8 → (∀ b, b < i → ¬ gj_P2 g h b) → wX_approach_84 post (nI s) (nI r) fl ff o ge pa fc (d + 1) (nI i)
  | 0, i, hi, n => by
    have e : i = 8 := by omega
    subst e
    exact br_t gx_le8 (K3 n)
  | d + 1, i, hi, n => by
    have i8 : i < 8 := by omega
    have ih : ¬ gj_P2 g h i → wX_approach_84 post (nI s) (nI r) fl ff o ge pa fc (d + 1) (nI (i + 1)) := fun k => gx_a84 hs hr hg hh Hg Hh n1 K2 K3 d (i + 1) (by omega) fun b hb => by
      by_cases e : b = i
      · subst e
        exact k
      · exact n b (by omega)
    refine br_f (gx_nle8 i8) (gx_loose hs i8 hg Hg (fun e => ?_) (fun e => ?_))
    · exact br_f (by decide) (nm_r gx_nI1 (ih fun k => k.1 e))
    · refine br_t rfl ⟨gx_in hr i8, gx_in hs i8, ?_⟩
      rw [gx_cl hr i8, gx_cl hs i8, Hh i i8, Hg i i8, gx_encI hg hh i8 e]
      refine br_c (fun e2 => ?_) (fun e2 => ?_)
      · exact nm_r gx_nI1 (ih fun k => e (by rw [← e2]; exact k.2))
      · have e3 : h i = i := Classical.byContradiction fun k => e2 (gj_all hg hh (Nat.le_refl 8) n1 i i8 k).symm
        exact gx_untie hs i8 (hg i i8).1 e Hg fun o' H F => K2 i i8 n ⟨e, e3⟩ o' H F
theorem gx_a20 {post : Int32 → SX → Prop} (hs : s < 5) (hr : r < 5) (hg : gd_Inv g) (hh : gd_Inv h) (Hg : gx_Sl o s g) (Hh : gx_Sl o r h)
    (K1 : ∀ a, a < 8 → (∀ b, b < a → ¬ gj_P1 g h b) → gj_P1 g h a → ∀ o', gx_Sl o' s (gd_mk g a (h a)) → gx_Fr s o o' → wpX_distanceOf (fun r u => match u with | (f_listed_40, f_found_41, a_other_42, a_genome_43, a_passed_44, a_foundCode_45) => post r (f_listed_40, f_found_41, a_other_42, a_genome_43, a_passed_44, a_foundCode_45)) (fl, ff, o', ge, pa, fc) (nI s) (nI r))
    (K2 : (∀ b, b < 8 → ¬ gj_P1 g h b) → ∀ a, a < 8 → (∀ b, b < a → ¬ gj_P2 g h b) → gj_P2 g h a → ∀ o', gx_Sl o' s (gd_cut g a) → gx_Fr s o o' → wpX_distanceOf (fun r u => match u with | (f_listed_40, f_found_41, a_other_42, a_genome_43, a_passed_44, a_foundCode_45) => post r (f_listed_40, f_found_41, a_other_42, a_genome_43, a_passed_44, a_foundCode_45)) (fl, ff, o', ge, pa, fc) (nI s) (nI r))
    (K3 : (∀ b, b < 8 → ¬ gj_P1 g h b) → (∀ b, b < 8 → ¬ gj_P2 g h b) → post (-4) (fl, ff, o, ge, pa, fc)) :
    ∀ d i, i + d = 8 → (∀ b, b < i → ¬ gj_P1 g h b) → wX_approach_20 post (nI s) (nI r) fl ff o ge pa fc (d + 1) (nI i)
  | 0, i, hi, n => by
    have e : i = 8 := by omega
    subst e
    exact br_t gx_le8 ⟨8 + 1, gx_a84 hs hr hg hh Hg Hh n (K2 n) (K3 n) 8 0 rfl fun b hb => absurd hb (Nat.not_lt_zero b)⟩
  | d + 1, i, hi, n => by
    have i8 : i < 8 := by omega
    have ih : ¬ gj_P1 g h i → wX_approach_20 post (nI s) (nI r) fl ff o ge pa fc (d + 1) (nI (i + 1)) := fun k => gx_a20 hs hr hg hh Hg Hh K1 K2 K3 d (i + 1) (by omega) fun b hb => by
      by_cases e : b = i
      · subst e
        exact k
      · exact n b (by omega)
    have hh8 := (hh i i8).1
    have hg8 := (hg i i8).1
    refine br_f (gx_nle8 i8) ⟨gx_in hr i8, ?_⟩
    rw [gx_cl hr i8, gx_cl hs i8]
    by_cases e : h i = i
    · refine nm_r ((Hh i i8).trans (gx_encL e)) (br_t rfl (nm_r gx_nI1 (ih fun k => k.1 (by omega))))
    · refine nm_r ((Hh i i8).trans (gx_encJ e)) (br_f (gx_m1 _ hh8) ⟨gx_in hs i8, ?_⟩)
      rw [Hg i i8, gx_encE hg i8 hh8 e]
      refine br_c (fun e2 => ?_) (fun e2 => ?_)
      · exact nm_r gx_nI1 (ih fun k => k.2 e2)
      · have e3 : ¬ h i ≤ i := fun le => by
          have h1 := hh i i8
          refine n (h i) (by omega) ⟨by rw [h1.2]; omega, fun k => e2 ?_⟩
          rw [h1.2] at k
          have h2 := hg (h i) h1.1
          rw [k] at h2
          exact h2.2
        exact gx_make hs i8 hh8 (fun k => e k.symm) hg Hg fun o' H F => K1 i i8 n ⟨e3, e2⟩ o' H F
end
end
section
/-! chromosomes: both counts by pure functions, compared over all genomes -/
def gc_go (g : Nat → Nat) (fr : Nat) : Nat → Nat → List Nat → List Nat
  | 0, _, V => V
  | m + 1, a, V => if g (a ^^^ 1) = a ^^^ 1 then (a ^^^ 1) :: a :: V else if g (a ^^^ 1) = fr then (a ^^^ 1) :: a :: V else gc_go g fr m (g (a ^^^ 1)) ((a ^^^ 1) :: a :: V)
def gc_ri (g : Nat → Nat) : Nat → Nat → List Nat → Nat → Nat
  | 0, _, _, c => c
  | d + 1, i, V, c => if i ∈ V then gc_ri g d (i + 1) V c else gc_ri g d (i + 1) (gc_go g i 4 i V) (c + 1)
def gc_st (g : Nat → Nat) : Nat → Nat → List Nat → Nat → Nat × Nat
  | 0, _, V, c => (c, gc_ri g 8 0 V 0)
  | d + 1, i, V, c => if g i = i then (if i ∈ V then gc_st g d (i + 1) V c else gc_st g d (i + 1) (gc_go g i 4 i V) (c + 1)) else gc_st g d (i + 1) V c
def gc_tg (g : Nat → Nat) : Nat → Nat → Nat → Nat
  | 0, _, m => m
  | d + 1, i, m => if m / 2 ^ (i % 8 / 2) % 2 = 1 then gc_tg g d (i + 1) (m ||| 2 ^ (g (i % 8) / 2)) else gc_tg g d (i + 1) m
def gc_cy (g : Nat → Nat) : Nat → Nat → Nat → Nat
  | 0, _, c => c
  | d + 1, i, c => if gc_tg g 32 0 (2 ^ i) % 2 ^ i = 0 then gc_cy g d (i + 1) (c + 1) else gc_cy g d (i + 1) c
def gc_rd (g : Nat → Nat) (m : Nat) : Nat → Nat → Bool
  | 0, _ => true
  | d + 1, i => if m / 2 ^ (i / 2) % 2 = 1 then (if g i = i then false else gc_rd g m d (i + 1)) else gc_rd g m d (i + 1)
def gc_ry (g : Nat → Nat) : Nat → Nat → Nat → Nat
  | 0, _, c => c
  | d + 1, i, c => if gc_tg g 32 0 (2 ^ i) % 2 ^ i = 0 then (if gc_rd g (gc_tg g 32 0 (2 ^ i)) 8 0 = true then gc_ry g d (i + 1) (c + 1) else gc_ry g d (i + 1) c) else gc_ry g d (i + 1) c
def gc_chk (l : List Nat) : Bool :=
  Nat.beq ((gc_st (gs_of l) 8 0 [] 0).1 + (gc_st (gs_of l) 8 0 [] 0).2) (gc_cy (gs_of l) 4 0 0) && Nat.beq (gc_st (gs_of l) 8 0 [] 0).2 (gc_ry (gs_of l) 4 0 0)
theorem gc_ok : gs_tst gc_chk 8 0 [] = true := by decide +kernel
theorem gc_eq {g : Nat → Nat} (hg : gd_Inv g) : (gc_st (gs_of (gs_rev g 8)) 8 0 [] 0).1 + (gc_st (gs_of (gs_rev g 8)) 8 0 [] 0).2 = gc_cy (gs_of (gs_rev g 8)) 4 0 0 ∧ (gc_st (gs_of (gs_rev g 8)) 8 0 [] 0).2 = gc_ry (gs_of (gs_rev g 8)) 4 0 0 := by
  have h := gs_all gc_ok hg
  unfold gc_chk at h
  rw [Bool.and_eq_true] at h
  exact ⟨Nat.eq_of_beq_eq_true h.1, Nat.eq_of_beq_eq_true h.2⟩
theorem gx_Sl_cg {o : Nat → Int32} {s : Nat} {g h : Nat → Nat} (e : ∀ a, a < 8 → g a = h a) (H : gx_Sl o s g) : gx_Sl o s h := by
  intro a ha
  rw [H a ha]
  unfold gx_enc
  rw [e a ha]
theorem gy_Sl_cg {o : Nat → Int32} {s : Nat} {g h : Nat → Nat} (e : ∀ a, a < 8 → g a = h a) (H : gy_Sl o s g) : gy_Sl o s h := by
  intro a ha
  rw [H a ha, e a ha]
theorem gx_x1 : ∀ a, a < 8 → a ^^^ 1 < 8 := by decide
section
variable {fl ff : Int32} {o ge pa fc : Nat → Int32} {s fr : Nat} {g : Nat → Nat}
theorem gx_PBl {p : Nat → Int32} {V : List Nat} {b : Nat} (h : gx_PB p (fun x => x ∈ V)) : gx_PB (upd p b 1) (fun x => x ∈ b :: V) :=
  gx_PB_cg (gx_PB_u h) fun x _ => by rw [List.mem_cons]; exact or_comm
theorem gx_goL {post : Int32 → SX → Prop} (hs : s < 5) (hg : gd_Inv g) (H : gx_Sl o s g) (hf : fr < 8) : ∀ m i a V p, i + m = 4 → a < 8 → gx_PB p (fun x => x ∈ V) → (∀ r p', gx_PB p' (fun x => x ∈ gc_go g fr m a V) → post r (fl, ff, o, ge, p', fc)) → wX_goAlong_5 post (nI s) (nI fr) fl ff (m + 1) (nI a) (nI i) o ge p fc
  | 0, i, a, V, p, hi, ha, hp, K => by
    have e : i = 4 := by omega
    subst e
    exact br_t (nI_le (a := 4) (Nat.le_refl 4) (by decide)) (K 1 p hp)
  | m + 1, i, a, V, p, hi, ha, hp, K => by
    have n4 : ¬ (4 : Int32) ≤ nI i := nI_ge (b := 4) (by omega) (by decide)
    have hx := gx_x1 a ha
    have ex : nI a ^^^ 1 = nI (a ^^^ 1) := nx_xor a 1
    have hb := (hg _ hx).1
    have hp2 := gx_PBl (b := a ^^^ 1) (gx_PBl (b := a) hp)
    rw [gc_go] at K
    refine br_f n4 ⟨vp_in_nI ha (by decide), ?_⟩
    rw [ex, gx_nb1, nI_clamp (by omega), nI_clamp (by omega), gx_cl hs hx]
    refine nm_e ⟨vp_in_nI hx (by decide), nm_e ⟨gx_in hs hx, ?_⟩⟩
    by_cases e1 : g (a ^^^ 1) = a ^^^ 1
    · rw [if_pos e1] at K
      exact nm_r ((H _ hx).trans (gx_encL e1)) (br_t rfl (K 0 _ hp2))
    · rw [if_neg e1] at K
      refine nm_r ((H _ hx).trans (gx_encJ e1)) (br_f (gx_m1 _ hb) ?_)
      rw [gy_eq8 hb hf]
      refine br_c (fun e2 => ?_) (fun e2 => ?_)
      · rw [if_pos e2] at K
        exact K 1 _ hp2
      · rw [if_neg e2] at K
        exact nm_r gx_nI1 (gx_goL hs hg H hf m (i + 1) _ _ _ (by omega) hb hp2 K)
theorem gx_go {post : Int32 → SX → Prop} {V : List Nat} (hs : s < 5) (hg : gd_Inv g) (H : gx_Sl o s g) (hf : fr < 8) (hp : gx_PB pa (fun x => x ∈ V)) (K : ∀ r p', gx_PB p' (fun x => x ∈ gc_go g fr 4 fr V) → post r (fl, ff, o, ge, p', fc)) : wpX_goAlong post (fl, ff, o, ge, pa, fc) (nI s) (nI fr) := by
  unfold wpX_goAlong
  dsimp only
  exact ⟨4 + 1, gx_goL hs hg H hf 4 0 fr V pa rfl hf hp K⟩
theorem gx_c59 {post : Int32 → SX → Prop} {x2 : Int32} {c1 : Nat} (hs : s < 5) (hg : gd_Inv g) (H : gx_Sl o s g) : ∀ d i V c p, i + d = 8 → gx_PB p (fun x => x ∈ V) → (∀ p', (x2 = 0 → post (nI (c1 + gc_ri g d i V c)) (fl, ff, o, ge, p', fc)) ∧ (¬ x2 = 0 → post (nI (gc_ri g d i V c)) (fl, ff, o, ge, p', fc))) → wX_chromosomesOf_59 post (nI s) x2 (nI c1) (d + 1) (nI c) (nI i) fl ff o ge p fc
  | 0, i, V, c, p, hi, hp, K => by
    have e : i = 8 := by omega
    subst e
    refine br_t gx_le8 ?_
    rw [nI_add]
    exact K p
  | d + 1, i, V, c, p, hi, hp, K => by
    have i8 : i < 8 := by omega
    rw [gc_ri] at K
    refine br_f (gx_nle8 i8) ⟨vp_in_nI i8 (by decide), ?_⟩
    rw [nI_clamp (by omega)]
    by_cases h : i ∈ V
    · rw [if_pos h] at K
      rw [(hp i i8).1 h]
      exact br_f (by decide) (nm_r gx_nI1 (gx_c59 hs hg H d (i + 1) V c p (by omega) hp K))
    · rw [if_neg h] at K
      rw [(hp i i8).2 h]
      exact br_t rfl (gx_go hs hg H i8 hp fun r p' hp' => nm_r gx_nI1 (nm_r gx_nI1 (gx_c59 hs hg H d (i + 1) _ (c + 1) p' (by omega) hp' K)))
theorem gx_c9 {post : Int32 → SX → Prop} {x2 : Int32} (hs : s < 5) (hg : gd_Inv g) (H : gx_Sl o s g) : ∀ d i V c p, i + d = 8 → gx_PB p (fun x => x ∈ V) → (∀ p', (x2 = 0 → post (nI ((gc_st g d i V c).1 + (gc_st g d i V c).2)) (fl, ff, o, ge, p', fc)) ∧ (¬ x2 = 0 → post (nI (gc_st g d i V c).2) (fl, ff, o, ge, p', fc))) → wX_chromosomesOf_9 post (nI s) x2 (d + 1) (nI c) (nI i) fl ff o ge p fc
  | 0, i, V, c, p, hi, hp, K => by
    have e : i = 8 := by omega
    subst e
    exact br_t gx_le8 ⟨8 + 1, gx_c59 hs hg H 8 0 V 0 p rfl hp K⟩
  | d + 1, i, V, c, p, hi, hp, K => by
    have i8 : i < 8 := by omega
    rw [gc_st] at K
    refine br_f (gx_nle8 i8) (gx_loose hs i8 hg H (fun e => ?_) (fun e => ?_))
    · rw [if_pos e] at K
      refine br_f (by decide) ⟨vp_in_nI i8 (by decide), ?_⟩
      rw [nI_clamp (by omega)]
      by_cases h : i ∈ V
      · rw [if_pos h] at K
        rw [(hp i i8).1 h]
        exact br_f (by decide) (nm_r gx_nI1 (gx_c9 hs hg H d (i + 1) V c p (by omega) hp K))
      · rw [if_neg h] at K
        rw [(hp i i8).2 h]
        exact br_t rfl (gx_go hs hg H i8 hp fun r p' hp' => nm_r gx_nI1 (nm_r gx_nI1 (gx_c9 hs hg H d (i + 1) _ (c + 1) p' (by omega) hp' K)))
    · rw [if_neg e] at K
      exact br_t rfl (nm_r gx_nI1 (gx_c9 hs hg H d (i + 1) V c p (by omega) hp K))
theorem gx_chr {post : Int32 → SX → Prop} {x2 : Int32} (hs : s < 5) (hg : gd_Inv g) (H : gx_Sl o s g) (K : ∀ p', (x2 = 0 → post (nI (gc_cy (gs_of (gs_rev g 8)) 4 0 0)) (fl, ff, o, ge, p', fc)) ∧ (¬ x2 = 0 → post (nI (gc_ry (gs_of (gs_rev g 8)) 4 0 0)) (fl, ff, o, ge, p', fc))) : wpX_chromosomesOf post (fl, ff, o, ge, pa, fc) (nI s) x2 := by
  obtain ⟨e1, e2⟩ := gc_eq hg
  rw [← e1, ← e2] at K
  have H' : gx_Sl o s (gs_of (gs_rev g 8)) := gx_Sl_cg (fun a ha => (gs_of_rev ha).symm) H
  unfold wpX_chromosomesOf
  dsimp only
  refine gx_clear fun p hp => ?_
  exact ⟨8 + 1, gx_c9 hs (gs_inv hg) H' 8 0 [] 0 p rfl (gx_PB_cg hp fun x _ => ⟨fun k => k.elim, fun k => absurd k List.not_mem_nil⟩) K⟩
end
theorem gy_b1 : ∀ m, m < 16 → ∀ k, k < 4 → (((nI m >>> (nI k &&& 31)) &&& 1) = 1 ↔ m / 2 ^ k % 2 = 1) := by decide +kernel
theorem gy_b2 : ∀ m, m < 16 → ∀ k, k < 4 → nI m ||| ((1 : Int32) <<< (nI k &&& 31)) = nI (m ||| 2 ^ k) ∧ m ||| 2 ^ k < 16 := by decide +kernel
theorem gy_b3 : ∀ m, m < 16 → ∀ k, k < 4 → ((nI m &&& (((1 : Int32) <<< (nI k &&& 31)) - 1)) = 0 ↔ m % 2 ^ k = 0) := by decide +kernel
theorem gy_b4 : ∀ k, k < 4 → (1 : Int32) <<< (nI k &&& 31) = nI (2 ^ k) ∧ 2 ^ k < 16 := by decide +kernel
theorem gc_tg_lt {g : Nat → Nat} (hg : gd_Inv g) : ∀ d i m, m < 16 → gc_tg g d i m < 16
  | 0, _, m, h => h
  | d + 1, i, m, h => by
    rw [gc_tg]
    have hb := (hg (i % 8) (Nat.mod_lt _ (by decide))).1
    split
    · exact gc_tg_lt hg d (i + 1) _ (gy_b2 m h _ (by omega)).2
    · exact gc_tg_lt hg d (i + 1) m h
section
variable {p se nu : Nat → Int32} {s : Nat} {g : Nat → Nat}
theorem gy_tgL {post : Int32 → Prop} (hs : s < 5) (hg : gd_Inv g) (H : gy_Sl p s g) : ∀ d i m, i + d = 32 → m < 16 → post (nI (gc_tg g d i m)) → wY_together_7 post (nI s) p se nu (d + 1) (nI m) (nI i)
  | 0, i, m, hi, hm, K => by
    have e : i = 32 := by omega
    subst e
    exact br_t (nI_le (a := 32) (Nat.le_refl 32) (by decide)) K
  | d + 1, i, m, hi, hm, K => by
    have n32 : ¬ (32 : Int32) ≤ nI i := nI_ge (b := 32) (by omega) (by decide)
    have a8 : i % 8 < 8 := Nat.mod_lt _ (by decide)
    have hb := (hg _ a8).1
    have e1 : nI i - nI i / 8 * 8 = nI (i % 8) := pk_rem (d := 8) (by omega) (by decide) (by decide)
    have e2 : nI (i % 8) / 2 = nI (i % 8 / 2) := pk_div (d := 2) (by omega) (by decide) (by decide)
    have e3 : nI (g (i % 8)) / 2 = nI (g (i % 8) / 2) := pk_div (d := 2) (by omega) (by decide) (by decide)
    rw [gc_tg] at K
    refine br_f n32 ⟨by decide, nm_r e1 ⟨gy_in hs a8, ?_⟩⟩
    rw [gy_cl hs a8]
    refine nm_r (H _ a8) ⟨by decide, ?_⟩
    rw [e2, e3, gy_b1 m hm _ (by omega), (gy_b2 m hm (g (i % 8) / 2) (by omega)).1]
    refine br_c (fun e => ?_) (fun e => ?_)
    · rw [if_pos e] at K
      exact ⟨by decide, nm_e (nm_r gx_nI1 (gy_tgL hs hg H d (i + 1) _ (by omega) (gy_b2 m hm _ (by omega)).2 K))⟩
    · rw [if_neg e] at K
      exact nm_r gx_nI1 (gy_tgL hs hg H d (i + 1) m (by omega) hm K)
theorem gy_tg {post : Int32 → Prop} {a : Nat} (hs : s < 5) (ha : a < 4) (hg : gd_Inv g) (H : gy_Sl p s g) (K : post (nI (gc_tg g 32 0 (2 ^ a)))) : wpY_together post (p, se, nu) (nI s) (nI a) := by
  unfold wpY_together
  dsimp only
  exact nm_r (gy_b4 a ha).1 ⟨32 + 1, gy_tgL hs hg H 32 0 _ rfl (gy_b4 a ha).2 K⟩
theorem gy_cyL {post : Int32 → Prop} (hs : s < 5) (hg : gd_Inv g) (H : gy_Sl p s g) : ∀ d i c, i + d = 4 → post (nI (gc_cy g d i c)) → wY_chromosomes_14 post (nI s) p se nu (d + 1) (nI c) (nI i)
  | 0, i, c, hi, K => by
    have e : i = 4 := by omega
    subst e
    exact br_t (nI_le (a := 4) (Nat.le_refl 4) (by decide)) K
  | d + 1, i, c, hi, K => by
    have n4 : ¬ (4 : Int32) ≤ nI i := nI_ge (b := 4) (by omega) (by decide)
    have i4 : i < 4 := by omega
    have m16 := gc_tg_lt hg 32 0 _ (gy_b4 i i4).2
    rw [gc_cy] at K
    refine br_f n4 (gy_tg hs i4 hg H ?_)
    rw [gy_b3 _ m16 i i4]
    refine br_c (fun e => ?_) (fun e => ?_)
    · rw [if_pos e] at K
      exact nm_r gx_nI1 (nm_r gx_nI1 (gy_cyL hs hg H d (i + 1) (c + 1) (by omega) K))
    · rw [if_neg e] at K
      exact nm_r gx_nI1 (gy_cyL hs hg H d (i + 1) c (by omega) K)
theorem gy_rdL {post : Int32 → Prop} {m : Nat} (hs : s < 5) (hg : gd_Inv g) (H : gy_Sl p s g) (hm : m < 16) : ∀ d i, i + d = 8 → (gc_rd g m d i = true → post 1) → (gc_rd g m d i = false → post 0) → wY_isRound_2 post (nI s) (nI m) p se nu (d + 1) (nI i)
  | 0, i, hi, K1, K0 => by
    have e : i = 8 := by omega
    subst e
    exact br_t gx_le8 (K1 rfl)
  | d + 1, i, hi, K1, K0 => by
    have i8 : i < 8 := by omega
    have e2 : nI i / 2 = nI (i / 2) := pk_div (d := 2) (by omega) (by decide) (by decide)
    rw [gc_rd] at K1 K0
    refine br_f (gx_nle8 i8) ⟨by decide, ?_⟩
    rw [e2, gy_b1 m hm _ (by omega)]
    refine br_c (fun e => ?_) (fun e => ?_)
    · rw [if_pos e] at K1 K0
      refine gy_loose hs i8 hg H (fun e3 => ?_) (fun e3 => ?_)
      · rw [if_pos e3] at K0
        exact br_f (by decide) (K0 rfl)
      · rw [if_neg e3] at K1 K0
        exact br_t rfl (nm_r gx_nI1 (gy_rdL hs hg H hm d (i + 1) (by omega) K1 K0))
    · rw [if_neg e] at K1 K0
      exact nm_r gx_nI1 (gy_rdL hs hg H hm d (i + 1) (by omega) K1 K0)
theorem gy_rd {post : Int32 → Prop} {m : Nat} (hs : s < 5) (hg : gd_Inv g) (H : gy_Sl p s g) (hm : m < 16) (K1 : gc_rd g m 8 0 = true → post 1) (K0 : gc_rd g m 8 0 = false → post 0) : wpY_isRound post (p, se, nu) (nI s) (nI m) := by
  unfold wpY_isRound
  dsimp only
  exact ⟨8 + 1, gy_rdL hs hg H hm 8 0 rfl K1 K0⟩
theorem gy_ryL {post : Int32 → Prop} (hs : s < 5) (hg : gd_Inv g) (H : gy_Sl p s g) : ∀ d i c, i + d = 4 → post (nI (gc_ry g d i c)) → wY_round_14 post (nI s) p se nu (d + 1) (nI c) (nI i)
  | 0, i, c, hi, K => by
    have e : i = 4 := by omega
    subst e
    exact br_t (nI_le (a := 4) (Nat.le_refl 4) (by decide)) K
  | d + 1, i, c, hi, K => by
    have n4 : ¬ (4 : Int32) ≤ nI i := nI_ge (b := 4) (by omega) (by decide)
    have i4 : i < 4 := by omega
    have m16 := gc_tg_lt hg 32 0 _ (gy_b4 i i4).2
    rw [gc_ry] at K
    refine br_f n4 (gy_tg hs i4 hg H ?_)
    rw [gy_b3 _ m16 i i4]
    refine br_c (fun e => ?_) (fun e => ?_)
    · rw [if_pos e] at K
      refine gy_rd hs hg H m16 (fun e2 => ?_) (fun e2 => ?_)
      · rw [if_pos e2] at K
        exact br_f (by decide) (nm_r gx_nI1 (nm_r gx_nI1 (gy_ryL hs hg H d (i + 1) (c + 1) (by omega) K)))
      · rw [if_neg (by rw [e2]; decide)] at K
        exact br_t rfl (nm_r gx_nI1 (gy_ryL hs hg H d (i + 1) c (by omega) K))
    · rw [if_neg e] at K
      exact nm_r gx_nI1 (gy_ryL hs hg H d (i + 1) c (by omega) K)
end
end
section
/-! the numbers of genomes in the reference -/
def gn_N (j : Nat) : Nat := [1, 1, 2, 4, 10, 26, 76, 232, 764].getD j 0
def gn_bits (m : Nat) : Nat → Nat
  | 0 => 0
  | i + 1 => gn_bits m i + m / 2 ^ i % 2
def gn_clr (m a : Nat) : Nat := m &&& (4294967295 - 2 ^ a)
def gn_num (g : Nat → Nat) : Nat → Nat → Nat → Nat → Nat → Option Nat
  | 0, _, n, _, _ => some n
  | d + 1, a, n, l, k =>
    if g a = a then (if k = 0 then none else gn_num g d (a + 1) n (gn_clr l a) (k - 1))
    else if g a ≤ a then gn_num g d (a + 1) n (gn_clr l a) k
    else if k < 2 ∨ 9 < k then none
    else gn_num g d (a + 1) (n + gn_N (k - 1) + gn_bits (gn_clr l a &&& (2 ^ g a - 2 ^ (a + 1))) 8 * gn_N (k - 2)) (gn_clr (gn_clr l a) (g a)) (k - 2)
def gn_bitAt (m : Nat) : Nat → Nat → Nat → Nat
  | 0, _, _ => 0
  | d + 1, i, k => if m / 2 ^ i % 2 = 1 then (if k = 0 then i else gn_bitAt m d (i + 1) (k - 1)) else gn_bitAt m d (i + 1) k
def gn_set : Nat → Nat → Nat → Nat → Nat → (Nat → Nat) → Option (Nat → Nat)
  | 0, _, _, _, _, g => some g
  | d + 1, a, q, l, k, g =>
    if l / 2 ^ a % 2 = 1 then
      (if k < 1 ∨ 9 < k then none
       else if gn_N (k - 1) ≤ q then
         (if k < 2 then none
          else if gn_bitAt (gn_clr l a) 8 0 ((q - gn_N (k - 1)) / gn_N (k - 2)) = a then none
          else gn_set d (a + 1) ((q - gn_N (k - 1)) % gn_N (k - 2)) (gn_clr (gn_clr l a) (gn_bitAt (gn_clr l a) 8 0 ((q - gn_N (k - 1)) / gn_N (k - 2)))) (k - 2) (gd_tie g a (gn_bitAt (gn_clr l a) 8 0 ((q - gn_N (k - 1)) / gn_N (k - 2)))))
       else gn_set d (a + 1) q (gn_clr l a) (k - 1) g)
    else gn_set d (a + 1) q l k g
def gn_cd (g : Nat → Nat) : Nat → Nat → Nat
  | 0, _ => 0
  | d + 1, a => (g a + 1) + 9 * gn_cd g d (a + 1)
def gn_dg (c a : Nat) : Nat := c / 9 ^ a % 9 - 1
def gn_Y (i : Nat) : Option (Nat → Nat) := gn_set 8 0 i 255 8 (fun a => a)
def gn_cy (i : Nat) : Nat := match gn_Y i with
  | none => 0
  | some g => gn_cd g 8 0
def gn_all8 (P : Nat → Bool) : Bool := [0, 1, 2, 3, 4, 5, 6, 7].all P
theorem gn_all8_d {P : Nat → Bool} (h : gn_all8 P = true) {a : Nat} (ha : a < 8) : P a = true := by
  refine List.all_eq_true.mp h a ?_
  simp only [List.mem_cons, List.not_mem_nil, or_false]
  omega
def gn_chkN (l : List Nat) : Bool := match gn_num (gs_of l) 8 0 0 255 8 with
  | none => false
  | some r => Nat.blt r 764 && (match gn_Y r with
    | none => false
    | some h => gn_all8 (fun a => Nat.beq (h a) (gs_of l a)))
theorem gn_okN : gs_tst gn_chkN 8 0 [] = true := by decide +kernel
def gn_id (g : Nat → Nat) : Nat := (gn_num (gs_of (gs_rev g 8)) 8 0 0 255 8).getD 0
theorem gn_id_ok {g : Nat → Nat} (hg : gd_Inv g) : gn_num (gs_of (gs_rev g 8)) 8 0 0 255 8 = some (gn_id g) ∧ gn_id g < 764 ∧ ∃ h, gn_Y (gn_id g) = some h ∧ ∀ a, a < 8 → h a = g a := by
  have k := gs_all gn_okN hg
  unfold gn_chkN at k
  unfold gn_id
  cases e : gn_num (gs_of (gs_rev g 8)) 8 0 0 255 8 with
  | none => rw [e] at k; cases k
  | some r =>
    rw [e] at k
    dsimp only at k
    rw [Bool.and_eq_true] at k
    have k1 : r < 764 := Nat.le_of_ble_eq_true k.1
    have k2 := k.2
    refine ⟨rfl, k1, ?_⟩
    show ∃ h, gn_Y r = some h ∧ ∀ a, a < 8 → h a = g a
    cases e2 : gn_Y r with
    | none => rw [e2] at k2; cases k2
    | some h =>
      rw [e2] at k2
      refine ⟨h, rfl, fun a ha => ?_⟩
      have := Nat.eq_of_beq_eq_true (gn_all8_d k2 ha)
      rw [this, gs_of_rev ha]
theorem gn_id_inj {g h : Nat → Nat} (hg : gd_Inv g) (hh : gd_Inv h) (e : gn_id g = gn_id h) : ∀ a, a < 8 → g a = h a := by
  obtain ⟨_, _, x, hx, ex⟩ := gn_id_ok hg
  obtain ⟨_, _, y, hy, ey⟩ := gn_id_ok hh
  rw [e, hy] at hx
  cases hx
  intro a ha
  rw [← ex a ha, ey a ha]
theorem gn_id_cg {g h : Nat → Nat} (e : ∀ a, a < 8 → g a = h a) : gn_id g = gn_id h := by
  have : ∀ k, k ≤ 8 → gs_rev g k = gs_rev h k := by
    intro k
    induction k with
    | zero => intro _; rfl
    | succ k ih =>
      intro hk
      rw [gs_rev, gs_rev, ih (by omega), e k (by omega)]
  unfold gn_id
  rw [this 8 (Nat.le_refl 8)]
def gn_chkY (i : Nat) : Bool := match gn_Y i with
  | none => false
  | some g => gn_all8 (fun a => Nat.blt (g a) 8 && (Nat.beq (g (g a)) a && (Nat.blt 0 (gn_cd g 8 0 / 9 ^ a % 9) && Nat.beq (gn_dg (gn_cd g 8 0) a) (g a)))) && Nat.blt (gn_cd g 8 0) 2147483648
theorem gn_okY : (List.range 764).all gn_chkY = true := by decide +kernel
theorem gn_Y_ok {i : Nat} (hi : i < 764) : ∃ g, gn_Y i = some g ∧ gd_Inv g ∧ (∀ a, a < 8 → g a = gn_dg (gn_cy i) a) ∧ gn_cy i < 2 ^ 31 ∧ ∀ a, a < 8 → 0 < gn_cy i / 9 ^ a % 9 := by
  have k := List.all_eq_true.mp gn_okY i (List.mem_range.mpr hi)
  unfold gn_chkY at k
  cases e : gn_Y i with
  | none => rw [e] at k; cases k
  | some g =>
    rw [e] at k
    dsimp only at k
    rw [Bool.and_eq_true] at k
    have ec : gn_cy i = gn_cd g 8 0 := by
      unfold gn_cy
      rw [e]
    have q : ∀ a, a < 8 → g a < 8 ∧ g (g a) = a ∧ 0 < gn_cd g 8 0 / 9 ^ a % 9 ∧ gn_dg (gn_cd g 8 0) a = g a := by
      intro a ha
      have h := gn_all8_d k.1 ha
      rw [Bool.and_eq_true, Bool.and_eq_true, Bool.and_eq_true] at h
      exact ⟨Nat.le_of_ble_eq_true h.1, Nat.eq_of_beq_eq_true h.2.1, Nat.le_of_ble_eq_true h.2.2.1, Nat.eq_of_beq_eq_true h.2.2.2⟩
    rw [ec]
    exact ⟨g, rfl, fun a ha => ⟨(q a ha).1, (q a ha).2.1⟩, fun a ha => (q a ha).2.2.2.symm, Nat.le_of_ble_eq_true k.2, fun a ha => (q a ha).2.2.1⟩
def gy_Nu (nu : Nat → Int32) : Prop := ∀ j, j < 9 → nu j = nI (gn_N j)
theorem gn_bit {m k : Nat} (hm : m < 2 ^ 31) (hk : k < 32) : (nI m >>> (nI k &&& 31)) &&& 1 = nI (m / 2 ^ k % 2) := by
  have h : m / 2 ^ k ≤ m := Nat.div_le_self _ _
  rw [pk_shrN hm _ k (s_l k hk), pk_andN (by omega) 1 (by decide)]
theorem gn_bit1 {m k : Nat} (hm : m < 2 ^ 31) (hk : k < 32) : ((nI m >>> (nI k &&& 31)) &&& 1) = 1 ↔ m / 2 ^ k % 2 = 1 := by
  rw [gn_bit hm hk]
  exact nI_eq (b := 1) (by omega) (by decide)
theorem gn_not1 : ∀ a, a < 8 → ((1 : Int32) <<< (nI a &&& 31)) ^^^ (-1) = nI (4294967295 - 2 ^ a) := by decide +kernel
theorem gn_clrI (m : Nat) {a : Nat} (ha : a < 8) : nI m &&& (((1 : Int32) <<< (nI a &&& 31)) ^^^ (-1)) = nI (gn_clr m a) := by
  rw [gn_not1 a ha, nx_and]
  rfl
theorem gn_clr_le (m a : Nat) : gn_clr m a ≤ m := Nat.and_le_left
theorem gn_btw : ∀ a, a < 8 → ∀ b, b < 8 → a < b → ((1 : Int32) <<< (nI b &&& 31)) - ((2 : Int32) <<< (nI a &&& 31)) = nI (2 ^ b - 2 ^ (a + 1)) := by decide +kernel
theorem gn_Npos : ∀ j, j < 9 → 0 < gn_N j ∧ gn_N j < 1000 := by decide
theorem gn_bitAt_lt (m : Nat) : ∀ d i k, i + d ≤ 8 → gn_bitAt m d i k < 8
  | 0, _, _, _ => by rw [gn_bitAt]; decide
  | d + 1, i, k, h => by
    rw [gn_bitAt]
    split
    · split
      · omega
      · exact gn_bitAt_lt m d (i + 1) _ (by omega)
    · exact gn_bitAt_lt m d (i + 1) _ (by omega)
theorem gy_32 (a : Nat) : 32 + nI a = nI (32 + a) := nI_add 32 a
theorem gy_32in {a : Nat} (ha : a < 8) : vp_in (32 + nI a) 40 := by rw [gy_32]; exact vp_in_nI (by omega) (by decide)
theorem gy_32cl {a : Nat} (ha : a < 8) : (32 + nI a).toNatClampNeg = 8 * 4 + a := by rw [gy_32]; exact nI_clamp (by omega)
theorem gn_k1 {k : Nat} (h : 1 ≤ k) : nI k - 1 = nI (k - 1) := pk_sub (b := 1) h
theorem gn_k2 {k : Nat} (h : 2 ≤ k) : nI k - 2 = nI (k - 2) := pk_sub (b := 2) h
section
variable {p se nu : Nat → Int32} {g : Nat → Nat}
theorem gy_bitsL {post : Int32 → Prop} {m : Nat} (hm : m < 2 ^ 31) (K : post (nI (gn_bits m 8))) : ∀ d i, i + d = 8 → wY_bits_4 post (nI m) p se nu (d + 1) (nI (gn_bits m i)) (nI i)
  | 0, i, hi => by
    have e : i = 8 := by omega
    subst e
    exact br_t gx_le8 K
  | d + 1, i, hi => by
    have i8 : i < 8 := by omega
    have ih := gy_bitsL hm K d (i + 1) (by omega)
    refine br_f (gx_nle8 i8) ?_
    rw [gn_bit hm (by omega), nI_add]
    exact nm_e (nm_r gx_nI1 ih)
theorem gy_bits {post : Int32 → Prop} {m : Nat} (hm : m < 2 ^ 31) (K : post (nI (gn_bits m 8))) : wpY_bits post (p, se, nu) (nI m) := by
  unfold wpY_bits
  dsimp only
  exact ⟨8 + 1, gy_bitsL hm K 8 0 rfl⟩
theorem gy_numL {post : Int32 → Prop} (hg : gd_Inv g) (H : gy_Sl p 4 g) (N : gy_Nu nu) {res : Nat} (K : post (nI res)) : ∀ d a n l k, a + d = 8 → l < 2 ^ 31 → gn_num g d a n l k = some res → wY_numberOf_12 post p se nu (d + 1) (nI n) (nI l) (nI k) (nI a)
  | 0, a, n, l, k, ha, hl, h => by
    have e : a = 8 := by omega
    subst e
    rw [gn_num] at h
    cases h
    exact br_t gx_le8 K
  | d + 1, a, n, l, k, ha, hl, h => by
    have a8 : a < 8 := by omega
    have hb := (hg a a8).1
    have hl' : gn_clr l a < 2 ^ 31 := Nat.lt_of_le_of_lt (gn_clr_le l a) hl
    rw [gn_num] at h
    refine br_f (gx_nle8 a8) ⟨gy_32in a8, ?_⟩
    rw [gy_32cl a8, gn_clrI l a8]
    refine nm_r (H a a8) (nm_e ?_)
    rw [gy_eq8 hb a8]
    by_cases e1 : g a = a
    · rw [if_pos e1] at h
      by_cases k0 : k = 0
      · rw [if_pos k0] at h
        cases h
      · rw [if_neg k0] at h
        refine br_t e1 (nm_r (sb_m1 (by omega)) ?_)
        unfold wY_numberOf_50
        rw [gy_le8 hb a8]
        exact br_t (by omega) (nm_r gx_nI1 (gy_numL hg H N K d (a + 1) n _ _ (by omega) hl' h))
    · rw [if_neg e1] at h
      refine br_f e1 ?_
      unfold wY_numberOf_50
      rw [gy_le8 hb a8]
      by_cases e2 : g a ≤ a
      · rw [if_pos e2] at h
        exact br_t e2 (nm_r gx_nI1 (gy_numL hg H N K d (a + 1) n _ _ (by omega) hl' h))
      · rw [if_neg e2] at h
        by_cases e3 : k < 2 ∨ 9 < k
        · rw [if_pos e3] at h
          cases h
        · rw [if_neg e3] at h
          have k2 : 2 ≤ k := by omega
          refine br_f e2 ?_
          rw [gn_btw a a8 _ hb (by omega), nx_and, gn_clrI _ hb, gn_k1 (by omega), gn_k2 k2, nI_clamp (by omega), nI_clamp (by omega), N _ (by omega), N _ (by omega)]
          refine nm_e ⟨vp_in_nI (by omega) (by decide), gy_bits (Nat.lt_of_le_of_lt Nat.and_le_left hl') ⟨vp_in_nI (by omega) (by decide), ?_⟩⟩
          rw [pk_mul, nI_add, nI_add]
          refine nm_e (nm_e (nm_e (nm_r gx_nI1 ?_)))
          exact gy_numL hg H N K d (a + 1) _ _ _ (by omega) (Nat.lt_of_le_of_lt (gn_clr_le _ _) hl') h
theorem gy_number {post : Int32 → Prop} (hg : gd_Inv g) (H : gy_Sl p 4 g) (N : gy_Nu nu) (K : post (nI (gn_id g))) : wpY_numberOf post (p, se, nu) := by
  have H' : gy_Sl p 4 (gs_of (gs_rev g 8)) := gy_Sl_cg (fun a ha => (gs_of_rev ha).symm) H
  unfold wpY_numberOf
  dsimp only
  exact ⟨8 + 1, gy_numL (gs_inv hg) H' N K 8 0 0 255 8 rfl (by decide) (gn_id_ok hg).1⟩
theorem gy_bitAtL {post : Int32 → Prop} {m : Nat} (hm : m < 2 ^ 31) : ∀ d i k, i + d = 8 → k < 2 ^ 31 → post (nI (gn_bitAt m d i k)) → wY_bitAt_5 post (nI m) p se nu (d + 1) (nI k) (nI i)
  | 0, i, k, hi, hk, K => by
    have e : i = 8 := by omega
    subst e
    exact br_t gx_le8 K
  | d + 1, i, k, hi, hk, K => by
    have i8 : i < 8 := by omega
    rw [gn_bitAt] at K
    refine br_f (gx_nle8 i8) ?_
    rw [gn_bit1 hm (by omega)]
    refine br_c (fun e => ?_) (fun e => ?_)
    · rw [if_pos e] at K
      by_cases k0 : k = 0
      · rw [if_pos k0] at K
        subst k0
        exact br_t rfl K
      · rw [if_neg k0] at K
        exact br_f (nI_ne0 (by omega) hk) (nm_r (sb_m1 (by omega)) (nm_r gx_nI1 (gy_bitAtL hm d (i + 1) _ (by omega) (by omega) K)))
    · rw [if_neg e] at K
      exact nm_r gx_nI1 (gy_bitAtL hm d (i + 1) k (by omega) hk K)
theorem gy_bitAt {post : Int32 → Prop} {m k : Nat} (hm : m < 2 ^ 31) (hk : k < 2 ^ 31) (K : post (nI (gn_bitAt m 8 0 k))) : wpY_bitAt post (p, se, nu) (nI m) (nI k) := by
  unfold wpY_bitAt
  dsimp only
  exact ⟨8 + 1, gy_bitAtL hm 8 0 k rfl hk K⟩
theorem gy_set41 {post : SY → Prop} (N : gy_Nu nu) {p0 : Nat → Int32} {res : Nat → Nat} (K : ∀ p', gy_Sl p' 4 res → gx_Fr 4 p0 p' → post (p', se, nu)) : ∀ d a q l k g p, a + d = 8 → q < 2 ^ 31 → l < 2 ^ 31 → gy_Sl p 4 g → gx_Fr 4 p0 p → gn_set d a q l k g = some res → wY_setNumber_41 post (d + 1) (nI q) (nI l) (nI k) (nI a) p se nu
  | 0, a, q, l, k, g, p, ha, hq, hl, H, F, h => by
    have e : a = 8 := by omega
    subst e
    rw [gn_set] at h
    cases h
    exact br_t gx_le8 (K p H F)
  | d + 1, a, q, l, k, g, p, ha, hq, hl, H, F, h => by
    have a8 : a < 8 := by omega
    have hl' : gn_clr l a < 2 ^ 31 := Nat.lt_of_le_of_lt (gn_clr_le l a) hl
    rw [gn_set] at h
    refine br_f (gx_nle8 a8) ?_
    rw [gn_bit1 hl (by omega), gn_clrI l a8]
    by_cases e1 : l / 2 ^ a % 2 = 1
    · rw [if_pos e1] at h
      refine br_t e1 (nm_e ?_)
      by_cases e2 : k < 1 ∨ 9 < k
      · rw [if_pos e2] at h
        cases h
      · rw [if_neg e2] at h
        have n1 := gn_Npos (k - 1) (by omega)
        rw [gn_k1 (by omega), nI_clamp (by omega)]
        refine ⟨vp_in_nI (by omega) (by decide), nm_r (N _ (by omega)) ?_⟩
        rw [nI_leI (by omega) hq]
        by_cases e3 : gn_N (k - 1) ≤ q
        · rw [if_pos e3] at h
          refine br_t e3 ?_
          by_cases e4 : k < 2
          · rw [if_pos e4] at h
            cases h
          · rw [if_neg e4] at h
            have n2 := gn_Npos (k - 2) (by omega)
            rw [gn_k2 (by omega), nI_clamp (by omega), N _ (by omega), pk_sub e3]
            by_cases e5 : gn_bitAt (gn_clr l a) 8 0 ((q - gn_N (k - 1)) / gn_N (k - 2)) = a
            · rw [if_pos e5] at h
              cases h
            · rw [if_neg e5] at h
              have b8 := gn_bitAt_lt (gn_clr l a) 8 0 ((q - gn_N (k - 1)) / gn_N (k - 2)) (Nat.le_refl 8)
              have hq1 : q - gn_N (k - 1) < 2 ^ 31 := by omega
              have hq2 : (q - gn_N (k - 1)) / gn_N (k - 2) < 2 ^ 31 := Nat.lt_of_le_of_lt (Nat.div_le_self _ _) hq1
              have hq3 : (q - gn_N (k - 1)) % gn_N (k - 2) < 2 ^ 31 := Nat.lt_of_le_of_lt (Nat.mod_le _ _) hq1
              have nz : ¬ nI (gn_N (k - 2)) = 0 := nI_ne0 n2.1 (by omega)
              refine nm_e ⟨vp_in_nI (by omega) (by decide), nz, ?_⟩
              rw [pk_div hq1 n2.1 (by omega)]
              refine gy_bitAt hl' hq2 ⟨vp_in_nI (by omega) (by decide), nz, ?_⟩
              have er : nI (q - gn_N (k - 1)) - nI ((q - gn_N (k - 1)) / gn_N (k - 2)) * nI (gn_N (k - 2)) = nI ((q - gn_N (k - 1)) % gn_N (k - 2)) := by
                rw [← pk_div hq1 n2.1 (by omega)]
                exact pk_rem hq1 n2.1 (by omega)
              refine nm_r er ?_
              refine gy_link (s := 4) (by decide) a8 b8 (fun e => e5 e.symm) H fun p1 H1 F1 => ?_
              refine nm_r (gn_clrI _ b8) (nm_e (nm_r gx_nI1 ?_))
              exact gy_set41 N K d (a + 1) _ _ _ _ p1 (by omega) hq3 (Nat.lt_of_le_of_lt (gn_clr_le _ _) hl') H1 (gx_Fr_tr F F1) h
        · rw [if_neg e3] at h
          exact br_f e3 (nm_r (sb_m1 (by omega)) (nm_r gx_nI1 (gy_set41 N K d (a + 1) q _ _ g p (by omega) hq hl' H F h)))
    · rw [if_neg e1] at h
      exact br_f e1 (nm_r gx_nI1 (gy_set41 N K d (a + 1) q l k g p (by omega) hq hl H F h))
theorem gy_set13 {post : SY → Prop} {x2 x3 x4 : Int32} {p0 : Nat → Int32} (K : ∀ p', gy_Sl p' 4 (fun a => a) → gx_Fr 4 p0 p' → ∃ n, wY_setNumber_41 post n x2 x3 x4 0 p' se nu) : ∀ d i p, i + d = 8 → (∀ a, a < i → p (8 * 4 + a) = nI a) → gx_Fr 4 p0 p → wY_setNumber_13 post x2 x3 x4 (d + 1) (nI i) p se nu
  | 0, i, p, hi, h, F => by
    have e : i = 8 := by omega
    subst e
    exact br_t gx_le8 (K p h F)
  | d + 1, i, p, hi, h, F => by
    have i8 : i < 8 := by omega
    refine br_f (gx_nle8 i8) ⟨gy_32in i8, ?_⟩
    rw [gy_32cl i8]
    refine nm_e (nm_r gx_nI1 (gy_set13 K d (i + 1) _ (by omega) ?_ (gx_Fr_tr F (gx_Fr_u i8))))
    intro a ha
    by_cases e : a = i
    · subst e
      exact pk_us
    · rw [pk_un (by omega)]
      exact h a (by omega)
theorem gy_setN {post : SY → Prop} {i : Nat} (hi : i < 764) (N : gy_Nu nu) (K : ∀ p', gy_Sl p' 4 (gn_dg (gn_cy i)) → gx_Fr 4 p p' → post (p', se, nu)) : wpY_setNumber post (p, se, nu) (nI i) := by
  obtain ⟨res, h, _, hd, _⟩ := gn_Y_ok hi
  unfold wpY_setNumber
  dsimp only
  refine ⟨8 + 1, gy_set13 (p0 := p) (fun p1 H1 F1 => ⟨8 + 1, ?_⟩) 8 0 p rfl (fun a ha => absurd ha (Nat.not_lt_zero a)) (gx_Fr_rfl 4 p)⟩
  exact gy_set41 N (fun p' H F => K p' (gy_Sl_cg hd H) F) 8 0 i 255 8 (fun a => a) p1 rfl (by omega) (by decide) H1 F1 h
end
end
section
/-! the component's list of all genomes -/
def gn_dig (c a : Nat) : Nat := c / 9 ^ a % 9
def gn_f (a c : Nat) : Nat := if gn_dig c a = 0 then c + 9 ^ a * (a + 1) else c
def gn_exl (a c : Nat) : Nat → Nat → List Nat
  | 0, _ => []
  | d + 1, b => if gn_dig c b = 0 then (c + 9 ^ a * (b + 1) + 9 ^ b * (a + 1)) :: gn_exl a c d (b + 1) else gn_exl a c d (b + 1)
def gn_ext (a c : Nat) : List Nat := if gn_dig c a = 0 then gn_exl a c (7 - a) (a + 1) else []
def gn_level (a : Nat) (G : List Nat) : List Nat := G.map (gn_f a) ++ G.flatMap (gn_ext a)
def gn_lv : Nat → List Nat
  | 0 => [0]
  | a + 1 => gn_level a (gn_lv a)
def gn_CY : List Nat := (List.range 764).map gn_cy
def gn_chkL (i : Nat) : Bool := Nat.ble (gn_lv i).length 764 && (gn_lv i).all (fun c => Nat.blt c 2147483648)
theorem gn_okL : [0, 1, 2, 3, 4, 5, 6, 7, 8].all gn_chkL = true := by decide +kernel
theorem gn_len8 : (gn_lv 8).length = 764 := by decide +kernel
theorem gn_perm0 : (gn_lv 8).isPerm gn_CY = true := by decide +kernel
theorem gn_perm : (gn_lv 8).Perm gn_CY := List.isPerm_iff.mp gn_perm0
theorem gn_lv_ok {i : Nat} (hi : i ≤ 8) : (gn_lv i).length ≤ 764 ∧ ∀ c, c ∈ gn_lv i → c < 2 ^ 31 := by
  have h := List.all_eq_true.mp gn_okL i (by
    simp only [List.mem_cons, List.not_mem_nil, or_false]
    omega)
  unfold gn_chkL at h
  rw [Bool.and_eq_true] at h
  exact ⟨Nat.le_of_ble_eq_true h.1, fun c hc => Nat.le_of_ble_eq_true (List.all_eq_true.mp h.2 c hc)⟩
/-- what holds of every genome's number in the list -/
def gn_Gd (c : Nat) : Prop := gd_Inv (gn_dg c) ∧ c < 2 ^ 31 ∧ ∀ a, a < 8 → 0 < c / 9 ^ a % 9
theorem gn_gdY {i : Nat} (hi : i < 764) : gn_Gd (gn_cy i) := by
  obtain ⟨g, _, hg, e, lt, pos⟩ := gn_Y_ok hi
  refine ⟨fun a ha => ?_, lt, pos⟩
  have h := hg a ha
  rw [← e a ha]
  exact ⟨h.1, by rw [← e _ h.1]; exact h.2⟩
theorem gn_gd {c : Nat} (h : c ∈ gn_lv 8) : gn_Gd c := by
  have h2 := gn_perm.mem_iff.mp h
  obtain ⟨i, hi, e⟩ := List.mem_map.mp h2
  subst e
  exact gn_gdY (List.mem_range.mp hi)
/-- the array's first cells hold a list -/
def gn_Ar (ge : Nat → Int32) (L : List Nat) : Prop := ∀ j, j < L.length → ge j = nI (L.getD j 0)
theorem gn_Ar_app {ge : Nat → Int32} {L : List Nat} {v : Nat} (h : gn_Ar ge L) : gn_Ar (upd ge L.length (nI v)) (L ++ [v]) := by
  intro j hj
  rw [List.length_append, List.length_singleton] at hj
  by_cases e : j = L.length
  · subst e
    rw [pk_us, List.getD_eq_getElem?_getD, List.getElem?_append_right (Nat.le_refl _), Nat.sub_self]
    rfl
  · rw [pk_un e, h j (by omega), List.getD_eq_getElem?_getD, List.getD_eq_getElem?_getD, List.getElem?_append_left (by omega)]
theorem gn_mid (M R : List Nat) (c v : Nat) : (M ++ c :: R).set M.length v = M ++ v :: R := by
  induction M with
  | nil => rfl
  | cons x t ih => rw [List.cons_append, List.length_cons, List.set_cons_succ, ih, List.cons_append]
theorem gn_midg (M R : List Nat) (c : Nat) : (M ++ c :: R).getD M.length 0 = c := by
  rw [List.getD_eq_getElem?_getD, List.getElem?_append_right (Nat.le_refl _), Nat.sub_self]
  rfl
theorem gn_Ar_set {ge : Nat → Int32} {M R : List Nat} {c v : Nat} (h : gn_Ar ge (M ++ c :: R)) : gn_Ar (upd ge M.length (nI v)) (M ++ v :: R) := by
  intro j hj
  have l1 : (M ++ v :: R).length = (M ++ c :: R).length := by rw [List.length_append, List.length_append, List.length_cons, List.length_cons]
  by_cases e : j = M.length
  · subst e
    rw [pk_us, gn_midg]
  · rw [pk_un e, h j (by omega), ← gn_mid M R c v, List.getD_eq_getElem?_getD, List.getD_eq_getElem?_getD, List.getElem?_set_ne (fun k => e k.symm)]
theorem gn_9 : (9 : Int32) = nI 9 := rfl
theorem gn_d9 {c i : Nat} (hc : c < 2 ^ 31) : nI (c / 9 ^ i) / 9 = nI (c / 9 ^ (i + 1)) := by
  have h : c / 9 ^ i ≤ c := Nat.div_le_self _ _
  rw [gn_9, pk_div (by omega) (by decide) (by decide), Nat.div_div_eq_div_mul, ← Nat.pow_succ]
theorem gn_r9 {c i : Nat} (hc : c < 2 ^ 31) : nI (c / 9 ^ i) - nI (c / 9 ^ i) / 9 * 9 = nI (c / 9 ^ i % 9) := by
  have h : c / 9 ^ i ≤ c := Nat.div_le_self _ _
  exact pk_rem (d := 9) (by omega) (by decide) (by decide)
section
variable {fl ff : Int32} {o ge pa fc : Nat → Int32}
theorem gx_digL {post : Int32 → Prop} {c a : Nat} (hc : c < 2 ^ 31) (ha : a < 8) (K : post (nI (gn_dig c a))) : ∀ d i, i + d = a → wX_digitOf_5 post (nI a) fl ff o ge pa fc (d + 1) (nI (c / 9 ^ i)) (nI i)
  | 0, i, hi => by
    have e : i = a := by omega
    subst e
    refine br_t (nI_le (Nat.le_refl _) (by omega)) ⟨by decide, ?_⟩
    rw [gn_r9 hc]
    exact K
  | d + 1, i, hi => by
    refine br_f (nI_ge (by omega) (by omega)) ⟨by decide, nm_r (gn_d9 hc) (nm_r gx_nI1 (gx_digL hc ha K d (i + 1) (by omega)))⟩
theorem gx_dig {post : Int32 → Prop} {c a : Nat} (hc : c < 2 ^ 31) (ha : a < 8) (K : post (nI (gn_dig c a))) : wpX_digitOf post (fl, ff, o, ge, pa, fc) (nI c) (nI a) := by
  unfold wpX_digitOf
  dsimp only
  have h := gx_digL (fl := fl) (ff := ff) (o := o) (ge := ge) (pa := pa) (fc := fc) hc ha K a 0 (Nat.zero_add a)
  rw [Nat.pow_zero, Nat.div_one] at h
  exact ⟨a + 1, h⟩
theorem gx_weiL {post : Int32 → Prop} {a : Nat} (ha : a < 8) (K : post (nI (9 ^ a))) : ∀ d i, i + d = a → wX_weightOf_4 post (nI a) fl ff o ge pa fc (d + 1) (nI (9 ^ i)) (nI i)
  | 0, i, hi => by
    have e : i = a := by omega
    subst e
    exact br_t (nI_le (Nat.le_refl _) (by omega)) K
  | d + 1, i, hi => by
    have e : nI (9 ^ i) * 9 = nI (9 ^ (i + 1)) := by rw [gn_9, pk_mul, ← Nat.pow_succ]
    exact br_f (nI_ge (by omega) (by omega)) (nm_r e (nm_r gx_nI1 (gx_weiL ha K d (i + 1) (by omega))))
theorem gx_wei {post : Int32 → Prop} {a : Nat} (ha : a < 8) (K : post (nI (9 ^ a))) : wpX_weightOf post (fl, ff, o, ge, pa, fc) (nI a) := by
  unfold wpX_weightOf
  dsimp only
  exact ⟨a + 1, gx_weiL ha K a 0 (Nat.zero_add a)⟩
theorem gx_zero {n : Nat} {A B : Prop} (hn : n < 2 ^ 31) (h1 : n = 0 → A) (h0 : n ≠ 0 → B) : (nI n = 0 → A) ∧ (¬ nI n = 0 → B) := by
  by_cases e : n = 0
  · subst e
    exact br_t rfl (h1 rfl)
  · exact br_f (nI_ne0 (by omega) hn) (h0 e)
theorem gn_dig_lt (c a : Nat) : gn_dig c a < 2 ^ 31 := by
  have : gn_dig c a < 9 := Nat.mod_lt _ (by decide)
  omega
theorem gx_set24 {post : SX → Prop} {M R0 : List Nat} {c a : Nat} (hc : c < 2 ^ 31) (ha : a < 8) (hM : M.length < 764) (x4 : Int32) (e4 : x4 = nI c)
    (K : ∀ ge', gn_Ar ge' (M ++ (c + 9 ^ a * (a + 1)) :: (R0 ++ gn_exl a c (7 - a) (a + 1))) → post (nI (M ++ (c + 9 ^ a * (a + 1)) :: (R0 ++ gn_exl a c (7 - a) (a + 1))).length, ff, o, ge', pa, fc)) :
    ∀ d b R ge, b + d = 8 → R ++ gn_exl a c d b = R0 ++ gn_exl a c (7 - a) (a + 1) → gn_Ar ge (M ++ c :: R) → M.length + 1 + (R ++ gn_exl a c d b).length ≤ 764 → wX_settle_24 post (nI M.length) (nI a) (nI (9 ^ a)) x4 ff (d + 1) (nI b) (nI (M ++ c :: R).length) o ge pa fc
  | 0, b, R, ge, hb, hR, A, le => by
    have e : b = 8 := by omega
    subst e
    rw [gn_exl, List.append_nil] at hR
    refine br_t gx_le8 ⟨vp_in_nI hM (by decide), ?_⟩
    rw [nI_clamp (by omega), e4, nI_1, pk_mul, nI_add]
    refine nm_e ?_
    have A' := gn_Ar_set (v := c + 9 ^ a * (a + 1)) A
    rw [hR] at A'
    have l1 : (M ++ c :: R).length = (M ++ (c + 9 ^ a * (a + 1)) :: (R0 ++ gn_exl a c (7 - a) (a + 1))).length := by
      rw [List.length_append, List.length_append, List.length_cons, List.length_cons, hR]
    rw [l1]
    exact K _ A'
  | d + 1, b, R, ge, hb, hR, A, le => by
    have b8 : b < 8 := by omega
    refine br_f (gx_nle8 b8) ?_
    rw [e4]
    rw [gn_exl] at hR le
    refine gx_dig hc b8 (gx_zero (gn_dig_lt c b) (fun z => ?_) (fun z => ?_))
    · rw [if_pos z] at hR le
      rw [List.append_cons] at hR le
      have l0 : (M ++ c :: R).length < 764 := by
        rw [List.length_append, List.length_append, List.length_singleton] at le
        rw [List.length_append, List.length_cons]
        omega
      refine gx_wei b8 ⟨vp_in_nI l0 (by decide), ?_⟩
      rw [nI_clamp (by omega), nI_1, nI_1, pk_mul, pk_mul, nI_add, nI_add, nI_1]
      refine nm_e (nm_e (nm_e ?_))
      have A' := gn_Ar_app (v := c + 9 ^ a * (b + 1) + 9 ^ b * (a + 1)) A
      rw [List.append_assoc, List.cons_append] at A'
      have l1 : (M ++ c :: R).length + 1 = (M ++ c :: (R ++ [c + 9 ^ a * (b + 1) + 9 ^ b * (a + 1)])).length := by
        rw [List.length_append, List.length_append, List.length_cons, List.length_cons, List.length_append, List.length_singleton]
        omega
      rw [l1]
      exact gx_set24 hc ha hM (nI c) rfl K d (b + 1) _ _ (by omega) hR A' le
    · rw [if_neg z] at hR le
      exact nm_r gx_nI1 (gx_set24 hc ha hM (nI c) rfl K d (b + 1) R ge (by omega) hR A le)
theorem gx_settle {post : SX → Prop} {M R : List Nat} {c a : Nat} (hc : c < 2 ^ 31) (ha : a < 8) (le : M.length + 1 + (R ++ gn_ext a c).length ≤ 764) (A : gn_Ar ge (M ++ c :: R))
    (K : ∀ ge', gn_Ar ge' (M ++ gn_f a c :: (R ++ gn_ext a c)) → post (nI (M ++ gn_f a c :: (R ++ gn_ext a c)).length, ff, o, ge', pa, fc)) : wpX_settle post (nI (M ++ c :: R).length, ff, o, ge, pa, fc) (nI M.length) (nI a) (nI (9 ^ a)) := by
  have hM : M.length < 764 := by omega
  unfold wpX_settle
  dsimp only
  have e : ge M.length = nI c := by
    rw [A M.length (by rw [List.length_append, List.length_cons]; omega), gn_midg]
  refine ⟨vp_in_nI hM (by decide), ?_⟩
  rw [nI_clamp (by omega)]
  refine nm_r e ?_
  unfold gn_f gn_ext at K
  unfold gn_ext at le
  refine gx_dig hc ha (gx_zero (gn_dig_lt c a) (fun z => ?_) (fun z => ?_))
  · rw [if_pos z, if_pos z] at K
    rw [if_pos z] at le
    exact nm_r gx_nI1 ⟨(7 - a) + 1, gx_set24 hc ha hM (nI c) rfl K (7 - a) (a + 1) R ge (by omega) rfl A le⟩
  · rw [if_neg z, if_neg z, List.append_nil] at K
    exact K ge A
theorem gx_l41 {post : SX → Prop} {J : Int32 → Int32 → Int32 → Int32 → (Nat → Int32) → (Nat → Int32) → (Nat → Int32) → (Nat → Int32) → Prop} {G : List Nat} {a : Nat} (ha : a < 8) (hG : ∀ c, c ∈ G → c < 2 ^ 31) (hl : (gn_level a G).length ≤ 764)
    (K : ∀ ge', gn_Ar ge' (gn_level a G) → J (nI (9 ^ (a + 1))) (nI (a + 1)) (nI (gn_level a G).length) ff o ge' pa fc) :
    ∀ B A ge, A ++ B = G → gn_Ar ge (A.map (gn_f a) ++ (B ++ A.flatMap (gn_ext a))) → wX_listAll_41 post J (nI (9 ^ a)) (nI a) (nI G.length) (B.length + 1) (nI A.length) (nI (A.map (gn_f a) ++ (B ++ A.flatMap (gn_ext a))).length) ff o ge pa fc
  | [], A, ge, e, hA => by
    rw [List.append_nil] at e
    subst e
    have e9 : nI (9 ^ a) * 9 = nI (9 ^ (a + 1)) := by rw [gn_9, pk_mul, ← Nat.pow_succ]
    have lA : A.length ≤ 764 := by
      unfold gn_level at hl
      rw [List.length_append, List.length_map] at hl
      omega
    exact br_t (nI_le (Nat.le_refl _) (by omega)) (nm_r e9 (nm_r gx_nI1 (K ge hA)))
  | c :: B, A, ge, e, hA => by
    have lG : G.length ≤ 764 := by
      unfold gn_level at hl
      rw [List.length_append, List.length_map] at hl
      omega
    have lA : A.length < G.length := by
      rw [← e, List.length_append, List.length_cons]
      omega
    have hc : c < 2 ^ 31 := hG c (by rw [← e]; exact List.mem_append_right _ (List.mem_cons_self ..))
    have eA : (A.map (gn_f a)).length = A.length := List.length_map ..
    refine br_f (nI_ge lA (by omega)) ?_
    rw [List.cons_append] at hA ⊢
    rw [← eA]
    have hlen : (gn_level a G).length = A.length + (B.length + 1) + ((A.flatMap (gn_ext a)).length + (gn_ext a c).length + (B.flatMap (gn_ext a)).length) := by
      unfold gn_level
      rw [← e, List.length_append, List.length_map, List.length_append, List.length_cons, List.flatMap_append, List.flatMap_cons, List.length_append, List.length_append]
      omega
    have nx : (A.map (gn_f a)) ++ gn_f a c :: (B ++ A.flatMap (gn_ext a) ++ gn_ext a c) = (A ++ [c]).map (gn_f a) ++ (B ++ (A ++ [c]).flatMap (gn_ext a)) := by
      rw [List.map_append, List.flatMap_append, List.map_singleton, List.flatMap_singleton, List.append_assoc, List.append_assoc]
      rfl
    refine gx_settle hc ha ?_ hA fun ge' hA' => ?_
    · rw [eA, List.length_append, List.length_append]
      omega
    · rw [nx] at hA' ⊢
      have ih := gx_l41 (post := post) ha hG hl K B (A ++ [c]) ge' (by rw [List.append_assoc]; exact e) hA'
      rw [List.length_append, List.length_singleton] at ih
      rw [eA]
      exact nm_r gx_nI1 ih
theorem gx_l27 {post : SX → Prop} (K : ∀ ge', gn_Ar ge' (gn_lv 8) → post (764, ff, o, ge', pa, fc)) : ∀ d a ge, a + d = 8 → gn_Ar ge (gn_lv a) → wX_listAll_27 post (d + 1) (nI (9 ^ a)) (nI a) (nI (gn_lv a).length) ff o ge pa fc
  | 0, a, ge, h, A => by
    have e : a = 8 := by omega
    subst e
    rw [gn_len8]
    exact br_t gx_le8 (K ge A)
  | d + 1, a, ge, h, A => by
    have a8 : a < 8 := by omega
    have h1 := gn_lv_ok (i := a) (by omega)
    have h2 := gn_lv_ok (i := a + 1) (by omega)
    refine br_f (gx_nle8 a8) ⟨(gn_lv a).length + 1, ?_⟩
    have A' : gn_Ar ge ([].map (gn_f a) ++ (gn_lv a ++ [].flatMap (gn_ext a))) := by
      rw [List.map_nil, List.flatMap_nil, List.append_nil, List.nil_append]
      exact A
    have w := gx_l41 (post := post) (J := wX_listAll_27 post (d + 1)) (ff := ff) (o := o) (pa := pa) (fc := fc) (G := gn_lv a) a8 h1.2 h2.1 (fun ge' hA' => gx_l27 K d (a + 1) ge' (by omega) hA') (gn_lv a) [] ge rfl A'
    rw [List.map_nil, List.flatMap_nil, List.append_nil, List.nil_append] at w
    exact w
theorem gx_list {post : SX → Prop} (I : fl = 0 ∨ (fl = 764 ∧ gn_Ar ge (gn_lv 8))) (K : ∀ ge', gn_Ar ge' (gn_lv 8) → post (764, ff, o, ge', pa, fc)) : wpX_listAll post (fl, ff, o, ge, pa, fc) := by
  unfold wpX_listAll
  dsimp only
  rcases I with e | ⟨e, A⟩
  · subst e
    refine br_f (by decide) (nm_e ⟨8 + 1, ?_⟩)
    refine gx_l27 K 8 0 _ rfl ?_
    intro j hj
    have e : j = 0 := by
      have : j < 1 := hj
      omega
    subst e
    exact pk_us
  · subst e
    exact br_t rfl (K ge A)
end
end
section
/-! sums of distances over all genomes -/
def gx_St (o : Nat → Int32) (q : Nat → Nat → Nat) : Prop := ∀ t, t < 3 → gx_Sl o t (q t)
def gy_St (p : Nat → Int32) (q : Nat → Nat → Nat) : Prop := ∀ t, t < 3 → gy_Sl p t (q t)
def gj_Q (q : Nat → Nat → Nat) : Prop := ∀ t, t < 3 → gd_Inv (q t)
theorem gx_St_Fr {o o' : Nat → Int32} {q : Nat → Nat → Nat} {s : Nat} (h : gx_St o q) (hs : 3 ≤ s) (F : gx_Fr s o o') : gx_St o' q := fun t ht => gx_Fr_Sl F (by omega) (h t ht)
theorem gy_St_Fr {o o' : Nat → Int32} {q : Nat → Nat → Nat} {s : Nat} (h : gy_St o q) (hs : 3 ≤ s) (F : gx_Fr s o o') : gy_St o' q := fun t ht => gy_Fr_Sl F (by omega) (h t ht)
noncomputable def gm_sm (q : Nat → Nat → Nat) (c : Nat) : Nat → Nat
  | 0 => 0
  | t + 1 => gm_sm q c t + gd_dist (gn_dg c) (q t)
noncomputable def gm_F (q : Nat → Nat → Nat) (c : Nat) : Nat := gm_sm q c 3
theorem gm_F_12 {q : Nat → Nat → Nat} (hq : gj_Q q) {c : Nat} (hc : gn_Gd c) : gm_F q c ≤ 12 := by
  have h0 := gd_dist_4 hc.1 (hq 0 (by decide))
  have h1 := gd_dist_4 hc.1 (hq 1 (by decide))
  have h2 := gd_dist_4 hc.1 (hq 2 (by decide))
  unfold gm_F
  rw [gm_sm, gm_sm, gm_sm, gm_sm]
  omega
def gm_mn (b x : Nat) : Nat := if b ≤ x then b else x
theorem gm_mn_c (z x y : Nat) : gm_mn (gm_mn z x) y = gm_mn (gm_mn z y) x := by
  unfold gm_mn
  repeat' split
  all_goals omega
theorem gm_mn_le (b x : Nat) : gm_mn b x ≤ b ∧ gm_mn b x ≤ x := by
  unfold gm_mn
  split <;> omega
section
variable {fl ff : Int32} {o ge pa fc : Nat → Int32} {q : Nat → Nat → Nat}
theorem gx_loadL {post : SX → Prop} {c : Nat} {o0 : Nat → Int32} (hc : gn_Gd c) (K : ∀ o', gx_Sl o' 4 (gn_dg c) → gx_Fr 4 o0 o' → post (fl, ff, o', ge, pa, fc)) : ∀ d i o, i + d = 8 → (∀ a, a < i → o (8 * 4 + a) = gx_enc (gn_dg c) a) → gx_Fr 4 o0 o → wX_load_9 post fl ff (d + 1) (nI (c / 9 ^ i)) (nI i) o ge pa fc
  | 0, i, o, hi, h, F => by
    have e : i = 8 := by omega
    subst e
    exact br_t gx_le8 (K o h F)
  | d + 1, i, o, hi, h, F => by
    have i8 : i < 8 := by omega
    have pos := hc.2.2 i i8
    have e1 : (nI (c / 9 ^ i) - nI (c / 9 ^ i) / 9 * 9) - 1 = nI (gn_dg c i) := by
      rw [gn_r9 hc.2.1]
      exact pk_sub (b := 1) pos
    have d8 := (hc.1 i i8).1
    refine br_f (gx_nle8 i8) ⟨by decide, nm_r e1 ⟨by decide, nm_r (gn_d9 hc.2.1) ?_⟩⟩
    rw [gy_eq8 d8 i8, gy_32cl i8]
    have next : ∀ v, v = gx_enc (gn_dg c) i → wX_load_9 post fl ff (d + 1) (nI (c / 9 ^ (i + 1))) (nI (i + 1)) (upd o (8 * 4 + i) v) ge pa fc := by
      intro v hv
      refine gx_loadL hc K d (i + 1) _ (by omega) (fun a ha => ?_) (gx_Fr_tr F (gx_Fr_u i8))
      by_cases e : a = i
      · subst e
        rw [pk_us]
        exact hv
      · rw [pk_un (by omega)]
        exact h a (by omega)
    refine br_c (fun e => ⟨gy_32in i8, nm_e (nm_r gx_nI1 (next _ ?_))⟩) (fun e => ⟨gy_32in i8, nm_e (nm_r gx_nI1 (next _ ?_))⟩)
    · exact (gx_encL e).symm
    · exact (gx_encJ e).symm
theorem gx_load {post : SX → Prop} {c k : Nat} (hc : gn_Gd c) (hk : k < 764) (e : ge k = nI c) (K : ∀ o', gx_Sl o' 4 (gn_dg c) → gx_Fr 4 o o' → post (fl, ff, o', ge, pa, fc)) : wpX_load post (fl, ff, o, ge, pa, fc) (nI k) := by
  unfold wpX_load
  dsimp only
  refine ⟨vp_in_nI hk (by decide), ?_⟩
  rw [nI_clamp (by omega)]
  refine nm_r e ⟨8 + 1, ?_⟩
  have h := gx_loadL (fl := fl) (ff := ff) (ge := ge) (pa := pa) (fc := fc) hc K 8 0 o rfl (fun a ha => absurd ha (Nat.not_lt_zero a)) (gx_Fr_rfl 4 o)
  rw [Nat.pow_zero, Nat.div_one] at h
  exact h
theorem gx_sumL {post : Int32 → SX → Prop} {c : Nat} (hq : gj_Q q) (hc : gn_Gd c) (S : gx_St o q) (H : gx_Sl o 4 (gn_dg c)) (K : ∀ p', post (nI (gm_F q c)) (fl, ff, o, ge, p', fc)) : ∀ d i p, i + d = 3 → wX_sumAt_9 post (d + 1) (nI (gm_sm q c i)) (nI i) fl ff o ge p fc
  | 0, i, p, hi => by
    have e : i = 3 := by omega
    subst e
    exact br_t (nI_le (a := 3) (Nat.le_refl 3) (by decide)) (K p)
  | d + 1, i, p, hi => by
    have i3 : i < 3 := by omega
    refine br_f (nI_ge (b := 3) i3 (by decide)) (gx_dist (s := 4) (r := i) (by decide) (by omega) hc.1 (hq i i3) H (S i i3) fun p' => ?_)
    exact nm_r (nI_add _ _) (nm_r gx_nI1 (gx_sumL hq hc S H K d (i + 1) p' (by omega)))
theorem gx_sum {post : Int32 → SX → Prop} {c k : Nat} (hq : gj_Q q) (hc : gn_Gd c) (hk : k < 764) (e : ge k = nI c) (S : gx_St o q) (K : ∀ o' p', gx_St o' q → post (nI (gm_F q c)) (fl, ff, o', ge, p', fc)) : wpX_sumAt post (fl, ff, o, ge, pa, fc) (nI k) := by
  unfold wpX_sumAt
  dsimp only
  refine gx_load hc hk e fun o' H F => ?_
  have S' := gx_St_Fr S (by decide) F
  exact ⟨3 + 1, gx_sumL hq hc S' H (fun p' => K o' p' S') 3 0 pa rfl⟩
theorem gx_at {ge : Nat → Int32} {A B : List Nat} {c : Nat} (h : gn_Ar ge (gn_lv 8)) (e : A ++ c :: B = gn_lv 8) : A.length < 764 ∧ ge A.length = nI c ∧ gn_Gd c := by
  have l : A.length < (gn_lv 8).length := by
    rw [← e, List.length_append, List.length_cons]
    omega
  have l2 := l
  rw [gn_len8] at l2
  refine ⟨l2, ?_, gn_gd (by rw [← e]; exact List.mem_append_right _ (List.mem_cons_self ..))⟩
  rw [h _ l, ← e, gn_midg]
theorem gx_end {A : List Nat} (e : A ++ [] = gn_lv 8) : A.length = 764 := by
  rw [← gn_len8, ← e, List.append_nil]
theorem gx_nxt {A B : List Nat} {c : Nat} {L : List Nat} (e : A ++ c :: B = L) : (A ++ [c]) ++ B = L := by
  rw [List.append_assoc]
  exact e
theorem gx_len1 (A : List Nat) (c : Nat) : nI A.length + 1 = nI (A ++ [c]).length := by
  rw [List.length_append, List.length_singleton]
  exact nI_1 _
theorem gx_le764 : (764 : Int32) ≤ nI 764 := nI_le (a := 764) (Nat.le_refl _) (by decide)
theorem gx_nle764 {i : Nat} (h : i < 764) : ¬ (764 : Int32) ≤ nI i := nI_ge (b := 764) h (by decide)
theorem gx_midL {post : Int32 → SX → Prop} (hq : gj_Q q) (A0 : gn_Ar ge (gn_lv 8)) : ∀ B A b o p, A ++ B = gn_lv 8 → b ≤ 100 → gx_St o q → (∀ o' p', gx_St o' q → post (nI (B.foldl (fun b c => gm_mn b (gm_F q c)) b)) (fl, ff, o', ge, p', fc)) → wX_middle_9 post (B.length + 1) (nI b) (nI A.length) fl ff o ge p fc
  | [], A, b, o, p, e, hb, S, K => by
    rw [gx_end e]
    exact br_t gx_le764 (K o p S)
  | c :: B, A, b, o, p, e, hb, S, K => by
    obtain ⟨lt, eg, gd⟩ := gx_at A0 e
    have f12 := gm_F_12 hq gd
    refine br_f (gx_nle764 lt) (gx_sum hq gd lt eg S fun o' p' S' => ?_)
    dsimp only
    rw [nI_leI (by omega) (by omega), gx_len1 A c]
    have hm := gm_mn_le b (gm_F q c)
    have ih := gx_midL hq A0 B (A ++ [c]) (gm_mn b (gm_F q c)) o' p' (gx_nxt e) (by omega) S' K
    unfold gm_mn at ih
    refine br_c (fun h => ?_) (fun h => ?_)
    · rw [if_pos h] at ih
      exact nm_e ih
    · rw [if_neg h] at ih
      exact nm_e ih
noncomputable def gm_best (q : Nat → Nat → Nat) (L : List Nat) : Nat := L.foldl (fun b c => gm_mn b (gm_F q c)) 100
theorem gm_best_p {q : Nat → Nat → Nat} {L M : List Nat} (h : L.Perm M) : gm_best q L = gm_best q M := by
  unfold gm_best
  exact h.foldl_eq' (f := fun b c => gm_mn b (gm_F q c)) (fun x _ y _ z => gm_mn_c z (gm_F q x) (gm_F q y)) 100
theorem gm_fold_le (F : Nat → Nat) : ∀ (L : List Nat) (b : Nat), L.foldl (fun b c => gm_mn b (F c)) b ≤ b ∧ ∀ c, c ∈ L → L.foldl (fun b c => gm_mn b (F c)) b ≤ F c
  | [], b => ⟨Nat.le_refl b, fun c h => absurd h List.not_mem_nil⟩
  | x :: t, b => by
    have h := gm_fold_le F t (gm_mn b (F x))
    have m := gm_mn_le b (F x)
    rw [List.foldl_cons]
    refine ⟨by omega, fun c hc => ?_⟩
    rcases List.mem_cons.mp hc with e | e
    · subst e
      omega
    · exact h.2 c e
theorem gx_middle {post : Int32 → SX → Prop} (hq : gj_Q q) (I : fl = 0 ∨ (fl = 764 ∧ gn_Ar ge (gn_lv 8))) (S : gx_St o q) (K : ∀ o' ge' p', gx_St o' q → gn_Ar ge' (gn_lv 8) → post (nI (gm_best q (gn_lv 8))) (764, ff, o', ge', p', fc)) : wpX_middle post (fl, ff, o, ge, pa, fc) := by
  unfold wpX_middle
  dsimp only
  refine gx_list I fun ge' A => ?_
  exact ⟨(gn_lv 8).length + 1, gx_midL hq A (gn_lv 8) [] 100 o pa rfl (Nat.le_refl _) S fun o' p' S' => K o' ge' p' S' A⟩
theorem gx_midsL {post : Int32 → SX → Prop} {m : Nat} (hm : m ≤ 100) (hq : gj_Q q) (A0 : gn_Ar ge (gn_lv 8)) : ∀ B A n o p, A ++ B = gn_lv 8 → gx_St o q → (∀ o' p', gx_St o' q → post (nI (n + B.countP (fun c => decide (gm_F q c = m)))) (fl, ff, o', ge, p', fc)) → wX_middles_9 post (nI m) (B.length + 1) (nI n) (nI A.length) fl ff o ge p fc
  | [], A, n, o, p, e, S, K => by
    rw [gx_end e]
    exact br_t gx_le764 (K o p S)
  | c :: B, A, n, o, p, e, S, K => by
    obtain ⟨lt, eg, gd⟩ := gx_at A0 e
    have f12 := gm_F_12 hq gd
    refine br_f (gx_nle764 lt) (gx_sum hq gd lt eg S fun o' p' S' => ?_)
    dsimp only
    rw [nI_eq (by omega) (by omega), gx_len1 A c]
    rw [List.countP_cons] at K
    refine br_c (fun h => ?_) (fun h => ?_)
    · rw [if_pos (decide_eq_true h)] at K
      refine nm_r gx_nI1 (nm_e (gx_midsL hm hq A0 B (A ++ [c]) (n + 1) o' p' (gx_nxt e) S' ?_))
      rw [show n + 1 + B.countP (fun c => decide (gm_F q c = m)) = n + (B.countP (fun c => decide (gm_F q c = m)) + 1) by omega]
      exact K
    · rw [if_neg (by rw [decide_eq_true_iff]; exact h)] at K
      exact nm_e (gx_midsL hm hq A0 B (A ++ [c]) n o' p' (gx_nxt e) S' K)
theorem gx_middles {post : Int32 → SX → Prop} (hq : gj_Q q) (I : fl = 0 ∨ (fl = 764 ∧ gn_Ar ge (gn_lv 8))) (S : gx_St o q) (K : ∀ o' ge' p', gx_St o' q → gn_Ar ge' (gn_lv 8) → post (nI ((gn_lv 8).countP (fun c => decide (gm_F q c = gm_best q (gn_lv 8))))) (764, ff, o', ge', p', fc)) : wpX_middles post (fl, ff, o, ge, pa, fc) := by
  unfold wpX_middles
  dsimp only
  refine gx_middle hq I S fun o' ge' p' S' A => ?_
  refine ⟨(gn_lv 8).length + 1, gx_midsL (gm_fold_le (gm_F q) (gn_lv 8) 100).1 hq A (gn_lv 8) [] 0 o' p' rfl S' fun o'' p'' S'' => ?_⟩
  rw [Nat.zero_add]
  exact K o'' ge' p'' S'' A
def gm_on (q : Nat → Nat → Nat) (s r : Nat) (x3 x4 x5 : Int32) (c : Nat) : Prop := nI (gd_dist (q s) (gn_dg c)) = x3 ∧ nI (gd_dist (gn_dg c) (q r)) = x5 - x3 ∧ nI (gj_up (gn_dg c) 8) = x4
theorem gx_otwL {post : Int32 → SX → Prop} {s r : Nat} {x3 x4 x5 : Int32} (hs : s < 3) (hr : r < 3) (hq : gj_Q q) (A0 : gn_Ar ge (gn_lv 8)) : ∀ B A o p, A ++ B = gn_lv 8 → gx_St o q → ((∃ c, c ∈ B ∧ gm_on q s r x3 x4 x5 c) → ∀ o' p', gx_St o' q → post 1 (fl, ff, o', ge, p', fc)) → ((¬ ∃ c, c ∈ B ∧ gm_on q s r x3 x4 x5 c) → ∀ o' p', gx_St o' q → post 0 (fl, ff, o', ge, p', fc)) → wX_onTheWay_33 post (nI s) (nI r) x3 x4 x5 (B.length + 1) (nI A.length) fl ff o ge p fc
  | [], A, o, p, e, S, K1, K0 => by
    rw [gx_end e]
    exact br_t gx_le764 (K0 (fun ⟨c, hc, _⟩ => absurd hc List.not_mem_nil) o p S)
  | c :: B, A, o, p, e, S, K1, K0 => by
    obtain ⟨lt, eg, gd⟩ := gx_at A0 e
    have ih : ¬ gm_on q s r x3 x4 x5 c → ∀ o' p', gx_St o' q → wX_onTheWay_33 post (nI s) (nI r) x3 x4 x5 (B.length + 1) (nI (A ++ [c]).length) fl ff o' ge p' fc := by
      intro nq o' p' S'
      refine gx_otwL hs hr hq A0 B (A ++ [c]) o' p' (gx_nxt e) S' (fun ⟨d, hd, k⟩ => K1 ⟨d, List.mem_cons_of_mem _ hd, k⟩) (fun k => K0 fun ⟨d, hd, kd⟩ => ?_)
      rcases List.mem_cons.mp hd with e2 | e2
      · subst e2
        exact nq kd
      · exact k ⟨d, e2, kd⟩
    refine br_f (gx_nle764 lt) (gx_load gd lt eg fun o' H F => ?_)
    have S' := gx_St_Fr S (by decide) F
    refine gx_dist (s := s) (r := 4) (by omega) (by decide) (hq s hs) gd.1 (S' s hs) H fun p1 => ?_
    refine gx_dist (s := 4) (r := r) (by decide) (by omega) gd.1 (hq r hr) H (S' r hr) fun p2 => ?_
    refine br_c (fun h1 => br_c (fun h2 => ?_) (fun h2 => ?_)) (fun h1 => ?_)
    · refine gx_joints (s := 4) (by decide) gd.1 H (br_c (fun h3 => ?_) (fun h3 => ?_))
      · exact K1 ⟨c, List.mem_cons_self .., h1, h2, h3⟩ o' p2 S'
      · exact nm_r (gx_len1 A c) (ih (fun k => h3 k.2.2) o' p2 S')
    · exact nm_r (gx_len1 A c) (ih (fun k => h2 k.2.1) o' p2 S')
    · exact nm_r (gx_len1 A c) (ih (fun k => h1 k.1) o' p2 S')
theorem gx_otw {post : Int32 → SX → Prop} {s r : Nat} {x3 x4 : Int32} (hs : s < 3) (hr : r < 3) (hq : gj_Q q) (I : fl = 0 ∨ (fl = 764 ∧ gn_Ar ge (gn_lv 8))) (S : gx_St o q) (K1 : (∃ c, c ∈ gn_lv 8 ∧ gm_on q s r x3 x4 (nI (gd_dist (q s) (q r))) c) → ∀ o' ge' p', gx_St o' q → gn_Ar ge' (gn_lv 8) → post 1 (764, ff, o', ge', p', fc)) (K0 : (¬ ∃ c, c ∈ gn_lv 8 ∧ gm_on q s r x3 x4 (nI (gd_dist (q s) (q r))) c) → ∀ o' ge' p', gx_St o' q → gn_Ar ge' (gn_lv 8) → post 0 (764, ff, o', ge', p', fc)) : wpX_onTheWay post (fl, ff, o, ge, pa, fc) (nI s) (nI r) x3 x4 := by
  unfold wpX_onTheWay
  dsimp only
  refine gx_bad0 hs (br_t rfl (gx_bad0 hr (br_t rfl (gx_list I fun ge' A => ?_))))
  refine gx_dist (s := s) (r := r) (by omega) (by omega) (hq s hs) (hq r hr) (S s hs) (S r hr) fun p1 => ?_
  exact ⟨(gn_lv 8).length + 1, gx_otwL hs hr hq A (gn_lv 8) [] o p1 rfl S (fun k o' p' S' => K1 k o' ge' p' S' A) (fun k o' p' S' => K0 k o' ge' p' S' A)⟩
end
end
section
/-! the reference's sums over all genomes -/
theorem gn_CY_len : gn_CY.length = 764 := by
  unfold gn_CY
  rw [List.length_map, List.length_range]
theorem gy_at {A B : List Nat} {c : Nat} (e : A ++ c :: B = gn_CY) : A.length < 764 ∧ gn_cy A.length = c := by
  have l : A.length < gn_CY.length := by
    rw [← e, List.length_append, List.length_cons]
    omega
  rw [gn_CY_len] at l
  refine ⟨l, ?_⟩
  have h := gn_midg A B c
  rw [e] at h
  unfold gn_CY at h
  rw [List.getD_eq_getElem?_getD, List.getElem?_map, List.getElem?_range l] at h
  exact h
theorem gy_end {A : List Nat} (e : A ++ [] = gn_CY) : A.length = 764 := by
  rw [← gn_CY_len, ← e, List.append_nil]
section
variable {p se nu : Nat → Int32} {q : Nat → Nat → Nat}
theorem gy_sum {post : Int32 → SY → Prop} {c : Nat} (hq : gj_Q q) (hc : gn_Gd c) (S : gy_St p q) (H : gy_Sl p 4 (gn_dg c)) (K : ∀ p', gy_St p' q → post (nI (gm_F q c)) (p', se, nu)) : wpY_sumOfWays post (p, se, nu) := by
  unfold wpY_sumOfWays
  dsimp only
  refine gy_way (s := 4) (r := 0) (by decide) (by decide) (by decide) hc.1 (hq 0 (by decide)) H (S 0 (by decide)) fun p1 F1 => ?_
  have S1 := gy_St_Fr S (by decide) F1
  have H1 := gy_Fr_Sl (t := 4) F1 (by decide) H
  refine gy_way (s := 4) (r := 1) (by decide) (by decide) (by decide) hc.1 (hq 1 (by decide)) H1 (S1 1 (by decide)) fun p2 F2 => ?_
  have S2 := gy_St_Fr S1 (by decide) F2
  have H2 := gy_Fr_Sl (t := 4) F2 (by decide) H1
  refine gy_way (s := 4) (r := 2) (by decide) (by decide) (by decide) hc.1 (hq 2 (by decide)) H2 (S2 2 (by decide)) fun p3 F3 => ?_
  have S3 := gy_St_Fr S2 (by decide) F3
  have k := K p3 S3
  unfold gm_F at k
  rw [gm_sm, gm_sm, gm_sm, gm_sm, Nat.zero_add, ← nI_add, ← nI_add] at k
  exact k
theorem gy_midL {post : Int32 → SY → Prop} (hq : gj_Q q) (N : gy_Nu nu) : ∀ B A b p, A ++ B = gn_CY → b ≤ 100 → gy_St p q → (∀ p', gy_St p' q → post (nI (B.foldl (fun b c => gm_mn b (gm_F q c)) b)) (p', se, nu)) → wY_middle_5 post (B.length + 1) (nI b) (nI A.length) p se nu
  | [], A, b, p, e, hb, S, K => by
    rw [gy_end e]
    exact br_t gx_le764 (K p S)
  | c :: B, A, b, p, e, hb, S, K => by
    obtain ⟨lt, eg⟩ := gy_at e
    have gd := gn_gdY lt
    refine br_f (gx_nle764 lt) (gy_setN lt N fun p1 H1 F1 => ?_)
    rw [eg] at gd H1
    have f12 := gm_F_12 hq gd
    refine gy_sum hq gd (gy_St_Fr S (by decide) F1) H1 fun p2 S2 => ?_
    dsimp only
    rw [nI_leI (by omega) (by omega), gx_len1 A c]
    have hm := gm_mn_le b (gm_F q c)
    have ih := gy_midL hq N B (A ++ [c]) (gm_mn b (gm_F q c)) p2 (gx_nxt e) (by omega) S2 K
    unfold gm_mn at ih
    refine br_c (fun h => ?_) (fun h => ?_)
    · rw [if_pos h] at ih
      exact nm_e ih
    · rw [if_neg h] at ih
      exact nm_e ih
theorem gy_middle {post : Int32 → SY → Prop} (hq : gj_Q q) (N : gy_Nu nu) (S : gy_St p q) (K : ∀ p', gy_St p' q → post (nI (gm_best q gn_CY)) (p', se, nu)) : wpY_middle post (p, se, nu) := by
  unfold wpY_middle
  dsimp only
  exact ⟨gn_CY.length + 1, gy_midL hq N gn_CY [] 100 p rfl (Nat.le_refl _) S K⟩
def gm_Iv (q : Nat → Nat → Nat) (A : List Nat) (b n : Nat) : Prop := b = A.foldl (fun b c => gm_mn b (gm_F q c)) 100 ∧ n = A.countP (fun c => decide (gm_F q c = b))
theorem gm_Iv_s {A : List Nat} {b n c : Nat} (I : gm_Iv q A b n) : (b ≤ gm_F q c → gm_F q c = b → gm_Iv q (A ++ [c]) b (n + 1)) ∧ (b ≤ gm_F q c → gm_F q c ≠ b → gm_Iv q (A ++ [c]) b n) ∧ (¬ b ≤ gm_F q c → gm_Iv q (A ++ [c]) (gm_F q c) 1) := by
  obtain ⟨e1, e2⟩ := I
  have low := (gm_fold_le (gm_F q) A 100).2
  rw [← e1] at low
  refine ⟨fun h1 h2 => ⟨?_, ?_⟩, fun h1 h2 => ⟨?_, ?_⟩, fun h1 => ⟨?_, ?_⟩⟩
  · rw [List.foldl_append, ← e1]
    show b = gm_mn b (gm_F q c)
    unfold gm_mn
    rw [if_pos h1]
  · rw [List.countP_append, ← e2, List.countP_singleton, if_pos (decide_eq_true h2)]
  · rw [List.foldl_append, ← e1]
    show b = gm_mn b (gm_F q c)
    unfold gm_mn
    rw [if_pos h1]
  · rw [List.countP_append, ← e2, List.countP_singleton, if_neg (by rw [decide_eq_true_iff]; exact h2)]
    rfl
  · rw [List.foldl_append, ← e1]
    show gm_F q c = gm_mn b (gm_F q c)
    unfold gm_mn
    rw [if_neg h1]
  · have z : A.countP (fun d => decide (gm_F q d = gm_F q c)) = 0 := by
      rw [List.countP_eq_zero]
      intro d hd k
      have h2 := low d hd
      have h3 := of_decide_eq_true k
      omega
    rw [List.countP_append, z, List.countP_singleton, if_pos (decide_eq_true rfl)]
theorem gy_m48 {post : Int32 → SY → Prop} {J : Int32 → Int32 → Int32 → (Nat → Int32) → (Nat → Int32) → (Nat → Int32) → Prop} {b x : Nat} {A : List Nat} {c : Nat} {z : Int32} (hb : b < 2 ^ 31) (hx : x < 2 ^ 31) (K1 : b ≤ x → J (nI b) z (nI (A ++ [c]).length) p se nu) (K0 : ¬ b ≤ x → J (nI x) z (nI (A ++ [c]).length) p se nu) : wY_middles_48 post J (nI b) (nI A.length) (nI x) z p se nu := by
  unfold wY_middles_48
  rw [nI_leI hb hx, gx_len1 A c]
  exact br_c (fun h => nm_e (K1 h)) (fun h => nm_e (K0 h))
theorem gy_midsL {post : Int32 → SY → Prop} (hq : gj_Q q) (N : gy_Nu nu) (K : ∀ b n p', gm_Iv q gn_CY b n → gy_St p' q → post (nI n) (p', se, nu)) : ∀ B A b n p, A ++ B = gn_CY → b ≤ 100 → gm_Iv q A b n → gy_St p q → wY_middles_7 post (B.length + 1) (nI b) (nI n) (nI A.length) p se nu
  | [], A, b, n, p, e, hb, I, S => by
    rw [gy_end e]
    rw [List.append_nil] at e
    rw [e] at I
    exact br_t gx_le764 (K b n p I S)
  | c :: B, A, b, n, p, e, hb, I, S => by
    obtain ⟨lt, eg⟩ := gy_at e
    have gd := gn_gdY lt
    refine br_f (gx_nle764 lt) (gy_setN lt N fun p1 H1 F1 => ?_)
    rw [eg] at gd H1
    have f12 := gm_F_12 hq gd
    have b31 : b < 2 ^ 31 := by omega
    have f31 : gm_F q c < 2 ^ 31 := by omega
    obtain ⟨i1, i2, i3⟩ := gm_Iv_s (c := c) I
    refine gy_sum hq gd (gy_St_Fr S (by decide) F1) H1 fun p2 S2 => ?_
    dsimp only
    rw [nI_leI b31 f31, nI_eq f31 b31]
    refine br_c (fun h => br_c (fun h2 => ?_) (fun h2 => ?_)) (fun h => ?_)
    · rw [gx_nI1]
      exact gy_m48 (c := c) b31 f31 (fun _ => gy_midsL hq N K B (A ++ [c]) b (n + 1) p2 (gx_nxt e) hb (i1 h h2) S2) (fun k => absurd h k)
    · exact gy_m48 (c := c) b31 f31 (fun _ => gy_midsL hq N K B (A ++ [c]) b n p2 (gx_nxt e) hb (i2 h h2) S2) (fun k => absurd h k)
    · exact gy_m48 (c := c) b31 f31 (fun k => absurd k h) (fun _ => gy_midsL hq N K B (A ++ [c]) _ 1 p2 (gx_nxt e) (by omega) (i3 h) S2)
theorem gy_middles {post : Int32 → SY → Prop} (hq : gj_Q q) (N : gy_Nu nu) (S : gy_St p q) (K : ∀ p', gy_St p' q → post (nI (gn_CY.countP (fun c => decide (gm_F q c = gm_best q gn_CY)))) (p', se, nu)) : wpY_middles post (p, se, nu) := by
  unfold wpY_middles
  dsimp only
  refine ⟨gn_CY.length + 1, gy_midsL hq N (fun b n p' I S' => ?_) gn_CY [] 100 0 p rfl (Nat.le_refl _) ⟨rfl, rfl⟩ S⟩
  obtain ⟨e1, e2⟩ := I
  rw [e2, e1]
  exact K p' S'
theorem gy_otwL {post : Int32 → SY → Prop} {s r : Nat} {x3 x4 x5 : Int32} (hs : s < 3) (hr : r < 3) (hq : gj_Q q) (N : gy_Nu nu) : ∀ B A p, A ++ B = gn_CY → gy_St p q → ((∃ c, c ∈ B ∧ gm_on q s r x3 x4 x5 c) → ∀ p', gy_St p' q → post 1 (p', se, nu)) → ((¬ ∃ c, c ∈ B ∧ gm_on q s r x3 x4 x5 c) → ∀ p', gy_St p' q → post 0 (p', se, nu)) → wY_onTheWay_29 post (nI s) (nI r) x3 x4 x5 (B.length + 1) (nI A.length) p se nu
  | [], A, p, e, S, K1, K0 => by
    rw [gy_end e]
    exact br_t gx_le764 (K0 (fun ⟨c, hc, _⟩ => absurd hc List.not_mem_nil) p S)
  | c :: B, A, p, e, S, K1, K0 => by
    obtain ⟨lt, eg⟩ := gy_at e
    have gd := gn_gdY lt
    have ih : ¬ gm_on q s r x3 x4 x5 c → ∀ p', gy_St p' q → wY_onTheWay_29 post (nI s) (nI r) x3 x4 x5 (B.length + 1) (nI (A ++ [c]).length) p' se nu := by
      intro nq p' S'
      refine gy_otwL hs hr hq N B (A ++ [c]) p' (gx_nxt e) S' (fun ⟨d, hd, k⟩ => K1 ⟨d, List.mem_cons_of_mem _ hd, k⟩) (fun k => K0 fun ⟨d, hd, kd⟩ => ?_)
      rcases List.mem_cons.mp hd with e2 | e2
      · subst e2
        exact nq kd
      · exact k ⟨d, e2, kd⟩
    refine br_f (gx_nle764 lt) (gy_setN lt N fun p1 H1 F1 => ?_)
    rw [eg] at gd H1
    have S1 := gy_St_Fr S (by decide) F1
    refine gy_count (s := 4) (by decide) gd.1 H1 (br_c (fun h3 => ?_) (fun h3 => ?_))
    · refine gy_way (s := 4) (r := s) (by decide) (by omega) (by omega) gd.1 (hq s hs) H1 (S1 s hs) fun p2 F2 => ?_
      have S2 := gy_St_Fr S1 (by decide) F2
      have H2 := gy_Fr_Sl (t := 4) F2 (by decide) H1
      dsimp only
      rw [gd_dist_sw gd.1 (hq s hs)]
      refine br_c (fun h1 => ?_) (fun h1 => ?_)
      · refine gy_way (s := 4) (r := r) (by decide) (by omega) (by omega) gd.1 (hq r hr) H2 (S2 r hr) fun p3 F3 => ?_
        have S3 := gy_St_Fr S2 (by decide) F3
        refine br_c (fun h2 => ?_) (fun h2 => ?_)
        · exact K1 ⟨c, List.mem_cons_self .., h1, h2, h3⟩ p3 S3
        · exact nm_r (gx_len1 A c) (ih (fun k => h2 k.2.1) p3 S3)
      · exact nm_r (gx_len1 A c) (ih (fun k => h1 k.1) p2 S2)
    · exact nm_r (gx_len1 A c) (ih (fun k => h3 k.2.2) p1 S1)
theorem gy_otw {post : Int32 → SY → Prop} {s r : Nat} {x3 x4 : Int32} (hs : s < 3) (hr : r < 3) (hq : gj_Q q) (N : gy_Nu nu) (S : gy_St p q) (K1 : (∃ c, c ∈ gn_CY ∧ gm_on q s r x3 x4 (nI (gd_dist (q s) (q r))) c) → ∀ p', gy_St p' q → post 1 (p', se, nu)) (K0 : (¬ ∃ c, c ∈ gn_CY ∧ gm_on q s r x3 x4 (nI (gd_dist (q s) (q r))) c) → ∀ p', gy_St p' q → post 0 (p', se, nu)) : wpY_onTheWay post (p, se, nu) (nI s) (nI r) x3 x4 := by
  unfold wpY_onTheWay
  dsimp only
  refine gy_slot1 hs (br_f (by decide) (gy_slot1 hr (br_f (by decide) ?_)))
  refine gy_way (s := s) (r := r) (by omega) (by omega) (by omega) (hq s hs) (hq r hr) (S s hs) (S r hr) fun p1 F1 => ?_
  exact ⟨gn_CY.length + 1, gy_otwL hs hr hq N gn_CY [] p1 rfl (gy_St_Fr S (by decide) F1) K1 K0⟩
end
end
section
/-! the genomes that come by one step: the component's count -/
def gt_Y (g : Nat → Nat) (a c : Nat) : Nat → Nat := if g a = c then gd_cut g a else gd_mk g a c
theorem gt_Y_inv {g : Nat → Nat} (hg : gd_Inv g) {a c : Nat} (ha : a < 8) (hc : c < 8) (ac : a ≠ c) : gd_Inv (gt_Y g a c) := by
  unfold gt_Y
  by_cases e : g a = c
  · rw [if_pos e]
    exact gd_cut_inv hg ha
  · rw [if_neg e]
    exact gd_M_inv hg (gd_mk_M hg ha hc ac e)
def gt_code (g : Nat → Nat) : Nat → Nat
  | 0 => 0
  | i + 1 => gt_code g i * 9 + (if g i = i then 8 else g i)
def gt_cd (g : Nat → Nat) : Nat := gt_code g 8
theorem gt_code_cg {g h : Nat → Nat} : ∀ k, (∀ a, a < k → g a = h a) → gt_code g k = gt_code h k
  | 0, _ => rfl
  | k + 1, e => by
    rw [gt_code, gt_code, gt_code_cg k (fun a ha => e a (by omega)), e k (by omega)]
theorem gt_cd_cg {g h : Nat → Nat} (e : ∀ a, a < 8 → g a = h a) : gt_cd g = gt_cd h := gt_code_cg 8 e
def gt_dec (x a : Nat) : Nat := if x / 9 ^ (7 - a) % 9 = 8 then a else x / 9 ^ (7 - a) % 9
def gt_chk (l : List Nat) : Bool := Nat.blt (gt_cd (gs_of l)) 2147483648 && gn_all8 (fun a => Nat.beq (gt_dec (gt_cd (gs_of l)) a) (gs_of l a))
theorem gt_ok : gs_tst gt_chk 8 0 [] = true := by decide +kernel
theorem gt_cd_ok {g : Nat → Nat} (hg : gd_Inv g) : gt_cd g < 2 ^ 31 ∧ ∀ a, a < 8 → gt_dec (gt_cd g) a = g a := by
  have h := gs_all gt_ok hg
  unfold gt_chk at h
  rw [Bool.and_eq_true, gt_cd_cg (h := g) (fun a ha => gs_of_rev ha)] at h
  refine ⟨Nat.le_of_ble_eq_true h.1, fun a ha => ?_⟩
  have k := Nat.eq_of_beq_eq_true (gn_all8_d h.2 ha)
  rwa [gs_of_rev ha] at k
theorem gt_cd_inj {g h : Nat → Nat} (hg : gd_Inv g) (hh : gd_Inv h) (e : gt_cd g = gt_cd h) : ∀ a, a < 8 → g a = h a := by
  intro a ha
  rw [← (gt_cd_ok hg).2 a ha, ← (gt_cd_ok hh).2 a ha, e]
/-- near enough -/
def gt_NE (w : Nat → Nat) (lim : Int32) (h : Nat → Nat) : Prop := lim < 0 ∨ nI (gd_dist h w) < lim
theorem gt_NE_cg {w g h : Nat → Nat} {lim : Int32} (hw : gd_Inv w) (hg : gd_Inv g) (hh : gd_Inv h) (e : ∀ a, a < 8 → g a = h a) : gt_NE w lim g ↔ gt_NE w lim h := by
  unfold gt_NE
  rw [gd_dist_cg hg hw hh hw e (fun _ _ => rfl)]
def gt_Pr (i j a c : Nat) : Prop := a < 8 ∧ c < 8 ∧ a ≠ c ∧ (a < i ∨ (a = i ∧ c < j))
def gt_In (g w : Nat → Nat) (lim : Int32) (sk : Nat → Nat → Prop) (i j x : Nat) : Prop := ∃ a c, gt_Pr i j a c ∧ ¬ sk a c ∧ gt_NE w lim (gt_Y g a c) ∧ x = gt_cd (gt_Y g a c)
def gt_Iv (g w : Nat → Nat) (lim : Int32) (sk : Nat → Nat → Prop) (i j : Nat) (K : List Nat) : Prop := K.Nodup ∧ (∀ x, x ∈ K ↔ gt_In g w lim sk i j x) ∧ K.length ≤ 8 * i + j
theorem gt_Pr_s {i j a c : Nat} (hi : i < 8) (hj : j < 8) : gt_Pr i (j + 1) a c ↔ gt_Pr i j a c ∨ (i ≠ j ∧ a = i ∧ c = j) := by
  unfold gt_Pr
  omega
theorem gt_Pr_e {i a c : Nat} : gt_Pr i 8 a c ↔ gt_Pr (i + 1) 0 a c := by
  unfold gt_Pr
  omega
section
variable {g w : Nat → Nat} {lim : Int32} {sk : Nat → Nat → Prop} {i j : Nat} {K : List Nat}
theorem gt_Iv_0 : gt_Iv g w lim sk 0 0 [] := by
  refine ⟨List.nodup_nil, fun x => ⟨fun h => absurd h List.not_mem_nil, ?_⟩, Nat.le_refl _⟩
  rintro ⟨a, c, h, _⟩
  unfold gt_Pr at h
  omega
theorem gt_Iv_e (I : gt_Iv g w lim sk i 8 K) : gt_Iv g w lim sk (i + 1) 0 K := by
  refine ⟨I.1, fun x => ?_, by have := I.2.2; omega⟩
  rw [I.2.1 x]
  unfold gt_In
  simp only [gt_Pr_e]
theorem gt_Iv_k (I : gt_Iv g w lim sk i j K) (hi : i < 8) (hj : j < 8) (h : i = j ∨ sk i j ∨ ¬ gt_NE w lim (gt_Y g i j) ∨ gt_cd (gt_Y g i j) ∈ K) : gt_Iv g w lim sk i (j + 1) K := by
  refine ⟨I.1, fun x => ?_, by have := I.2.2; omega⟩
  constructor
  · intro hx
    obtain ⟨a, c, p, r⟩ := (I.2.1 x).mp hx
    exact ⟨a, c, (gt_Pr_s hi hj).mpr (Or.inl p), r⟩
  · rintro ⟨a, c, p, r⟩
    rcases (gt_Pr_s hi hj).mp p with p | ⟨ne, ea, ec⟩
    · exact (I.2.1 x).mpr ⟨a, c, p, r⟩
    · subst ea ec
      rcases h with h | h | h | h
      · exact absurd h ne
      · exact absurd h r.1
      · exact absurd r.2.1 h
      · rw [r.2.2]
        exact h
theorem gt_Iv_a (I : gt_Iv g w lim sk i j K) (hi : i < 8) (hj : j < 8) (ne : i ≠ j) (ns : ¬ sk i j) (nr : gt_NE w lim (gt_Y g i j)) (nK : gt_cd (gt_Y g i j) ∉ K) : gt_Iv g w lim sk i (j + 1) (K ++ [gt_cd (gt_Y g i j)]) := by
  refine ⟨?_, fun x => ?_, by rw [List.length_append, List.length_singleton]; have := I.2.2; omega⟩
  · rw [List.nodup_append]
    refine ⟨I.1, List.nodup_cons.mpr ⟨List.not_mem_nil, List.nodup_nil⟩, fun x hx y hy e => ?_⟩
    rw [List.mem_singleton] at hy
    subst e
    subst hy
    exact nK hx
  · rw [List.mem_append, List.mem_singleton]
    constructor
    · rintro (hx | hx)
      · obtain ⟨a, c, p, r⟩ := (I.2.1 x).mp hx
        exact ⟨a, c, (gt_Pr_s hi hj).mpr (Or.inl p), r⟩
      · exact ⟨i, j, (gt_Pr_s hi hj).mpr (Or.inr ⟨ne, rfl, rfl⟩), ns, nr, hx⟩
    · rintro ⟨a, c, p, r⟩
      rcases (gt_Pr_s hi hj).mp p with p | ⟨_, ea, ec⟩
      · exact Or.inl ((I.2.1 x).mpr ⟨a, c, p, r⟩)
      · subst ea ec
        exact Or.inr r.2.2
theorem gt_Iv_lt (hg : gd_Inv g) (I : gt_Iv g w lim sk i j K) : ∀ x, x ∈ K → x < 2 ^ 31 := by
  intro x hx
  obtain ⟨a, c, p, _, _, e⟩ := (I.2.1 x).mp hx
  rw [e]
  exact (gt_cd_ok (gt_Y_inv hg p.1 p.2.1 p.2.2.1)).1
end
/-- the pairs that the component leaves out come out as the pairs turned about -/
theorem gt_turn {g : Nat → Nat} (hg : gd_Inv g) {a c : Nat} (ha : a < 8) (hc : c < 8) (ac : a ≠ c) (ga : g a = a) (gc : g c ≠ c) : gt_Y g a c = gt_Y g c a := by
  have h2 := hg c hc
  have e1 : ¬ g a = c := by rw [ga]; exact ac
  have e2 : ¬ g c = a := fun e => by
    rw [e, ga] at h2
    exact ac h2.2
  unfold gt_Y
  rw [if_neg e1, if_neg e2]
  unfold gd_mk
  rw [if_pos ga, if_neg gc, if_neg gc, if_pos ga]
  funext x
  unfold gd_tie
  by_cases xa : x = a
  · subst xa
    rw [if_pos rfl, if_neg ac, if_pos rfl]
  · rw [if_neg xa]
    by_cases xc : x = c
    · rw [if_pos xc, if_pos xc]
    · rw [if_neg xc, if_neg xc, if_neg xa]
def gt_sk (g : Nat → Nat) (a c : Nat) : Prop := g a = a ∧ g c ≠ c
theorem gt_same {g w : Nat → Nat} {lim : Int32} (hg : gd_Inv g) {K M : List Nat} (I : gt_Iv g w lim (gt_sk g) 8 0 K) (J : gt_Iv g w lim (fun _ _ => False) 8 0 M) : K.length = M.length := by
  refine ((List.perm_ext_iff_of_nodup I.1 J.1).mpr fun x => ?_).length_eq
  rw [I.2.1 x, J.2.1 x]
  constructor
  · rintro ⟨a, c, p, _, r⟩
    exact ⟨a, c, p, fun k => k, r⟩
  · rintro ⟨a, c, p, _, r⟩
    by_cases s : gt_sk g a c
    · have e := gt_turn hg p.1 p.2.1 p.2.2.1 s.1 s.2
      rw [e] at r
      refine ⟨c, a, ⟨p.2.1, p.1, fun k => p.2.2.1 k.symm, Or.inl p.2.1⟩, fun k => s.2 k.1, r⟩
    · exact ⟨a, c, p, s, r⟩
section
variable {fl ff lim : Int32} {o ge pa fc : Nat → Int32} {s r a c : Nat} {g w : Nat → Nat} {q : Nat → Nat → Nat}
theorem gx_codeL {post : Int32 → Prop} (hs : s < 5) (hg : gd_Inv g) (H : gx_Sl o s g) (K : post (nI (gt_cd g))) : ∀ d i, i + d = 8 → wX_codeOf_4 post (nI s) fl ff o ge pa fc (d + 1) (nI (gt_code g i)) (nI i)
  | 0, i, hi => by
    have e : i = 8 := by omega
    subst e
    exact br_t gx_le8 K
  | d + 1, i, hi => by
    have i8 : i < 8 := by omega
    have ih := gx_codeL hs hg H K d (i + 1) (by omega)
    rw [gt_code] at ih
    refine br_f (gx_nle8 i8) ⟨gx_in hs i8, ?_⟩
    rw [gx_cl hs i8]
    by_cases e : g i = i
    · rw [if_pos e] at ih
      refine nm_r ((H i i8).trans (gx_encL e)) (br_t rfl ?_)
      have e2 : nI (gt_code g i) * 9 + 8 = nI (gt_code g i * 9 + 8) := by rw [gn_9, pk_mul, gx_8, nI_add]
      exact nm_r e2 (nm_r gx_nI1 ih)
    · rw [if_neg e] at ih
      refine nm_r ((H i i8).trans (gx_encJ e)) (br_f (gx_m1 _ (hg i i8).1) ?_)
      have e2 : nI (gt_code g i) * 9 + nI (g i) = nI (gt_code g i * 9 + g i) := by rw [gn_9, pk_mul, nI_add]
      exact nm_r e2 (nm_r gx_nI1 ih)
theorem gx_code {post : Int32 → Prop} (hs : s < 5) (hg : gd_Inv g) (H : gx_Sl o s g) (K : post (nI (gt_cd g))) : wpX_codeOf post (fl, ff, o, ge, pa, fc) (nI s) := by
  unfold wpX_codeOf
  dsimp only
  exact ⟨8 + 1, gx_codeL hs hg H K 8 0 rfl⟩
theorem gx_n26 {post : SX → Prop} {x : Nat} {K : List Nat} (hx : x < 2 ^ 31) (hK : ∀ y, y ∈ K → y < 2 ^ 31) (lK : K.length < 200) (A0 : gn_Ar fc K)
    (K1 : x ∉ K → ∀ fc', gn_Ar fc' (K ++ [x]) → post (fl, nI (K ++ [x]).length, o, ge, pa, fc'))
    (K0 : x ∈ K → post (fl, nI K.length, o, ge, pa, fc)) :
    ∀ B A, A ++ B = K → x ∉ A → wX_note_26 post (nI x) fl (nI K.length) o ge pa fc (B.length + 1) (nI A.length)
  | [], A, e, nx => by
    rw [List.append_nil] at e
    subst e
    refine br_t (nI_le (Nat.le_refl _) (by omega)) ⟨vp_in_nI lK (by decide), ?_⟩
    rw [nI_clamp (by omega)]
    exact nm_e (nm_r (gx_len1 A x) (K1 nx _ (gn_Ar_app A0)))
  | y :: B, A, e, nx => by
    have lA : A.length < K.length := by
      rw [← e, List.length_append, List.length_cons]
      omega
    have ey : fc A.length = nI y := by rw [A0 _ lA, ← e, gn_midg]
    have hy : y ∈ K := by rw [← e]; exact List.mem_append_right _ (List.mem_cons_self ..)
    refine br_f (nI_ge lA (by omega)) ⟨vp_in_nI (by omega) (by decide), ?_⟩
    rw [nI_clamp (by omega), ey, nI_eq (hK y hy) hx]
    refine br_c (fun k => ?_) (fun k => ?_)
    · subst k
      exact K0 hy
    · refine nm_r (gx_len1 A y) (gx_n26 hx hK lK A0 K1 K0 B (A ++ [y]) (gx_nxt e) ?_)
      rw [List.mem_append, List.mem_singleton]
      rintro (h | h)
      · exact nx h
      · exact k h.symm
theorem gx_n17 {post : SX → Prop} {K : List Nat} (hg : gd_Inv g) (H : gx_Sl o 3 g) (hK : ∀ y, y ∈ K → y < 2 ^ 31) (lK : K.length < 200) (A0 : gn_Ar fc K)
    (K1 : gt_cd g ∉ K → ∀ fc', gn_Ar fc' (K ++ [gt_cd g]) → post (fl, nI (K ++ [gt_cd g]).length, o, ge, pa, fc'))
    (K0 : gt_cd g ∈ K → post (fl, nI K.length, o, ge, pa, fc)) : wX_note_17 post fl (nI K.length) o ge pa fc := by
  unfold wX_note_17
  refine gx_code (s := 3) (by decide) hg H ?_
  exact ⟨K.length + 1, gx_n26 (gt_cd_ok hg).1 hK lK A0 K1 K0 K [] rfl List.not_mem_nil⟩
theorem gx_note {post : SX → Prop} {K : List Nat} (hr : r < 5) (hg : gd_Inv g) (hw : gd_Inv w) (H : gx_Sl o 3 g) (Hw : gx_Sl o r w) (hK : ∀ y, y ∈ K → y < 2 ^ 31) (lK : K.length < 200) (A0 : gn_Ar fc K)
    (K1 : gt_NE w lim g → gt_cd g ∉ K → ∀ p' fc', gn_Ar fc' (K ++ [gt_cd g]) → post (fl, nI (K ++ [gt_cd g]).length, o, ge, p', fc'))
    (K0 : (¬ gt_NE w lim g ∨ gt_cd g ∈ K) → ∀ p', post (fl, nI K.length, o, ge, p', fc)) : wpX_note post (fl, nI K.length, o, ge, pa, fc) (nI r) lim := by
  unfold wpX_note
  dsimp only
  refine br_c (fun h => ?_) (fun h => ?_)
  · exact gx_n17 hg H hK lK A0 (fun k fc' A' => K1 (Or.inl h) k pa fc' A') (fun k => K0 (Or.inr k) pa)
  · refine gx_dist (s := 3) (r := r) (by decide) hr hg hw H Hw fun p' => ?_
    refine br_c (fun h2 => ?_) (fun h2 => ?_)
    · exact gx_n17 hg H hK lK A0 (fun k fc' A' => K1 (Or.inr h2) k p' fc' A') (fun k => K0 (Or.inr k) p')
    · exact K0 (Or.inl fun k => k.elim h h2) p'
theorem gx_try {post : SX → Prop} {x4 x5 : Int32} (hs : s < 3) (ha : a < 8) (hc : c < 8) (ac : a ≠ c) (hg : gd_Inv g) (H : gx_Sl o s g)
    (K0 : gt_sk g a c → ∀ o', gx_Fr 3 o o' → post (fl, ff, o', ge, pa, fc))
    (K1 : ¬ gt_sk g a c → ∀ o', gx_Fr 3 o o' → gx_Sl o' 3 (gt_Y g a c) → wX_trySteps_108 post x4 x5 fl ff o' ge pa fc) : wpX_trySteps post (fl, ff, o, ge, pa, fc) (nI s) (nI a) (nI c) x4 x5 := by
  have h1 := hg a ha
  have h2 := hg c hc
  have s5 : s < 5 := by omega
  unfold gt_sk at K0 K1
  unfold gt_Y gd_mk at K1
  unfold wpX_trySteps
  dsimp only
  refine gx_loose s5 ha hg H (fun ga => ?_) (fun ga => ?_)
  · have e1 : ¬ g a = c := by rw [ga]; exact ac
    rw [if_neg e1, if_pos ga] at K1
    refine gx_loose s5 hc hg H (fun gc => ?_) (fun gc => ?_)
    · rw [if_pos gc] at K1
      refine gx_copyTo (t := 3) s5 (by decide) H fun o1 H1 F1 => ?_
      refine br_f (by decide) (br_f (by decide) ?_)
      exact gx_tie (s := 3) (by decide) ha hc ac H1 fun o2 H2 F2 => K1 (fun k => k.2 gc) o2 (gx_Fr_tr F1 F2) H2
    · refine gx_copyTo (t := 3) s5 (by decide) H fun o1 H1 F1 => ?_
      refine br_f (by decide) (br_t rfl ?_)
      unfold wX_trySteps_42
      refine br_t rfl (br_f (by decide) ?_)
      unfold wX_trySteps_93
      exact br_f (by decide) (K0 ⟨ga, gc⟩ o1 F1)
  · refine gx_loose s5 hc hg H (fun gc => ?_) (fun gc => ?_)
    · have e1 : ¬ g a = c := fun e => ac (by rw [← h1.2, e, gc])
      rw [if_neg e1, if_neg ga, if_pos gc] at K1
      refine gx_copyTo (t := 3) s5 (by decide) H fun o1 H1 F1 => ?_
      refine br_t rfl ?_
      unfold wX_trySteps_42
      refine br_f (by decide) ?_
      refine gx_untie (s := 3) (by decide) ha h1.1 ga H1 fun o2 H2 F2 => ?_
      exact gx_tie (s := 3) (by decide) ha hc ac H2 fun o3 H3 F3 => K1 (fun k => ga k.1) o3 (gx_Fr_tr F1 (gx_Fr_tr F2 F3)) H3
    · refine gx_copyTo (t := 3) s5 (by decide) H fun o1 H1 F1 => ?_
      refine br_t rfl ?_
      unfold wX_trySteps_42
      refine br_t rfl (br_t rfl ⟨gx_in s5 ha, ?_⟩)
      have H' := gx_Fr_Sl (t := s) F1 (by omega) H
      dsimp only
      rw [gx_cl s5 ha, H' a ha, gx_encE hg ha hc (fun k => ac k.symm)]
      refine br_c (fun e => ?_) (fun e => ?_)
      · rw [if_pos e] at K1
        unfold wX_trySteps_93
        refine br_t rfl ?_
        exact gx_untie (s := 3) (by decide) ha h1.1 ga H1 fun o2 H2 F2 => K1 (fun k => ga k.1) o2 (gx_Fr_tr F1 F2) H2
      · rw [if_neg e, if_neg ga, if_neg gc] at K1
        exact gx_exch (s := 3) (by decide) ha hc hg ac ga gc H1 fun o2 H2 F2 => K1 (fun k => ga k.1) o2 (gx_Fr_tr F1 F2) H2
theorem gx_cs18 {post : Int32 → SX → Prop} {J : Int32 → Int32 → Int32 → (Nat → Int32) → (Nat → Int32) → (Nat → Int32) → (Nat → Int32) → Prop} {i : Nat} (hs : s < 3) (hr : r < 3) (hq : gj_Q q) (hi : i < 8)
    (KJ : ∀ K o p fc, gt_Iv (q s) (q r) lim (gt_sk (q s)) (i + 1) 0 K → gn_Ar fc K → gx_St o q → J (nI (i + 1)) fl (nI K.length) o ge p fc) :
    ∀ d j K o p fc, j + d = 8 → gt_Iv (q s) (q r) lim (gt_sk (q s)) i j K → gn_Ar fc K → gx_St o q → wX_countSteps_18 post J (nI s) (nI r) lim (nI i) (d + 1) (nI j) fl (nI K.length) o ge p fc
  | 0, j, K, o, p, fc, hj, I, A, S => by
    have e : j = 8 := by omega
    subst e
    exact br_t gx_le8 (nm_r gx_nI1 (KJ K o p fc (gt_Iv_e I) A S))
  | d + 1, j, K, o, p, fc, hj, I, A, S => by
    have j8 : j < 8 := by omega
    have hg := hq s hs
    have lK : K.length < 200 := by have := I.2.2; omega
    have hK := gt_Iv_lt hg I
    refine br_f (gx_nle8 j8) ?_
    rw [gy_eq8 hi j8]
    refine br_c (fun e => ?_) (fun e => ?_)
    · exact nm_r gx_nI1 (gx_cs18 hs hr hq hi KJ d (j + 1) K o p fc (by omega) (gt_Iv_k I hi j8 (Or.inl e)) A S)
    · refine gx_try hs hi j8 e hg (S s hs) (fun k o' F => ?_) (fun k o' F H' => ?_)
      · exact nm_r gx_nI1 (gx_cs18 hs hr hq hi KJ d (j + 1) K o' p fc (by omega) (gt_Iv_k I hi j8 (Or.inr (Or.inl k))) A (gx_St_Fr S (by decide) F))
      · have S' := gx_St_Fr S (by decide) F
        unfold wX_trySteps_108
        refine gx_note (r := r) (by omega) (gt_Y_inv hg hi j8 e) (hq r hr) H' (S' r hr) hK lK A (fun ne nK p' fc' A' => ?_) (fun h p' => ?_)
        · exact nm_r gx_nI1 (gx_cs18 hs hr hq hi KJ d (j + 1) _ o' p' fc' (by omega) (gt_Iv_a I hi j8 e k ne nK) A' S')
        · exact nm_r gx_nI1 (gx_cs18 hs hr hq hi KJ d (j + 1) K o' p' fc (by omega) (gt_Iv_k I hi j8 (Or.inr (Or.inr h))) A S')
theorem gx_cs8 {post : Int32 → SX → Prop} (hs : s < 3) (hr : r < 3) (hq : gj_Q q)
    (KP : ∀ K o p fc, gt_Iv (q s) (q r) lim (gt_sk (q s)) 8 0 K → gx_St o q → post (nI K.length) (fl, nI K.length, o, ge, p, fc)) :
    ∀ d i K o p fc, i + d = 8 → gt_Iv (q s) (q r) lim (gt_sk (q s)) i 0 K → gn_Ar fc K → gx_St o q → wX_countSteps_8 post (nI s) (nI r) lim (d + 1) (nI i) fl (nI K.length) o ge p fc
  | 0, i, K, o, p, fc, hi, I, A, S => by
    have e : i = 8 := by omega
    subst e
    exact br_t gx_le8 (KP K o p fc I S)
  | d + 1, i, K, o, p, fc, hi, I, A, S => by
    have i8 : i < 8 := by omega
    refine br_f (gx_nle8 i8) ⟨8 + 1, ?_⟩
    exact gx_cs18 hs hr hq i8 (fun K o p fc I A S => gx_cs8 hs hr hq KP d (i + 1) K o p fc (by omega) I A S) 8 0 K o p fc rfl I A S
theorem gx_cs {post : Int32 → SX → Prop} (hs : s < 3) (hr : r < 3) (hq : gj_Q q) (S : gx_St o q)
    (KP : ∀ K o p fc, gt_Iv (q s) (q r) lim (gt_sk (q s)) 8 0 K → gx_St o q → post (nI K.length) (fl, nI K.length, o, ge, p, fc)) : wpX_countSteps post (fl, ff, o, ge, pa, fc) (nI s) (nI r) lim := by
  unfold wpX_countSteps
  dsimp only
  exact ⟨8 + 1, gx_cs8 hs hr hq KP 8 0 [] o pa fc rfl gt_Iv_0 (fun j hj => absurd hj (Nat.not_lt_zero j)) S⟩
end
end
section
/-! the genomes that come by one step: the reference's count -/
def gt_SB (se : Nat → Int32) (S : Nat → Prop) : Prop := ∀ n, n < 764 → (S n → se n = 1) ∧ (¬ S n → se n = 0)
theorem gt_SB_cg {se : Nat → Int32} {S T : Nat → Prop} (h : gt_SB se S) (e : ∀ n, S n ↔ T n) : gt_SB se T := fun x hx => ⟨fun k => (h x hx).1 ((e x).mpr k), fun k => (h x hx).2 fun z => k ((e x).mp z)⟩
theorem gt_SB_u {se : Nat → Int32} {S : Nat → Prop} {b : Nat} (h : gt_SB se S) : gt_SB (upd se b 1) (fun x => S x ∨ x = b) := by
  intro x hx
  by_cases e : x = b
  · subst e
    exact ⟨fun _ => pk_us, fun k => absurd (Or.inr rfl) k⟩
  · rw [pk_un e]
    exact ⟨fun k => (h x hx).1 (k.resolve_right e), fun k => (h x hx).2 fun z => k (Or.inl z)⟩
def gt_Sn (g : Nat → Nat) (i j n : Nat) : Prop := ∃ a c, gt_Pr i j a c ∧ gn_id (gt_Y g a c) = n
theorem gt_Sn_e {g : Nat → Nat} {i n : Nat} : gt_Sn g i 8 n ↔ gt_Sn g (i + 1) 0 n := by
  unfold gt_Sn
  simp only [gt_Pr_e]
theorem gt_Sn_eq {g : Nat → Nat} {i j : Nat} (hi : i < 8) (hj : j < 8) (e : i = j ∨ gt_Sn g i j (gn_id (gt_Y g i j))) (n : Nat) : gt_Sn g i j n ↔ gt_Sn g i (j + 1) n := by
  constructor
  · rintro ⟨a, c, p, k⟩
    exact ⟨a, c, (gt_Pr_s hi hj).mpr (Or.inl p), k⟩
  · rintro ⟨a, c, p, k⟩
    rcases (gt_Pr_s hi hj).mp p with p | ⟨ne, ea, ec⟩
    · exact ⟨a, c, p, k⟩
    · subst ea ec
      rcases e with e | e
      · exact absurd e ne
      · rw [← k]
        exact e
theorem gt_Sn_s {g : Nat → Nat} {i j : Nat} (hi : i < 8) (hj : j < 8) (ne : i ≠ j) (n : Nat) : (gt_Sn g i j n ∨ n = gn_id (gt_Y g i j)) ↔ gt_Sn g i (j + 1) n := by
  constructor
  · rintro (⟨a, c, p, k⟩ | k)
    · exact ⟨a, c, (gt_Pr_s hi hj).mpr (Or.inl p), k⟩
    · exact ⟨i, j, (gt_Pr_s hi hj).mpr (Or.inr ⟨ne, rfl, rfl⟩), k.symm⟩
  · rintro ⟨a, c, p, k⟩
    rcases (gt_Pr_s hi hj).mp p with p | ⟨_, ea, ec⟩
    · exact Or.inl ⟨a, c, p, k⟩
    · subst ea ec
      exact Or.inr k.symm
section
variable {p se nu : Nat → Int32} {s r a c : Nat} {g w : Nat → Nat} {q : Nat → Nat → Nat} {lim : Int32}
theorem gy_stepTo {post : SY → Prop} (hs : s < 3) (ha : a < 8) (hc : c < 8) (ac : a ≠ c) (hg : gd_Inv g) (H : gy_Sl p s g) (K : ∀ p', gx_Fr 4 p p' → gy_Sl p' 4 (gt_Y g a c) → post (p', se, nu)) : wpY_stepTo post (p, se, nu) (nI s) (nI a) (nI c) := by
  unfold wpY_stepTo
  dsimp only
  unfold gt_Y at K
  refine gy_copyTo (t := 4) (by omega) (by decide) H fun p1 H1 F1 => ⟨gy_32in ha, ?_⟩
  dsimp only
  rw [gy_32cl ha, H1 a ha, gy_eq8 (hg a ha).1 hc]
  refine br_c (fun e => ?_) (fun e => ?_)
  · rw [if_pos e] at K
    exact gy_unlink (s := 4) (by decide) ha (hg a ha).1 H1 fun p2 H2 F2 => K p2 (gx_Fr_tr F1 F2) H2
  · rw [if_neg e] at K
    exact gy_make (s := 4) (by decide) ha hc ac hg H1 fun p2 H2 F2 => K p2 (gx_Fr_tr F1 F2) H2
theorem gy_note {post : Int32 → SY → Prop} {S : Nat → Prop} (hr : r < 3) (hg : gd_Inv g) (hq : gj_Q q) (N : gy_Nu nu) (H : gy_Sl p 4 g) (Q : gy_St p q) (hS : gt_SB se S)
    (KA : S (gn_id g) → post 0 (p, se, nu))
    (KB : ¬ S (gn_id g) → gt_NE (q r) lim g → ∀ p', gy_St p' q → post 1 (p', upd se (gn_id g) 1, nu))
    (KC : ¬ S (gn_id g) → ¬ gt_NE (q r) lim g → ∀ p', gy_St p' q → post 0 (p', upd se (gn_id g) 1, nu)) : wpY_note post (p, se, nu) (nI r) lim := by
  have lt := (gn_id_ok hg).2.1
  unfold wpY_note
  dsimp only
  refine gy_number hg H N ⟨vp_in_nI lt (by decide), ?_⟩
  rw [nI_clamp (by omega), gx_nb1]
  by_cases h : S (gn_id g)
  · rw [(hS _ lt).1 h]
    exact br_f (by decide) (KA h)
  · rw [(hS _ lt).2 h]
    refine br_t rfl ⟨vp_in_nI lt (by decide), nm_e (br_c (fun k => ?_) (fun k => ?_))⟩
    · exact KB h (Or.inl k) p Q
    · refine gy_way (s := 4) (r := r) (by decide) (by omega) (by omega) hg (hq r hr) H (Q r hr) fun p' F' => ?_
      have Q' := gy_St_Fr Q (by decide) F'
      refine br_c (fun k2 => ?_) (fun k2 => ?_)
      · exact KC h (fun z => z.elim k fun z2 => Int32.not_lt.mpr k2 z2) p' Q'
      · exact KB h (Or.inr (Int32.not_le.mp k2)) p' Q'
theorem gy_cs41 {post : Int32 → SY → Prop} {J : Int32 → Int32 → (Nat → Int32) → (Nat → Int32) → (Nat → Int32) → Prop} {i : Nat} (hs : s < 3) (hr : r < 3) (hq : gj_Q q) (N : gy_Nu nu) (hi : i < 8)
    (KJ : ∀ M p se, gt_Iv (q s) (q r) lim (fun _ _ => False) (i + 1) 0 M → gt_SB se (gt_Sn (q s) (i + 1) 0) → gy_St p q → J (nI M.length) (nI (i + 1)) p se nu) :
    ∀ d j M p se, j + d = 8 → gt_Iv (q s) (q r) lim (fun _ _ => False) i j M → gt_SB se (gt_Sn (q s) i j) → gy_St p q → wY_countSteps_41 post J (nI s) (nI r) lim (nI i) (d + 1) (nI M.length) (nI j) p se nu
  | 0, j, M, p, se, hj, I, B, S => by
    have e : j = 8 := by omega
    subst e
    exact br_t gx_le8 (nm_r gx_nI1 (KJ M p se (gt_Iv_e I) (gt_SB_cg B fun n => gt_Sn_e) S))
  | d + 1, j, M, p, se, hj, I, B, S => by
    have j8 : j < 8 := by omega
    have hg := hq s hs
    have z0 : nI M.length + 0 = nI M.length := Int32.add_zero _
    refine br_f (gx_nle8 j8) ?_
    rw [gy_eq8 hi j8]
    refine br_c (fun e => ?_) (fun e => ?_)
    · exact nm_r gx_nI1 (gy_cs41 hs hr hq N hi KJ d (j + 1) M p se (by omega) (gt_Iv_k I hi j8 (Or.inl e)) (gt_SB_cg B (gt_Sn_eq hi j8 (Or.inl e))) S)
    · have hy := gt_Y_inv hg hi j8 e
      refine gy_stepTo hs hi j8 e hg (S s hs) fun p1 F1 H1 => ?_
      have S1 := gy_St_Fr S (by decide) F1
      refine gy_note hr hy hq N H1 S1 B (fun k => ?_) (fun k ne p2 S2 => ?_) (fun k ne p2 S2 => ?_)
      · have I' : gt_Iv (q s) (q r) lim (fun _ _ => False) i (j + 1) M := by
          refine gt_Iv_k I hi j8 (Or.inr (Or.inr ?_))
          obtain ⟨a, c, pr, ek⟩ := k
          have hz := gt_Y_inv hg pr.1 pr.2.1 pr.2.2.1
          have eq := gn_id_inj hz hy ek
          by_cases ne : gt_NE (q r) lim (gt_Y (q s) i j)
          · refine Or.inr ((I.2.1 _).mpr ⟨a, c, pr, fun z => z, (gt_NE_cg (hq r hr) hz hy eq).mpr ne, (gt_cd_cg eq).symm⟩)
          · exact Or.inl ne
        refine nm_r z0 (nm_r gx_nI1 (gy_cs41 hs hr hq N hi KJ d (j + 1) M p1 se (by omega) I' (gt_SB_cg B (gt_Sn_eq hi j8 (Or.inr k))) S1))
      · have nM : gt_cd (gt_Y (q s) i j) ∉ M := by
          intro hm
          obtain ⟨a, c, pr, _, _, ex⟩ := (I.2.1 _).mp hm
          have hz := gt_Y_inv hg pr.1 pr.2.1 pr.2.2.1
          exact k ⟨a, c, pr, gn_id_cg fun x hx => (gt_cd_inj hy hz ex x hx).symm⟩
        refine nm_r (gx_len1 M (gt_cd (gt_Y (q s) i j))) (nm_r gx_nI1 (gy_cs41 hs hr hq N hi KJ d (j + 1) _ p2 _ (by omega) (gt_Iv_a I hi j8 e (fun z => z) ne nM) (gt_SB_cg (gt_SB_u B) (gt_Sn_s hi j8 e)) S2))
      · refine nm_r z0 (nm_r gx_nI1 (gy_cs41 hs hr hq N hi KJ d (j + 1) M p2 _ (by omega) (gt_Iv_k I hi j8 (Or.inr (Or.inr (Or.inl ne)))) (gt_SB_cg (gt_SB_u B) (gt_Sn_s hi j8 e)) S2))
theorem gy_cs31 {post : Int32 → SY → Prop} (hs : s < 3) (hr : r < 3) (hq : gj_Q q) (N : gy_Nu nu)
    (KP : ∀ M p se, gt_Iv (q s) (q r) lim (fun _ _ => False) 8 0 M → gy_St p q → post (nI M.length) (p, se, nu)) :
    ∀ d i M p se, i + d = 8 → gt_Iv (q s) (q r) lim (fun _ _ => False) i 0 M → gt_SB se (gt_Sn (q s) i 0) → gy_St p q → wY_countSteps_31 post (nI s) (nI r) lim (d + 1) (nI M.length) (nI i) p se nu
  | 0, i, M, p, se, hi, I, B, S => by
    have e : i = 8 := by omega
    subst e
    exact br_t gx_le8 (KP M p se I S)
  | d + 1, i, M, p, se, hi, I, B, S => by
    have i8 : i < 8 := by omega
    refine br_f (gx_nle8 i8) ⟨8 + 1, ?_⟩
    exact gy_cs41 hs hr hq N i8 (fun M p se I B S => gy_cs31 hs hr hq N KP d (i + 1) M p se (by omega) I B S) 8 0 M p se rfl I B S
theorem gy_cs3 {post : Int32 → SY → Prop} {x1 x2 x3 : Int32} (K : ∀ se', (∀ n, n < 764 → se' n = 0) → ∃ n31, wY_countSteps_31 post x1 x2 x3 n31 0 0 p se' nu) : ∀ d i se, i + d = 764 → (∀ n, n < i → se n = 0) → wY_countSteps_3 post x1 x2 x3 (d + 1) (nI i) p se nu
  | 0, i, se, hi, h => by
    have e : i = 764 := by omega
    subst e
    exact br_t gx_le764 (K se h)
  | d + 1, i, se, hi, h => by
    have i7 : i < 764 := by omega
    refine br_f (gx_nle764 i7) ⟨vp_in_nI i7 (by decide), ?_⟩
    rw [nI_clamp (by omega), gx_nb0]
    refine nm_e (nm_r gx_nI1 (gy_cs3 K d (i + 1) _ (by omega) fun n hn => ?_))
    by_cases e : n = i
    · subst e
      exact pk_us
    · rw [pk_un e]
      exact h n (by omega)
theorem gy_cs {post : Int32 → SY → Prop} (hs : s < 3) (hr : r < 3) (hq : gj_Q q) (N : gy_Nu nu) (S : gy_St p q)
    (KP : ∀ M p se, gt_Iv (q s) (q r) lim (fun _ _ => False) 8 0 M → gy_St p q → post (nI M.length) (p, se, nu)) : wpY_countSteps post (p, se, nu) (nI s) (nI r) lim := by
  unfold wpY_countSteps
  dsimp only
  refine ⟨764 + 1, gy_cs3 (fun se' h => ⟨8 + 1, ?_⟩) 764 0 se rfl (fun n hn => absurd hn (Nat.not_lt_zero n))⟩
  refine gy_cs31 hs hr hq N KP 8 0 [] p se' rfl gt_Iv_0 (fun n hn => ⟨fun k => ?_, fun _ => h n hn⟩) S
  exfalso
  obtain ⟨a, c, pr, _⟩ := k
  unfold gt_Pr at pr
  omega
end
end
section
/-! the relation; the constructors -/
def gj_R (q : Nat → Nat → Nat) (fl : Int32) (o ge p nu : Nat → Int32) : Prop := gj_Q q ∧ gx_St o q ∧ gy_St p q ∧ gy_Nu nu ∧ (fl = 0 ∨ (fl = 764 ∧ gn_Ar ge (gn_lv 8)))
def i_Rel (k : Nat) (u : SX) (v : SY) : Prop := ∃ q : Nat → Nat → Nat, gj_R q u.1 u.2.2.1 u.2.2.2.1 v.1 v.2.2
theorem gj_el {k : Nat} {u : SX} {v : SY} {P : SX → SY → Prop} (I : i_Rel k u v) (h : ∀ q fl ff o ge pa fc p se nu, gj_R q fl o ge p nu → P (fl, ff, o, ge, pa, fc) (p, se, nu)) : P u v := by
  obtain ⟨fl, ff, o, ge, pa, fc⟩ := u
  obtain ⟨p, se, nu⟩ := v
  obtain ⟨q, hq⟩ := I
  exact h q fl ff o ge pa fc p se nu hq
theorem gj_in {k : Nat} {q : Nat → Nat → Nat} {fl ff : Int32} {o ge pa fc p se nu : Nat → Int32} (h : gj_R q fl o ge p nu) : i_Rel k (fl, ff, o, ge, pa, fc) (p, se, nu) := ⟨q, h⟩
theorem i_up {k : Nat} {u : SX} {v : SY} (h : i_Rel k u v) : i_Rel (k + 5) u v := h
def gj_put (q : Nat → Nat → Nat) (s : Nat) (h : Nat → Nat) : Nat → Nat → Nat := fun t => if t = s then h else q t
theorem gj_put_s (q : Nat → Nat → Nat) (s : Nat) (h : Nat → Nat) : gj_put q s h s = h := if_pos rfl
theorem gj_put_n {q : Nat → Nat → Nat} {s t : Nat} {h : Nat → Nat} (n : t ≠ s) : gj_put q s h t = q t := if_neg n
theorem gj_Q_put {q : Nat → Nat → Nat} {s : Nat} {h : Nat → Nat} (hq : gj_Q q) (hh : gd_Inv h) : gj_Q (gj_put q s h) := by
  intro t ht
  by_cases e : t = s
  · subst e
    rw [gj_put_s]
    exact hh
  · rw [gj_put_n e]
    exact hq t ht
theorem gx_St_put {q : Nat → Nat → Nat} {s : Nat} {h : Nat → Nat} {o o' : Nat → Int32} (S : gx_St o q) (H : gx_Sl o' s h) (F : gx_Fr s o o') : gx_St o' (gj_put q s h) := by
  intro t ht
  by_cases e : t = s
  · subst e
    rw [gj_put_s]
    exact H
  · rw [gj_put_n e]
    exact gx_Fr_Sl F e (S t ht)
theorem gy_St_put {q : Nat → Nat → Nat} {s : Nat} {h : Nat → Nat} {o o' : Nat → Int32} (S : gy_St o q) (H : gy_Sl o' s h) (F : gx_Fr s o o') : gy_St o' (gj_put q s h) := by
  intro t ht
  by_cases e : t = s
  · subst e
    rw [gj_put_s]
    exact H
  · rw [gj_put_n e]
    exact gy_Fr_Sl F e (S t ht)
theorem gj_set {k : Nat} {q : Nat → Nat → Nat} {s : Nat} {h : Nat → Nat} {fl ff : Int32} {o o' ge pa fc p p' se nu : Nat → Int32} (R : gj_R q fl o ge p nu) (hh : gd_Inv h) (H : gx_Sl o' s h) (F : gx_Fr s o o') (H' : gy_Sl p' s h) (F' : gx_Fr s p p') : i_Rel k (fl, ff, o', ge, pa, fc) (p', se, nu) :=
  gj_in (q := gj_put q s h) ⟨gj_Q_put R.1 hh, gx_St_put R.2.1 H F, gy_St_put R.2.2.1 H' F', R.2.2.2.1, R.2.2.2.2⟩
theorem gj_x0 {post : SX → Prop} (K : ∀ o : Nat → Int32, (∀ j, j < 40 → o j = -1) → post (0, 0, o, fun _ => 0, fun _ => 0, fun _ => 0)) : ∀ d i o, i + d = 40 → (∀ j, j < i → o j = -1) → wX_init_40 post 0 0 (d + 1) (nI i) o (fun _ => 0) (fun _ => 0) (fun _ => 0)
  | 0, i, o, hi, h => by
    have e : i = 40 := by omega
    subst e
    exact br_t (nI_le (a := 40) (Nat.le_refl _) (by decide)) (K o h)
  | d + 1, i, o, hi, h => by
    have i4 : i < 40 := by omega
    refine br_f (nI_ge (b := 40) i4 (by decide)) ⟨vp_in_nI i4 (by decide), ?_⟩
    rw [nI_clamp (by omega)]
    refine nm_e (nm_r gx_nI1 (gj_x0 K d (i + 1) _ (by omega) fun j hj => ?_))
    by_cases e : j = i
    · subst e
      exact pk_us
    · rw [pk_un e]
      exact h j (by omega)
theorem gn_Nrec : ∀ n, n < 9 → 2 ≤ n → gn_N n = gn_N (n - 1) + (n - 1) * gn_N (n - 2) := by decide
theorem gj_y69 {post : SY → Prop} {p se : Nat → Int32} (K : ∀ nu, gy_Nu nu → post (p, se, nu)) : ∀ d i nu, i + d = 9 → 2 ≤ i → (∀ j, j < i → nu j = nI (gn_N j)) → wY_init_69 post (d + 1) (nI i) p se nu
  | 0, i, nu, hi, h2, h => by
    have e : i = 9 := by omega
    subst e
    exact br_t (nI_le (a := 9) (Nat.le_refl _) (by decide)) (K nu h)
  | d + 1, i, nu, hi, h2, h => by
    have i9 : i < 9 := by omega
    refine br_f (nI_ge (b := 9) i9 (by decide)) ?_
    rw [gn_k1 (by omega), gn_k2 h2]
    refine ⟨vp_in_nI (by omega) (by decide), vp_in_nI (by omega) (by decide), vp_in_nI i9 (by decide), ?_⟩
    rw [nI_clamp (by omega), nI_clamp (by omega), nI_clamp (by omega), h _ (by omega), h _ (by omega), pk_mul, nI_add, ← gn_Nrec i i9 h2]
    refine nm_e (nm_r gx_nI1 (gj_y69 K d (i + 1) _ (by omega) (by omega) fun j hj => ?_))
    by_cases e : j = i
    · subst e
      exact pk_us
    · rw [pk_un e]
      exact h j (by omega)
theorem gj_y31 {post : SY → Prop} (K : ∀ p nu : Nat → Int32, (∀ j, j < 40 → p j = nI (j % 8)) → gy_Nu nu → post (p, fun _ => 0, nu)) : ∀ d i p, i + d = 40 → (∀ j, j < i → p j = nI (j % 8)) → wY_init_31 post (d + 1) (nI i) p (fun _ => 0) (fun _ => 0)
  | 0, i, p, hi, h => by
    have e : i = 40 := by omega
    subst e
    refine br_t (nI_le (a := 40) (Nat.le_refl _) (by decide)) (nm_e (nm_e ⟨7 + 1, ?_⟩))
    refine gj_y69 (fun nu hn => K p nu h hn) 7 2 _ rfl (Nat.le_refl 2) fun j hj => ?_
    have e : j = 0 ∨ j = 1 := by omega
    rcases e with e | e
    · subst e
      rfl
    · subst e
      rfl
  | d + 1, i, p, hi, h => by
    have i4 : i < 40 := by omega
    have e1 : nI i - nI i / 8 * 8 = nI (i % 8) := pk_rem (d := 8) (by omega) (by decide) (by decide)
    refine br_f (nI_ge (b := 40) i4 (by decide)) ⟨by decide, vp_in_nI i4 (by decide), ?_⟩
    rw [nI_clamp (by omega), e1]
    refine nm_e (nm_r gx_nI1 (gj_y31 K d (i + 1) _ (by omega) fun j hj => ?_))
    by_cases e : j = i
    · subst e
      exact pk_us
    · rw [pk_un e]
      exact h j (by omega)
theorem i_vc0 : wpX_init (fun u => wpY_init (fun v => i_Rel 0 u v)) := by
  unfold wpX_init
  refine ⟨40 + 1, gj_x0 (fun o ho => ?_) 40 0 (fun _ => 0) rfl fun j hj => absurd hj (Nat.not_lt_zero j)⟩
  unfold wpY_init
  refine ⟨40 + 1, gj_y31 (fun p nu hp hn => ?_) 40 0 (fun _ => 0) rfl fun j hj => absurd hj (Nat.not_lt_zero j)⟩
  refine gj_in (q := fun _ a => a) ⟨fun t _ a ha => ⟨ha, rfl⟩, fun t ht a ha => ?_, fun t ht a ha => ?_, hn, Or.inl rfl⟩
  · rw [ho _ (by omega), gx_encL rfl]
  · have e : (8 * t + a) % 8 = a := by omega
    rw [hp _ (by omega), e]
end
section
/-! the owed statements: joints -/
theorem gd_tie_inv {g : Nat → Nat} (hg : gd_Inv g) {a b : Nat} (ha : a < 8) (hb : b < 8) (ab : a ≠ b) (ga : g a = a) (gb : g b = b) : gd_Inv (gd_tie g a b) := by
  have h := gd_M_inv hg (gd_mk_M hg ha hb ab (by rw [ga]; exact ab))
  unfold gd_mk at h
  rwa [if_pos ga, if_pos gb] at h
theorem gd_shift_inv {g : Nat → Nat} (hg : gd_Inv g) {a c : Nat} (ha : a < 8) (hc : c < 8) (ac : a ≠ c) (ga : g a ≠ a) (gc : g c = c) : gd_Inv (gd_tie (gd_cut g a) a c) := by
  have ne : g a ≠ c := fun e => ac (by rw [← (hg a ha).2, e, gc])
  have h := gd_M_inv hg (gd_mk_M hg ha hc ac ne)
  unfold gd_mk at h
  rwa [if_neg ga, if_pos gc] at h
theorem gd_exch_inv {g : Nat → Nat} (hg : gd_Inv g) {a c : Nat} (ha : a < 8) (hc : c < 8) (ac : a ≠ c) (ne : g a ≠ c) (ga : g a ≠ a) (gc : g c ≠ c) : gd_Inv (gd_tie (gd_tie g a c) (g a) (g c)) := by
  have h := gd_M_inv hg (gd_mk_M hg ha hc ac ne)
  unfold gd_mk at h
  rwa [if_neg ga, if_neg gc] at h
theorem i_vc_join {k : Nat} {u : SX} {v : SY} (I : i_Rel k u v) (hk : k + 5 ≤ 2560) (v1 : Int32) (v2 : Int32) (v3 : Int32) : wpX_join (fun r u' => wpY_join (fun r' v' => r' = r ∧ i_Rel (k + 5) u' v') v v1 v2 v3) u v1 v2 v3 := by
  refine gj_el (P := fun u v => wpX_join (fun r u' => wpY_join (fun r' v' => r' = r ∧ i_Rel (k + 5) u' v') v v1 v2 v3) u v1 v2 v3) I ?_
  intro q fl ff o ge pa fc p se nu R
  have fin : ∀ {x : Int32}, x = x ∧ i_Rel (k + 5) (fl, ff, o, ge, pa, fc) (p, se, nu) := fun {_} => ⟨rfl, gj_in R⟩
  unfold wpX_join
  dsimp only
  rcases gj_arg v1 3 (by decide) with b1 | ⟨s, hs, rfl⟩
  · refine gx_bad1 b1 (br_f (by decide) ?_)
    unfold wpY_join
    exact gy_slot0 b1 (br_t rfl fin)
  refine gx_bad0 hs (br_t rfl ?_)
  rcases gj_arg v2 8 (by decide) with b2 | ⟨a, ha, rfl⟩
  · refine gx_be1 b2 (br_f (by decide) ?_)
    unfold wpY_join
    exact gy_slot1 hs (br_f (by decide) (gy_end0 b2 (br_t rfl fin)))
  refine gx_be0 ha (br_t rfl ?_)
  rcases gj_arg v3 8 (by decide) with b3 | ⟨b, hb, rfl⟩
  · refine gx_be1 b3 (br_f (by decide) ?_)
    unfold wpY_join
    exact gy_slot1 hs (br_f (by decide) (gy_end1 ha (br_f (by decide) (gy_end0 b3 (br_t rfl fin)))))
  refine gx_be0 hb (br_t rfl ?_)
  have s5 : s < 5 := by omega
  have hg := R.1 s hs
  have HX := R.2.1 s hs
  have HY := R.2.2.1 s hs
  by_cases ab : a = b
  · subst ab
    refine br_t rfl ?_
    unfold wpY_join
    exact gy_slot1 hs (br_f (by decide) (gy_end1 ha (br_f (by decide) (gy_end1 hb (br_f (by decide) (br_t rfl fin))))))
  have nab : ¬ nI a = nI b := fun e => ab ((gy_eq8 ha hb).mp e)
  refine br_f nab (gx_loose s5 ha hg HX (fun ga => br_f (by decide) (gx_loose s5 hb hg HX (fun gb => br_f (by decide) ?_) (fun gb => br_t rfl ?_))) (fun ga => br_t rfl ?_))
  · have hi := gd_tie_inv hg ha hb ab ga gb
    refine gx_tie s5 ha hb ab HX fun o' H' F' => gx_joints s5 hi H' ?_
    unfold wpY_join
    refine gy_slot1 hs (br_f (by decide) (gy_end1 ha (br_f (by decide) (gy_end1 hb (br_f (by decide) (br_f nab (gy_loose s5 ha hg HY (fun _ => br_f (by decide) (gy_loose s5 hb hg HY (fun _ => br_f (by decide) ?_) (fun n => absurd gb n))) (fun n => absurd ga n))))))))
    refine gy_link s5 ha hb ab HY fun p' G' E' => gy_count s5 hi G' ?_
    exact ⟨rfl, gj_set R hi H' F' G' E'⟩
  · unfold wpY_join
    exact gy_slot1 hs (br_f (by decide) (gy_end1 ha (br_f (by decide) (gy_end1 hb (br_f (by decide) (br_f nab (gy_loose s5 ha hg HY (fun _ => br_f (by decide) (gy_loose s5 hb hg HY (fun n => absurd n gb) (fun _ => br_t rfl fin))) (fun n => absurd ga n))))))))
  · unfold wpY_join
    exact gy_slot1 hs (br_f (by decide) (gy_end1 ha (br_f (by decide) (gy_end1 hb (br_f (by decide) (br_f nab (gy_loose s5 ha hg HY (fun n => absurd n ga) (fun _ => br_t rfl fin))))))))
theorem i_vc_cut {k : Nat} {u : SX} {v : SY} (I : i_Rel k u v) (hk : k + 5 ≤ 2560) (v1 : Int32) (v2 : Int32) : wpX_cut (fun r u' => wpY_cut (fun r' v' => r' = r ∧ i_Rel (k + 5) u' v') v v1 v2) u v1 v2 := by
  refine gj_el (P := fun u v => wpX_cut (fun r u' => wpY_cut (fun r' v' => r' = r ∧ i_Rel (k + 5) u' v') v v1 v2) u v1 v2) I ?_
  intro q fl ff o ge pa fc p se nu R
  have fin : ∀ {x : Int32}, x = x ∧ i_Rel (k + 5) (fl, ff, o, ge, pa, fc) (p, se, nu) := fun {_} => ⟨rfl, gj_in R⟩
  unfold wpX_cut
  dsimp only
  rcases gj_arg v1 3 (by decide) with b1 | ⟨s, hs, rfl⟩
  · refine gx_bad1 b1 (br_f (by decide) ?_)
    unfold wpY_cut
    exact gy_slot0 b1 (br_t rfl fin)
  refine gx_bad0 hs (br_t rfl ?_)
  rcases gj_arg v2 8 (by decide) with b2 | ⟨a, ha, rfl⟩
  · refine gx_be1 b2 (br_f (by decide) ?_)
    unfold wpY_cut
    exact gy_slot1 hs (br_f (by decide) (gy_end0 b2 (br_t rfl fin)))
  refine gx_be0 ha (br_t rfl ?_)
  have s5 : s < 5 := by omega
  have hg := R.1 s hs
  have HX := R.2.1 s hs
  have HY := R.2.2.1 s hs
  refine gx_loose s5 ha hg HX (fun ga => br_f (by decide) ?_) (fun ga => br_t rfl ⟨gx_in s5 ha, ?_⟩)
  · unfold wpY_cut
    exact gy_slot1 hs (br_f (by decide) (gy_end1 ha (br_f (by decide) (gy_loose s5 ha hg HY (fun _ => br_f (by decide) fin) (fun n => absurd ga n)))))
  · rw [gx_cl s5 ha]
    refine nm_r ((HX a ha).trans (gx_encJ ga)) (gx_untie s5 ha (hg a ha).1 ga HX fun o' H' F' => ?_)
    unfold wpY_cut
    refine gy_slot1 hs (br_f (by decide) (gy_end1 ha (br_f (by decide) (gy_loose s5 ha hg HY (fun n => absurd n ga) (fun _ => br_t rfl ⟨gy_in s5 ha, ?_⟩)))))
    rw [gy_cl s5 ha]
    refine nm_r (HY a ha) (gy_unlink s5 ha (hg a ha).1 HY fun p' G' E' => ?_)
    exact ⟨rfl, gj_set R (gd_cut_inv hg ha) H' F' G' E'⟩
theorem i_vc_cross {k : Nat} {u : SX} {v : SY} (I : i_Rel k u v) (hk : k + 5 ≤ 2560) (v1 : Int32) (v2 : Int32) (v3 : Int32) : wpX_cross (fun r u' => wpY_cross (fun r' v' => r' = r ∧ i_Rel (k + 5) u' v') v v1 v2 v3) u v1 v2 v3 := by
  refine gj_el (P := fun u v => wpX_cross (fun r u' => wpY_cross (fun r' v' => r' = r ∧ i_Rel (k + 5) u' v') v v1 v2 v3) u v1 v2 v3) I ?_
  intro q fl ff o ge pa fc p se nu R
  have fin : ∀ {x : Int32}, x = x ∧ i_Rel (k + 5) (fl, ff, o, ge, pa, fc) (p, se, nu) := fun {_} => ⟨rfl, gj_in R⟩
  unfold wpX_cross
  dsimp only
  rcases gj_arg v1 3 (by decide) with b1 | ⟨s, hs, rfl⟩
  · refine gx_bad1 b1 (br_f (by decide) ?_)
    unfold wpY_cross
    exact gy_slot0 b1 (br_t rfl fin)
  refine gx_bad0 hs (br_t rfl ?_)
  rcases gj_arg v2 8 (by decide) with b2 | ⟨a, ha, rfl⟩
  · refine gx_be1 b2 (br_f (by decide) ?_)
    unfold wpY_cross
    exact gy_slot1 hs (br_f (by decide) (gy_end0 b2 (br_t rfl fin)))
  refine gx_be0 ha (br_t rfl ?_)
  rcases gj_arg v3 8 (by decide) with b3 | ⟨c, hc, rfl⟩
  · refine gx_be1 b3 (br_f (by decide) ?_)
    unfold wpY_cross
    exact gy_slot1 hs (br_f (by decide) (gy_end1 ha (br_f (by decide) (gy_end0 b3 (br_t rfl fin)))))
  refine gx_be0 hc (br_t rfl ?_)
  have s5 : s < 5 := by omega
  have hg := R.1 s hs
  have HX := R.2.1 s hs
  have HY := R.2.2.1 s hs
  refine gx_loose s5 ha hg HX (fun ga => br_f (by decide) ?_) (fun ga => br_t rfl (gx_loose s5 hc hg HX (fun gc => br_f (by decide) ?_) (fun gc => br_t rfl ?_)))
  · unfold wpY_cross
    exact gy_slot1 hs (br_f (by decide) (gy_end1 ha (br_f (by decide) (gy_end1 hc (br_f (by decide) (gy_loose s5 ha hg HY (fun _ => br_f (by decide) fin) (fun n => absurd ga n)))))))
  · unfold wpY_cross
    exact gy_slot1 hs (br_f (by decide) (gy_end1 ha (br_f (by decide) (gy_end1 hc (br_f (by decide) (gy_loose s5 ha hg HY (fun n => absurd n ga) (fun _ => br_t rfl (gy_loose s5 hc hg HY (fun _ => br_f (by decide) fin) (fun n => absurd gc n)))))))))
  · by_cases ac : a = c
    · subst ac
      refine br_t rfl ?_
      unfold wpY_cross
      exact gy_slot1 hs (br_f (by decide) (gy_end1 ha (br_f (by decide) (gy_end1 hc (br_f (by decide) (gy_loose s5 ha hg HY (fun n => absurd n ga) (fun _ => br_t rfl (gy_loose s5 hc hg HY (fun n => absurd n gc) (fun _ => br_t rfl (br_t rfl fin))))))))))
    have nac : ¬ nI a = nI c := fun e => ac ((gy_eq8 ha hc).mp e)
    refine br_f nac ⟨gx_in s5 ha, ?_⟩
    rw [gx_cl s5 ha, HX a ha, gx_encE hg ha hc (fun e => ac e.symm)]
    refine br_c (fun e => ?_) (fun e => ?_)
    · unfold wpY_cross
      refine gy_slot1 hs (br_f (by decide) (gy_end1 ha (br_f (by decide) (gy_end1 hc (br_f (by decide) (gy_loose s5 ha hg HY (fun n => absurd n ga) (fun _ => br_t rfl (gy_loose s5 hc hg HY (fun n => absurd n gc) (fun _ => br_t rfl (br_f nac ⟨gy_in s5 ha, ?_⟩))))))))))
      rw [gy_cl s5 ha, HY a ha, gy_eq8 (hg a ha).1 hc]
      exact br_t e fin
    · refine gx_exch s5 ha hc hg ac ga gc HX fun o' H' F' => ?_
      unfold wpY_cross
      refine gy_slot1 hs (br_f (by decide) (gy_end1 ha (br_f (by decide) (gy_end1 hc (br_f (by decide) (gy_loose s5 ha hg HY (fun n => absurd n ga) (fun _ => br_t rfl (gy_loose s5 hc hg HY (fun n => absurd n gc) (fun _ => br_t rfl (br_f nac ⟨gy_in s5 ha, ?_⟩))))))))))
      rw [gy_cl s5 ha, HY a ha, gy_eq8 (hg a ha).1 hc]
      refine br_f e (gy_exch s5 ha hc hg ac HY fun p' G' E' => ?_)
      exact ⟨rfl, gj_set R (gd_exch_inv hg ha hc ac e ga gc) H' F' G' E'⟩
theorem i_vc_shift {k : Nat} {u : SX} {v : SY} (I : i_Rel k u v) (hk : k + 5 ≤ 2560) (v1 : Int32) (v2 : Int32) (v3 : Int32) : wpX_shift (fun r u' => wpY_shift (fun r' v' => r' = r ∧ i_Rel (k + 5) u' v') v v1 v2 v3) u v1 v2 v3 := by
  refine gj_el (P := fun u v => wpX_shift (fun r u' => wpY_shift (fun r' v' => r' = r ∧ i_Rel (k + 5) u' v') v v1 v2 v3) u v1 v2 v3) I ?_
  intro q fl ff o ge pa fc p se nu R
  have fin : ∀ {x : Int32}, x = x ∧ i_Rel (k + 5) (fl, ff, o, ge, pa, fc) (p, se, nu) := fun {_} => ⟨rfl, gj_in R⟩
  unfold wpX_shift
  dsimp only
  rcases gj_arg v1 3 (by decide) with b1 | ⟨s, hs, rfl⟩
  · refine gx_bad1 b1 (br_f (by decide) ?_)
    unfold wpY_shift
    exact gy_slot0 b1 (br_t rfl fin)
  refine gx_bad0 hs (br_t rfl ?_)
  rcases gj_arg v2 8 (by decide) with b2 | ⟨a, ha, rfl⟩
  · refine gx_be1 b2 (br_f (by decide) ?_)
    unfold wpY_shift
    exact gy_slot1 hs (br_f (by decide) (gy_end0 b2 (br_t rfl fin)))
  refine gx_be0 ha (br_t rfl ?_)
  rcases gj_arg v3 8 (by decide) with b3 | ⟨c, hc, rfl⟩
  · refine gx_be1 b3 (br_f (by decide) ?_)
    unfold wpY_shift
    exact gy_slot1 hs (br_f (by decide) (gy_end1 ha (br_f (by decide) (gy_end0 b3 (br_t rfl fin)))))
  refine gx_be0 hc (br_t rfl ?_)
  have s5 : s < 5 := by omega
  have hg := R.1 s hs
  have HX := R.2.1 s hs
  have HY := R.2.2.1 s hs
  refine gx_loose s5 ha hg HX (fun ga => br_f (by decide) ?_) (fun ga => br_t rfl (gx_loose s5 hc hg HX (fun gc => br_f (by decide) ⟨gx_in s5 ha, ?_⟩) (fun gc => br_t rfl ?_)))
  · unfold wpY_shift
    exact gy_slot1 hs (br_f (by decide) (gy_end1 ha (br_f (by decide) (gy_end1 hc (br_f (by decide) (gy_loose s5 ha hg HY (fun _ => br_f (by decide) fin) (fun n => absurd ga n)))))))
  · have ac : a ≠ c := fun e => ga (by rw [e]; exact gc)
    rw [gx_cl s5 ha]
    refine nm_r ((HX a ha).trans (gx_encJ ga)) (gx_untie s5 ha (hg a ha).1 ga HX fun o1 H1 F1 => gx_tie s5 ha hc ac H1 fun o' H' F' => ?_)
    unfold wpY_shift
    refine gy_slot1 hs (br_f (by decide) (gy_end1 ha (br_f (by decide) (gy_end1 hc (br_f (by decide) (gy_loose s5 ha hg HY (fun n => absurd n ga) (fun _ => br_t rfl (gy_loose s5 hc hg HY (fun _ => br_f (by decide) ⟨gy_in s5 ha, ?_⟩) (fun n => absurd gc n)))))))))
    rw [gy_cl s5 ha]
    refine nm_r (HY a ha) (gy_unlink s5 ha (hg a ha).1 HY fun p1 G1 E1 => gy_link s5 ha hc ac G1 fun p' G' E' => ?_)
    exact ⟨rfl, gj_set R (gd_shift_inv hg ha hc ac ga gc) H' (gx_Fr_tr F1 F') G' (gx_Fr_tr E1 E')⟩
  · unfold wpY_shift
    exact gy_slot1 hs (br_f (by decide) (gy_end1 ha (br_f (by decide) (gy_end1 hc (br_f (by decide) (gy_loose s5 ha hg HY (fun n => absurd n ga) (fun _ => br_t rfl (gy_loose s5 hc hg HY (fun n => absurd n gc) (fun _ => br_t rfl fin)))))))))
theorem i_vc_copy {k : Nat} {u : SX} {v : SY} (I : i_Rel k u v) (hk : k + 5 ≤ 2560) (v1 : Int32) (v2 : Int32) : wpX_copy (fun r u' => wpY_copy (fun r' v' => r' = r ∧ i_Rel (k + 5) u' v') v v1 v2) u v1 v2 := by
  refine gj_el (P := fun u v => wpX_copy (fun r u' => wpY_copy (fun r' v' => r' = r ∧ i_Rel (k + 5) u' v') v v1 v2) u v1 v2) I ?_
  intro q fl ff o ge pa fc p se nu R
  have fin : ∀ {x : Int32}, x = x ∧ i_Rel (k + 5) (fl, ff, o, ge, pa, fc) (p, se, nu) := fun {_} => ⟨rfl, gj_in R⟩
  unfold wpX_copy
  dsimp only
  rcases gj_arg v1 3 (by decide) with b1 | ⟨s, hs, rfl⟩
  · refine gx_bad1 b1 (br_f (by decide) ?_)
    unfold wpY_copy
    exact gy_slot0 b1 (br_t rfl fin)
  refine gx_bad0 hs (br_t rfl ?_)
  rcases gj_arg v2 3 (by decide) with b2 | ⟨r, hr, rfl⟩
  · refine gx_bad1 b2 (br_f (by decide) ?_)
    unfold wpY_copy
    exact gy_slot1 hs (br_f (by decide) (gy_slot0 b2 (br_t rfl fin)))
  have s5 : s < 5 := by omega
  have r5 : r < 5 := by omega
  have hg := R.1 r hr
  refine gx_bad0 hr (br_t rfl (gx_copyTo r5 s5 (R.2.1 r hr) fun o' H' F' => gx_joints s5 hg H' ?_))
  unfold wpY_copy
  refine gy_slot1 hs (br_f (by decide) (gy_slot1 hr (br_f (by decide) (gy_copyTo r5 s5 (R.2.2.1 r hr) fun p' G' E' => gy_count s5 hg G' ?_))))
  exact ⟨rfl, gj_set R hg H' F' G' E'⟩
theorem i_vc_partner {k : Nat} {u : SX} {v : SY} (I : i_Rel k u v) (hk : k + 5 ≤ 2560) (v1 : Int32) (v2 : Int32) : wpX_partner (fun r => wpY_partner (fun r' => r' = r ∧ i_Rel (k + 5) u v) v v1 v2) u v1 v2 := by
  refine gj_el (P := fun u v => wpX_partner (fun r => wpY_partner (fun r' => r' = r ∧ i_Rel (k + 5) u v) v v1 v2) u v1 v2) I ?_
  intro q fl ff o ge pa fc p se nu R
  have fin : ∀ {x : Int32}, x = x ∧ i_Rel (k + 5) (fl, ff, o, ge, pa, fc) (p, se, nu) := fun {_} => ⟨rfl, gj_in R⟩
  unfold wpX_partner
  dsimp only
  rcases gj_arg v1 3 (by decide) with b1 | ⟨s, hs, rfl⟩
  · refine gx_bad1 b1 (br_f (by decide) ?_)
    unfold wpY_partner
    exact gy_slot0 b1 (br_t rfl fin)
  refine gx_bad0 hs (br_t rfl ?_)
  rcases gj_arg v2 8 (by decide) with b2 | ⟨a, ha, rfl⟩
  · refine gx_be1 b2 (br_f (by decide) ?_)
    unfold wpY_partner
    exact gy_slot1 hs (br_f (by decide) (gy_end0 b2 (br_t rfl fin)))
  refine gx_be0 ha (br_t rfl ⟨gx_in (by omega) ha, ?_⟩)
  have s5 : s < 5 := by omega
  have hg := R.1 s hs
  have HX := R.2.1 s hs
  have HY := R.2.2.1 s hs
  rw [gx_cl s5 ha, HX a ha]
  by_cases ga : (q s) a = a
  · rw [gx_encL ga]
    refine br_t rfl ?_
    unfold wpY_partner
    exact gy_slot1 hs (br_f (by decide) (gy_end1 ha (br_f (by decide) (gy_loose s5 ha hg HY (fun _ => br_f (by decide) fin) (fun n => absurd ga n)))))
  · rw [gx_encJ ga]
    refine br_f (gx_m1 _ (hg a ha).1) ⟨gx_in s5 ha, ?_⟩
    unfold wpY_partner
    refine gy_slot1 hs (br_f (by decide) (gy_end1 ha (br_f (by decide) (gy_loose s5 ha hg HY (fun n => absurd n ga) (fun _ => br_t rfl ⟨gy_in s5 ha, ?_⟩)))))
    rw [gy_cl s5 ha, HY a ha]
    exact fin
theorem i_vc_joints {k : Nat} {u : SX} {v : SY} (I : i_Rel k u v) (hk : k + 5 ≤ 2560) (v1 : Int32) : wpX_joints (fun r => wpY_joints (fun r' => r' = r ∧ i_Rel (k + 5) u v) v v1) u v1 := by
  refine gj_el (P := fun u v => wpX_joints (fun r => wpY_joints (fun r' => r' = r ∧ i_Rel (k + 5) u v) v v1) u v1) I ?_
  intro q fl ff o ge pa fc p se nu R
  have fin : ∀ {x : Int32}, x = x ∧ i_Rel (k + 5) (fl, ff, o, ge, pa, fc) (p, se, nu) := fun {_} => ⟨rfl, gj_in R⟩
  unfold wpX_joints
  dsimp only
  rcases gj_arg v1 3 (by decide) with b1 | ⟨s, hs, rfl⟩
  · refine gx_bad1 b1 (br_f (by decide) ?_)
    unfold wpY_joints
    exact gy_slot0 b1 (br_t rfl fin)
  have s5 : s < 5 := by omega
  refine gx_bad0 hs (br_t rfl (gx_joints s5 (R.1 s hs) (R.2.1 s hs) ?_))
  unfold wpY_joints
  exact gy_slot1 hs (br_f (by decide) (gy_count s5 (R.1 s hs) (R.2.2.1 s hs) fin))
end
section
/-! the owed statements: chromosomes, distances, steps, all genomes -/
theorem gy_chrS {p : Nat → Int32} {s : Nat} {g : Nat → Nat} (H : gy_Sl p s g) : gy_Sl p s (gs_of (gs_rev g 8)) := gy_Sl_cg (fun _ ha => (gs_of_rev ha).symm) H
theorem i_vc_chromosomes {k : Nat} {u : SX} {v : SY} (I : i_Rel k u v) (hk : k + 5 ≤ 2560) (v1 : Int32) : wpX_chromosomes (fun r u' => wpY_chromosomes (fun r' => r' = r ∧ i_Rel (k + 5) u' v) v v1) u v1 := by
  refine gj_el (P := fun u v => wpX_chromosomes (fun r u' => wpY_chromosomes (fun r' => r' = r ∧ i_Rel (k + 5) u' v) v v1) u v1) I ?_
  intro q fl ff o ge pa fc p se nu R
  unfold wpX_chromosomes
  dsimp only
  rcases gj_arg v1 3 (by decide) with b1 | ⟨s, hs, rfl⟩
  · refine gx_bad1 b1 (br_f (by decide) ?_)
    unfold wpY_chromosomes
    exact gy_slot0 b1 (br_t rfl ⟨rfl, gj_in R⟩)
  have s5 : s < 5 := by omega
  have hg := R.1 s hs
  refine gx_bad0 hs (br_t rfl (gx_chr s5 hg (R.2.1 s hs) fun p' => br_t rfl ?_))
  unfold wpY_chromosomes
  exact gy_slot1 hs (br_f (by decide) ⟨4 + 1, gy_cyL s5 (gs_inv hg) (gy_chrS (R.2.2.1 s hs)) 4 0 0 rfl ⟨rfl, gj_in R⟩⟩)
theorem i_vc_round {k : Nat} {u : SX} {v : SY} (I : i_Rel k u v) (hk : k + 5 ≤ 2560) (v1 : Int32) : wpX_round (fun r u' => wpY_round (fun r' => r' = r ∧ i_Rel (k + 5) u' v) v v1) u v1 := by
  refine gj_el (P := fun u v => wpX_round (fun r u' => wpY_round (fun r' => r' = r ∧ i_Rel (k + 5) u' v) v v1) u v1) I ?_
  intro q fl ff o ge pa fc p se nu R
  unfold wpX_round
  dsimp only
  rcases gj_arg v1 3 (by decide) with b1 | ⟨s, hs, rfl⟩
  · refine gx_bad1 b1 (br_f (by decide) ?_)
    unfold wpY_round
    exact gy_slot0 b1 (br_t rfl ⟨rfl, gj_in R⟩)
  have s5 : s < 5 := by omega
  have hg := R.1 s hs
  refine gx_bad0 hs (br_t rfl (gx_chr s5 hg (R.2.1 s hs) fun p' => br_f (by decide) ?_))
  unfold wpY_round
  exact gy_slot1 hs (br_f (by decide) ⟨4 + 1, gy_ryL s5 (gs_inv hg) (gy_chrS (R.2.2.1 s hs)) 4 0 0 rfl ⟨rfl, gj_in R⟩⟩)
theorem gj_y3 {k : Nat} {q : Nat → Nat → Nat} {fl ff : Int32} {o ge pa fc p p' se nu : Nat → Int32} (R : gj_R q fl o ge p nu) (F : gx_Fr 3 p p') : i_Rel k (fl, ff, o, ge, pa, fc) (p', se, nu) :=
  gj_in (q := q) ⟨R.1, R.2.1, gy_St_Fr R.2.2.1 (by decide) F, R.2.2.2.1, R.2.2.2.2⟩
theorem i_vc_distance {k : Nat} {u : SX} {v : SY} (I : i_Rel k u v) (hk : k + 5 ≤ 2560) (v1 : Int32) (v2 : Int32) : wpX_distance (fun r u' => wpY_distance (fun r' v' => r' = r ∧ i_Rel (k + 5) u' v') v v1 v2) u v1 v2 := by
  refine gj_el (P := fun u v => wpX_distance (fun r u' => wpY_distance (fun r' v' => r' = r ∧ i_Rel (k + 5) u' v') v v1 v2) u v1 v2) I ?_
  intro q fl ff o ge pa fc p se nu R
  unfold wpX_distance
  dsimp only
  rcases gj_arg v1 3 (by decide) with b1 | ⟨s, hs, rfl⟩
  · refine gx_bad1 b1 (br_f (by decide) ?_)
    unfold wpY_distance
    exact gy_slot0 b1 (br_t rfl ⟨rfl, gj_in R⟩)
  refine gx_bad0 hs (br_t rfl ?_)
  rcases gj_arg v2 3 (by decide) with b2 | ⟨r, hr, rfl⟩
  · refine gx_bad1 b2 (br_f (by decide) ?_)
    unfold wpY_distance
    exact gy_slot1 hs (br_f (by decide) (gy_slot0 b2 (br_t rfl ⟨rfl, gj_in R⟩)))
  have s5 : s < 5 := by omega
  have r5 : r < 5 := by omega
  refine gx_bad0 hr (br_t rfl (gx_dist s5 r5 (R.1 s hs) (R.1 r hr) (R.2.1 s hs) (R.2.1 r hr) fun p' => ?_))
  unfold wpY_distance
  exact gy_slot1 hs (br_f (by decide) (gy_slot1 hr (br_f (by decide) (gy_way s5 r5 (by omega) (R.1 s hs) (R.1 r hr) (R.2.2.1 s hs) (R.2.2.1 r hr) fun p' F' => ⟨rfl, gj_y3 R F'⟩))))
theorem i_vc_nearer {k : Nat} {u : SX} {v : SY} (I : i_Rel k u v) (hk : k + 5 ≤ 2560) (v1 : Int32) (v2 : Int32) : wpX_nearer (fun r u' => wpY_nearer (fun r' v' => r' = r ∧ i_Rel (k + 5) u' v') v v1 v2) u v1 v2 := by
  refine gj_el (P := fun u v => wpX_nearer (fun r u' => wpY_nearer (fun r' v' => r' = r ∧ i_Rel (k + 5) u' v') v v1 v2) u v1 v2) I ?_
  intro q fl ff o ge pa fc p se nu R
  unfold wpX_nearer
  dsimp only
  rcases gj_arg v1 3 (by decide) with b1 | ⟨s, hs, rfl⟩
  · refine gx_bad1 b1 (br_f (by decide) ?_)
    unfold wpY_nearer
    exact gy_slot0 b1 (br_t rfl ⟨rfl, gj_in R⟩)
  refine gx_bad0 hs (br_t rfl ?_)
  rcases gj_arg v2 3 (by decide) with b2 | ⟨r, hr, rfl⟩
  · refine gx_bad1 b2 (br_f (by decide) ?_)
    unfold wpY_nearer
    exact gy_slot1 hs (br_f (by decide) (gy_slot0 b2 (br_t rfl ⟨rfl, gj_in R⟩)))
  have s5 : s < 5 := by omega
  have r5 : r < 5 := by omega
  refine gx_bad0 hr (br_t rfl (gx_dist s5 r5 (R.1 s hs) (R.1 r hr) (R.2.1 s hs) (R.2.1 r hr) fun p' => ?_))
  refine gx_cs hs hr R.1 R.2.1 fun K o' p'' fc' IK S' => ?_
  unfold wpY_nearer
  refine gy_slot1 hs (br_f (by decide) (gy_slot1 hr (br_f (by decide) (gy_way s5 r5 (by omega) (R.1 s hs) (R.1 r hr) (R.2.2.1 s hs) (R.2.2.1 r hr) fun p1 F1 => ?_))))
  refine gy_cs hs hr R.1 R.2.2.2.1 (gy_St_Fr R.2.2.1 (by decide) F1) fun M p2 se2 IM S2 => ?_
  exact ⟨congrArg nI (gt_same (R.1 s hs) IK IM).symm, gj_in (q := q) ⟨R.1, S', S2, R.2.2.2.1, R.2.2.2.2⟩⟩
theorem i_vc_steps {k : Nat} {u : SX} {v : SY} (I : i_Rel k u v) (hk : k + 5 ≤ 2560) (v1 : Int32) : wpX_steps (fun r u' => wpY_steps (fun r' v' => r' = r ∧ i_Rel (k + 5) u' v') v v1) u v1 := by
  refine gj_el (P := fun u v => wpX_steps (fun r u' => wpY_steps (fun r' v' => r' = r ∧ i_Rel (k + 5) u' v') v v1) u v1) I ?_
  intro q fl ff o ge pa fc p se nu R
  unfold wpX_steps
  dsimp only
  rcases gj_arg v1 3 (by decide) with b1 | ⟨s, hs, rfl⟩
  · refine gx_bad1 b1 (br_f (by decide) ?_)
    unfold wpY_steps
    exact gy_slot0 b1 (br_t rfl ⟨rfl, gj_in R⟩)
  refine gx_bad0 hs (br_t rfl ?_)
  refine gx_cs hs hs R.1 R.2.1 fun K o' p'' fc' IK S' => ?_
  unfold wpY_steps
  refine gy_slot1 hs (br_f (by decide) ?_)
  refine gy_cs hs hs R.1 R.2.2.2.1 R.2.2.1 fun M p2 se2 IM S2 => ?_
  exact ⟨congrArg nI (gt_same (R.1 s hs) IK IM).symm, gj_in (q := q) ⟨R.1, S', S2, R.2.2.2.1, R.2.2.2.2⟩⟩
theorem gj_set3 {k : Nat} {q : Nat → Nat → Nat} {s : Nat} {h : Nat → Nat} {fl ff : Int32} {o o' ge pa fc p p' p'' se nu : Nat → Int32} (R : gj_R q fl o ge p nu) (hh : gd_Inv h) (H : gx_Sl o' s h) (F : gx_Fr s o o') (H' : gy_Sl p' s h) (F' : gx_Fr s p p') (F3 : gx_Fr 3 p' p'') : i_Rel k (fl, ff, o', ge, pa, fc) (p'', se, nu) :=
  gj_in (q := gj_put q s h) ⟨gj_Q_put R.1 hh, gx_St_put R.2.1 H F, gy_St_Fr (gy_St_put R.2.2.1 H' F') (by decide) F3, R.2.2.2.1, R.2.2.2.2⟩
theorem gj_first {P : Nat → Prop} {a b : Nat} (ha : ∀ c, c < a → ¬ P c) (pa : P a) (hb : ∀ c, c < b → ¬ P c) (pb : P b) : a = b := by
  rcases Nat.lt_trichotomy a b with h | h | h
  · exact absurd pa (hb a h)
  · exact h
  · exact absurd pb (ha b h)
theorem i_vc_approach {k : Nat} {u : SX} {v : SY} (I : i_Rel k u v) (hk : k + 5 ≤ 2560) (v1 : Int32) (v2 : Int32) : wpX_approach (fun r u' => wpY_approach (fun r' v' => r' = r ∧ i_Rel (k + 5) u' v') v v1 v2) u v1 v2 := by
  refine gj_el (P := fun u v => wpX_approach (fun r u' => wpY_approach (fun r' v' => r' = r ∧ i_Rel (k + 5) u' v') v v1 v2) u v1 v2) I ?_
  intro q fl ff o ge pa fc p se nu R
  unfold wpX_approach
  dsimp only
  rcases gj_arg v1 3 (by decide) with b1 | ⟨s, hs, rfl⟩
  · refine gx_bad1 b1 (br_f (by decide) ?_)
    unfold wpY_approach
    exact gy_slot0 b1 (br_t rfl ⟨rfl, gj_in R⟩)
  refine gx_bad0 hs (br_t rfl ?_)
  rcases gj_arg v2 3 (by decide) with b2 | ⟨r, hr, rfl⟩
  · refine gx_bad1 b2 (br_f (by decide) ?_)
    unfold wpY_approach
    exact gy_slot1 hs (br_f (by decide) (gy_slot0 b2 (br_t rfl ⟨rfl, gj_in R⟩)))
  have s5 : s < 5 := by omega
  have r5 : r < 5 := by omega
  have hg := R.1 s hs
  have hh := R.1 r hr
  have HX := R.2.1 s hs
  have HY := R.2.2.1 s hs
  have QX := R.2.1 r hr
  have QY := R.2.2.1 r hr
  refine gx_bad0 hr (br_t rfl ⟨8 + 1, gx_a20 s5 r5 hg hh HX QX (fun a ha fa pa o' H' F' => ?_) (fun n a ha fa pa o' H' F' => ?_) (fun n m => ?_) 8 0 rfl fun b hb => absurd hb (Nat.not_lt_zero b)⟩)
  · have rs : r ≠ s := fun e => by
      subst e
      exact pa.2 rfl
    obtain ⟨gi, _, _⟩ := gd_step1 hg hh ha pa
    refine gx_dist s5 r5 gi hh H' (gx_Fr_Sl F' rs QX) fun p' => ?_
    unfold wpY_approach
    refine gy_slot1 hs (br_f (by decide) (gy_slot1 hr (br_f (by decide) (gy_near s5 r5 hg hh HY QY (fun b hb fb pb p1 G1 E1 => ?_) (fun n => absurd pa (n a ha)) (fun n => absurd pa (n a ha))))))
    have e := gj_first fa pa fb pb
    subst e
    exact br_f (by decide) (gy_way s5 r5 (by omega) gi hh G1 (gy_Fr_Sl E1 rs QY) fun p2 E2 => ⟨rfl, gj_set3 R gi H' F' G1 E1 E2⟩)
  · have rs : r ≠ s := fun e => by
      subst e
      exact pa.1 pa.2
    obtain ⟨gi, _, _⟩ := gd_step2 hg hh n ha pa
    refine gx_dist s5 r5 gi hh H' (gx_Fr_Sl F' rs QX) fun p' => ?_
    unfold wpY_approach
    refine gy_slot1 hs (br_f (by decide) (gy_slot1 hr (br_f (by decide) (gy_near s5 r5 hg hh HY QY (fun b hb _ pb => absurd pb (n b hb)) (fun _ b hb fb pb p1 G1 E1 => ?_) (fun _ m => absurd pa (m a ha))))))
    have e := gj_first fa pa fb pb
    subst e
    exact br_f (by decide) (gy_way s5 r5 (by omega) gi hh G1 (gy_Fr_Sl E1 rs QY) fun p2 E2 => ⟨rfl, gj_set3 R gi H' F' G1 E1 E2⟩)
  · unfold wpY_approach
    exact gy_slot1 hs (br_f (by decide) (gy_slot1 hr (br_f (by decide) (gy_near s5 r5 hg hh HY QY (fun b hb _ pb => absurd pb (n b hb)) (fun _ b hb _ pb => absurd pb (m b hb)) (fun _ _ => br_t rfl ⟨rfl, gj_in R⟩)))))
theorem i_vc_middle {k : Nat} {u : SX} {v : SY} (I : i_Rel k u v) (hk : k + 5 ≤ 2560) : wpX_middle (fun r u' => wpY_middle (fun r' v' => r' = r ∧ i_Rel (k + 5) u' v') v) u := by
  refine gj_el (P := fun u v => wpX_middle (fun r u' => wpY_middle (fun r' v' => r' = r ∧ i_Rel (k + 5) u' v') v) u) I ?_
  intro q fl ff o ge pa fc p se nu R
  refine gx_middle R.1 R.2.2.2.2 R.2.1 fun o' ge' p' S' A' => ?_
  refine gy_middle R.1 R.2.2.2.1 R.2.2.1 fun p1 S1 => ?_
  exact ⟨congrArg nI (gm_best_p gn_perm).symm, gj_in (q := q) ⟨R.1, S', S1, R.2.2.2.1, Or.inr ⟨rfl, A'⟩⟩⟩
theorem i_vc_middles {k : Nat} {u : SX} {v : SY} (I : i_Rel k u v) (hk : k + 5 ≤ 2560) : wpX_middles (fun r u' => wpY_middles (fun r' v' => r' = r ∧ i_Rel (k + 5) u' v') v) u := by
  refine gj_el (P := fun u v => wpX_middles (fun r u' => wpY_middles (fun r' v' => r' = r ∧ i_Rel (k + 5) u' v') v) u) I ?_
  intro q fl ff o ge pa fc p se nu R
  refine gx_middles R.1 R.2.2.2.2 R.2.1 fun o' ge' p' S' A' => ?_
  refine gy_middles R.1 R.2.2.2.1 R.2.2.1 fun p1 S1 => ?_
  have e : gn_CY.countP (fun c => decide (gm_F q c = gm_best q gn_CY)) = (gn_lv 8).countP (fun c => decide (gm_F q c = gm_best q (gn_lv 8))) := by
    rw [gm_best_p gn_perm]
    exact (gn_perm.countP_eq _).symm
  exact ⟨congrArg nI e, gj_in (q := q) ⟨R.1, S', S1, R.2.2.2.1, Or.inr ⟨rfl, A'⟩⟩⟩
theorem i_vc_onTheWay {k : Nat} {u : SX} {v : SY} (I : i_Rel k u v) (hk : k + 5 ≤ 2560) (v1 : Int32) (v2 : Int32) (v3 : Int32) (v4 : Int32) : wpX_onTheWay (fun r u' => wpY_onTheWay (fun r' v' => r' = r ∧ i_Rel (k + 5) u' v') v v1 v2 v3 v4) u v1 v2 v3 v4 := by
  refine gj_el (P := fun u v => wpX_onTheWay (fun r u' => wpY_onTheWay (fun r' v' => r' = r ∧ i_Rel (k + 5) u' v') v v1 v2 v3 v4) u v1 v2 v3 v4) I ?_
  intro q fl ff o ge pa fc p se nu R
  rcases gj_arg v1 3 (by decide) with b1 | ⟨s, hs, rfl⟩
  · unfold wpX_onTheWay
    dsimp only
    refine gx_bad1 b1 (br_f (by decide) ?_)
    unfold wpY_onTheWay
    exact gy_slot0 b1 (br_t rfl ⟨rfl, gj_in R⟩)
  rcases gj_arg v2 3 (by decide) with b2 | ⟨r, hr, rfl⟩
  · unfold wpX_onTheWay
    dsimp only
    refine gx_bad0 hs (br_t rfl (gx_bad1 b2 (br_f (by decide) ?_)))
    unfold wpY_onTheWay
    exact gy_slot1 hs (br_f (by decide) (gy_slot0 b2 (br_t rfl ⟨rfl, gj_in R⟩)))
  have tr : (∃ c, c ∈ gn_lv 8 ∧ gm_on q s r v3 v4 (nI (gd_dist (q s) (q r))) c) ↔ ∃ c, c ∈ gn_CY ∧ gm_on q s r v3 v4 (nI (gd_dist (q s) (q r))) c :=
    ⟨fun ⟨c, hc, h⟩ => ⟨c, gn_perm.mem_iff.mp hc, h⟩, fun ⟨c, hc, h⟩ => ⟨c, gn_perm.mem_iff.mpr hc, h⟩⟩
  refine gx_otw hs hr R.1 R.2.2.2.2 R.2.1 (fun hx o' ge' p' S' A' => ?_) (fun hx o' ge' p' S' A' => ?_)
  · refine gy_otw hs hr R.1 R.2.2.2.1 R.2.2.1 (fun _ p1 S1 => ?_) (fun hy => absurd (tr.mp hx) hy)
    exact ⟨rfl, gj_in (q := q) ⟨R.1, S', S1, R.2.2.2.1, Or.inr ⟨rfl, A'⟩⟩⟩
  · refine gy_otw hs hr R.1 R.2.2.2.1 R.2.2.1 (fun hy => absurd (tr.mpr hy) hx) (fun _ p1 S1 => ?_)
    exact ⟨rfl, gj_in (q := q) ⟨R.1, S', S1, R.2.2.2.1, Or.inr ⟨rfl, A'⟩⟩⟩
end
