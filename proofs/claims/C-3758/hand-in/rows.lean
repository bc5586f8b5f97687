section
/-! pure rows to paste: stores, nI and lN arithmetic, masks, shifts, narrowing, branches by naturals (pk_le, pk_lt, pk_eq), loops (lp1 .. lp16: the measure of the state; rp1 ..: recursion), negatives. Take what you need -/
theorem pk_us {f : Nat → Int32} {k : Nat} {x : Int32} : upd f k x k = x := if_pos rfl
theorem pk_un {f : Nat → Int32} {k j : Nat} {x : Int32} (h : j ≠ k) : upd f k x j = f j := if_neg h
theorem pk_uLs {f : Nat → Int64} {k : Nat} {x : Int64} : vp_updL f k x k = x := if_pos rfl
theorem pk_uLn {f : Nat → Int64} {k j : Nat} {x : Int64} (h : j ≠ k) : vp_updL f k x j = f j := if_neg h
theorem pk_sub {a b : Nat} (h : b ≤ a) : nI a - nI b = nI (a - b) := by
  obtain ⟨c, rfl⟩ : ∃ c, a = c + b := ⟨a - b, by omega⟩
  rw [← nI_add, Int32.add_sub_cancel, Nat.add_sub_cancel]
theorem pk_m1 (n : Nat) : nI (n + 1) + (-1) = nI n := by
  rw [← nI_1, Int32.add_assoc, show (1 : Int32) + (-1) = 0 from rfl, Int32.add_zero]
theorem pk_mul (a b : Nat) : nI a * nI b = nI (a * b) := (Int32.ofNat_mul a b).symm
theorem pk_div {a d : Nat} (ha : a < 2 ^ 31) (h0 : 0 < d) (hd : d < 2 ^ 31) : nI a / nI d = nI (a / d) := by
  apply Int32.toInt_inj.mp
  rw [lg_idiv_nonneg (by rw [nI_toInt ha]; omega) (by rw [nI_toInt hd]; omega), nI_toInt ha, nI_toInt hd, nI_toInt (Nat.lt_of_le_of_lt (Nat.div_le_self a d) ha)]
  first | rfl | exact (Int.natCast_ediv _ _).symm
theorem pk_rem {a d : Nat} (ha : a < 2 ^ 31) (h0 : 0 < d) (hd : d < 2 ^ 31) : nI a - nI a / nI d * nI d = nI (a % d) := by
  rw [pk_div ha h0 hd, pk_mul, pk_sub (Nat.div_mul_le_self a d)]
  exact congrArg nI (by have := Nat.div_add_mod' a d; omega)
theorem pk_sub_toInt {a b : Nat} (ha : a < 2 ^ 30) (hb : b < 2 ^ 30) : (nI a - nI b).toInt = (a : Int) - b := by
  rw [Int32.toInt_sub, nI_toInt (by omega), nI_toInt (by omega)]
  exact Int.bmod_eq_of_le (by omega) (by omega)
theorem pk_sneg {a b : Nat} (hb : b < 2 ^ 30) (h : a < b) : nI a - nI b < 0 := by
  rw [Int32.lt_iff_toInt_lt, pk_sub_toInt (by omega) hb, show (0 : Int32).toInt = 0 from by decide]
  omega
theorem pk_ix (x : Int32) {n : Nat} (hn : n < 2 ^ 31) : x < 0 ∨ nI n ≤ x ∨ ∃ j : Nat, j < n ∧ x = nI j := by
  by_cases h : x < 0
  · exact Or.inl h
  · obtain ⟨j, hj, rfl⟩ := nI_of h
    by_cases h2 : j < n
    · exact Or.inr (Or.inr ⟨j, h2, rfl⟩)
    · exact Or.inr (Or.inl (nI_le (by omega) hj))
theorem pk_le {x y : Int32} {A B : Prop} (a b : Nat) (f : a ≤ b → A) (g : b < a → B) (hx : x = nI a := by rfl) (hy : y = nI b := by rfl) (ha : a < 2 ^ 31 := by omega) (hb : b < 2 ^ 31 := by omega) : (x ≤ y → A) ∧ (¬ x ≤ y → B) := by
  subst hx hy
  rw [nI_leI ha hb]
  exact ⟨f, fun z => g (by omega)⟩
theorem pk_lt {x y : Int32} {A B : Prop} (a b : Nat) (f : a < b → A) (g : b ≤ a → B) (hx : x = nI a := by rfl) (hy : y = nI b := by rfl) (ha : a < 2 ^ 31 := by omega) (hb : b < 2 ^ 31 := by omega) : (x < y → A) ∧ (¬ x < y → B) := by
  subst hx hy
  rw [nI_ltI ha hb]
  exact ⟨f, fun z => g (by omega)⟩
theorem pk_eq {x y : Int32} {A B : Prop} (a b : Nat) (f : a = b → A) (g : a ≠ b → B) (hx : x = nI a := by rfl) (hy : y = nI b := by rfl) (ha : a < 2 ^ 31 := by omega) (hb : b < 2 ^ 31 := by omega) : (x = y → A) ∧ (¬ x = y → B) := by
  subst hx hy
  rw [nI_eq ha hb]
  exact ⟨f, g⟩
theorem pk_in {x : Int32} (n N : Nat) (h : n < N) (hx : x = nI n := by rfl) (hN : N < 2 ^ 31 := by omega) : vp_in x N := by
  subst hx
  exact vp_in_nI h hN
theorem pk_cl {x : Int32} (n : Nat) (hx : x = nI n := by rfl) (h : n < 2 ^ 31 := by omega) : x.toNatClampNeg = n := by
  subst hx
  exact nI_clamp h
theorem pk_tn {n : Nat} (h : n < 2 ^ 32) : (nI n).toBitVec.toNat = n := Nat.mod_eq_of_lt h
theorem pk_and (x : Int32) {m : Int32} (k : Nat) (hm : m.toBitVec.toNat = 2 ^ k - 1) : x &&& m = nI (x.toBitVec.toNat % 2 ^ k) := by
  apply Int32.toBitVec_inj.mp
  apply BitVec.eq_of_toNat_eq
  rw [Int32.toBitVec_and, BitVec.toNat_and, hm, Nat.and_two_pow_sub_one_eq_mod]
  show _ = (BitVec.ofNat 32 _).toNat
  rw [BitVec.toNat_ofNat]
  exact (Nat.mod_eq_of_lt (Nat.lt_of_le_of_lt (Nat.mod_le _ _) x.toBitVec.isLt)).symm
theorem pk_andN {n : Nat} (h : n < 2 ^ 32) {m : Int32} (k : Nat) (hm : m.toBitVec.toNat = 2 ^ k - 1) : nI n &&& m = nI (n % 2 ^ k) := by
  rw [pk_and _ k hm, pk_tn h]
theorem pk_andE (x : Int32) {m : Int32} (k : Nat) (hm : m.toBitVec.toNat = 2 ^ k - 1) : ∃ j : Nat, j < 2 ^ k ∧ x &&& m = nI j := ⟨_, Nat.mod_lt _ (Nat.two_pow_pos k), pk_and x k hm⟩
theorem pk_andIn (x : Int32) {m : Int32} (k : Nat) (hm : m.toBitVec.toNat = 2 ^ k - 1) (hk : k ≤ 30) : vp_in (x &&& m) (2 ^ k) := by
  obtain ⟨j, hj, e⟩ := pk_andE x k hm
  rw [e]
  exact vp_in_nI hj (Nat.lt_of_le_of_lt (Nat.pow_le_pow_right (by decide) hk) (by decide))
theorem pk_shl (a s : Int32) (k : Nat) (hs : (s.toBitVec.smod 32).toNat = k) : (a <<< s).toBitVec.toNat = a.toBitVec.toNat * 2 ^ k % 2 ^ 32 := by
  show (a.toBitVec <<< (s.toBitVec.smod 32).toNat).toNat = _
  rw [hs, BitVec.toNat_shiftLeft, Nat.shiftLeft_eq]
theorem pk_shlN {n : Nat} (s : Int32) (k : Nat) (hs : (s.toBitVec.smod 32).toNat = k) (h : n * 2 ^ k < 2 ^ 32) : nI n <<< s = nI (n * 2 ^ k) := by
  apply Int32.toBitVec_inj.mp
  apply BitVec.eq_of_toNat_eq
  have hn : n < 2 ^ 32 := Nat.lt_of_le_of_lt (Nat.le_mul_of_pos_right n (Nat.two_pow_pos k)) h
  rw [pk_shl _ _ k hs, pk_tn hn, pk_tn h, Nat.mod_eq_of_lt h]
theorem pk_shr (a s : Int32) (k : Nat) (hs : (s.toBitVec.smod 32).toNat = k) : (a >>> s).toInt = a.toInt >>> k := by
  show (a.toBitVec.sshiftRight (s.toBitVec.smod 32).toNat).toInt = _
  rw [hs, BitVec.toInt_sshiftRight]
  rfl
theorem pk_shrN {n : Nat} (h : n < 2 ^ 31) (s : Int32) (k : Nat) (hs : (s.toBitVec.smod 32).toNat = k) : nI n >>> s = nI (n / 2 ^ k) := by
  apply Int32.toInt_inj.mp
  have h2 : n / 2 ^ k ≤ n := Nat.div_le_self _ _
  rw [pk_shr _ _ k hs, nI_toInt h, nI_toInt (by omega), Int.shiftRight_eq_div_pow]
  rfl
theorem pk_ushr (x s : Int32) (k : Nat) (hs : ((s.toUInt32 &&& Int32.toUInt32 31).toBitVec % 32).toNat = k) : (x.toUInt32 >>> (s.toUInt32 &&& Int32.toUInt32 31)).toInt32.toBitVec.toNat = x.toBitVec.toNat / 2 ^ k := by
  have e : (x.toUInt32 >>> (s.toUInt32 &&& Int32.toUInt32 31)).toInt32.toBitVec = x.toBitVec >>> k := by
    rw [← hs]
    exact UInt32.toBitVec_shiftRight _ _
  rw [e, BitVec.toNat_ushiftRight, Nat.shiftRight_eq_div_pow]
theorem pk_ushrN {n : Nat} (hn : n < 2 ^ 32) (s : Int32) (k : Nat) (hs : ((s.toUInt32 &&& Int32.toUInt32 31).toBitVec % 32).toNat = k) : ((nI n).toUInt32 >>> (s.toUInt32 &&& Int32.toUInt32 31)).toInt32 = nI (n / 2 ^ k) := by
  apply Int32.toBitVec_inj.mp
  apply BitVec.eq_of_toNat_eq
  rw [pk_ushr _ s k hs, pk_tn hn, pk_tn (Nat.lt_of_le_of_lt (Nat.div_le_self _ _) hn)]
theorem pk_nb (z : Int32) : narrow .byte (.int z.toInt8.toInt32) = .int z.toInt8.toInt32 := congrArg Value.int (by simp)
theorem pk_ns (z : Int32) : narrow .short (.int z.toInt16.toInt32) = .int z.toInt16.toInt32 := congrArg Value.int (by simp)
theorem pk_fb (r : Int32) : fits .byte (.int r.toInt8.toInt32) = true := by
  have ⟨a, b⟩ := lg_i2b_range r
  have h1 : (-128 : Int32).toInt = -128 := by decide
  have h2 : (127 : Int32).toInt = 127 := by decide
  simp only [fits, Bool.and_eq_true, decide_eq_true_eq, Int32.le_iff_toInt_le, h1, h2]
  omega
theorem pk_fs (r : Int32) : fits .short (.int r.toInt16.toInt32) = true := by
  have ⟨a, b⟩ := lg_i2s_range r
  have h1 : (-32768 : Int32).toInt = -32768 := by decide
  have h2 : (32767 : Int32).toInt = 32767 := by decide
  simp only [fits, Bool.and_eq_true, decide_eq_true_eq, Int32.le_iff_toInt_le, h1, h2]
  omega
theorem pk_charN {q : Nat} (hq : q < 65536) : narrow .char (.int (nI q)) = .int (nI q) ∧ fits .char (.int (nI q)) = true := by
  constructor
  · have e : (nI q).toUInt32.toUInt16.toUInt32.toInt32 = nI q := by
      apply Int32.toBitVec_inj.mp
      apply BitVec.eq_of_toNat_eq
      show (nI q).toUInt32.toUInt16.toUInt32.toNat = q % 2 ^ 32
      rw [UInt16.toNat_toUInt32, UInt32.toNat_toUInt16, show (nI q).toUInt32.toNat = q % 2 ^ 32 from rfl]
      omega
    exact congrArg Value.int e
  · have a : (0 : Int32) ≤ nI q := nI_pos' (by omega)
    have b : nI q ≤ 65535 := nI_le (b := 65535) (by omega) (by decide)
    show (decide ((0 : Int32) ≤ nI q) && decide (nI q ≤ 65535)) = true
    rw [decide_eq_true a, decide_eq_true b]
    rfl
theorem pk_char (x : Int32) : (x.toUInt32 % 65536).toInt32 = nI (x.toBitVec.toNat % 65536) := by
  apply Int32.toBitVec_inj.mp
  apply BitVec.eq_of_toNat_eq
  rw [pk_tn (by omega)]
  show (x.toUInt32 % 65536).toNat = _
  rw [UInt32.toNat_mod]
  rfl
theorem pk_nc (x : Int32) : narrow .char (.int (x.toUInt32 % 65536).toInt32) = .int (x.toUInt32 % 65536).toInt32 := by
  rw [pk_char]
  exact (pk_charN (Nat.mod_lt _ (by decide))).1
theorem pk_fc (x : Int32) : fits .char (.int (x.toUInt32 % 65536).toInt32) = true := by
  rw [pk_char]
  exact (pk_charN (Nat.mod_lt _ (by decide))).2
theorem pk_vb (z : Int32) : vp_nar .byte z.toInt8.toInt32 = z.toInt8.toInt32 := by rw [vp_nar_byte]; simp
theorem pk_vs (z : Int32) : vp_nar .short z.toInt16.toInt32 = z.toInt16.toInt32 := by rw [vp_nar_short]; simp
theorem pk_vc (z : Int32) : vp_nar .char (z.toUInt32 % 65536).toInt32 = (z.toUInt32 % 65536).toInt32 := Value.int.inj (pk_nc z)
theorem pk_lT {n : Nat} (h : n < 2 ^ 63) : (lN n).toInt = (n : Int) := lg_ofNat_toInt h
theorem pk_lLT {a b : Nat} (ha : a < 2 ^ 63) (hb : b < 2 ^ 63) : lN a < lN b ↔ a < b := by
  rw [Int64.lt_iff_toInt_lt, pk_lT ha, pk_lT hb]; omega
theorem pk_lLE {a b : Nat} (ha : a < 2 ^ 63) (hb : b < 2 ^ 63) : lN a ≤ lN b ↔ a ≤ b := by
  rw [Int64.le_iff_toInt_le, pk_lT ha, pk_lT hb]; omega
theorem pk_lEQ {a b : Nat} (ha : a < 2 ^ 63) (hb : b < 2 ^ 63) : lN a = lN b ↔ a = b := by
  rw [← Int64.toInt_inj, pk_lT ha, pk_lT hb]; omega
theorem pk_lOf {x : Int64} (h : ¬ x < 0) : ∃ k : Nat, k < 2 ^ 63 ∧ x = lN k := by
  rw [Int64.lt_iff_toInt_lt] at h
  have h0 : (0 : Int64).toInt = 0 := by decide
  have hx := Int64.toInt_lt x
  refine ⟨x.toInt.toNat, by omega, Int64.toInt_inj.mp ?_⟩
  rw [pk_lT (by omega)]
  omega
theorem pk_lDiv {a b : Nat} (ha : a < 2 ^ 63) (h0 : 0 < b) (hb : b < 2 ^ 63) : lN a / lN b = lN (a / b) := by
  apply Int64.toInt_inj.mp
  rw [lg_ldiv_nonneg (by rw [pk_lT ha]; omega) (by rw [pk_lT hb]; omega), pk_lT ha, pk_lT hb, pk_lT (Nat.lt_of_le_of_lt (Nat.div_le_self a b) ha)]
  rfl
theorem pk_lRem {a b : Nat} (ha : a < 2 ^ 63) (h0 : 0 < b) (hb : b < 2 ^ 63) : lN a - lN a / lN b * lN b = lN (a % b) := by
  rw [pk_lDiv ha h0 hb, lN_mul, lN_sub (Nat.div_mul_le_self a b)]
  exact congrArg lN (by have := Nat.div_add_mod' a b; omega)
theorem pk_loop {σ : Type} (W : Nat → Nat → σ → Prop) (I : Nat → σ → Prop) (e i0 : Nat) (s : σ) (hi : i0 ≤ e) (h0 : I i0 s) (hx : ∀ n s, I e s → W (n + 1) e s)
    (hs : ∀ n i s, i < e → I i s → (∀ s', I (i + 1) s' → W n (i + 1) s') → W (n + 1) i s) : ∃ n, W n i0 s :=
  ⟨e + 1, loop_i W I e hx hs (e + 1) i0 s hi (by omega) h0⟩
theorem pk_loopD {σ : Type} (W : Nat → Nat → σ → Prop) (I : Nat → σ → Prop) (hx : ∀ n s, I 0 s → W (n + 1) 0 s)
    (hs : ∀ n i s, I (i + 1) s → (∀ s', I i s' → W n i s') → W (n + 1) (i + 1) s) : ∀ (e : Nat) (s : σ), I e s → W (e + 1) e s := by
  intro e
  induction e with
  | zero => exact fun s h => hx 0 s h
  | succ e ih => exact fun s h => hs (e + 1) e s h (fun s' h' => ih s' h')
theorem lp1 {A1 : Type} (W : Nat → A1 → Prop) (I : A1 → Prop) (μ : A1 → Nat) (hs : ∀ (n : Nat) (a1 : A1), I a1 → (∀ (b1 : A1), I b1 → μ b1 < μ a1 → W n b1) → W (n + 1) a1) (a1 : A1) (h : I a1) : ∃ n, W n a1 :=
  loop_m (σ := A1) (fun n s => W n s) (fun s => I s) (fun s => μ s) (fun n s hI hk => hs n s hI (fun b1 h9 hm => hk b1 h9 hm)) a1 h
theorem lp2 {A1 A2 : Type} (W : Nat → A1 → A2 → Prop) (I : A1 → A2 → Prop) (μ : A1 → A2 → Nat) (hs : ∀ (n : Nat) (a1 : A1) (a2 : A2), I a1 a2 → (∀ (b1 : A1) (b2 : A2), I b1 b2 → μ b1 b2 < μ a1 a2 → W n b1 b2) → W (n + 1) a1 a2) (a1 : A1) (a2 : A2) (h : I a1 a2) : ∃ n, W n a1 a2 :=
  loop_m (σ := A1 × A2) (fun n s => W n s.1 s.2) (fun s => I s.1 s.2) (fun s => μ s.1 s.2) (fun n s hI hk => hs n s.1 s.2 hI (fun b1 b2 h9 hm => hk (b1, b2) h9 hm)) (a1, a2) h
theorem lp3 {A1 A2 A3 : Type} (W : Nat → A1 → A2 → A3 → Prop) (I : A1 → A2 → A3 → Prop) (μ : A1 → A2 → A3 → Nat) (hs : ∀ (n : Nat) (a1 : A1) (a2 : A2) (a3 : A3), I a1 a2 a3 → (∀ (b1 : A1) (b2 : A2) (b3 : A3), I b1 b2 b3 → μ b1 b2 b3 < μ a1 a2 a3 → W n b1 b2 b3) → W (n + 1) a1 a2 a3) (a1 : A1) (a2 : A2) (a3 : A3) (h : I a1 a2 a3) : ∃ n, W n a1 a2 a3 :=
  loop_m (σ := A1 × A2 × A3) (fun n s => W n s.1 s.2.1 s.2.2) (fun s => I s.1 s.2.1 s.2.2) (fun s => μ s.1 s.2.1 s.2.2) (fun n s hI hk => hs n s.1 s.2.1 s.2.2 hI (fun b1 b2 b3 h9 hm => hk (b1, b2, b3) h9 hm)) (a1, a2, a3) h
theorem lp4 {A1 A2 A3 A4 : Type} (W : Nat → A1 → A2 → A3 → A4 → Prop) (I : A1 → A2 → A3 → A4 → Prop) (μ : A1 → A2 → A3 → A4 → Nat) (hs : ∀ (n : Nat) (a1 : A1) (a2 : A2) (a3 : A3) (a4 : A4), I a1 a2 a3 a4 → (∀ (b1 : A1) (b2 : A2) (b3 : A3) (b4 : A4), I b1 b2 b3 b4 → μ b1 b2 b3 b4 < μ a1 a2 a3 a4 → W n b1 b2 b3 b4) → W (n + 1) a1 a2 a3 a4) (a1 : A1) (a2 : A2) (a3 : A3) (a4 : A4) (h : I a1 a2 a3 a4) : ∃ n, W n a1 a2 a3 a4 :=
  loop_m (σ := A1 × A2 × A3 × A4) (fun n s => W n s.1 s.2.1 s.2.2.1 s.2.2.2) (fun s => I s.1 s.2.1 s.2.2.1 s.2.2.2) (fun s => μ s.1 s.2.1 s.2.2.1 s.2.2.2) (fun n s hI hk => hs n s.1 s.2.1 s.2.2.1 s.2.2.2 hI (fun b1 b2 b3 b4 h9 hm => hk (b1, b2, b3, b4) h9 hm)) (a1, a2, a3, a4) h
theorem lp5 {A1 A2 A3 A4 A5 : Type} (W : Nat → A1 → A2 → A3 → A4 → A5 → Prop) (I : A1 → A2 → A3 → A4 → A5 → Prop) (μ : A1 → A2 → A3 → A4 → A5 → Nat) (hs : ∀ (n : Nat) (a1 : A1) (a2 : A2) (a3 : A3) (a4 : A4) (a5 : A5), I a1 a2 a3 a4 a5 → (∀ (b1 : A1) (b2 : A2) (b3 : A3) (b4 : A4) (b5 : A5), I b1 b2 b3 b4 b5 → μ b1 b2 b3 b4 b5 < μ a1 a2 a3 a4 a5 → W n b1 b2 b3 b4 b5) → W (n + 1) a1 a2 a3 a4 a5) (a1 : A1) (a2 : A2) (a3 : A3) (a4 : A4) (a5 : A5) (h : I a1 a2 a3 a4 a5) : ∃ n, W n a1 a2 a3 a4 a5 :=
  loop_m (σ := A1 × A2 × A3 × A4 × A5) (fun n s => W n s.1 s.2.1 s.2.2.1 s.2.2.2.1 s.2.2.2.2) (fun s => I s.1 s.2.1 s.2.2.1 s.2.2.2.1 s.2.2.2.2) (fun s => μ s.1 s.2.1 s.2.2.1 s.2.2.2.1 s.2.2.2.2) (fun n s hI hk => hs n s.1 s.2.1 s.2.2.1 s.2.2.2.1 s.2.2.2.2 hI (fun b1 b2 b3 b4 b5 h9 hm => hk (b1, b2, b3, b4, b5) h9 hm)) (a1, a2, a3, a4, a5) h
theorem lp6 {A1 A2 A3 A4 A5 A6 : Type} (W : Nat → A1 → A2 → A3 → A4 → A5 → A6 → Prop) (I : A1 → A2 → A3 → A4 → A5 → A6 → Prop) (μ : A1 → A2 → A3 → A4 → A5 → A6 → Nat) (hs : ∀ (n : Nat) (a1 : A1) (a2 : A2) (a3 : A3) (a4 : A4) (a5 : A5) (a6 : A6), I a1 a2 a3 a4 a5 a6 → (∀ (b1 : A1) (b2 : A2) (b3 : A3) (b4 : A4) (b5 : A5) (b6 : A6), I b1 b2 b3 b4 b5 b6 → μ b1 b2 b3 b4 b5 b6 < μ a1 a2 a3 a4 a5 a6 → W n b1 b2 b3 b4 b5 b6) → W (n + 1) a1 a2 a3 a4 a5 a6) (a1 : A1) (a2 : A2) (a3 : A3) (a4 : A4) (a5 : A5) (a6 : A6) (h : I a1 a2 a3 a4 a5 a6) : ∃ n, W n a1 a2 a3 a4 a5 a6 :=
  loop_m (σ := A1 × A2 × A3 × A4 × A5 × A6) (fun n s => W n s.1 s.2.1 s.2.2.1 s.2.2.2.1 s.2.2.2.2.1 s.2.2.2.2.2) (fun s => I s.1 s.2.1 s.2.2.1 s.2.2.2.1 s.2.2.2.2.1 s.2.2.2.2.2) (fun s => μ s.1 s.2.1 s.2.2.1 s.2.2.2.1 s.2.2.2.2.1 s.2.2.2.2.2) (fun n s hI hk => hs n s.1 s.2.1 s.2.2.1 s.2.2.2.1 s.2.2.2.2.1 s.2.2.2.2.2 hI (fun b1 b2 b3 b4 b5 b6 h9 hm => hk (b1, b2, b3, b4, b5, b6) h9 hm)) (a1, a2, a3, a4, a5, a6) h
theorem lp7 {A1 A2 A3 A4 A5 A6 A7 : Type} (W : Nat → A1 → A2 → A3 → A4 → A5 → A6 → A7 → Prop) (I : A1 → A2 → A3 → A4 → A5 → A6 → A7 → Prop) (μ : A1 → A2 → A3 → A4 → A5 → A6 → A7 → Nat) (hs : ∀ (n : Nat) (a1 : A1) (a2 : A2) (a3 : A3) (a4 : A4) (a5 : A5) (a6 : A6) (a7 : A7), I a1 a2 a3 a4 a5 a6 a7 → (∀ (b1 : A1) (b2 : A2) (b3 : A3) (b4 : A4) (b5 : A5) (b6 : A6) (b7 : A7), I b1 b2 b3 b4 b5 b6 b7 → μ b1 b2 b3 b4 b5 b6 b7 < μ a1 a2 a3 a4 a5 a6 a7 → W n b1 b2 b3 b4 b5 b6 b7) → W (n + 1) a1 a2 a3 a4 a5 a6 a7) (a1 : A1) (a2 : A2) (a3 : A3) (a4 : A4) (a5 : A5) (a6 : A6) (a7 : A7) (h : I a1 a2 a3 a4 a5 a6 a7) : ∃ n, W n a1 a2 a3 a4 a5 a6 a7 :=
  loop_m (σ := A1 × A2 × A3 × A4 × A5 × A6 × A7) (fun n s => W n s.1 s.2.1 s.2.2.1 s.2.2.2.1 s.2.2.2.2.1 s.2.2.2.2.2.1 s.2.2.2.2.2.2) (fun s => I s.1 s.2.1 s.2.2.1 s.2.2.2.1 s.2.2.2.2.1 s.2.2.2.2.2.1 s.2.2.2.2.2.2) (fun s => μ s.1 s.2.1 s.2.2.1 s.2.2.2.1 s.2.2.2.2.1 s.2.2.2.2.2.1 s.2.2.2.2.2.2) (fun n s hI hk => hs n s.1 s.2.1 s.2.2.1 s.2.2.2.1 s.2.2.2.2.1 s.2.2.2.2.2.1 s.2.2.2.2.2.2 hI (fun b1 b2 b3 b4 b5 b6 b7 h9 hm => hk (b1, b2, b3, b4, b5, b6, b7) h9 hm)) (a1, a2, a3, a4, a5, a6, a7) h
theorem lp8 {A1 A2 A3 A4 A5 A6 A7 A8 : Type} (W : Nat → A1 → A2 → A3 → A4 → A5 → A6 → A7 → A8 → Prop) (I : A1 → A2 → A3 → A4 → A5 → A6 → A7 → A8 → Prop) (μ : A1 → A2 → A3 → A4 → A5 → A6 → A7 → A8 → Nat) (hs : ∀ (n : Nat) (a1 : A1) (a2 : A2) (a3 : A3) (a4 : A4) (a5 : A5) (a6 : A6) (a7 : A7) (a8 : A8), I a1 a2 a3 a4 a5 a6 a7 a8 → (∀ (b1 : A1) (b2 : A2) (b3 : A3) (b4 : A4) (b5 : A5) (b6 : A6) (b7 : A7) (b8 : A8), I b1 b2 b3 b4 b5 b6 b7 b8 → μ b1 b2 b3 b4 b5 b6 b7 b8 < μ a1 a2 a3 a4 a5 a6 a7 a8 → W n b1 b2 b3 b4 b5 b6 b7 b8) → W (n + 1) a1 a2 a3 a4 a5 a6 a7 a8) (a1 : A1) (a2 : A2) (a3 : A3) (a4 : A4) (a5 : A5) (a6 : A6) (a7 : A7) (a8 : A8) (h : I a1 a2 a3 a4 a5 a6 a7 a8) : ∃ n, W n a1 a2 a3 a4 a5 a6 a7 a8 :=
  loop_m (σ := A1 × A2 × A3 × A4 × A5 × A6 × A7 × A8) (fun n s => W n s.1 s.2.1 s.2.2.1 s.2.2.2.1 s.2.2.2.2.1 s.2.2.2.2.2.1 s.2.2.2.2.2.2.1 s.2.2.2.2.2.2.2) (fun s => I s.1 s.2.1 s.2.2.1 s.2.2.2.1 s.2.2.2.2.1 s.2.2.2.2.2.1 s.2.2.2.2.2.2.1 s.2.2.2.2.2.2.2) (fun s => μ s.1 s.2.1 s.2.2.1 s.2.2.2.1 s.2.2.2.2.1 s.2.2.2.2.2.1 s.2.2.2.2.2.2.1 s.2.2.2.2.2.2.2) (fun n s hI hk => hs n s.1 s.2.1 s.2.2.1 s.2.2.2.1 s.2.2.2.2.1 s.2.2.2.2.2.1 s.2.2.2.2.2.2.1 s.2.2.2.2.2.2.2 hI (fun b1 b2 b3 b4 b5 b6 b7 b8 h9 hm => hk (b1, b2, b3, b4, b5, b6, b7, b8) h9 hm)) (a1, a2, a3, a4, a5, a6, a7, a8) h
theorem lp9 {A1 A2 A3 A4 A5 A6 A7 A8 A9 : Type} (W : Nat → A1 → A2 → A3 → A4 → A5 → A6 → A7 → A8 → A9 → Prop) (I : A1 → A2 → A3 → A4 → A5 → A6 → A7 → A8 → A9 → Prop) (μ : A1 → A2 → A3 → A4 → A5 → A6 → A7 → A8 → A9 → Nat) (hs : ∀ (n : Nat) (a1 : A1) (a2 : A2) (a3 : A3) (a4 : A4) (a5 : A5) (a6 : A6) (a7 : A7) (a8 : A8) (a9 : A9), I a1 a2 a3 a4 a5 a6 a7 a8 a9 → (∀ (b1 : A1) (b2 : A2) (b3 : A3) (b4 : A4) (b5 : A5) (b6 : A6) (b7 : A7) (b8 : A8) (b9 : A9), I b1 b2 b3 b4 b5 b6 b7 b8 b9 → μ b1 b2 b3 b4 b5 b6 b7 b8 b9 < μ a1 a2 a3 a4 a5 a6 a7 a8 a9 → W n b1 b2 b3 b4 b5 b6 b7 b8 b9) → W (n + 1) a1 a2 a3 a4 a5 a6 a7 a8 a9) (a1 : A1) (a2 : A2) (a3 : A3) (a4 : A4) (a5 : A5) (a6 : A6) (a7 : A7) (a8 : A8) (a9 : A9) (h : I a1 a2 a3 a4 a5 a6 a7 a8 a9) : ∃ n, W n a1 a2 a3 a4 a5 a6 a7 a8 a9 :=
  loop_m (σ := A1 × A2 × A3 × A4 × A5 × A6 × A7 × A8 × A9) (fun n s => W n s.1 s.2.1 s.2.2.1 s.2.2.2.1 s.2.2.2.2.1 s.2.2.2.2.2.1 s.2.2.2.2.2.2.1 s.2.2.2.2.2.2.2.1 s.2.2.2.2.2.2.2.2) (fun s => I s.1 s.2.1 s.2.2.1 s.2.2.2.1 s.2.2.2.2.1 s.2.2.2.2.2.1 s.2.2.2.2.2.2.1 s.2.2.2.2.2.2.2.1 s.2.2.2.2.2.2.2.2) (fun s => μ s.1 s.2.1 s.2.2.1 s.2.2.2.1 s.2.2.2.2.1 s.2.2.2.2.2.1 s.2.2.2.2.2.2.1 s.2.2.2.2.2.2.2.1 s.2.2.2.2.2.2.2.2) (fun n s hI hk => hs n s.1 s.2.1 s.2.2.1 s.2.2.2.1 s.2.2.2.2.1 s.2.2.2.2.2.1 s.2.2.2.2.2.2.1 s.2.2.2.2.2.2.2.1 s.2.2.2.2.2.2.2.2 hI (fun b1 b2 b3 b4 b5 b6 b7 b8 b9 h9 hm => hk (b1, b2, b3, b4, b5, b6, b7, b8, b9) h9 hm)) (a1, a2, a3, a4, a5, a6, a7, a8, a9) h
theorem lp10 {A1 A2 A3 A4 A5 A6 A7 A8 A9 A10 : Type} (W : Nat → A1 → A2 → A3 → A4 → A5 → A6 → A7 → A8 → A9 → A10 → Prop) (I : A1 → A2 → A3 → A4 → A5 → A6 → A7 → A8 → A9 → A10 → Prop) (μ : A1 → A2 → A3 → A4 → A5 → A6 → A7 → A8 → A9 → A10 → Nat) (hs : ∀ (n : Nat) (a1 : A1) (a2 : A2) (a3 : A3) (a4 : A4) (a5 : A5) (a6 : A6) (a7 : A7) (a8 : A8) (a9 : A9) (a10 : A10), I a1 a2 a3 a4 a5 a6 a7 a8 a9 a10 → (∀ (b1 : A1) (b2 : A2) (b3 : A3) (b4 : A4) (b5 : A5) (b6 : A6) (b7 : A7) (b8 : A8) (b9 : A9) (b10 : A10), I b1 b2 b3 b4 b5 b6 b7 b8 b9 b10 → μ b1 b2 b3 b4 b5 b6 b7 b8 b9 b10 < μ a1 a2 a3 a4 a5 a6 a7 a8 a9 a10 → W n b1 b2 b3 b4 b5 b6 b7 b8 b9 b10) → W (n + 1) a1 a2 a3 a4 a5 a6 a7 a8 a9 a10) (a1 : A1) (a2 : A2) (a3 : A3) (a4 : A4) (a5 : A5) (a6 : A6) (a7 : A7) (a8 : A8) (a9 : A9) (a10 : A10) (h : I a1 a2 a3 a4 a5 a6 a7 a8 a9 a10) : ∃ n, W n a1 a2 a3 a4 a5 a6 a7 a8 a9 a10 :=
  loop_m (σ := A1 × A2 × A3 × A4 × A5 × A6 × A7 × A8 × A9 × A10) (fun n s => W n s.1 s.2.1 s.2.2.1 s.2.2.2.1 s.2.2.2.2.1 s.2.2.2.2.2.1 s.2.2.2.2.2.2.1 s.2.2.2.2.2.2.2.1 s.2.2.2.2.2.2.2.2.1 s.2.2.2.2.2.2.2.2.2) (fun s => I s.1 s.2.1 s.2.2.1 s.2.2.2.1 s.2.2.2.2.1 s.2.2.2.2.2.1 s.2.2.2.2.2.2.1 s.2.2.2.2.2.2.2.1 s.2.2.2.2.2.2.2.2.1 s.2.2.2.2.2.2.2.2.2) (fun s => μ s.1 s.2.1 s.2.2.1 s.2.2.2.1 s.2.2.2.2.1 s.2.2.2.2.2.1 s.2.2.2.2.2.2.1 s.2.2.2.2.2.2.2.1 s.2.2.2.2.2.2.2.2.1 s.2.2.2.2.2.2.2.2.2) (fun n s hI hk => hs n s.1 s.2.1 s.2.2.1 s.2.2.2.1 s.2.2.2.2.1 s.2.2.2.2.2.1 s.2.2.2.2.2.2.1 s.2.2.2.2.2.2.2.1 s.2.2.2.2.2.2.2.2.1 s.2.2.2.2.2.2.2.2.2 hI (fun b1 b2 b3 b4 b5 b6 b7 b8 b9 b10 h9 hm => hk (b1, b2, b3, b4, b5, b6, b7, b8, b9, b10) h9 hm)) (a1, a2, a3, a4, a5, a6, a7, a8, a9, a10) h
theorem lp11 {A1 A2 A3 A4 A5 A6 A7 A8 A9 A10 A11 : Type} (W : Nat → A1 → A2 → A3 → A4 → A5 → A6 → A7 → A8 → A9 → A10 → A11 → Prop) (I : A1 → A2 → A3 → A4 → A5 → A6 → A7 → A8 → A9 → A10 → A11 → Prop) (μ : A1 → A2 → A3 → A4 → A5 → A6 → A7 → A8 → A9 → A10 → A11 → Nat) (hs : ∀ (n : Nat) (a1 : A1) (a2 : A2) (a3 : A3) (a4 : A4) (a5 : A5) (a6 : A6) (a7 : A7) (a8 : A8) (a9 : A9) (a10 : A10) (a11 : A11), I a1 a2 a3 a4 a5 a6 a7 a8 a9 a10 a11 → (∀ (b1 : A1) (b2 : A2) (b3 : A3) (b4 : A4) (b5 : A5) (b6 : A6) (b7 : A7) (b8 : A8) (b9 : A9) (b10 : A10) (b11 : A11), I b1 b2 b3 b4 b5 b6 b7 b8 b9 b10 b11 → μ b1 b2 b3 b4 b5 b6 b7 b8 b9 b10 b11 < μ a1 a2 a3 a4 a5 a6 a7 a8 a9 a10 a11 → W n b1 b2 b3 b4 b5 b6 b7 b8 b9 b10 b11) → W (n + 1) a1 a2 a3 a4 a5 a6 a7 a8 a9 a10 a11) (a1 : A1) (a2 : A2) (a3 : A3) (a4 : A4) (a5 : A5) (a6 : A6) (a7 : A7) (a8 : A8) (a9 : A9) (a10 : A10) (a11 : A11) (h : I a1 a2 a3 a4 a5 a6 a7 a8 a9 a10 a11) : ∃ n, W n a1 a2 a3 a4 a5 a6 a7 a8 a9 a10 a11 :=
  loop_m (σ := A1 × A2 × A3 × A4 × A5 × A6 × A7 × A8 × A9 × A10 × A11) (fun n s => W n s.1 s.2.1 s.2.2.1 s.2.2.2.1 s.2.2.2.2.1 s.2.2.2.2.2.1 s.2.2.2.2.2.2.1 s.2.2.2.2.2.2.2.1 s.2.2.2.2.2.2.2.2.1 s.2.2.2.2.2.2.2.2.2.1 s.2.2.2.2.2.2.2.2.2.2) (fun s => I s.1 s.2.1 s.2.2.1 s.2.2.2.1 s.2.2.2.2.1 s.2.2.2.2.2.1 s.2.2.2.2.2.2.1 s.2.2.2.2.2.2.2.1 s.2.2.2.2.2.2.2.2.1 s.2.2.2.2.2.2.2.2.2.1 s.2.2.2.2.2.2.2.2.2.2) (fun s => μ s.1 s.2.1 s.2.2.1 s.2.2.2.1 s.2.2.2.2.1 s.2.2.2.2.2.1 s.2.2.2.2.2.2.1 s.2.2.2.2.2.2.2.1 s.2.2.2.2.2.2.2.2.1 s.2.2.2.2.2.2.2.2.2.1 s.2.2.2.2.2.2.2.2.2.2) (fun n s hI hk => hs n s.1 s.2.1 s.2.2.1 s.2.2.2.1 s.2.2.2.2.1 s.2.2.2.2.2.1 s.2.2.2.2.2.2.1 s.2.2.2.2.2.2.2.1 s.2.2.2.2.2.2.2.2.1 s.2.2.2.2.2.2.2.2.2.1 s.2.2.2.2.2.2.2.2.2.2 hI (fun b1 b2 b3 b4 b5 b6 b7 b8 b9 b10 b11 h9 hm => hk (b1, b2, b3, b4, b5, b6, b7, b8, b9, b10, b11) h9 hm)) (a1, a2, a3, a4, a5, a6, a7, a8, a9, a10, a11) h
theorem lp12 {A1 A2 A3 A4 A5 A6 A7 A8 A9 A10 A11 A12 : Type} (W : Nat → A1 → A2 → A3 → A4 → A5 → A6 → A7 → A8 → A9 → A10 → A11 → A12 → Prop) (I : A1 → A2 → A3 → A4 → A5 → A6 → A7 → A8 → A9 → A10 → A11 → A12 → Prop) (μ : A1 → A2 → A3 → A4 → A5 → A6 → A7 → A8 → A9 → A10 → A11 → A12 → Nat) (hs : ∀ (n : Nat) (a1 : A1) (a2 : A2) (a3 : A3) (a4 : A4) (a5 : A5) (a6 : A6) (a7 : A7) (a8 : A8) (a9 : A9) (a10 : A10) (a11 : A11) (a12 : A12), I a1 a2 a3 a4 a5 a6 a7 a8 a9 a10 a11 a12 → (∀ (b1 : A1) (b2 : A2) (b3 : A3) (b4 : A4) (b5 : A5) (b6 : A6) (b7 : A7) (b8 : A8) (b9 : A9) (b10 : A10) (b11 : A11) (b12 : A12), I b1 b2 b3 b4 b5 b6 b7 b8 b9 b10 b11 b12 → μ b1 b2 b3 b4 b5 b6 b7 b8 b9 b10 b11 b12 < μ a1 a2 a3 a4 a5 a6 a7 a8 a9 a10 a11 a12 → W n b1 b2 b3 b4 b5 b6 b7 b8 b9 b10 b11 b12) → W (n + 1) a1 a2 a3 a4 a5 a6 a7 a8 a9 a10 a11 a12) (a1 : A1) (a2 : A2) (a3 : A3) (a4 : A4) (a5 : A5) (a6 : A6) (a7 : A7) (a8 : A8) (a9 : A9) (a10 : A10) (a11 : A11) (a12 : A12) (h : I a1 a2 a3 a4 a5 a6 a7 a8 a9 a10 a11 a12) : ∃ n, W n a1 a2 a3 a4 a5 a6 a7 a8 a9 a10 a11 a12 :=
  loop_m (σ := A1 × A2 × A3 × A4 × A5 × A6 × A7 × A8 × A9 × A10 × A11 × A12) (fun n s => W n s.1 s.2.1 s.2.2.1 s.2.2.2.1 s.2.2.2.2.1 s.2.2.2.2.2.1 s.2.2.2.2.2.2.1 s.2.2.2.2.2.2.2.1 s.2.2.2.2.2.2.2.2.1 s.2.2.2.2.2.2.2.2.2.1 s.2.2.2.2.2.2.2.2.2.2.1 s.2.2.2.2.2.2.2.2.2.2.2) (fun s => I s.1 s.2.1 s.2.2.1 s.2.2.2.1 s.2.2.2.2.1 s.2.2.2.2.2.1 s.2.2.2.2.2.2.1 s.2.2.2.2.2.2.2.1 s.2.2.2.2.2.2.2.2.1 s.2.2.2.2.2.2.2.2.2.1 s.2.2.2.2.2.2.2.2.2.2.1 s.2.2.2.2.2.2.2.2.2.2.2) (fun s => μ s.1 s.2.1 s.2.2.1 s.2.2.2.1 s.2.2.2.2.1 s.2.2.2.2.2.1 s.2.2.2.2.2.2.1 s.2.2.2.2.2.2.2.1 s.2.2.2.2.2.2.2.2.1 s.2.2.2.2.2.2.2.2.2.1 s.2.2.2.2.2.2.2.2.2.2.1 s.2.2.2.2.2.2.2.2.2.2.2) (fun n s hI hk => hs n s.1 s.2.1 s.2.2.1 s.2.2.2.1 s.2.2.2.2.1 s.2.2.2.2.2.1 s.2.2.2.2.2.2.1 s.2.2.2.2.2.2.2.1 s.2.2.2.2.2.2.2.2.1 s.2.2.2.2.2.2.2.2.2.1 s.2.2.2.2.2.2.2.2.2.2.1 s.2.2.2.2.2.2.2.2.2.2.2 hI (fun b1 b2 b3 b4 b5 b6 b7 b8 b9 b10 b11 b12 h9 hm => hk (b1, b2, b3, b4, b5, b6, b7, b8, b9, b10, b11, b12) h9 hm)) (a1, a2, a3, a4, a5, a6, a7, a8, a9, a10, a11, a12) h
theorem lp13 {A1 A2 A3 A4 A5 A6 A7 A8 A9 A10 A11 A12 A13 : Type} (W : Nat → A1 → A2 → A3 → A4 → A5 → A6 → A7 → A8 → A9 → A10 → A11 → A12 → A13 → Prop) (I : A1 → A2 → A3 → A4 → A5 → A6 → A7 → A8 → A9 → A10 → A11 → A12 → A13 → Prop) (μ : A1 → A2 → A3 → A4 → A5 → A6 → A7 → A8 → A9 → A10 → A11 → A12 → A13 → Nat) (hs : ∀ (n : Nat) (a1 : A1) (a2 : A2) (a3 : A3) (a4 : A4) (a5 : A5) (a6 : A6) (a7 : A7) (a8 : A8) (a9 : A9) (a10 : A10) (a11 : A11) (a12 : A12) (a13 : A13), I a1 a2 a3 a4 a5 a6 a7 a8 a9 a10 a11 a12 a13 → (∀ (b1 : A1) (b2 : A2) (b3 : A3) (b4 : A4) (b5 : A5) (b6 : A6) (b7 : A7) (b8 : A8) (b9 : A9) (b10 : A10) (b11 : A11) (b12 : A12) (b13 : A13), I b1 b2 b3 b4 b5 b6 b7 b8 b9 b10 b11 b12 b13 → μ b1 b2 b3 b4 b5 b6 b7 b8 b9 b10 b11 b12 b13 < μ a1 a2 a3 a4 a5 a6 a7 a8 a9 a10 a11 a12 a13 → W n b1 b2 b3 b4 b5 b6 b7 b8 b9 b10 b11 b12 b13) → W (n + 1) a1 a2 a3 a4 a5 a6 a7 a8 a9 a10 a11 a12 a13) (a1 : A1) (a2 : A2) (a3 : A3) (a4 : A4) (a5 : A5) (a6 : A6) (a7 : A7) (a8 : A8) (a9 : A9) (a10 : A10) (a11 : A11) (a12 : A12) (a13 : A13) (h : I a1 a2 a3 a4 a5 a6 a7 a8 a9 a10 a11 a12 a13) : ∃ n, W n a1 a2 a3 a4 a5 a6 a7 a8 a9 a10 a11 a12 a13 :=
  loop_m (σ := A1 × A2 × A3 × A4 × A5 × A6 × A7 × A8 × A9 × A10 × A11 × A12 × A13) (fun n s => W n s.1 s.2.1 s.2.2.1 s.2.2.2.1 s.2.2.2.2.1 s.2.2.2.2.2.1 s.2.2.2.2.2.2.1 s.2.2.2.2.2.2.2.1 s.2.2.2.2.2.2.2.2.1 s.2.2.2.2.2.2.2.2.2.1 s.2.2.2.2.2.2.2.2.2.2.1 s.2.2.2.2.2.2.2.2.2.2.2.1 s.2.2.2.2.2.2.2.2.2.2.2.2) (fun s => I s.1 s.2.1 s.2.2.1 s.2.2.2.1 s.2.2.2.2.1 s.2.2.2.2.2.1 s.2.2.2.2.2.2.1 s.2.2.2.2.2.2.2.1 s.2.2.2.2.2.2.2.2.1 s.2.2.2.2.2.2.2.2.2.1 s.2.2.2.2.2.2.2.2.2.2.1 s.2.2.2.2.2.2.2.2.2.2.2.1 s.2.2.2.2.2.2.2.2.2.2.2.2) (fun s => μ s.1 s.2.1 s.2.2.1 s.2.2.2.1 s.2.2.2.2.1 s.2.2.2.2.2.1 s.2.2.2.2.2.2.1 s.2.2.2.2.2.2.2.1 s.2.2.2.2.2.2.2.2.1 s.2.2.2.2.2.2.2.2.2.1 s.2.2.2.2.2.2.2.2.2.2.1 s.2.2.2.2.2.2.2.2.2.2.2.1 s.2.2.2.2.2.2.2.2.2.2.2.2) (fun n s hI hk => hs n s.1 s.2.1 s.2.2.1 s.2.2.2.1 s.2.2.2.2.1 s.2.2.2.2.2.1 s.2.2.2.2.2.2.1 s.2.2.2.2.2.2.2.1 s.2.2.2.2.2.2.2.2.1 s.2.2.2.2.2.2.2.2.2.1 s.2.2.2.2.2.2.2.2.2.2.1 s.2.2.2.2.2.2.2.2.2.2.2.1 s.2.2.2.2.2.2.2.2.2.2.2.2 hI (fun b1 b2 b3 b4 b5 b6 b7 b8 b9 b10 b11 b12 b13 h9 hm => hk (b1, b2, b3, b4, b5, b6, b7, b8, b9, b10, b11, b12, b13) h9 hm)) (a1, a2, a3, a4, a5, a6, a7, a8, a9, a10, a11, a12, a13) h
theorem lp14 {A1 A2 A3 A4 A5 A6 A7 A8 A9 A10 A11 A12 A13 A14 : Type} (W : Nat → A1 → A2 → A3 → A4 → A5 → A6 → A7 → A8 → A9 → A10 → A11 → A12 → A13 → A14 → Prop) (I : A1 → A2 → A3 → A4 → A5 → A6 → A7 → A8 → A9 → A10 → A11 → A12 → A13 → A14 → Prop) (μ : A1 → A2 → A3 → A4 → A5 → A6 → A7 → A8 → A9 → A10 → A11 → A12 → A13 → A14 → Nat) (hs : ∀ (n : Nat) (a1 : A1) (a2 : A2) (a3 : A3) (a4 : A4) (a5 : A5) (a6 : A6) (a7 : A7) (a8 : A8) (a9 : A9) (a10 : A10) (a11 : A11) (a12 : A12) (a13 : A13) (a14 : A14), I a1 a2 a3 a4 a5 a6 a7 a8 a9 a10 a11 a12 a13 a14 → (∀ (b1 : A1) (b2 : A2) (b3 : A3) (b4 : A4) (b5 : A5) (b6 : A6) (b7 : A7) (b8 : A8) (b9 : A9) (b10 : A10) (b11 : A11) (b12 : A12) (b13 : A13) (b14 : A14), I b1 b2 b3 b4 b5 b6 b7 b8 b9 b10 b11 b12 b13 b14 → μ b1 b2 b3 b4 b5 b6 b7 b8 b9 b10 b11 b12 b13 b14 < μ a1 a2 a3 a4 a5 a6 a7 a8 a9 a10 a11 a12 a13 a14 → W n b1 b2 b3 b4 b5 b6 b7 b8 b9 b10 b11 b12 b13 b14) → W (n + 1) a1 a2 a3 a4 a5 a6 a7 a8 a9 a10 a11 a12 a13 a14) (a1 : A1) (a2 : A2) (a3 : A3) (a4 : A4) (a5 : A5) (a6 : A6) (a7 : A7) (a8 : A8) (a9 : A9) (a10 : A10) (a11 : A11) (a12 : A12) (a13 : A13) (a14 : A14) (h : I a1 a2 a3 a4 a5 a6 a7 a8 a9 a10 a11 a12 a13 a14) : ∃ n, W n a1 a2 a3 a4 a5 a6 a7 a8 a9 a10 a11 a12 a13 a14 :=
  loop_m (σ := A1 × A2 × A3 × A4 × A5 × A6 × A7 × A8 × A9 × A10 × A11 × A12 × A13 × A14) (fun n s => W n s.1 s.2.1 s.2.2.1 s.2.2.2.1 s.2.2.2.2.1 s.2.2.2.2.2.1 s.2.2.2.2.2.2.1 s.2.2.2.2.2.2.2.1 s.2.2.2.2.2.2.2.2.1 s.2.2.2.2.2.2.2.2.2.1 s.2.2.2.2.2.2.2.2.2.2.1 s.2.2.2.2.2.2.2.2.2.2.2.1 s.2.2.2.2.2.2.2.2.2.2.2.2.1 s.2.2.2.2.2.2.2.2.2.2.2.2.2) (fun s => I s.1 s.2.1 s.2.2.1 s.2.2.2.1 s.2.2.2.2.1 s.2.2.2.2.2.1 s.2.2.2.2.2.2.1 s.2.2.2.2.2.2.2.1 s.2.2.2.2.2.2.2.2.1 s.2.2.2.2.2.2.2.2.2.1 s.2.2.2.2.2.2.2.2.2.2.1 s.2.2.2.2.2.2.2.2.2.2.2.1 s.2.2.2.2.2.2.2.2.2.2.2.2.1 s.2.2.2.2.2.2.2.2.2.2.2.2.2) (fun s => μ s.1 s.2.1 s.2.2.1 s.2.2.2.1 s.2.2.2.2.1 s.2.2.2.2.2.1 s.2.2.2.2.2.2.1 s.2.2.2.2.2.2.2.1 s.2.2.2.2.2.2.2.2.1 s.2.2.2.2.2.2.2.2.2.1 s.2.2.2.2.2.2.2.2.2.2.1 s.2.2.2.2.2.2.2.2.2.2.2.1 s.2.2.2.2.2.2.2.2.2.2.2.2.1 s.2.2.2.2.2.2.2.2.2.2.2.2.2) (fun n s hI hk => hs n s.1 s.2.1 s.2.2.1 s.2.2.2.1 s.2.2.2.2.1 s.2.2.2.2.2.1 s.2.2.2.2.2.2.1 s.2.2.2.2.2.2.2.1 s.2.2.2.2.2.2.2.2.1 s.2.2.2.2.2.2.2.2.2.1 s.2.2.2.2.2.2.2.2.2.2.1 s.2.2.2.2.2.2.2.2.2.2.2.1 s.2.2.2.2.2.2.2.2.2.2.2.2.1 s.2.2.2.2.2.2.2.2.2.2.2.2.2 hI (fun b1 b2 b3 b4 b5 b6 b7 b8 b9 b10 b11 b12 b13 b14 h9 hm => hk (b1, b2, b3, b4, b5, b6, b7, b8, b9, b10, b11, b12, b13, b14) h9 hm)) (a1, a2, a3, a4, a5, a6, a7, a8, a9, a10, a11, a12, a13, a14) h
theorem lp15 {A1 A2 A3 A4 A5 A6 A7 A8 A9 A10 A11 A12 A13 A14 A15 : Type} (W : Nat → A1 → A2 → A3 → A4 → A5 → A6 → A7 → A8 → A9 → A10 → A11 → A12 → A13 → A14 → A15 → Prop) (I : A1 → A2 → A3 → A4 → A5 → A6 → A7 → A8 → A9 → A10 → A11 → A12 → A13 → A14 → A15 → Prop) (μ : A1 → A2 → A3 → A4 → A5 → A6 → A7 → A8 → A9 → A10 → A11 → A12 → A13 → A14 → A15 → Nat) (hs : ∀ (n : Nat) (a1 : A1) (a2 : A2) (a3 : A3) (a4 : A4) (a5 : A5) (a6 : A6) (a7 : A7) (a8 : A8) (a9 : A9) (a10 : A10) (a11 : A11) (a12 : A12) (a13 : A13) (a14 : A14) (a15 : A15), I a1 a2 a3 a4 a5 a6 a7 a8 a9 a10 a11 a12 a13 a14 a15 → (∀ (b1 : A1) (b2 : A2) (b3 : A3) (b4 : A4) (b5 : A5) (b6 : A6) (b7 : A7) (b8 : A8) (b9 : A9) (b10 : A10) (b11 : A11) (b12 : A12) (b13 : A13) (b14 : A14) (b15 : A15), I b1 b2 b3 b4 b5 b6 b7 b8 b9 b10 b11 b12 b13 b14 b15 → μ b1 b2 b3 b4 b5 b6 b7 b8 b9 b10 b11 b12 b13 b14 b15 < μ a1 a2 a3 a4 a5 a6 a7 a8 a9 a10 a11 a12 a13 a14 a15 → W n b1 b2 b3 b4 b5 b6 b7 b8 b9 b10 b11 b12 b13 b14 b15) → W (n + 1) a1 a2 a3 a4 a5 a6 a7 a8 a9 a10 a11 a12 a13 a14 a15) (a1 : A1) (a2 : A2) (a3 : A3) (a4 : A4) (a5 : A5) (a6 : A6) (a7 : A7) (a8 : A8) (a9 : A9) (a10 : A10) (a11 : A11) (a12 : A12) (a13 : A13) (a14 : A14) (a15 : A15) (h : I a1 a2 a3 a4 a5 a6 a7 a8 a9 a10 a11 a12 a13 a14 a15) : ∃ n, W n a1 a2 a3 a4 a5 a6 a7 a8 a9 a10 a11 a12 a13 a14 a15 :=
  loop_m (σ := A1 × A2 × A3 × A4 × A5 × A6 × A7 × A8 × A9 × A10 × A11 × A12 × A13 × A14 × A15) (fun n s => W n s.1 s.2.1 s.2.2.1 s.2.2.2.1 s.2.2.2.2.1 s.2.2.2.2.2.1 s.2.2.2.2.2.2.1 s.2.2.2.2.2.2.2.1 s.2.2.2.2.2.2.2.2.1 s.2.2.2.2.2.2.2.2.2.1 s.2.2.2.2.2.2.2.2.2.2.1 s.2.2.2.2.2.2.2.2.2.2.2.1 s.2.2.2.2.2.2.2.2.2.2.2.2.1 s.2.2.2.2.2.2.2.2.2.2.2.2.2.1 s.2.2.2.2.2.2.2.2.2.2.2.2.2.2) (fun s => I s.1 s.2.1 s.2.2.1 s.2.2.2.1 s.2.2.2.2.1 s.2.2.2.2.2.1 s.2.2.2.2.2.2.1 s.2.2.2.2.2.2.2.1 s.2.2.2.2.2.2.2.2.1 s.2.2.2.2.2.2.2.2.2.1 s.2.2.2.2.2.2.2.2.2.2.1 s.2.2.2.2.2.2.2.2.2.2.2.1 s.2.2.2.2.2.2.2.2.2.2.2.2.1 s.2.2.2.2.2.2.2.2.2.2.2.2.2.1 s.2.2.2.2.2.2.2.2.2.2.2.2.2.2) (fun s => μ s.1 s.2.1 s.2.2.1 s.2.2.2.1 s.2.2.2.2.1 s.2.2.2.2.2.1 s.2.2.2.2.2.2.1 s.2.2.2.2.2.2.2.1 s.2.2.2.2.2.2.2.2.1 s.2.2.2.2.2.2.2.2.2.1 s.2.2.2.2.2.2.2.2.2.2.1 s.2.2.2.2.2.2.2.2.2.2.2.1 s.2.2.2.2.2.2.2.2.2.2.2.2.1 s.2.2.2.2.2.2.2.2.2.2.2.2.2.1 s.2.2.2.2.2.2.2.2.2.2.2.2.2.2) (fun n s hI hk => hs n s.1 s.2.1 s.2.2.1 s.2.2.2.1 s.2.2.2.2.1 s.2.2.2.2.2.1 s.2.2.2.2.2.2.1 s.2.2.2.2.2.2.2.1 s.2.2.2.2.2.2.2.2.1 s.2.2.2.2.2.2.2.2.2.1 s.2.2.2.2.2.2.2.2.2.2.1 s.2.2.2.2.2.2.2.2.2.2.2.1 s.2.2.2.2.2.2.2.2.2.2.2.2.1 s.2.2.2.2.2.2.2.2.2.2.2.2.2.1 s.2.2.2.2.2.2.2.2.2.2.2.2.2.2 hI (fun b1 b2 b3 b4 b5 b6 b7 b8 b9 b10 b11 b12 b13 b14 b15 h9 hm => hk (b1, b2, b3, b4, b5, b6, b7, b8, b9, b10, b11, b12, b13, b14, b15) h9 hm)) (a1, a2, a3, a4, a5, a6, a7, a8, a9, a10, a11, a12, a13, a14, a15) h
theorem lp16 {A1 A2 A3 A4 A5 A6 A7 A8 A9 A10 A11 A12 A13 A14 A15 A16 : Type} (W : Nat → A1 → A2 → A3 → A4 → A5 → A6 → A7 → A8 → A9 → A10 → A11 → A12 → A13 → A14 → A15 → A16 → Prop) (I : A1 → A2 → A3 → A4 → A5 → A6 → A7 → A8 → A9 → A10 → A11 → A12 → A13 → A14 → A15 → A16 → Prop) (μ : A1 → A2 → A3 → A4 → A5 → A6 → A7 → A8 → A9 → A10 → A11 → A12 → A13 → A14 → A15 → A16 → Nat) (hs : ∀ (n : Nat) (a1 : A1) (a2 : A2) (a3 : A3) (a4 : A4) (a5 : A5) (a6 : A6) (a7 : A7) (a8 : A8) (a9 : A9) (a10 : A10) (a11 : A11) (a12 : A12) (a13 : A13) (a14 : A14) (a15 : A15) (a16 : A16), I a1 a2 a3 a4 a5 a6 a7 a8 a9 a10 a11 a12 a13 a14 a15 a16 → (∀ (b1 : A1) (b2 : A2) (b3 : A3) (b4 : A4) (b5 : A5) (b6 : A6) (b7 : A7) (b8 : A8) (b9 : A9) (b10 : A10) (b11 : A11) (b12 : A12) (b13 : A13) (b14 : A14) (b15 : A15) (b16 : A16), I b1 b2 b3 b4 b5 b6 b7 b8 b9 b10 b11 b12 b13 b14 b15 b16 → μ b1 b2 b3 b4 b5 b6 b7 b8 b9 b10 b11 b12 b13 b14 b15 b16 < μ a1 a2 a3 a4 a5 a6 a7 a8 a9 a10 a11 a12 a13 a14 a15 a16 → W n b1 b2 b3 b4 b5 b6 b7 b8 b9 b10 b11 b12 b13 b14 b15 b16) → W (n + 1) a1 a2 a3 a4 a5 a6 a7 a8 a9 a10 a11 a12 a13 a14 a15 a16) (a1 : A1) (a2 : A2) (a3 : A3) (a4 : A4) (a5 : A5) (a6 : A6) (a7 : A7) (a8 : A8) (a9 : A9) (a10 : A10) (a11 : A11) (a12 : A12) (a13 : A13) (a14 : A14) (a15 : A15) (a16 : A16) (h : I a1 a2 a3 a4 a5 a6 a7 a8 a9 a10 a11 a12 a13 a14 a15 a16) : ∃ n, W n a1 a2 a3 a4 a5 a6 a7 a8 a9 a10 a11 a12 a13 a14 a15 a16 :=
  loop_m (σ := A1 × A2 × A3 × A4 × A5 × A6 × A7 × A8 × A9 × A10 × A11 × A12 × A13 × A14 × A15 × A16) (fun n s => W n s.1 s.2.1 s.2.2.1 s.2.2.2.1 s.2.2.2.2.1 s.2.2.2.2.2.1 s.2.2.2.2.2.2.1 s.2.2.2.2.2.2.2.1 s.2.2.2.2.2.2.2.2.1 s.2.2.2.2.2.2.2.2.2.1 s.2.2.2.2.2.2.2.2.2.2.1 s.2.2.2.2.2.2.2.2.2.2.2.1 s.2.2.2.2.2.2.2.2.2.2.2.2.1 s.2.2.2.2.2.2.2.2.2.2.2.2.2.1 s.2.2.2.2.2.2.2.2.2.2.2.2.2.2.1 s.2.2.2.2.2.2.2.2.2.2.2.2.2.2.2) (fun s => I s.1 s.2.1 s.2.2.1 s.2.2.2.1 s.2.2.2.2.1 s.2.2.2.2.2.1 s.2.2.2.2.2.2.1 s.2.2.2.2.2.2.2.1 s.2.2.2.2.2.2.2.2.1 s.2.2.2.2.2.2.2.2.2.1 s.2.2.2.2.2.2.2.2.2.2.1 s.2.2.2.2.2.2.2.2.2.2.2.1 s.2.2.2.2.2.2.2.2.2.2.2.2.1 s.2.2.2.2.2.2.2.2.2.2.2.2.2.1 s.2.2.2.2.2.2.2.2.2.2.2.2.2.2.1 s.2.2.2.2.2.2.2.2.2.2.2.2.2.2.2) (fun s => μ s.1 s.2.1 s.2.2.1 s.2.2.2.1 s.2.2.2.2.1 s.2.2.2.2.2.1 s.2.2.2.2.2.2.1 s.2.2.2.2.2.2.2.1 s.2.2.2.2.2.2.2.2.1 s.2.2.2.2.2.2.2.2.2.1 s.2.2.2.2.2.2.2.2.2.2.1 s.2.2.2.2.2.2.2.2.2.2.2.1 s.2.2.2.2.2.2.2.2.2.2.2.2.1 s.2.2.2.2.2.2.2.2.2.2.2.2.2.1 s.2.2.2.2.2.2.2.2.2.2.2.2.2.2.1 s.2.2.2.2.2.2.2.2.2.2.2.2.2.2.2) (fun n s hI hk => hs n s.1 s.2.1 s.2.2.1 s.2.2.2.1 s.2.2.2.2.1 s.2.2.2.2.2.1 s.2.2.2.2.2.2.1 s.2.2.2.2.2.2.2.1 s.2.2.2.2.2.2.2.2.1 s.2.2.2.2.2.2.2.2.2.1 s.2.2.2.2.2.2.2.2.2.2.1 s.2.2.2.2.2.2.2.2.2.2.2.1 s.2.2.2.2.2.2.2.2.2.2.2.2.1 s.2.2.2.2.2.2.2.2.2.2.2.2.2.1 s.2.2.2.2.2.2.2.2.2.2.2.2.2.2.1 s.2.2.2.2.2.2.2.2.2.2.2.2.2.2.2 hI (fun b1 b2 b3 b4 b5 b6 b7 b8 b9 b10 b11 b12 b13 b14 b15 b16 h9 hm => hk (b1, b2, b3, b4, b5, b6, b7, b8, b9, b10, b11, b12, b13, b14, b15, b16) h9 hm)) (a1, a2, a3, a4, a5, a6, a7, a8, a9, a10, a11, a12, a13, a14, a15, a16) h
theorem pk_least (P : Nat → Prop) (h : ∃ k, P k) : ∃ k, P k ∧ ∀ j, j < k → ¬ P j := by
  obtain ⟨k, hk⟩ := h
  induction k using Nat.strongRecOn with
  | ind k ih =>
    by_cases e : ∃ j, j < k ∧ P j
    · obtain ⟨j, hj, pj⟩ := e
      exact ih j hj pj
    · exact ⟨k, hk, fun j hj pj => e ⟨j, hj, pj⟩⟩
theorem rp1 {ρ A1 : Type} (W : Nat → (ρ → Prop) → A1 → Prop) (ok : A1 → Prop) (μ : A1 → Nat) (val : A1 → ρ)
    (hs : ∀ (d : Nat) (post : ρ → Prop) (a1 : A1), ok a1 → post (val a1) → (∀ (post' : ρ → Prop) (b1 : A1), ok b1 → μ b1 < μ a1 → post' (val b1) → W d post' b1) → W (d + 1) post a1) :
    ∀ (d : Nat) (post : ρ → Prop) (a1 : A1), ok a1 → μ a1 < d → post (val a1) → W d post a1 := by
  intro d
  induction d with
  | zero => intro post a1 _ h; omega
  | succ d ih =>
    intro post a1 ho hm hp
    exact hs d post a1 ho hp (fun post' b1 ho' hm' hp' => ih post' b1 ho' (by omega) hp')
theorem rp2 {ρ A1 A2 : Type} (W : Nat → (ρ → Prop) → A1 → A2 → Prop) (ok : A1 → A2 → Prop) (μ : A1 → A2 → Nat) (val : A1 → A2 → ρ)
    (hs : ∀ (d : Nat) (post : ρ → Prop) (a1 : A1) (a2 : A2), ok a1 a2 → post (val a1 a2) → (∀ (post' : ρ → Prop) (b1 : A1) (b2 : A2), ok b1 b2 → μ b1 b2 < μ a1 a2 → post' (val b1 b2) → W d post' b1 b2) → W (d + 1) post a1 a2) :
    ∀ (d : Nat) (post : ρ → Prop) (a1 : A1) (a2 : A2), ok a1 a2 → μ a1 a2 < d → post (val a1 a2) → W d post a1 a2 := by
  intro d
  induction d with
  | zero => intro post a1 a2 _ h; omega
  | succ d ih =>
    intro post a1 a2 ho hm hp
    exact hs d post a1 a2 ho hp (fun post' b1 b2 ho' hm' hp' => ih post' b1 b2 ho' (by omega) hp')
theorem rp3 {ρ A1 A2 A3 : Type} (W : Nat → (ρ → Prop) → A1 → A2 → A3 → Prop) (ok : A1 → A2 → A3 → Prop) (μ : A1 → A2 → A3 → Nat) (val : A1 → A2 → A3 → ρ)
    (hs : ∀ (d : Nat) (post : ρ → Prop) (a1 : A1) (a2 : A2) (a3 : A3), ok a1 a2 a3 → post (val a1 a2 a3) → (∀ (post' : ρ → Prop) (b1 : A1) (b2 : A2) (b3 : A3), ok b1 b2 b3 → μ b1 b2 b3 < μ a1 a2 a3 → post' (val b1 b2 b3) → W d post' b1 b2 b3) → W (d + 1) post a1 a2 a3) :
    ∀ (d : Nat) (post : ρ → Prop) (a1 : A1) (a2 : A2) (a3 : A3), ok a1 a2 a3 → μ a1 a2 a3 < d → post (val a1 a2 a3) → W d post a1 a2 a3 := by
  intro d
  induction d with
  | zero => intro post a1 a2 a3 _ h; omega
  | succ d ih =>
    intro post a1 a2 a3 ho hm hp
    exact hs d post a1 a2 a3 ho hp (fun post' b1 b2 b3 ho' hm' hp' => ih post' b1 b2 b3 ho' (by omega) hp')
theorem rp4 {ρ A1 A2 A3 A4 : Type} (W : Nat → (ρ → Prop) → A1 → A2 → A3 → A4 → Prop) (ok : A1 → A2 → A3 → A4 → Prop) (μ : A1 → A2 → A3 → A4 → Nat) (val : A1 → A2 → A3 → A4 → ρ)
    (hs : ∀ (d : Nat) (post : ρ → Prop) (a1 : A1) (a2 : A2) (a3 : A3) (a4 : A4), ok a1 a2 a3 a4 → post (val a1 a2 a3 a4) → (∀ (post' : ρ → Prop) (b1 : A1) (b2 : A2) (b3 : A3) (b4 : A4), ok b1 b2 b3 b4 → μ b1 b2 b3 b4 < μ a1 a2 a3 a4 → post' (val b1 b2 b3 b4) → W d post' b1 b2 b3 b4) → W (d + 1) post a1 a2 a3 a4) :
    ∀ (d : Nat) (post : ρ → Prop) (a1 : A1) (a2 : A2) (a3 : A3) (a4 : A4), ok a1 a2 a3 a4 → μ a1 a2 a3 a4 < d → post (val a1 a2 a3 a4) → W d post a1 a2 a3 a4 := by
  intro d
  induction d with
  | zero => intro post a1 a2 a3 a4 _ h; omega
  | succ d ih =>
    intro post a1 a2 a3 a4 ho hm hp
    exact hs d post a1 a2 a3 a4 ho hp (fun post' b1 b2 b3 b4 ho' hm' hp' => ih post' b1 b2 b3 b4 ho' (by omega) hp')
theorem rp5 {ρ A1 A2 A3 A4 A5 : Type} (W : Nat → (ρ → Prop) → A1 → A2 → A3 → A4 → A5 → Prop) (ok : A1 → A2 → A3 → A4 → A5 → Prop) (μ : A1 → A2 → A3 → A4 → A5 → Nat) (val : A1 → A2 → A3 → A4 → A5 → ρ)
    (hs : ∀ (d : Nat) (post : ρ → Prop) (a1 : A1) (a2 : A2) (a3 : A3) (a4 : A4) (a5 : A5), ok a1 a2 a3 a4 a5 → post (val a1 a2 a3 a4 a5) → (∀ (post' : ρ → Prop) (b1 : A1) (b2 : A2) (b3 : A3) (b4 : A4) (b5 : A5), ok b1 b2 b3 b4 b5 → μ b1 b2 b3 b4 b5 < μ a1 a2 a3 a4 a5 → post' (val b1 b2 b3 b4 b5) → W d post' b1 b2 b3 b4 b5) → W (d + 1) post a1 a2 a3 a4 a5) :
    ∀ (d : Nat) (post : ρ → Prop) (a1 : A1) (a2 : A2) (a3 : A3) (a4 : A4) (a5 : A5), ok a1 a2 a3 a4 a5 → μ a1 a2 a3 a4 a5 < d → post (val a1 a2 a3 a4 a5) → W d post a1 a2 a3 a4 a5 := by
  intro d
  induction d with
  | zero => intro post a1 a2 a3 a4 a5 _ h; omega
  | succ d ih =>
    intro post a1 a2 a3 a4 a5 ho hm hp
    exact hs d post a1 a2 a3 a4 a5 ho hp (fun post' b1 b2 b3 b4 b5 ho' hm' hp' => ih post' b1 b2 b3 b4 b5 ho' (by omega) hp')
theorem rp6 {ρ A1 A2 A3 A4 A5 A6 : Type} (W : Nat → (ρ → Prop) → A1 → A2 → A3 → A4 → A5 → A6 → Prop) (ok : A1 → A2 → A3 → A4 → A5 → A6 → Prop) (μ : A1 → A2 → A3 → A4 → A5 → A6 → Nat) (val : A1 → A2 → A3 → A4 → A5 → A6 → ρ)
    (hs : ∀ (d : Nat) (post : ρ → Prop) (a1 : A1) (a2 : A2) (a3 : A3) (a4 : A4) (a5 : A5) (a6 : A6), ok a1 a2 a3 a4 a5 a6 → post (val a1 a2 a3 a4 a5 a6) → (∀ (post' : ρ → Prop) (b1 : A1) (b2 : A2) (b3 : A3) (b4 : A4) (b5 : A5) (b6 : A6), ok b1 b2 b3 b4 b5 b6 → μ b1 b2 b3 b4 b5 b6 < μ a1 a2 a3 a4 a5 a6 → post' (val b1 b2 b3 b4 b5 b6) → W d post' b1 b2 b3 b4 b5 b6) → W (d + 1) post a1 a2 a3 a4 a5 a6) :
    ∀ (d : Nat) (post : ρ → Prop) (a1 : A1) (a2 : A2) (a3 : A3) (a4 : A4) (a5 : A5) (a6 : A6), ok a1 a2 a3 a4 a5 a6 → μ a1 a2 a3 a4 a5 a6 < d → post (val a1 a2 a3 a4 a5 a6) → W d post a1 a2 a3 a4 a5 a6 := by
  intro d
  induction d with
  | zero => intro post a1 a2 a3 a4 a5 a6 _ h; omega
  | succ d ih =>
    intro post a1 a2 a3 a4 a5 a6 ho hm hp
    exact hs d post a1 a2 a3 a4 a5 a6 ho hp (fun post' b1 b2 b3 b4 b5 b6 ho' hm' hp' => ih post' b1 b2 b3 b4 b5 b6 ho' (by omega) hp')
theorem rec_p {σ ρ : Type} (W : Nat → (ρ → Prop) → σ → Prop) (ok : σ → Prop) (μ : σ → Nat) (val : σ → ρ)
    (hs : ∀ d s post, ok s → post (val s) → (∀ s' post', ok s' → μ s' < μ s → post' (val s') → W d post' s') → W (d + 1) post s) :
    ∀ d s post, ok s → μ s < d → post (val s) → W d post s := by
  intro d
  induction d with
  | zero => intro s post _ h; omega
  | succ d ih =>
    intro s post ho hm hp
    exact hs d s post ho hp (fun s' post' ho' hm' hp' => ih s' post' ho' (by omega) hp')
theorem rec_q {σ ρ : Type} (W : Nat → (ρ → Prop) → σ → Prop) (ok : σ → Prop) (μ : σ → Nat) (Q : σ → ρ → Prop)
    (hs : ∀ d s post, ok s → (∀ r, Q s r → post r) → (∀ s' post', ok s' → μ s' < μ s → (∀ r, Q s' r → post' r) → W d post' s') → W (d + 1) post s) :
    ∀ d s post, ok s → μ s < d → (∀ r, Q s r → post r) → W d post s := by
  intro d
  induction d with
  | zero => intro s post _ h; omega
  | succ d ih =>
    intro s post ho hm hp
    exact hs d s post ho hp (fun s' post' ho' hm' hp' => ih s' post' ho' (by omega) hp')
def bx_sum (f : Nat → Int32) : Nat → Int32
  | 0 => 0
  | n + 1 => bx_sum f n + f n
theorem ek_u {A : Prop} {B : Nat → Prop} {k N : Nat} (hk : k < N) (h : B k) : (some k = none → A) ∧ (∀ y : Nat, some k = some y → (y < N ∧ B y)) :=
  ⟨fun z => absurd z (Option.some_ne_none k), fun _ e => (by cases e; exact ⟨hk, h⟩)⟩
theorem ek_nu {A : Prop} {B : Nat → Prop} (h : A) : ((none : Option Nat) = none → A) ∧ (∀ y : Nat, (none : Option Nat) = some y → B y) :=
  ⟨fun _ => h, fun _ e => (by cases e)⟩
theorem ek_if {c d A B : Prop} (e : c ↔ d) (f : d → A) (g : ¬ d → B) : (c → A) ∧ (¬ c → B) :=
  ⟨fun z => f (e.mp z), fun z => g (fun y => z (e.mpr y))⟩
theorem ek_v {α : Sort _} {P : α → Prop} {a b : α} (e : a = b) (h : P b) : P a := e ▸ h
theorem co_some {x : Option Nat} {A : Prop} {B : Nat → Prop} (i : Nat) (h : B i) (hx : x = some i := by rfl) : (x = none → A) ∧ (∀ y : Nat, x = some y → B y) := by
  subst hx
  exact ⟨fun e => (nomatch e), fun y e => Option.some.inj e ▸ h⟩
theorem co_none {x : Option Nat} {A : Prop} {B : Nat → Prop} (h : A) (hx : x = none := by rfl) : (x = none → A) ∧ (∀ y : Nat, x = some y → B y) := by
  subst hx
  exact ⟨fun _ => h, fun y e => (nomatch e)⟩
theorem co_any {x : Option Nat} {A : Prop} {B : Nat → Prop} (hn : x = none → A) (hs : ∀ i : Nat, x = some i → B i) : (x = none → A) ∧ (∀ y : Nat, x = some y → B y) := ⟨hn, hs⟩
theorem co_2 {P : Nat → Prop} (h0 : P 0) (h1 : P 1) {i : Nat} (hi : i < 2) : P i :=
  match i, hi with
  | 0, _ => h0
  | 1, _ => h1
theorem co_3 {P : Nat → Prop} (h0 : P 0) (h1 : P 1) (h2 : P 2) {i : Nat} (hi : i < 3) : P i :=
  match i, hi with
  | 0, _ => h0
  | 1, _ => h1
  | 2, _ => h2
theorem co_4 {P : Nat → Prop} (h0 : P 0) (h1 : P 1) (h2 : P 2) (h3 : P 3) {i : Nat} (hi : i < 4) : P i :=
  match i, hi with
  | 0, _ => h0
  | 1, _ => h1
  | 2, _ => h2
  | 3, _ => h3
theorem co_dec {N : Nat} {P : Nat → Prop} [DecidablePred P] (h : (List.range N).all (fun i => decide (P i)) = true) {i : Nat} (hi : i < N) : P i := by
  have := List.all_eq_true.mp h i (List.mem_range.mpr hi)
  exact of_decide_eq_true this
theorem co_tab {α : Type} {l : List α} {d : α} {P : α → Prop} (h : ∀ a, a ∈ l → P a) {i : Nat} (hi : i < l.length) : P (l.getD i d) := by
  rw [List.getD_eq_getElem?_getD, List.getElem?_eq_getElem hi]
  exact h _ (List.getElem_mem hi)
theorem pk_mu {x : Int32} {L : Nat} (h0 : ¬ x < 0) (h : ¬ nI L ≤ x) (hL : L < 2 ^ 31) : ∃ j : Nat, j < L ∧ x = nI j ∧ x + 1 = nI (j + 1) ∧ x.toNatClampNeg = j ∧ L - (x + 1).toNatClampNeg < L - x.toNatClampNeg := by
  obtain ⟨j, hj, rfl⟩ := nI_of h0
  have hl : j < L := Nat.not_le.mp fun q => h (nI_le q hj)
  refine ⟨j, hl, rfl, nI_1 j, nI_clamp hj, ?_⟩
  rw [nI_1, nI_clamp (by omega), nI_clamp hj]
  omega
theorem op_s {α : Type} {r : Option α} {A : Prop} {B : α → Prop} {y : α} (h : r = some y) (b : B y) : (r = none → A) ∧ ∀ z, r = some z → B z :=
  ⟨fun e => (by rw [h] at e; cases e), fun z e => (by rw [h] at e; cases e; exact b)⟩
def l_holds {α : Type} (a : Nat → Option Nat) (LP : List Nat) (p : Nat → α) (c : Nat) (b : Nat → α) : Prop :=
  ∀ j, j < c → ∃ y, a j = some y ∧ y ∈ LP ∧ p y = b j
theorem l_holds_0 {α : Type} {a : Nat → Option Nat} {LP : List Nat} {p b : Nat → α} : l_holds a LP p 0 b := fun j h => absurd h (Nat.not_lt_zero j)
theorem l_in_new (LP : List Nat) (q : Nat) : q ∈ LP ++ [q] := List.mem_append.mpr (Or.inr (List.mem_singleton.mpr rfl))
def l_sum (b : Nat → Int32) : Nat → Int32
  | 0 => 0
  | k + 1 => l_sum b k + b k
theorem sb_shr0 (x : Int32) : x >>> ((0 : Int32) &&& 31) = x := by
  rw [show ((0 : Int32) &&& 31) = 0 by decide]
  simp
theorem sb_shl0 (x : Int32) : x <<< ((0 : Int32) &&& 31) = x := by
  rw [show ((0 : Int32) &&& 31) = 0 by decide]
  simp
theorem sb_cl0 : (0 : Int32).toNatClampNeg = 0 := by decide
theorem sb_m1 {p : Nat} (h : 0 < p) : nI p + (-1) = nI (p - 1) := by
  obtain ⟨q, rfl⟩ : ∃ q, p = q + 1 := ⟨p - 1, by omega⟩
  exact pk_m1 q
def sb_b (c : Nat) : Int32 := (nI c).toInt8.toInt32
theorem sb_byte : ∀ c, c < 256 → sb_b c &&& 255 = nI c ∧ ((nI c).toUInt32 % 65536).toInt32 = nI c ∧ nI c ≤ 255 := by decide +kernel
def sb_Fit (a : Nat → Int32) : Prop := ∀ j, fits .byte (.int (a j)) = true
def sb_Lat (t : Nat → Nat) (n : Nat) (a : Nat → Int32) : Prop := ∀ j, j < n → t j < 256 ∧ a j = sb_b (t j)
theorem sb_fitB (c : Nat) : fits .byte (.int (sb_b c)) = true := pk_fb _
theorem sb_fit0 : sb_Fit (fun _ => 0) := fun _ => by
  show fits .byte (.int 0) = true
  decide
theorem sb_fitU {a : Nat → Int32} {k : Nat} {x : Int32} (h : sb_Fit a) (hx : fits .byte (.int x) = true) : sb_Fit (upd a k x) := by
  intro j
  by_cases e : j = k
  · subst e
    rw [pk_us]
    exact hx
  · rw [pk_un e]
    exact h j
def sb_cat (t : Nat → Nat) (n : Nat) (s : Nat → Nat) : Nat → Nat := fun j => if j < n then t j else s (j - n)
theorem sb_cat_lo {t s : Nat → Nat} {n j : Nat} (h : j < n) : sb_cat t n s j = t j := if_pos h
theorem sb_cat_hi {t s : Nat → Nat} {n j : Nat} : sb_cat t n s (n + j) = s j := by
  show (if n + j < n then t (n + j) else s (n + j - n)) = s j
  rw [if_neg (by omega), Nat.add_sub_cancel_left]
theorem sb_latPut {t s : Nat → Nat} {n w : Nat} {a a' : Nat → Int32} (h : sb_Lat t n a) (hk : ∀ j, j < n → a' j = a j) (hs : ∀ i, i < w → s i < 256 ∧ a' (n + i) = sb_b (s i)) : sb_Lat (sb_cat t n s) (n + w) a' := by
  intro j hj
  by_cases e : j < n
  · rw [sb_cat_lo e, hk j e]
    exact h j e
  · obtain ⟨i, rfl⟩ : ∃ i, j = n + i := ⟨j - n, by omega⟩
    rw [sb_cat_hi]
    exact hs i (by omega)
theorem sb_latKeep {t : Nat → Nat} {n : Nat} {a a' : Nat → Int32} (h : sb_Lat t n a) (hk : ∀ j, j < n → a' j = a j) : sb_Lat t n a' := fun j hj => by
  rw [hk j hj]
  exact h j hj
def sb_cap (q m : Nat) : Nat := if q ≤ m then m else if 2 * m + 2 < q then q else 2 * m + 2
def sb_Room (q m mc ms : Nat) : Prop := q ≤ m ∨ (1 ≤ mc ∧ sb_cap q m ≤ ms ∧ sb_cap q m ≤ 65536)
theorem sb_cap_ge (q m : Nat) : q ≤ sb_cap q m := by
  unfold sb_cap
  split
  · omega
  · split <;> omega
theorem sb_cap_gem (q m : Nat) : m ≤ sb_cap q m := by
  unfold sb_cap
  split
  · omega
  · split <;> omega
theorem sb_cap_le {q m mc ms : Nat} (hm : m ≤ 65536) (hr : sb_Room q m mc ms) : sb_cap q m ≤ 65536 := by
  rcases hr with h | h
  · rw [sb_cap, if_pos h]
    exact hm
  · exact h.2.2
theorem sb_at {P : Int32 → Prop} {x y : Int32} (e : x = y) (h : P y) : P x := e ▸ h
def sb_dg (w : Nat) : Nat := if w < 10 then 1 else if w < 100 then 2 else if w < 1000 then 3 else if w < 10000 then 4 else if w < 100000 then 5 else if w < 1000000 then 6 else if w < 10000000 then 7 else if w < 100000000 then 8 else if w < 1000000000 then 9 else 10
def sb_dec (v : Nat) : Nat → Nat := fun i => 48 + v / 10 ^ (sb_dg v - 1 - i) % 10
theorem sb_dg_in (w : Nat) : 1 ≤ sb_dg w ∧ sb_dg w ≤ 10 := by
  unfold sb_dg
  constructor <;> (repeat' split) <;> omega
theorem sb_dg100 {w : Nat} (h : 100 ≤ w) (hw : w < 2 ^ 31) : sb_dg w = sb_dg (w / 100) + 2 := by
  rw [sb_dg, sb_dg, if_neg (show ¬ w < 10 by omega), if_neg (show ¬ w < 100 by omega)]
  by_cases h3 : w < 1000
  · rw [if_pos h3, if_pos (show w / 100 < 10 by omega)]
  rw [if_neg h3, if_neg (show ¬ w / 100 < 10 by omega)]
  by_cases h4 : w < 10000
  · rw [if_pos h4, if_pos (show w / 100 < 100 by omega)]
  rw [if_neg h4, if_neg (show ¬ w / 100 < 100 by omega)]
  by_cases h5 : w < 100000
  · rw [if_pos h5, if_pos (show w / 100 < 1000 by omega)]
  rw [if_neg h5, if_neg (show ¬ w / 100 < 1000 by omega)]
  by_cases h6 : w < 1000000
  · rw [if_pos h6, if_pos (show w / 100 < 10000 by omega)]
  rw [if_neg h6, if_neg (show ¬ w / 100 < 10000 by omega)]
  by_cases h7 : w < 10000000
  · rw [if_pos h7, if_pos (show w / 100 < 100000 by omega)]
  rw [if_neg h7, if_neg (show ¬ w / 100 < 100000 by omega)]
  by_cases h8 : w < 100000000
  · rw [if_pos h8, if_pos (show w / 100 < 1000000 by omega)]
  rw [if_neg h8, if_neg (show ¬ w / 100 < 1000000 by omega)]
  by_cases h9 : w < 1000000000
  · rw [if_pos h9, if_pos (show w / 100 < 10000000 by omega)]
  rw [if_neg h9, if_neg (show ¬ w / 100 < 10000000 by omega)]
  rw [if_pos (show w / 100 < 100000000 by omega)]
theorem sb_negT {w : Nat} (h : w < 2 ^ 31) : (-nI w).toInt = -(w : Int) := by
  rw [Int32.toInt_neg, nI_toInt h]
  exact Int.bmod_eq_of_le (by omega) (by omega)
theorem sb_nle {a b : Nat} (ha : a < 2 ^ 31) (hb : b < 2 ^ 31) : -nI a ≤ -nI b ↔ b ≤ a := by
  rw [Int32.le_iff_toInt_le, sb_negT ha, sb_negT hb]
  omega
theorem sb_nlt {a b : Nat} (ha : a < 2 ^ 31) (hb : b < 2 ^ 31) : -nI a < -nI b ↔ b < a := by
  rw [Int32.lt_iff_toInt_lt, sb_negT ha, sb_negT hb]
  omega
theorem sb_cmp {A B : Prop} {x : Int32} (v c : Nat) (f : c ≤ v → A) (g : v < c → B) (hv : v < 2 ^ 31) (hx : x = -nI c := by rfl) (hc : c < 2 ^ 31 := by omega) : (-nI v ≤ x → A) ∧ (¬ -nI v ≤ x → B) := by
  subst hx
  rw [sb_nle hv hc]
  exact ⟨f, fun z => g (by omega)⟩
theorem sb_ndiv {w : Nat} (hw : w < 2 ^ 31) : (-nI w) / 100 = -nI (w / 100) := by
  apply Int32.toInt_inj.mp
  have h100 : (100 : Int32).toInt = 100 := by decide
  rw [Int32.toInt_div, sb_negT hw, h100, sb_negT (by omega), Int.neg_tdiv, Int.tdiv_eq_ediv_of_nonneg (by omega), Int.bmod_eq_of_le (by omega) (by omega)]
  omega
theorem sb_nrem {w : Nat} (hw : w < 2 ^ 31) : (-nI (w / 100)) * 100 - (-nI w) = nI (w % 100) := by
  have h := pk_rem (a := w) (d := 100) hw (by decide) (by decide)
  rw [pk_div hw (by decide) (by decide)] at h
  rw [← h]
  show (-nI (w / 100)) * nI 100 - (-nI w) = nI w - nI (w / 100) * nI 100
  rw [Int32.neg_mul, Int32.sub_neg, Int32.add_comm, ← Int32.sub_eq_add_neg]
end
section
/-! the sandpile, plain mathematics: degrees, the matrix, the least odometer -/
def sp_d (e : Nat → Nat → Nat) (s : Nat → Nat) (a : Nat) : Nat := s a + (e a 0 + e a 1 + e a 2 + e a 3)
def sp_L (e : Nat → Nat → Nat) (s : Nat → Nat) (z : Nat → Int) (a : Nat) : Int :=
  (s a : Int) * z a + ((e a 0 : Int) * (z a - z 0) + (e a 1 : Int) * (z a - z 1) + (e a 2 : Int) * (z a - z 2) + (e a 3 : Int) * (z a - z 3))
def sp_G (e : Nat → Nat → Nat) (s : Nat → Nat) : Prop := (∀ a, a < 4 → 1 ≤ s a) ∧ (∀ a b, a < 4 → b < 4 → e a b = e b a) ∧ (∀ a, a < 4 → e a a = 0)
def sp_ok (e : Nat → Nat → Nat) (s : Nat → Nat) (g v : Nat → Nat) : Prop := ∀ a, a < 4 → (g a : Int) - sp_L e s (fun b => (v b : Int)) a < (sp_d e s a : Int)
def sp_inv (e : Nat → Nat → Nat) (s : Nat → Nat) (g u c : Nat → Nat) : Prop :=
  (∀ a, a < 4 → (c a : Int) = (g a : Int) - sp_L e s (fun b => (u b : Int)) a) ∧ ∀ v, sp_ok e s g v → ∀ a, a < 4 → u a ≤ v a
def sp_set (e : Nat → Nat → Nat) (s : Nat → Nat) (g u t : Nat → Nat) : Prop := sp_inv e s g u t ∧ ∀ a, a < 4 → t a < sp_d e s a
theorem sp_4 {a : Nat} (h : a < 4) : a = 0 ∨ a = 1 ∨ a = 2 ∨ a = 3 := by omega
theorem sp_four {P : Nat → Prop} (h0 : P 0) (h1 : P 1) (h2 : P 2) (h3 : P 3) : ∀ a, a < 4 → P a := by
  intro a ha
  rcases sp_4 ha with rfl | rfl | rfl | rfl <;> assumption
section
variable {e : Nat → Nat → Nat} {s : Nat → Nat}
theorem sp_d_pos (hG : sp_G e s) {a : Nat} (ha : a < 4) : 1 ≤ sp_d e s a := by
  have := hG.1 a ha
  unfold sp_d
  omega
theorem sp_L_congr {y z : Nat → Int} (h : ∀ a, a < 4 → y a = z a) : ∀ a, a < 4 → sp_L e s y a = sp_L e s z a := by
  intro a ha
  unfold sp_L
  rw [h a ha, h 0 (by decide), h 1 (by decide), h 2 (by decide), h 3 (by decide)]
theorem sp_L_add (y z : Nat → Int) (a : Nat) : sp_L e s (fun b => y b + z b) a = sp_L e s y a + sp_L e s z a := by
  simp only [sp_L]
  grind
theorem sp_L_sub (y z : Nat → Int) (a : Nat) : sp_L e s (fun b => y b - z b) a = sp_L e s y a - sp_L e s z a := by
  simp only [sp_L]
  grind
theorem sp_L_neg (y : Nat → Int) (a : Nat) : sp_L e s (fun b => - y b) a = - sp_L e s y a := by
  simp only [sp_L]
  grind
theorem sp_L_mul (k : Int) (y : Nat → Int) (a : Nat) : sp_L e s (fun b => k * y b) a = k * sp_L e s y a := by
  simp only [sp_L]
  grind
theorem sp_L_0 (a : Nat) : sp_L e s (fun _ => 0) a = 0 := by simp [sp_L]
theorem sp_L_le {w : Nat → Int} (h : ∀ k, k < 4 → 0 ≤ w k) (a : Nat) : sp_L e s w a ≤ (sp_d e s a : Int) * w a := by
  have h0 := Int.mul_nonneg (Int.natCast_nonneg (e a 0)) (h 0 (by decide))
  have h1 := Int.mul_nonneg (Int.natCast_nonneg (e a 1)) (h 1 (by decide))
  have h2 := Int.mul_nonneg (Int.natCast_nonneg (e a 2)) (h 2 (by decide))
  have h3 := Int.mul_nonneg (Int.natCast_nonneg (e a 3)) (h 3 (by decide))
  simp only [sp_L, sp_d, Int.natCast_add, Int.add_mul, Int.mul_sub]
  omega
theorem sp_L_dl (hG : sp_G e s) {a b : Nat} (ha : a < 4) (hb : b < 4) (t : Int) :
    sp_L e s (fun k => if k = a then t else 0) b = if b = a then t * (sp_d e s a : Int) else - (t * (e a b : Int)) := by
  have haa := hG.2.2 a ha
  have hs := hG.2.1 a b ha hb
  rcases sp_4 ha with rfl | rfl | rfl | rfl <;> rcases sp_4 hb with rfl | rfl | rfl | rfl <;> simp [sp_L, sp_d] <;> grind
theorem sp_inv_0 (g : Nat → Nat) : sp_inv e s g (fun _ => 0) g := by
  refine ⟨fun a ha => ?_, fun v hv a ha => Nat.zero_le _⟩
  show (g a : Int) = (g a : Int) - sp_L e s (fun _ => ((0 : Nat) : Int)) a
  simp [sp_L]
theorem sp_inv_step (hG : sp_G e s) {g u c u' c' : Nat → Nat} {a t : Nat} (h : sp_inv e s g u c) (ha : a < 4) (ht : t * sp_d e s a ≤ c a)
    (hc1 : c' a = c a - t * sp_d e s a) (hc2 : ∀ b, b < 4 → b ≠ a → c' b = c b + t * e a b)
    (hu1 : u' a = u a + t) (hu2 : ∀ b, b < 4 → b ≠ a → u' b = u b) : sp_inv e s g u' c' := by
  have hL : ∀ b, b < 4 → sp_L e s (fun k => (u' k : Int)) b = sp_L e s (fun k => (u k : Int)) b + (if b = a then (t : Int) * (sp_d e s a : Int) else - ((t : Int) * (e a b : Int))) := by
    intro b hb
    rw [← sp_L_dl hG ha hb, ← sp_L_add]
    refine sp_L_congr (fun k hk => ?_) b hb
    show ((u' k : Nat) : Int) = (u k : Int) + (if k = a then (t : Int) else 0)
    by_cases hka : k = a
    · subst hka
      rw [if_pos rfl, hu1]
      omega
    · rw [if_neg hka, hu2 k hk hka]
      omega
  refine ⟨fun b hb => ?_, fun v hv b hb => ?_⟩
  · rw [hL b hb]
    have hcb := h.1 b hb
    by_cases hba : b = a
    · subst hba
      rw [if_pos rfl, hc1, Int.natCast_sub ht, Int.natCast_mul]
      omega
    · rw [if_neg hba, hc2 b hb hba, Int.natCast_add, Int.natCast_mul]
      omega
  · by_cases hba : b = a
    · subst hba
      rw [hu1]
      have hle := h.2 v hv
      apply Classical.byContradiction
      intro hn
      have hv' := hv b hb
      have hw : sp_L e s (fun k => (v k : Int)) b = sp_L e s (fun k => (u k : Int)) b + sp_L e s (fun k => (v k : Int) - (u k : Int)) b := by
        rw [← sp_L_add]
        refine sp_L_congr (fun k _ => ?_) b hb
        show (v k : Int) = (u k : Int) + ((v k : Int) - (u k : Int))
        omega
      have h1 : sp_L e s (fun k => (v k : Int) - (u k : Int)) b ≤ (sp_d e s b : Int) * ((v b : Int) - (u b : Int)) :=
        sp_L_le (w := fun k => (v k : Int) - (u k : Int)) (fun k hk => by
          have := hle k hk
          show (0 : Int) ≤ (v k : Int) - (u k : Int)
          omega) b
      have h2 : (sp_d e s b : Int) * ((v b : Int) - (u b : Int)) ≤ (sp_d e s b : Int) * ((t : Int) - 1) :=
        Int.mul_le_mul_of_nonneg_left (by omega) (Int.natCast_nonneg _)
      have h3 : (sp_d e s b : Int) * ((t : Int) - 1) = (t : Int) * (sp_d e s b : Int) - (sp_d e s b : Int) := by grind
      have h4 : (t : Int) * (sp_d e s b : Int) ≤ (c b : Int) := by
        rw [← Int.natCast_mul]
        omega
      have hcb := h.1 b hb
      omega
    · rw [hu2 b hb hba]
      exact h.2 v hv b hb
theorem sp_sum_step (hG : sp_G e s) {c c' : Nat → Nat} {a t : Nat} (ha : a < 4) (ht : t * sp_d e s a ≤ c a)
    (hc1 : c' a = c a - t * sp_d e s a) (hc2 : ∀ b, b < 4 → b ≠ a → c' b = c b + t * e a b) :
    c' 0 + c' 1 + c' 2 + c' 3 + t * s a = c 0 + c 1 + c 2 + c 3 := by
  have hd : t * sp_d e s a = t * s a + (t * e a 0 + t * e a 1 + t * e a 2 + t * e a 3) := by simp only [sp_d, Nat.mul_add]
  have haa : t * e a a = 0 := by rw [hG.2.2 a ha, Nat.mul_zero]
  rcases sp_4 ha with rfl | rfl | rfl | rfl
  · have h1 := hc2 1 (by decide) (by decide)
    have h2 := hc2 2 (by decide) (by decide)
    have h3 := hc2 3 (by decide) (by decide)
    omega
  · have h1 := hc2 0 (by decide) (by decide)
    have h2 := hc2 2 (by decide) (by decide)
    have h3 := hc2 3 (by decide) (by decide)
    omega
  · have h1 := hc2 0 (by decide) (by decide)
    have h2 := hc2 1 (by decide) (by decide)
    have h3 := hc2 3 (by decide) (by decide)
    omega
  · have h1 := hc2 0 (by decide) (by decide)
    have h2 := hc2 1 (by decide) (by decide)
    have h3 := hc2 2 (by decide) (by decide)
    omega
theorem sp_set_ok {g u t : Nat → Nat} (h : sp_set e s g u t) : sp_ok e s g u := by
  intro a ha
  have h1 := h.1.1 a ha
  have h2 := h.2 a ha
  omega
theorem sp_uniq {g g' u u' t t' : Nat → Nat} (hg : ∀ a, a < 4 → g a = g' a) (h : sp_set e s g u t) (h' : sp_set e s g' u' t') :
    ∀ a, a < 4 → u a = u' a ∧ t a = t' a := by
  have k1 : sp_ok e s g u' := fun a ha => by
    rw [hg a ha]
    exact sp_set_ok h' a ha
  have k2 : sp_ok e s g' u := fun a ha => by
    rw [← hg a ha]
    exact sp_set_ok h a ha
  have hu : ∀ a, a < 4 → u a = u' a := fun a ha => Nat.le_antisymm (h.1.2 u' k1 a ha) (h'.1.2 u k2 a ha)
  intro a ha
  refine ⟨hu a ha, ?_⟩
  have q1 := h.1.1 a ha
  have q2 := h'.1.1 a ha
  have q3 : sp_L e s (fun b => (u b : Int)) a = sp_L e s (fun b => (u' b : Int)) a :=
    sp_L_congr (fun k hk => congrArg (fun n : Nat => (n : Int)) (hu k hk)) a ha
  rw [q3, hg a ha] at q1
  omega
theorem sp_ex (hG : sp_G e s) (g : Nat → Nat) : ∀ (k : Nat) (u c : Nat → Nat), c 0 + c 1 + c 2 + c 3 < k → sp_inv e s g u c → ∃ u' t, sp_set e s g u' t := by
  intro k
  induction k with
  | zero =>
    intro u c hk
    exact absurd hk (Nat.not_lt_zero _)
  | succ k ih =>
    intro u c hk h
    by_cases hst : ∀ a, a < 4 → c a < sp_d e s a
    · exact ⟨u, c, h, hst⟩
    · have hex : ∃ a, a < 4 ∧ sp_d e s a ≤ c a := by
        apply Classical.byContradiction
        intro hn
        refine hst (fun a ha => ?_)
        apply Classical.byContradiction
        intro h2
        exact hn ⟨a, ha, by omega⟩
      obtain ⟨a, ha, hd⟩ := hex
      have ht : 1 * sp_d e s a ≤ c a := by omega
      have hc1 : (fun b => if b = a then c a - 1 * sp_d e s a else c b + 1 * e a b) a = c a - 1 * sp_d e s a := if_pos rfl
      have hc2 : ∀ b, b < 4 → b ≠ a → (fun b => if b = a then c a - 1 * sp_d e s a else c b + 1 * e a b) b = c b + 1 * e a b := fun b hb hba => if_neg hba
      have hu1 : (fun b => if b = a then u a + 1 else u b) a = u a + 1 := if_pos rfl
      have hu2 : ∀ b, b < 4 → b ≠ a → (fun b => if b = a then u a + 1 else u b) b = u b := fun b hb hba => if_neg hba
      have hsum := sp_sum_step hG ha ht hc1 hc2
      have hsa := hG.1 a ha
      refine ih _ _ ?_ (sp_inv_step hG h ha ht hc1 hc2 hu1 hu2)
      omega
end
noncomputable def sp_p (e : Nat → Nat → Nat) (s : Nat → Nat) (g : Nat → Nat) : (Nat → Nat) × (Nat → Nat) := Classical.epsilon (fun p : (Nat → Nat) × (Nat → Nat) => sp_set e s g p.1 p.2)
noncomputable def sp_st (e : Nat → Nat → Nat) (s : Nat → Nat) (g : Nat → Nat) : Nat → Nat := (sp_p e s g).2
noncomputable def sp_tp (e : Nat → Nat → Nat) (s : Nat → Nat) (g : Nat → Nat) : Nat := (sp_p e s g).1 0 + (sp_p e s g).1 1 + (sp_p e s g).1 2 + (sp_p e s g).1 3
section
variable {e : Nat → Nat → Nat} {s : Nat → Nat}
theorem sp_spec (hG : sp_G e s) (g : Nat → Nat) : sp_set e s g (sp_p e s g).1 (sp_st e s g) := by
  obtain ⟨u, t, h⟩ := sp_ex hG g _ _ g (Nat.lt_succ_self _) (sp_inv_0 g)
  exact Classical.epsilon_spec (p := fun p : (Nat → Nat) × (Nat → Nat) => sp_set e s g p.1 p.2) ⟨(u, t), h⟩
theorem sp_is (hG : sp_G e s) {g g' u t : Nat → Nat} (h : sp_set e s g' u t) (hg : ∀ a, a < 4 → g' a = g a) :
    (∀ a, a < 4 → t a = sp_st e s g a) ∧ u 0 + u 1 + u 2 + u 3 = sp_tp e s g := by
  have q := sp_uniq hg h (sp_spec hG g)
  refine ⟨fun a ha => (q a ha).2, ?_⟩
  unfold sp_tp
  rw [(q 0 (by decide)).1, (q 1 (by decide)).1, (q 2 (by decide)).1, (q 3 (by decide)).1]
theorem sp_st_lt (hG : sp_G e s) (g : Nat → Nat) : ∀ a, a < 4 → sp_st e s g a < sp_d e s a := (sp_spec hG g).2
theorem sp_st_congr (hG : sp_G e s) {g g' : Nat → Nat} (hg : ∀ a, a < 4 → g a = g' a) : ∀ a, a < 4 → sp_st e s g a = sp_st e s g' a :=
  (sp_is hG (sp_spec hG g) hg).1
theorem sp_tp_congr (hG : sp_G e s) {g g' : Nat → Nat} (hg : ∀ a, a < 4 → g a = g' a) : sp_tp e s g = sp_tp e s g' :=
  (sp_is hG (sp_spec hG g) hg).2
theorem sp_st_self (hG : sp_G e s) {c : Nat → Nat} (hc : ∀ a, a < 4 → c a < sp_d e s a) : ∀ a, a < 4 → sp_st e s c a = c a := by
  intro a ha
  exact ((sp_is hG (g := c) ⟨sp_inv_0 c, hc⟩ (fun _ _ => rfl)).1 a ha).symm
theorem sp_st_add (hG : sp_G e s) (x y : Nat → Nat) : ∀ a, a < 4 → sp_st e s (fun b => sp_st e s x b + y b) a = sp_st e s (fun b => x b + y b) a := by
  have h1 := sp_spec hG x
  have h2 := sp_spec hG (fun b => sp_st e s x b + y b)
  generalize (sp_p e s x).1 = u1 at h1
  generalize (sp_p e s (fun b => sp_st e s x b + y b)).1 = u2 at h2
  have hs : sp_set e s (fun b => x b + y b) (fun b => u1 b + u2 b) (sp_st e s (fun b => sp_st e s x b + y b)) := by
    refine ⟨⟨fun a ha => ?_, fun v hv => ?_⟩, h2.2⟩
    · have q1 := h1.1.1 a ha
      have q2 := h2.1.1 a ha
      have q3 : sp_L e s (fun b => ((u1 b + u2 b : Nat) : Int)) a = sp_L e s (fun b => (u1 b : Int)) a + sp_L e s (fun b => (u2 b : Int)) a := by
        rw [← sp_L_add]
        exact sp_L_congr (fun k _ => Int.natCast_add _ _) a ha
      rw [q3]
      show _ = ((x a + y a : Nat) : Int) - _
      have q4 : (((fun b => sp_st e s x b + y b) a : Nat) : Int) = (sp_st e s x a : Int) + (y a : Int) := Int.natCast_add _ _
      rw [q4] at q2
      omega
    · have o1 : sp_ok e s x v := fun a ha => by
        have q : ((x a + y a : Nat) : Int) - sp_L e s (fun b => (v b : Int)) a < (sp_d e s a : Int) := hv a ha
        omega
      have l1 := h1.1.2 v o1
      have o2 : sp_ok e s (fun b => sp_st e s x b + y b) (fun b => v b - u1 b) := fun a ha => by
        have q : ((x a + y a : Nat) : Int) - sp_L e s (fun b => (v b : Int)) a < (sp_d e s a : Int) := hv a ha
        have q1 := h1.1.1 a ha
        have q3 : sp_L e s (fun b => ((v b - u1 b : Nat) : Int)) a = sp_L e s (fun b => (v b : Int)) a - sp_L e s (fun b => (u1 b : Int)) a := by
          rw [← sp_L_sub]
          exact sp_L_congr (fun k hk => Int.natCast_sub (l1 k hk)) a ha
        show ((sp_st e s x a + y a : Nat) : Int) - sp_L e s (fun b => ((v b - u1 b : Nat) : Int)) a < _
        rw [q3]
        omega
      have l2 := h2.1.2 _ o2
      intro a ha
      have m1 := l1 a ha
      have m2 : u2 a ≤ v a - u1 a := l2 a ha
      show u1 a + u2 a ≤ v a
      omega
  exact (sp_is hG hs (fun _ _ => rfl)).1
end
end
section
/-! forbidden sets, recurrent states, the group -/
def sp_dF (e : Nat → Nat → Nat) (F : Nat → Bool) (a : Nat) : Nat :=
  (if F 0 = true then e a 0 else 0) + (if F 1 = true then e a 1 else 0) + (if F 2 = true then e a 2 else 0) + (if F 3 = true then e a 3 else 0)
def sp_N (e : Nat → Nat → Nat) (c : Nat → Nat) : Prop := ∀ F : Nat → Bool, (∃ a, a < 4 ∧ F a = true) → ∃ a, a < 4 ∧ F a = true ∧ sp_dF e F a ≤ c a
def sp_eq (e : Nat → Nat → Nat) (s : Nat → Nat) (x y : Nat → Int) : Prop := ∃ z : Nat → Int, ∀ a, a < 4 → x a - y a = sp_L e s z a
def sp_R (e : Nat → Nat → Nat) (s : Nat → Nat) (c : Nat → Nat) : Prop := (∀ a, a < 4 → c a < sp_d e s a) ∧ sp_N e c
section
variable {e : Nat → Nat → Nat} {s : Nat → Nat}
theorem sp_L_F (F : Nat → Bool) (a : Nat) : sp_L e s (fun b => if F b = true then (1 : Int) else 0) a = (if F a = true then (sp_d e s a : Int) else 0) - (sp_dF e F a : Int) := by
  simp only [sp_L, sp_dF, sp_d]
  generalize F a = fa
  generalize F 0 = f0
  generalize F 1 = f1
  generalize F 2 = f2
  generalize F 3 = f3
  cases fa <;> cases f0 <;> cases f1 <;> cases f2 <;> cases f3 <;> simp <;> omega
theorem sp_N_congr {c c' : Nat → Nat} (h : ∀ a, a < 4 → c a = c' a) (hN : sp_N e c) : sp_N e c' := by
  intro F hF
  obtain ⟨a, ha, h1, h2⟩ := hN F hF
  exact ⟨a, ha, h1, by rw [← h a ha]; exact h2⟩
theorem sp_R_congr {c c' : Nat → Nat} (h : ∀ a, a < 4 → c a = c' a) (hR : sp_R e s c) : sp_R e s c' :=
  ⟨fun a ha => by rw [← h a ha]; exact hR.1 a ha, sp_N_congr h hR.2⟩
theorem sp_F0 (f : Bool) (x u : Nat) : (if f = true then x else 0) ≤ (if (f && (u == 0)) = true then x else 0) + x * u := by
  cases f
  · simp
  · by_cases h : u = 0
    · subst h
      simp
    · have : x ≤ x * u := Nat.le_mul_of_pos_right x (by omega)
      simp
      omega
theorem sp_N_st {c g u t : Nat → Nat} (hN : sp_N e c) (hc : ∀ a, a < 4 → c a ≤ g a) (h : sp_set e s g u t) : sp_N e t := by
  intro F hF
  by_cases h1 : ∀ a, a < 4 → F a = true → 1 ≤ u a
  · apply Classical.byContradiction
    intro hn
    have hlt : ∀ a, a < 4 → F a = true → t a < sp_dF e F a := fun a ha hFa => by
      apply Classical.byContradiction
      intro h2
      exact hn ⟨a, ha, hFa, by omega⟩
    have hok : sp_ok e s g (fun b => u b - (if F b = true then 1 else 0)) := by
      intro a ha
      have hL : sp_L e s (fun b => ((u b - (if F b = true then 1 else 0) : Nat) : Int)) a = sp_L e s (fun b => (u b : Int)) a - sp_L e s (fun b => if F b = true then (1 : Int) else 0) a := by
        rw [← sp_L_sub]
        refine sp_L_congr (fun k hk => ?_) a ha
        show ((u k - (if F k = true then 1 else 0) : Nat) : Int) = (u k : Int) - (if F k = true then (1 : Int) else 0)
        by_cases hFk : F k = true
        · have := h1 k hk hFk
          rw [if_pos hFk, if_pos hFk]
          omega
        · rw [if_neg hFk, if_neg hFk]
          omega
      have hL1 := sp_L_F (e := e) (s := s) F a
      have ht := h.1.1 a ha
      have hs := h.2 a ha
      show (g a : Int) - sp_L e s (fun b => ((u b - (if F b = true then 1 else 0) : Nat) : Int)) a < _
      rw [hL, hL1]
      by_cases hFa : F a = true
      · have := hlt a ha hFa
        rw [if_pos hFa]
        omega
      · rw [if_neg hFa]
        omega
    obtain ⟨a, ha, hFa⟩ := hF
    have k1 : u a ≤ u a - (if F a = true then 1 else 0) := h.1.2 _ hok a ha
    have k2 := h1 a ha hFa
    rw [if_pos hFa] at k1
    omega
  · have hex : ∃ a, a < 4 ∧ (F a && (u a == 0)) = true := by
      apply Classical.byContradiction
      intro hn
      refine h1 (fun a ha hFa => ?_)
      apply Classical.byContradiction
      intro h2
      refine hn ⟨a, ha, ?_⟩
      have : u a = 0 := by omega
      simp [hFa, this]
    obtain ⟨a, ha, hFa, hle⟩ := hN (fun b => F b && (u b == 0)) hex
    have hFa' : F a = true ∧ u a = 0 := by simpa using hFa
    refine ⟨a, ha, hFa'.1, ?_⟩
    have ht := h.1.1 a ha
    have hca := hc a ha
    have hL : sp_L e s (fun b => (u b : Int)) a = - (((e a 0 * u 0 + e a 1 * u 1 + e a 2 * u 2 + e a 3 * u 3 : Nat)) : Int) := by
      simp only [sp_L, hFa'.2, Int.natCast_add, Int.natCast_mul]
      grind
    rw [hL] at ht
    have k0 := sp_F0 (F 0) (e a 0) (u 0)
    have k1 := sp_F0 (F 1) (e a 1) (u 1)
    have k2 := sp_F0 (F 2) (e a 2) (u 2)
    have k3 := sp_F0 (F 3) (e a 3) (u 3)
    have hle' : (if (F 0 && (u 0 == 0)) = true then e a 0 else 0) + (if (F 1 && (u 1 == 0)) = true then e a 1 else 0) + (if (F 2 && (u 2 == 0)) = true then e a 2 else 0) + (if (F 3 && (u 3 == 0)) = true then e a 3 else 0) ≤ c a := hle
    unfold sp_dF
    omega
theorem sp_max (z : Nat → Int) : ∃ i, i < 4 ∧ ∀ a, a < 4 → z a ≤ z i := by
  have h : (z 1 ≤ z 0 ∧ z 2 ≤ z 0 ∧ z 3 ≤ z 0) ∨ (z 0 ≤ z 1 ∧ z 2 ≤ z 1 ∧ z 3 ≤ z 1) ∨ (z 0 ≤ z 2 ∧ z 1 ≤ z 2 ∧ z 3 ≤ z 2) ∨ (z 0 ≤ z 3 ∧ z 1 ≤ z 3 ∧ z 2 ≤ z 3) := by omega
  rcases h with h | h | h | h
  · exact ⟨0, by decide, sp_four (Int.le_refl _) h.1 h.2.1 h.2.2⟩
  · exact ⟨1, by decide, sp_four h.1 (Int.le_refl _) h.2.1 h.2.2⟩
  · exact ⟨2, by decide, sp_four h.1 h.2.1 (Int.le_refl _) h.2.2⟩
  · exact ⟨3, by decide, sp_four h.1 h.2.1 h.2.2 (Int.le_refl _)⟩
theorem sp_F1 (x : Nat) (m w : Int) (h : w ≤ m) : (x : Int) ≤ ((if decide (w = m) = true then x else 0 : Nat) : Int) + (x : Int) * (m - w) := by
  by_cases hw : w = m
  · subst hw
    simp
  · have h1 : (x : Int) * 1 ≤ (x : Int) * (m - w) := Int.mul_le_mul_of_nonneg_left (by omega) (Int.natCast_nonneg _)
    simp [hw]
    omega
theorem sp_U1 (hG : sp_G e s) {c c' : Nat → Nat} {z : Nat → Int} (hc : ∀ a, a < 4 → c a < sp_d e s a) (hN : sp_N e c')
    (hz : ∀ a, a < 4 → (c' a : Int) = (c a : Int) - sp_L e s z a) : ∀ a, a < 4 → z a ≤ 0 := by
  obtain ⟨i, hi, hm⟩ := sp_max z
  by_cases hp : z i ≤ 0
  · intro a ha
    have := hm a ha
    omega
  · exfalso
    obtain ⟨a, ha, hFa, hle⟩ := hN (fun b => decide (z b = z i)) ⟨i, hi, decide_eq_true rfl⟩
    have hza : z a = z i := of_decide_eq_true hFa
    have k0 := sp_F1 (e a 0) (z i) (z 0) (hm 0 (by decide))
    have k1 := sp_F1 (e a 1) (z i) (z 1) (hm 1 (by decide))
    have k2 := sp_F1 (e a 2) (z i) (z 2) (hm 2 (by decide))
    have k3 := sp_F1 (e a 3) (z i) (z 3) (hm 3 (by decide))
    have ks : (s a : Int) * 1 ≤ (s a : Int) * z i := Int.mul_le_mul_of_nonneg_left (by omega) (Int.natCast_nonneg _)
    have hza' := hz a ha
    have hca := hc a ha
    have hle' : (if decide (z 0 = z i) = true then e a 0 else 0) + (if decide (z 1 = z i) = true then e a 1 else 0) + (if decide (z 2 = z i) = true then e a 2 else 0) + (if decide (z 3 = z i) = true then e a 3 else 0) ≤ c' a := hle
    unfold sp_d at hca
    unfold sp_L at hza'
    rw [hza] at hza'
    omega
theorem sp_eq_rfl (x : Nat → Int) : sp_eq e s x x := ⟨fun _ => 0, fun a _ => by rw [sp_L_0]; omega⟩
theorem sp_eq_of {x y : Nat → Int} (h : ∀ a, a < 4 → x a = y a) : sp_eq e s x y := ⟨fun _ => 0, fun a ha => by rw [sp_L_0, h a ha]; omega⟩
theorem sp_eq_sym {x y : Nat → Int} (h : sp_eq e s x y) : sp_eq e s y x := by
  obtain ⟨z, hz⟩ := h
  exact ⟨fun b => - z b, fun a ha => by rw [sp_L_neg, ← hz a ha]; omega⟩
theorem sp_eq_tr {x y w : Nat → Int} (h : sp_eq e s x y) (h' : sp_eq e s y w) : sp_eq e s x w := by
  obtain ⟨z, hz⟩ := h
  obtain ⟨z', hz'⟩ := h'
  exact ⟨fun b => z b + z' b, fun a ha => by rw [sp_L_add, ← hz a ha, ← hz' a ha]; omega⟩
theorem sp_eq_add {x y x' y' : Nat → Int} (h : sp_eq e s x y) (h' : sp_eq e s x' y') : sp_eq e s (fun a => x a + x' a) (fun a => y a + y' a) := by
  obtain ⟨z, hz⟩ := h
  obtain ⟨z', hz'⟩ := h'
  exact ⟨fun b => z b + z' b, fun a ha => by
    rw [sp_L_add, ← hz a ha, ← hz' a ha]
    show x a + x' a - (y a + y' a) = x a - y a + (x' a - y' a)
    omega⟩
theorem sp_eq_neg {x y : Nat → Int} (h : sp_eq e s x y) : sp_eq e s (fun a => - x a) (fun a => - y a) := by
  obtain ⟨z, hz⟩ := h
  exact ⟨fun b => - z b, fun a ha => by
    rw [sp_L_neg, ← hz a ha]
    show - x a - - y a = - (x a - y a)
    omega⟩
theorem sp_U (hG : sp_G e s) {c c' : Nat → Nat} (hc : sp_R e s c) (hc' : sp_R e s c') (h : sp_eq e s (fun a => (c a : Int)) (fun a => (c' a : Int))) : ∀ a, a < 4 → c a = c' a := by
  obtain ⟨z, hz⟩ := h
  have h1 := sp_U1 hG (z := z) hc.1 hc'.2 (fun a ha => by
    have q : (c a : Int) - (c' a : Int) = sp_L e s z a := hz a ha
    omega)
  have h2 := sp_U1 hG (z := fun b => - z b) hc'.1 hc.2 (fun a ha => by
    have q : (c a : Int) - (c' a : Int) = sp_L e s z a := hz a ha
    rw [sp_L_neg]
    omega)
  intro a ha
  have q : (c a : Int) - (c' a : Int) = sp_L e s z a := hz a ha
  have q2 : sp_L e s z a = sp_L e s (fun _ => 0) a := sp_L_congr (fun k hk => by
    have m1 := h1 k hk
    have m2 : - z k ≤ 0 := h2 k hk
    omega) a ha
  rw [q2, sp_L_0] at q
  omega
theorem sp_st_eq (hG : sp_G e s) (g : Nat → Nat) : sp_eq e s (fun a => (g a : Int)) (fun a => (sp_st e s g a : Int)) := by
  refine ⟨fun b => (((sp_p e s g).1 b : Nat) : Int), fun a ha => ?_⟩
  have q := (sp_spec hG g).1.1 a ha
  show (g a : Int) - (sp_st e s g a : Int) = _
  omega
theorem sp_N_full (hG : sp_G e s) : sp_N e (fun a => sp_d e s a - 1) := by
  intro F hF
  obtain ⟨a, ha, hFa⟩ := hF
  refine ⟨a, ha, hFa, ?_⟩
  have hs := hG.1 a ha
  show sp_dF e F a ≤ sp_d e s a - 1
  unfold sp_dF sp_d
  have k : ∀ (f : Bool) (x : Nat), (if f = true then x else 0) ≤ x := fun f x => by cases f <;> simp
  have k0 := k (F 0) (e a 0)
  have k1 := k (F 1) (e a 1)
  have k2 := k (F 2) (e a 2)
  have k3 := k (F 3) (e a 3)
  omega
theorem sp_R_full (hG : sp_G e s) : sp_R e s (fun a => sp_d e s a - 1) := ⟨fun a ha => by
  have := sp_d_pos hG ha
  show sp_d e s a - 1 < sp_d e s a
  omega, sp_N_full hG⟩
theorem sp_R_st (hG : sp_G e s) {c g : Nat → Nat} (hN : sp_N e c) (hc : ∀ a, a < 4 → c a ≤ g a) : sp_R e s (sp_st e s g) :=
  ⟨sp_st_lt hG g, sp_N_st hN hc (sp_spec hG g)⟩
end
/-- what k times the full state comes to; the neutral state -/
noncomputable def sp_fm (e : Nat → Nat → Nat) (s : Nat → Nat) (k : Nat) : Nat → Nat := sp_st e s (fun a => k * (sp_d e s a - 1))
noncomputable def sp_E (e : Nat → Nat → Nat) (s : Nat → Nat) : Nat → Nat := sp_st e s (fun a => 2 * (sp_d e s a - 1) - sp_fm e s 2 a)
section
variable {e : Nat → Nat → Nat} {s : Nat → Nat}
theorem sp_fm_lt (hG : sp_G e s) (k : Nat) {a : Nat} (ha : a < 4) : sp_fm e s k a ≤ sp_d e s a - 1 := by
  have := sp_st_lt hG (fun a => k * (sp_d e s a - 1)) a ha
  unfold sp_fm
  omega
/-- k times the full state less what it comes to is nothing to the group -/
theorem sp_fm_0 (hG : sp_G e s) (k : Nat) : sp_eq e s (fun a => (k : Int) * ((sp_d e s a : Int) - 1) - (sp_fm e s k a : Int)) (fun _ => 0) := by
  obtain ⟨z, hz⟩ := sp_st_eq hG (fun a => k * (sp_d e s a - 1))
  refine ⟨z, fun a ha => ?_⟩
  have q : ((k * (sp_d e s a - 1) : Nat) : Int) - (sp_fm e s k a : Int) = sp_L e s z a := hz a ha
  have hd := sp_d_pos hG ha
  rw [← q, Int.natCast_mul, Int.natCast_sub hd, show ((1 : Nat) : Int) = 1 from rfl]
  show (k : Int) * ((sp_d e s a : Int) - 1) - (sp_fm e s k a : Int) - 0 = _
  omega
theorem sp_E_R (hG : sp_G e s) : sp_R e s (sp_E e s) :=
  sp_R_st hG (sp_N_full hG) (fun a ha => by
    have := sp_fm_lt hG 2 ha
    show sp_d e s a - 1 ≤ 2 * (sp_d e s a - 1) - sp_fm e s 2 a
    omega)
theorem sp_E_0 (hG : sp_G e s) : sp_eq e s (fun a => (sp_E e s a : Int)) (fun _ => 0) := by
  have h := sp_st_eq hG (fun a => 2 * (sp_d e s a - 1) - sp_fm e s 2 a)
  refine sp_eq_tr (sp_eq_sym h) (sp_eq_tr (sp_eq_of (fun a ha => ?_)) (sp_fm_0 hG 2))
  have h1 := sp_fm_lt hG 2 ha
  have hd := sp_d_pos hG ha
  show ((2 * (sp_d e s a - 1) - sp_fm e s 2 a : Nat) : Int) = ((2 : Nat) : Int) * ((sp_d e s a : Int) - 1) - (sp_fm e s 2 a : Int)
  omega
/-- a sum with a recurrent state is the recurrent state of its coset -/
theorem sp_sum_R (hG : sp_G e s) {c q : Nat → Nat} (hc : sp_R e s c) : sp_R e s (sp_st e s (fun a => c a + q a)) :=
  sp_R_st hG hc.2 (fun a _ => Nat.le_add_right _ _)
theorem sp_sum_eq (hG : sp_G e s) (c q : Nat → Nat) : sp_eq e s (fun a => (sp_st e s (fun b => c b + q b) a : Int)) (fun a => (c a : Int) + (q a : Int)) :=
  sp_eq_tr (sp_eq_sym (sp_st_eq hG (fun b => c b + q b))) (sp_eq_of (fun a _ => Int.natCast_add _ _))
/-- the one recurrent state that leaves the full state is the neutral one -/
theorem sp_E_iff (hG : sp_G e s) {c : Nat → Nat} (hc : sp_R e s c) :
    (∀ a, a < 4 → sp_st e s (fun b => c b + (sp_d e s b - 1)) a = sp_d e s a - 1) ↔ ∀ a, a < 4 → c a = sp_E e s a := by
  have hf := sp_R_full hG
  have hS := sp_sum_R hG hc (q := fun b => sp_d e s b - 1)
  have hq := sp_sum_eq hG c (fun b => sp_d e s b - 1)
  constructor
  · intro h
    refine sp_U hG hc (sp_E_R hG) (sp_eq_tr ?_ (sp_eq_sym (sp_E_0 hG)))
    have h2 : sp_eq e s (fun a => (c a : Int) + ((sp_d e s a - 1 : Nat) : Int)) (fun a => ((sp_d e s a - 1 : Nat) : Int)) :=
      sp_eq_tr (sp_eq_sym hq) (sp_eq_of (fun a ha => congrArg (fun n : Nat => (n : Int)) (h a ha)))
    obtain ⟨z, hz⟩ := h2
    refine ⟨z, fun a ha => ?_⟩
    have q : (c a : Int) + ((sp_d e s a - 1 : Nat) : Int) - ((sp_d e s a - 1 : Nat) : Int) = sp_L e s z a := hz a ha
    show (c a : Int) - 0 = _
    omega
  · intro h
    refine sp_U hG hS hf (sp_eq_tr hq ?_)
    have h3 : sp_eq e s (fun a => (c a : Int)) (fun _ => 0) := sp_eq_tr (sp_eq_of (fun a ha => congrArg (fun n : Nat => (n : Int)) (h a ha))) (sp_E_0 hG)
    refine sp_eq_tr (sp_eq_add h3 (sp_eq_rfl (fun a => ((sp_d e s a - 1 : Nat) : Int)))) (sp_eq_of (fun a _ => ?_))
    show (0 : Int) + _ = _
    omega
/-- the opposite of c, as the component builds it -/
theorem sp_opp_ge (hG : sp_G e s) {c : Nat → Nat} (hc : sp_R e s c) {a : Nat} (ha : a < 4) :
    sp_d e s a - 1 ≤ 4 * (sp_d e s a - 1) - sp_fm e s 4 a - c a + sp_E e s a ∧ sp_fm e s 4 a + c a ≤ 4 * (sp_d e s a - 1) := by
  have h1 := sp_fm_lt hG 4 ha
  have h2 := hc.1 a ha
  have h3 := sp_d_pos hG ha
  omega
noncomputable def sp_opp (e : Nat → Nat → Nat) (s : Nat → Nat) (c : Nat → Nat) : Nat → Nat := sp_st e s (fun a => 4 * (sp_d e s a - 1) - sp_fm e s 4 a - c a + sp_E e s a)
theorem sp_opp_R (hG : sp_G e s) {c : Nat → Nat} (hc : sp_R e s c) : sp_R e s (sp_opp e s c) :=
  sp_R_st hG (sp_N_full hG) (fun _ ha => (sp_opp_ge hG hc ha).1)
theorem sp_opp_eq (hG : sp_G e s) {c : Nat → Nat} (hc : sp_R e s c) : sp_eq e s (fun a => (sp_opp e s c a : Int)) (fun a => - (c a : Int)) := by
  have h := sp_st_eq hG (fun a => 4 * (sp_d e s a - 1) - sp_fm e s 4 a - c a + sp_E e s a)
  refine sp_eq_tr (sp_eq_sym h) ?_
  have h4 := sp_eq_add (sp_eq_add (sp_fm_0 hG 4) (sp_E_0 hG)) (sp_eq_rfl (fun a => - (c a : Int)))
  refine sp_eq_tr (sp_eq_of (fun a ha => ?_)) (sp_eq_tr h4 (sp_eq_of (fun a _ => ?_)))
  · have h1 := (sp_opp_ge hG hc ha).2
    have hd := sp_d_pos hG ha
    show ((4 * (sp_d e s a - 1) - sp_fm e s 4 a - c a + sp_E e s a : Nat) : Int) = ((4 : Nat) : Int) * ((sp_d e s a : Int) - 1) - (sp_fm e s 4 a : Int) + (sp_E e s a : Int) + - (c a : Int)
    omega
  · show (0 : Int) + 0 + - (c a : Int) = - (c a : Int)
    omega
theorem sp_opp_iff (hG : sp_G e s) {c q : Nat → Nat} (hc : sp_R e s c) (hq : sp_R e s q) :
    (∀ a, a < 4 → sp_st e s (fun b => c b + q b) a = sp_E e s a) ↔ ∀ a, a < 4 → q a = sp_opp e s c a := by
  have hS := sp_sum_R hG hc (q := q)
  have hs := sp_sum_eq hG c q
  have ho := sp_opp_eq hG hc
  constructor
  · intro h
    refine sp_U hG hq (sp_opp_R hG hc) (sp_eq_tr ?_ (sp_eq_sym ho))
    have h2 : sp_eq e s (fun a => (c a : Int) + (q a : Int)) (fun _ => 0) :=
      sp_eq_tr (sp_eq_sym hs) (sp_eq_tr (sp_eq_of (fun a ha => congrArg (fun n : Nat => (n : Int)) (h a ha))) (sp_E_0 hG))
    obtain ⟨z, hz⟩ := h2
    refine ⟨z, fun a ha => ?_⟩
    have k : (c a : Int) + (q a : Int) - 0 = sp_L e s z a := hz a ha
    show (q a : Int) - - (c a : Int) = _
    omega
  · intro h
    refine sp_U hG hS (sp_E_R hG) (sp_eq_tr hs (sp_eq_tr ?_ (sp_eq_sym (sp_E_0 hG))))
    have h3 : sp_eq e s (fun a => (q a : Int)) (fun a => - (c a : Int)) := sp_eq_tr (sp_eq_of (fun a ha => congrArg (fun n : Nat => (n : Int)) (h a ha))) ho
    refine sp_eq_tr (sp_eq_add (sp_eq_rfl (fun a => (c a : Int))) h3) (sp_eq_of (fun a _ => ?_))
    show (c a : Int) + - (c a : Int) = 0
    omega
theorem sp_full_k (hG : sp_G e s) (P : (Nat → Nat) → Prop) (hco : ∀ c c' : Nat → Nat, (∀ a, a < 4 → c a = c' a) → P c → P c')
    (h0 : P (fun a => sp_d e s a - 1)) (hs : ∀ c, P c → ∀ a, a < 4 → P (sp_st e s (fun b => c b + if b = a then 1 else 0))) :
    ∀ (n : Nat) (k : Nat → Nat), k 0 + k 1 + k 2 + k 3 = n → P (sp_st e s (fun b => sp_d e s b - 1 + k b)) := by
  intro n
  induction n with
  | zero =>
    intro k hk
    refine hco _ _ (fun a ha => ?_) h0
    have hk0 : ∀ a, a < 4 → k a = 0 := sp_four (by omega) (by omega) (by omega) (by omega)
    have q1 := sp_st_congr hG (g := fun b => sp_d e s b - 1 + k b) (g' := fun b => sp_d e s b - 1) (fun b hb => by
      show sp_d e s b - 1 + k b = sp_d e s b - 1
      rw [hk0 b hb]
      omega) a ha
    rw [q1]
    exact (sp_st_self hG (sp_R_full hG).1 a ha).symm
  | succ n ih =>
    intro k hk
    have hex : ∃ a, a < 4 ∧ 1 ≤ k a := by
      apply Classical.byContradiction
      intro hn
      have z : ∀ a, a < 4 → k a = 0 := fun a ha => by
        apply Classical.byContradiction
        intro h2
        exact hn ⟨a, ha, by omega⟩
      have z0 := z 0 (by decide)
      have z1 := z 1 (by decide)
      have z2 := z 2 (by decide)
      have z3 := z 3 (by decide)
      omega
    obtain ⟨a, ha, hka⟩ := hex
    have hsum : (fun b => k b - if b = a then 1 else 0) 0 + (fun b => k b - if b = a then 1 else 0) 1 + (fun b => k b - if b = a then 1 else 0) 2 + (fun b => k b - if b = a then 1 else 0) 3 = n := by
      rcases sp_4 ha with rfl | rfl | rfl | rfl <;> simp <;> omega
    have h1 := hs _ (ih (fun b => k b - if b = a then 1 else 0) hsum) a ha
    refine hco _ _ (fun b hb => ?_) h1
    rw [sp_st_add hG (fun b => sp_d e s b - 1 + (k b - if b = a then 1 else 0)) (fun b => if b = a then 1 else 0) b hb]
    refine sp_st_congr hG (fun j hj => ?_) b hb
    show sp_d e s j - 1 + (k j - if j = a then 1 else 0) + (if j = a then 1 else 0) = sp_d e s j - 1 + k j
    by_cases hja : j = a
    · subst hja
      rw [if_pos rfl]
      omega
    · rw [if_neg hja]
      omega
/-- what holds the full state and is closed under one more grain holds every recurrent state -/
theorem sp_reach (hG : sp_G e s) (P : (Nat → Nat) → Prop) (hco : ∀ c c' : Nat → Nat, (∀ a, a < 4 → c a = c' a) → P c → P c')
    (h0 : P (fun a => sp_d e s a - 1)) (hs : ∀ c, P c → ∀ a, a < 4 → P (sp_st e s (fun b => c b + if b = a then 1 else 0))) :
    ∀ c, sp_R e s c → P c := by
  intro c hc
  have h1 := sp_full_k hG P hco h0 hs _ (fun b => c b + (2 * (sp_d e s b - 1) - sp_fm e s 2 b) - (sp_d e s b - 1)) rfl
  refine hco _ _ ?_ h1
  have hg : ∀ a, a < 4 → sp_d e s a - 1 + (c a + (2 * (sp_d e s a - 1) - sp_fm e s 2 a) - (sp_d e s a - 1)) = c a + (2 * (sp_d e s a - 1) - sp_fm e s 2 a) := fun a ha => by
    have := sp_fm_lt hG 2 ha
    omega
  refine sp_U hG (sp_R_st hG (sp_N_full hG) (fun a _ => Nat.le_add_right _ _)) hc ?_
  refine sp_eq_tr (sp_eq_sym (sp_st_eq hG _)) ?_
  refine sp_eq_tr (sp_eq_of (fun a ha => ?_)) (sp_eq_tr (sp_eq_add (sp_eq_rfl (fun a => (c a : Int))) (sp_fm_0 hG 2)) (sp_eq_of (fun a _ => ?_)))
  · show ((sp_d e s a - 1 + (c a + (2 * (sp_d e s a - 1) - sp_fm e s 2 a) - (sp_d e s a - 1)) : Nat) : Int) = (c a : Int) + (((2 : Nat) : Int) * ((sp_d e s a : Int) - 1) - (sp_fm e s 2 a : Int))
    rw [hg a ha]
    have h2 := sp_fm_lt hG 2 ha
    have hd := sp_d_pos hG ha
    omega
  · show (c a : Int) + 0 = (c a : Int)
    omega
end
end
section
/-! the order of a state: multiples that are nothing to the group; the determinant is one of them; trial division finds the least -/
def sp_D3 (a b c d e f g h i : Int) : Int := a * (e * i - f * h) - b * (d * i - f * g) + c * (d * h - e * g)
def sp_D4 (a00 a01 a02 a03 a10 a11 a12 a13 a20 a21 a22 a23 a30 a31 a32 a33 : Int) : Int :=
  a00 * sp_D3 a11 a12 a13 a21 a22 a23 a31 a32 a33 - a01 * sp_D3 a10 a12 a13 a20 a22 a23 a30 a32 a33
  + a02 * sp_D3 a10 a11 a13 a20 a21 a23 a30 a31 a33 - a03 * sp_D3 a10 a11 a12 a20 a21 a22 a30 a31 a32
theorem sp_cr0 (a00 a01 a02 a03 a10 a11 a12 a13 a20 a21 a22 a23 a30 a31 a32 a33 y0 y1 y2 y3 : Int) :
    a00 * sp_D4 y0 a01 a02 a03 y1 a11 a12 a13 y2 a21 a22 a23 y3 a31 a32 a33 + a01 * sp_D4 a00 y0 a02 a03 a10 y1 a12 a13 a20 y2 a22 a23 a30 y3 a32 a33
    + a02 * sp_D4 a00 a01 y0 a03 a10 a11 y1 a13 a20 a21 y2 a23 a30 a31 y3 a33 + a03 * sp_D4 a00 a01 a02 y0 a10 a11 a12 y1 a20 a21 a22 y2 a30 a31 a32 y3
    = sp_D4 a00 a01 a02 a03 a10 a11 a12 a13 a20 a21 a22 a23 a30 a31 a32 a33 * y0 := by
  simp only [sp_D4, sp_D3]
  grind
theorem sp_cr1 (a00 a01 a02 a03 a10 a11 a12 a13 a20 a21 a22 a23 a30 a31 a32 a33 y0 y1 y2 y3 : Int) :
    a10 * sp_D4 y0 a01 a02 a03 y1 a11 a12 a13 y2 a21 a22 a23 y3 a31 a32 a33 + a11 * sp_D4 a00 y0 a02 a03 a10 y1 a12 a13 a20 y2 a22 a23 a30 y3 a32 a33
    + a12 * sp_D4 a00 a01 y0 a03 a10 a11 y1 a13 a20 a21 y2 a23 a30 a31 y3 a33 + a13 * sp_D4 a00 a01 a02 y0 a10 a11 a12 y1 a20 a21 a22 y2 a30 a31 a32 y3
    = sp_D4 a00 a01 a02 a03 a10 a11 a12 a13 a20 a21 a22 a23 a30 a31 a32 a33 * y1 := by
  simp only [sp_D4, sp_D3]
  grind
theorem sp_cr2 (a00 a01 a02 a03 a10 a11 a12 a13 a20 a21 a22 a23 a30 a31 a32 a33 y0 y1 y2 y3 : Int) :
    a20 * sp_D4 y0 a01 a02 a03 y1 a11 a12 a13 y2 a21 a22 a23 y3 a31 a32 a33 + a21 * sp_D4 a00 y0 a02 a03 a10 y1 a12 a13 a20 y2 a22 a23 a30 y3 a32 a33
    + a22 * sp_D4 a00 a01 y0 a03 a10 a11 y1 a13 a20 a21 y2 a23 a30 a31 y3 a33 + a23 * sp_D4 a00 a01 a02 y0 a10 a11 a12 y1 a20 a21 a22 y2 a30 a31 a32 y3
    = sp_D4 a00 a01 a02 a03 a10 a11 a12 a13 a20 a21 a22 a23 a30 a31 a32 a33 * y2 := by
  simp only [sp_D4, sp_D3]
  grind
theorem sp_cr3 (a00 a01 a02 a03 a10 a11 a12 a13 a20 a21 a22 a23 a30 a31 a32 a33 y0 y1 y2 y3 : Int) :
    a30 * sp_D4 y0 a01 a02 a03 y1 a11 a12 a13 y2 a21 a22 a23 y3 a31 a32 a33 + a31 * sp_D4 a00 y0 a02 a03 a10 y1 a12 a13 a20 y2 a22 a23 a30 y3 a32 a33
    + a32 * sp_D4 a00 a01 y0 a03 a10 a11 y1 a13 a20 a21 y2 a23 a30 a31 y3 a33 + a33 * sp_D4 a00 a01 a02 y0 a10 a11 a12 y1 a20 a21 a22 y2 a30 a31 a32 y3
    = sp_D4 a00 a01 a02 a03 a10 a11 a12 a13 a20 a21 a22 a23 a30 a31 a32 a33 * y3 := by
  simp only [sp_D4, sp_D3]
  grind
def sp_det (e : Nat → Nat → Nat) (s : Nat → Nat) : Int :=
  sp_D4 (sp_d e s 0) (-(e 0 1 : Int)) (-(e 0 2 : Int)) (-(e 0 3 : Int)) (-(e 1 0 : Int)) (sp_d e s 1) (-(e 1 2 : Int)) (-(e 1 3 : Int))
    (-(e 2 0 : Int)) (-(e 2 1 : Int)) (sp_d e s 2) (-(e 2 3 : Int)) (-(e 3 0 : Int)) (-(e 3 1 : Int)) (-(e 3 2 : Int)) (sp_d e s 3)
def sp_v4 (z0 z1 z2 z3 : Int) (a : Nat) : Int := if a = 0 then z0 else if a = 1 then z1 else if a = 2 then z2 else z3
def sp_Z (e : Nat → Nat → Nat) (s : Nat → Nat) (c : Nat → Nat) (k : Nat) : Prop := sp_eq e s (fun a => (k : Int) * (c a : Int)) (fun _ => 0)
section
variable {e : Nat → Nat → Nat} {s : Nat → Nat}
theorem sp_L_v4 (hG : sp_G e s) (z0 z1 z2 z3 : Int) :
    sp_L e s (sp_v4 z0 z1 z2 z3) 0 = (sp_d e s 0 : Int) * z0 + -(e 0 1 : Int) * z1 + -(e 0 2 : Int) * z2 + -(e 0 3 : Int) * z3
    ∧ sp_L e s (sp_v4 z0 z1 z2 z3) 1 = -(e 1 0 : Int) * z0 + (sp_d e s 1 : Int) * z1 + -(e 1 2 : Int) * z2 + -(e 1 3 : Int) * z3
    ∧ sp_L e s (sp_v4 z0 z1 z2 z3) 2 = -(e 2 0 : Int) * z0 + -(e 2 1 : Int) * z1 + (sp_d e s 2 : Int) * z2 + -(e 2 3 : Int) * z3
    ∧ sp_L e s (sp_v4 z0 z1 z2 z3) 3 = -(e 3 0 : Int) * z0 + -(e 3 1 : Int) * z1 + -(e 3 2 : Int) * z2 + (sp_d e s 3 : Int) * z3 := by
  have h0 := hG.2.2 0 (by decide)
  have h1 := hG.2.2 1 (by decide)
  have h2 := hG.2.2 2 (by decide)
  have h3 := hG.2.2 3 (by decide)
  simp only [sp_L, sp_d, sp_v4, h0, h1, h2, h3, Int.natCast_add]
  refine ⟨?_, ?_, ?_, ?_⟩ <;> simp <;> grind
theorem sp_cramer (hG : sp_G e s) (y : Nat → Int) : sp_eq e s (fun a => sp_det e s * y a) (fun _ => 0) := by
  refine ⟨sp_v4 (sp_D4 (y 0) (-(e 0 1 : Int)) (-(e 0 2 : Int)) (-(e 0 3 : Int)) (y 1) (sp_d e s 1 : Int) (-(e 1 2 : Int)) (-(e 1 3 : Int)) (y 2) (-(e 2 1 : Int)) (sp_d e s 2 : Int) (-(e 2 3 : Int)) (y 3) (-(e 3 1 : Int)) (-(e 3 2 : Int)) (sp_d e s 3 : Int))
    (sp_D4 (sp_d e s 0 : Int) (y 0) (-(e 0 2 : Int)) (-(e 0 3 : Int)) (-(e 1 0 : Int)) (y 1) (-(e 1 2 : Int)) (-(e 1 3 : Int)) (-(e 2 0 : Int)) (y 2) (sp_d e s 2 : Int) (-(e 2 3 : Int)) (-(e 3 0 : Int)) (y 3) (-(e 3 2 : Int)) (sp_d e s 3 : Int))
    (sp_D4 (sp_d e s 0 : Int) (-(e 0 1 : Int)) (y 0) (-(e 0 3 : Int)) (-(e 1 0 : Int)) (sp_d e s 1 : Int) (y 1) (-(e 1 3 : Int)) (-(e 2 0 : Int)) (-(e 2 1 : Int)) (y 2) (-(e 2 3 : Int)) (-(e 3 0 : Int)) (-(e 3 1 : Int)) (y 3) (sp_d e s 3 : Int))
    (sp_D4 (sp_d e s 0 : Int) (-(e 0 1 : Int)) (-(e 0 2 : Int)) (y 0) (-(e 1 0 : Int)) (sp_d e s 1 : Int) (-(e 1 2 : Int)) (y 1) (-(e 2 0 : Int)) (-(e 2 1 : Int)) (sp_d e s 2 : Int) (y 2) (-(e 3 0 : Int)) (-(e 3 1 : Int)) (-(e 3 2 : Int)) (y 3)), ?_⟩
  have hv := fun z0 z1 z2 z3 => sp_L_v4 hG z0 z1 z2 z3
  refine sp_four ?_ ?_ ?_ ?_
  · rw [(hv _ _ _ _).1]
    show sp_det e s * y 0 - 0 = _
    rw [Int.sub_zero]
    exact (sp_cr0 _ _ _ _ _ _ _ _ _ _ _ _ _ _ _ _ (y 0) (y 1) (y 2) (y 3)).symm
  · rw [(hv _ _ _ _).2.1]
    show sp_det e s * y 1 - 0 = _
    rw [Int.sub_zero]
    exact (sp_cr1 _ _ _ _ _ _ _ _ _ _ _ _ _ _ _ _ (y 0) (y 1) (y 2) (y 3)).symm
  · rw [(hv _ _ _ _).2.2.1]
    show sp_det e s * y 2 - 0 = _
    rw [Int.sub_zero]
    exact (sp_cr2 _ _ _ _ _ _ _ _ _ _ _ _ _ _ _ _ (y 0) (y 1) (y 2) (y 3)).symm
  · rw [(hv _ _ _ _).2.2.2]
    show sp_det e s * y 3 - 0 = _
    rw [Int.sub_zero]
    exact (sp_cr3 _ _ _ _ _ _ _ _ _ _ _ _ _ _ _ _ (y 0) (y 1) (y 2) (y 3)).symm
theorem sp_Z_det (hG : sp_G e s) (c : Nat → Nat) {k : Nat} (hk : sp_det e s = (k : Int)) : sp_Z e s c k := by
  have h := sp_cramer hG (fun a => (c a : Int))
  rw [hk] at h
  exact h
theorem sp_Z_add {c : Nat → Nat} {j k : Nat} (hj : sp_Z e s c j) (hk : sp_Z e s c k) : sp_Z e s c (j + k) := by
  refine sp_eq_tr (sp_eq_of (fun a _ => ?_)) (sp_eq_tr (sp_eq_add hj hk) (sp_eq_of (fun a _ => ?_)))
  · show ((j + k : Nat) : Int) * (c a : Int) = (j : Int) * (c a : Int) + (k : Int) * (c a : Int)
    rw [Int.natCast_add, Int.add_mul]
  · show (0 : Int) + 0 = 0
    rfl
theorem sp_Z_sub {c : Nat → Nat} {j k : Nat} (hj : sp_Z e s c j) (hk : sp_Z e s c (j + k)) : sp_Z e s c k := by
  refine sp_eq_tr (sp_eq_of (fun a _ => ?_)) (sp_eq_tr (sp_eq_add hk (sp_eq_neg hj)) (sp_eq_of (fun a _ => ?_)))
  · show (k : Int) * (c a : Int) = ((j + k : Nat) : Int) * (c a : Int) + -((j : Int) * (c a : Int))
    rw [Int.natCast_add, Int.add_mul]
    omega
  · show (0 : Int) + -0 = 0
    rfl
theorem sp_Z_0 (c : Nat → Nat) : sp_Z e s c 0 := sp_eq_of (fun a _ => by
  show ((0 : Nat) : Int) * (c a : Int) = 0
  simp)
theorem sp_Z_mul {c : Nat → Nat} {k : Nat} (hk : sp_Z e s c k) : ∀ m, sp_Z e s c (k * m) := by
  intro m
  induction m with
  | zero => exact sp_Z_0 c
  | succ m ih =>
    rw [Nat.mul_succ]
    exact sp_Z_add ih hk
theorem sp_ord {c : Nat → Nat} {N : Nat} (hN : 1 ≤ N) (hZ : sp_Z e s c N) : ∃ d, 1 ≤ d ∧ d ≤ N ∧ ∀ k, sp_Z e s c k ↔ d ∣ k := by
  obtain ⟨d, ⟨h1, h2⟩, hl⟩ := pk_least (fun k => 1 ≤ k ∧ sp_Z e s c k) ⟨N, hN, hZ⟩
  refine ⟨d, h1, ?_, fun k => ⟨fun hk => ?_, fun hk => ?_⟩⟩
  · apply Classical.byContradiction
    intro hn
    exact hl N (by omega) ⟨hN, hZ⟩
  · have hm : sp_Z e s c (k % d) := by
      refine sp_Z_sub (sp_Z_mul h2 (k / d)) ?_
      rw [Nat.div_add_mod]
      exact hk
    have hlt : k % d < d := Nat.mod_lt _ h1
    have h0 : k % d = 0 := by
      apply Classical.byContradiction
      intro hn
      exact hl _ hlt ⟨by omega, hm⟩
    exact Nat.dvd_of_mod_eq_zero h0
  · obtain ⟨m, rfl⟩ := hk
    exact sp_Z_mul h2 m
end
/-- the state of the trial division -/
def sp_oi (d res rest p : Nat) : Prop := 1 ≤ rest ∧ d ∣ res ∧ 1 ≤ res ∧ ∃ t, res = rest * t ∧ (∀ q, 2 ≤ q → q < p → ¬ q ∣ rest) ∧ ∀ m, d ∣ m → m ∣ res → t ∣ m
theorem sp_oi_0 {d N : Nat} (h : d ∣ N) (hN : 1 ≤ N) : sp_oi d N N 2 :=
  ⟨hN, h, hN, 1, (Nat.mul_one N).symm, fun q h1 h2 => absurd h1 (by omega), fun m _ _ => Nat.one_dvd m⟩
theorem sp_oi_next {d res rest p : Nat} (h : sp_oi d res rest p) (hp : ¬ p ∣ rest) : sp_oi d res rest (p + 1) := by
  obtain ⟨h1, h2, h3, t, h4, h5, h6⟩ := h
  refine ⟨h1, h2, h3, t, h4, fun q hq hq2 => ?_, h6⟩
  by_cases hqp : q = p
  · subst hqp
    exact hp
  · exact h5 q hq (by omega)
theorem sp_oi_dv {d res rest p : Nat} (h : sp_oi d res rest p) (hp : p ∣ rest) : p ∣ res := by
  obtain ⟨h1, h2, h3, t, h4, h5, h6⟩ := h
  rw [h4]
  exact Nat.dvd_trans hp (Nat.dvd_mul_right _ _)
theorem sp_oi_yes {d res rest p : Nat} (h : sp_oi d res rest p) (h2p : 2 ≤ p) (hp : p ∣ rest) (hd : d ∣ res / p) : sp_oi d (res / p) (rest / p) p := by
  have hpr := sp_oi_dv h hp
  obtain ⟨h1, h2, h3, t, h4, h5, h6⟩ := h
  obtain ⟨r, rfl⟩ := hp
  have hp0 : 0 < p := by omega
  have e1 : p * r / p = r := Nat.mul_div_cancel_left r hp0
  have e2 : res / p = r * t := by
    rw [h4, Nat.mul_assoc]
    exact Nat.mul_div_cancel_left _ hp0
  have hr : 1 ≤ r := by
    rcases Nat.eq_zero_or_pos r with hz | hz
    · subst hz
      omega
    · exact hz
  have ht : 1 ≤ t := by
    rcases Nat.eq_zero_or_pos t with hz | hz
    · subst hz
      rw [Nat.mul_zero] at h4
      omega
    · exact hz
  rw [e1]
  refine ⟨hr, hd, ?_, t, e2, fun q a b c => h5 q a b (Nat.dvd_trans c (Nat.dvd_mul_left _ _)), fun m hm hm2 => h6 m hm ?_⟩
  · rw [e2]
    exact Nat.mul_pos hr ht
  · refine Nat.dvd_trans hm2 ?_
    exact Nat.div_dvd_of_dvd hpr
theorem sp_oi_no {d res rest p : Nat} (h : sp_oi d res rest p) (h2p : 2 ≤ p) (hp : p ∣ rest) (hd : ¬ d ∣ res / p) : sp_oi d res (rest / p) p := by
  obtain ⟨h1, h2, h3, t, h4, h5, h6⟩ := h
  obtain ⟨r, rfl⟩ := hp
  have hp0 : 0 < p := by omega
  have e1 : p * r / p = r := Nat.mul_div_cancel_left r hp0
  have e2 : res / p = t * r := by
    rw [h4, Nat.mul_assoc, Nat.mul_div_cancel_left _ hp0, Nat.mul_comm]
  have hr : 1 ≤ r := by
    rcases Nat.eq_zero_or_pos r with hz | hz
    · subst hz
      omega
    · exact hz
  have ht : 1 ≤ t := by
    rcases Nat.eq_zero_or_pos t with hz | hz
    · subst hz
      rw [Nat.mul_zero] at h4
      omega
    · exact hz
  rw [e1]
  refine ⟨hr, h2, h3, p * t, ?_, fun q a b c => h5 q a b (Nat.dvd_trans c (Nat.dvd_mul_left _ _)), fun m hm hm2 => ?_⟩
  · rw [h4, Nat.mul_comm p r, Nat.mul_assoc]
  · obtain ⟨k, rfl⟩ := h6 m hm hm2
    have hk : k ∣ p * r := by
      have h7 : t * k ∣ t * (p * r) := by
        rw [Nat.mul_comm t (p * r), ← h4]
        exact hm2
      exact Nat.dvd_of_mul_dvd_mul_left ht h7
    have hpk : p ∣ k := by
      apply Classical.byContradiction
      intro hn
      have hg : Nat.gcd k p = 1 := by
        have g1 : Nat.gcd k p ∣ p := Nat.gcd_dvd_right k p
        have g2 : Nat.gcd k p ∣ k := Nat.gcd_dvd_left k p
        have g3 : 0 < Nat.gcd k p := Nat.gcd_pos_of_pos_right k hp0
        have g4 : Nat.gcd k p ≤ p := Nat.le_of_dvd hp0 g1
        apply Classical.byContradiction
        intro hg
        by_cases hgp : Nat.gcd k p = p
        · rw [hgp] at g2
          exact hn g2
        · exact h5 (Nat.gcd k p) (by omega) (by omega) (Nat.dvd_trans g1 (Nat.dvd_mul_right _ _))
      have hkr : k ∣ r := Nat.Coprime.dvd_of_dvd_mul_left (show Nat.Coprime k p from hg) hk
      apply hd
      rw [e2]
      exact Nat.dvd_trans hm (Nat.mul_dvd_mul_left t hkr)
    obtain ⟨j, rfl⟩ := hpk
    rw [← Nat.mul_assoc, Nat.mul_comm t p]
    exact Nat.dvd_mul_right _ _
theorem sp_oi_end {d res rest p : Nat} (h : sp_oi d res rest p) (hp : rest < p) : res = d := by
  obtain ⟨h1, h2, h3, t, h4, h5, h6⟩ := h
  have hr : rest = 1 := by
    apply Classical.byContradiction
    intro hn
    exact h5 rest (by omega) hp (Nat.dvd_refl _)
  rw [hr, Nat.one_mul] at h4
  have h7 := h6 d (Nat.dvd_refl _) h2
  rw [← h4] at h7
  exact Nat.dvd_antisymm h7 h2
end
section
/-! states as numbers; counting the recurrent ones -/
def sp_dg (k : Nat) (a : Nat) : Nat := if a = 0 then k / 512 % 8 else if a = 1 then k / 64 % 8 else if a = 2 then k / 8 % 8 else k % 8
def sp_cd (c : Nat → Nat) : Nat := 512 * c 0 + 64 * c 1 + 8 * c 2 + c 3
theorem sp_dg_0 (k : Nat) : sp_dg k 0 = k / 512 % 8 := rfl
theorem sp_dg_1 (k : Nat) : sp_dg k 1 = k / 64 % 8 := rfl
theorem sp_dg_2 (k : Nat) : sp_dg k 2 = k / 8 % 8 := rfl
theorem sp_dg_3 (k : Nat) : sp_dg k 3 = k % 8 := rfl
theorem sp_dg_lt (k a : Nat) : sp_dg k a < 8 := by
  unfold sp_dg
  split
  · omega
  · split
    · omega
    · split <;> omega
theorem sp_dg_cd {c : Nat → Nat} (h : ∀ a, a < 4 → c a < 8) : ∀ a, a < 4 → sp_dg (sp_cd c) a = c a := by
  have h0 := h 0 (by decide)
  have h1 := h 1 (by decide)
  have h2 := h 2 (by decide)
  have h3 := h 3 (by decide)
  refine sp_four ?_ ?_ ?_ ?_
  · rw [sp_dg_0]; unfold sp_cd; omega
  · rw [sp_dg_1]; unfold sp_cd; omega
  · rw [sp_dg_2]; unfold sp_cd; omega
  · rw [sp_dg_3]; unfold sp_cd; omega
theorem sp_cd_dg {k : Nat} (h : k < 4096) : sp_cd (sp_dg k) = k := by
  unfold sp_cd
  rw [sp_dg_0, sp_dg_1, sp_dg_2, sp_dg_3]
  omega
theorem sp_cd_lt {c : Nat → Nat} (h : ∀ a, a < 4 → c a < 8) : sp_cd c < 4096 := by
  have h0 := h 0 (by decide)
  have h1 := h 1 (by decide)
  have h2 := h 2 (by decide)
  have h3 := h 3 (by decide)
  unfold sp_cd
  omega
theorem sp_cd_congr {c c' : Nat → Nat} (h : ∀ a, a < 4 → c a = c' a) : sp_cd c = sp_cd c' := by
  unfold sp_cd
  rw [h 0 (by decide), h 1 (by decide), h 2 (by decide), h 3 (by decide)]
theorem sp_cd_inj {c c' : Nat → Nat} (h : ∀ a, a < 4 → c a < 8) (h' : ∀ a, a < 4 → c' a < 8) : sp_cd c = sp_cd c' ↔ ∀ a, a < 4 → c a = c' a := by
  constructor
  · intro he a ha
    rw [← sp_dg_cd h a ha, ← sp_dg_cd h' a ha, he]
  · exact sp_cd_congr
/-- the graph of this program: simple, one or two edges to the sink -/
def sp_H (e : Nat → Nat → Nat) (s : Nat → Nat) : Prop := sp_G e s ∧ (∀ a b, a < 4 → b < 4 → e a b ≤ 1) ∧ ∀ a, a < 4 → s a ≤ 2
theorem sp_H_d {e : Nat → Nat → Nat} {s : Nat → Nat} (h : sp_H e s) {a : Nat} (ha : a < 4) : 1 ≤ sp_d e s a ∧ sp_d e s a ≤ 5 := by
  have h0 := h.2.1 a 0 ha (by decide)
  have h1 := h.2.1 a 1 ha (by decide)
  have h2 := h.2.1 a 2 ha (by decide)
  have h3 := h.2.1 a 3 ha (by decide)
  have h4 := h.1.2.2 a ha
  have h5 := h.2.2 a ha
  have h6 := h.1.1 a ha
  unfold sp_d
  rcases sp_4 ha with rfl | rfl | rfl | rfl <;> omega
/-- no forbidden set, by the sets of two, three and four places -/
def sp_bt (e01 e02 e03 e12 e13 e23 c0 c1 c2 c3 : Nat) : Bool :=
  (Nat.ble e01 c0 || Nat.ble e01 c1) && (Nat.ble e02 c0 || Nat.ble e02 c2) && (Nat.ble e03 c0 || Nat.ble e03 c3)
  && (Nat.ble e12 c1 || Nat.ble e12 c2) && (Nat.ble e13 c1 || Nat.ble e13 c3) && (Nat.ble e23 c2 || Nat.ble e23 c3)
  && (Nat.ble (e01 + e02) c0 || Nat.ble (e01 + e12) c1 || Nat.ble (e02 + e12) c2)
  && (Nat.ble (e01 + e03) c0 || Nat.ble (e01 + e13) c1 || Nat.ble (e03 + e13) c3)
  && (Nat.ble (e02 + e03) c0 || Nat.ble (e02 + e23) c2 || Nat.ble (e03 + e23) c3)
  && (Nat.ble (e12 + e13) c1 || Nat.ble (e12 + e23) c2 || Nat.ble (e13 + e23) c3)
  && (Nat.ble (e01 + e02 + e03) c0 || Nat.ble (e01 + e12 + e13) c1 || Nat.ble (e02 + e12 + e23) c2 || Nat.ble (e03 + e13 + e23) c3)
theorem sp_N_bt {e : Nat → Nat → Nat} {s : Nat → Nat} (hG : sp_G e s) (c : Nat → Nat) :
    sp_bt (e 0 1) (e 0 2) (e 0 3) (e 1 2) (e 1 3) (e 2 3) (c 0) (c 1) (c 2) (c 3) = true ↔ sp_N e c := by
  have z0 := hG.2.2 0 (by decide)
  have z1 := hG.2.2 1 (by decide)
  have z2 := hG.2.2 2 (by decide)
  have z3 := hG.2.2 3 (by decide)
  have s01 := hG.2.1 1 0 (by decide) (by decide)
  have s02 := hG.2.1 2 0 (by decide) (by decide)
  have s03 := hG.2.1 3 0 (by decide) (by decide)
  have s12 := hG.2.1 2 1 (by decide) (by decide)
  have s13 := hG.2.1 3 1 (by decide) (by decide)
  have s23 := hG.2.1 3 2 (by decide) (by decide)
  have key : sp_N e c ↔ ∀ f0 f1 f2 f3 : Bool, (f0 = true ∨ f1 = true ∨ f2 = true ∨ f3 = true) →
      (f0 = true ∧ (if f1 = true then e 0 1 else 0) + (if f2 = true then e 0 2 else 0) + (if f3 = true then e 0 3 else 0) ≤ c 0)
      ∨ (f1 = true ∧ (if f0 = true then e 0 1 else 0) + (if f2 = true then e 1 2 else 0) + (if f3 = true then e 1 3 else 0) ≤ c 1)
      ∨ (f2 = true ∧ (if f0 = true then e 0 2 else 0) + (if f1 = true then e 1 2 else 0) + (if f3 = true then e 2 3 else 0) ≤ c 2)
      ∨ (f3 = true ∧ (if f0 = true then e 0 3 else 0) + (if f1 = true then e 1 3 else 0) + (if f2 = true then e 2 3 else 0) ≤ c 3) := by
    constructor
    · intro hN f0 f1 f2 f3 hf
      obtain ⟨a, ha, h1, h2⟩ := hN (fun j => if j = 0 then f0 else if j = 1 then f1 else if j = 2 then f2 else f3) (by
        rcases hf with h | h | h | h
        · exact ⟨0, by decide, h⟩
        · exact ⟨1, by decide, h⟩
        · exact ⟨2, by decide, h⟩
        · exact ⟨3, by decide, h⟩)
      unfold sp_dF at h2
      rcases sp_4 ha with rfl | rfl | rfl | rfl
      · refine Or.inl ⟨h1, ?_⟩
        simp [z0] at h2
        omega
      · refine Or.inr (Or.inl ⟨h1, ?_⟩)
        simp [z1, s01] at h2
        omega
      · refine Or.inr (Or.inr (Or.inl ⟨h1, ?_⟩))
        simp [z2, s02, s12] at h2
        omega
      · refine Or.inr (Or.inr (Or.inr ⟨h1, ?_⟩))
        simp [z3, s03, s13, s23] at h2
        omega
    · intro hA F hF
      have hf : F 0 = true ∨ F 1 = true ∨ F 2 = true ∨ F 3 = true := by
        obtain ⟨a, ha, h1⟩ := hF
        rcases sp_4 ha with rfl | rfl | rfl | rfl
        · exact Or.inl h1
        · exact Or.inr (Or.inl h1)
        · exact Or.inr (Or.inr (Or.inl h1))
        · exact Or.inr (Or.inr (Or.inr h1))
      rcases hA (F 0) (F 1) (F 2) (F 3) hf with h | h | h | h
      · refine ⟨0, by decide, h.1, ?_⟩
        unfold sp_dF
        rw [z0]
        simp
        omega
      · refine ⟨1, by decide, h.1, ?_⟩
        unfold sp_dF
        rw [z1, s01]
        simp
        omega
      · refine ⟨2, by decide, h.1, ?_⟩
        unfold sp_dF
        rw [z2, s02, s12]
        simp
        omega
      · refine ⟨3, by decide, h.1, ?_⟩
        unfold sp_dF
        rw [z3, s03, s13, s23]
        simp
        omega
  rw [key]
  simp only [sp_bt, Bool.and_eq_true, Bool.or_eq_true, Nat.ble_eq]
  generalize e 0 1 = e01
  generalize e 0 2 = e02
  generalize e 0 3 = e03
  generalize e 1 2 = e12
  generalize e 1 3 = e13
  generalize e 2 3 = e23
  generalize c 0 = c0
  generalize c 1 = c1
  generalize c 2 = c2
  generalize c 3 = c3
  constructor
  · intro h f0 f1 f2 f3 hf
    cases f0 <;> cases f1 <;> cases f2 <;> cases f3 <;> simp at hf ⊢ <;> omega
  · intro h
    have a1 := h true true false false (by simp)
    have a2 := h true false true false (by simp)
    have a3 := h true false false true (by simp)
    have a4 := h false true true false (by simp)
    have a5 := h false true false true (by simp)
    have a6 := h false false true true (by simp)
    have b1 := h true true true false (by simp)
    have b2 := h true true false true (by simp)
    have b3 := h true false true true (by simp)
    have b4 := h false true true true (by simp)
    have b5 := h true true true true (by simp)
    simp at a1 a2 a3 a4 a5 a6 b1 b2 b3 b4 b5
    refine ⟨⟨⟨⟨⟨⟨⟨⟨⟨⟨?_, ?_⟩, ?_⟩, ?_⟩, ?_⟩, ?_⟩, ?_⟩, ?_⟩, ?_⟩, ?_⟩, ?_⟩ <;> omega
/-- is the state with number k recurrent -/
def sp_rb (e : Nat → Nat → Nat) (s : Nat → Nat) (k : Nat) : Bool :=
  decide (sp_dg k 0 < sp_d e s 0) && (decide (sp_dg k 1 < sp_d e s 1) && (decide (sp_dg k 2 < sp_d e s 2) && (decide (sp_dg k 3 < sp_d e s 3)
  && sp_bt (e 0 1) (e 0 2) (e 0 3) (e 1 2) (e 1 3) (e 2 3) (sp_dg k 0) (sp_dg k 1) (sp_dg k 2) (sp_dg k 3))))
theorem sp_rb_iff {e : Nat → Nat → Nat} {s : Nat → Nat} (hG : sp_G e s) (k : Nat) : sp_rb e s k = true ↔ sp_R e s (sp_dg k) := by
  unfold sp_rb sp_R
  rw [Bool.and_eq_true, Bool.and_eq_true, Bool.and_eq_true, Bool.and_eq_true, sp_N_bt hG (sp_dg k), decide_eq_true_eq, decide_eq_true_eq, decide_eq_true_eq, decide_eq_true_eq]
  constructor
  · intro h
    exact ⟨sp_four h.1 h.2.1 h.2.2.1 h.2.2.2.1, h.2.2.2.2⟩
  · intro h
    exact ⟨h.1 0 (by decide), h.1 1 (by decide), h.1 2 (by decide), h.1 3 (by decide), h.2⟩
/-- sums -/
def sp_su (f : Nat → Nat) : Nat → Nat
  | 0 => 0
  | n + 1 => sp_su f n + f n
theorem sp_su_congr {f g : Nat → Nat} : ∀ n, (∀ i, i < n → f i = g i) → sp_su f n = sp_su g n := by
  intro n
  induction n with
  | zero => intro _; rfl
  | succ n ih =>
    intro h
    show sp_su f n + f n = sp_su g n + g n
    rw [ih (fun i hi => h i (by omega)), h n (by omega)]
theorem sp_su_le {f g : Nat → Nat} : ∀ n, (∀ i, i < n → f i ≤ g i) → sp_su f n ≤ sp_su g n := by
  intro n
  induction n with
  | zero => intro _; exact Nat.le_refl _
  | succ n ih =>
    intro h
    show sp_su f n + f n ≤ sp_su g n + g n
    exact Nat.add_le_add (ih (fun i hi => h i (by omega))) (h n (by omega))
theorem sp_su_up {f g : Nat → Nat} {k : Nat} (hk : g k = f k + 1) (h : ∀ i, i ≠ k → g i = f i) : ∀ n, k < n → sp_su g n = sp_su f n + 1 := by
  intro n
  induction n with
  | zero => intro hn; omega
  | succ n ih =>
    intro hn
    show sp_su g n + g n = sp_su f n + f n + 1
    by_cases hkn : k = n
    · subst hkn
      rw [hk, sp_su_congr (f := g) (g := f) k (fun i hi => h i (by omega))]
      omega
    · rw [ih (by omega), h n (fun z => hkn z.symm)]
      omega
theorem sp_su_8 (f : Nat → Nat) : ∀ m, sp_su f (8 * m) = sp_su (fun q => sp_su (fun r => f (8 * q + r)) 8) m := by
  intro m
  induction m with
  | zero => rfl
  | succ m ih =>
    show sp_su f (8 * m + 8) = sp_su (fun q => sp_su (fun r => f (8 * q + r)) 8) m + sp_su (fun r => f (8 * m + r)) 8
    rw [← ih]
    simp only [sp_su, Nat.add_zero]
    omega
def sp_s5 (d : Nat) (f : Nat → Nat) : Nat :=
  cond (Nat.ble 1 d) (f 0) 0 + cond (Nat.ble 2 d) (f 1) 0 + cond (Nat.ble 3 d) (f 2) 0 + cond (Nat.ble 4 d) (f 3) 0 + cond (Nat.ble 5 d) (f 4) 0
theorem sp_su_s5 {d : Nat} {f g : Nat → Nat} (hd : d ≤ 5) (h1 : ∀ i, i < d → f i = g i) (h2 : ∀ i, i < 8 → d ≤ i → f i = 0) : sp_su f 8 = sp_s5 d g := by
  simp only [sp_su, sp_s5]
  have h5 := h2 5 (by decide) hd
  have h6 := h2 6 (by decide) (by omega)
  have h7 := h2 7 (by decide) (by omega)
  have k : ∀ i, i < 5 → f i = cond (Nat.ble (i + 1) d) (g i) 0 := by
    intro i hi
    by_cases hid : i < d
    · have : Nat.ble (i + 1) d = true := Nat.ble_eq.mpr hid
      rw [this, h1 i hid]
      rfl
    · have : Nat.ble (i + 1) d = false := by
        cases hb : Nat.ble (i + 1) d
        · rfl
        · exact absurd (Nat.ble_eq.mp hb) hid
      rw [this, h2 i (by omega) (by omega)]
      rfl
  have k0 : f 0 = cond (Nat.ble 1 d) (g 0) 0 := k 0 (by decide)
  have k1 : f 1 = cond (Nat.ble 2 d) (g 1) 0 := k 1 (by decide)
  have k2 : f 2 = cond (Nat.ble 3 d) (g 2) 0 := k 2 (by decide)
  have k3 : f 3 = cond (Nat.ble 4 d) (g 3) 0 := k 3 (by decide)
  have k4 : f 4 = cond (Nat.ble 5 d) (g 4) 0 := k 4 (by decide)
  rw [h5, h6, h7, k0, k1, k2, k3, k4]
  omega
def sp_ct (e01 e02 e03 e12 e13 e23 d0 d1 d2 d3 : Nat) : Nat :=
  sp_s5 d0 fun c0 => sp_s5 d1 fun c1 => sp_s5 d2 fun c2 => sp_s5 d3 fun c3 => cond (sp_bt e01 e02 e03 e12 e13 e23 c0 c1 c2 c3) 1 0
def sp_di (e01 e02 e03 e12 e13 e23 d0 d1 d2 d3 : Int) : Int := sp_D4 d0 (-e01) (-e02) (-e03) (-e01) d1 (-e12) (-e13) (-e02) (-e12) d2 (-e23) (-e03) (-e13) (-e23) d3
def sp_ck (e01 e02 e03 e12 e13 e23 s0 s1 s2 s3 : Nat) : Bool :=
  match sp_ct e01 e02 e03 e12 e13 e23 (s0 + (0 + e01 + e02 + e03)) (s1 + (e01 + 0 + e12 + e13)) (s2 + (e02 + e12 + 0 + e23)) (s3 + (e03 + e13 + e23 + 0)),
    sp_di e01 e02 e03 e12 e13 e23 ((s0 + (0 + e01 + e02 + e03) : Nat) : Int) ((s1 + (e01 + 0 + e12 + e13) : Nat) : Int) ((s2 + (e02 + e12 + 0 + e23) : Nat) : Int) ((s3 + (e03 + e13 + e23 + 0) : Nat) : Int) with
  | n, .ofNat m => Nat.beq n m && Nat.ble 1 n && Nat.ble n 625
  | _, .negSucc _ => false
def sp_ck4 (e01 e02 e03 e12 e13 e23 : Nat) : Bool :=
  [1, 2].all fun s0 => [1, 2].all fun s1 => [1, 2].all fun s2 => [1, 2].all fun s3 => sp_ck e01 e02 e03 e12 e13 e23 s0 s1 s2 s3
theorem sp_ck_0 : ([0, 1].all fun e12 => [0, 1].all fun e13 => [0, 1].all fun e23 => sp_ck4 0 0 0 e12 e13 e23) = true := by decide +kernel
theorem sp_ck_1 : ([0, 1].all fun e12 => [0, 1].all fun e13 => [0, 1].all fun e23 => sp_ck4 1 0 0 e12 e13 e23) = true := by decide +kernel
theorem sp_ck_2 : ([0, 1].all fun e12 => [0, 1].all fun e13 => [0, 1].all fun e23 => sp_ck4 0 1 0 e12 e13 e23) = true := by decide +kernel
theorem sp_ck_3 : ([0, 1].all fun e12 => [0, 1].all fun e13 => [0, 1].all fun e23 => sp_ck4 1 1 0 e12 e13 e23) = true := by decide +kernel
theorem sp_ck_4 : ([0, 1].all fun e12 => [0, 1].all fun e13 => [0, 1].all fun e23 => sp_ck4 0 0 1 e12 e13 e23) = true := by decide +kernel
theorem sp_ck_5 : ([0, 1].all fun e12 => [0, 1].all fun e13 => [0, 1].all fun e23 => sp_ck4 1 0 1 e12 e13 e23) = true := by decide +kernel
theorem sp_ck_6 : ([0, 1].all fun e12 => [0, 1].all fun e13 => [0, 1].all fun e23 => sp_ck4 0 1 1 e12 e13 e23) = true := by decide +kernel
theorem sp_ck_7 : ([0, 1].all fun e12 => [0, 1].all fun e13 => [0, 1].all fun e23 => sp_ck4 1 1 1 e12 e13 e23) = true := by decide +kernel
end
section
theorem sp_all3 {F : Nat → Nat → Nat → Bool} (h : ([0, 1].all fun a => [0, 1].all fun b => [0, 1].all fun c => F a b c) = true) {a b c : Nat} (ha : a ≤ 1) (hb : b ≤ 1) (hc : c ≤ 1) : F a b c = true := by
  have m : ∀ {x : Nat}, x ≤ 1 → x ∈ [0, 1] := fun {x} hx => by
    have : x = 0 ∨ x = 1 := by omega
    rcases this with rfl | rfl <;> simp
  rw [List.all_eq_true] at h
  have h1 := h a (m ha)
  rw [List.all_eq_true] at h1
  have h2 := h1 b (m hb)
  rw [List.all_eq_true] at h2
  exact h2 c (m hc)
theorem sp_all4 {F : Nat → Nat → Nat → Nat → Bool} (h : ([1, 2].all fun a => [1, 2].all fun b => [1, 2].all fun c => [1, 2].all fun d => F a b c d) = true) {a b c d : Nat}
    (ha : 1 ≤ a ∧ a ≤ 2) (hb : 1 ≤ b ∧ b ≤ 2) (hc : 1 ≤ c ∧ c ≤ 2) (hd : 1 ≤ d ∧ d ≤ 2) : F a b c d = true := by
  have m : ∀ {x : Nat}, (1 ≤ x ∧ x ≤ 2) → x ∈ [1, 2] := fun {x} hx => by
    have : x = 1 ∨ x = 2 := by omega
    rcases this with rfl | rfl <;> simp
  rw [List.all_eq_true] at h
  have h1 := h a (m ha)
  rw [List.all_eq_true] at h1
  have h2 := h1 b (m hb)
  rw [List.all_eq_true] at h2
  have h3 := h2 c (m hc)
  rw [List.all_eq_true] at h3
  exact h3 d (m hd)
theorem sp_ck_all {e01 e02 e03 e12 e13 e23 s0 s1 s2 s3 : Nat} (h01 : e01 ≤ 1) (h02 : e02 ≤ 1) (h03 : e03 ≤ 1) (h12 : e12 ≤ 1) (h13 : e13 ≤ 1) (h23 : e23 ≤ 1)
    (k0 : 1 ≤ s0 ∧ s0 ≤ 2) (k1 : 1 ≤ s1 ∧ s1 ≤ 2) (k2 : 1 ≤ s2 ∧ s2 ≤ 2) (k3 : 1 ≤ s3 ∧ s3 ≤ 2) : sp_ck e01 e02 e03 e12 e13 e23 s0 s1 s2 s3 = true := by
  have h : sp_ck4 e01 e02 e03 e12 e13 e23 = true := by
    have q1 : e01 = 0 ∨ e01 = 1 := by omega
    have q2 : e02 = 0 ∨ e02 = 1 := by omega
    have q3 : e03 = 0 ∨ e03 = 1 := by omega
    rcases q1 with rfl | rfl <;> rcases q2 with rfl | rfl <;> rcases q3 with rfl | rfl
    · exact sp_all3 (F := sp_ck4 0 0 0) sp_ck_0 h12 h13 h23
    · exact sp_all3 (F := sp_ck4 0 0 1) sp_ck_4 h12 h13 h23
    · exact sp_all3 (F := sp_ck4 0 1 0) sp_ck_2 h12 h13 h23
    · exact sp_all3 (F := sp_ck4 0 1 1) sp_ck_6 h12 h13 h23
    · exact sp_all3 (F := sp_ck4 1 0 0) sp_ck_1 h12 h13 h23
    · exact sp_all3 (F := sp_ck4 1 0 1) sp_ck_5 h12 h13 h23
    · exact sp_all3 (F := sp_ck4 1 1 0) sp_ck_3 h12 h13 h23
    · exact sp_all3 (F := sp_ck4 1 1 1) sp_ck_7 h12 h13 h23
  exact sp_all4 (F := sp_ck e01 e02 e03 e12 e13 e23) h k0 k1 k2 k3
theorem sp_ck_out {e01 e02 e03 e12 e13 e23 s0 s1 s2 s3 : Nat} (h : sp_ck e01 e02 e03 e12 e13 e23 s0 s1 s2 s3 = true) :
    ∃ n : Nat, sp_ct e01 e02 e03 e12 e13 e23 (s0 + (0 + e01 + e02 + e03)) (s1 + (e01 + 0 + e12 + e13)) (s2 + (e02 + e12 + 0 + e23)) (s3 + (e03 + e13 + e23 + 0)) = n ∧
    sp_di e01 e02 e03 e12 e13 e23 ((s0 + (0 + e01 + e02 + e03) : Nat) : Int) ((s1 + (e01 + 0 + e12 + e13) : Nat) : Int) ((s2 + (e02 + e12 + 0 + e23) : Nat) : Int) ((s3 + (e03 + e13 + e23 + 0) : Nat) : Int) = (n : Int)
    ∧ 1 ≤ n ∧ n ≤ 625 := by
  unfold sp_ck at h
  split at h
  · next _ _ m hm =>
    rw [Bool.and_eq_true, Bool.and_eq_true, Nat.beq_eq, Nat.ble_eq, Nat.ble_eq] at h
    have h2 := h.1.2
    have h3 := h.2
    rw [h.1.1] at h2 h3
    exact ⟨m, h.1.1, hm, h2, h3⟩
  · cases h
theorem sp_su_z {f : Nat → Nat} : ∀ n, (∀ i, i < n → f i = 0) → sp_su f n = 0 := by
  intro n
  induction n with
  | zero => intro _; rfl
  | succ n ih =>
    intro h
    show sp_su f n + f n = 0
    rw [ih (fun i hi => h i (by omega)), h n (by omega)]
theorem sp_su_4096 (f : Nat → Nat) : sp_su f 4096 = sp_su (fun c0 => sp_su (fun c1 => sp_su (fun c2 => sp_su (fun c3 => f (8 * (8 * (8 * c0 + c1) + c2) + c3)) 8) 8) 8) 8 := by
  have h1 := sp_su_8 f 512
  have h2 := sp_su_8 (fun q => sp_su (fun r => f (8 * q + r)) 8) 64
  have h3 := sp_su_8 (fun p => sp_su (fun q => sp_su (fun r => f (8 * (8 * p + q) + r)) 8) 8) 8
  exact h1.trans (h2.trans h3)
theorem sp_rb_k (e : Nat → Nat → Nat) (s : Nat → Nat) {c0 c1 c2 c3 : Nat} (h0 : c0 < 8) (h1 : c1 < 8) (h2 : c2 < 8) (h3 : c3 < 8) :
    sp_rb e s (8 * (8 * (8 * c0 + c1) + c2) + c3) = (decide (c0 < sp_d e s 0) && (decide (c1 < sp_d e s 1) && (decide (c2 < sp_d e s 2) && (decide (c3 < sp_d e s 3)
    && sp_bt (e 0 1) (e 0 2) (e 0 3) (e 1 2) (e 1 3) (e 2 3) c0 c1 c2 c3)))) := by
  unfold sp_rb
  have k0 : sp_dg (8 * (8 * (8 * c0 + c1) + c2) + c3) 0 = c0 := by rw [sp_dg_0]; omega
  have k1 : sp_dg (8 * (8 * (8 * c0 + c1) + c2) + c3) 1 = c1 := by rw [sp_dg_1]; omega
  have k2 : sp_dg (8 * (8 * (8 * c0 + c1) + c2) + c3) 2 = c2 := by rw [sp_dg_2]; omega
  have k3 : sp_dg (8 * (8 * (8 * c0 + c1) + c2) + c3) 3 = c3 := by rw [sp_dg_3]; omega
  rw [k0, k1, k2, k3]
theorem sp_nrec (e : Nat → Nat → Nat) (s : Nat → Nat) (h : ∀ a, a < 4 → sp_d e s a ≤ 5) :
    sp_su (fun k => cond (sp_rb e s k) 1 0) 4096 = sp_ct (e 0 1) (e 0 2) (e 0 3) (e 1 2) (e 1 3) (e 2 3) (sp_d e s 0) (sp_d e s 1) (sp_d e s 2) (sp_d e s 3) := by
  rw [sp_su_4096]
  unfold sp_ct
  have hd0 := h 0 (by decide)
  have hd1 := h 1 (by decide)
  have hd2 := h 2 (by decide)
  have hd3 := h 3 (by decide)
  refine sp_su_s5 hd0 (fun c0 h0 => ?_) (fun c0 g0 h0 => ?_)
  · refine sp_su_s5 hd1 (fun c1 h1 => ?_) (fun c1 g1 h1 => ?_)
    · refine sp_su_s5 hd2 (fun c2 h2 => ?_) (fun c2 g2 h2 => ?_)
      · refine sp_su_s5 hd3 (fun c3 h3 => ?_) (fun c3 g3 h3 => ?_)
        · rw [sp_rb_k e s (by omega) (by omega) (by omega) (by omega), decide_eq_true h0, decide_eq_true h1, decide_eq_true h2, decide_eq_true h3]
          rfl
        · rw [sp_rb_k e s (by omega) (by omega) (by omega) (by omega), decide_eq_false (p := c3 < sp_d e s 3) (by omega)]
          simp
      · refine sp_su_z 8 (fun c3 g3 => ?_)
        rw [sp_rb_k e s (by omega) (by omega) (by omega) (by omega), decide_eq_false (p := c2 < sp_d e s 2) (by omega)]
        simp
    · refine sp_su_z 8 (fun c2 g2 => sp_su_z 8 (fun c3 g3 => ?_))
      rw [sp_rb_k e s (by omega) (by omega) (by omega) (by omega), decide_eq_false (p := c1 < sp_d e s 1) (by omega)]
      simp
  · refine sp_su_z 8 (fun c1 g1 => sp_su_z 8 (fun c2 g2 => sp_su_z 8 (fun c3 g3 => ?_)))
    rw [sp_rb_k e s (by omega) (by omega) (by omega) (by omega), decide_eq_false (p := c0 < sp_d e s 0) (by omega)]
    simp
/-- the number of recurrent states is the determinant, at most 625 -/
theorem sp_count {e : Nat → Nat → Nat} {s : Nat → Nat} (hH : sp_H e s) :
    ∃ n : Nat, sp_det e s = (n : Int) ∧ 1 ≤ n ∧ n ≤ 625 ∧ sp_su (fun k => cond (sp_rb e s k) 1 0) 4096 = n := by
  have hG := hH.1
  have z0 := hG.2.2 0 (by decide)
  have z1 := hG.2.2 1 (by decide)
  have z2 := hG.2.2 2 (by decide)
  have z3 := hG.2.2 3 (by decide)
  have s01 := hG.2.1 1 0 (by decide) (by decide)
  have s02 := hG.2.1 2 0 (by decide) (by decide)
  have s03 := hG.2.1 3 0 (by decide) (by decide)
  have s12 := hG.2.1 2 1 (by decide) (by decide)
  have s13 := hG.2.1 3 1 (by decide) (by decide)
  have s23 := hG.2.1 3 2 (by decide) (by decide)
  have hs : ∀ a, a < 4 → 1 ≤ s a ∧ s a ≤ 2 := fun a ha => ⟨hG.1 a ha, hH.2.2 a ha⟩
  have hE : ∀ a b, a < 4 → b < 4 → e a b ≤ 1 := hH.2.1
  have hc := sp_ck_all (hE 0 1 (by decide) (by decide)) (hE 0 2 (by decide) (by decide)) (hE 0 3 (by decide) (by decide)) (hE 1 2 (by decide) (by decide)) (hE 1 3 (by decide) (by decide)) (hE 2 3 (by decide) (by decide)) (hs 0 (by decide)) (hs 1 (by decide)) (hs 2 (by decide)) (hs 3 (by decide))
  obtain ⟨n, h1, h2, h3, h4⟩ := sp_ck_out hc
  have e0 : sp_d e s 0 = s 0 + (0 + e 0 1 + e 0 2 + e 0 3) := by unfold sp_d; rw [z0]
  have e1 : sp_d e s 1 = s 1 + (e 0 1 + 0 + e 1 2 + e 1 3) := by unfold sp_d; rw [z1, s01]
  have e2 : sp_d e s 2 = s 2 + (e 0 2 + e 1 2 + 0 + e 2 3) := by unfold sp_d; rw [z2, s02, s12]
  have e3 : sp_d e s 3 = s 3 + (e 0 3 + e 1 3 + e 2 3 + 0) := by unfold sp_d; rw [z3, s03, s13, s23]
  rw [← e0, ← e1, ← e2, ← e3] at h1 h2
  refine ⟨n, ?_, h3, h4, ?_⟩
  · rw [← h2]
    unfold sp_det sp_di
    rw [s01, s02, s03, s12, s13, s23]
  · rw [sp_nrec e s (fun a ha => (sp_H_d hH ha).2)]
    exact h1
end
section
/-! the program's words over the pure numbers -/
def sp_mk (e : Nat → Nat → Nat) (a : Nat) : Nat := e a 0 + 2 * e a 1 + 4 * e a 2 + 8 * e a 3
theorem sp_bit16 : ∀ w, w < 16 → ∀ b, b < 4 → ((nI w >>> (nI b &&& 31)) &&& 1) = nI (w / 2 ^ b % 2) := by decide +kernel
theorem sp_mk_bit {e : Nat → Nat → Nat} {s : Nat → Nat} (hH : sp_H e s) {a b : Nat} (ha : a < 4) (hb : b < 4) : sp_mk e a < 16 ∧ sp_mk e a / 2 ^ b % 2 = e a b := by
  have h0 := hH.2.1 a 0 ha (by decide)
  have h1 := hH.2.1 a 1 ha (by decide)
  have h2 := hH.2.1 a 2 ha (by decide)
  have h3 := hH.2.1 a 3 ha (by decide)
  unfold sp_mk
  refine ⟨by omega, ?_⟩
  rcases sp_4 hb with rfl | rfl | rfl | rfl
  · show _ / 1 % 2 = _
    omega
  · show _ / 2 % 2 = _
    omega
  · show _ / 4 % 2 = _
    omega
  · show _ / 8 % 2 = _
    omega
theorem sp_bit {e : Nat → Nat → Nat} {s : Nat → Nat} (hH : sp_H e s) {a b : Nat} (ha : a < 4) (hb : b < 4) : ((nI (sp_mk e a) >>> (nI b &&& 31)) &&& 1) = nI (e a b) := by
  have h := sp_mk_bit hH ha hb
  rw [sp_bit16 _ h.1 b hb, h.2]
theorem sp_cl {a : Nat} (h : a < 4096) : (nI a).toNatClampNeg = a := nI_clamp (by omega)
theorem sp_digit {k a : Nat} (hk : k < 4096) (ha : a < 4) : ((nI k >>> ((9 - (3 * nI a)) &&& 31)) &&& 7) = nI (sp_dg k a) := by
  rcases sp_4 ha with rfl | rfl | rfl | rfl
  · rw [pk_shrN (by omega) _ 9 (by decide), pk_andN (by omega) 3 (by decide)]
    rfl
  · rw [pk_shrN (by omega) _ 6 (by decide), pk_andN (by omega) 3 (by decide)]
    rfl
  · rw [pk_shrN (by omega) _ 3 (by decide), pk_andN (by omega) 3 (by decide)]
    rfl
  · rw [pk_shrN (by omega) _ 0 (by decide), pk_andN (by omega) 3 (by decide), sp_dg_3]
    rw [show (2 : Nat) ^ 0 = 1 from rfl, Nat.div_one]
theorem gx_digit {post : Int32 → Prop} {u : SX} {k a : Nat} (hk : k < 4096) (ha : a < 4) (h : post (nI (sp_dg k a))) : wpX_digit post u (nI k) (nI a) := by
  obtain ⟨_, _, _, _, _, _, _, _, _, _⟩ := u
  show post _
  rw [sp_digit hk ha]
  exact h
theorem gy_digit {post : Int32 → Prop} {u : SY} {k a : Nat} (hk : k < 4096) (ha : a < 4) (h : post (nI (sp_dg k a))) : wpY_digit post u (nI k) (nI a) := by
  obtain ⟨_, _, _, _, _, _, _⟩ := u
  show post _
  rw [sp_digit hk ha]
  exact h
theorem sp_fill {s : Nat → Int32} {i : Nat} (f : Nat → Int32) (hi : i < 4096) (hs : ∀ a, a < i → s a = f a) : ∀ a, a < i + 1 → upd s (nI i).toNatClampNeg (f i) a = f a := by
  intro a ha
  rw [sp_cl hi]
  by_cases h : a = i
  · subst h
    exact pk_us
  · rw [pk_un h]
    exact hs a (by omega)
theorem sp_le4 : (4 : Int32) ≤ nI 4 := by decide
theorem sp_nle4 {i : Nat} (h : i < 4) : ¬ (4 : Int32) ≤ nI i := nI_ge (b := 4) h (by decide)
theorem sp_in4 {i : Nat} (h : i < 4) : vp_in (nI i) 4 := vp_in_nI h (by decide)
theorem sp_8 (a b : Nat) : (8 : Int32) * nI a + nI b = nI (8 * a + b) := by
  rw [← nI_add, ← pk_mul]
  rfl
/-- the graph as the component holds it -/
def gx_H (e : Nat → Nat → Nat) (s : Nat → Nat) (N S D : Nat → Int32) : Prop := sp_H e s ∧ (∀ a, a < 4 → N a = nI (sp_mk e a)) ∧ (∀ a, a < 4 → S a = nI (s a)) ∧ ∀ a, a < 4 → D a = nI (sp_d e s a)
def gy_H (e : Nat → Nat → Nat) (s : Nat → Nat) (N S : Nat → Int32) : Prop := sp_H e s ∧ (∀ a, a < 4 → N a = nI (sp_mk e a)) ∧ ∀ a, a < 4 → S a = nI (s a)
theorem sp_up1 {s : Nat → Int32} {c : Nat → Nat} {i v : Nat} (hi : i < 4) (hs : ∀ j, j < 4 → s j = nI (c j)) : ∀ j, j < 4 → upd s (nI i).toNatClampNeg (nI v) j = nI (if j = i then v else c j) := by
  intro j hj
  rw [sp_cl (by omega)]
  by_cases h : j = i
  · subst h
    rw [pk_us, if_pos rfl]
  · rw [pk_un h, if_neg h]
    exact hs j hj
section
variable {e : Nat → Nat → Nat} {s : Nat → Nat} {N S D G M : Nat → Int32} {kp tp kn go ne : Int32}
theorem gx_load {post : SX → Prop} {k : Nat} (hk : k < 4096)
    (h : ∀ G', (∀ a, a < 4 → G' a = nI (sp_dg k a)) → post (kp, tp, kn, go, ne, N, S, D, G', M)) : wpX_load post (kp, tp, kn, go, ne, N, S, D, G, M) (nI k) := by
  refine loop_0 (fun n i (g : Nat → Int32) => wX_load_2 post (nI k) kp tp kn go ne n (nI i) N S D g M) (fun i g => ∀ a, a < i → g a = nI (sp_dg k a)) 4 G (fun a ha => absurd ha (Nat.not_lt_zero a)) (fun n g hg => ?_) (fun n i g hi hg ih => ?_)
  · exact br_t sp_le4 (h g hg)
  · exact br_f (sp_nle4 hi) (gx_digit hk hi ⟨sp_in4 hi, nm_e (nm_r (nI_1 i) (ih _ (sp_fill (fun a => nI (sp_dg k a)) (by omega) hg)))⟩)
theorem gx_packed {post : Int32 → Prop} {c : Nat → Nat} (hc : ∀ a, a < 4 → G a = nI (c a)) (h : post (nI (sp_cd c))) : wpX_packed post (kp, tp, kn, go, ne, N, S, D, G, M) := by
  refine ⟨5, ?_⟩
  have h0 : G (nI 0).toNatClampNeg = nI (c 0) := hc 0 (by decide)
  have h1 : G (nI 1).toNatClampNeg = nI (c 1) := hc 1 (by decide)
  have h2 : G (nI 2).toNatClampNeg = nI (c 2) := hc 2 (by decide)
  have h3 : G (nI 3).toNatClampNeg = nI (c 3) := hc 3 (by decide)
  refine br_f (by decide) ⟨sp_in4 (i := 0) (by decide), nm_r (e' := nI (8 * 0 + c 0)) ?_ (nm_r (e' := nI 1) rfl ?_)⟩
  · rw [← nI_add, ← pk_mul]
    exact congrArg (fun z => (8 : Int32) * 0 + z) h0
  refine br_f (by decide) ⟨sp_in4 (i := 1) (by decide), nm_r (e' := nI (8 * (8 * 0 + c 0) + c 1)) ?_ (nm_r (e' := nI 2) rfl ?_)⟩
  · rw [h1]
    exact sp_8 _ _
  refine br_f (by decide) ⟨sp_in4 (i := 2) (by decide), nm_r (e' := nI (8 * (8 * (8 * 0 + c 0) + c 1) + c 2)) ?_ (nm_r (e' := nI 3) rfl ?_)⟩
  · rw [h2]
    exact sp_8 _ _
  refine br_f (by decide) ⟨sp_in4 (i := 3) (by decide), nm_r (e' := nI (8 * (8 * (8 * (8 * 0 + c 0) + c 1) + c 2) + c 3)) ?_ (nm_r (e' := nI 4) rfl ?_)⟩
  · rw [h3]
    exact sp_8 _ _
  refine br_t (by decide) ?_
  have hq : 8 * (8 * (8 * (8 * 0 + c 0) + c 1) + c 2) + c 3 = sp_cd c := by
    unfold sp_cd
    omega
  rw [hq]
  exact h
theorem gx_add {post : SX → Prop} {J7 : Int32 → Int32 → (Nat → Int32) → (Nat → Int32) → (Nat → Int32) → (Nat → Int32) → (Nat → Int32) → Prop}
    {J15 : Int32 → Int32 → Int32 → (Nat → Int32) → (Nat → Int32) → (Nat → Int32) → (Nat → Int32) → (Nat → Int32) → Prop} {x1 : Int32}
    (hX : gx_H e s N S D) {a t : Nat} (ha : a < 4) {c : Nat → Nat} (hG : ∀ j, j < 4 → G j = nI (c j))
    (h : ∀ G', (∀ j, j < 4 → G' j = nI (c j + t * e a j)) → J15 x1 (nI (a + 1)) tp N S D G' M) :
    ∃ n, wX_settle_73 post J7 J15 x1 (nI a) (nI t) kp tp kn go ne n 0 N S D G M := by
  refine loop_0 (fun n i (g : Nat → Int32) => wX_settle_73 post J7 J15 x1 (nI a) (nI t) kp tp kn go ne n (nI i) N S D g M) (fun i g => ∀ j, j < 4 → g j = nI (if j < i then c j + t * e a j else c j)) 4 G (fun j hj => ?_) (fun n g hg => ?_) (fun n i g hi hg ih => ?_)
  · rw [if_neg (Nat.not_lt_zero j)]
    exact hG j hj
  · refine br_t sp_le4 (nm_r (nI_1 a) (h g (fun j hj => ?_)))
    rw [hg j hj, if_pos hj]
  · have hb : ((N (nI a).toNatClampNeg >>> (nI i &&& 31)) &&& 1) = nI (e a i) := by
      rw [sp_cl (by omega), hX.2.1 a ha, sp_bit hX.1 ha hi]
    have he := hX.1.2.1 a i ha hi
    by_cases hz : e a i = 0
    · refine br_f (sp_nle4 hi) ⟨sp_in4 ha, br_t (by rw [hb, hz]; rfl) (nm_r (nI_1 i) (ih g (fun j hj => ?_)))⟩
      rw [hg j hj]
      by_cases hj1 : j < i
      · rw [if_pos hj1, if_pos (by omega)]
      · rw [if_neg hj1]
        by_cases hj2 : j = i
        · subst hj2
          rw [if_pos (by omega), hz, Nat.mul_zero, Nat.add_zero]
        · rw [if_neg (by omega)]
    · have h1 : e a i = 1 := by omega
      have hgi : g (nI i).toNatClampNeg + nI t = nI (c i + t * e a i) := by
        rw [sp_cl (by omega), hg i hi, if_neg (Nat.lt_irrefl i), nI_add, h1, Nat.mul_one]
      refine br_f (sp_nle4 hi) ⟨sp_in4 ha, br_f (by rw [hb, h1]; decide) ⟨sp_in4 hi, sp_in4 hi, nm_r (congrArg (upd g (nI i).toNatClampNeg) hgi) (nm_r (nI_1 i) (ih _ (fun j hj => ?_)))⟩⟩
      rw [sp_up1 hi hg j hj]
      by_cases hj2 : j = i
      · subst hj2
        rw [if_pos rfl, if_pos (by omega)]
      · rw [if_neg hj2]
        by_cases hj1 : j < i
        · rw [if_pos hj1, if_pos (by omega)]
        · rw [if_neg hj1, if_neg (by omega)]
end
end
section
/-! the component's settle: the least odometer -/
theorem sp_u_sum {u : Nat → Nat} {i t : Nat} (hi : i < 4) : (if (0 : Nat) = i then u i + t else u 0) + (if (1 : Nat) = i then u i + t else u 1) + (if (2 : Nat) = i then u i + t else u 2) + (if (3 : Nat) = i then u i + t else u 3) = u 0 + u 1 + u 2 + u 3 + t := by
  rcases sp_4 hi with rfl | rfl | rfl | rfl <;> simp <;> omega
theorem sp_c_le {c : Nat → Nat} {i : Nat} (hi : i < 4) : c i ≤ c 0 + c 1 + c 2 + c 3 := by
  rcases sp_4 hi with rfl | rfl | rfl | rfl <;> omega
section
variable {e : Nat → Nat → Nat} {s : Nat → Nat} {N S D M : Nat → Int32} {kp kn go ne : Int32}
theorem gx_sweep {post : SX → Prop} {J7 : Int32 → Int32 → (Nat → Int32) → (Nat → Int32) → (Nat → Int32) → (Nat → Int32) → (Nat → Int32) → Prop}
    (hX : gx_H e s N S D) {g : Nat → Nat} {B : Nat} (hB : B < 2 ^ 30)
    (hJ : ∀ (x1 : Int32) (u c : Nat → Nat) (G : Nat → Int32), sp_inv e s g u c → (∀ j, j < 4 → G j = nI (c j)) →
      ((x1 = 0 ∧ ∀ a, a < 4 → c a < sp_d e s a) ∨ (x1 = 1 ∧ c 0 + c 1 + c 2 + c 3 < B)) → J7 x1 (nI (u 0 + u 1 + u 2 + u 3)) N S D G M) :
    ∀ (k i : Nat), i + k = 4 → ∀ (n : Nat), k < n → ∀ (x1 : Int32) (u c : Nat → Nat) (G : Nat → Int32), sp_inv e s g u c → (∀ j, j < 4 → G j = nI (c j)) →
      c 0 + c 1 + c 2 + c 3 ≤ B → ((x1 = 0 ∧ ∀ a, a < i → c a < sp_d e s a) ∨ (x1 = 1 ∧ c 0 + c 1 + c 2 + c 3 < B)) →
      wX_settle_15 post J7 kp kn go ne n x1 (nI i) (nI (u 0 + u 1 + u 2 + u 3)) N S D G M := by
  intro k
  induction k with
  | zero =>
    intro i hi n hn x1 u c G hI hG hc hx
    obtain ⟨m, rfl⟩ : ∃ m, n = m + 1 := ⟨n - 1, by omega⟩
    have hi4 : i = 4 := by omega
    subst hi4
    exact br_t sp_le4 (hJ x1 u c G hI hG hx)
  | succ k ih =>
    intro i hi n hn x1 u c G hI hG hc hx
    obtain ⟨m, rfl⟩ : ∃ m, n = m + 1 := ⟨n - 1, by omega⟩
    have hi4 : i < 4 := by omega
    have hcl : (nI i).toNatClampNeg = i := sp_cl (by omega)
    have hd := sp_H_d hX.1 hi4
    have hci := sp_c_le (c := c) hi4
    have hD : D (nI i).toNatClampNeg = nI (sp_d e s i) := by rw [hcl]; exact hX.2.2.2 i hi4
    have hGi : G (nI i).toNatClampNeg = nI (c i) := by rw [hcl]; exact hG i hi4
    have hdiv : G (nI i).toNatClampNeg / D (nI i).toNatClampNeg = nI (c i / sp_d e s i) := by
      rw [hGi, hD]
      exact pk_div (by omega) (by omega) (by omega)
    have hq : c i / sp_d e s i ≤ c i := Nat.div_le_self _ _
    refine br_f (sp_nle4 hi4) ⟨sp_in4 hi4, sp_in4 hi4, by rw [hD]; exact nI_ne0 (by omega) (by omega), nm_r hdiv ?_⟩
    by_cases hz : c i / sp_d e s i = 0
    · have hlt : c i < sp_d e s i := by
        apply Classical.byContradiction
        intro hn2
        have := Nat.div_pos (a := c i) (b := sp_d e s i) (by omega) (by omega)
        omega
      refine br_t (by rw [hz]; rfl) (nm_r (nI_1 i) (ih (i + 1) (by omega) m (by omega) x1 u c G hI hG hc ?_))
      rcases hx with ⟨h1, h2⟩ | h1
      · refine Or.inl ⟨h1, fun a ha => ?_⟩
        by_cases hai : a = i
        · subst hai
          exact hlt
        · exact h2 a (by omega)
      · exact Or.inr h1
    · have ht1 : 1 ≤ c i / sp_d e s i := Nat.pos_of_ne_zero hz
      have htd : c i / sp_d e s i * sp_d e s i ≤ c i := Nat.div_mul_le_self _ _
      generalize htq : c i / sp_d e s i = t at hz ht1 htd hq hdiv
      have hsub : G (nI i).toNatClampNeg - nI t * D (nI i).toNatClampNeg = nI (c i - t * sp_d e s i) := by
        rw [hGi, hD, pk_mul, pk_sub htd]
      refine br_f (nI_ne0 (by omega) (by omega)) (nm_r (nI_add _ _) ⟨sp_in4 hi4, sp_in4 hi4, sp_in4 hi4, nm_r (congrArg (upd G (nI i).toNatClampNeg) hsub) ?_⟩)
      refine gx_add (a := i) (t := t) hX hi4 (sp_up1 hi4 hG) (fun G' hG' => ?_)
      have hc1 : (fun j => (if j = i then c i - t * sp_d e s i else c j) + t * e i j) i = c i - t * sp_d e s i := by
        show (if i = i then c i - t * sp_d e s i else c i) + t * e i i = _
        rw [if_pos rfl, hX.1.1.2.2 i hi4]
        omega
      have hc2 : ∀ b, b < 4 → b ≠ i → (fun j => (if j = i then c i - t * sp_d e s i else c j) + t * e i j) b = c b + t * e i b := by
        intro b hb hbi
        show (if b = i then c i - t * sp_d e s i else c b) + t * e i b = _
        rw [if_neg hbi]
      have hu1 : (fun b => if b = i then u i + t else u b) i = u i + t := if_pos rfl
      have hu2 : ∀ b, b < 4 → b ≠ i → (fun b => if b = i then u i + t else u b) b = u b := fun b hb hbi => if_neg hbi
      have hI' := sp_inv_step hX.1.1 hI hi4 htd hc1 hc2 hu1 hu2
      have hsum := sp_sum_step hX.1.1 hi4 htd hc1 hc2
      have hs1 := hX.1.1.1 i hi4
      have hts : 1 ≤ t * s i := Nat.mul_pos ht1 hs1
      have hus := sp_u_sum (u := u) (t := t) hi4
      have hres := ih (i + 1) (by omega) m (by omega) 1 _ _ G' hI' hG' (by omega) (Or.inr ⟨rfl, by omega⟩)
      rw [← hus]
      exact hres
theorem gx_settle {post : SX → Prop} (hX : gx_H e s N S D) {g : Nat → Nat} {G : Nat → Int32} {tp : Int32} (hg : g 0 + g 1 + g 2 + g 3 < 2 ^ 30) (hG : ∀ j, j < 4 → G j = nI (g j))
    (h : ∀ G', (∀ j, j < 4 → G' j = nI (sp_st e s g j)) → post (kp, nI (sp_tp e s g), kn, go, ne, N, S, D, G', M)) :
    wpX_settle post (kp, tp, kn, go, ne, N, S, D, G, M) := by
  have loop : ∀ (n : Nat) (u c : Nat → Nat) (G : Nat → Int32), c 0 + c 1 + c 2 + c 3 + 2 ≤ n → c 0 + c 1 + c 2 + c 3 < 2 ^ 30 → sp_inv e s g u c → (∀ j, j < 4 → G j = nI (c j)) →
      wX_settle_7 post kp kn go ne n 1 (nI (u 0 + u 1 + u 2 + u 3)) N S D G M := by
    intro n
    induction n with
    | zero => intro u c G hn; omega
    | succ n ih =>
      intro u c G hn hc hI hG
      refine br_f (by decide) ⟨5, ?_⟩
      refine gx_sweep hX hc ?_ 4 0 rfl 5 (by decide) 0 u c G hI hG (Nat.le_refl _) (Or.inl ⟨rfl, fun a ha => absurd ha (Nat.not_lt_zero a)⟩)
      intro x1 u' c' G' hI' hG' hx
      rcases hx with ⟨rfl, hst⟩ | ⟨rfl, hlt⟩
      · obtain ⟨m, rfl⟩ : ∃ m, n = m + 1 := ⟨n - 1, by omega⟩
        have hres := sp_is hX.1.1 ⟨hI', hst⟩ (fun _ _ => rfl)
        refine br_t rfl ?_
        rw [hres.2]
        exact h G' (fun j hj => by rw [hG' j hj, hres.1 j hj])
      · exact ih u' c' G' (by omega) (by omega) hI' hG'
  exact ⟨_, loop _ (fun _ => 0) g G (Nat.le_refl _) hg (sp_inv_0 g) hG⟩
end
end
section
/-! the reference's settle -/
theorem sp_su4 (f : Nat → Nat) : sp_su f 4 = f 0 + f 1 + f 2 + f 3 := by
  show 0 + f 0 + f 1 + f 2 + f 3 = _
  omega
section
variable {e : Nat → Nat → Nat} {s : Nat → Nat} {N S R W F : Nat → Int32} {kn tp : Int32}
theorem gy_in {post : Int32 → Prop} {v : SY} {p0 : Int32} (hH : sp_H e s) {a b : Nat} (ha : a < 4) (hb : b < 4) (hp : p0 = nI (sp_mk e a)) (h : post (nI (e a b))) : wpY_in post v p0 (nI b) := by
  obtain ⟨_, _, _, _, _, _, _⟩ := v
  subst hp
  have h1 := hH.2.1 a b ha hb
  have hq := sp_bit hH ha hb
  by_cases hz : e a b = 0
  · rw [hz] at hq h
    exact br_f (by rw [hq]; decide) h
  · have ho : e a b = 1 := by omega
    rw [ho] at hq h
    exact br_t (by rw [hq]; decide) h
theorem gy_degreeOf {post : Int32 → Prop} (hY : gy_H e s N S) {a : Nat} (ha : a < 4) (h : post (nI (sp_d e s a))) : wpY_degreeOf post (kn, tp, N, S, R, W, F) (nI a) := by
  have hcl : (nI a).toNatClampNeg = a := sp_cl (by omega)
  refine ⟨sp_in4 ha, nm_r (e' := nI (s a)) (by rw [hcl]; exact hY.2.2 a ha) ?_⟩
  refine loop_0 (fun n i (x : Int32) => wY_degreeOf_9 post (nI a) kn tp N S R W F n x (nI i)) (fun i x => x = nI (s a + sp_su (e a) i)) 4 (nI (s a)) rfl (fun n x hx => ?_) (fun n i x hi hx ih => ?_)
  · refine br_t sp_le4 ?_
    have hd : sp_d e s a = s a + sp_su (e a) 4 := by
      rw [sp_su4]
      rfl
    rw [hx, ← hd]
    exact h
  · refine br_f (sp_nle4 hi) ⟨sp_in4 ha, gy_in hY.1 ha hi (by rw [hcl]; exact hY.2.1 a ha) ?_⟩
    have he := hY.1.2.1 a i ha hi
    have hsu : sp_su (e a) (i + 1) = sp_su (e a) i + e a i := rfl
    by_cases hz : e a i = 0
    · refine br_t (by rw [hz]; rfl) (nm_r (nI_1 i) (ih x ?_))
      rw [hx, hsu, hz, Nat.add_zero]
    · have ho : e a i = 1 := by omega
      refine br_f (by rw [ho]; decide) (nm_e (nm_r (nI_1 i) (ih _ ?_)))
      rw [hx, hsu, ho, nI_1, Nat.add_assoc]
theorem gy_add {post : SY → Prop} (hY : gy_H e s N S) {a T : Nat} (ha : a < 4) {c : Nat → Nat} (hW : ∀ j, j < 4 → W j = nI (c j))
    (h : ∀ W', (∀ j, j < 4 → W' j = nI (c j + 1 * e a j)) → post (kn, nI (T + 1), N, S, R, W', F)) :
    ∃ n, wY_topple_16 post (nI a) kn (nI T) n 0 N S R W F := by
  have hcl : (nI a).toNatClampNeg = a := sp_cl (by omega)
  refine loop_0 (fun n i (g : Nat → Int32) => wY_topple_16 post (nI a) kn (nI T) n (nI i) N S R g F) (fun i g => ∀ j, j < 4 → g j = nI (if j < i then c j + 1 * e a j else c j)) 4 W (fun j hj => ?_) (fun n g hg => ?_) (fun n i g hi hg ih => ?_)
  · rw [if_neg (Nat.not_lt_zero j)]
    exact hW j hj
  · refine br_t sp_le4 (nm_r (nI_1 T) (h g (fun j hj => ?_)))
    rw [hg j hj, if_pos hj]
  · refine br_f (sp_nle4 hi) ⟨sp_in4 ha, gy_in hY.1 ha hi (by rw [hcl]; exact hY.2.1 a ha) ?_⟩
    have he := hY.1.2.1 a i ha hi
    by_cases hz : e a i = 0
    · refine br_t (by rw [hz]; rfl) (nm_r (nI_1 i) (ih g (fun j hj => ?_)))
      rw [hg j hj]
      by_cases hj1 : j < i
      · rw [if_pos hj1, if_pos (by omega)]
      · rw [if_neg hj1]
        by_cases hj2 : j = i
        · subst hj2
          rw [if_pos (by omega), hz, Nat.mul_zero, Nat.add_zero]
        · rw [if_neg (by omega)]
    · have h1 : e a i = 1 := by omega
      have hgi : g (nI i).toNatClampNeg + 1 = nI (c i + 1 * e a i) := by
        rw [sp_cl (by omega), hg i hi, if_neg (Nat.lt_irrefl i), nI_1, h1]
      refine br_f (by rw [h1]; decide) ⟨sp_in4 hi, sp_in4 hi, nm_r (congrArg (upd g (nI i).toNatClampNeg) hgi) (nm_r (nI_1 i) (ih _ (fun j hj => ?_)))⟩
      rw [sp_up1 hi hg j hj]
      by_cases hj2 : j = i
      · subst hj2
        rw [if_pos rfl, if_pos (by omega)]
      · rw [if_neg hj2]
        by_cases hj1 : j < i
        · rw [if_pos hj1, if_pos (by omega)]
        · rw [if_neg hj1, if_neg (by omega)]
theorem gy_topple {post : SY → Prop} (hY : gy_H e s N S) {a T : Nat} (ha : a < 4) {c : Nat → Nat} (hW : ∀ j, j < 4 → W j = nI (c j)) (hc : sp_d e s a ≤ c a)
    (h : ∀ W', (∀ j, j < 4 → W' j = nI ((if j = a then c a - 1 * sp_d e s a else c j) + 1 * e a j)) → post (kn, nI (T + 1), N, S, R, W', F)) :
    wpY_topple post (kn, nI T, N, S, R, W, F) (nI a) := by
  have hcl : (nI a).toNatClampNeg = a := sp_cl (by omega)
  have hsub : W (nI a).toNatClampNeg - nI (sp_d e s a) = nI (c a - 1 * sp_d e s a) := by
    rw [hcl, hW a ha, pk_sub hc, Nat.one_mul]
  exact ⟨sp_in4 ha, gy_degreeOf hY ha ⟨sp_in4 ha, nm_r (congrArg (upd W (nI a).toNatClampNeg) hsub) (gy_add hY ha (sp_up1 ha hW) h)⟩⟩
end
section
variable {e : Nat → Nat → Nat} {s : Nat → Nat} {N S R F : Nat → Int32} {kn : Int32}
theorem gy_sweep {post : SY → Prop} {J9 : Int32 → Int32 → Int32 → Int32 → (Nat → Int32) → (Nat → Int32) → (Nat → Int32) → (Nat → Int32) → (Nat → Int32) → Prop}
    (hY : gy_H e s N S) {g : Nat → Nat} {B r : Nat} (hB : B < 2 ^ 30)
    (hJ : ∀ (x1 : Int32) (u c : Nat → Nat) (W : Nat → Int32), sp_inv e s g u c → (∀ j, j < 4 → W j = nI (c j)) →
      ((x1 = 0 ∧ ∀ a, a < 4 → c a < sp_d e s a) ∨ (x1 = 1 ∧ c 0 + c 1 + c 2 + c 3 < B)) → J9 x1 (nI (r + 1)) kn (nI (u 0 + u 1 + u 2 + u 3)) N S R W F) :
    ∀ (k i : Nat), i + k = 4 → ∀ (n : Nat), k < n → ∀ (x1 : Int32) (u c : Nat → Nat) (W : Nat → Int32), sp_inv e s g u c → (∀ j, j < 4 → W j = nI (c j)) →
      c 0 + c 1 + c 2 + c 3 ≤ B → ((x1 = 0 ∧ ∀ a, a < i → c a < sp_d e s a) ∨ (x1 = 1 ∧ c 0 + c 1 + c 2 + c 3 < B)) →
      wY_settle_24 post J9 (nI r) n x1 (nI i) kn (nI (u 0 + u 1 + u 2 + u 3)) N S R W F := by
  intro k
  induction k with
  | zero =>
    intro i hi n hn x1 u c W hI hW hc hx
    obtain ⟨m, rfl⟩ : ∃ m, n = m + 1 := ⟨n - 1, by omega⟩
    have hi4 : i = 4 := by omega
    subst hi4
    exact br_t sp_le4 (nm_r (nI_1 r) (hJ x1 u c W hI hW hx))
  | succ k ih =>
    intro i hi n hn x1 u c W hI hW hc hx
    obtain ⟨m, rfl⟩ : ∃ m, n = m + 1 := ⟨n - 1, by omega⟩
    have hi4 : i < 4 := by omega
    have hcl : (nI i).toNatClampNeg = i := sp_cl (by omega)
    have hd := sp_H_d hY.1 hi4
    have hci := sp_c_le (c := c) hi4
    have hWi : W (nI i).toNatClampNeg = nI (c i) := by rw [hcl]; exact hW i hi4
    refine br_f (sp_nle4 hi4) ⟨sp_in4 hi4, gy_degreeOf hY hi4 ?_⟩
    refine pk_lt (c i) (sp_d e s i) (fun hlt => ?_) (fun hge => ?_) hWi rfl (by omega) (by omega)
    · refine nm_r (nI_1 i) (ih (i + 1) (by omega) m (by omega) x1 u c W hI hW hc ?_)
      rcases hx with ⟨h1, h2⟩ | h1
      · refine Or.inl ⟨h1, fun a ha => ?_⟩
        by_cases hai : a = i
        · subst hai
          exact hlt
        · exact h2 a (by omega)
      · exact Or.inr h1
    · have htd : 1 * sp_d e s i ≤ c i := by omega
      refine gy_topple hY hi4 hW hge (fun W' hW' => nm_r (nI_1 i) ?_)
      have hc1 : (fun j => (if j = i then c i - 1 * sp_d e s i else c j) + 1 * e i j) i = c i - 1 * sp_d e s i := by
        show (if i = i then c i - 1 * sp_d e s i else c i) + 1 * e i i = _
        rw [if_pos rfl, hY.1.1.2.2 i hi4]
        omega
      have hc2 : ∀ b, b < 4 → b ≠ i → (fun j => (if j = i then c i - 1 * sp_d e s i else c j) + 1 * e i j) b = c b + 1 * e i b := by
        intro b hb hbi
        show (if b = i then c i - 1 * sp_d e s i else c b) + 1 * e i b = _
        rw [if_neg hbi]
      have hu1 : (fun b => if b = i then u i + 1 else u b) i = u i + 1 := if_pos rfl
      have hu2 : ∀ b, b < 4 → b ≠ i → (fun b => if b = i then u i + 1 else u b) b = u b := fun b hb hbi => if_neg hbi
      have hI' := sp_inv_step hY.1.1 hI hi4 htd hc1 hc2 hu1 hu2
      have hsum := sp_sum_step hY.1.1 hi4 htd hc1 hc2
      have hs1 := hY.1.1.1 i hi4
      have hus := sp_u_sum (u := u) (t := 1) hi4
      have hres := ih (i + 1) (by omega) m (by omega) 1 _ _ W' hI' hW' (by omega) (Or.inr ⟨rfl, by omega⟩)
      rw [← hus]
      exact hres
theorem gy_settle {post : SY → Prop} (hY : gy_H e s N S) {g : Nat → Nat} {W : Nat → Int32} {tp : Int32} (hg : g 0 + g 1 + g 2 + g 3 ≤ 1100) (hW : ∀ j, j < 4 → W j = nI (g j))
    (h : ∀ W', (∀ j, j < 4 → W' j = nI (sp_st e s g j)) → post (kn, nI (sp_tp e s g), N, S, R, W', F)) :
    wpY_settle post (kn, tp, N, S, R, W, F) := by
  have loop : ∀ (n r : Nat) (u c : Nat → Nat) (W : Nat → Int32), c 0 + c 1 + c 2 + c 3 + 2 ≤ n → r + (c 0 + c 1 + c 2 + c 3) ≤ 1100 → sp_inv e s g u c → (∀ j, j < 4 → W j = nI (c j)) →
      wY_settle_9 post n 1 (nI r) kn (nI (u 0 + u 1 + u 2 + u 3)) N S R W F := by
    intro n
    induction n with
    | zero => intro r u c W hn; omega
    | succ n ih =>
      intro r u c W hn hc hI hW
      refine br_f (nI_ge (b := 1101) (by omega) (by decide)) (br_f (by decide) ⟨5, ?_⟩)
      refine gy_sweep hY (B := c 0 + c 1 + c 2 + c 3) (by omega) ?_ 4 0 rfl 5 (by decide) 0 u c W hI hW (Nat.le_refl _) (Or.inl ⟨rfl, fun a ha => absurd ha (Nat.not_lt_zero a)⟩)
      intro x1 u' c' W' hI' hW' hx
      rcases hx with ⟨rfl, hst⟩ | ⟨rfl, hlt⟩
      · obtain ⟨m, rfl⟩ : ∃ m, n = m + 1 := ⟨n - 1, by omega⟩
        have hres := sp_is hY.1.1 ⟨hI', hst⟩ (fun _ _ => rfl)
        have hP : post (kn, nI (u' 0 + u' 1 + u' 2 + u' 3), N, S, R, W', F) := by
          rw [hres.2]
          exact h W' (fun j hj => by rw [hW' j hj, hres.1 j hj])
        exact br_c (fun _ => hP) (fun _ => br_t rfl hP)
      · exact ih (r + 1) u' c' W' (by omega) (by omega) hI' hW'
  exact ⟨_, loop _ 0 (fun _ => 0) g W (Nat.le_refl _) (by omega) (sp_inv_0 g) hW⟩
theorem gy_written {post : Int32 → Prop} {kn tp : Int32} {W : Nat → Int32} {c : Nat → Nat} (hc : ∀ a, a < 4 → W a = nI (c a)) (h : post (nI (sp_cd c))) : wpY_written post (kn, tp, N, S, R, W, F) := by
  show post ((((512 * (W 0)) + (64 * (W 1))) + (8 * (W 2))) + (W 3))
  rw [hc 0 (by decide), hc 1 (by decide), hc 2 (by decide), hc 3 (by decide)]
  have q : (((512 * nI (c 0)) + (64 * nI (c 1))) + (8 * nI (c 2))) + nI (c 3) = nI (sp_cd c) := by
    unfold sp_cd
    rw [← nI_add, ← nI_add, ← nI_add, ← pk_mul, ← pk_mul, ← pk_mul]
    rfl
  rw [q]
  exact h
end
end
section
/-! stable states, sums, multiples of the full state -/
def sp_sb (e : Nat → Nat → Nat) (s : Nat → Nat) (p : Int32) : Prop := ∃ k, k < 4096 ∧ p = nI k ∧ ∀ a, a < 4 → sp_dg k a < sp_d e s a
theorem sp_sb_neg {e : Nat → Nat → Nat} {s : Nat → Nat} {p : Int32} (h : p < 0) : ¬ sp_sb e s p := by
  rintro ⟨k, hk, rfl, _⟩
  exact nI_pos (by omega) h
theorem sp_sb_big {e : Nat → Nat → Nat} {s : Nat → Nat} {p : Int32} (h : ¬ p ≤ 4095) : ¬ sp_sb e s p := by
  rintro ⟨k, hk, rfl, _⟩
  exact h (nI_le (b := 4095) (by omega) (by decide))
theorem sp_sb_dg {e : Nat → Nat → Nat} {s : Nat → Nat} {k a : Nat} (hk : k < 4096) (ha : a < 4) (h : ¬ sp_dg k a < sp_d e s a) : ¬ sp_sb e s (nI k) := by
  rintro ⟨j, hj, hjk, hall⟩
  have hq : k = j := (nI_eq (by omega) (by omega)).mp hjk
  subst hq
  exact h (hall a ha)
section
variable {e : Nat → Nat → Nat} {s : Nat → Nat} {N S D G M : Nat → Int32} {kp tp kn go ne : Int32}
theorem gx_isStable {post : Int32 → Prop} (hX : gx_H e s N S D) {p : Int32} (h1 : sp_sb e s p → post 1) (h0 : ¬ sp_sb e s p → post 0) : wpX_isStable post (kp, tp, kn, go, ne, N, S, D, G, M) p := by
  refine br_c (fun hn => h0 (sp_sb_neg hn)) (fun hp => br_c (fun hle => ?_) (fun hn => h0 (sp_sb_big hn)))
  obtain ⟨k, hk, rfl⟩ := nI_of2 (M := 4095) (n := 4095) (by decide) hp hle
  have hk' : k < 4096 := by omega
  refine loop_0 (fun n i (_ : Unit) => wX_isStable_15 post (nI k) kp tp kn go ne N S D G M n (nI i)) (fun i _ => ∀ a, a < i → sp_dg k a < sp_d e s a) 4 () (fun a ha => absurd ha (Nat.not_lt_zero a)) (fun n _ hg => ?_) (fun n i _ hi hg ih => ?_)
  · exact br_t sp_le4 (h1 ⟨k, hk', rfl, hg⟩)
  · have hd := sp_H_d hX.1 hi
    have hdg := sp_dg_lt k i
    refine br_f (sp_nle4 hi) (gx_digit hk' hi ⟨sp_in4 hi, ?_⟩)
    refine pk_lt (sp_dg k i) (sp_d e s i) (fun hlt => nm_r (nI_1 i) (ih () (fun a ha => ?_))) (fun hge => h0 (sp_sb_dg hk' hi (by omega))) rfl (by rw [sp_cl (by omega)]; exact hX.2.2.2 i hi) (by omega) (by omega)
    by_cases hai : a = i
    · subst hai
      exact hlt
    · exact hg a (by omega)
theorem gx_added {post : Int32 → SX → Prop} (hX : gx_H e s N S D) {p q : Nat} (hp : p < 4096) (hq : q < 4096)
    (h : ∀ t G', post (nI (sp_cd (sp_st e s (fun a => sp_dg p a + sp_dg q a)))) (kp, t, kn, go, ne, N, S, D, G', M)) : wpX_added post (kp, tp, kn, go, ne, N, S, D, G, M) (nI p) (nI q) := by
  refine loop_0 (fun n i (g : Nat → Int32) => wX_added_2 post (nI p) (nI q) kp tp kn go ne n (nI i) N S D g M) (fun i g => ∀ a, a < i → g a = nI (sp_dg p a + sp_dg q a)) 4 G (fun a ha => absurd ha (Nat.not_lt_zero a)) (fun n g hg => ?_) (fun n i g hi hg ih => ?_)
  · refine br_t sp_le4 (gx_settle hX (g := fun a => sp_dg p a + sp_dg q a) ?_ hg (fun G' hG' => gx_packed hG' (h _ _)))
    have a0 := sp_dg_lt p 0
    have a1 := sp_dg_lt p 1
    have a2 := sp_dg_lt p 2
    have a3 := sp_dg_lt p 3
    have b0 := sp_dg_lt q 0
    have b1 := sp_dg_lt q 1
    have b2 := sp_dg_lt q 2
    have b3 := sp_dg_lt q 3
    show sp_dg p 0 + sp_dg q 0 + (sp_dg p 1 + sp_dg q 1) + (sp_dg p 2 + sp_dg q 2) + (sp_dg p 3 + sp_dg q 3) < 2 ^ 30
    omega
  · exact br_f (sp_nle4 hi) (gx_digit hp hi (gx_digit hq hi ⟨sp_in4 hi, nm_r (congrArg (upd g (nI i).toNatClampNeg) (nI_add _ _)) (nm_r (nI_1 i) (ih _ (sp_fill (fun a => nI (sp_dg p a + sp_dg q a)) (by omega) hg)))⟩))
theorem gx_settledMultiple {post : Int32 → SX → Prop} (hX : gx_H e s N S D) {m : Nat} (hm : m ≤ 4)
    (h : ∀ t G', post (nI (sp_cd (sp_fm e s m))) (kp, t, kn, go, ne, N, S, D, G', M)) : wpX_settledMultiple post (kp, tp, kn, go, ne, N, S, D, G, M) (nI m) := by
  refine loop_0 (fun n i (g : Nat → Int32) => wX_settledMultiple_2 post (nI m) kp tp kn go ne n (nI i) N S D g M) (fun i g => ∀ a, a < i → g a = nI (m * (sp_d e s a - 1))) 4 G (fun a ha => absurd ha (Nat.not_lt_zero a)) (fun n g hg => ?_) (fun n i g hi hg ih => ?_)
  · refine br_t sp_le4 (gx_settle hX (g := fun a => m * (sp_d e s a - 1)) ?_ hg (fun G' hG' => gx_packed hG' (h _ _)))
    have k : ∀ a, a < 4 → m * (sp_d e s a - 1) ≤ 4 * 4 := fun a ha => Nat.mul_le_mul hm (by have := sp_H_d hX.1 ha; omega)
    have k0 := k 0 (by decide)
    have k1 := k 1 (by decide)
    have k2 := k 2 (by decide)
    have k3 := k 3 (by decide)
    show m * (sp_d e s 0 - 1) + m * (sp_d e s 1 - 1) + m * (sp_d e s 2 - 1) + m * (sp_d e s 3 - 1) < 2 ^ 30
    omega
  · have hd := sp_H_d hX.1 hi
    have hv : nI m * (D (nI i).toNatClampNeg - 1) = nI (m * (sp_d e s i - 1)) := by
      rw [sp_cl (by omega), hX.2.2.2 i hi]
      show nI m * (nI (sp_d e s i) - nI 1) = _
      rw [pk_sub hd.1, pk_mul]
    exact br_f (sp_nle4 hi) ⟨sp_in4 hi, sp_in4 hi, nm_r (congrArg (upd g (nI i).toNatClampNeg) hv) (nm_r (nI_1 i) (ih _ (sp_fill (fun a => nI (m * (sp_d e s a - 1))) (by omega) hg)))⟩
end
section
variable {e : Nat → Nat → Nat} {s : Nat → Nat} {N S R W F : Nat → Int32} {kn tp : Int32}
theorem gy_isStable {post : Int32 → Prop} (hY : gy_H e s N S) {p : Int32} (h1 : sp_sb e s p → post 1) (h0 : ¬ sp_sb e s p → post 0) : wpY_isStable post (kn, tp, N, S, R, W, F) p := by
  refine br_c (fun hn => h0 (sp_sb_neg hn)) (fun hp => br_c (fun hle => ?_) (fun hn => h0 (sp_sb_big hn)))
  obtain ⟨k, hk, rfl⟩ := nI_of2 (M := 4095) (n := 4095) (by decide) hp hle
  have hk' : k < 4096 := by omega
  refine loop_0 (fun n i (_ : Unit) => wY_isStable_15 post (nI k) kn tp N S R W F n (nI i)) (fun i _ => ∀ a, a < i → sp_dg k a < sp_d e s a) 4 () (fun a ha => absurd ha (Nat.not_lt_zero a)) (fun n _ hg => ?_) (fun n i _ hi hg ih => ?_)
  · exact br_t sp_le4 (h1 ⟨k, hk', rfl, hg⟩)
  · have hd := sp_H_d hY.1 hi
    have hdg := sp_dg_lt k i
    refine br_f (sp_nle4 hi) (gy_digit hk' hi (gy_degreeOf hY hi ?_))
    refine pk_lt (sp_dg k i) (sp_d e s i) (fun hlt => nm_r (nI_1 i) (ih () (fun a ha => ?_))) (fun hge => h0 (sp_sb_dg hk' hi (by omega))) rfl rfl (by omega) (by omega)
    by_cases hai : a = i
    · subst hai
      exact hlt
    · exact hg a (by omega)
theorem gy_sum {post : Int32 → SY → Prop} (hY : gy_H e s N S) {p q : Nat} (hp : p < 4096) (hq : q < 4096)
    (h : ∀ t W', post (nI (sp_cd (sp_st e s (fun a => sp_dg p a + sp_dg q a)))) (kn, t, N, S, R, W', F)) : wpY_sum post (kn, tp, N, S, R, W, F) (nI p) (nI q) := by
  refine loop_0 (fun n i (g : Nat → Int32) => wY_sum_2 post (nI p) (nI q) kn tp n (nI i) N S R g F) (fun i g => ∀ a, a < i → g a = nI (sp_dg p a + sp_dg q a)) 4 W (fun a ha => absurd ha (Nat.not_lt_zero a)) (fun n g hg => ?_) (fun n i g hi hg ih => ?_)
  · refine br_t sp_le4 (gy_settle hY (g := fun a => sp_dg p a + sp_dg q a) ?_ hg (fun W' hW' => gy_written hW' (h _ _)))
    have a0 := sp_dg_lt p 0
    have a1 := sp_dg_lt p 1
    have a2 := sp_dg_lt p 2
    have a3 := sp_dg_lt p 3
    have b0 := sp_dg_lt q 0
    have b1 := sp_dg_lt q 1
    have b2 := sp_dg_lt q 2
    have b3 := sp_dg_lt q 3
    show sp_dg p 0 + sp_dg q 0 + (sp_dg p 1 + sp_dg q 1) + (sp_dg p 2 + sp_dg q 2) + (sp_dg p 3 + sp_dg q 3) ≤ 1100
    omega
  · exact br_f (sp_nle4 hi) (gy_digit hp hi (gy_digit hq hi ⟨sp_in4 hi, nm_r (congrArg (upd g (nI i).toNatClampNeg) (nI_add _ _)) (nm_r (nI_1 i) (ih _ (sp_fill (fun a => nI (sp_dg p a + sp_dg q a)) (by omega) hg)))⟩))
theorem gy_full {post : Int32 → SY → Prop} (hY : gy_H e s N S)
    (h : ∀ W', post (nI (sp_cd (fun a => sp_d e s a - 1))) (kn, tp, N, S, R, W', F)) : wpY_full post (kn, tp, N, S, R, W, F) := by
  refine loop_0 (fun n i (g : Nat → Int32) => wY_full_2 post kn tp n (nI i) N S R g F) (fun i g => ∀ a, a < i → g a = nI (sp_d e s a - 1)) 4 W (fun a ha => absurd ha (Nat.not_lt_zero a)) (fun n g hg => ?_) (fun n i g hi hg ih => ?_)
  · exact br_t sp_le4 (gy_written (c := fun a => sp_d e s a - 1) hg (h _))
  · have hd := sp_H_d hY.1 hi
    have hv : nI (sp_d e s i) - 1 = nI (sp_d e s i - 1) := pk_sub (b := 1) hd.1
    exact br_f (sp_nle4 hi) (gy_degreeOf hY hi ⟨sp_in4 hi, nm_r (congrArg (upd g (nI i).toNatClampNeg) hv) (nm_r (nI_1 i) (ih _ (sp_fill (fun a => nI (sp_d e s a - 1)) (by omega) hg)))⟩)
end
end
section
/-! fire: everything burns if and only if there is no forbidden set -/
def sp_ub (e : Nat → Nat → Nat) (b a : Nat) : Nat := sp_su (fun j => e a j * (1 - b / 2 ^ j % 2)) 4
def sp_bs (e : Nat → Nat → Nat) (c : Nat → Nat) (b a : Nat) : Nat := if sp_ub e b a ≤ c a then b ||| 2 ^ a else b
def sp_br (e : Nat → Nat → Nat) (c : Nat → Nat) (b : Nat) : Nat := sp_bs e c (sp_bs e c (sp_bs e c (sp_bs e c b 0) 1) 2) 3
def sp_pc (b : Nat) : Nat := b / 2 ^ 0 % 2 + b / 2 ^ 1 % 2 + b / 2 ^ 2 % 2 + b / 2 ^ 3 % 2
theorem sp_orb : ∀ b, b < 16 → ∀ a, a < 4 → (b ||| 2 ^ a) < 16 ∧ ((b ||| 2 ^ a) = b ∨ sp_pc (b ||| 2 ^ a) = sp_pc b + 1) ∧ (b / 2 ^ a % 2 = 0 → (b ||| 2 ^ a) ≠ b) := by decide +kernel
theorem sp_orj : ∀ b, b < 16 → ∀ a, a < 4 → ∀ j, j < 4 → (b ||| 2 ^ a) / 2 ^ j % 2 = if j = a then 1 else b / 2 ^ j % 2 := by decide +kernel
theorem sp_or15 : ∀ a, a < 4 → (15 ||| 2 ^ a) = 15 := by decide
theorem sp_pc4 : ∀ b, b < 16 → 4 ≤ sp_pc b → b = 15 := by decide
theorem sp_b15 : ∀ b, b < 16 → b ≠ 15 → ∃ a, a < 4 ∧ b / 2 ^ a % 2 = 0 := by decide
theorem sp_15 : ∀ a, a < 4 → 15 / 2 ^ a % 2 = 1 := by decide
theorem sp_bs_lt (e : Nat → Nat → Nat) (c : Nat → Nat) {b a : Nat} (hb : b < 16) (ha : a < 4) : sp_bs e c b a < 16 := by
  unfold sp_bs
  split
  · exact (sp_orb b hb a ha).1
  · exact hb
theorem sp_br_lt (e : Nat → Nat → Nat) (c : Nat → Nat) {b : Nat} (hb : b < 16) : sp_br e c b < 16 :=
  sp_bs_lt e c (sp_bs_lt e c (sp_bs_lt e c (sp_bs_lt e c hb (by decide)) (by decide)) (by decide)) (by decide)
theorem sp_bs_pc (e : Nat → Nat → Nat) (c : Nat → Nat) {b a : Nat} (hb : b < 16) (ha : a < 4) : sp_bs e c b a = b ∨ sp_pc (sp_bs e c b a) = sp_pc b + 1 := by
  unfold sp_bs
  split
  · exact (sp_orb b hb a ha).2.1
  · exact Or.inl rfl
/-- a forbidden set never burns -/
theorem sp_bs_F {e : Nat → Nat → Nat} {c : Nat → Nat} {F : Nat → Bool} (hF : ∀ a, a < 4 → F a = true → c a < sp_dF e F a) {b a : Nat} (hb : b < 16) (ha : a < 4)
    (h : ∀ j, j < 4 → F j = true → b / 2 ^ j % 2 = 0) : ∀ j, j < 4 → F j = true → sp_bs e c b a / 2 ^ j % 2 = 0 := by
  intro j hj hFj
  unfold sp_bs
  split
  · next hle =>
    rw [sp_orj b hb a ha j hj]
    by_cases hja : j = a
    · subst hja
      exfalso
      have h1 := hF j hj hFj
      have k : ∀ i, i < 4 → (if F i = true then e j i else 0) ≤ e j i * (1 - b / 2 ^ i % 2) := by
        intro i hi
        by_cases hFi : F i = true
        · rw [if_pos hFi, h i hi hFi]
          omega
        · rw [if_neg hFi]
          omega
      have k0 := k 0 (by decide)
      have k1 := k 1 (by decide)
      have k2 := k 2 (by decide)
      have k3 := k 3 (by decide)
      unfold sp_ub at hle
      rw [sp_su4] at hle
      unfold sp_dF at h1
      omega
    · rw [if_neg hja]
      exact h j hj hFj
  · exact h j hj hFj
/-- a round that burns nothing new leaves a forbidden set, or nothing -/
theorem sp_br_fix {e : Nat → Nat → Nat} {c : Nat → Nat} (hN : sp_N e c) {b : Nat} (hb : b < 16) (h : ∀ a, a < 4 → sp_bs e c b a = b) : b = 15 := by
  apply Classical.byContradiction
  intro hn
  obtain ⟨a0, ha0, hz0⟩ := sp_b15 b hb hn
  obtain ⟨a, ha, hFa, hle⟩ := hN (fun j => decide (b / 2 ^ j % 2 = 0)) ⟨a0, ha0, decide_eq_true hz0⟩
  have hFa' : b / 2 ^ a % 2 = 0 := of_decide_eq_true hFa
  have hu : sp_ub e b a ≤ c a := by
    refine Nat.le_trans ?_ hle
    unfold sp_ub
    rw [sp_su4]
    unfold sp_dF
    have k : ∀ i, e a i * (1 - b / 2 ^ i % 2) ≤ if (decide (b / 2 ^ i % 2 = 0)) = true then e a i else 0 := by
      intro i
      by_cases hi : b / 2 ^ i % 2 = 0
      · rw [if_pos (decide_eq_true hi), hi]
        omega
      · have h1 : b / 2 ^ i % 2 = 1 := by omega
        rw [h1]
        omega
    have k0 := k 0
    have k1 := k 1
    have k2 := k 2
    have k3 := k 3
    exact Nat.add_le_add (Nat.add_le_add (Nat.add_le_add k0 k1) k2) k3
  have h1 := h a ha
  unfold sp_bs at h1
  rw [if_pos hu] at h1
  exact (sp_orb b hb a ha).2.2 hFa' h1
theorem sp_br_step {e : Nat → Nat → Nat} {c : Nat → Nat} (hN : sp_N e c) {b r : Nat} (hb : b < 16) (h : b = 15 ∨ r ≤ sp_pc b) : sp_br e c b = 15 ∨ r + 1 ≤ sp_pc (sp_br e c b) := by
  have l0 := sp_bs_lt e c hb (a := 0) (by decide)
  have l1 := sp_bs_lt e c l0 (a := 1) (by decide)
  have l2 := sp_bs_lt e c l1 (a := 2) (by decide)
  have p0 := sp_bs_pc e c hb (a := 0) (by decide)
  have p1 := sp_bs_pc e c l0 (a := 1) (by decide)
  have p2 := sp_bs_pc e c l1 (a := 2) (by decide)
  have p3 := sp_bs_pc e c l2 (a := 3) (by decide)
  unfold sp_br
  by_cases h15 : b = 15
  · subst h15
    have k : ∀ a, a < 4 → sp_bs e c 15 a = 15 := by
      intro a ha
      unfold sp_bs
      split
      · exact sp_or15 a ha
      · rfl
    rw [k 0 (by decide), k 1 (by decide), k 2 (by decide), k 3 (by decide)]
    exact Or.inl rfl
  · have hr : r ≤ sp_pc b := by
      rcases h with h | h
      · exact absurd h h15
      · exact h
    rcases p0 with p0 | p0
    · rw [p0] at p1 p2 p3 ⊢
      rcases p1 with p1 | p1
      · rw [p1] at p2 p3 ⊢
        rcases p2 with p2 | p2
        · rw [p2] at p3 ⊢
          rcases p3 with p3 | p3
          · exact absurd (sp_br_fix hN hb (sp_four p0 p1 p2 p3)) h15
          · exact Or.inr (by omega)
        · rcases p3 with p3 | p3
          · rw [p3]
            exact Or.inr (by omega)
          · exact Or.inr (by omega)
      · rcases p2 with p2 | p2
        · rw [p2] at p3 ⊢
          rcases p3 with p3 | p3
          · rw [p3]
            exact Or.inr (by omega)
          · exact Or.inr (by omega)
        · rcases p3 with p3 | p3
          · rw [p3]
            exact Or.inr (by omega)
          · exact Or.inr (by omega)
    · have q : ∀ {x y : Nat}, (x = y ∨ sp_pc x = sp_pc y + 1) → sp_pc y ≤ sp_pc x := fun {x y} h => by
        rcases h with h | h
        · rw [h]
          exact Nat.le_refl _
        · omega
      have q1 := q p1
      have q2 := q p2
      have q3 := q p3
      exact Or.inr (by omega)
def sp_bf (e : Nat → Nat → Nat) (c : Nat → Nat) : Nat := sp_br e c (sp_br e c (sp_br e c (sp_br e c 0)))
theorem sp_bf_iff (e : Nat → Nat → Nat) (c : Nat → Nat) : sp_bf e c = 15 ↔ sp_N e c := by
  have l1 : sp_br e c 0 < 16 := sp_br_lt e c (by decide)
  have l2 := sp_br_lt e c l1
  have l3 := sp_br_lt e c l2
  have l4 := sp_br_lt e c l3
  constructor
  · intro h F hF
    apply Classical.byContradiction
    intro hn
    have hF' : ∀ a, a < 4 → F a = true → c a < sp_dF e F a := fun a ha hFa => by
      apply Classical.byContradiction
      intro h2
      exact hn ⟨a, ha, hFa, by omega⟩
    have hr : ∀ {b : Nat}, b < 16 → (∀ j, j < 4 → F j = true → b / 2 ^ j % 2 = 0) → ∀ j, j < 4 → F j = true → sp_br e c b / 2 ^ j % 2 = 0 := by
      intro b hb h0
      have m0 := sp_bs_lt e c hb (a := 0) (by decide)
      have m1 := sp_bs_lt e c m0 (a := 1) (by decide)
      have m2 := sp_bs_lt e c m1 (a := 2) (by decide)
      exact sp_bs_F hF' m2 (by decide) (sp_bs_F hF' m1 (by decide) (sp_bs_F hF' m0 (by decide) (sp_bs_F hF' hb (by decide) h0)))
    have h4 := hr l3 (hr l2 (hr l1 (hr (b := 0) (by decide) (fun j hj _ => by simp))))
    obtain ⟨a, ha, hFa⟩ := hF
    have h5 := h4 a ha hFa
    unfold sp_bf at h
    rw [h, sp_15 a ha] at h5
    cases h5
  · intro hN
    have r1 := sp_br_step hN (b := 0) (r := 0) (by decide) (Or.inr (Nat.zero_le _))
    have r2 := sp_br_step hN l1 r1
    have r3 := sp_br_step hN l2 r2
    have r4 := sp_br_step hN l3 r3
    rcases r4 with r4 | r4
    · exact r4
    · exact sp_pc4 _ l4 r4
theorem sp_bw : ∀ w, w < 16 → ∀ b, b < 16 → ∀ j, j < 4 → (((nI w &&& (nI b ^^^ (-1))) >>> (nI j &&& 31)) &&& 1) = nI (w / 2 ^ j % 2 * (1 - b / 2 ^ j % 2)) := by decide +kernel
theorem sp_bo : ∀ b, b < 16 → ∀ a, a < 4 → nI b ||| ((1 : Int32) <<< (nI a &&& 31)) = nI (b ||| 2 ^ a) := by decide +kernel
section
variable {e : Nat → Nat → Nat} {s : Nat → Nat} {N S D G M : Nat → Int32} {kp tp kn go ne : Int32}
theorem sp_ub_lt (hH : sp_H e s) {a : Nat} (ha : a < 4) (b : Nat) : ∀ i, i ≤ 4 → sp_su (fun j => e a j * (1 - b / 2 ^ j % 2)) i ≤ 1 * i := by
  intro i
  induction i with
  | zero => intro _; exact Nat.le_refl _
  | succ i ih =>
    intro hi
    have h1 := hH.2.1 a i ha (by omega)
    have h2 : e a i * (1 - b / 2 ^ i % 2) ≤ 1 * 1 := Nat.mul_le_mul h1 (by omega)
    have h3 := ih (by omega)
    show sp_su (fun j => e a j * (1 - b / 2 ^ j % 2)) i + e a i * (1 - b / 2 ^ i % 2) ≤ _
    omega
theorem gx_burn1 {post : Int32 → Prop} {J4 J12 : Int32 → Int32 → Prop} (hX : gx_H e s N S D) {k b a : Nat} {x3 : Int32} (hk : k < 4096) (hb : b < 16) (ha : a < 4)
    (h : J12 (nI (sp_bs e (sp_dg k) b a)) (nI (a + 1))) :
    ∃ n, wX_burns_37 post J4 J12 (nI k) (nI b) x3 (nI a) (N (nI a).toNatClampNeg &&& (nI b ^^^ (-1))) kp tp kn go ne N S D G M n 0 0 := by
  rw [sp_cl (by omega), hX.2.1 a ha]
  refine loop_0 (fun n i (x : Int32) => wX_burns_37 post J4 J12 (nI k) (nI b) x3 (nI a) (nI (sp_mk e a) &&& (nI b ^^^ (-1))) kp tp kn go ne N S D G M n x (nI i)) (fun i x => x = nI (sp_su (fun j => e a j * (1 - b / 2 ^ j % 2)) i)) 4 0 rfl (fun n x hx => ?_) (fun n i x hi hx ih => ?_)
  · have hu := sp_ub_lt hX.1 ha b 4 (Nat.le_refl _)
    have hdg := sp_dg_lt k a
    refine br_t sp_le4 (gx_digit hk ha (pk_lt (sp_dg k a) (sp_ub e b a) (fun hlt => nm_r (nI_1 a) ?_) (fun hge => nm_r (sp_bo b hb a ha) (nm_r (nI_1 a) ?_)) rfl hx (by omega) (by unfold sp_ub; omega)))
    · unfold sp_bs at h
      rw [if_neg (by omega)] at h
      exact h
    · unfold sp_bs at h
      rw [if_pos hge] at h
      exact h
  · have hm := sp_mk_bit hX.1 ha hi
    refine br_f (sp_nle4 hi) (nm_e (nm_r (nI_1 i) (ih _ ?_)))
    rw [hx, sp_bw _ hm.1 b hb i hi, hm.2, nI_add]
    rfl
theorem gx_round {post : Int32 → Prop} {J4 : Int32 → Int32 → Prop} (hX : gx_H e s N S D) {k b r : Nat} (hk : k < 4096) (hb : b < 16)
    (h : J4 (nI (sp_br e (sp_dg k) b)) (nI (r + 1))) : wX_burns_12 post J4 (nI k) (nI r) kp tp kn go ne N S D G M 5 (nI b) 0 := by
  have m0 := sp_bs_lt e (sp_dg k) hb (a := 0) (by decide)
  have m1 := sp_bs_lt e (sp_dg k) m0 (a := 1) (by decide)
  have m2 := sp_bs_lt e (sp_dg k) m1 (a := 2) (by decide)
  refine br_f (sp_nle4 (i := 0) (by decide)) ⟨sp_in4 (i := 0) (by decide), nm_e (gx_burn1 (a := 0) hX hk hb (by decide) ?_)⟩
  refine br_f (sp_nle4 (i := 1) (by decide)) ⟨sp_in4 (i := 1) (by decide), nm_e (gx_burn1 (a := 1) hX hk m0 (by decide) ?_)⟩
  refine br_f (sp_nle4 (i := 2) (by decide)) ⟨sp_in4 (i := 2) (by decide), nm_e (gx_burn1 (a := 2) hX hk m1 (by decide) ?_)⟩
  refine br_f (sp_nle4 (i := 3) (by decide)) ⟨sp_in4 (i := 3) (by decide), nm_e (gx_burn1 (a := 3) hX hk m2 (by decide) ?_)⟩
  exact br_t sp_le4 (nm_r (nI_1 r) h)
theorem gx_burns {post : Int32 → Prop} (hX : gx_H e s N S D) {k : Nat} (hk : k < 4096) (h1 : sp_N e (sp_dg k) → post 1) (h0 : ¬ sp_N e (sp_dg k) → post 0) :
    wpX_burns post (kp, tp, kn, go, ne, N, S, D, G, M) (nI k) := by
  have l1 : sp_br e (sp_dg k) 0 < 16 := sp_br_lt e (sp_dg k) (by decide)
  have l2 := sp_br_lt e (sp_dg k) l1
  have l3 := sp_br_lt e (sp_dg k) l2
  have l4 := sp_br_lt e (sp_dg k) l3
  refine ⟨5, ?_⟩
  refine br_f (sp_nle4 (i := 0) (by decide)) ⟨5, gx_round (r := 0) (b := 0) hX hk (by decide) ?_⟩
  refine br_f (sp_nle4 (i := 1) (by decide)) ⟨5, gx_round (r := 1) hX hk l1 ?_⟩
  refine br_f (sp_nle4 (i := 2) (by decide)) ⟨5, gx_round (r := 2) hX hk l2 ?_⟩
  refine br_f (sp_nle4 (i := 3) (by decide)) ⟨5, gx_round (r := 3) hX hk l3 ?_⟩
  refine br_t sp_le4 (pk_eq (sp_bf e (sp_dg k)) 15 (fun h => h1 ((sp_bf_iff e (sp_dg k)).mp h)) (fun h => h0 (fun z => h ((sp_bf_iff e (sp_dg k)).mpr z))) rfl rfl (by unfold sp_bf; omega) (by omega))
/-- the state with the number k, if there is one, is recurrent -/
def sp_rs (e : Nat → Nat → Nat) (s : Nat → Nat) (p : Int32) : Prop := ∃ k, k < 4096 ∧ p = nI k ∧ sp_R e s (sp_dg k)
theorem gx_recurrent {post : Int32 → Prop} (hX : gx_H e s N S D) {p : Int32} (h1 : sp_rs e s p → post 1) (h0 : ¬ sp_rs e s p → post 0) :
    wpX_recurrent post (kp, tp, kn, go, ne, N, S, D, G, M) p := by
  unfold wpX_recurrent
  refine gx_isStable hX (fun hs => ?_) (fun hs => ?_)
  · refine br_f (by decide) ?_
    obtain ⟨k, hk, rfl, hst⟩ := hs
    refine gx_burns hX hk (fun hN => ?_) (fun hN => ?_)
    · exact br_f (by decide) (h1 ⟨k, hk, rfl, hst, hN⟩)
    · refine br_t rfl (h0 ?_)
      rintro ⟨j, hj, hjk, hR⟩
      have hq : k = j := (nI_eq (by omega) (by omega)).mp hjk
      subst hq
      exact hN hR.2
  · refine br_t rfl (h0 ?_)
    rintro ⟨j, hj, hjk, hR⟩
    exact hs ⟨j, hj, hjk, hR.1⟩
end
end
section
/-! the determinant by elimination without fractions -/
theorem sp_iN (n : Nat) : nI n = Int32.ofInt (n : Int) := Int32.ofInt_eq_ofNat.symm
theorem sp_xdiv {p q : Int} (hp : p ≠ 0) (h1 : p.natAbs < 2147483648) (h2 : (p * q).natAbs < 2147483648) : Int32.ofInt (p * q) / Int32.ofInt p = Int32.ofInt q := by
  have e1 : Int32.minValue.toInt = -2147483648 := by decide
  have e2 : Int32.maxValue.toInt = 2147483647 := by decide
  rw [← Int32.ofInt_tdiv (by omega) (by omega) (by omega) (by omega), Int.mul_tdiv_cancel_left _ hp]
theorem sp_ne0 {p : Int} (hp : p ≠ 0) (h1 : p.natAbs < 2147483648) : ¬ Int32.ofInt p = 0 := by
  intro h
  have h2 : (Int32.ofInt p).toInt = 0 := by rw [h]; decide
  rw [Int32.toInt_ofInt_of_le (by omega) (by omega)] at h2
  exact hp h2
theorem sp_ix (a b : Nat) : 4 * nI a + nI b = nI (4 * a + b) := by
  rw [← nI_add, ← pk_mul]
  rfl
theorem sp_ix5 (a : Nat) : 5 * nI a = nI (4 * a + a) := by
  have h : 4 * a + a = 5 * a := by omega
  rw [h, ← pk_mul]
  rfl
theorem sp_abm {x y : Int} {A B : Nat} (hx : x.natAbs ≤ A) (hy : y.natAbs ≤ B) : (x * y).natAbs ≤ A * B := by
  rw [Int.natAbs_mul]
  exact Nat.mul_le_mul hx hy
theorem sp_abq {p q : Int} {A : Nat} (hp : p ≠ 0) (h : (p * q).natAbs ≤ A) : q.natAbs ≤ A := by
  rw [Int.natAbs_mul] at h
  have h1 : 1 ≤ p.natAbs := by omega
  exact Nat.le_trans (Nat.le_mul_of_pos_left _ h1) h
theorem sp_B2 (p00 p01 p0c p10 p11 p1c p20 p21 p2c : Int) :
    (p2c * p00 - p20 * p0c) * (p11 * p00 - p10 * p01) - (p21 * p00 - p20 * p01) * (p1c * p00 - p10 * p0c) = p00 * sp_D3 p00 p01 p0c p10 p11 p1c p20 p21 p2c := by
  simp only [sp_D3]
  grind
theorem sp_B3 (p00 p01 p02 p0c p10 p11 p12 p1c p20 p21 p22 p2c p30 p31 p32 p3c : Int) :
    sp_D3 p00 p01 p0c p10 p11 p1c p30 p31 p3c * sp_D3 p00 p01 p02 p10 p11 p12 p20 p21 p22 - sp_D3 p00 p01 p02 p10 p11 p12 p30 p31 p32 * sp_D3 p00 p01 p0c p10 p11 p1c p20 p21 p2c
    = (p11 * p00 - p10 * p01) * sp_D4 p00 p01 p02 p0c p10 p11 p12 p1c p20 p21 p22 p2c p30 p31 p32 p3c := by
  simp only [sp_D4, sp_D3]
  grind
section
variable {e : Nat → Nat → Nat} {s : Nat → Nat} {N S D G M : Nat → Int32} {kp tp kn go ne : Int32}
theorem gx_reduce {post : SX → Prop} {r k : Nat} (hr : r < 4) (hk : k < 4) (hrk : r ≠ k) {m : Nat → Nat → Int} (hM : ∀ a b, a < 4 → b < 4 → M (4 * a + b) = Int32.ofInt (m a b))
    {b : Int} {q : Nat → Int} (hb : b ≠ 0) (hb1 : b.natAbs < 2147483648) (hq : ∀ c, c < 4 → m r c * m k k - m r k * m k c = b * q c) (hbq : ∀ c, c < 4 → (b * q c).natAbs < 2147483648)
    (h : ∀ M', (∀ a c, a < 4 → c < 4 → M' (4 * a + c) = Int32.ofInt (if a = r then q c else m a c)) → post (kp, tp, kn, go, ne, N, S, D, G, M')) :
    wpX_reduce post (kp, tp, kn, go, ne, N, S, D, G, M) (nI r) (nI k) (Int32.ofInt b) := by
  have hcl : ∀ a c, a < 4 → c < 4 → (4 * nI a + nI c).toNatClampNeg = 4 * a + c := fun a c ha hc => by
    rw [sp_ix]
    exact sp_cl (by omega)
  have hin : ∀ a c, a < 4 → c < 4 → vp_in (4 * nI a + nI c) 16 := fun a c ha hc => by
    rw [sp_ix]
    exact vp_in_nI (by omega) (by decide)
  have hx4 : M (5 * nI k).toNatClampNeg = Int32.ofInt (m k k) := by
    rw [sp_ix5, sp_cl (by omega)]
    exact hM k k hk hk
  have hx5 : M (4 * nI r + nI k).toNatClampNeg = Int32.ofInt (m r k) := by
    rw [hcl r k hr hk]
    exact hM r k hr hk
  refine ⟨by rw [sp_ix5]; exact vp_in_nI (by omega) (by decide), nm_r hx4 ⟨hin r k hr hk, nm_r hx5 ?_⟩⟩
  refine loop_0 (fun n i (g : Nat → Int32) => wX_reduce_25 post (nI r) (nI k) (Int32.ofInt b) (Int32.ofInt (m k k)) (Int32.ofInt (m r k)) kp tp kn go ne n (nI i) N S D G g) (fun i g => ∀ a c, a < 4 → c < 4 → g (4 * a + c) = Int32.ofInt (if a = r ∧ c < i then q c else m a c)) 4 M (fun a c ha hc => ?_) (fun n g hg => ?_) (fun n i g hi hg ih => ?_)
  · rw [if_neg (fun z => Nat.not_lt_zero c z.2)]
    exact hM a c ha hc
  · refine br_t sp_le4 (h g (fun a c ha hc => ?_))
    rw [hg a c ha hc]
    by_cases har : a = r
    · rw [if_pos ⟨har, hc⟩, if_pos har]
    · rw [if_neg (fun z => har z.1), if_neg har]
  · have h1 : g (4 * nI r + nI i).toNatClampNeg = Int32.ofInt (m r i) := by
      rw [hcl r i hr hi, hg r i hr hi, if_neg (fun z => Nat.lt_irrefl i z.2)]
    have h2 : g (4 * nI k + nI i).toNatClampNeg = Int32.ofInt (m k i) := by
      rw [hcl k i hk hi, hg k i hk hi, if_neg (fun z => hrk z.1.symm)]
    have hv : (g (4 * nI r + nI i).toNatClampNeg * Int32.ofInt (m k k) - Int32.ofInt (m r k) * g (4 * nI k + nI i).toNatClampNeg) / Int32.ofInt b = Int32.ofInt (q i) := by
      rw [h1, h2, ← Int32.ofInt_mul, ← Int32.ofInt_mul, ← Int32.ofInt_sub, hq i hi]
      exact sp_xdiv hb hb1 (hbq i hi)
    refine br_f (sp_nle4 hi) ⟨hin r i hr hi, hin k i hk hi, sp_ne0 hb hb1, hin r i hr hi, nm_r (congrArg (upd g (4 * nI r + nI i).toNatClampNeg) hv) (nm_r (nI_1 i) (ih _ (fun a c ha hc => ?_)))⟩
    rw [hcl r i hr hi]
    by_cases hac : 4 * a + c = 4 * r + i
    · have har : a = r := by omega
      have hci : c = i := by omega
      rw [hac, pk_us, if_pos ⟨har, by omega⟩, hci]
    · rw [pk_un hac, hg a c ha hc]
      by_cases hz : a = r ∧ c < i
      · rw [if_pos hz, if_pos ⟨hz.1, by omega⟩]
      · rw [if_neg hz, if_neg (fun z => hz ⟨z.1, by omega⟩)]
end
end
section
/-! the elimination's walk -/
section
variable {e : Nat → Nat → Nat} {s : Nat → Nat} {N S D G M : Nat → Int32} {kp tp kn go ne : Int32}
theorem gx_elim {post : Int32 → SX → Prop} {m : Nat → Nat → Int} (hM : ∀ a b, a < 4 → b < 4 → M (4 * a + b) = Int32.ofInt (m a b)) (hm : ∀ a b, a < 4 → b < 4 → (m a b).natAbs ≤ 5)
    (h0 : m 0 0 ≠ 0) (h1 : m 1 1 * m 0 0 - m 1 0 * m 0 1 ≠ 0)
    (h : ∀ M', post (Int32.ofInt (sp_D4 (m 0 0) (m 0 1) (m 0 2) (m 0 3) (m 1 0) (m 1 1) (m 1 2) (m 1 3) (m 2 0) (m 2 1) (m 2 2) (m 2 3) (m 3 0) (m 3 1) (m 3 2) (m 3 3))) (kp, tp, kn, go, ne, N, S, D, G, M')) :
    ∃ n, wX_determinant_65 post n 1 0 kp tp kn go ne N S D G M := by
  have hR : ∀ r c, r < 4 → c < 4 → (m r c * m 0 0 - m r 0 * m 0 c).natAbs ≤ 50 := fun r c hr hc => by
    have q1 := sp_abm (hm r c hr hc) (hm 0 0 (by decide) (by decide))
    have q2 := sp_abm (hm r 0 hr (by decide)) (hm 0 c (by decide) hc)
    omega
  have hD : ∀ r c, r < 4 → c < 4 → (m 0 0 * sp_D3 (m 0 0) (m 0 1) (m 0 c) (m 1 0) (m 1 1) (m 1 c) (m r 0) (m r 1) (m r c)).natAbs ≤ 5000 := fun r c hr hc => by
    rw [← sp_B2]
    have q1 := sp_abm (hR r c hr hc) (hR 1 1 (by decide) (by decide))
    have q2 := sp_abm (hR r 1 hr (by decide)) (hR 1 c (by decide) hc)
    omega
  have hD' : ∀ r c, r < 4 → c < 4 → (sp_D3 (m 0 0) (m 0 1) (m 0 c) (m 1 0) (m 1 1) (m 1 c) (m r 0) (m r 1) (m r c)).natAbs ≤ 5000 := fun r c hr hc => sp_abq h0 (hD r c hr hc)
  have hin : ∀ k, k < 4 → vp_in (5 * nI k) 16 := fun k hk => by
    rw [sp_ix5]
    exact vp_in_nI (by omega) (by decide)
  have hcl : ∀ k, k < 4 → (5 * nI k).toNatClampNeg = 4 * k + k := fun k hk => by
    rw [sp_ix5]
    exact sp_cl (by omega)
  have h00 := hm 0 0 (by decide) (by decide)
  have hR11 := hR 1 1 (by decide) (by decide)
  refine ⟨5, br_f (sp_nle4 (i := 0) (by decide)) (nm_r (e' := nI 1) rfl ⟨4, br_f (sp_nle4 (i := 1) (by decide)) ?_⟩)⟩
  refine gx_reduce (r := 1) (k := 0) (b := 1) (q := fun c => m 1 c * m 0 0 - m 1 0 * m 0 c) (by decide) (by decide) (by decide) hM (by decide) (by decide) (fun c _ => (Int.one_mul _).symm) (fun c hc => by
    have := hR 1 c (by decide) hc
    rw [Int.one_mul]
    omega) (fun M1 hM1 => nm_r (e' := nI 2) rfl (br_f (sp_nle4 (i := 2) (by decide)) ?_))
  refine gx_reduce (r := 2) (k := 0) (b := 1) (q := fun c => m 2 c * m 0 0 - m 2 0 * m 0 c) (by decide) (by decide) (by decide) hM1 (by decide) (by decide) (fun c _ => (Int.one_mul _).symm) (fun c hc => by
    have := hR 2 c (by decide) hc
    rw [Int.one_mul]
    omega) (fun M2 hM2 => nm_r (e' := nI 3) rfl (br_f (sp_nle4 (i := 3) (by decide)) ?_))
  refine gx_reduce (r := 3) (k := 0) (b := 1) (q := fun c => m 3 c * m 0 0 - m 3 0 * m 0 c) (by decide) (by decide) (by decide) hM2 (by decide) (by decide) (fun c _ => (Int.one_mul _).symm) (fun c hc => by
    have := hR 3 c (by decide) hc
    rw [Int.one_mul]
    omega) (fun M3 hM3 => nm_r (e' := nI 4) rfl ?_)
  refine br_t sp_le4 ⟨hin 0 (by decide), nm_r (e' := Int32.ofInt (m 0 0)) ((congrArg M3 (hcl 0 (by decide))).trans (hM3 0 0 (by decide) (by decide))) (nm_r (e' := nI 1) rfl ?_)⟩
  refine br_f (sp_nle4 (i := 1) (by decide)) (nm_r (e' := nI 2) rfl ⟨3, br_f (sp_nle4 (i := 2) (by decide)) ?_⟩)
  refine gx_reduce (r := 2) (k := 1) (b := m 0 0) (q := fun c => sp_D3 (m 0 0) (m 0 1) (m 0 c) (m 1 0) (m 1 1) (m 1 c) (m 2 0) (m 2 1) (m 2 c)) (by decide) (by decide) (by decide) hM3 h0 (by omega)
    (fun c _ => sp_B2 (m 0 0) (m 0 1) (m 0 c) (m 1 0) (m 1 1) (m 1 c) (m 2 0) (m 2 1) (m 2 c)) (fun c hc => by
    have := hD 2 c (by decide) hc
    exact Nat.lt_of_le_of_lt this (by decide)) (fun M4 hM4 => nm_r (e' := nI 3) rfl (br_f (sp_nle4 (i := 3) (by decide)) ?_))
  refine gx_reduce (r := 3) (k := 1) (b := m 0 0) (q := fun c => sp_D3 (m 0 0) (m 0 1) (m 0 c) (m 1 0) (m 1 1) (m 1 c) (m 3 0) (m 3 1) (m 3 c)) (by decide) (by decide) (by decide) hM4 h0 (by omega)
    (fun c _ => sp_B2 (m 0 0) (m 0 1) (m 0 c) (m 1 0) (m 1 1) (m 1 c) (m 3 0) (m 3 1) (m 3 c)) (fun c hc => by
    have := hD 3 c (by decide) hc
    exact Nat.lt_of_le_of_lt this (by decide)) (fun M5 hM5 => nm_r (e' := nI 4) rfl ?_)
  refine br_t sp_le4 ⟨hin 1 (by decide), nm_r (e' := Int32.ofInt (m 1 1 * m 0 0 - m 1 0 * m 0 1)) (by rw [hcl 1 (by decide)]; exact hM5 1 1 (by decide) (by decide)) (nm_r (e' := nI 2) rfl ?_)⟩
  refine br_f (sp_nle4 (i := 2) (by decide)) (nm_r (e' := nI 3) rfl ⟨2, br_f (sp_nle4 (i := 3) (by decide)) ?_⟩)
  refine gx_reduce (r := 3) (k := 2) (b := m 1 1 * m 0 0 - m 1 0 * m 0 1) (q := fun c => sp_D4 (m 0 0) (m 0 1) (m 0 2) (m 0 c) (m 1 0) (m 1 1) (m 1 2) (m 1 c) (m 2 0) (m 2 1) (m 2 2) (m 2 c) (m 3 0) (m 3 1) (m 3 2) (m 3 c)) (by decide) (by decide) (by decide) hM5 h1 (by omega)
    (fun c _ => sp_B3 (m 0 0) (m 0 1) (m 0 2) (m 0 c) (m 1 0) (m 1 1) (m 1 2) (m 1 c) (m 2 0) (m 2 1) (m 2 2) (m 2 c) (m 3 0) (m 3 1) (m 3 2) (m 3 c)) (fun c hc => by
    show ((m 1 1 * m 0 0 - m 1 0 * m 0 1) * sp_D4 (m 0 0) (m 0 1) (m 0 2) (m 0 c) (m 1 0) (m 1 1) (m 1 2) (m 1 c) (m 2 0) (m 2 1) (m 2 2) (m 2 c) (m 3 0) (m 3 1) (m 3 2) (m 3 c)).natAbs < _
    rw [← sp_B3]
    have q1 := sp_abm (hD' 3 c (by decide) hc) (hD' 2 2 (by decide) (by decide))
    have q2 := sp_abm (hD' 3 2 (by decide) (by decide)) (hD' 2 c (by decide) hc)
    omega) (fun M6 hM6 => nm_r (e' := nI 4) rfl ?_)
  refine br_t sp_le4 ⟨hin 2 (by decide), nm_e (nm_r (e' := nI 3) rfl ?_)⟩
  refine br_f (sp_nle4 (i := 3) (by decide)) (nm_r (e' := nI 4) rfl ⟨1, ?_⟩)
  refine br_t sp_le4 ⟨hin 3 (by decide), nm_r (e' := Int32.ofInt (sp_D4 (m 0 0) (m 0 1) (m 0 2) (m 0 3) (m 1 0) (m 1 1) (m 1 2) (m 1 3) (m 2 0) (m 2 1) (m 2 2) (m 2 3) (m 3 0) (m 3 1) (m 3 2) (m 3 3))) (by rw [hcl 3 (by decide)]; exact hM6 3 3 (by decide) (by decide)) (nm_r (e' := nI 4) rfl ?_)⟩
  exact br_t sp_le4 (h M6)
def sp_m0 (e : Nat → Nat → Nat) (s : Nat → Nat) (a b : Nat) : Int := if a = b then (sp_d e s a : Int) else -(e a b : Int)
theorem gx_determinant {post : Int32 → SX → Prop} (hX : gx_H e s N S D) {d : Nat} (hd : sp_det e s = (d : Int)) (h : ∀ M', post (nI d) (kp, tp, kn, go, ne, N, S, D, G, M')) :
    wpX_determinant post (kp, tp, kn, go, ne, N, S, D, G, M) := by
  have hH := hX.1
  have hix : ∀ a c, a < 4 → c < 4 → (4 * nI a + nI c).toNatClampNeg = 4 * a + c := fun a c ha hc => by
    rw [sp_ix]
    exact sp_cl (by omega)
  have hin : ∀ a c, a < 4 → c < 4 → vp_in (4 * nI a + nI c) 16 := fun a c ha hc => by
    rw [sp_ix]
    exact vp_in_nI (by omega) (by decide)
  refine loop_0 (fun n a (g : Nat → Int32) => wX_determinant_2 post kp tp kn go ne n (nI a) N S D G g) (fun a g => ∀ i j, i < a → j < 4 → g (4 * i + j) = Int32.ofInt (sp_m0 e s i j)) 4 M (fun i j hi _ => absurd hi (Nat.not_lt_zero i)) (fun n g hg => ?_) (fun n a g ha hg ih => ?_)
  · refine br_t sp_le4 (gx_elim hg ?_ ?_ ?_ ?_)
    · intro a b ha hb
      have h1 := sp_H_d hH ha
      have h2 := hH.2.1 a b ha hb
      unfold sp_m0
      split <;> omega
    · have h1 := sp_H_d hH (a := 0) (by decide)
      show (sp_d e s 0 : Int) ≠ 0
      omega
    · show (sp_d e s 1 : Int) * (sp_d e s 0 : Int) - -(e 1 0 : Int) * -(e 0 1 : Int) ≠ 0
      have s0 := hH.1.1 0 (by decide)
      have s1 := hH.1.1 1 (by decide)
      have e01 := hH.2.1 0 1 (by decide) (by decide)
      have e10 := hH.1.2.1 1 0 (by decide) (by decide)
      have d0 : e 0 1 + 1 ≤ sp_d e s 0 := by unfold sp_d; omega
      have d1 : e 0 1 + 1 ≤ sp_d e s 1 := by unfold sp_d; omega
      have k := Nat.mul_le_mul d1 d0
      rw [e10]
      have hz : e 0 1 = 0 ∨ e 0 1 = 1 := by omega
      have k' : ((sp_d e s 1 * sp_d e s 0 : Nat) : Int) = (sp_d e s 1 : Int) * (sp_d e s 0 : Int) := Int.natCast_mul _ _
      rw [← k']
      rcases hz with hz | hz <;> rw [hz] at k ⊢ <;> omega
    · intro M'
      have q : sp_D4 (sp_m0 e s 0 0) (sp_m0 e s 0 1) (sp_m0 e s 0 2) (sp_m0 e s 0 3) (sp_m0 e s 1 0) (sp_m0 e s 1 1) (sp_m0 e s 1 2) (sp_m0 e s 1 3) (sp_m0 e s 2 0) (sp_m0 e s 2 1) (sp_m0 e s 2 2) (sp_m0 e s 2 3) (sp_m0 e s 3 0) (sp_m0 e s 3 1) (sp_m0 e s 3 2) (sp_m0 e s 3 3) = sp_det e s := rfl
      rw [q, hd, ← sp_iN]
      exact h M'
  · refine br_f (sp_nle4 ha) ?_
    refine loop_0 (fun n' b (g' : Nat → Int32) => wX_determinant_9 post (wX_determinant_2 post kp tp kn go ne n) (nI a) kp tp kn go ne n' (nI b) N S D G g') (fun b g' => (∀ i j, i < a → j < 4 → g' (4 * i + j) = Int32.ofInt (sp_m0 e s i j)) ∧ ∀ j, j < b → g' (4 * a + j) = Int32.ofInt (sp_m0 e s a j)) 4 g ⟨hg, fun j hj => absurd hj (Nat.not_lt_zero j)⟩ (fun n' g' hg' => ?_) (fun n' b g' hb hg' ih' => ?_)
    · refine br_t sp_le4 (nm_r (nI_1 a) (ih g' (fun i j hi hj => ?_)))
      by_cases hia : i = a
      · subst hia
        exact hg'.2 j hj
      · exact hg'.1 i j (by omega) hj
    · have key : ∀ x : Int32, x = Int32.ofInt (sp_m0 e s a b) → (∀ i j, i < a → j < 4 → upd g' (4 * nI a + nI b).toNatClampNeg x (4 * i + j) = Int32.ofInt (sp_m0 e s i j)) ∧ ∀ j, j < b + 1 → upd g' (4 * nI a + nI b).toNatClampNeg x (4 * a + j) = Int32.ofInt (sp_m0 e s a j) := by
        intro x hx
        rw [hix a b ha hb]
        refine ⟨fun i j hi hj => ?_, fun j hj => ?_⟩
        · rw [pk_un (by omega)]
          exact hg'.1 i j hi hj
        · by_cases hjb : j = b
          · subst hjb
            rw [pk_us]
            exact hx
          · rw [pk_un (by omega)]
            exact hg'.2 j (by omega)
      refine br_f (sp_nle4 hb) (pk_eq a b (fun hab => ?_) (fun hab => ?_) rfl rfl (by omega) (by omega))
      · refine ⟨sp_in4 ha, hin a b ha hb, nm_e (nm_r (nI_1 b) (ih' _ (key _ ?_)))⟩
        unfold sp_m0
        rw [if_pos hab, sp_cl (by omega), hX.2.2.2 a ha, sp_iN]
      · refine ⟨sp_in4 ha, hin a b ha hb, nm_e (nm_r (nI_1 b) (ih' _ (key _ ?_)))⟩
        unfold sp_m0
        rw [if_neg hab, sp_cl (by omega), hX.2.1 a ha, sp_bit hH ha hb, sp_iN, Int32.ofInt_neg]
end
end
section
/-! the component's group: learn, opposite, multiples, the order of a state -/
theorem sp_st_8 {e : Nat → Nat → Nat} {s : Nat → Nat} (hH : sp_H e s) (g : Nat → Nat) : ∀ a, a < 4 → sp_st e s g a < 8 := fun a ha => by
  have h1 := sp_st_lt hH.1 g a ha
  have h2 := sp_H_d hH ha
  omega
theorem sp_st_cd {e : Nat → Nat → Nat} {s : Nat → Nat} (hH : sp_H e s) (g : Nat → Nat) : sp_cd (sp_st e s g) < 4096 := sp_cd_lt (sp_st_8 hH g)
theorem sp_st_dg {e : Nat → Nat → Nat} {s : Nat → Nat} (hH : sp_H e s) (g : Nat → Nat) : ∀ a, a < 4 → sp_dg (sp_cd (sp_st e s g)) a = sp_st e s g a := sp_dg_cd (sp_st_8 hH g)
noncomputable def sp_tm (e : Nat → Nat → Nat) (s : Nat → Nat) (k m : Nat) : Nat :=
  sp_cd (sp_st e s (fun a => sp_dg (sp_cd (sp_st e s (fun b => m * sp_dg k b))) a + sp_dg (sp_cd (sp_E e s)) a))
theorem sp_tm_iff {e : Nat → Nat → Nat} {s : Nat → Nat} (hH : sp_H e s) (k m : Nat) : sp_tm e s k m = sp_cd (sp_E e s) ↔ sp_Z e s (sp_dg k) m := by
  have hG := hH.1
  unfold sp_tm
  have hE8 : ∀ a, a < 4 → sp_E e s a < 8 := sp_st_8 hH _
  rw [sp_cd_inj (sp_st_8 hH _) hE8]
  have hc : ∀ a, a < 4 → sp_st e s (fun a => sp_dg (sp_cd (sp_st e s (fun b => m * sp_dg k b))) a + sp_dg (sp_cd (sp_E e s)) a) a
      = sp_st e s (fun a => sp_st e s (fun b => m * sp_dg k b) a + sp_E e s a) a := sp_st_congr hG (fun a ha => by
    show sp_dg (sp_cd (sp_st e s (fun b => m * sp_dg k b))) a + sp_dg (sp_cd (sp_E e s)) a = _
    rw [sp_st_dg hH _ a ha, sp_dg_cd hE8 a ha])
  have hR : sp_R e s (sp_st e s (fun a => sp_st e s (fun b => m * sp_dg k b) a + sp_E e s a)) := sp_R_st hG (sp_E_R hG).2 (fun a _ => Nat.le_add_left _ _)
  have hq : sp_eq e s (fun a => (sp_st e s (fun a => sp_st e s (fun b => m * sp_dg k b) a + sp_E e s a) a : Int)) (fun a => (m : Int) * (sp_dg k a : Int)) := by
    refine sp_eq_tr (sp_sum_eq hG _ _) ?_
    refine sp_eq_tr (sp_eq_add (sp_eq_sym (sp_st_eq hG (fun b => m * sp_dg k b))) (sp_E_0 hG)) (sp_eq_of (fun a _ => ?_))
    show ((m * sp_dg k a : Nat) : Int) + 0 = _
    rw [Int.natCast_mul, Int.add_zero]
  constructor
  · intro h
    refine sp_eq_tr (sp_eq_sym hq) (sp_eq_tr (sp_eq_of (fun a ha => ?_)) (sp_E_0 hG))
    show ((sp_st e s (fun a => sp_st e s (fun b => m * sp_dg k b) a + sp_E e s a) a : Nat) : Int) = (sp_E e s a : Int)
    rw [← hc a ha, h a ha]
  · intro h a ha
    rw [hc a ha]
    exact sp_U hG hR (sp_E_R hG) (sp_eq_tr hq (sp_eq_tr h (sp_eq_sym (sp_E_0 hG)))) a ha
section
variable {e : Nat → Nat → Nat} {s : Nat → Nat} {N S D G M : Nat → Int32} {kp tp kn go ne : Int32}
theorem gx_learn {post : SX → Prop} (hX : gx_H e s N S D) {n : Nat} (hn : sp_det e s = (n : Int)) (hk : kn = 0 ∨ (kn = 1 ∧ go = nI n ∧ ne = nI (sp_cd (sp_E e s))))
    (h : ∀ t G' M', post (kp, t, 1, nI n, nI (sp_cd (sp_E e s)), N, S, D, G', M')) : wpX_learn post (kp, tp, kn, go, ne, N, S, D, G, M) := by
  have hH := hX.1
  rcases hk with rfl | ⟨rfl, rfl, rfl⟩
  · refine br_t rfl (gx_determinant hX hn (fun M' => ?_))
    refine gx_settledMultiple (m := 2) hX (by decide) (fun t G' => ?_)
    have hf8 : ∀ a, a < 4 → sp_fm e s 2 a < 8 := sp_st_8 hH _
    have hf : sp_cd (sp_fm e s 2) < 4096 := sp_cd_lt hf8
    refine loop_0 (fun m i (g : Nat → Int32) => wX_learn_29 post (nI (sp_cd (sp_fm e s 2))) kp t 1 (nI n) ne m (nI i) N S D g M') (fun i g => ∀ a, a < i → g a = nI (2 * (sp_d e s a - 1) - sp_fm e s 2 a)) 4 G' (fun a ha => absurd ha (Nat.not_lt_zero a)) (fun m g hg => ?_) (fun m i g hi hg ih => ?_)
    · refine br_t sp_le4 (gx_settle hX (g := fun a => 2 * (sp_d e s a - 1) - sp_fm e s 2 a) ?_ hg (fun G'' hG'' => gx_packed hG'' (h _ _ _)))
      have d0 := sp_H_d hH (a := 0) (by decide)
      have d1 := sp_H_d hH (a := 1) (by decide)
      have d2 := sp_H_d hH (a := 2) (by decide)
      have d3 := sp_H_d hH (a := 3) (by decide)
      show 2 * (sp_d e s 0 - 1) - sp_fm e s 2 0 + (2 * (sp_d e s 1 - 1) - sp_fm e s 2 1) + (2 * (sp_d e s 2 - 1) - sp_fm e s 2 2) + (2 * (sp_d e s 3 - 1) - sp_fm e s 2 3) < 2 ^ 30
      omega
    · have hd := sp_H_d hH hi
      have hle := sp_fm_lt hH.1 2 hi
      have hv : 2 * (D (nI i).toNatClampNeg - 1) - nI (sp_dg (sp_cd (sp_fm e s 2)) i) = nI (2 * (sp_d e s i - 1) - sp_fm e s 2 i) := by
        rw [sp_cl (by omega), hX.2.2.2 i hi, sp_dg_cd hf8 i hi]
        show nI 2 * (nI (sp_d e s i) - nI 1) - _ = _
        rw [pk_sub hd.1, pk_mul, pk_sub (by omega)]
      exact br_f (sp_nle4 hi) (gx_digit hf hi ⟨sp_in4 hi, sp_in4 hi, nm_r (congrArg (upd g (nI i).toNatClampNeg) hv) (nm_r (nI_1 i) (ih _ (sp_fill (fun a => nI (2 * (sp_d e s a - 1) - sp_fm e s 2 a)) (by omega) hg)))⟩)
  · exact br_f (by decide) (h _ _ _)
theorem gx_timesState {post : Int32 → SX → Prop} (hX : gx_H e s N S D) {k m : Nat} (hk : k < 4096) (hm : m ≤ 625)
    (h : ∀ t G', post (nI (sp_tm e s k m)) (kp, t, kn, go, nI (sp_cd (sp_E e s)), N, S, D, G', M)) :
    wpX_timesState post (kp, tp, kn, go, nI (sp_cd (sp_E e s)), N, S, D, G, M) (nI k) (nI m) := by
  have hH := hX.1
  have hE : sp_cd (sp_E e s) < 4096 := sp_st_cd hH _
  refine loop_0 (fun n i (g : Nat → Int32) => wX_timesState_2 post (nI k) (nI m) kp tp kn go (nI (sp_cd (sp_E e s))) n (nI i) N S D g M) (fun i g => ∀ a, a < i → g a = nI (m * sp_dg k a)) 4 G (fun a ha => absurd ha (Nat.not_lt_zero a)) (fun n g hg => ?_) (fun n i g hi hg ih => ?_)
  · refine br_t sp_le4 (gx_settle hX (g := fun a => m * sp_dg k a) ?_ hg (fun G' hG' => gx_packed hG' (gx_added hX (sp_st_cd hH _) hE (fun t G'' => h t G''))))
    have q : ∀ a, m * sp_dg k a ≤ 625 * 8 := fun a => Nat.mul_le_mul hm (Nat.le_of_lt (sp_dg_lt k a))
    have q0 := q 0
    have q1 := q 1
    have q2 := q 2
    have q3 := q 3
    show m * sp_dg k 0 + m * sp_dg k 1 + m * sp_dg k 2 + m * sp_dg k 3 < 2 ^ 30
    omega
  · exact br_f (sp_nle4 hi) (gx_digit hk hi ⟨sp_in4 hi, nm_r (congrArg (upd g (nI i).toNatClampNeg) (pk_mul _ _)) (nm_r (nI_1 i) (ih _ (sp_fill (fun a => nI (m * sp_dg k a)) (by omega) hg)))⟩)
theorem gx_opp {post : Int32 → SX → Prop} (hX : gx_H e s N S D) {k : Nat} (hk : k < 4096) (hR : sp_R e s (sp_dg k))
    (h : ∀ t G', post (nI (sp_cd (sp_opp e s (sp_dg k)))) (kp, t, kn, go, nI (sp_cd (sp_E e s)), N, S, D, G', M)) :
    ∃ n, wX_opposite_22 post (nI k) (nI (sp_cd (sp_fm e s 4))) kp tp kn go (nI (sp_cd (sp_E e s))) n 0 N S D G M := by
  have hH := hX.1
  have hE : sp_cd (sp_E e s) < 4096 := sp_st_cd hH _
  have hf : sp_cd (sp_fm e s 4) < 4096 := sp_st_cd hH _
  refine loop_0 (fun n i (g : Nat → Int32) => wX_opposite_22 post (nI k) (nI (sp_cd (sp_fm e s 4))) kp tp kn go (nI (sp_cd (sp_E e s))) n (nI i) N S D g M) (fun i g => ∀ a, a < i → g a = nI (4 * (sp_d e s a - 1) - sp_fm e s 4 a - sp_dg k a + sp_E e s a)) 4 G (fun a ha => absurd ha (Nat.not_lt_zero a)) (fun n g hg => ?_) (fun n i g hi hg ih => ?_)
  · refine br_t sp_le4 (gx_settle hX (g := fun a => 4 * (sp_d e s a - 1) - sp_fm e s 4 a - sp_dg k a + sp_E e s a) ?_ hg (fun G' hG' => gx_packed hG' (h _ _)))
    have d0 := sp_H_d hH (a := 0) (by decide)
    have d1 := sp_H_d hH (a := 1) (by decide)
    have d2 := sp_H_d hH (a := 2) (by decide)
    have d3 := sp_H_d hH (a := 3) (by decide)
    have e0 : sp_E e s 0 < 8 := sp_st_8 hH _ 0 (by decide)
    have e1 : sp_E e s 1 < 8 := sp_st_8 hH _ 1 (by decide)
    have e2 : sp_E e s 2 < 8 := sp_st_8 hH _ 2 (by decide)
    have e3 : sp_E e s 3 < 8 := sp_st_8 hH _ 3 (by decide)
    show 4 * (sp_d e s 0 - 1) - sp_fm e s 4 0 - sp_dg k 0 + sp_E e s 0 + (4 * (sp_d e s 1 - 1) - sp_fm e s 4 1 - sp_dg k 1 + sp_E e s 1) + (4 * (sp_d e s 2 - 1) - sp_fm e s 4 2 - sp_dg k 2 + sp_E e s 2) + (4 * (sp_d e s 3 - 1) - sp_fm e s 4 3 - sp_dg k 3 + sp_E e s 3) < 2 ^ 30
    omega
  · have hd := sp_H_d hH hi
    have hle := (sp_opp_ge hH.1 hR hi).2
    have h4 : D (nI i).toNatClampNeg - 1 = nI (sp_d e s i - 1) := by
      rw [sp_cl (by omega), hX.2.2.2 i hi]
      exact pk_sub (b := 1) hd.1
    have hv : 4 * nI (sp_d e s i - 1) - nI (sp_dg (sp_cd (sp_fm e s 4)) i) - nI (sp_dg k i) + nI (sp_dg (sp_cd (sp_E e s)) i) = nI (4 * (sp_d e s i - 1) - sp_fm e s 4 i - sp_dg k i + sp_E e s i) := by
      have f1 : sp_dg (sp_cd (sp_fm e s 4)) i = sp_fm e s 4 i := sp_st_dg hH _ i hi
      have f2 : sp_dg (sp_cd (sp_E e s)) i = sp_E e s i := sp_st_dg hH _ i hi
      rw [f1, f2]
      show nI 4 * nI (sp_d e s i - 1) - _ - _ + _ = _
      rw [pk_mul, pk_sub (by omega), pk_sub (by omega), nI_add]
    exact br_f (sp_nle4 hi) ⟨sp_in4 hi, nm_r h4 (gx_digit hk hi (gx_digit hf hi (gx_digit hE hi ⟨sp_in4 hi, nm_r (congrArg (upd g (nI i).toNatClampNeg) hv) (nm_r (nI_1 i) (ih _ (sp_fill (fun a => nI (4 * (sp_d e s a - 1) - sp_fm e s 4 a - sp_dg k a + sp_E e s a)) (by omega) hg)))⟩)))⟩
end
end
section
/-! the component's order of a state: trial division -/
theorem sp_oi_le {d res rest p : Nat} (h : sp_oi d res rest p) : rest ≤ res := by
  obtain ⟨h1, h2, h3, t, h4, h5, h6⟩ := h
  have ht : 0 < t := by
    rcases Nat.eq_zero_or_pos t with hz | hz
    · subst hz
      rw [Nat.mul_zero] at h4
      omega
    · exact hz
  rw [h4]
  exact Nat.le_mul_of_pos_right _ ht
section
variable {e : Nat → Nat → Nat} {s : Nat → Nat} {N S D M : Nat → Int32} {kp kn go : Int32}
theorem gx_ord33 {post : Int32 → SX → Prop} {J27 : Int32 → Int32 → Int32 → Int32 → Int32 → Int32 → Int32 → Int32 → (Nat → Int32) → (Nat → Int32) → (Nat → Int32) → (Nat → Int32) → (Nat → Int32) → Prop}
    (hX : gx_H e s N S D) {k d p : Nat} (hk : k < 4096) (hd : ∀ j, sp_Z e s (sp_dg k) j ↔ d ∣ j) (hp : 2 ≤ p) (hp2 : p ≤ 625)
    (hJ : ∀ res rest t G', sp_oi d res rest (p + 1) → res ≤ 625 → J27 (nI res) (nI rest) (nI (p + 1)) kp t kn go (nI (sp_cd (sp_E e s))) N S D G' M) :
    ∀ n rest, rest < n → ∀ res t G, sp_oi d res rest p → res ≤ 625 → wX_orderOf_33 post J27 (nI k) (nI p) n (nI res) (nI rest) kp t kn go (nI (sp_cd (sp_E e s))) N S D G M := by
  intro n
  induction n with
  | zero => intro rest hr; omega
  | succ n ih =>
    intro rest hr res t G ho hres
    have hle := sp_oi_le ho
    have hpn : ¬ nI p = 0 := nI_ne0 (by omega) (by omega)
    have hrem : nI rest - nI rest / nI p * nI p = nI (rest % p) := pk_rem (by omega) (by omega) (by omega)
    have hdv : nI res / nI p = nI (res / p) := pk_div (by omega) (by omega) (by omega)
    have hdr : nI rest / nI p = nI (rest / p) := pk_div (by omega) (by omega) (by omega)
    by_cases hdiv : p ∣ rest
    · have h1 := ho.1
      have hlt : rest / p < rest := Nat.div_lt_self (by omega) (by omega)
      have hrp : res / p ≤ res := Nat.div_le_self _ _
      refine ⟨hpn, br_t (by rw [hrem, Nat.mod_eq_zero_of_dvd hdiv]; rfl) ⟨hpn, nm_r hdr ⟨hpn, ?_⟩⟩⟩
      rw [hdv]
      refine gx_timesState hX hk (by omega) (fun t' G' => ?_)
      have htm : sp_tm e s k (res / p) < 4096 := sp_st_cd hX.1 _
      have hE : sp_cd (sp_E e s) < 4096 := sp_st_cd hX.1 _
      refine pk_eq (sp_tm e s k (res / p)) (sp_cd (sp_E e s)) (fun hz => ?_) (fun hz => ?_) rfl rfl (by omega) (by omega)
      · have hq : d ∣ res / p := (hd _).mp ((sp_tm_iff hX.1 k (res / p)).mp hz)
        exact ⟨hpn, nm_e (ih (rest / p) (by omega) (res / p) t' G' (sp_oi_yes ho hp hdiv hq) (by omega))⟩
      · have hq : ¬ d ∣ res / p := fun z => hz ((sp_tm_iff hX.1 k (res / p)).mpr ((hd _).mpr z))
        exact ih (rest / p) (by omega) res t' G' (sp_oi_no ho hp hdiv hq) hres
    · have hm : 0 < rest % p := by
        apply Nat.pos_of_ne_zero
        intro hz
        exact hdiv (Nat.dvd_of_mod_eq_zero hz)
      have hm2 : rest % p < p := Nat.mod_lt _ (by omega)
      refine ⟨hpn, br_f (by rw [hrem]; exact nI_ne0 hm (by omega)) (nm_r (nI_1 p) (hJ res rest t G (sp_oi_next ho hdiv) hres))⟩
theorem gx_ord27 {post : Int32 → SX → Prop} (hX : gx_H e s N S D) {k d : Nat} (hk : k < 4096) (hd : ∀ j, sp_Z e s (sp_dg k) j ↔ d ∣ j)
    (h : ∀ t G', post (nI d) (kp, t, kn, go, nI (sp_cd (sp_E e s)), N, S, D, G', M)) :
    ∀ n p, 2 ≤ p → p ≤ 626 → 627 ≤ n + p → ∀ res rest t G, sp_oi d res rest p → res ≤ 625 → wX_orderOf_27 post (nI k) n (nI res) (nI rest) (nI p) kp t kn go (nI (sp_cd (sp_E e s))) N S D G M := by
  intro n
  induction n with
  | zero => intro p h1 h2 h3; omega
  | succ n ih =>
    intro p h1 h2 h3 res rest t G ho hres
    have hle := sp_oi_le ho
    refine pk_lt rest p (fun hlt => ?_) (fun hge => ?_) rfl rfl (by omega) (by omega)
    · rw [sp_oi_end ho hlt]
      exact h t G
    · exact ⟨rest + 1, gx_ord33 hX hk hd h1 (by omega) (fun res' rest' t' G' ho' hres' => ih (p + 1) (by omega) (by omega) (by omega) res' rest' t' G' ho' hres') (rest + 1) rest (by omega) res t G ho hres⟩
end
section
variable {e : Nat → Nat → Nat} {s : Nat → Nat} {N S D G M : Nat → Int32} {kp tp kn go ne : Int32}
theorem gx_orderOf {post : Int32 → SX → Prop} (hX : gx_H e s N S D) {n : Nat} (hn : sp_det e s = (n : Int)) (hn1 : 1 ≤ n) (hn2 : n ≤ 625) (hk : kn = 0 ∨ (kn = 1 ∧ go = nI n ∧ ne = nI (sp_cd (sp_E e s)))) {p : Int32}
    (h0 : ¬ sp_rs e s p → post (-1) (kp, tp, kn, go, ne, N, S, D, G, M))
    (h1 : ∀ k d t G' M', k < 4096 → p = nI k → sp_R e s (sp_dg k) → 1 ≤ d → d ≤ n → (∀ j, sp_Z e s (sp_dg k) j ↔ d ∣ j) → post (nI d) (kp, t, 1, nI n, nI (sp_cd (sp_E e s)), N, S, D, G', M')) :
    wpX_orderOf post (kp, tp, kn, go, ne, N, S, D, G, M) p := by
  unfold wpX_orderOf
  refine gx_recurrent hX (fun hs => ?_) (fun hs => ?_)
  · refine br_f (by decide) ?_
    obtain ⟨k, hk4, rfl, hR⟩ := hs
    obtain ⟨d, hd1, hd2, hd⟩ := sp_ord hn1 (sp_Z_det hX.1.1 (sp_dg k) hn)
    refine gx_learn hX hn hk (fun t G' M' => ?_)
    have hdn : d ∣ n := (hd n).mp (sp_Z_det hX.1.1 (sp_dg k) hn)
    exact ⟨_, gx_ord27 hX hk4 hd (fun t G'' => h1 k d t G'' M' hk4 rfl hR hd1 hd2 hd) 625 2 (by decide) (by decide) (by decide) n n t G' (sp_oi_0 hdn hn1) hn2⟩
  · exact br_t rfl (h0 hs)
theorem gx_opposite {post : Int32 → SX → Prop} (hX : gx_H e s N S D) {n : Nat} (hn : sp_det e s = (n : Int)) (hk : kn = 0 ∨ (kn = 1 ∧ go = nI n ∧ ne = nI (sp_cd (sp_E e s)))) {p : Int32}
    (h0 : ¬ sp_rs e s p → post (-1) (kp, tp, kn, go, ne, N, S, D, G, M))
    (h1 : ∀ k t G' M', k < 4096 → p = nI k → sp_R e s (sp_dg k) → post (nI (sp_cd (sp_opp e s (sp_dg k)))) (kp, t, 1, nI n, nI (sp_cd (sp_E e s)), N, S, D, G', M')) :
    wpX_opposite post (kp, tp, kn, go, ne, N, S, D, G, M) p := by
  unfold wpX_opposite
  refine gx_recurrent hX (fun hs => ?_) (fun hs => ?_)
  · refine br_f (by decide) ?_
    obtain ⟨k, hk4, rfl, hR⟩ := hs
    refine gx_learn hX hn hk (fun t G' M' => ?_)
    refine gx_settledMultiple (m := 4) hX (by decide) (fun t' G'' => ?_)
    exact gx_opp hX hk4 hR (fun t'' G3 => h1 k t'' G3 M' hk4 rfl hR)
  · exact br_t rfl (h0 hs)
theorem gx_recurrentOf {post : Int32 → SX → Prop} (hX : gx_H e s N S D) {n : Nat} (hn : sp_det e s = (n : Int)) (hk : kn = 0 ∨ (kn = 1 ∧ go = nI n ∧ ne = nI (sp_cd (sp_E e s)))) {p : Int32}
    (h0 : ¬ sp_sb e s p → post (-1) (kp, tp, kn, go, ne, N, S, D, G, M))
    (h1 : ∀ k t G' M', k < 4096 → p = nI k → (∀ a, a < 4 → sp_dg k a < sp_d e s a) → post (nI (sp_cd (sp_st e s (fun a => sp_dg k a + sp_dg (sp_cd (sp_E e s)) a)))) (kp, t, 1, nI n, nI (sp_cd (sp_E e s)), N, S, D, G', M')) :
    wpX_recurrentOf post (kp, tp, kn, go, ne, N, S, D, G, M) p := by
  unfold wpX_recurrentOf
  refine gx_isStable hX (fun hs => ?_) (fun hs => ?_)
  · refine br_f (by decide) ?_
    obtain ⟨k, hk4, rfl, hR⟩ := hs
    refine gx_learn hX hn hk (fun t G' M' => ?_)
    exact gx_added hX hk4 (sp_st_cd hX.1 _) (fun t' G'' => h1 k t' G'' M' hk4 rfl hR)
  · exact br_t rfl (h0 hs)
theorem gx_groupSum {post : Int32 → SX → Prop} (hX : gx_H e s N S D) {p q : Int32}
    (h0 : ¬ (sp_sb e s p ∧ sp_sb e s q) → post (-1) (kp, tp, kn, go, ne, N, S, D, G, M))
    (h1 : ∀ k j t G', k < 4096 → j < 4096 → p = nI k → q = nI j → sp_sb e s p → sp_sb e s q → post (nI (sp_cd (sp_st e s (fun a => sp_dg k a + sp_dg j a)))) (kp, t, kn, go, ne, N, S, D, G', M)) :
    wpX_groupSum post (kp, tp, kn, go, ne, N, S, D, G, M) p q := by
  unfold wpX_groupSum
  refine gx_isStable hX (fun hs => ?_) (fun hs => ?_)
  · refine br_f (by decide) ?_
    refine gx_isStable hX (fun hs2 => ?_) (fun hs2 => ?_)
    · refine br_f (by decide) ?_
      have hs' := hs
      have hs2' := hs2
      obtain ⟨k, hk4, rfl, hR⟩ := hs
      obtain ⟨j, hj4, rfl, hR2⟩ := hs2
      exact gx_added hX hk4 hj4 (fun t' G'' => h1 k j t' G'' hk4 hj4 rfl rfl hs' hs2')
    · exact br_t rfl (h0 (fun z => hs2 z.2))
  · exact br_t rfl (h0 (fun z => hs z.1))
end
end
section
/-! the graph's changes -/
def sp_ew (w b v : Nat) : Nat := w - w / 2 ^ b % 2 * 2 ^ b + v * 2 ^ b
def sp_ee (e : Nat → Nat → Nat) (a b v : Nat) (i j : Nat) : Nat := if (i = a ∧ j = b) ∨ (i = b ∧ j = a) then v else e i j
theorem sp_wset : ∀ w, w < 16 → ∀ b, b < 4 → (nI w ||| ((1 : Int32) <<< (nI b &&& 31))) = nI (sp_ew w b 1) := by decide +kernel
theorem sp_wclr : ∀ w, w < 16 → ∀ b, b < 4 → (nI w &&& (((1 : Int32) <<< (nI b &&& 31)) ^^^ (-1))) = nI (sp_ew w b 0) := by decide +kernel
theorem sp_ew_lt : ∀ w, w < 16 → ∀ b, b < 4 → ∀ v, v < 2 → sp_ew w b v < 16 := by decide +kernel
theorem sp_by : ∀ w, w < 16 → (nI w).toInt8.toInt32 = nI w := by decide +kernel
theorem sp_byte {w : Nat} (h : w < 16) : vp_nar .byte (nI w).toInt8.toInt32 = nI w := by rw [pk_vb, sp_by w h]
theorem sp_row {f g : Nat → Nat} {b v : Nat} (hb : b < 4) (hf : ∀ j, j < 4 → f j ≤ 1) (hg : ∀ j, j < 4 → g j = if j = b then v else f j) :
    g 0 + 2 * g 1 + 4 * g 2 + 8 * g 3 = sp_ew (f 0 + 2 * f 1 + 4 * f 2 + 8 * f 3) b v := by
  have f0 := hf 0 (by decide)
  have f1 := hf 1 (by decide)
  have f2 := hf 2 (by decide)
  have f3 := hf 3 (by decide)
  rw [hg 0 (by decide), hg 1 (by decide), hg 2 (by decide), hg 3 (by decide)]
  unfold sp_ew
  rcases sp_4 hb with rfl | rfl | rfl | rfl <;> simp <;> omega
theorem sp_ee_H {e : Nat → Nat → Nat} {s : Nat → Nat} (hH : sp_H e s) {a b v : Nat} (ha : a < 4) (hb : b < 4) (hab : a ≠ b) (hv : v ≤ 1) : sp_H (sp_ee e a b v) s := by
  refine ⟨⟨hH.1.1, fun i j hi hj => ?_, fun i hi => ?_⟩, fun i j hi hj => ?_, hH.2.2⟩
  · unfold sp_ee
    have := hH.1.2.1 i j hi hj
    by_cases h : (i = a ∧ j = b) ∨ (i = b ∧ j = a)
    · rw [if_pos h, if_pos (by omega)]
    · rw [if_neg h, if_neg (by omega)]
      exact this
  · unfold sp_ee
    rw [if_neg (by omega)]
    exact hH.1.2.2 i hi
  · unfold sp_ee
    split
    · exact hv
    · exact hH.2.1 i j hi hj
theorem sp_ee_mk {e : Nat → Nat → Nat} {s : Nat → Nat} (hH : sp_H e s) {a b v : Nat} (ha : a < 4) (hb : b < 4) (hab : a ≠ b) :
    ∀ i, i < 4 → sp_mk (sp_ee e a b v) i = if i = b then sp_ew (sp_mk e b) a v else if i = a then sp_ew (sp_mk e a) b v else sp_mk e i := by
  intro i hi
  by_cases hib : i = b
  · subst hib
    rw [if_pos rfl]
    exact sp_row (f := e i) (g := sp_ee e a i v i) ha (fun j hj => hH.2.1 i j hi hj) (fun j hj => by
      unfold sp_ee
      by_cases hj2 : j = a
      · rw [if_pos (Or.inr ⟨rfl, hj2⟩), if_pos hj2]
      · rw [if_neg (by omega), if_neg hj2])
  · rw [if_neg hib]
    by_cases hia : i = a
    · subst hia
      rw [if_pos rfl]
      exact sp_row (f := e i) (g := sp_ee e i b v i) hb (fun j hj => hH.2.1 i j hi hj) (fun j hj => by
        unfold sp_ee
        by_cases hj2 : j = b
        · rw [if_pos (Or.inl ⟨rfl, hj2⟩), if_pos hj2]
        · rw [if_neg (by omega), if_neg hj2])
    · rw [if_neg hia]
      have k : ∀ j, sp_ee e a b v i j = e i j := fun j => by
        unfold sp_ee
        rw [if_neg (by omega)]
      unfold sp_mk
      rw [k, k, k, k]
theorem sp_upd2 {N : Nat → Int32} {e : Nat → Nat → Nat} {s : Nat → Nat} (hH : sp_H e s) {a b v : Nat} (ha : a < 4) (hb : b < 4) (hab : a ≠ b) (hN : ∀ j, j < 4 → N j = nI (sp_mk e j)) :
    ∀ i, i < 4 → upd (upd N (nI a).toNatClampNeg (nI (sp_ew (sp_mk e a) b v))) (nI b).toNatClampNeg (nI (sp_ew (sp_mk e b) a v)) i = nI (sp_mk (sp_ee e a b v) i) := by
  intro i hi
  rw [sp_cl (by omega), sp_cl (by omega), sp_ee_mk hH ha hb hab i hi]
  by_cases hib : i = b
  · subst hib
    rw [pk_us, if_pos rfl]
  · rw [pk_un hib, if_neg hib]
    by_cases hia : i = a
    · subst hia
      rw [pk_us, if_pos rfl]
    · rw [pk_un hia, if_neg hia]
      exact hN i hi
def sp_pl (p : Int32) : Prop := ∃ a, a < 4 ∧ p = nI a
theorem sp_pl_neg {p : Int32} (h : p < 0) : ¬ sp_pl p := by
  rintro ⟨a, ha, rfl⟩
  exact nI_pos (by omega) h
section
variable {e : Nat → Nat → Nat} {s : Nat → Nat} {N S D G M : Nat → Int32} {kp tp kn go ne : Int32}
theorem gx_isPlace {post : Int32 → Prop} {u : SX} {p : Int32} (h1 : ∀ a, a < 4 → p = nI a → post 1) (h0 : ¬ sp_pl p → post 0) : wpX_isPlace post u p := by
  obtain ⟨_, _, _, _, _, _, _, _, _, _⟩ := u
  refine br_c (fun hn => h0 (sp_pl_neg hn)) (fun hp => ?_)
  obtain ⟨a, ha, rfl⟩ := nI_of hp
  refine pk_le 4 a (fun h => h0 ?_) (fun h => h1 a h rfl)
  rintro ⟨b, hb, hab⟩
  have := (nI_eq ha (by omega)).mp hab
  omega
theorem gx_changeGraph {post : SX → Prop} (hH : sp_H e s) (hN : ∀ a, a < 4 → N a = nI (sp_mk e a)) (hS : ∀ a, a < 4 → S a = nI (s a))
    (h : ∀ D', gx_H e s N S D' → post (0, tp, 0, go, ne, N, S, D', G, M)) : wpX_changeGraph post (kp, tp, kn, go, ne, N, S, D, G, M) := by
  refine loop_0 (fun n i (g : Nat → Int32) => wX_changeGraph_12 post 0 tp 0 go ne n (nI i) N S g G M) (fun i g => ∀ a, a < i → g a = nI (sp_d e s a)) 4 D (fun a ha => absurd ha (Nat.not_lt_zero a)) (fun n g hg => ?_) (fun n i g hi hg ih => ?_)
  · exact br_t sp_le4 (h g ⟨hH, hN, hS, hg⟩)
  · have hcl : (nI i).toNatClampNeg = i := sp_cl (by omega)
    refine br_f (sp_nle4 hi) ⟨sp_in4 hi, nm_r (e' := nI (s i)) (by rw [hcl]; exact hS i hi) ?_⟩
    refine loop_0 (fun m j (x : Int32) => wX_changeGraph_26 post (wX_changeGraph_12 post 0 tp 0 go ne n) (nI i) 0 tp 0 go ne N S g G M m x (nI j)) (fun j x => x = nI (s i + sp_su (e i) j)) 4 (nI (s i)) rfl (fun m x hx => ?_) (fun m j x hj hx ih' => ?_)
    · have hd : s i + sp_su (e i) 4 = sp_d e s i := by
        rw [sp_su4]
        rfl
      rw [hd] at hx
      have hv : vp_nar .byte x.toInt8.toInt32 = nI (sp_d e s i) := by
        have := sp_H_d hH hi
        rw [hx]
        exact sp_byte (by omega)
      exact br_t sp_le4 ⟨sp_in4 hi, nm_r (congrArg (upd g (nI i).toNatClampNeg) hv) (nm_r (nI_1 i) (ih _ (sp_fill (fun a => nI (sp_d e s a)) (by omega) hg)))⟩
    · refine br_f (sp_nle4 hj) ⟨sp_in4 hi, nm_e (nm_r (nI_1 j) (ih' _ ?_))⟩
      rw [hx, hcl, hN i hi, sp_bit hH hi hj, nI_add, Nat.add_assoc]
      rfl
def sp_vl (p q : Int32) : Prop := ∃ a b, a < 4 ∧ b < 4 ∧ a ≠ b ∧ p = nI a ∧ q = nI b
theorem gx_edge {post : Int32 → SX → Prop} (hX : gx_H e s N S D) {p q r : Int32}
    (h0 : ¬ sp_vl p q → post 0 (kp, tp, kn, go, ne, N, S, D, G, M))
    (h1 : ∀ a b N' D', a < 4 → b < 4 → a ≠ b → p = nI a → q = nI b → gx_H (sp_ee e a b (if r = 0 then 0 else 1)) s N' S D' → post 1 (0, tp, 0, go, ne, N', S, D', G, M)) :
    wpX_edge post (kp, tp, kn, go, ne, N, S, D, G, M) p q r := by
  unfold wpX_edge
  have hH := hX.1
  refine gx_isPlace (fun a ha hpa => ?_) (fun hp => ?_)
  · refine br_f (by decide) ?_
    refine gx_isPlace (fun b hb hqb => ?_) (fun hq => ?_)
    · refine br_f (by decide) ?_
      subst hpa hqb
      refine pk_eq a b (fun hab => h0 ?_) (fun hab => ?_)
      · rintro ⟨a', b', ha', hb', hab', h2, h3⟩
        have q1 := (nI_eq (by omega) (by omega)).mp h2
        have q2 := (nI_eq (by omega) (by omega)).mp h3
        omega
      · have ca : (nI a).toNatClampNeg = a := sp_cl (by omega)
        have cb : (nI b).toNatClampNeg = b := sp_cl (by omega)
        have ma := (sp_mk_bit hH ha ha).1
        have mb := (sp_mk_bit hH hb hb).1
        by_cases hr : r = 0
        · have v1 : vp_nar .byte ((N (nI a).toNatClampNeg &&& (((1 : Int32) <<< (nI b &&& 31)) ^^^ (-1))).toInt8.toInt32) = nI (sp_ew (sp_mk e a) b 0) := by
            rw [ca, hX.2.1 a ha, sp_wclr _ ma b hb, sp_byte (sp_ew_lt _ ma b hb 0 (by decide))]
          have v2 : vp_nar .byte ((upd N (nI a).toNatClampNeg (nI (sp_ew (sp_mk e a) b 0)) (nI b).toNatClampNeg &&& (((1 : Int32) <<< (nI a &&& 31)) ^^^ (-1))).toInt8.toInt32) = nI (sp_ew (sp_mk e b) a 0) := by
            rw [ca, cb, pk_un (fun z => hab z.symm), hX.2.1 b hb, sp_wclr _ mb a ha, sp_byte (sp_ew_lt _ mb a ha 0 (by decide))]
          refine br_t hr ⟨sp_in4 ha, sp_in4 ha, nm_r (congrArg (upd N (nI a).toNatClampNeg) v1) ⟨sp_in4 hb, sp_in4 hb, nm_r (congrArg (upd _ (nI b).toNatClampNeg) v2) ?_⟩⟩
          refine gx_changeGraph (sp_ee_H hH ha hb hab (v := 0) (by decide)) (sp_upd2 hH ha hb hab hX.2.1) hX.2.2.1 (fun D' hD' => ?_)
          rw [if_pos hr] at h1
          exact h1 a b _ D' ha hb hab rfl rfl hD'
        · have v1 : vp_nar .byte ((N (nI a).toNatClampNeg ||| ((1 : Int32) <<< (nI b &&& 31))).toInt8.toInt32) = nI (sp_ew (sp_mk e a) b 1) := by
            rw [ca, hX.2.1 a ha, sp_wset _ ma b hb, sp_byte (sp_ew_lt _ ma b hb 1 (by decide))]
          have v2 : vp_nar .byte ((upd N (nI a).toNatClampNeg (nI (sp_ew (sp_mk e a) b 1)) (nI b).toNatClampNeg ||| ((1 : Int32) <<< (nI a &&& 31))).toInt8.toInt32) = nI (sp_ew (sp_mk e b) a 1) := by
            rw [ca, cb, pk_un (fun z => hab z.symm), hX.2.1 b hb, sp_wset _ mb a ha, sp_byte (sp_ew_lt _ mb a ha 1 (by decide))]
          refine br_f hr ⟨sp_in4 ha, sp_in4 ha, nm_r (congrArg (upd N (nI a).toNatClampNeg) v1) ⟨sp_in4 hb, sp_in4 hb, nm_r (congrArg (upd _ (nI b).toNatClampNeg) v2) ?_⟩⟩
          refine gx_changeGraph (sp_ee_H hH ha hb hab (v := 1) (by decide)) (sp_upd2 hH ha hb hab hX.2.1) hX.2.2.1 (fun D' hD' => ?_)
          rw [if_neg hr] at h1
          exact h1 a b _ D' ha hb hab rfl rfl hD'
    · refine br_t rfl (h0 ?_)
      rintro ⟨a', b', ha', hb', hab', h2, h3⟩
      exact hq ⟨b', hb', h3⟩
  · refine br_t rfl (h0 ?_)
    rintro ⟨a', b', ha', hb', hab', h2, h3⟩
    exact hp ⟨a', ha', h2⟩
end
end
section
/-! the plain methods: sink, drop, set, degree on both sides; the reference's edge -/
def sp_ss (s : Nat → Nat) (a c : Nat) (i : Nat) : Nat := if i = a then c else s i
theorem sp_ss_H {e : Nat → Nat → Nat} {s : Nat → Nat} (hH : sp_H e s) {a c : Nat} (hc1 : 1 ≤ c) (hc2 : c ≤ 2) : sp_H e (sp_ss s a c) := by
  refine ⟨⟨fun i hi => ?_, hH.1.2.1, hH.1.2.2⟩, hH.2.1, fun i hi => ?_⟩
  · unfold sp_ss
    split
    · exact hc1
    · exact hH.1.1 i hi
  · unfold sp_ss
    split
    · exact hc2
    · exact hH.2.2 i hi
def sp_dr (K a w : Nat) (j : Nat) : Nat := if j = a then sp_dg K a + w else sp_dg K j
theorem sp_dr_sum {e : Nat → Nat → Nat} {s : Nat → Nat} (hH : sp_H e s) {K a w : Nat} (ha : a < 4) (hw : w ≤ 1000) (hst : ∀ a, a < 4 → sp_dg K a < sp_d e s a) :
    sp_dr K a w 0 + sp_dr K a w 1 + sp_dr K a w 2 + sp_dr K a w 3 ≤ 1100 := by
  have k : ∀ i, i < 4 → sp_dg K i ≤ 4 := fun i hi => by
    have h1 := hst i hi
    have h2 := sp_H_d hH hi
    omega
  have k0 := k 0 (by decide)
  have k1 := k 1 (by decide)
  have k2 := k 2 (by decide)
  have k3 := k 3 (by decide)
  unfold sp_dr
  rcases sp_4 ha with rfl | rfl | rfl | rfl <;> simp <;> omega
def sp_vs (p q : Int32) : Prop := ∃ a c, a < 4 ∧ 1 ≤ c ∧ c ≤ 2 ∧ p = nI a ∧ q = nI c
def sp_vd (p q : Int32) : Prop := ∃ a w, a < 4 ∧ w ≤ 1000 ∧ p = nI a ∧ q = nI w
theorem sp_1or2 {q : Int32} (h1 : ¬ q < 1) (h2 : q ≤ 2) : ∃ c, 1 ≤ c ∧ c ≤ 2 ∧ q = nI c := by
  have h0 : ¬ q < 0 := fun z => h1 (Int32.lt_trans z (by decide))
  obtain ⟨c, hc, rfl⟩ := nI_of h0
  refine ⟨c, ?_, (nI_leI (b := 2) hc (by decide)).mp h2, rfl⟩
  apply Classical.byContradiction
  intro hn
  exact h1 (nI_lt (b := 1) (by omega) (by decide))
section
variable {e : Nat → Nat → Nat} {s : Nat → Nat} {N S D G M : Nat → Int32} {kp tp kn go ne : Int32}
theorem gx_sink {post : Int32 → SX → Prop} (hX : gx_H e s N S D) {p q : Int32}
    (h0 : ¬ sp_vs p q → post 0 (kp, tp, kn, go, ne, N, S, D, G, M))
    (h1 : ∀ a c S' D', a < 4 → 1 ≤ c → c ≤ 2 → p = nI a → q = nI c → gx_H e (sp_ss s a c) N S' D' → post 1 (0, tp, 0, go, ne, N, S', D', G, M)) :
    wpX_sink post (kp, tp, kn, go, ne, N, S, D, G, M) p q := by
  unfold wpX_sink
  refine gx_isPlace (fun a ha hpa => ?_) (fun hp => ?_)
  · refine br_f (by decide) (br_c (fun hlt => h0 ?_) (fun hge => br_c (fun hle => ?_) (fun hn => h0 ?_)))
    · rintro ⟨a', c, _, hc, hc2, _, rfl⟩
      exact nI_nlt (b := 1) hc (by omega) hlt
    · obtain ⟨c, hc1, hc2, rfl⟩ := sp_1or2 hge hle
      subst hpa
      refine ⟨sp_in4 ha, nm_r (congrArg (upd S (nI a).toNatClampNeg) (sp_byte (by omega))) ?_⟩
      refine gx_changeGraph (s := sp_ss s a c) (sp_ss_H hX.1 hc1 hc2) hX.2.1 (fun i hi => ?_) (fun D' hD' => h1 a c _ D' ha hc1 hc2 rfl rfl hD')
      exact sp_up1 ha hX.2.2.1 i hi
    · rintro ⟨a', c, _, hc, hc2, _, rfl⟩
      exact hn (nI_le (b := 2) hc2 (by decide))
  · refine br_t rfl (h0 ?_)
    rintro ⟨a', c, ha', hc, hc2, h2, _⟩
    exact hp ⟨a', ha', h2⟩
theorem gx_drop {post : Int32 → SX → Prop} (hX : gx_H e s N S D) {K : Nat} (hK : K < 4096) (hst : ∀ a, a < 4 → sp_dg K a < sp_d e s a) {p q : Int32}
    (h0 : ¬ sp_vd p q → post (-1) (nI K, tp, kn, go, ne, N, S, D, G, M))
    (h1 : ∀ a w G', a < 4 → w ≤ 1000 → p = nI a → q = nI w → post (nI (sp_tp e s (sp_dr K a w))) (nI (sp_cd (sp_st e s (sp_dr K a w))), nI (sp_tp e s (sp_dr K a w)), kn, go, ne, N, S, D, G', M)) :
    wpX_drop post (nI K, tp, kn, go, ne, N, S, D, G, M) p q := by
  unfold wpX_drop
  refine gx_isPlace (fun a ha hpa => ?_) (fun hp => ?_)
  · refine br_f (by decide) (br_c (fun hlt => h0 ?_) (fun hge => br_c (fun hle => ?_) (fun hn => h0 ?_)))
    · rintro ⟨a', w, _, hw, _, rfl⟩
      exact nI_pos (by omega) hlt
    · obtain ⟨w, hw, rfl⟩ := nI_of2 (M := 1000) (n := 1000) (by decide) hge hle
      subst hpa
      refine gx_load hK (fun G' hG' => ?_)
      have hv : G' (nI a).toNatClampNeg + nI w = nI (sp_dg K a + w) := by
        rw [sp_cl (by omega), hG' a ha, nI_add]
      refine ⟨sp_in4 ha, sp_in4 ha, nm_r (congrArg (upd G' (nI a).toNatClampNeg) hv) ?_⟩
      have hsum := sp_dr_sum hX.1 ha hw hst
      refine gx_settle hX (g := sp_dr K a w) (by omega) (sp_up1 ha hG') (fun G'' hG'' => ?_)
      exact gx_packed hG'' (h1 a w G'' ha hw rfl rfl)
    · rintro ⟨a', w, _, hw, _, rfl⟩
      exact hn (nI_le (b := 1000) hw (by decide))
  · refine br_t rfl (h0 ?_)
    rintro ⟨a', c, ha', hc, h2, _⟩
    exact hp ⟨a', ha', h2⟩
end
section
variable {e : Nat → Nat → Nat} {s : Nat → Nat} {N S R W F : Nat → Int32} {kn tp : Int32}
theorem gy_isPlace {post : Int32 → Prop} {u : SY} {p : Int32} (h1 : ∀ a, a < 4 → p = nI a → post 1) (h0 : ¬ sp_pl p → post 0) : wpY_isPlace post u p := by
  obtain ⟨_, _, _, _, _, _, _⟩ := u
  refine br_c (fun hn => h0 (sp_pl_neg hn)) (fun hp => ?_)
  obtain ⟨a, ha, rfl⟩ := nI_of hp
  refine pk_lt 3 a (fun h => h0 ?_) (fun h => h1 a (by omega) rfl)
  rintro ⟨b, hb, hab⟩
  have := (nI_eq ha (by omega)).mp hab
  omega
theorem gy_vanish {post : SY → Prop} (h : ∀ R', (∀ a, a < 4 → R' a = nI 0) → post (0, tp, N, S, R', W, F)) : wpY_vanish post (kn, tp, N, S, R, W, F) := by
  refine loop_0 (fun n i (g : Nat → Int32) => wY_vanish_2 post kn tp n (nI i) N S g W F) (fun i g => ∀ a, a < i → g a = nI 0) 4 R (fun a ha => absurd ha (Nat.not_lt_zero a)) (fun n g hg => ?_) (fun n i g hi hg ih => ?_)
  · exact br_t sp_le4 (h g hg)
  · exact br_f (sp_nle4 hi) ⟨sp_in4 hi, nm_e (nm_r (nI_1 i) (ih _ (sp_fill (fun _ => nI 0) (by omega) hg)))⟩
theorem gy_edge {post : Int32 → SY → Prop} (hY : gy_H e s N S) {p q r : Int32}
    (h0 : ¬ sp_vl p q → post 0 (kn, tp, N, S, R, W, F))
    (h1 : ∀ a b N' R', a < 4 → b < 4 → a ≠ b → p = nI a → q = nI b → gy_H (sp_ee e a b (if r = 0 then 0 else 1)) s N' S → (∀ a, a < 4 → R' a = nI 0) → post 1 (0, tp, N', S, R', W, F)) :
    wpY_edge post (kn, tp, N, S, R, W, F) p q r := by
  unfold wpY_edge
  have hH := hY.1
  refine gy_isPlace (fun a ha hpa => ?_) (fun hp => ?_)
  · refine br_f (by decide) ?_
    refine gy_isPlace (fun b hb hqb => ?_) (fun hq => ?_)
    · refine br_f (by decide) ?_
      subst hpa hqb
      refine pk_eq a b (fun hab => h0 ?_) (fun hab => ?_)
      · rintro ⟨a', b', ha', hb', hab', h2, h3⟩
        have q1 := (nI_eq (by omega) (by omega)).mp h2
        have q2 := (nI_eq (by omega) (by omega)).mp h3
        omega
      · have ca : (nI a).toNatClampNeg = a := sp_cl (by omega)
        have cb : (nI b).toNatClampNeg = b := sp_cl (by omega)
        have ma := (sp_mk_bit hH ha ha).1
        have mb := (sp_mk_bit hH hb hb).1
        by_cases hr : r = 0
        · have v1 : (N (nI a).toNatClampNeg &&& (((1 : Int32) <<< (nI b &&& 31)) ^^^ (-1))) = nI (sp_ew (sp_mk e a) b 0) := by
            rw [ca, hY.2.1 a ha, sp_wclr _ ma b hb]
          have v2 : (upd N (nI a).toNatClampNeg (nI (sp_ew (sp_mk e a) b 0)) (nI b).toNatClampNeg &&& (((1 : Int32) <<< (nI a &&& 31)) ^^^ (-1))) = nI (sp_ew (sp_mk e b) a 0) := by
            rw [ca, cb, pk_un (fun z => hab z.symm), hY.2.1 b hb, sp_wclr _ mb a ha]
          refine br_t hr ⟨sp_in4 ha, ?_⟩
          unfold wY_edge_57
          refine ⟨sp_in4 ha, nm_r (congrArg (upd N (nI a).toNatClampNeg) v1) (br_t hr ⟨sp_in4 hb, ?_⟩)⟩
          unfold wY_edge_92
          refine ⟨sp_in4 hb, nm_r (congrArg (upd _ (nI b).toNatClampNeg) v2) ?_⟩
          refine gy_vanish (fun R' hR' => ?_)
          rw [if_pos hr] at h1
          exact h1 a b _ R' ha hb hab rfl rfl ⟨sp_ee_H hH ha hb hab (by decide), sp_upd2 hH ha hb hab hY.2.1, hY.2.2⟩ hR'
        · have v1 : (N (nI a).toNatClampNeg ||| ((1 : Int32) <<< (nI b &&& 31))) = nI (sp_ew (sp_mk e a) b 1) := by
            rw [ca, hY.2.1 a ha, sp_wset _ ma b hb]
          have v2 : (upd N (nI a).toNatClampNeg (nI (sp_ew (sp_mk e a) b 1)) (nI b).toNatClampNeg ||| ((1 : Int32) <<< (nI a &&& 31))) = nI (sp_ew (sp_mk e b) a 1) := by
            rw [ca, cb, pk_un (fun z => hab z.symm), hY.2.1 b hb, sp_wset _ mb a ha]
          refine br_f hr ⟨sp_in4 ha, ?_⟩
          unfold wY_edge_57
          refine ⟨sp_in4 ha, nm_r (congrArg (upd N (nI a).toNatClampNeg) v1) (br_f hr ⟨sp_in4 hb, ?_⟩)⟩
          unfold wY_edge_92
          refine ⟨sp_in4 hb, nm_r (congrArg (upd _ (nI b).toNatClampNeg) v2) ?_⟩
          refine gy_vanish (fun R' hR' => ?_)
          rw [if_neg hr] at h1
          exact h1 a b _ R' ha hb hab rfl rfl ⟨sp_ee_H hH ha hb hab (by decide), sp_upd2 hH ha hb hab hY.2.1, hY.2.2⟩ hR'
    · refine br_t rfl (h0 ?_)
      rintro ⟨a', b', ha', hb', hab', h2, h3⟩
      exact hq ⟨b', hb', h3⟩
  · refine br_t rfl (h0 ?_)
    rintro ⟨a', b', ha', hb', hab', h2, h3⟩
    exact hp ⟨a', ha', h2⟩
theorem gy_sink {post : Int32 → SY → Prop} (hY : gy_H e s N S) {p q : Int32}
    (h0 : ¬ sp_vs p q → post 0 (kn, tp, N, S, R, W, F))
    (h1 : ∀ a c S' R', a < 4 → 1 ≤ c → c ≤ 2 → p = nI a → q = nI c → gy_H e (sp_ss s a c) N S' → (∀ a, a < 4 → R' a = nI 0) → post 1 (0, tp, N, S', R', W, F)) :
    wpY_sink post (kn, tp, N, S, R, W, F) p q := by
  unfold wpY_sink
  refine gy_isPlace (fun a ha hpa => ?_) (fun hp => ?_)
  · refine br_f (by decide) (br_c (fun hlt => h0 ?_) (fun hge => br_c (fun hle => ?_) (fun hn => h0 ?_)))
    · rintro ⟨a', c, _, hc, hc2, _, rfl⟩
      exact nI_nlt (b := 1) hc (by omega) hlt
    · obtain ⟨c, hc1, hc2, rfl⟩ := sp_1or2 hge hle
      subst hpa
      refine ⟨sp_in4 ha, nm_e ?_⟩
      refine gy_vanish (fun R' hR' => h1 a c _ R' ha hc1 hc2 rfl rfl ⟨sp_ss_H hY.1 hc1 hc2, hY.2.1, fun i hi => ?_⟩ hR')
      exact sp_up1 ha hY.2.2 i hi
    · rintro ⟨a', c, _, hc, hc2, _, rfl⟩
      exact hn (nI_le (b := 2) hc2 (by decide))
  · refine br_t rfl (h0 ?_)
    rintro ⟨a', c, ha', hc, hc2, h2, _⟩
    exact hp ⟨a', ha', h2⟩
theorem gy_drop {post : Int32 → SY → Prop} (hY : gy_H e s N S) {K : Nat} (hst : ∀ a, a < 4 → sp_dg K a < sp_d e s a) (hR : ∀ a, a < 4 → R a = nI (sp_dg K a)) {p q : Int32}
    (h0 : ¬ sp_vd p q → post (-1) (kn, tp, N, S, R, W, F))
    (h1 : ∀ a w R' W', a < 4 → w ≤ 1000 → p = nI a → q = nI w → (∀ j, j < 4 → R' j = nI (sp_st e s (sp_dr K a w) j)) → post (nI (sp_tp e s (sp_dr K a w))) (kn, nI (sp_tp e s (sp_dr K a w)), N, S, R', W', F)) :
    wpY_drop post (kn, tp, N, S, R, W, F) p q := by
  unfold wpY_drop
  refine gy_isPlace (fun a ha hpa => ?_) (fun hp => ?_)
  · refine br_f (by decide) (br_c (fun hlt => h0 ?_) (fun hge => br_c (fun hle => ?_) (fun hn => h0 ?_)))
    · rintro ⟨a', w, _, hw, _, rfl⟩
      exact nI_pos (by omega) hlt
    · obtain ⟨w, hw, rfl⟩ := nI_of2 (M := 1000) (n := 1000) (by decide) hge hle
      subst hpa
      refine loop_0 (fun n i (g : Nat → Int32) => wY_drop_23 post (nI a) (nI w) kn tp n (nI i) N S R g F) (fun i g => ∀ j, j < i → g j = nI (sp_dg K j)) 4 W (fun j hj => absurd hj (Nat.not_lt_zero j)) (fun n g hg => ?_) (fun n i g hi hg ih => ?_)
      · have hv : g (nI a).toNatClampNeg + nI w = nI (sp_dg K a + w) := by
          rw [sp_cl (by omega), hg a ha, nI_add]
        refine br_t sp_le4 ⟨sp_in4 ha, sp_in4 ha, nm_r (congrArg (upd g (nI a).toNatClampNeg) hv) ?_⟩
        refine gy_settle hY (g := sp_dr K a w) (sp_dr_sum hY.1 ha hw hst) (sp_up1 ha hg) (fun W' hW' => ?_)
        refine loop_0 (fun n i (g' : Nat → Int32) => wY_drop_62 post kn (nI (sp_tp e s (sp_dr K a w))) n (nI i) N S g' W' F) (fun i g' => ∀ j, j < i → g' j = nI (sp_st e s (sp_dr K a w) j)) 4 R (fun j hj => absurd hj (Nat.not_lt_zero j)) (fun n g' hg' => ?_) (fun n i g' hi hg' ih' => ?_)
        · exact br_t sp_le4 (h1 a w g' W' ha hw rfl rfl hg')
        · have hv2 : W' (nI i).toNatClampNeg = nI (sp_st e s (sp_dr K a w) i) := by
            rw [sp_cl (by omega)]
            exact hW' i hi
          exact br_f (sp_nle4 hi) ⟨sp_in4 hi, sp_in4 hi, nm_r (congrArg (upd g' (nI i).toNatClampNeg) hv2) (nm_r (nI_1 i) (ih' _ (sp_fill (fun j => nI (sp_st e s (sp_dr K a w) j)) (by omega) hg')))⟩
      · have hv2 : R (nI i).toNatClampNeg = nI (sp_dg K i) := by
          rw [sp_cl (by omega)]
          exact hR i hi
        exact br_f (sp_nle4 hi) ⟨sp_in4 hi, sp_in4 hi, nm_r (congrArg (upd g (nI i).toNatClampNeg) hv2) (nm_r (nI_1 i) (ih _ (sp_fill (fun j => nI (sp_dg K j)) (by omega) hg)))⟩
    · rintro ⟨a', w, _, hw, _, rfl⟩
      exact hn (nI_le (b := 1000) hw (by decide))
  · refine br_t rfl (h0 ?_)
    rintro ⟨a', c, ha', hc, h2, _⟩
    exact hp ⟨a', ha', h2⟩
theorem gy_set {post : Int32 → SY → Prop} (hY : gy_H e s N S) {p : Int32}
    (h0 : ¬ sp_sb e s p → post 0 (kn, tp, N, S, R, W, F))
    (h1 : ∀ k R', k < 4096 → p = nI k → (∀ a, a < 4 → sp_dg k a < sp_d e s a) → (∀ j, j < 4 → R' j = nI (sp_dg k j)) → post 1 (kn, tp, N, S, R', W, F)) :
    wpY_set post (kn, tp, N, S, R, W, F) p := by
  unfold wpY_set
  refine gy_isStable hY (fun hs => ?_) (fun hs => ?_)
  · refine br_f (by decide) ?_
    obtain ⟨k, hk, rfl, hst⟩ := hs
    refine loop_0 (fun n i (g : Nat → Int32) => wY_set_12 post (nI k) kn tp n (nI i) N S g W F) (fun i g => ∀ j, j < i → g j = nI (sp_dg k j)) 4 R (fun j hj => absurd hj (Nat.not_lt_zero j)) (fun n g hg => ?_) (fun n i g hi hg ih => ?_)
    · exact br_t sp_le4 (h1 k g hk rfl hst hg)
    · exact br_f (sp_nle4 hi) (gy_digit hk hi ⟨sp_in4 hi, nm_e (nm_r (nI_1 i) (ih _ (sp_fill (fun j => nI (sp_dg k j)) (by omega) hg)))⟩)
  · exact br_t rfl (h0 hs)
end
end
section
/-! the reference's search for the recurrent states -/
def sp_cn (f : Nat → Bool) : Nat := sp_su (fun k => cond (f k) 1 0) 4096
def sp_Ff (F : Nat → Int32) (f : Nat → Bool) : Prop := ∀ k, k < 4096 → F k = nI (cond (f k) 1 0)
def sp_sd (e : Nat → Nat → Nat) (s : Nat → Nat) (f : Nat → Bool) : Prop := ∀ k, k < 4096 → f k = true → sp_rb e s k = true
noncomputable def sp_nx (e : Nat → Nat → Nat) (s : Nat → Nat) (k a : Nat) : Nat := sp_cd (sp_st e s (fun j => sp_dg k j + sp_dg (512 / 8 ^ a) j))
def sp_qi (f0 f : Nat → Bool) (x : Int32) : Prop := (x = 0 ∧ ∀ k, k < 4096 → f k = f0 k) ∨ (x = 1 ∧ sp_cn f0 + 1 ≤ sp_cn f)
def sp_iv (e : Nat → Nat → Nat) (s : Nat → Nat) (f0 f : Nat → Bool) (F : Nat → Int32) (x : Int32) : Prop :=
  sp_Ff F f ∧ sp_sd e s f ∧ (∀ j, j < 4096 → f0 j = true → f j = true) ∧ sp_qi f0 f x
theorem sp_cn_le {f g : Nat → Bool} (h : ∀ j, j < 4096 → f j = true → g j = true) : sp_cn f ≤ sp_cn g := by
  refine sp_su_le 4096 (fun i hi => ?_)
  show cond (f i) 1 0 ≤ cond (g i) 1 0
  cases hf : f i
  · exact Nat.zero_le _
  · rw [h i hi hf]
    exact Nat.le_refl _
theorem sp_cn_up {f : Nat → Bool} {z : Nat} (hz : z < 4096) (hf : f z = false) : sp_cn (fun j => if j = z then true else f j) = sp_cn f + 1 := by
  refine sp_su_up (k := z) ?_ (fun i hi => ?_) 4096 hz
  · show cond (if z = z then true else f z) 1 0 = cond (f z) 1 0 + 1
    rw [if_pos rfl, hf]
    rfl
  · show cond (if i = z then true else f i) 1 0 = cond (f i) 1 0
    rw [if_neg hi]
theorem sp_unit : ∀ a, a < 4 → ∀ j, j < 4 → sp_dg (512 / 8 ^ a) j = if j = a then 1 else 0 := by decide
theorem sp_unit_sh : ∀ a, a < 4 → (512 : Int32) >>> ((3 * nI a) &&& 31) = nI (512 / 8 ^ a) ∧ 512 / 8 ^ a < 4096 := by decide +kernel
theorem sp_nar1 : vp_nar .boolean 1 = nI 1 := by decide
theorem sp_nar0 : vp_nar .boolean 0 = nI 0 := by decide
theorem sp_m4095 {z : Nat} (h : z < 4096) : nI z &&& 4095 = nI z := by
  rw [pk_andN (by omega) 12 (by decide)]
  exact congrArg nI (Nat.mod_eq_of_lt h)
theorem sp_in4096 {i : Nat} (h : i < 4096) : vp_in (nI i) 4096 := vp_in_nI h (by decide)
theorem sp_rb_nx {e : Nat → Nat → Nat} {s : Nat → Nat} (hH : sp_H e s) {k a : Nat} (h : sp_rb e s k = true) : sp_rb e s (sp_nx e s k a) = true := by
  have hR := (sp_rb_iff hH.1 k).mp h
  refine (sp_rb_iff hH.1 _).mpr (sp_R_congr (fun j hj => (sp_st_dg hH _ j hj).symm) (sp_sum_R hH.1 hR))
section
variable {e : Nat → Nat → Nat} {s : Nat → Nat} {N S R : Nat → Int32} {kn : Int32}
theorem gy_sp42 {post : Int32 → SY → Prop} {J6 J12 : Int32 → Int32 → Int32 → Int32 → (Nat → Int32) → (Nat → Int32) → (Nat → Int32) → (Nat → Int32) → (Nat → Int32) → Prop}
    (hH : sp_H e s) {f0 f : Nat → Bool} {F W : Nat → Int32} {tp x1 : Int32} {k a : Nat} (hk : k < 4096) (hI : sp_iv e s f0 f F x1) (hfk : f k = true)
    (hJ : ∀ (x : Int32) (f' : Nat → Bool) (F' : Nat → Int32), sp_iv e s f0 f' F' x → (x = 0 → x1 = 0 ∧ f0 (sp_nx e s k a) = true) → J12 x (nI (a + 1)) kn tp N S R W F') :
    wY_spread_42 post J6 J12 x1 (nI k) (nI a) (nI (sp_nx e s k a)) kn tp N S R W F := by
  have hz : sp_nx e s k a < 4096 := sp_st_cd hH _
  have ck : (nI k).toNatClampNeg = k := sp_cl hk
  have cz : (nI (sp_nx e s k a)).toNatClampNeg = sp_nx e s k a := sp_cl hz
  have hFk : ¬ F (nI k).toNatClampNeg = 0 := by
    rw [ck, hI.1 k hk, hfk]
    decide
  unfold wY_spread_42
  rw [sp_m4095 hz]
  refine ⟨sp_in4096 hk, br_f hFk ⟨sp_in4096 hz, ?_⟩⟩
  cases hfz : f (sp_nx e s k a)
  · have hFz : F (nI (sp_nx e s k a)).toNatClampNeg = 0 := by
      rw [cz, hI.1 _ hz, hfz]
      rfl
    refine br_t hFz ⟨sp_in4096 hz, nm_r (congrArg (upd F (nI (sp_nx e s k a)).toNatClampNeg) sp_nar1) (nm_r (nI_1 a) (hJ 1 (fun j => if j = sp_nx e s k a then true else f j) _ ⟨fun j hj => ?_, fun j hj hfj => ?_, fun j hj hfj => ?_, Or.inr ⟨rfl, ?_⟩⟩ (fun z => absurd z (by decide))))⟩
    · rw [cz]
      show _ = nI (cond (if j = sp_nx e s k a then true else f j) 1 0)
      by_cases hjz : j = sp_nx e s k a
      · subst hjz
        rw [pk_us, if_pos rfl]
        rfl
      · rw [pk_un hjz, if_neg hjz]
        exact hI.1 j hj
    · by_cases hjz : j = sp_nx e s k a
      · subst hjz
        exact sp_rb_nx hH (hI.2.1 k hk hfk)
      · have hfj' : (if j = sp_nx e s k a then true else f j) = true := hfj
        rw [if_neg hjz] at hfj'
        exact hI.2.1 j hj hfj'
    · show (if j = sp_nx e s k a then true else f j) = true
      by_cases hjz : j = sp_nx e s k a
      · rw [if_pos hjz]
      · rw [if_neg hjz]
        exact hI.2.2.1 j hj hfj
    · rw [sp_cn_up hz hfz]
      have := sp_cn_le hI.2.2.1
      omega
  · have hFz : ¬ F (nI (sp_nx e s k a)).toNatClampNeg = 0 := by
      rw [cz, hI.1 _ hz, hfz]
      decide
    refine br_f hFz (nm_r (nI_1 a) (hJ x1 f F hI (fun hx => ⟨hx, ?_⟩)))
    rcases hI.2.2.2 with ⟨_, h2⟩ | ⟨h1, _⟩
    · rw [← h2 _ hz]
      exact hfz
    · rw [hx] at h1
      cases h1
theorem gy_sp12 {post : Int32 → SY → Prop} {J6 : Int32 → Int32 → Int32 → Int32 → (Nat → Int32) → (Nat → Int32) → (Nat → Int32) → (Nat → Int32) → (Nat → Int32) → Prop}
    (hY : gy_H e s N S) {f0 : Nat → Bool} {k : Nat} {Y : Prop} (hk : k < 4096)
    (hJ : ∀ (x1 : Int32) (f : Nat → Bool) (F W : Nat → Int32) (tp : Int32), sp_iv e s f0 f F x1 → (x1 = 0 → Y ∧ ∀ a, a < 4 → f0 k = true → f0 (sp_nx e s k a) = true) → J6 x1 (nI k + (-1)) kn tp N S R W F) :
    ∀ (d a : Nat), a + d = 4 → ∀ (n : Nat), d < n → ∀ (x1 : Int32) (f : Nat → Bool) (F W : Nat → Int32) (tp : Int32), sp_iv e s f0 f F x1 →
      (x1 = 0 → Y ∧ ∀ a', a' < a → f0 k = true → f0 (sp_nx e s k a') = true) → wY_spread_12 post J6 (nI k) n x1 (nI a) kn tp N S R W F := by
  intro d
  induction d with
  | zero =>
    intro a ha n hn x1 f F W tp hI hc
    obtain ⟨m, rfl⟩ : ∃ m, n = m + 1 := ⟨n - 1, by omega⟩
    have ha4 : a = 4 := by omega
    subst ha4
    exact br_t sp_le4 (nm_e (hJ x1 f F W tp hI hc))
  | succ d ih =>
    intro a ha n hn x1 f F W tp hI hc
    obtain ⟨m, rfl⟩ : ∃ m, n = m + 1 := ⟨n - 1, by omega⟩
    have ha4 : a < 4 := by omega
    have ck : (nI k).toNatClampNeg = k := sp_cl hk
    refine br_f (sp_nle4 ha4) ⟨sp_in4096 hk, ?_⟩
    cases hfk : f k
    · have hFk : F (nI k).toNatClampNeg = 0 := by
        rw [ck, hI.1 k hk, hfk]
        rfl
      refine br_t hFk ?_
      unfold wY_spread_42
      refine ⟨sp_in4096 hk, br_t hFk (nm_r (nI_1 a) (ih (a + 1) (by omega) m (by omega) x1 f F W tp hI (fun hx => ⟨(hc hx).1, fun a' ha' h0 => ?_⟩)))⟩
      have := hI.2.2.1 k hk h0
      rw [hfk] at this
      cases this
    · have hFk : ¬ F (nI k).toNatClampNeg = 0 := by
        rw [ck, hI.1 k hk, hfk]
        decide
      refine br_f hFk ?_
      rw [(sp_unit_sh a ha4).1]
      refine gy_sum hY hk (sp_unit_sh a ha4).2 (fun t W' => ?_)
      refine gy_sp42 hY.1 hk hI hfk (fun x f' F' hI' hx => ih (a + 1) (by omega) m (by omega) x f' F' W' t hI' (fun hx0 => ⟨(hc (hx hx0).1).1, fun a' ha' h0 => ?_⟩))
      have h3 := hx hx0
      by_cases haa : a' = a
      · subst haa
        exact h3.2
      · exact (hc h3.1).2 a' (by omega) h0
def sp_cs (e : Nat → Nat → Nat) (s : Nat → Nat) (f : Nat → Bool) : Prop := ∀ k, k < 4096 → ∀ a, a < 4 → f k = true → f (sp_nx e s k a) = true
theorem gy_spread {post : Int32 → SY → Prop} (hY : gy_H e s N S) {f0 : Nat → Bool} {F W : Nat → Int32} {tp : Int32} (hF : sp_Ff F f0) (hs : sp_sd e s f0)
    (h1 : ∀ f F' W' t, sp_Ff F' f → sp_sd e s f → (∀ j, j < 4096 → f0 j = true → f j = true) → sp_cn f0 + 1 ≤ sp_cn f → post 1 (kn, t, N, S, R, W', F'))
    (h0 : ∀ F' W' t, sp_Ff F' f0 → sp_cs e s f0 → post 0 (kn, t, N, S, R, W', F')) : wpY_spread post (kn, tp, N, S, R, W, F) := by
  have loop : ∀ (i : Nat), i ≤ 4096 → ∀ (n : Nat), i < n → ∀ (x1 : Int32) (f : Nat → Bool) (F W : Nat → Int32) (tp : Int32), sp_iv e s f0 f F x1 →
      (x1 = 0 → ∀ k, i ≤ k → k < 4096 → ∀ a, a < 4 → f0 k = true → f0 (sp_nx e s k a) = true) → wY_spread_6 post n x1 (nI i + (-1)) kn tp N S R W F := by
    intro i
    induction i with
    | zero =>
      intro hi n hn x1 f F W tp hI hc
      obtain ⟨m, rfl⟩ : ∃ m, n = m + 1 := ⟨n - 1, by omega⟩
      refine br_t (by decide) ?_
      rcases hI.2.2.2 with ⟨rfl, h2⟩ | ⟨rfl, h2⟩
      · refine ⟨rfl, h0 F W tp (fun k hk => ?_) (fun k hk a ha hfk => hc rfl k (Nat.zero_le _) hk a ha hfk)⟩
        rw [hI.1 k hk, h2 k hk]
      · exact ⟨rfl, h1 f F W tp hI.1 hI.2.1 hI.2.2.1 h2⟩
    | succ i ih =>
      intro hi n hn x1 f F W tp hI hc
      obtain ⟨m, rfl⟩ : ∃ m, n = m + 1 := ⟨n - 1, by omega⟩
      rw [pk_m1]
      refine br_f (nI_pos (by omega)) ⟨5, ?_⟩
      refine gy_sp12 (Y := x1 = 0) hY (by omega) (fun x f' F' W' t hI' hx => ih (by omega) m (by omega) x f' F' W' t hI' (fun hx0 k hk1 hk2 a ha hfk => ?_)) 4 0 rfl 5 (by decide) x1 f F W tp hI (fun hx => ⟨hx, fun a' ha' => absurd ha' (Nat.not_lt_zero a')⟩)
      by_cases hki : k = i
      · subst hki
        exact (hx hx0).2 a ha hfk
      · exact hc (hx hx0).1 k (by omega) hk2 a ha hfk
  exact ⟨_, loop 4096 (Nat.le_refl _) 4097 (by decide) 0 f0 F W tp ⟨hF, hs, fun _ _ h => h, Or.inl ⟨rfl, fun _ _ => rfl⟩⟩ (fun _ k h1 h2 => absurd h2 (by omega))⟩
end
end
section
/-! the reference's recurrent states, neutral and opposite ones, orders -/
def sp_Fr (e : Nat → Nat → Nat) (s : Nat → Nat) (F : Nat → Int32) : Prop := ∀ k, k < 4096 → F k = nI (cond (sp_rb e s k) 1 0)
def sp_ky (e : Nat → Nat → Nat) (s : Nat → Nat) (kn : Int32) (F : Nat → Int32) : Prop := kn = 0 ∨ (kn = 1 ∧ sp_Fr e s F)
theorem sp_full8 {e : Nat → Nat → Nat} {s : Nat → Nat} (hH : sp_H e s) : ∀ a, a < 4 → (fun a => sp_d e s a - 1) a < 8 := fun a ha => by
  have := sp_H_d hH ha
  show sp_d e s a - 1 < 8
  omega
theorem sp_full_rb {e : Nat → Nat → Nat} {s : Nat → Nat} (hH : sp_H e s) : sp_rb e s (sp_cd (fun a => sp_d e s a - 1)) = true :=
  (sp_rb_iff hH.1 _).mpr (sp_R_congr (fun a ha => (sp_dg_cd (sp_full8 hH) a ha).symm) (sp_R_full hH.1))
/-- a sound closed set with the full state holds every recurrent state -/
theorem sp_closed {e : Nat → Nat → Nat} {s : Nat → Nat} (hH : sp_H e s) {f : Nat → Bool} (hs : sp_sd e s f) (hf : f (sp_cd (fun a => sp_d e s a - 1)) = true) (hc : sp_cs e s f) :
    ∀ k, k < 4096 → f k = sp_rb e s k := by
  intro k hk
  cases hr : sp_rb e s k
  · cases hfk : f k
    · rfl
    · have := hs k hk hfk
      rw [hr] at this
      cases this
  · have hR := (sp_rb_iff hH.1 k).mp hr
    have h := sp_reach hH.1 (fun c => (∀ a, a < 4 → c a < 8) ∧ f (sp_cd c) = true) (fun c c' hcc hP => ⟨fun a ha => by rw [← hcc a ha]; exact hP.1 a ha, by rw [← sp_cd_congr hcc]; exact hP.2⟩)
      ⟨sp_full8 hH, hf⟩ (fun c hP a ha => ⟨sp_st_8 hH _, ?_⟩) (sp_dg k) hR
    · rw [← sp_cd_dg hk]
      exact h.2
    · have h1 := hc (sp_cd c) (sp_cd_lt hP.1) a ha hP.2
      have h2 : sp_nx e s (sp_cd c) a = sp_cd (sp_st e s (fun b => c b + if b = a then 1 else 0)) := by
        unfold sp_nx
        refine sp_cd_congr (sp_st_congr hH.1 (fun j hj => ?_))
        show sp_dg (sp_cd c) j + sp_dg (512 / 8 ^ a) j = c j + if j = a then 1 else 0
        rw [sp_dg_cd hP.1 j hj, sp_unit a ha j hj]
      rw [← h2]
      exact h1
theorem sp_cn_sd {e : Nat → Nat → Nat} {s : Nat → Nat} {f : Nat → Bool} (hs : sp_sd e s f) {n : Nat} (hn : sp_su (fun k => cond (sp_rb e s k) 1 0) 4096 = n) : sp_cn f ≤ n := by
  rw [← hn]
  exact sp_cn_le (g := sp_rb e s) hs
section
variable {e : Nat → Nat → Nat} {s : Nat → Nat} {N S R : Nat → Int32}
theorem gy_fr50 {post : SY → Prop} (hY : gy_H e s N S) {kn : Int32} {n : Nat} (hn : sp_su (fun k => cond (sp_rb e s k) 1 0) 4096 = n) (hn2 : n ≤ 625)
    (h : ∀ t W' F', sp_Fr e s F' → post (1, t, N, S, R, W', F')) :
    ∀ (m r : Nat), 628 ≤ m + r → ∀ (f : Nat → Bool) (F W : Nat → Int32) (tp : Int32), r + 1 ≤ sp_cn f → sp_Ff F f → sp_sd e s f → f (sp_cd (fun a => sp_d e s a - 1)) = true →
      wY_findRecurrent_50 post m 1 (nI r) kn tp N S R W F := by
  intro m
  induction m with
  | zero =>
    intro r hm f F W tp hr hF hs hf
    have := sp_cn_sd hs hn
    omega
  | succ m ih =>
    intro r hm f F W tp hr hF hs hf
    have hc := sp_cn_sd hs hn
    refine br_f (nI_ge (b := 626) (by omega) (by decide)) (br_f (by decide) ?_)
    have hfull : sp_cd (fun a => sp_d e s a - 1) < 4096 := sp_cd_lt (sp_full8 hY.1)
    refine gy_spread hY hF hs (fun f' F' W' t hF' hs' hmono hcn => nm_r (nI_1 r) (ih (r + 1) (by omega) f' F' W' t (by omega) hF' hs' (hmono _ hfull hf))) (fun F' W' t hF' hcs => nm_r (nI_1 r) ?_)
    obtain ⟨m', rfl⟩ : ∃ m', m = m' + 1 := ⟨m - 1, by omega⟩
    have hP : post (1, t, N, S, R, W', F') := h t W' F' (fun k hk => by rw [hF' k hk, sp_closed hY.1 hs hf hcs k hk])
    exact br_c (fun _ => hP) (fun _ => br_t rfl hP)
theorem gy_findRecurrent {post : SY → Prop} (hY : gy_H e s N S) {W F : Nat → Int32} {kn tp : Int32} (hk : sp_ky e s kn F)
    (h : ∀ t W' F', sp_Fr e s F' → post (1, t, N, S, R, W', F')) : wpY_findRecurrent post (kn, tp, N, S, R, W, F) := by
  rcases hk with rfl | ⟨rfl, hF⟩
  · obtain ⟨n, _, hn1, hn2, hn⟩ := sp_count hY.1
    refine br_t rfl ?_
    refine loop_0 (fun n i (g : Nat → Int32) => wY_findRecurrent_10 post 0 tp n (nI i) N S R W g) (fun i g => ∀ k, k < i → g k = nI 0) 4096 F (fun k hk => absurd hk (Nat.not_lt_zero k)) (fun m g hg => ?_) (fun m i g hi hg ih => ?_)
    · refine br_t (by decide) (gy_full hY (fun W' => ?_))
      have hfull : sp_cd (fun a => sp_d e s a - 1) < 4096 := sp_cd_lt (sp_full8 hY.1)
      have hrb := sp_full_rb hY.1
      have hm := sp_m4095 hfull
      refine ⟨by rw [hm]; exact sp_in4096 hfull, nm_r (e' := upd g (sp_cd (fun a => sp_d e s a - 1)) (nI 1)) (by rw [hm, sp_cl hfull, sp_nar1]) ⟨_, gy_fr50 hY hn hn2 h 628 0 (by decide) (fun j => if j = sp_cd (fun a => sp_d e s a - 1) then true else false) _ W' tp ?_ (fun j hj => ?_) (fun j hj hfj => ?_) (if_pos rfl)⟩⟩
      · rw [sp_cn_up (f := fun _ => false) hfull rfl]
        omega
      · show _ = nI (cond (if j = sp_cd (fun a => sp_d e s a - 1) then true else false) 1 0)
        by_cases hjz : j = sp_cd (fun a => sp_d e s a - 1)
        · rw [hjz, pk_us, if_pos rfl]
          rfl
        · rw [pk_un hjz, if_neg hjz]
          exact hg j hj
      · by_cases hjz : j = sp_cd (fun a => sp_d e s a - 1)
        · rw [hjz]
          exact hrb
        · have hfj' : (if j = sp_cd (fun a => sp_d e s a - 1) then true else false) = true := hfj
          rw [if_neg hjz] at hfj'
          cases hfj'
    · exact br_f (nI_ge (b := 4096) hi (by decide)) ⟨sp_in4096 hi, nm_r (congrArg (upd g (nI i).toNatClampNeg) sp_nar0) (nm_r (nI_1 i) (ih _ (sp_fill (fun _ => nI 0) hi hg)))⟩
  · exact br_f (by decide) (h tp W F hF)
theorem gy_isRecurrent {post : Int32 → SY → Prop} (hY : gy_H e s N S) {W F : Nat → Int32} {kn tp : Int32} (hk : sp_ky e s kn F) {p : Int32}
    (h1 : ∀ t W' F', sp_Fr e s F' → sp_rs e s p → post 1 (1, t, N, S, R, W', F')) (h0 : ∀ t W' F', sp_Fr e s F' → ¬ sp_rs e s p → post 0 (1, t, N, S, R, W', F')) :
    wpY_isRecurrent post (kn, tp, N, S, R, W, F) p := by
  unfold wpY_isRecurrent
  refine gy_findRecurrent hY hk (fun t W' F' hF' => ?_)
  refine br_c (fun hn => h0 t W' F' hF' ?_) (fun hp => ?_)
  · rintro ⟨k, hk, rfl, _⟩
    exact nI_pos (by omega) hn
  · obtain ⟨k, hk, rfl⟩ := nI_of hp
    refine pk_lt 4095 k (fun hlt => h0 t W' F' hF' ?_) (fun hge => ?_)
    · rintro ⟨j, hj, hjk, _⟩
      have := (nI_eq hk (by omega)).mp hjk
      omega
    · have hk4 : k < 4096 := by omega
      have hv : F' (nI k).toNatClampNeg = nI (cond (sp_rb e s k) 1 0) := by
        rw [sp_cl hk4]
        exact hF' k hk4
      refine ⟨sp_in4096 hk4, ?_⟩
      cases hr : sp_rb e s k
      · rw [hr] at hv
        refine br_t hv (h0 t W' F' hF' ?_)
        rintro ⟨j, hj, hjk, hR⟩
        have hq := (nI_eq hk (by omega)).mp hjk
        subst hq
        rw [(sp_rb_iff hY.1.1 k).mpr hR] at hr
        cases hr
      · rw [hr] at hv
        refine br_f (by rw [hv]; decide) (h1 t W' F' hF' ⟨k, hk4, rfl, (sp_rb_iff hY.1.1 k).mp hr⟩)
theorem gy_order {post : Int32 → SY → Prop} (hY : gy_H e s N S) {W F : Nat → Int32} {kn tp : Int32} (hk : sp_ky e s kn F) {n : Nat} (hn : sp_su (fun k => cond (sp_rb e s k) 1 0) 4096 = n)
    (h : ∀ t W' F', sp_Fr e s F' → post (nI n) (1, t, N, S, R, W', F')) : wpY_order post (kn, tp, N, S, R, W, F) := by
  unfold wpY_order
  refine gy_findRecurrent hY hk (fun t W' F' hF' => ?_)
  refine loop_0 (fun m i (x : Int32) => wY_order_8 post 1 t N S R W' F' m x (nI i)) (fun i x => x = nI (sp_su (fun k => cond (sp_rb e s k) 1 0) i)) 4096 0 rfl (fun m x hx => ?_) (fun m i x hi hx ih => ?_)
  · refine br_t (by decide) ?_
    rw [hx, hn]
    exact h t W' F' hF'
  · have hv : F' (nI i).toNatClampNeg = nI (cond (sp_rb e s i) 1 0) := by
      rw [sp_cl hi]
      exact hF' i hi
    have hsu : sp_su (fun k => cond (sp_rb e s k) 1 0) (i + 1) = sp_su (fun k => cond (sp_rb e s k) 1 0) i + cond (sp_rb e s i) 1 0 := rfl
    refine br_f (nI_ge (b := 4096) hi (by decide)) ⟨sp_in4096 hi, ?_⟩
    cases hr : sp_rb e s i
    · rw [hr] at hv hsu
      refine br_t hv (nm_r (nI_1 i) (ih x ?_))
      rw [hx, hsu]
      rfl
    · rw [hr] at hv hsu
      refine br_f (by rw [hv]; decide) (nm_e (nm_r (nI_1 i) (ih _ ?_)))
      rw [hx, hsu, nI_1]
      rfl
theorem sp_sumfull (hH : sp_H e s) {i : Nat} (hi : i < 4096) (hR : sp_R e s (sp_dg i)) :
    sp_cd (sp_st e s (fun a => sp_dg i a + sp_dg (sp_cd (fun a => sp_d e s a - 1)) a)) = sp_cd (fun a => sp_d e s a - 1) ↔ i = sp_cd (sp_E e s) := by
  have hE8 : ∀ a, a < 4 → sp_E e s a < 8 := sp_st_8 hH _
  rw [sp_cd_inj (sp_st_8 hH _) (sp_full8 hH)]
  have hc : ∀ a, a < 4 → sp_st e s (fun a => sp_dg i a + sp_dg (sp_cd (fun a => sp_d e s a - 1)) a) a = sp_st e s (fun b => sp_dg i b + (sp_d e s b - 1)) a :=
    sp_st_congr hH.1 (fun a ha => congrArg (fun z => sp_dg i a + z) (sp_dg_cd (sp_full8 hH) a ha))
  have hb := sp_E_iff hH.1 hR
  constructor
  · intro h
    have h2 := hb.mp (fun a ha => by rw [← hc a ha]; exact h a ha)
    rw [← sp_cd_dg hi]
    exact sp_cd_congr h2
  · intro h a ha
    rw [hc a ha]
    refine hb.mpr (fun a ha => ?_) a ha
    rw [h]
    exact sp_dg_cd hE8 a ha
theorem sp_E_rs (hH : sp_H e s) : sp_R e s (sp_dg (sp_cd (sp_E e s))) := sp_R_congr (fun a ha => (sp_st_dg hH _ a ha).symm) (sp_E_R hH.1)
theorem sp_rs_k {k : Nat} (hk : k < 4096) (h : sp_rs e s (nI k)) : sp_R e s (sp_dg k) := by
  obtain ⟨j, hj, hjk, hR⟩ := h
  have hq := (nI_eq (by omega) (by omega)).mp hjk
  subst hq
  exact hR
theorem gy_neutralState {post : Int32 → SY → Prop} (hY : gy_H e s N S) {W F : Nat → Int32} {kn tp : Int32} (hk : sp_ky e s kn F)
    (h : ∀ t W' F', sp_Fr e s F' → post (nI (sp_cd (sp_E e s))) (1, t, N, S, R, W', F')) : wpY_neutralState post (kn, tp, N, S, R, W, F) := by
  have hH := hY.1
  have hE : sp_cd (sp_E e s) < 4096 := sp_st_cd hH _
  have hfull : sp_cd (fun a => sp_d e s a - 1) < 4096 := sp_cd_lt (sp_full8 hH)
  have loop : ∀ (m i : Nat), i + m = sp_cd (sp_E e s) → ∀ (n : Nat), m < n → ∀ (kn tp : Int32) (W F : Nat → Int32), sp_ky e s kn F →
      wY_neutralState_7 post (nI (sp_cd (fun a => sp_d e s a - 1))) n (nI i) kn tp N S R W F := by
    intro m
    induction m with
    | zero =>
      intro i hi n hn kn tp W F hk
      obtain ⟨n', rfl⟩ : ∃ n', n = n' + 1 := ⟨n - 1, by omega⟩
      have hi' : i = sp_cd (sp_E e s) := by omega
      subst hi'
      refine br_f (nI_ge (b := 4096) hE (by decide)) (gy_isRecurrent hY hk (fun t W' F' hF' hs => ?_) (fun t W' F' hF' hs => ?_))
      · refine br_f (by decide) (gy_sum hY hE hfull (fun t' W'' => ?_))
        refine br_t ?_ (h t' W'' F' hF')
        rw [(sp_sumfull hH hE (sp_E_rs hH)).mpr rfl]
      · exact absurd ⟨_, hE, rfl, sp_E_rs hH⟩ hs
    | succ m ih =>
      intro i hi n hn kn tp W F hk
      obtain ⟨n', rfl⟩ : ∃ n', n = n' + 1 := ⟨n - 1, by omega⟩
      have hi4 : i < 4096 := by omega
      refine br_f (nI_ge (b := 4096) hi4 (by decide)) (gy_isRecurrent hY hk (fun t W' F' hF' hs => ?_) (fun t W' F' hF' hs => ?_))
      · refine br_f (by decide) (gy_sum hY hi4 hfull (fun t' W'' => ?_))
        refine pk_eq _ _ (fun hz => ?_) (fun hz => nm_r (nI_1 i) (ih (i + 1) (by omega) n' (by omega) 1 t' W'' F' (Or.inr ⟨rfl, hF'⟩))) rfl rfl (Nat.lt_trans (sp_st_cd hH _) (by decide)) (by omega)
        have := (sp_sumfull hH hi4 (sp_rs_k hi4 hs)).mp hz
        omega
      · exact br_t rfl (nm_r (nI_1 i) (ih (i + 1) (by omega) n' (by omega) 1 t W' F' (Or.inr ⟨rfl, hF'⟩)))
  unfold wpY_neutralState
  refine gy_full hY (fun W' => ?_)
  exact ⟨_, loop (sp_cd (sp_E e s)) 0 (Nat.zero_add _) (sp_cd (sp_E e s) + 1) (by omega) kn tp W' F hk⟩
theorem sp_sumopp (hH : sp_H e s) {k j : Nat} (hj : j < 4096) (hR : sp_R e s (sp_dg k)) (hRj : sp_R e s (sp_dg j)) :
    sp_cd (sp_st e s (fun a => sp_dg k a + sp_dg j a)) = sp_cd (sp_E e s) ↔ j = sp_cd (sp_opp e s (sp_dg k)) := by
  have hE8 : ∀ a, a < 4 → sp_E e s a < 8 := sp_st_8 hH _
  have ho8 : ∀ a, a < 4 → sp_opp e s (sp_dg k) a < 8 := sp_st_8 hH _
  rw [sp_cd_inj (sp_st_8 hH _) hE8, sp_opp_iff hH.1 hR hRj]
  constructor
  · intro h
    rw [← sp_cd_dg hj]
    exact sp_cd_congr h
  · intro h a ha
    rw [h]
    exact sp_dg_cd ho8 a ha
theorem gy_opposite {post : Int32 → SY → Prop} (hY : gy_H e s N S) {W F : Nat → Int32} {kn tp : Int32} (hk : sp_ky e s kn F) {p : Int32}
    (h0 : ∀ t W' F', sp_Fr e s F' → ¬ sp_rs e s p → post (-1) (1, t, N, S, R, W', F'))
    (h1 : ∀ k t W' F', sp_Fr e s F' → k < 4096 → p = nI k → sp_R e s (sp_dg k) → post (nI (sp_cd (sp_opp e s (sp_dg k)))) (1, t, N, S, R, W', F')) :
    wpY_opposite post (kn, tp, N, S, R, W, F) p := by
  have hH := hY.1
  unfold wpY_opposite
  refine gy_isRecurrent hY hk (fun t W' F' hF' hs => ?_) (fun t W' F' hF' hs => ?_)
  · refine br_f (by decide) ?_
    obtain ⟨k, hk4, rfl, hR⟩ := hs
    refine gy_neutralState hY (Or.inr ⟨rfl, hF'⟩) (fun t W' F' hF' => ?_)
    have hE : sp_cd (sp_E e s) < 4096 := sp_st_cd hH _
    have ho : sp_cd (sp_opp e s (sp_dg k)) < 4096 := sp_st_cd hH _
    have hoR : sp_R e s (sp_dg (sp_cd (sp_opp e s (sp_dg k)))) := sp_R_congr (fun a ha => (sp_st_dg hH _ a ha).symm) (sp_opp_R hH.1 hR)
    have loop : ∀ (m i : Nat), i + m = sp_cd (sp_opp e s (sp_dg k)) → ∀ (n : Nat), m < n → ∀ (kn tp : Int32) (W F : Nat → Int32), sp_ky e s kn F →
        wY_opposite_17 post (nI k) (nI (sp_cd (sp_E e s))) n (nI i) kn tp N S R W F := by
      intro m
      induction m with
      | zero =>
        intro i hi n hn kn tp W F hk
        obtain ⟨n', rfl⟩ : ∃ n', n = n' + 1 := ⟨n - 1, by omega⟩
        have hi' : i = sp_cd (sp_opp e s (sp_dg k)) := by omega
        subst hi'
        refine br_f (nI_ge (b := 4096) ho (by decide)) (gy_isRecurrent hY hk (fun t W' F' hF' hs => ?_) (fun t W' F' hF' hs => ?_))
        · refine br_f (by decide) (gy_sum hY hk4 ho (fun t' W'' => ?_))
          refine br_t ?_ (h1 k t' W'' F' hF' hk4 rfl hR)
          rw [(sp_sumopp hH ho hR hoR).mpr rfl]
        · exact absurd ⟨_, ho, rfl, hoR⟩ hs
      | succ m ih =>
        intro i hi n hn kn tp W F hk
        obtain ⟨n', rfl⟩ : ∃ n', n = n' + 1 := ⟨n - 1, by omega⟩
        have hi4 : i < 4096 := by omega
        refine br_f (nI_ge (b := 4096) hi4 (by decide)) (gy_isRecurrent hY hk (fun t W' F' hF' hs => ?_) (fun t W' F' hF' hs => ?_))
        · refine br_f (by decide) (gy_sum hY hk4 hi4 (fun t' W'' => ?_))
          refine pk_eq _ _ (fun hz => ?_) (fun hz => nm_r (nI_1 i) (ih (i + 1) (by omega) n' (by omega) 1 t' W'' F' (Or.inr ⟨rfl, hF'⟩))) rfl rfl (Nat.lt_trans (sp_st_cd hH _) (by decide)) (by omega)
          have := (sp_sumopp hH hi4 hR (sp_rs_k hi4 hs)).mp hz
          omega
        · exact br_t rfl (nm_r (nI_1 i) (ih (i + 1) (by omega) n' (by omega) 1 t W' F' (Or.inr ⟨rfl, hF'⟩)))
    exact ⟨_, loop (sp_cd (sp_opp e s (sp_dg k))) 0 (Nat.zero_add _) (sp_cd (sp_opp e s (sp_dg k)) + 1) (by omega) 1 t W' F' (Or.inr ⟨rfl, hF'⟩)⟩
  · exact br_t rfl (h0 t W' F' hF' hs)
theorem gy_orderOf {post : Int32 → SY → Prop} (hY : gy_H e s N S) {W F : Nat → Int32} {kn tp : Int32} (hk : sp_ky e s kn F) {p : Int32}
    (h0 : ∀ t W' F', sp_Fr e s F' → ¬ sp_rs e s p → post (-1) (1, t, N, S, R, W', F'))
    (h1 : ∀ k, k < 4096 → p = nI k → sp_R e s (sp_dg k) → ∃ d, 1 ≤ d ∧ d ≤ 625 ∧ (∀ j, sp_Z e s (sp_dg k) j ↔ d ∣ j) ∧ ∀ t W' F', sp_Fr e s F' → post (nI d) (1, t, N, S, R, W', F')) :
    wpY_orderOf post (kn, tp, N, S, R, W, F) p := by
  have hH := hY.1
  unfold wpY_orderOf
  refine gy_isRecurrent hY hk (fun t W' F' hF' hs => ?_) (fun t W' F' hF' hs => ?_)
  · refine br_f (by decide) ?_
    obtain ⟨k, hk4, rfl, hR⟩ := hs
    obtain ⟨d, hd1, hd2, hd, hpost⟩ := h1 k hk4 rfl hR
    refine gy_neutralState hY (Or.inr ⟨rfl, hF'⟩) (fun t W' F' hF' => ?_)
    have hE : sp_cd (sp_E e s) < 4096 := sp_st_cd hH _
    have hE8 : ∀ a, a < 4 → sp_E e s a < 8 := sp_st_8 hH _
    have key : ∀ (i c : Nat), c < 4096 → sp_R e s (sp_dg c) → sp_eq e s (fun a => (sp_dg c a : Int)) (fun a => (i : Int) * (sp_dg k a : Int)) → (c = sp_cd (sp_E e s) ↔ d ∣ i) := by
      intro i c hc hRc hq
      rw [← hd i]
      constructor
      · intro hce
        refine sp_eq_tr (sp_eq_sym hq) (sp_eq_tr (sp_eq_of (fun a ha => ?_)) (sp_E_0 hH.1))
        show (sp_dg c a : Int) = (sp_E e s a : Int)
        rw [hce, sp_dg_cd hE8 a ha]
      · intro hZ
        rw [← sp_cd_dg hc]
        exact sp_cd_congr (sp_U hH.1 hRc (sp_E_R hH.1) (sp_eq_tr hq (sp_eq_tr hZ (sp_eq_sym (sp_E_0 hH.1)))))
    have loop : ∀ (m i : Nat), i + m = d → 1 ≤ i → ∀ (n : Nat), m < n → ∀ (c : Nat) (tp : Int32) (W : Nat → Int32), c < 4096 → sp_R e s (sp_dg c) →
        sp_eq e s (fun a => (sp_dg c a : Int)) (fun a => (i : Int) * (sp_dg k a : Int)) → wY_orderOf_20 post (nI k) (nI (sp_cd (sp_E e s))) n (nI c) (nI i) 1 tp N S R W F' := by
      intro m
      induction m with
      | zero =>
        intro i hi hi1 n hn c tp W hc hRc hq
        obtain ⟨n', rfl⟩ : ∃ n', n = n' + 1 := ⟨n - 1, by omega⟩
        have hid : i = d := by omega
        subst hid
        refine br_f (nI_nlt (a := 625) (by omega) (by decide)) (br_t ?_ (hpost tp W F' hF'))
        rw [(key i c hc hRc hq).mpr (Nat.dvd_refl _)]
      | succ m ih =>
        intro i hi hi1 n hn c tp W hc hRc hq
        obtain ⟨n', rfl⟩ : ∃ n', n = n' + 1 := ⟨n - 1, by omega⟩
        have hne : ¬ c = sp_cd (sp_E e s) := fun z => by
          have h3 := Nat.le_of_dvd (by omega) ((key i c hc hRc hq).mp z)
          omega
        refine br_f (nI_nlt (a := 625) (by omega) (by decide)) (br_f (fun z => hne ((nI_eq (by omega) (by omega)).mp z)) (gy_sum hY hc hk4 (fun t' W'' => nm_r (nI_1 i) ?_)))
        have hst : ∀ a, a < 4 → sp_st e s (fun a => sp_dg c a + sp_dg k a) a = sp_dg (sp_cd (sp_st e s (fun a => sp_dg c a + sp_dg k a))) a := fun a ha => (sp_st_dg hH _ a ha).symm
        refine ih (i + 1) (by omega) (by omega) n' (by omega) _ t' W'' (sp_st_cd hH _) (sp_R_congr hst (sp_sum_R hH.1 hRc)) ?_
        refine sp_eq_tr (sp_eq_of (fun a ha => congrArg (fun z : Nat => (z : Int)) (hst a ha).symm)) (sp_eq_tr (sp_sum_eq hH.1 (sp_dg c) (sp_dg k)) (sp_eq_tr (sp_eq_add hq (sp_eq_rfl (fun a => (sp_dg k a : Int)))) (sp_eq_of (fun a _ => ?_))))
        show (i : Int) * (sp_dg k a : Int) + (sp_dg k a : Int) = ((i + 1 : Nat) : Int) * (sp_dg k a : Int)
        rw [Int.natCast_add, Int.add_mul]
        omega
    refine ⟨_, loop (d - 1) 1 (by omega) (by decide) d (by omega) k t W' hk4 hR (sp_eq_of (fun a _ => ?_))⟩
    show (sp_dg k a : Int) = ((1 : Nat) : Int) * (sp_dg k a : Int)
    omega
  · exact br_t rfl (h0 t W' F' hF' hs)
theorem gy_recurrentOf {post : Int32 → SY → Prop} (hY : gy_H e s N S) {W F : Nat → Int32} {kn tp : Int32} (hk : sp_ky e s kn F) {p : Int32}
    (h0 : ¬ sp_sb e s p → post (-1) (kn, tp, N, S, R, W, F))
    (h1 : ∀ k t W' F', sp_Fr e s F' → k < 4096 → p = nI k → sp_sb e s p → post (nI (sp_cd (sp_st e s (fun a => sp_dg (sp_cd (sp_E e s)) a + sp_dg k a)))) (1, t, N, S, R, W', F')) :
    wpY_recurrentOf post (kn, tp, N, S, R, W, F) p := by
  unfold wpY_recurrentOf
  refine gy_isStable hY (fun hs => ?_) (fun hs => ?_)
  · refine br_f (by decide) ?_
    have hs' := hs
    obtain ⟨k, hk4, rfl, _⟩ := hs
    refine gy_neutralState hY hk (fun t W' F' hF' => ?_)
    exact gy_sum hY (sp_st_cd hY.1 _) hk4 (fun t' W'' => h1 k t' W'' F' hF' hk4 rfl hs')
  · exact br_t rfl (h0 hs)
theorem gy_groupSum {post : Int32 → SY → Prop} (hY : gy_H e s N S) {W F : Nat → Int32} {kn tp : Int32} {p q : Int32}
    (h0 : ¬ (sp_sb e s p ∧ sp_sb e s q) → post (-1) (kn, tp, N, S, R, W, F))
    (h1 : ∀ k j t W', k < 4096 → j < 4096 → p = nI k → q = nI j → post (nI (sp_cd (sp_st e s (fun a => sp_dg k a + sp_dg j a)))) (kn, t, N, S, R, W', F)) :
    wpY_groupSum post (kn, tp, N, S, R, W, F) p q := by
  unfold wpY_groupSum
  refine gy_isStable hY (fun hs => ?_) (fun hs => ?_)
  · refine br_f (by decide) ?_
    refine gy_isStable hY (fun hs2 => ?_) (fun hs2 => ?_)
    · refine br_f (by decide) ?_
      obtain ⟨k, hk4, rfl, hR⟩ := hs
      obtain ⟨j, hj4, rfl, hR2⟩ := hs2
      exact gy_sum hY hk4 hj4 (fun t' W'' => h1 k j t' W'' hk4 hj4 rfl rfl)
    · exact br_t rfl (h0 (fun z => hs2 z.2))
  · exact br_t rfl (h0 (fun z => hs z.1))
end
end
section
/-! the relation and what is owed -/
def sp_Rl (kp kn go ne : Int32) (N S D : Nat → Int32) (kn' : Int32) (N' S' R F : Nat → Int32) : Prop :=
  ∃ (e : Nat → Nat → Nat) (s : Nat → Nat) (K n : Nat), gx_H e s N S D ∧ gy_H e s N' S' ∧ K < 4096 ∧ kp = nI K ∧ (∀ a, a < 4 → sp_dg K a < sp_d e s a) ∧ (∀ a, a < 4 → R a = nI (sp_dg K a))
    ∧ (sp_det e s = (n : Int) ∧ 1 ≤ n ∧ n ≤ 625 ∧ sp_su (fun k => cond (sp_rb e s k) 1 0) 4096 = n) ∧ (kn = 0 ∨ (kn = 1 ∧ go = nI n ∧ ne = nI (sp_cd (sp_E e s)))) ∧ sp_ky e s kn' F
theorem sp_Rl_new {e : Nat → Nat → Nat} {s : Nat → Nat} {go ne : Int32} {N S D N' S' R F : Nat → Int32} (hX : gx_H e s N S D) (hY : gy_H e s N' S') (hR : ∀ a, a < 4 → R a = nI 0) :
    sp_Rl 0 0 go ne N S D 0 N' S' R F := by
  obtain ⟨n, hn⟩ := sp_count hX.1
  have h0 : ∀ a, a < 4 → sp_dg 0 a = 0 := by decide
  refine ⟨e, s, 0, n, hX, hY, by decide, rfl, fun a ha => ?_, fun a ha => ?_, hn, Or.inl rfl, Or.inl rfl⟩
  · rw [h0 a ha]
    exact (sp_H_d hX.1 ha).1
  · rw [h0 a ha]
    exact hR a ha
/-- one graph, one kept state; what either side knows of the group is right -/
def i_Rel (k : Nat) (u : SX) (v : SY) : Prop := match u, v with
  | (kp, _, kn, go, ne, N, S, D, _, _), (kn', _, N', S', R, _, F) => sp_Rl kp kn go ne N S D kn' N' S' R F
theorem i_up {k : Nat} {u : SX} {v : SY} (h : i_Rel k u v) : i_Rel (k + 4) u v := h
theorem sp_H0 : sp_H (fun _ _ => 0) (fun _ => 1) :=
  ⟨⟨fun _ _ => Nat.le_refl _, fun _ _ _ _ => rfl, fun _ _ => rfl⟩, fun _ _ _ _ => Nat.zero_le _, fun _ _ => show (1 : Nat) ≤ 2 from by decide⟩
theorem sp_nb1 : vp_nar .byte 1 = nI 1 := by rw [vp_nar_byte]; decide
theorem i_vc0 : wpX_init (fun u => wpY_init (fun v => i_Rel 0 u v)) := by
  refine loop_0 (fun n i (g : (Nat → Int32) × (Nat → Int32)) => wX_init_42 (fun u => wpY_init (fun v => i_Rel 0 u v)) 0 0 0 0 0 n (nI i) (fun _ => 0) g.1 g.2 (fun _ => 0) (fun _ => 0)) (fun i g => (∀ a, a < i → g.1 a = nI 1) ∧ ∀ a, a < i → g.2 a = nI 1) 4 ((fun _ => 0), (fun _ => 0)) ⟨fun a ha => absurd ha (Nat.not_lt_zero a), fun a ha => absurd ha (Nat.not_lt_zero a)⟩ (fun n g hg => ?_) (fun n i g hi hg ih => ?_)
  · refine br_t sp_le4 ?_
    refine loop_0 (fun n i (h : Nat → Int32) => wY_init_48 (fun v => i_Rel 0 (0, 0, 0, 0, 0, (fun _ => 0), g.1, g.2, (fun _ => 0), (fun _ => 0)) v) 0 0 n (nI i) (fun _ => 0) h (fun _ => 0) (fun _ => 0) (fun _ => 0)) (fun i h => ∀ a, a < i → h a = nI 1) 4 (fun _ => 0) (fun a ha => absurd ha (Nat.not_lt_zero a)) (fun n h hh => ?_) (fun n i h hi hh ih => ?_)
    · refine br_t sp_le4 ?_
      exact sp_Rl_new (e := fun _ _ => 0) (s := fun _ => 1) ⟨sp_H0, fun _ _ => rfl, hg.1, hg.2⟩ ⟨sp_H0, fun _ _ => rfl, hh⟩ (fun _ _ => rfl)
    · exact br_f (sp_nle4 hi) ⟨sp_in4 hi, nm_e (nm_r (nI_1 i) (ih _ (sp_fill (fun _ => nI 1) (by omega) hh)))⟩
  · exact br_f (sp_nle4 hi) ⟨sp_in4 hi, nm_r (congrArg (upd g.1 (nI i).toNatClampNeg) sp_nb1) ⟨sp_in4 hi, nm_r (congrArg (upd g.2 (nI i).toNatClampNeg) sp_nb1) (nm_r (nI_1 i) (ih (_, _) ⟨sp_fill (fun _ => nI 1) (by omega) hg.1, sp_fill (fun _ => nI 1) (by omega) hg.2⟩))⟩⟩
theorem i_vc_edge {k : Nat} {u : SX} {v : SY} (I : i_Rel k u v) (hk : k + 4 ≤ 2048) (v1 : Int32) (v2 : Int32) (v3 : Int32) : wpX_edge (fun r u' => wpY_edge (fun r' v' => r' = r ∧ i_Rel (k + 4) u' v') v v1 v2 (lw_bz v3)) u v1 v2 (lw_bz v3) := by
  obtain ⟨kp, tp, kn, go, ne, N, S, D, G, M⟩ := u
  obtain ⟨kn', tp', N', S', R, W, F⟩ := v
  obtain ⟨e, s, K, n, hX, hY, hr⟩ := I
  refine gx_edge hX (fun hn => ?_) (fun a b N1 D1 ha hb hab h1 h2 hX1 => ?_)
  · refine gy_edge hY (fun _ => ⟨rfl, e, s, K, n, hX, hY, hr⟩) (fun a b N1 R1 ha hb hab h1 h2 _ _ => absurd ⟨a, b, ha, hb, hab, h1, h2⟩ hn)
  · refine gy_edge hY (fun hn => absurd ⟨a, b, ha, hb, hab, h1, h2⟩ hn) (fun a' b' N2 R2 ha' hb' hab' h1' h2' hY2 hR2 => ⟨rfl, ?_⟩)
    have q1 : a' = a := (nI_eq (by omega) (by omega)).mp (h1'.symm.trans h1)
    have q2 : b' = b := (nI_eq (by omega) (by omega)).mp (h2'.symm.trans h2)
    subst q1 q2
    exact sp_Rl_new hX1 hY2 hR2
theorem i_vc_sink {k : Nat} {u : SX} {v : SY} (I : i_Rel k u v) (hk : k + 4 ≤ 2048) (v1 : Int32) (v2 : Int32) : wpX_sink (fun r u' => wpY_sink (fun r' v' => r' = r ∧ i_Rel (k + 4) u' v') v v1 v2) u v1 v2 := by
  obtain ⟨kp, tp, kn, go, ne, N, S, D, G, M⟩ := u
  obtain ⟨kn', tp', N', S', R, W, F⟩ := v
  obtain ⟨e, s, K, n, hX, hY, hr⟩ := I
  refine gx_sink hX (fun hn => ?_) (fun a c S1 D1 ha hc1 hc2 h1 h2 hX1 => ?_)
  · exact gy_sink hY (fun _ => ⟨rfl, e, s, K, n, hX, hY, hr⟩) (fun a c S1 R1 ha hc1 hc2 h1 h2 _ _ => absurd ⟨a, c, ha, hc1, hc2, h1, h2⟩ hn)
  · refine gy_sink hY (fun hn => absurd ⟨a, c, ha, hc1, hc2, h1, h2⟩ hn) (fun a' c' S2 R2 ha' hc1' hc2' h1' h2' hY2 hR2 => ⟨rfl, ?_⟩)
    have q1 : a' = a := (nI_eq (by omega) (by omega)).mp (h1'.symm.trans h1)
    have q2 : c' = c := (nI_eq (by omega) (by omega)).mp (h2'.symm.trans h2)
    subst q1 q2
    exact sp_Rl_new hX1 hY2 hR2
theorem i_vc_drop {k : Nat} {u : SX} {v : SY} (I : i_Rel k u v) (hk : k + 4 ≤ 2048) (v1 : Int32) (v2 : Int32) : wpX_drop (fun r u' => wpY_drop (fun r' v' => r' = r ∧ i_Rel (k + 4) u' v') v v1 v2) u v1 v2 := by
  obtain ⟨kp, tp, kn, go, ne, N, S, D, G, M⟩ := u
  obtain ⟨kn', tp', N', S', R, W, F⟩ := v
  obtain ⟨e, s, K, n, hX, hY, hK, rfl, hst, hR, hr⟩ := I
  refine gx_drop hX hK hst (fun hn => ?_) (fun a w G1 ha hw h1 h2 => ?_)
  · exact gy_drop hY hst hR (fun _ => ⟨rfl, e, s, K, n, hX, hY, hK, rfl, hst, hR, hr⟩) (fun a w _ _ ha hw h1 h2 _ => absurd ⟨a, w, ha, hw, h1, h2⟩ hn)
  · refine gy_drop hY hst hR (fun hn => absurd ⟨a, w, ha, hw, h1, h2⟩ hn) (fun a' w' R2 W2 ha' hw' h1' h2' hR2 => ?_)
    have q1 : a' = a := (nI_eq (by omega) (by omega)).mp (h1'.symm.trans h1)
    have q2 : w' = w := (nI_eq (by omega) (by omega)).mp (h2'.symm.trans h2)
    subst q1 q2
    refine ⟨rfl, e, s, _, n, hX, hY, sp_st_cd hX.1 _, rfl, fun j hj => ?_, fun j hj => ?_, hr⟩
    · rw [sp_st_dg hX.1 _ j hj]
      exact sp_st_lt hX.1.1 _ j hj
    · rw [sp_st_dg hX.1 _ j hj]
      exact hR2 j hj
theorem i_vc_state {k : Nat} {u : SX} {v : SY} (I : i_Rel k u v) (hk : k + 4 ≤ 2048) : wpX_state (fun r => wpY_state (fun r' => r' = r ∧ i_Rel (k + 4) u v) v) u := by
  obtain ⟨kp, tp, kn, go, ne, N, S, D, G, M⟩ := u
  obtain ⟨kn', tp', N', S', R, W, F⟩ := v
  have I' := I
  obtain ⟨e, s, K, n, hX, hY, hK, rfl, hst, hR, hr⟩ := I
  refine gy_written (N := N') (S := S') (R := R) (F := F) (kn := kn') (tp := tp') (post := fun r' => r' = nI K ∧ i_Rel (k + 4) (nI K, tp, kn, go, ne, N, S, D, G, M) (kn', tp', N', S', R, W, F)) hR ⟨?_, I'⟩
  rw [sp_cd_dg hK]
theorem i_vc_set {k : Nat} {u : SX} {v : SY} (I : i_Rel k u v) (hk : k + 4 ≤ 2048) (v1 : Int32) : wpX_set (fun r u' => wpY_set (fun r' v' => r' = r ∧ i_Rel (k + 4) u' v') v v1) u v1 := by
  obtain ⟨kp, tp, kn, go, ne, N, S, D, G, M⟩ := u
  obtain ⟨kn', tp', N', S', R, W, F⟩ := v
  obtain ⟨e, s, K, n, hX, hY, hr⟩ := I
  unfold wpX_set
  refine gx_isStable hX (fun hs => ?_) (fun hs => ?_)
  · refine br_f (by decide) ?_
    refine gy_set hY (fun hn => absurd hs hn) (fun j R1 hj hpj hst hR1 => ⟨rfl, e, s, j, n, hX, hY, hj, hpj, hst, hR1, hr.2.2.2.2⟩)
  · refine br_t rfl ?_
    refine gy_set hY (fun _ => ⟨rfl, e, s, K, n, hX, hY, hr⟩) (fun j R1 hj hpj hst hR1 => absurd ⟨j, hj, hpj, hst⟩ hs)
theorem i_vc_degree {k : Nat} {u : SX} {v : SY} (I : i_Rel k u v) (hk : k + 4 ≤ 2048) (v1 : Int32) : wpX_degree (fun r => wpY_degree (fun r' => r' = r ∧ i_Rel (k + 4) u v) v v1) u v1 := by
  obtain ⟨kp, tp, kn, go, ne, N, S, D, G, M⟩ := u
  obtain ⟨kn', tp', N', S', R, W, F⟩ := v
  have I' := I
  obtain ⟨e, s, K, n, hX, hY, hr⟩ := I
  unfold wpX_degree wpY_degree
  refine gx_isPlace (fun a ha hpa => ?_) (fun hp => ?_)
  · refine br_f (by decide) ?_
    subst hpa
    refine ⟨sp_in4 ha, ?_⟩
    refine gy_isPlace (fun b hb hpb => ?_) (fun hp => absurd ⟨a, ha, rfl⟩ hp)
    refine br_f (by decide) ?_
    refine gy_degreeOf hY ha ⟨?_, I'⟩
    rw [sp_cl (by omega), hX.2.2.2 a ha]
  · refine br_t rfl ?_
    refine gy_isPlace (fun b hb hpb => absurd ⟨b, hb, hpb⟩ hp) (fun _ => ?_)
    exact br_t rfl ⟨rfl, I'⟩
theorem i_vc_recurrent {k : Nat} {u : SX} {v : SY} (I : i_Rel k u v) (hk : k + 4 ≤ 2048) (v1 : Int32) : wpX_recurrent (fun r => wpY_recurrent (fun r' v' => r' = r ∧ i_Rel (k + 4) u v') v v1) u v1 := by
  obtain ⟨kp, tp, kn, go, ne, N, S, D, G, M⟩ := u
  obtain ⟨kn', tp', N', S', R, W, F⟩ := v
  obtain ⟨e, s, K, n, hX, hY, hK, hkp, hst, hR, hn, hkx, hky⟩ := I
  unfold wpY_recurrent
  refine gx_recurrent hX (fun hs => ?_) (fun hs => ?_)
  · refine gy_isRecurrent hY hky (fun t W1 F1 hF1 _ => ?_) (fun t W1 F1 hF1 hn => absurd hs hn)
    exact ⟨rfl, rfl, e, s, K, n, hX, hY, hK, hkp, hst, hR, hn, hkx, Or.inr ⟨rfl, hF1⟩⟩
  · refine gy_isRecurrent hY hky (fun t W1 F1 hF1 hn => absurd hn hs) (fun t W1 F1 hF1 _ => ?_)
    exact ⟨rfl, rfl, e, s, K, n, hX, hY, hK, hkp, hst, hR, hn, hkx, Or.inr ⟨rfl, hF1⟩⟩
theorem i_vc_order {k : Nat} {u : SX} {v : SY} (I : i_Rel k u v) (hk : k + 4 ≤ 2048) : wpX_order (fun r u' => wpY_order (fun r' v' => r' = r ∧ i_Rel (k + 4) u' v') v) u := by
  obtain ⟨kp, tp, kn, go, ne, N, S, D, G, M⟩ := u
  obtain ⟨kn', tp', N', S', R, W, F⟩ := v
  obtain ⟨e, s, K, n, hX, hY, hK, hkp, hst, hR, hn, hkx, hky⟩ := I
  unfold wpX_order
  refine gx_learn hX hn.1 hkx (fun t G1 M1 => ?_)
  refine gy_order hY hky hn.2.2.2 (fun t' W1 F1 hF1 => ?_)
  exact ⟨rfl, e, s, K, n, hX, hY, hK, hkp, hst, hR, hn, Or.inr ⟨rfl, rfl, rfl⟩, Or.inr ⟨rfl, hF1⟩⟩
theorem i_vc_neutral {k : Nat} {u : SX} {v : SY} (I : i_Rel k u v) (hk : k + 4 ≤ 2048) : wpX_neutral (fun r u' => wpY_neutral (fun r' v' => r' = r ∧ i_Rel (k + 4) u' v') v) u := by
  obtain ⟨kp, tp, kn, go, ne, N, S, D, G, M⟩ := u
  obtain ⟨kn', tp', N', S', R, W, F⟩ := v
  obtain ⟨e, s, K, n, hX, hY, hK, hkp, hst, hR, hn, hkx, hky⟩ := I
  unfold wpX_neutral wpY_neutral
  refine gx_learn hX hn.1 hkx (fun t G1 M1 => ?_)
  refine gy_neutralState hY hky (fun t' W1 F1 hF1 => ?_)
  exact ⟨rfl, e, s, K, n, hX, hY, hK, hkp, hst, hR, hn, Or.inr ⟨rfl, rfl, rfl⟩, Or.inr ⟨rfl, hF1⟩⟩
theorem i_vc_opposite {k : Nat} {u : SX} {v : SY} (I : i_Rel k u v) (hk : k + 4 ≤ 2048) (v1 : Int32) : wpX_opposite (fun r u' => wpY_opposite (fun r' v' => r' = r ∧ i_Rel (k + 4) u' v') v v1) u v1 := by
  obtain ⟨kp, tp, kn, go, ne, N, S, D, G, M⟩ := u
  obtain ⟨kn', tp', N', S', R, W, F⟩ := v
  obtain ⟨e, s, K, n, hX, hY, hK, hkp, hst, hR, hn, hkx, hky⟩ := I
  refine gx_opposite hX hn.1 hkx (fun hs => ?_) (fun j t G1 M1 hj hpj hRj => ?_)
  · refine gy_opposite hY hky (fun t' W1 F1 hF1 _ => ?_) (fun j t' W1 F1 hF1 hj hpj hRj => absurd ⟨j, hj, hpj, hRj⟩ hs)
    exact ⟨rfl, e, s, K, n, hX, hY, hK, hkp, hst, hR, hn, hkx, Or.inr ⟨rfl, hF1⟩⟩
  · refine gy_opposite hY hky (fun t' W1 F1 hF1 hs => absurd ⟨j, hj, hpj, hRj⟩ hs) (fun j' t' W1 F1 hF1 hj' hpj' hRj' => ?_)
    have q1 : j' = j := (nI_eq (by omega) (by omega)).mp (hpj'.symm.trans hpj)
    subst q1
    exact ⟨rfl, e, s, K, n, hX, hY, hK, hkp, hst, hR, hn, Or.inr ⟨rfl, rfl, rfl⟩, Or.inr ⟨rfl, hF1⟩⟩
theorem i_vc_groupSum {k : Nat} {u : SX} {v : SY} (I : i_Rel k u v) (hk : k + 4 ≤ 2048) (v1 : Int32) (v2 : Int32) : wpX_groupSum (fun r u' => wpY_groupSum (fun r' v' => r' = r ∧ i_Rel (k + 4) u' v') v v1 v2) u v1 v2 := by
  obtain ⟨kp, tp, kn, go, ne, N, S, D, G, M⟩ := u
  obtain ⟨kn', tp', N', S', R, W, F⟩ := v
  obtain ⟨e, s, K, n, hX, hY, hr⟩ := I
  refine gx_groupSum hX (fun hs => ?_) (fun i j t G1 hi hj hpi hpj hs1 hs2 => ?_)
  · unfold wpY_groupSum
    refine gy_isStable hY (fun h1 => ?_) (fun h1 => ?_)
    · refine br_f (by decide) ?_
      refine gy_isStable hY (fun h2 => absurd ⟨h1, h2⟩ hs) (fun h2 => ?_)
      exact br_t rfl ⟨rfl, e, s, K, n, hX, hY, hr⟩
    · exact br_t rfl ⟨rfl, e, s, K, n, hX, hY, hr⟩
  · refine gy_groupSum hY (fun h => absurd ⟨hs1, hs2⟩ h) (fun i' j' t' W1 hi' hj' hpi' hpj' => ?_)
    have q1 : i' = i := (nI_eq (by omega) (by omega)).mp (hpi'.symm.trans hpi)
    have q2 : j' = j := (nI_eq (by omega) (by omega)).mp (hpj'.symm.trans hpj)
    subst q1 q2
    exact ⟨rfl, e, s, K, n, hX, hY, hr⟩
theorem i_vc_orderOf {k : Nat} {u : SX} {v : SY} (I : i_Rel k u v) (hk : k + 4 ≤ 2048) (v1 : Int32) : wpX_orderOf (fun r u' => wpY_orderOf (fun r' v' => r' = r ∧ i_Rel (k + 4) u' v') v v1) u v1 := by
  obtain ⟨kp, tp, kn, go, ne, N, S, D, G, M⟩ := u
  obtain ⟨kn', tp', N', S', R, W, F⟩ := v
  obtain ⟨e, s, K, n, hX, hY, hK, hkp, hst, hR, hn, hkx, hky⟩ := I
  refine gx_orderOf hX hn.1 hn.2.1 hn.2.2.1 hkx (fun hs => ?_) (fun j d t G1 M1 hj hpj hRj hd1 hd2 hd => ?_)
  · refine gy_orderOf hY hky (fun t' W1 F1 hF1 _ => ?_) (fun j hj hpj hRj => absurd ⟨j, hj, hpj, hRj⟩ hs)
    exact ⟨rfl, e, s, K, n, hX, hY, hK, hkp, hst, hR, hn, hkx, Or.inr ⟨rfl, hF1⟩⟩
  · refine gy_orderOf hY hky (fun t' W1 F1 hF1 hs => absurd ⟨j, hj, hpj, hRj⟩ hs) (fun j' hj' hpj' hRj' => ?_)
    have q1 : j' = j := (nI_eq (by omega) (by omega)).mp (hpj'.symm.trans hpj)
    subst q1
    have hn2 := hn.2.2.1
    refine ⟨d, hd1, by omega, hd, fun t' W1 F1 hF1 => ?_⟩
    exact ⟨rfl, e, s, K, n, hX, hY, hK, hkp, hst, hR, hn, Or.inr ⟨rfl, rfl, rfl⟩, Or.inr ⟨rfl, hF1⟩⟩
theorem i_vc_recurrentOf {k : Nat} {u : SX} {v : SY} (I : i_Rel k u v) (hk : k + 4 ≤ 2048) (v1 : Int32) : wpX_recurrentOf (fun r u' => wpY_recurrentOf (fun r' v' => r' = r ∧ i_Rel (k + 4) u' v') v v1) u v1 := by
  obtain ⟨kp, tp, kn, go, ne, N, S, D, G, M⟩ := u
  obtain ⟨kn', tp', N', S', R, W, F⟩ := v
  obtain ⟨e, s, K, n, hX, hY, hK, hkp, hst, hR, hn, hkx, hky⟩ := I
  refine gx_recurrentOf hX hn.1 hkx (fun hs => ?_) (fun j t G1 M1 hj hpj hsj => ?_)
  · refine gy_recurrentOf hY hky (fun _ => ⟨rfl, e, s, K, n, hX, hY, hK, hkp, hst, hR, hn, hkx, hky⟩) (fun j t' W1 F1 hF1 hj hpj hs2 => absurd hs2 hs)
  · refine gy_recurrentOf hY hky (fun hs => absurd ⟨j, hj, hpj, hsj⟩ hs) (fun j' t' W1 F1 hF1 hj' hpj' _ => ?_)
    have q1 : j' = j := (nI_eq (by omega) (by omega)).mp (hpj'.symm.trans hpj)
    subst q1
    refine ⟨congrArg nI (sp_cd_congr (sp_st_congr hX.1.1 (fun a _ => Nat.add_comm _ _))), e, s, K, n, hX, hY, hK, hkp, hst, hR, hn, Or.inr ⟨rfl, rfl, rfl⟩, Or.inr ⟨rfl, hF1⟩⟩
end
