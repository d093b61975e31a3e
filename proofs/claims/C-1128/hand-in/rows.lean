section
/-! pure rows to paste: stores, nI and lN arithmetic, masks, shifts, narrowing, branches by naturals (pk_le, pk_lt, pk_eq), loops (lp1 .. lp16: the measure of the state; rp1 ..: recursion), negatives. Take what you need -/
theorem pk_us {f : Nat → Int32} {k : Nat} {x : Int32} : upd f k x k = x := if_pos rfl
theorem pk_un {f : Nat → Int32} {k j : Nat} {x : Int32} (h : j ≠ k) : upd f k x j = f j := if_neg h
theorem pk_uLs {f : Nat → Int64} {k : Nat} {x : Int64} : vp_updL f k x k = x := if_pos rfl
theorem pk_uLn {f : Nat → Int64} {k j : Nat} {x : Int64} (h : j ≠ k) : vp_updL f k x j = f j := if_neg h
theorem pk_sub {a b : Nat} (h : b ≤ a) : nI a - nI b = nI (a - b) := by
  obtain ⟨c, rfl⟩ : ∃ c, a = c + b := ⟨a - b, by omega⟩
  rw [← nI_add, Int32.add_sub_cancel, Nat.add_sub_cancel]
theorem pk_m1 (n : Nat) : nI (n + 1) + (-1) = nI n := by
  rw [← nI_1, Int32.add_assoc, show (1 : Int32) + (-1) = 0 from rfl, Int32.add_zero]
theorem pk_mul (a b : Nat) : nI a * nI b = nI (a * b) := (Int32.ofNat_mul a b).symm
theorem pk_div {a d : Nat} (ha : a < 2 ^ 31) (h0 : 0 < d) (hd : d < 2 ^ 31) : nI a / nI d = nI (a / d) := by
  apply Int32.toInt_inj.mp
  rw [lg_idiv_nonneg (by rw [nI_toInt ha]; omega) (by rw [nI_toInt hd]; omega), nI_toInt ha, nI_toInt hd, nI_toInt (Nat.lt_of_le_of_lt (Nat.div_le_self a d) ha)]
  first | rfl | exact (Int.natCast_ediv _ _).symm
theorem pk_rem {a d : Nat} (ha : a < 2 ^ 31) (h0 : 0 < d) (hd : d < 2 ^ 31) : nI a - nI a / nI d * nI d = nI (a % d) := by
  rw [pk_div ha h0 hd, pk_mul, pk_sub (Nat.div_mul_le_self a d)]
  exact congrArg nI (by have := Nat.div_add_mod' a d; omega)
theorem pk_sub_toInt {a b : Nat} (ha : a < 2 ^ 30) (hb : b < 2 ^ 30) : (nI a - nI b).toInt = (a : Int) - b := by
  rw [Int32.toInt_sub, nI_toInt (by omega), nI_toInt (by omega)]
  exact Int.bmod_eq_of_le (by omega) (by omega)
theorem pk_sneg {a b : Nat} (hb : b < 2 ^ 30) (h : a < b) : nI a - nI b < 0 := by
  rw [Int32.lt_iff_toInt_lt, pk_sub_toInt (by omega) hb, show (0 : Int32).toInt = 0 from by decide]
  omega
theorem pk_ix (x : Int32) {n : Nat} (hn : n < 2 ^ 31) : x < 0 ∨ nI n ≤ x ∨ ∃ j : Nat, j < n ∧ x = nI j := by
  by_cases h : x < 0
  · exact Or.inl h
  · obtain ⟨j, hj, rfl⟩ := nI_of h
    by_cases h2 : j < n
    · exact Or.inr (Or.inr ⟨j, h2, rfl⟩)
    · exact Or.inr (Or.inl (nI_le (by omega) hj))
theorem pk_le {x y : Int32} {A B : Prop} (a b : Nat) (f : a ≤ b → A) (g : b < a → B) (hx : x = nI a := by rfl) (hy : y = nI b := by rfl) (ha : a < 2 ^ 31 := by omega) (hb : b < 2 ^ 31 := by omega) : (x ≤ y → A) ∧ (¬ x ≤ y → B) := by
  subst hx hy
  rw [nI_leI ha hb]
  exact ⟨f, fun z => g (by omega)⟩
theorem pk_lt {x y : Int32} {A B : Prop} (a b : Nat) (f : a < b → A) (g : b ≤ a → B) (hx : x = nI a := by rfl) (hy : y = nI b := by rfl) (ha : a < 2 ^ 31 := by omega) (hb : b < 2 ^ 31 := by omega) : (x < y → A) ∧ (¬ x < y → B) := by
  subst hx hy
  rw [nI_ltI ha hb]
  exact ⟨f, fun z => g (by omega)⟩
theorem pk_eq {x y : Int32} {A B : Prop} (a b : Nat) (f : a = b → A) (g : a ≠ b → B) (hx : x = nI a := by rfl) (hy : y = nI b := by rfl) (ha : a < 2 ^ 31 := by omega) (hb : b < 2 ^ 31 := by omega) : (x = y → A) ∧ (¬ x = y → B) := by
  subst hx hy
  rw [nI_eq ha hb]
  exact ⟨f, g⟩
theorem pk_in {x : Int32} (n N : Nat) (h : n < N) (hx : x = nI n := by rfl) (hN : N < 2 ^ 31 := by omega) : vp_in x N := by
  subst hx
  exact vp_in_nI h hN
theorem pk_cl {x : Int32} (n : Nat) (hx : x = nI n := by rfl) (h : n < 2 ^ 31 := by omega) : x.toNatClampNeg = n := by
  subst hx
  exact nI_clamp h
theorem pk_tn {n : Nat} (h : n < 2 ^ 32) : (nI n).toBitVec.toNat = n := Nat.mod_eq_of_lt h
theorem pk_and (x : Int32) {m : Int32} (k : Nat) (hm : m.toBitVec.toNat = 2 ^ k - 1) : x &&& m = nI (x.toBitVec.toNat % 2 ^ k) := by
  apply Int32.toBitVec_inj.mp
  apply BitVec.eq_of_toNat_eq
  rw [Int32.toBitVec_and, BitVec.toNat_and, hm, Nat.and_two_pow_sub_one_eq_mod]
  show _ = (BitVec.ofNat 32 _).toNat
  rw [BitVec.toNat_ofNat]
  exact (Nat.mod_eq_of_lt (Nat.lt_of_le_of_lt (Nat.mod_le _ _) x.toBitVec.isLt)).symm
theorem pk_andN {n : Nat} (h : n < 2 ^ 32) {m : Int32} (k : Nat) (hm : m.toBitVec.toNat = 2 ^ k - 1) : nI n &&& m = nI (n % 2 ^ k) := by
  rw [pk_and _ k hm, pk_tn h]
theorem pk_andE (x : Int32) {m : Int32} (k : Nat) (hm : m.toBitVec.toNat = 2 ^ k - 1) : ∃ j : Nat, j < 2 ^ k ∧ x &&& m = nI j := ⟨_, Nat.mod_lt _ (Nat.two_pow_pos k), pk_and x k hm⟩
theorem pk_andIn (x : Int32) {m : Int32} (k : Nat) (hm : m.toBitVec.toNat = 2 ^ k - 1) (hk : k ≤ 30) : vp_in (x &&& m) (2 ^ k) := by
  obtain ⟨j, hj, e⟩ := pk_andE x k hm
  rw [e]
  exact vp_in_nI hj (Nat.lt_of_le_of_lt (Nat.pow_le_pow_right (by decide) hk) (by decide))
theorem pk_shl (a s : Int32) (k : Nat) (hs : (s.toBitVec.smod 32).toNat = k) : (a <<< s).toBitVec.toNat = a.toBitVec.toNat * 2 ^ k % 2 ^ 32 := by
  show (a.toBitVec <<< (s.toBitVec.smod 32).toNat).toNat = _
  rw [hs, BitVec.toNat_shiftLeft, Nat.shiftLeft_eq]
theorem pk_shlN {n : Nat} (s : Int32) (k : Nat) (hs : (s.toBitVec.smod 32).toNat = k) (h : n * 2 ^ k < 2 ^ 32) : nI n <<< s = nI (n * 2 ^ k) := by
  apply Int32.toBitVec_inj.mp
  apply BitVec.eq_of_toNat_eq
  have hn : n < 2 ^ 32 := Nat.lt_of_le_of_lt (Nat.le_mul_of_pos_right n (Nat.two_pow_pos k)) h
  rw [pk_shl _ _ k hs, pk_tn hn, pk_tn h, Nat.mod_eq_of_lt h]
theorem pk_shr (a s : Int32) (k : Nat) (hs : (s.toBitVec.smod 32).toNat = k) : (a >>> s).toInt = a.toInt >>> k := by
  show (a.toBitVec.sshiftRight (s.toBitVec.smod 32).toNat).toInt = _
  rw [hs, BitVec.toInt_sshiftRight]
  rfl
theorem pk_shrN {n : Nat} (h : n < 2 ^ 31) (s : Int32) (k : Nat) (hs : (s.toBitVec.smod 32).toNat = k) : nI n >>> s = nI (n / 2 ^ k) := by
  apply Int32.toInt_inj.mp
  have h2 : n / 2 ^ k ≤ n := Nat.div_le_self _ _
  rw [pk_shr _ _ k hs, nI_toInt h, nI_toInt (by omega), Int.shiftRight_eq_div_pow]
  rfl
theorem pk_ushr (x s : Int32) (k : Nat) (hs : ((s.toUInt32 &&& Int32.toUInt32 31).toBitVec % 32).toNat = k) : (x.toUInt32 >>> (s.toUInt32 &&& Int32.toUInt32 31)).toInt32.toBitVec.toNat = x.toBitVec.toNat / 2 ^ k := by
  have e : (x.toUInt32 >>> (s.toUInt32 &&& Int32.toUInt32 31)).toInt32.toBitVec = x.toBitVec >>> k := by
    rw [← hs]
    exact UInt32.toBitVec_shiftRight _ _
  rw [e, BitVec.toNat_ushiftRight, Nat.shiftRight_eq_div_pow]
theorem pk_ushrN {n : Nat} (hn : n < 2 ^ 32) (s : Int32) (k : Nat) (hs : ((s.toUInt32 &&& Int32.toUInt32 31).toBitVec % 32).toNat = k) : ((nI n).toUInt32 >>> (s.toUInt32 &&& Int32.toUInt32 31)).toInt32 = nI (n / 2 ^ k) := by
  apply Int32.toBitVec_inj.mp
  apply BitVec.eq_of_toNat_eq
  rw [pk_ushr _ s k hs, pk_tn hn, pk_tn (Nat.lt_of_le_of_lt (Nat.div_le_self _ _) hn)]
theorem pk_nb (z : Int32) : narrow .byte (.int z.toInt8.toInt32) = .int z.toInt8.toInt32 := congrArg Value.int (by simp)
theorem pk_ns (z : Int32) : narrow .short (.int z.toInt16.toInt32) = .int z.toInt16.toInt32 := congrArg Value.int (by simp)
theorem pk_fb (r : Int32) : fits .byte (.int r.toInt8.toInt32) = true := by
  have ⟨a, b⟩ := lg_i2b_range r
  have h1 : (-128 : Int32).toInt = -128 := by decide
  have h2 : (127 : Int32).toInt = 127 := by decide
  simp only [fits, Bool.and_eq_true, decide_eq_true_eq, Int32.le_iff_toInt_le, h1, h2]
  omega
theorem pk_fs (r : Int32) : fits .short (.int r.toInt16.toInt32) = true := by
  have ⟨a, b⟩ := lg_i2s_range r
  have h1 : (-32768 : Int32).toInt = -32768 := by decide
  have h2 : (32767 : Int32).toInt = 32767 := by decide
  simp only [fits, Bool.and_eq_true, decide_eq_true_eq, Int32.le_iff_toInt_le, h1, h2]
  omega
theorem pk_charN {q : Nat} (hq : q < 65536) : narrow .char (.int (nI q)) = .int (nI q) ∧ fits .char (.int (nI q)) = true := by
  constructor
  · have e : (nI q).toUInt32.toUInt16.toUInt32.toInt32 = nI q := by
      apply Int32.toBitVec_inj.mp
      apply BitVec.eq_of_toNat_eq
      show (nI q).toUInt32.toUInt16.toUInt32.toNat = q % 2 ^ 32
      rw [UInt16.toNat_toUInt32, UInt32.toNat_toUInt16, show (nI q).toUInt32.toNat = q % 2 ^ 32 from rfl]
      omega
    exact congrArg Value.int e
  · have a : (0 : Int32) ≤ nI q := nI_pos' (by omega)
    have b : nI q ≤ 65535 := nI_le (b := 65535) (by omega) (by decide)
    show (decide ((0 : Int32) ≤ nI q) && decide (nI q ≤ 65535)) = true
    rw [decide_eq_true a, decide_eq_true b]
    rfl
theorem pk_char (x : Int32) : (x.toUInt32 % 65536).toInt32 = nI (x.toBitVec.toNat % 65536) := by
  apply Int32.toBitVec_inj.mp
  apply BitVec.eq_of_toNat_eq
  rw [pk_tn (by omega)]
  show (x.toUInt32 % 65536).toNat = _
  rw [UInt32.toNat_mod]
  rfl
theorem pk_nc (x : Int32) : narrow .char (.int (x.toUInt32 % 65536).toInt32) = .int (x.toUInt32 % 65536).toInt32 := by
  rw [pk_char]
  exact (pk_charN (Nat.mod_lt _ (by decide))).1
theorem pk_fc (x : Int32) : fits .char (.int (x.toUInt32 % 65536).toInt32) = true := by
  rw [pk_char]
  exact (pk_charN (Nat.mod_lt _ (by decide))).2
theorem pk_vb (z : Int32) : vp_nar .byte z.toInt8.toInt32 = z.toInt8.toInt32 := by rw [vp_nar_byte]; simp
theorem pk_vs (z : Int32) : vp_nar .short z.toInt16.toInt32 = z.toInt16.toInt32 := by rw [vp_nar_short]; simp
theorem pk_vc (z : Int32) : vp_nar .char (z.toUInt32 % 65536).toInt32 = (z.toUInt32 % 65536).toInt32 := Value.int.inj (pk_nc z)
theorem pk_lT {n : Nat} (h : n < 2 ^ 63) : (lN n).toInt = (n : Int) := lg_ofNat_toInt h
theorem pk_lLT {a b : Nat} (ha : a < 2 ^ 63) (hb : b < 2 ^ 63) : lN a < lN b ↔ a < b := by
  rw [Int64.lt_iff_toInt_lt, pk_lT ha, pk_lT hb]; omega
theorem pk_lLE {a b : Nat} (ha : a < 2 ^ 63) (hb : b < 2 ^ 63) : lN a ≤ lN b ↔ a ≤ b := by
  rw [Int64.le_iff_toInt_le, pk_lT ha, pk_lT hb]; omega
theorem pk_lEQ {a b : Nat} (ha : a < 2 ^ 63) (hb : b < 2 ^ 63) : lN a = lN b ↔ a = b := by
  rw [← Int64.toInt_inj, pk_lT ha, pk_lT hb]; omega
theorem pk_lOf {x : Int64} (h : ¬ x < 0) : ∃ k : Nat, k < 2 ^ 63 ∧ x = lN k := by
  rw [Int64.lt_iff_toInt_lt] at h
  have h0 : (0 : Int64).toInt = 0 := by decide
  have hx := Int64.toInt_lt x
  refine ⟨x.toInt.toNat, by omega, Int64.toInt_inj.mp ?_⟩
  rw [pk_lT (by omega)]
  omega
theorem pk_lDiv {a b : Nat} (ha : a < 2 ^ 63) (h0 : 0 < b) (hb : b < 2 ^ 63) : lN a / lN b = lN (a / b) := by
  apply Int64.toInt_inj.mp
  rw [lg_ldiv_nonneg (by rw [pk_lT ha]; omega) (by rw [pk_lT hb]; omega), pk_lT ha, pk_lT hb, pk_lT (Nat.lt_of_le_of_lt (Nat.div_le_self a b) ha)]
  rfl
theorem pk_lRem {a b : Nat} (ha : a < 2 ^ 63) (h0 : 0 < b) (hb : b < 2 ^ 63) : lN a - lN a / lN b * lN b = lN (a % b) := by
  rw [pk_lDiv ha h0 hb, lN_mul, lN_sub (Nat.div_mul_le_self a b)]
  exact congrArg lN (by have := Nat.div_add_mod' a b; omega)
theorem pk_loop {σ : Type} (W : Nat → Nat → σ → Prop) (I : Nat → σ → Prop) (e i0 : Nat) (s : σ) (hi : i0 ≤ e) (h0 : I i0 s) (hx : ∀ n s, I e s → W (n + 1) e s)
    (hs : ∀ n i s, i < e → I i s → (∀ s', I (i + 1) s' → W n (i + 1) s') → W (n + 1) i s) : ∃ n, W n i0 s :=
  ⟨e + 1, loop_i W I e hx hs (e + 1) i0 s hi (by omega) h0⟩
theorem pk_loopD {σ : Type} (W : Nat → Nat → σ → Prop) (I : Nat → σ → Prop) (hx : ∀ n s, I 0 s → W (n + 1) 0 s)
    (hs : ∀ n i s, I (i + 1) s → (∀ s', I i s' → W n i s') → W (n + 1) (i + 1) s) : ∀ (e : Nat) (s : σ), I e s → W (e + 1) e s := by
  intro e
  induction e with
  | zero => exact fun s h => hx 0 s h
  | succ e ih => exact fun s h => hs (e + 1) e s h (fun s' h' => ih s' h')
theorem lp1 {A1 : Type} (W : Nat → A1 → Prop) (I : A1 → Prop) (μ : A1 → Nat) (hs : ∀ (n : Nat) (a1 : A1), I a1 → (∀ (b1 : A1), I b1 → μ b1 < μ a1 → W n b1) → W (n + 1) a1) (a1 : A1) (h : I a1) : ∃ n, W n a1 :=
  loop_m (σ := A1) (fun n s => W n s) (fun s => I s) (fun s => μ s) (fun n s hI hk => hs n s hI (fun b1 h9 hm => hk b1 h9 hm)) a1 h
theorem lp2 {A1 A2 : Type} (W : Nat → A1 → A2 → Prop) (I : A1 → A2 → Prop) (μ : A1 → A2 → Nat) (hs : ∀ (n : Nat) (a1 : A1) (a2 : A2), I a1 a2 → (∀ (b1 : A1) (b2 : A2), I b1 b2 → μ b1 b2 < μ a1 a2 → W n b1 b2) → W (n + 1) a1 a2) (a1 : A1) (a2 : A2) (h : I a1 a2) : ∃ n, W n a1 a2 :=
  loop_m (σ := A1 × A2) (fun n s => W n s.1 s.2) (fun s => I s.1 s.2) (fun s => μ s.1 s.2) (fun n s hI hk => hs n s.1 s.2 hI (fun b1 b2 h9 hm => hk (b1, b2) h9 hm)) (a1, a2) h
theorem lp3 {A1 A2 A3 : Type} (W : Nat → A1 → A2 → A3 → Prop) (I : A1 → A2 → A3 → Prop) (μ : A1 → A2 → A3 → Nat) (hs : ∀ (n : Nat) (a1 : A1) (a2 : A2) (a3 : A3), I a1 a2 a3 → (∀ (b1 : A1) (b2 : A2) (b3 : A3), I b1 b2 b3 → μ b1 b2 b3 < μ a1 a2 a3 → W n b1 b2 b3) → W (n + 1) a1 a2 a3) (a1 : A1) (a2 : A2) (a3 : A3) (h : I a1 a2 a3) : ∃ n, W n a1 a2 a3 :=
  loop_m (σ := A1 × A2 × A3) (fun n s => W n s.1 s.2.1 s.2.2) (fun s => I s.1 s.2.1 s.2.2) (fun s => μ s.1 s.2.1 s.2.2) (fun n s hI hk => hs n s.1 s.2.1 s.2.2 hI (fun b1 b2 b3 h9 hm => hk (b1, b2, b3) h9 hm)) (a1, a2, a3) h
theorem lp4 {A1 A2 A3 A4 : Type} (W : Nat → A1 → A2 → A3 → A4 → Prop) (I : A1 → A2 → A3 → A4 → Prop) (μ : A1 → A2 → A3 → A4 → Nat) (hs : ∀ (n : Nat) (a1 : A1) (a2 : A2) (a3 : A3) (a4 : A4), I a1 a2 a3 a4 → (∀ (b1 : A1) (b2 : A2) (b3 : A3) (b4 : A4), I b1 b2 b3 b4 → μ b1 b2 b3 b4 < μ a1 a2 a3 a4 → W n b1 b2 b3 b4) → W (n + 1) a1 a2 a3 a4) (a1 : A1) (a2 : A2) (a3 : A3) (a4 : A4) (h : I a1 a2 a3 a4) : ∃ n, W n a1 a2 a3 a4 :=
  loop_m (σ := A1 × A2 × A3 × A4) (fun n s => W n s.1 s.2.1 s.2.2.1 s.2.2.2) (fun s => I s.1 s.2.1 s.2.2.1 s.2.2.2) (fun s => μ s.1 s.2.1 s.2.2.1 s.2.2.2) (fun n s hI hk => hs n s.1 s.2.1 s.2.2.1 s.2.2.2 hI (fun b1 b2 b3 b4 h9 hm => hk (b1, b2, b3, b4) h9 hm)) (a1, a2, a3, a4) h
theorem lp5 {A1 A2 A3 A4 A5 : Type} (W : Nat → A1 → A2 → A3 → A4 → A5 → Prop) (I : A1 → A2 → A3 → A4 → A5 → Prop) (μ : A1 → A2 → A3 → A4 → A5 → Nat) (hs : ∀ (n : Nat) (a1 : A1) (a2 : A2) (a3 : A3) (a4 : A4) (a5 : A5), I a1 a2 a3 a4 a5 → (∀ (b1 : A1) (b2 : A2) (b3 : A3) (b4 : A4) (b5 : A5), I b1 b2 b3 b4 b5 → μ b1 b2 b3 b4 b5 < μ a1 a2 a3 a4 a5 → W n b1 b2 b3 b4 b5) → W (n + 1) a1 a2 a3 a4 a5) (a1 : A1) (a2 : A2) (a3 : A3) (a4 : A4) (a5 : A5) (h : I a1 a2 a3 a4 a5) : ∃ n, W n a1 a2 a3 a4 a5 :=
  loop_m (σ := A1 × A2 × A3 × A4 × A5) (fun n s => W n s.1 s.2.1 s.2.2.1 s.2.2.2.1 s.2.2.2.2) (fun s => I s.1 s.2.1 s.2.2.1 s.2.2.2.1 s.2.2.2.2) (fun s => μ s.1 s.2.1 s.2.2.1 s.2.2.2.1 s.2.2.2.2) (fun n s hI hk => hs n s.1 s.2.1 s.2.2.1 s.2.2.2.1 s.2.2.2.2 hI (fun b1 b2 b3 b4 b5 h9 hm => hk (b1, b2, b3, b4, b5) h9 hm)) (a1, a2, a3, a4, a5) h
theorem lp6 {A1 A2 A3 A4 A5 A6 : Type} (W : Nat → A1 → A2 → A3 → A4 → A5 → A6 → Prop) (I : A1 → A2 → A3 → A4 → A5 → A6 → Prop) (μ : A1 → A2 → A3 → A4 → A5 → A6 → Nat) (hs : ∀ (n : Nat) (a1 : A1) (a2 : A2) (a3 : A3) (a4 : A4) (a5 : A5) (a6 : A6), I a1 a2 a3 a4 a5 a6 → (∀ (b1 : A1) (b2 : A2) (b3 : A3) (b4 : A4) (b5 : A5) (b6 : A6), I b1 b2 b3 b4 b5 b6 → μ b1 b2 b3 b4 b5 b6 < μ a1 a2 a3 a4 a5 a6 → W n b1 b2 b3 b4 b5 b6) → W (n + 1) a1 a2 a3 a4 a5 a6) (a1 : A1) (a2 : A2) (a3 : A3) (a4 : A4) (a5 : A5) (a6 : A6) (h : I a1 a2 a3 a4 a5 a6) : ∃ n, W n a1 a2 a3 a4 a5 a6 :=
  loop_m (σ := A1 × A2 × A3 × A4 × A5 × A6) (fun n s => W n s.1 s.2.1 s.2.2.1 s.2.2.2.1 s.2.2.2.2.1 s.2.2.2.2.2) (fun s => I s.1 s.2.1 s.2.2.1 s.2.2.2.1 s.2.2.2.2.1 s.2.2.2.2.2) (fun s => μ s.1 s.2.1 s.2.2.1 s.2.2.2.1 s.2.2.2.2.1 s.2.2.2.2.2) (fun n s hI hk => hs n s.1 s.2.1 s.2.2.1 s.2.2.2.1 s.2.2.2.2.1 s.2.2.2.2.2 hI (fun b1 b2 b3 b4 b5 b6 h9 hm => hk (b1, b2, b3, b4, b5, b6) h9 hm)) (a1, a2, a3, a4, a5, a6) h
theorem lp7 {A1 A2 A3 A4 A5 A6 A7 : Type} (W : Nat → A1 → A2 → A3 → A4 → A5 → A6 → A7 → Prop) (I : A1 → A2 → A3 → A4 → A5 → A6 → A7 → Prop) (μ : A1 → A2 → A3 → A4 → A5 → A6 → A7 → Nat) (hs : ∀ (n : Nat) (a1 : A1) (a2 : A2) (a3 : A3) (a4 : A4) (a5 : A5) (a6 : A6) (a7 : A7), I a1 a2 a3 a4 a5 a6 a7 → (∀ (b1 : A1) (b2 : A2) (b3 : A3) (b4 : A4) (b5 : A5) (b6 : A6) (b7 : A7), I b1 b2 b3 b4 b5 b6 b7 → μ b1 b2 b3 b4 b5 b6 b7 < μ a1 a2 a3 a4 a5 a6 a7 → W n b1 b2 b3 b4 b5 b6 b7) → W (n + 1) a1 a2 a3 a4 a5 a6 a7) (a1 : A1) (a2 : A2) (a3 : A3) (a4 : A4) (a5 : A5) (a6 : A6) (a7 : A7) (h : I a1 a2 a3 a4 a5 a6 a7) : ∃ n, W n a1 a2 a3 a4 a5 a6 a7 :=
  loop_m (σ := A1 × A2 × A3 × A4 × A5 × A6 × A7) (fun n s => W n s.1 s.2.1 s.2.2.1 s.2.2.2.1 s.2.2.2.2.1 s.2.2.2.2.2.1 s.2.2.2.2.2.2) (fun s => I s.1 s.2.1 s.2.2.1 s.2.2.2.1 s.2.2.2.2.1 s.2.2.2.2.2.1 s.2.2.2.2.2.2) (fun s => μ s.1 s.2.1 s.2.2.1 s.2.2.2.1 s.2.2.2.2.1 s.2.2.2.2.2.1 s.2.2.2.2.2.2) (fun n s hI hk => hs n s.1 s.2.1 s.2.2.1 s.2.2.2.1 s.2.2.2.2.1 s.2.2.2.2.2.1 s.2.2.2.2.2.2 hI (fun b1 b2 b3 b4 b5 b6 b7 h9 hm => hk (b1, b2, b3, b4, b5, b6, b7) h9 hm)) (a1, a2, a3, a4, a5, a6, a7) h
theorem lp8 {A1 A2 A3 A4 A5 A6 A7 A8 : Type} (W : Nat → A1 → A2 → A3 → A4 → A5 → A6 → A7 → A8 → Prop) (I : A1 → A2 → A3 → A4 → A5 → A6 → A7 → A8 → Prop) (μ : A1 → A2 → A3 → A4 → A5 → A6 → A7 → A8 → Nat) (hs : ∀ (n : Nat) (a1 : A1) (a2 : A2) (a3 : A3) (a4 : A4) (a5 : A5) (a6 : A6) (a7 : A7) (a8 : A8), I a1 a2 a3 a4 a5 a6 a7 a8 → (∀ (b1 : A1) (b2 : A2) (b3 : A3) (b4 : A4) (b5 : A5) (b6 : A6) (b7 : A7) (b8 : A8), I b1 b2 b3 b4 b5 b6 b7 b8 → μ b1 b2 b3 b4 b5 b6 b7 b8 < μ a1 a2 a3 a4 a5 a6 a7 a8 → W n b1 b2 b3 b4 b5 b6 b7 b8) → W (n + 1) a1 a2 a3 a4 a5 a6 a7 a8) (a1 : A1) (a2 : A2) (a3 : A3) (a4 : A4) (a5 : A5) (a6 : A6) (a7 : A7) (a8 : A8) (h : I a1 a2 a3 a4 a5 a6 a7 a8) : ∃ n, W n a1 a2 a3 a4 a5 a6 a7 a8 :=
  loop_m (σ := A1 × A2 × A3 × A4 × A5 × A6 × A7 × A8) (fun n s => W n s.1 s.2.1 s.2.2.1 s.2.2.2.1 s.2.2.2.2.1 s.2.2.2.2.2.1 s.2.2.2.2.2.2.1 s.2.2.2.2.2.2.2) (fun s => I s.1 s.2.1 s.2.2.1 s.2.2.2.1 s.2.2.2.2.1 s.2.2.2.2.2.1 s.2.2.2.2.2.2.1 s.2.2.2.2.2.2.2) (fun s => μ s.1 s.2.1 s.2.2.1 s.2.2.2.1 s.2.2.2.2.1 s.2.2.2.2.2.1 s.2.2.2.2.2.2.1 s.2.2.2.2.2.2.2) (fun n s hI hk => hs n s.1 s.2.1 s.2.2.1 s.2.2.2.1 s.2.2.2.2.1 s.2.2.2.2.2.1 s.2.2.2.2.2.2.1 s.2.2.2.2.2.2.2 hI (fun b1 b2 b3 b4 b5 b6 b7 b8 h9 hm => hk (b1, b2, b3, b4, b5, b6, b7, b8) h9 hm)) (a1, a2, a3, a4, a5, a6, a7, a8) h
theorem lp9 {A1 A2 A3 A4 A5 A6 A7 A8 A9 : Type} (W : Nat → A1 → A2 → A3 → A4 → A5 → A6 → A7 → A8 → A9 → Prop) (I : A1 → A2 → A3 → A4 → A5 → A6 → A7 → A8 → A9 → Prop) (μ : A1 → A2 → A3 → A4 → A5 → A6 → A7 → A8 → A9 → Nat) (hs : ∀ (n : Nat) (a1 : A1) (a2 : A2) (a3 : A3) (a4 : A4) (a5 : A5) (a6 : A6) (a7 : A7) (a8 : A8) (a9 : A9), I a1 a2 a3 a4 a5 a6 a7 a8 a9 → (∀ (b1 : A1) (b2 : A2) (b3 : A3) (b4 : A4) (b5 : A5) (b6 : A6) (b7 : A7) (b8 : A8) (b9 : A9), I b1 b2 b3 b4 b5 b6 b7 b8 b9 → μ b1 b2 b3 b4 b5 b6 b7 b8 b9 < μ a1 a2 a3 a4 a5 a6 a7 a8 a9 → W n b1 b2 b3 b4 b5 b6 b7 b8 b9) → W (n + 1) a1 a2 a3 a4 a5 a6 a7 a8 a9) (a1 : A1) (a2 : A2) (a3 : A3) (a4 : A4) (a5 : A5) (a6 : A6) (a7 : A7) (a8 : A8) (a9 : A9) (h : I a1 a2 a3 a4 a5 a6 a7 a8 a9) : ∃ n, W n a1 a2 a3 a4 a5 a6 a7 a8 a9 :=
  loop_m (σ := A1 × A2 × A3 × A4 × A5 × A6 × A7 × A8 × A9) (fun n s => W n s.1 s.2.1 s.2.2.1 s.2.2.2.1 s.2.2.2.2.1 s.2.2.2.2.2.1 s.2.2.2.2.2.2.1 s.2.2.2.2.2.2.2.1 s.2.2.2.2.2.2.2.2) (fun s => I s.1 s.2.1 s.2.2.1 s.2.2.2.1 s.2.2.2.2.1 s.2.2.2.2.2.1 s.2.2.2.2.2.2.1 s.2.2.2.2.2.2.2.1 s.2.2.2.2.2.2.2.2) (fun s => μ s.1 s.2.1 s.2.2.1 s.2.2.2.1 s.2.2.2.2.1 s.2.2.2.2.2.1 s.2.2.2.2.2.2.1 s.2.2.2.2.2.2.2.1 s.2.2.2.2.2.2.2.2) (fun n s hI hk => hs n s.1 s.2.1 s.2.2.1 s.2.2.2.1 s.2.2.2.2.1 s.2.2.2.2.2.1 s.2.2.2.2.2.2.1 s.2.2.2.2.2.2.2.1 s.2.2.2.2.2.2.2.2 hI (fun b1 b2 b3 b4 b5 b6 b7 b8 b9 h9 hm => hk (b1, b2, b3, b4, b5, b6, b7, b8, b9) h9 hm)) (a1, a2, a3, a4, a5, a6, a7, a8, a9) h
theorem lp10 {A1 A2 A3 A4 A5 A6 A7 A8 A9 A10 : Type} (W : Nat → A1 → A2 → A3 → A4 → A5 → A6 → A7 → A8 → A9 → A10 → Prop) (I : A1 → A2 → A3 → A4 → A5 → A6 → A7 → A8 → A9 → A10 → Prop) (μ : A1 → A2 → A3 → A4 → A5 → A6 → A7 → A8 → A9 → A10 → Nat) (hs : ∀ (n : Nat) (a1 : A1) (a2 : A2) (a3 : A3) (a4 : A4) (a5 : A5) (a6 : A6) (a7 : A7) (a8 : A8) (a9 : A9) (a10 : A10), I a1 a2 a3 a4 a5 a6 a7 a8 a9 a10 → (∀ (b1 : A1) (b2 : A2) (b3 : A3) (b4 : A4) (b5 : A5) (b6 : A6) (b7 : A7) (b8 : A8) (b9 : A9) (b10 : A10), I b1 b2 b3 b4 b5 b6 b7 b8 b9 b10 → μ b1 b2 b3 b4 b5 b6 b7 b8 b9 b10 < μ a1 a2 a3 a4 a5 a6 a7 a8 a9 a10 → W n b1 b2 b3 b4 b5 b6 b7 b8 b9 b10) → W (n + 1) a1 a2 a3 a4 a5 a6 a7 a8 a9 a10) (a1 : A1) (a2 : A2) (a3 : A3) (a4 : A4) (a5 : A5) (a6 : A6) (a7 : A7) (a8 : A8) (a9 : A9) (a10 : A10) (h : I a1 a2 a3 a4 a5 a6 a7 a8 a9 a10) : ∃ n, W n a1 a2 a3 a4 a5 a6 a7 a8 a9 a10 :=
  loop_m (σ := A1 × A2 × A3 × A4 × A5 × A6 × A7 × A8 × A9 × A10) (fun n s => W n s.1 s.2.1 s.2.2.1 s.2.2.2.1 s.2.2.2.2.1 s.2.2.2.2.2.1 s.2.2.2.2.2.2.1 s.2.2.2.2.2.2.2.1 s.2.2.2.2.2.2.2.2.1 s.2.2.2.2.2.2.2.2.2) (fun s => I s.1 s.2.1 s.2.2.1 s.2.2.2.1 s.2.2.2.2.1 s.2.2.2.2.2.1 s.2.2.2.2.2.2.1 s.2.2.2.2.2.2.2.1 s.2.2.2.2.2.2.2.2.1 s.2.2.2.2.2.2.2.2.2) (fun s => μ s.1 s.2.1 s.2.2.1 s.2.2.2.1 s.2.2.2.2.1 s.2.2.2.2.2.1 s.2.2.2.2.2.2.1 s.2.2.2.2.2.2.2.1 s.2.2.2.2.2.2.2.2.1 s.2.2.2.2.2.2.2.2.2) (fun n s hI hk => hs n s.1 s.2.1 s.2.2.1 s.2.2.2.1 s.2.2.2.2.1 s.2.2.2.2.2.1 s.2.2.2.2.2.2.1 s.2.2.2.2.2.2.2.1 s.2.2.2.2.2.2.2.2.1 s.2.2.2.2.2.2.2.2.2 hI (fun b1 b2 b3 b4 b5 b6 b7 b8 b9 b10 h9 hm => hk (b1, b2, b3, b4, b5, b6, b7, b8, b9, b10) h9 hm)) (a1, a2, a3, a4, a5, a6, a7, a8, a9, a10) h
theorem lp11 {A1 A2 A3 A4 A5 A6 A7 A8 A9 A10 A11 : Type} (W : Nat → A1 → A2 → A3 → A4 → A5 → A6 → A7 → A8 → A9 → A10 → A11 → Prop) (I : A1 → A2 → A3 → A4 → A5 → A6 → A7 → A8 → A9 → A10 → A11 → Prop) (μ : A1 → A2 → A3 → A4 → A5 → A6 → A7 → A8 → A9 → A10 → A11 → Nat) (hs : ∀ (n : Nat) (a1 : A1) (a2 : A2) (a3 : A3) (a4 : A4) (a5 : A5) (a6 : A6) (a7 : A7) (a8 : A8) (a9 : A9) (a10 : A10) (a11 : A11), I a1 a2 a3 a4 a5 a6 a7 a8 a9 a10 a11 → (∀ (b1 : A1) (b2 : A2) (b3 : A3) (b4 : A4) (b5 : A5) (b6 : A6) (b7 : A7) (b8 : A8) (b9 : A9) (b10 : A10) (b11 : A11), I b1 b2 b3 b4 b5 b6 b7 b8 b9 b10 b11 → μ b1 b2 b3 b4 b5 b6 b7 b8 b9 b10 b11 < μ a1 a2 a3 a4 a5 a6 a7 a8 a9 a10 a11 → W n b1 b2 b3 b4 b5 b6 b7 b8 b9 b10 b11) → W (n + 1) a1 a2 a3 a4 a5 a6 a7 a8 a9 a10 a11) (a1 : A1) (a2 : A2) (a3 : A3) (a4 : A4) (a5 : A5) (a6 : A6) (a7 : A7) (a8 : A8) (a9 : A9) (a10 : A10) (a11 : A11) (h : I a1 a2 a3 a4 a5 a6 a7 a8 a9 a10 a11) : ∃ n, W n a1 a2 a3 a4 a5 a6 a7 a8 a9 a10 a11 :=
  loop_m (σ := A1 × A2 × A3 × A4 × A5 × A6 × A7 × A8 × A9 × A10 × A11) (fun n s => W n s.1 s.2.1 s.2.2.1 s.2.2.2.1 s.2.2.2.2.1 s.2.2.2.2.2.1 s.2.2.2.2.2.2.1 s.2.2.2.2.2.2.2.1 s.2.2.2.2.2.2.2.2.1 s.2.2.2.2.2.2.2.2.2.1 s.2.2.2.2.2.2.2.2.2.2) (fun s => I s.1 s.2.1 s.2.2.1 s.2.2.2.1 s.2.2.2.2.1 s.2.2.2.2.2.1 s.2.2.2.2.2.2.1 s.2.2.2.2.2.2.2.1 s.2.2.2.2.2.2.2.2.1 s.2.2.2.2.2.2.2.2.2.1 s.2.2.2.2.2.2.2.2.2.2) (fun s => μ s.1 s.2.1 s.2.2.1 s.2.2.2.1 s.2.2.2.2.1 s.2.2.2.2.2.1 s.2.2.2.2.2.2.1 s.2.2.2.2.2.2.2.1 s.2.2.2.2.2.2.2.2.1 s.2.2.2.2.2.2.2.2.2.1 s.2.2.2.2.2.2.2.2.2.2) (fun n s hI hk => hs n s.1 s.2.1 s.2.2.1 s.2.2.2.1 s.2.2.2.2.1 s.2.2.2.2.2.1 s.2.2.2.2.2.2.1 s.2.2.2.2.2.2.2.1 s.2.2.2.2.2.2.2.2.1 s.2.2.2.2.2.2.2.2.2.1 s.2.2.2.2.2.2.2.2.2.2 hI (fun b1 b2 b3 b4 b5 b6 b7 b8 b9 b10 b11 h9 hm => hk (b1, b2, b3, b4, b5, b6, b7, b8, b9, b10, b11) h9 hm)) (a1, a2, a3, a4, a5, a6, a7, a8, a9, a10, a11) h
theorem lp12 {A1 A2 A3 A4 A5 A6 A7 A8 A9 A10 A11 A12 : Type} (W : Nat → A1 → A2 → A3 → A4 → A5 → A6 → A7 → A8 → A9 → A10 → A11 → A12 → Prop) (I : A1 → A2 → A3 → A4 → A5 → A6 → A7 → A8 → A9 → A10 → A11 → A12 → Prop) (μ : A1 → A2 → A3 → A4 → A5 → A6 → A7 → A8 → A9 → A10 → A11 → A12 → Nat) (hs : ∀ (n : Nat) (a1 : A1) (a2 : A2) (a3 : A3) (a4 : A4) (a5 : A5) (a6 : A6) (a7 : A7) (a8 : A8) (a9 : A9) (a10 : A10) (a11 : A11) (a12 : A12), I a1 a2 a3 a4 a5 a6 a7 a8 a9 a10 a11 a12 → (∀ (b1 : A1) (b2 : A2) (b3 : A3) (b4 : A4) (b5 : A5) (b6 : A6) (b7 : A7) (b8 : A8) (b9 : A9) (b10 : A10) (b11 : A11) (b12 : A12), I b1 b2 b3 b4 b5 b6 b7 b8 b9 b10 b11 b12 → μ b1 b2 b3 b4 b5 b6 b7 b8 b9 b10 b11 b12 < μ a1 a2 a3 a4 a5 a6 a7 a8 a9 a10 a11 a12 → W n b1 b2 b3 b4 b5 b6 b7 b8 b9 b10 b11 b12) → W (n + 1) a1 a2 a3 a4 a5 a6 a7 a8 a9 a10 a11 a12) (a1 : A1) (a2 : A2) (a3 : A3) (a4 : A4) (a5 : A5) (a6 : A6) (a7 : A7) (a8 : A8) (a9 : A9) (a10 : A10) (a11 : A11) (a12 : A12) (h : I a1 a2 a3 a4 a5 a6 a7 a8 a9 a10 a11 a12) : ∃ n, W n a1 a2 a3 a4 a5 a6 a7 a8 a9 a10 a11 a12 :=
  loop_m (σ := A1 × A2 × A3 × A4 × A5 × A6 × A7 × A8 × A9 × A10 × A11 × A12) (fun n s => W n s.1 s.2.1 s.2.2.1 s.2.2.2.1 s.2.2.2.2.1 s.2.2.2.2.2.1 s.2.2.2.2.2.2.1 s.2.2.2.2.2.2.2.1 s.2.2.2.2.2.2.2.2.1 s.2.2.2.2.2.2.2.2.2.1 s.2.2.2.2.2.2.2.2.2.2.1 s.2.2.2.2.2.2.2.2.2.2.2) (fun s => I s.1 s.2.1 s.2.2.1 s.2.2.2.1 s.2.2.2.2.1 s.2.2.2.2.2.1 s.2.2.2.2.2.2.1 s.2.2.2.2.2.2.2.1 s.2.2.2.2.2.2.2.2.1 s.2.2.2.2.2.2.2.2.2.1 s.2.2.2.2.2.2.2.2.2.2.1 s.2.2.2.2.2.2.2.2.2.2.2) (fun s => μ s.1 s.2.1 s.2.2.1 s.2.2.2.1 s.2.2.2.2.1 s.2.2.2.2.2.1 s.2.2.2.2.2.2.1 s.2.2.2.2.2.2.2.1 s.2.2.2.2.2.2.2.2.1 s.2.2.2.2.2.2.2.2.2.1 s.2.2.2.2.2.2.2.2.2.2.1 s.2.2.2.2.2.2.2.2.2.2.2) (fun n s hI hk => hs n s.1 s.2.1 s.2.2.1 s.2.2.2.1 s.2.2.2.2.1 s.2.2.2.2.2.1 s.2.2.2.2.2.2.1 s.2.2.2.2.2.2.2.1 s.2.2.2.2.2.2.2.2.1 s.2.2.2.2.2.2.2.2.2.1 s.2.2.2.2.2.2.2.2.2.2.1 s.2.2.2.2.2.2.2.2.2.2.2 hI (fun b1 b2 b3 b4 b5 b6 b7 b8 b9 b10 b11 b12 h9 hm => hk (b1, b2, b3, b4, b5, b6, b7, b8, b9, b10, b11, b12) h9 hm)) (a1, a2, a3, a4, a5, a6, a7, a8, a9, a10, a11, a12) h
theorem lp13 {A1 A2 A3 A4 A5 A6 A7 A8 A9 A10 A11 A12 A13 : Type} (W : Nat → A1 → A2 → A3 → A4 → A5 → A6 → A7 → A8 → A9 → A10 → A11 → A12 → A13 → Prop) (I : A1 → A2 → A3 → A4 → A5 → A6 → A7 → A8 → A9 → A10 → A11 → A12 → A13 → Prop) (μ : A1 → A2 → A3 → A4 → A5 → A6 → A7 → A8 → A9 → A10 → A11 → A12 → A13 → Nat) (hs : ∀ (n : Nat) (a1 : A1) (a2 : A2) (a3 : A3) (a4 : A4) (a5 : A5) (a6 : A6) (a7 : A7) (a8 : A8) (a9 : A9) (a10 : A10) (a11 : A11) (a12 : A12) (a13 : A13), I a1 a2 a3 a4 a5 a6 a7 a8 a9 a10 a11 a12 a13 → (∀ (b1 : A1) (b2 : A2) (b3 : A3) (b4 : A4) (b5 : A5) (b6 : A6) (b7 : A7) (b8 : A8) (b9 : A9) (b10 : A10) (b11 : A11) (b12 : A12) (b13 : A13), I b1 b2 b3 b4 b5 b6 b7 b8 b9 b10 b11 b12 b13 → μ b1 b2 b3 b4 b5 b6 b7 b8 b9 b10 b11 b12 b13 < μ a1 a2 a3 a4 a5 a6 a7 a8 a9 a10 a11 a12 a13 → W n b1 b2 b3 b4 b5 b6 b7 b8 b9 b10 b11 b12 b13) → W (n + 1) a1 a2 a3 a4 a5 a6 a7 a8 a9 a10 a11 a12 a13) (a1 : A1) (a2 : A2) (a3 : A3) (a4 : A4) (a5 : A5) (a6 : A6) (a7 : A7) (a8 : A8) (a9 : A9) (a10 : A10) (a11 : A11) (a12 : A12) (a13 : A13) (h : I a1 a2 a3 a4 a5 a6 a7 a8 a9 a10 a11 a12 a13) : ∃ n, W n a1 a2 a3 a4 a5 a6 a7 a8 a9 a10 a11 a12 a13 :=
  loop_m (σ := A1 × A2 × A3 × A4 × A5 × A6 × A7 × A8 × A9 × A10 × A11 × A12 × A13) (fun n s => W n s.1 s.2.1 s.2.2.1 s.2.2.2.1 s.2.2.2.2.1 s.2.2.2.2.2.1 s.2.2.2.2.2.2.1 s.2.2.2.2.2.2.2.1 s.2.2.2.2.2.2.2.2.1 s.2.2.2.2.2.2.2.2.2.1 s.2.2.2.2.2.2.2.2.2.2.1 s.2.2.2.2.2.2.2.2.2.2.2.1 s.2.2.2.2.2.2.2.2.2.2.2.2) (fun s => I s.1 s.2.1 s.2.2.1 s.2.2.2.1 s.2.2.2.2.1 s.2.2.2.2.2.1 s.2.2.2.2.2.2.1 s.2.2.2.2.2.2.2.1 s.2.2.2.2.2.2.2.2.1 s.2.2.2.2.2.2.2.2.2.1 s.2.2.2.2.2.2.2.2.2.2.1 s.2.2.2.2.2.2.2.2.2.2.2.1 s.2.2.2.2.2.2.2.2.2.2.2.2) (fun s => μ s.1 s.2.1 s.2.2.1 s.2.2.2.1 s.2.2.2.2.1 s.2.2.2.2.2.1 s.2.2.2.2.2.2.1 s.2.2.2.2.2.2.2.1 s.2.2.2.2.2.2.2.2.1 s.2.2.2.2.2.2.2.2.2.1 s.2.2.2.2.2.2.2.2.2.2.1 s.2.2.2.2.2.2.2.2.2.2.2.1 s.2.2.2.2.2.2.2.2.2.2.2.2) (fun n s hI hk => hs n s.1 s.2.1 s.2.2.1 s.2.2.2.1 s.2.2.2.2.1 s.2.2.2.2.2.1 s.2.2.2.2.2.2.1 s.2.2.2.2.2.2.2.1 s.2.2.2.2.2.2.2.2.1 s.2.2.2.2.2.2.2.2.2.1 s.2.2.2.2.2.2.2.2.2.2.1 s.2.2.2.2.2.2.2.2.2.2.2.1 s.2.2.2.2.2.2.2.2.2.2.2.2 hI (fun b1 b2 b3 b4 b5 b6 b7 b8 b9 b10 b11 b12 b13 h9 hm => hk (b1, b2, b3, b4, b5, b6, b7, b8, b9, b10, b11, b12, b13) h9 hm)) (a1, a2, a3, a4, a5, a6, a7, a8, a9, a10, a11, a12, a13) h
theorem lp14 {A1 A2 A3 A4 A5 A6 A7 A8 A9 A10 A11 A12 A13 A14 : Type} (W : Nat → A1 → A2 → A3 → A4 → A5 → A6 → A7 → A8 → A9 → A10 → A11 → A12 → A13 → A14 → Prop) (I : A1 → A2 → A3 → A4 → A5 → A6 → A7 → A8 → A9 → A10 → A11 → A12 → A13 → A14 → Prop) (μ : A1 → A2 → A3 → A4 → A5 → A6 → A7 → A8 → A9 → A10 → A11 → A12 → A13 → A14 → Nat) (hs : ∀ (n : Nat) (a1 : A1) (a2 : A2) (a3 : A3) (a4 : A4) (a5 : A5) (a6 : A6) (a7 : A7) (a8 : A8) (a9 : A9) (a10 : A10) (a11 : A11) (a12 : A12) (a13 : A13) (a14 : A14), I a1 a2 a3 a4 a5 a6 a7 a8 a9 a10 a11 a12 a13 a14 → (∀ (b1 : A1) (b2 : A2) (b3 : A3) (b4 : A4) (b5 : A5) (b6 : A6) (b7 : A7) (b8 : A8) (b9 : A9) (b10 : A10) (b11 : A11) (b12 : A12) (b13 : A13) (b14 : A14), I b1 b2 b3 b4 b5 b6 b7 b8 b9 b10 b11 b12 b13 b14 → μ b1 b2 b3 b4 b5 b6 b7 b8 b9 b10 b11 b12 b13 b14 < μ a1 a2 a3 a4 a5 a6 a7 a8 a9 a10 a11 a12 a13 a14 → W n b1 b2 b3 b4 b5 b6 b7 b8 b9 b10 b11 b12 b13 b14) → W (n + 1) a1 a2 a3 a4 a5 a6 a7 a8 a9 a10 a11 a12 a13 a14) (a1 : A1) (a2 : A2) (a3 : A3) (a4 : A4) (a5 : A5) (a6 : A6) (a7 : A7) (a8 : A8) (a9 : A9) (a10 : A10) (a11 : A11) (a12 : A12) (a13 : A13) (a14 : A14) (h : I a1 a2 a3 a4 a5 a6 a7 a8 a9 a10 a11 a12 a13 a14) : ∃ n, W n a1 a2 a3 a4 a5 a6 a7 a8 a9 a10 a11 a12 a13 a14 :=
  loop_m (σ := A1 × A2 × A3 × A4 × A5 × A6 × A7 × A8 × A9 × A10 × A11 × A12 × A13 × A14) (fun n s => W n s.1 s.2.1 s.2.2.1 s.2.2.2.1 s.2.2.2.2.1 s.2.2.2.2.2.1 s.2.2.2.2.2.2.1 s.2.2.2.2.2.2.2.1 s.2.2.2.2.2.2.2.2.1 s.2.2.2.2.2.2.2.2.2.1 s.2.2.2.2.2.2.2.2.2.2.1 s.2.2.2.2.2.2.2.2.2.2.2.1 s.2.2.2.2.2.2.2.2.2.2.2.2.1 s.2.2.2.2.2.2.2.2.2.2.2.2.2) (fun s => I s.1 s.2.1 s.2.2.1 s.2.2.2.1 s.2.2.2.2.1 s.2.2.2.2.2.1 s.2.2.2.2.2.2.1 s.2.2.2.2.2.2.2.1 s.2.2.2.2.2.2.2.2.1 s.2.2.2.2.2.2.2.2.2.1 s.2.2.2.2.2.2.2.2.2.2.1 s.2.2.2.2.2.2.2.2.2.2.2.1 s.2.2.2.2.2.2.2.2.2.2.2.2.1 s.2.2.2.2.2.2.2.2.2.2.2.2.2) (fun s => μ s.1 s.2.1 s.2.2.1 s.2.2.2.1 s.2.2.2.2.1 s.2.2.2.2.2.1 s.2.2.2.2.2.2.1 s.2.2.2.2.2.2.2.1 s.2.2.2.2.2.2.2.2.1 s.2.2.2.2.2.2.2.2.2.1 s.2.2.2.2.2.2.2.2.2.2.1 s.2.2.2.2.2.2.2.2.2.2.2.1 s.2.2.2.2.2.2.2.2.2.2.2.2.1 s.2.2.2.2.2.2.2.2.2.2.2.2.2) (fun n s hI hk => hs n s.1 s.2.1 s.2.2.1 s.2.2.2.1 s.2.2.2.2.1 s.2.2.2.2.2.1 s.2.2.2.2.2.2.1 s.2.2.2.2.2.2.2.1 s.2.2.2.2.2.2.2.2.1 s.2.2.2.2.2.2.2.2.2.1 s.2.2.2.2.2.2.2.2.2.2.1 s.2.2.2.2.2.2.2.2.2.2.2.1 s.2.2.2.2.2.2.2.2.2.2.2.2.1 s.2.2.2.2.2.2.2.2.2.2.2.2.2 hI (fun b1 b2 b3 b4 b5 b6 b7 b8 b9 b10 b11 b12 b13 b14 h9 hm => hk (b1, b2, b3, b4, b5, b6, b7, b8, b9, b10, b11, b12, b13, b14) h9 hm)) (a1, a2, a3, a4, a5, a6, a7, a8, a9, a10, a11, a12, a13, a14) h
theorem lp15 {A1 A2 A3 A4 A5 A6 A7 A8 A9 A10 A11 A12 A13 A14 A15 : Type} (W : Nat → A1 → A2 → A3 → A4 → A5 → A6 → A7 → A8 → A9 → A10 → A11 → A12 → A13 → A14 → A15 → Prop) (I : A1 → A2 → A3 → A4 → A5 → A6 → A7 → A8 → A9 → A10 → A11 → A12 → A13 → A14 → A15 → Prop) (μ : A1 → A2 → A3 → A4 → A5 → A6 → A7 → A8 → A9 → A10 → A11 → A12 → A13 → A14 → A15 → Nat) (hs : ∀ (n : Nat) (a1 : A1) (a2 : A2) (a3 : A3) (a4 : A4) (a5 : A5) (a6 : A6) (a7 : A7) (a8 : A8) (a9 : A9) (a10 : A10) (a11 : A11) (a12 : A12) (a13 : A13) (a14 : A14) (a15 : A15), I a1 a2 a3 a4 a5 a6 a7 a8 a9 a10 a11 a12 a13 a14 a15 → (∀ (b1 : A1) (b2 : A2) (b3 : A3) (b4 : A4) (b5 : A5) (b6 : A6) (b7 : A7) (b8 : A8) (b9 : A9) (b10 : A10) (b11 : A11) (b12 : A12) (b13 : A13) (b14 : A14) (b15 : A15), I b1 b2 b3 b4 b5 b6 b7 b8 b9 b10 b11 b12 b13 b14 b15 → μ b1 b2 b3 b4 b5 b6 b7 b8 b9 b10 b11 b12 b13 b14 b15 < μ a1 a2 a3 a4 a5 a6 a7 a8 a9 a10 a11 a12 a13 a14 a15 → W n b1 b2 b3 b4 b5 b6 b7 b8 b9 b10 b11 b12 b13 b14 b15) → W (n + 1) a1 a2 a3 a4 a5 a6 a7 a8 a9 a10 a11 a12 a13 a14 a15) (a1 : A1) (a2 : A2) (a3 : A3) (a4 : A4) (a5 : A5) (a6 : A6) (a7 : A7) (a8 : A8) (a9 : A9) (a10 : A10) (a11 : A11) (a12 : A12) (a13 : A13) (a14 : A14) (a15 : A15) (h : I a1 a2 a3 a4 a5 a6 a7 a8 a9 a10 a11 a12 a13 a14 a15) : ∃ n, W n a1 a2 a3 a4 a5 a6 a7 a8 a9 a10 a11 a12 a13 a14 a15 :=
  loop_m (σ := A1 × A2 × A3 × A4 × A5 × A6 × A7 × A8 × A9 × A10 × A11 × A12 × A13 × A14 × A15) (fun n s => W n s.1 s.2.1 s.2.2.1 s.2.2.2.1 s.2.2.2.2.1 s.2.2.2.2.2.1 s.2.2.2.2.2.2.1 s.2.2.2.2.2.2.2.1 s.2.2.2.2.2.2.2.2.1 s.2.2.2.2.2.2.2.2.2.1 s.2.2.2.2.2.2.2.2.2.2.1 s.2.2.2.2.2.2.2.2.2.2.2.1 s.2.2.2.2.2.2.2.2.2.2.2.2.1 s.2.2.2.2.2.2.2.2.2.2.2.2.2.1 s.2.2.2.2.2.2.2.2.2.2.2.2.2.2) (fun s => I s.1 s.2.1 s.2.2.1 s.2.2.2.1 s.2.2.2.2.1 s.2.2.2.2.2.1 s.2.2.2.2.2.2.1 s.2.2.2.2.2.2.2.1 s.2.2.2.2.2.2.2.2.1 s.2.2.2.2.2.2.2.2.2.1 s.2.2.2.2.2.2.2.2.2.2.1 s.2.2.2.2.2.2.2.2.2.2.2.1 s.2.2.2.2.2.2.2.2.2.2.2.2.1 s.2.2.2.2.2.2.2.2.2.2.2.2.2.1 s.2.2.2.2.2.2.2.2.2.2.2.2.2.2) (fun s => μ s.1 s.2.1 s.2.2.1 s.2.2.2.1 s.2.2.2.2.1 s.2.2.2.2.2.1 s.2.2.2.2.2.2.1 s.2.2.2.2.2.2.2.1 s.2.2.2.2.2.2.2.2.1 s.2.2.2.2.2.2.2.2.2.1 s.2.2.2.2.2.2.2.2.2.2.1 s.2.2.2.2.2.2.2.2.2.2.2.1 s.2.2.2.2.2.2.2.2.2.2.2.2.1 s.2.2.2.2.2.2.2.2.2.2.2.2.2.1 s.2.2.2.2.2.2.2.2.2.2.2.2.2.2) (fun n s hI hk => hs n s.1 s.2.1 s.2.2.1 s.2.2.2.1 s.2.2.2.2.1 s.2.2.2.2.2.1 s.2.2.2.2.2.2.1 s.2.2.2.2.2.2.2.1 s.2.2.2.2.2.2.2.2.1 s.2.2.2.2.2.2.2.2.2.1 s.2.2.2.2.2.2.2.2.2.2.1 s.2.2.2.2.2.2.2.2.2.2.2.1 s.2.2.2.2.2.2.2.2.2.2.2.2.1 s.2.2.2.2.2.2.2.2.2.2.2.2.2.1 s.2.2.2.2.2.2.2.2.2.2.2.2.2.2 hI (fun b1 b2 b3 b4 b5 b6 b7 b8 b9 b10 b11 b12 b13 b14 b15 h9 hm => hk (b1, b2, b3, b4, b5, b6, b7, b8, b9, b10, b11, b12, b13, b14, b15) h9 hm)) (a1, a2, a3, a4, a5, a6, a7, a8, a9, a10, a11, a12, a13, a14, a15) h
theorem lp16 {A1 A2 A3 A4 A5 A6 A7 A8 A9 A10 A11 A12 A13 A14 A15 A16 : Type} (W : Nat → A1 → A2 → A3 → A4 → A5 → A6 → A7 → A8 → A9 → A10 → A11 → A12 → A13 → A14 → A15 → A16 → Prop) (I : A1 → A2 → A3 → A4 → A5 → A6 → A7 → A8 → A9 → A10 → A11 → A12 → A13 → A14 → A15 → A16 → Prop) (μ : A1 → A2 → A3 → A4 → A5 → A6 → A7 → A8 → A9 → A10 → A11 → A12 → A13 → A14 → A15 → A16 → Nat) (hs : ∀ (n : Nat) (a1 : A1) (a2 : A2) (a3 : A3) (a4 : A4) (a5 : A5) (a6 : A6) (a7 : A7) (a8 : A8) (a9 : A9) (a10 : A10) (a11 : A11) (a12 : A12) (a13 : A13) (a14 : A14) (a15 : A15) (a16 : A16), I a1 a2 a3 a4 a5 a6 a7 a8 a9 a10 a11 a12 a13 a14 a15 a16 → (∀ (b1 : A1) (b2 : A2) (b3 : A3) (b4 : A4) (b5 : A5) (b6 : A6) (b7 : A7) (b8 : A8) (b9 : A9) (b10 : A10) (b11 : A11) (b12 : A12) (b13 : A13) (b14 : A14) (b15 : A15) (b16 : A16), I b1 b2 b3 b4 b5 b6 b7 b8 b9 b10 b11 b12 b13 b14 b15 b16 → μ b1 b2 b3 b4 b5 b6 b7 b8 b9 b10 b11 b12 b13 b14 b15 b16 < μ a1 a2 a3 a4 a5 a6 a7 a8 a9 a10 a11 a12 a13 a14 a15 a16 → W n b1 b2 b3 b4 b5 b6 b7 b8 b9 b10 b11 b12 b13 b14 b15 b16) → W (n + 1) a1 a2 a3 a4 a5 a6 a7 a8 a9 a10 a11 a12 a13 a14 a15 a16) (a1 : A1) (a2 : A2) (a3 : A3) (a4 : A4) (a5 : A5) (a6 : A6) (a7 : A7) (a8 : A8) (a9 : A9) (a10 : A10) (a11 : A11) (a12 : A12) (a13 : A13) (a14 : A14) (a15 : A15) (a16 : A16) (h : I a1 a2 a3 a4 a5 a6 a7 a8 a9 a10 a11 a12 a13 a14 a15 a16) : ∃ n, W n a1 a2 a3 a4 a5 a6 a7 a8 a9 a10 a11 a12 a13 a14 a15 a16 :=
  loop_m (σ := A1 × A2 × A3 × A4 × A5 × A6 × A7 × A8 × A9 × A10 × A11 × A12 × A13 × A14 × A15 × A16) (fun n s => W n s.1 s.2.1 s.2.2.1 s.2.2.2.1 s.2.2.2.2.1 s.2.2.2.2.2.1 s.2.2.2.2.2.2.1 s.2.2.2.2.2.2.2.1 s.2.2.2.2.2.2.2.2.1 s.2.2.2.2.2.2.2.2.2.1 s.2.2.2.2.2.2.2.2.2.2.1 s.2.2.2.2.2.2.2.2.2.2.2.1 s.2.2.2.2.2.2.2.2.2.2.2.2.1 s.2.2.2.2.2.2.2.2.2.2.2.2.2.1 s.2.2.2.2.2.2.2.2.2.2.2.2.2.2.1 s.2.2.2.2.2.2.2.2.2.2.2.2.2.2.2) (fun s => I s.1 s.2.1 s.2.2.1 s.2.2.2.1 s.2.2.2.2.1 s.2.2.2.2.2.1 s.2.2.2.2.2.2.1 s.2.2.2.2.2.2.2.1 s.2.2.2.2.2.2.2.2.1 s.2.2.2.2.2.2.2.2.2.1 s.2.2.2.2.2.2.2.2.2.2.1 s.2.2.2.2.2.2.2.2.2.2.2.1 s.2.2.2.2.2.2.2.2.2.2.2.2.1 s.2.2.2.2.2.2.2.2.2.2.2.2.2.1 s.2.2.2.2.2.2.2.2.2.2.2.2.2.2.1 s.2.2.2.2.2.2.2.2.2.2.2.2.2.2.2) (fun s => μ s.1 s.2.1 s.2.2.1 s.2.2.2.1 s.2.2.2.2.1 s.2.2.2.2.2.1 s.2.2.2.2.2.2.1 s.2.2.2.2.2.2.2.1 s.2.2.2.2.2.2.2.2.1 s.2.2.2.2.2.2.2.2.2.1 s.2.2.2.2.2.2.2.2.2.2.1 s.2.2.2.2.2.2.2.2.2.2.2.1 s.2.2.2.2.2.2.2.2.2.2.2.2.1 s.2.2.2.2.2.2.2.2.2.2.2.2.2.1 s.2.2.2.2.2.2.2.2.2.2.2.2.2.2.1 s.2.2.2.2.2.2.2.2.2.2.2.2.2.2.2) (fun n s hI hk => hs n s.1 s.2.1 s.2.2.1 s.2.2.2.1 s.2.2.2.2.1 s.2.2.2.2.2.1 s.2.2.2.2.2.2.1 s.2.2.2.2.2.2.2.1 s.2.2.2.2.2.2.2.2.1 s.2.2.2.2.2.2.2.2.2.1 s.2.2.2.2.2.2.2.2.2.2.1 s.2.2.2.2.2.2.2.2.2.2.2.1 s.2.2.2.2.2.2.2.2.2.2.2.2.1 s.2.2.2.2.2.2.2.2.2.2.2.2.2.1 s.2.2.2.2.2.2.2.2.2.2.2.2.2.2.1 s.2.2.2.2.2.2.2.2.2.2.2.2.2.2.2 hI (fun b1 b2 b3 b4 b5 b6 b7 b8 b9 b10 b11 b12 b13 b14 b15 b16 h9 hm => hk (b1, b2, b3, b4, b5, b6, b7, b8, b9, b10, b11, b12, b13, b14, b15, b16) h9 hm)) (a1, a2, a3, a4, a5, a6, a7, a8, a9, a10, a11, a12, a13, a14, a15, a16) h
theorem pk_least (P : Nat → Prop) (h : ∃ k, P k) : ∃ k, P k ∧ ∀ j, j < k → ¬ P j := by
  obtain ⟨k, hk⟩ := h
  induction k using Nat.strongRecOn with
  | ind k ih =>
    by_cases e : ∃ j, j < k ∧ P j
    · obtain ⟨j, hj, pj⟩ := e
      exact ih j hj pj
    · exact ⟨k, hk, fun j hj pj => e ⟨j, hj, pj⟩⟩
theorem rp1 {ρ A1 : Type} (W : Nat → (ρ → Prop) → A1 → Prop) (ok : A1 → Prop) (μ : A1 → Nat) (val : A1 → ρ)
    (hs : ∀ (d : Nat) (post : ρ → Prop) (a1 : A1), ok a1 → post (val a1) → (∀ (post' : ρ → Prop) (b1 : A1), ok b1 → μ b1 < μ a1 → post' (val b1) → W d post' b1) → W (d + 1) post a1) :
    ∀ (d : Nat) (post : ρ → Prop) (a1 : A1), ok a1 → μ a1 < d → post (val a1) → W d post a1 := by
  intro d
  induction d with
  | zero => intro post a1 _ h; omega
  | succ d ih =>
    intro post a1 ho hm hp
    exact hs d post a1 ho hp (fun post' b1 ho' hm' hp' => ih post' b1 ho' (by omega) hp')
theorem rp2 {ρ A1 A2 : Type} (W : Nat → (ρ → Prop) → A1 → A2 → Prop) (ok : A1 → A2 → Prop) (μ : A1 → A2 → Nat) (val : A1 → A2 → ρ)
    (hs : ∀ (d : Nat) (post : ρ → Prop) (a1 : A1) (a2 : A2), ok a1 a2 → post (val a1 a2) → (∀ (post' : ρ → Prop) (b1 : A1) (b2 : A2), ok b1 b2 → μ b1 b2 < μ a1 a2 → post' (val b1 b2) → W d post' b1 b2) → W (d + 1) post a1 a2) :
    ∀ (d : Nat) (post : ρ → Prop) (a1 : A1) (a2 : A2), ok a1 a2 → μ a1 a2 < d → post (val a1 a2) → W d post a1 a2 := by
  intro d
  induction d with
  | zero => intro post a1 a2 _ h; omega
  | succ d ih =>
    intro post a1 a2 ho hm hp
    exact hs d post a1 a2 ho hp (fun post' b1 b2 ho' hm' hp' => ih post' b1 b2 ho' (by omega) hp')
theorem rp3 {ρ A1 A2 A3 : Type} (W : Nat → (ρ → Prop) → A1 → A2 → A3 → Prop) (ok : A1 → A2 → A3 → Prop) (μ : A1 → A2 → A3 → Nat) (val : A1 → A2 → A3 → ρ)
    (hs : ∀ (d : Nat) (post : ρ → Prop) (a1 : A1) (a2 : A2) (a3 : A3), ok a1 a2 a3 → post (val a1 a2 a3) → (∀ (post' : ρ → Prop) (b1 : A1) (b2 : A2) (b3 : A3), ok b1 b2 b3 → μ b1 b2 b3 < μ a1 a2 a3 → post' (val b1 b2 b3) → W d post' b1 b2 b3) → W (d + 1) post a1 a2 a3) :
    ∀ (d : Nat) (post : ρ → Prop) (a1 : A1) (a2 : A2) (a3 : A3), ok a1 a2 a3 → μ a1 a2 a3 < d → post (val a1 a2 a3) → W d post a1 a2 a3 := by
  intro d
  induction d with
  | zero => intro post a1 a2 a3 _ h; omega
  | succ d ih =>
    intro post a1 a2 a3 ho hm hp
    exact hs d post a1 a2 a3 ho hp (fun post' b1 b2 b3 ho' hm' hp' => ih post' b1 b2 b3 ho' (by omega) hp')
theorem rp4 {ρ A1 A2 A3 A4 : Type} (W : Nat → (ρ → Prop) → A1 → A2 → A3 → A4 → Prop) (ok : A1 → A2 → A3 → A4 → Prop) (μ : A1 → A2 → A3 → A4 → Nat) (val : A1 → A2 → A3 → A4 → ρ)
    (hs : ∀ (d : Nat) (post : ρ → Prop) (a1 : A1) (a2 : A2) (a3 : A3) (a4 : A4), ok a1 a2 a3 a4 → post (val a1 a2 a3 a4) → (∀ (post' : ρ → Prop) (b1 : A1) (b2 : A2) (b3 : A3) (b4 : A4), ok b1 b2 b3 b4 → μ b1 b2 b3 b4 < μ a1 a2 a3 a4 → post' (val b1 b2 b3 b4) → W d post' b1 b2 b3 b4) → W (d + 1) post a1 a2 a3 a4) :
    ∀ (d : Nat) (post : ρ → Prop) (a1 : A1) (a2 : A2) (a3 : A3) (a4 : A4), ok a1 a2 a3 a4 → μ a1 a2 a3 a4 < d → post (val a1 a2 a3 a4) → W d post a1 a2 a3 a4 := by
  intro d
  induction d with
  | zero => intro post a1 a2 a3 a4 _ h; omega
  | succ d ih =>
    intro post a1 a2 a3 a4 ho hm hp
    exact hs d post a1 a2 a3 a4 ho hp (fun post' b1 b2 b3 b4 ho' hm' hp' => ih post' b1 b2 b3 b4 ho' (by omega) hp')
theorem rp5 {ρ A1 A2 A3 A4 A5 : Type} (W : Nat → (ρ → Prop) → A1 → A2 → A3 → A4 → A5 → Prop) (ok : A1 → A2 → A3 → A4 → A5 → Prop) (μ : A1 → A2 → A3 → A4 → A5 → Nat) (val : A1 → A2 → A3 → A4 → A5 → ρ)
    (hs : ∀ (d : Nat) (post : ρ → Prop) (a1 : A1) (a2 : A2) (a3 : A3) (a4 : A4) (a5 : A5), ok a1 a2 a3 a4 a5 → post (val a1 a2 a3 a4 a5) → (∀ (post' : ρ → Prop) (b1 : A1) (b2 : A2) (b3 : A3) (b4 : A4) (b5 : A5), ok b1 b2 b3 b4 b5 → μ b1 b2 b3 b4 b5 < μ a1 a2 a3 a4 a5 → post' (val b1 b2 b3 b4 b5) → W d post' b1 b2 b3 b4 b5) → W (d + 1) post a1 a2 a3 a4 a5) :
    ∀ (d : Nat) (post : ρ → Prop) (a1 : A1) (a2 : A2) (a3 : A3) (a4 : A4) (a5 : A5), ok a1 a2 a3 a4 a5 → μ a1 a2 a3 a4 a5 < d → post (val a1 a2 a3 a4 a5) → W d post a1 a2 a3 a4 a5 := by
  intro d
  induction d with
  | zero => intro post a1 a2 a3 a4 a5 _ h; omega
  | succ d ih =>
    intro post a1 a2 a3 a4 a5 ho hm hp
    exact hs d post a1 a2 a3 a4 a5 ho hp (fun post' b1 b2 b3 b4 b5 ho' hm' hp' => ih post' b1 b2 b3 b4 b5 ho' (by omega) hp')
theorem rp6 {ρ A1 A2 A3 A4 A5 A6 : Type} (W : Nat → (ρ → Prop) → A1 → A2 → A3 → A4 → A5 → A6 → Prop) (ok : A1 → A2 → A3 → A4 → A5 → A6 → Prop) (μ : A1 → A2 → A3 → A4 → A5 → A6 → Nat) (val : A1 → A2 → A3 → A4 → A5 → A6 → ρ)
    (hs : ∀ (d : Nat) (post : ρ → Prop) (a1 : A1) (a2 : A2) (a3 : A3) (a4 : A4) (a5 : A5) (a6 : A6), ok a1 a2 a3 a4 a5 a6 → post (val a1 a2 a3 a4 a5 a6) → (∀ (post' : ρ → Prop) (b1 : A1) (b2 : A2) (b3 : A3) (b4 : A4) (b5 : A5) (b6 : A6), ok b1 b2 b3 b4 b5 b6 → μ b1 b2 b3 b4 b5 b6 < μ a1 a2 a3 a4 a5 a6 → post' (val b1 b2 b3 b4 b5 b6) → W d post' b1 b2 b3 b4 b5 b6) → W (d + 1) post a1 a2 a3 a4 a5 a6) :
    ∀ (d : Nat) (post : ρ → Prop) (a1 : A1) (a2 : A2) (a3 : A3) (a4 : A4) (a5 : A5) (a6 : A6), ok a1 a2 a3 a4 a5 a6 → μ a1 a2 a3 a4 a5 a6 < d → post (val a1 a2 a3 a4 a5 a6) → W d post a1 a2 a3 a4 a5 a6 := by
  intro d
  induction d with
  | zero => intro post a1 a2 a3 a4 a5 a6 _ h; omega
  | succ d ih =>
    intro post a1 a2 a3 a4 a5 a6 ho hm hp
    exact hs d post a1 a2 a3 a4 a5 a6 ho hp (fun post' b1 b2 b3 b4 b5 b6 ho' hm' hp' => ih post' b1 b2 b3 b4 b5 b6 ho' (by omega) hp')
theorem rec_p {σ ρ : Type} (W : Nat → (ρ → Prop) → σ → Prop) (ok : σ → Prop) (μ : σ → Nat) (val : σ → ρ)
    (hs : ∀ d s post, ok s → post (val s) → (∀ s' post', ok s' → μ s' < μ s → post' (val s') → W d post' s') → W (d + 1) post s) :
    ∀ d s post, ok s → μ s < d → post (val s) → W d post s := by
  intro d
  induction d with
  | zero => intro s post _ h; omega
  | succ d ih =>
    intro s post ho hm hp
    exact hs d s post ho hp (fun s' post' ho' hm' hp' => ih s' post' ho' (by omega) hp')
theorem rec_q {σ ρ : Type} (W : Nat → (ρ → Prop) → σ → Prop) (ok : σ → Prop) (μ : σ → Nat) (Q : σ → ρ → Prop)
    (hs : ∀ d s post, ok s → (∀ r, Q s r → post r) → (∀ s' post', ok s' → μ s' < μ s → (∀ r, Q s' r → post' r) → W d post' s') → W (d + 1) post s) :
    ∀ d s post, ok s → μ s < d → (∀ r, Q s r → post r) → W d post s := by
  intro d
  induction d with
  | zero => intro s post _ h; omega
  | succ d ih =>
    intro s post ho hm hp
    exact hs d s post ho hp (fun s' post' ho' hm' hp' => ih s' post' ho' (by omega) hp')
def bx_sum (f : Nat → Int32) : Nat → Int32
  | 0 => 0
  | n + 1 => bx_sum f n + f n
theorem ek_u {A : Prop} {B : Nat → Prop} {k N : Nat} (hk : k < N) (h : B k) : (some k = none → A) ∧ (∀ y : Nat, some k = some y → (y < N ∧ B y)) :=
  ⟨fun z => absurd z (Option.some_ne_none k), fun _ e => (by cases e; exact ⟨hk, h⟩)⟩
theorem ek_nu {A : Prop} {B : Nat → Prop} (h : A) : ((none : Option Nat) = none → A) ∧ (∀ y : Nat, (none : Option Nat) = some y → B y) :=
  ⟨fun _ => h, fun _ e => (by cases e)⟩
theorem ek_if {c d A B : Prop} (e : c ↔ d) (f : d → A) (g : ¬ d → B) : (c → A) ∧ (¬ c → B) :=
  ⟨fun z => f (e.mp z), fun z => g (fun y => z (e.mpr y))⟩
theorem ek_v {α : Sort _} {P : α → Prop} {a b : α} (e : a = b) (h : P b) : P a := e ▸ h
theorem co_some {x : Option Nat} {A : Prop} {B : Nat → Prop} (i : Nat) (h : B i) (hx : x = some i := by rfl) : (x = none → A) ∧ (∀ y : Nat, x = some y → B y) := by
  subst hx
  exact ⟨fun e => (nomatch e), fun y e => Option.some.inj e ▸ h⟩
theorem co_none {x : Option Nat} {A : Prop} {B : Nat → Prop} (h : A) (hx : x = none := by rfl) : (x = none → A) ∧ (∀ y : Nat, x = some y → B y) := by
  subst hx
  exact ⟨fun _ => h, fun y e => (nomatch e)⟩
theorem co_any {x : Option Nat} {A : Prop} {B : Nat → Prop} (hn : x = none → A) (hs : ∀ i : Nat, x = some i → B i) : (x = none → A) ∧ (∀ y : Nat, x = some y → B y) := ⟨hn, hs⟩
theorem co_2 {P : Nat → Prop} (h0 : P 0) (h1 : P 1) {i : Nat} (hi : i < 2) : P i :=
  match i, hi with
  | 0, _ => h0
  | 1, _ => h1
theorem co_3 {P : Nat → Prop} (h0 : P 0) (h1 : P 1) (h2 : P 2) {i : Nat} (hi : i < 3) : P i :=
  match i, hi with
  | 0, _ => h0
  | 1, _ => h1
  | 2, _ => h2
theorem co_4 {P : Nat → Prop} (h0 : P 0) (h1 : P 1) (h2 : P 2) (h3 : P 3) {i : Nat} (hi : i < 4) : P i :=
  match i, hi with
  | 0, _ => h0
  | 1, _ => h1
  | 2, _ => h2
  | 3, _ => h3
theorem co_dec {N : Nat} {P : Nat → Prop} [DecidablePred P] (h : (List.range N).all (fun i => decide (P i)) = true) {i : Nat} (hi : i < N) : P i := by
  have := List.all_eq_true.mp h i (List.mem_range.mpr hi)
  exact of_decide_eq_true this
theorem co_tab {α : Type} {l : List α} {d : α} {P : α → Prop} (h : ∀ a, a ∈ l → P a) {i : Nat} (hi : i < l.length) : P (l.getD i d) := by
  rw [List.getD_eq_getElem?_getD, List.getElem?_eq_getElem hi]
  exact h _ (List.getElem_mem hi)
theorem pk_mu {x : Int32} {L : Nat} (h0 : ¬ x < 0) (h : ¬ nI L ≤ x) (hL : L < 2 ^ 31) : ∃ j : Nat, j < L ∧ x = nI j ∧ x + 1 = nI (j + 1) ∧ x.toNatClampNeg = j ∧ L - (x + 1).toNatClampNeg < L - x.toNatClampNeg := by
  obtain ⟨j, hj, rfl⟩ := nI_of h0
  have hl : j < L := Nat.not_le.mp fun q => h (nI_le q hj)
  refine ⟨j, hl, rfl, nI_1 j, nI_clamp hj, ?_⟩
  rw [nI_1, nI_clamp (by omega), nI_clamp hj]
  omega
theorem op_s {α : Type} {r : Option α} {A : Prop} {B : α → Prop} {y : α} (h : r = some y) (b : B y) : (r = none → A) ∧ ∀ z, r = some z → B z :=
  ⟨fun e => (by rw [h] at e; cases e), fun z e => (by rw [h] at e; cases e; exact b)⟩
def l_holds {α : Type} (a : Nat → Option Nat) (LP : List Nat) (p : Nat → α) (c : Nat) (b : Nat → α) : Prop :=
  ∀ j, j < c → ∃ y, a j = some y ∧ y ∈ LP ∧ p y = b j
theorem l_holds_0 {α : Type} {a : Nat → Option Nat} {LP : List Nat} {p b : Nat → α} : l_holds a LP p 0 b := fun j h => absurd h (Nat.not_lt_zero j)
theorem l_in_new (LP : List Nat) (q : Nat) : q ∈ LP ++ [q] := List.mem_append.mpr (Or.inr (List.mem_singleton.mpr rfl))
def l_sum (b : Nat → Int32) : Nat → Int32
  | 0 => 0
  | k + 1 => l_sum b k + b k
theorem sb_shr0 (x : Int32) : x >>> ((0 : Int32) &&& 31) = x := by
  rw [show ((0 : Int32) &&& 31) = 0 by decide]
  simp
theorem sb_shl0 (x : Int32) : x <<< ((0 : Int32) &&& 31) = x := by
  rw [show ((0 : Int32) &&& 31) = 0 by decide]
  simp
theorem sb_cl0 : (0 : Int32).toNatClampNeg = 0 := by decide
theorem sb_m1 {p : Nat} (h : 0 < p) : nI p + (-1) = nI (p - 1) := by
  obtain ⟨q, rfl⟩ : ∃ q, p = q + 1 := ⟨p - 1, by omega⟩
  exact pk_m1 q
def sb_b (c : Nat) : Int32 := (nI c).toInt8.toInt32
theorem sb_byte : ∀ c, c < 256 → sb_b c &&& 255 = nI c ∧ ((nI c).toUInt32 % 65536).toInt32 = nI c ∧ nI c ≤ 255 := by decide +kernel
def sb_Fit (a : Nat → Int32) : Prop := ∀ j, fits .byte (.int (a j)) = true
def sb_Lat (t : Nat → Nat) (n : Nat) (a : Nat → Int32) : Prop := ∀ j, j < n → t j < 256 ∧ a j = sb_b (t j)
theorem sb_fitB (c : Nat) : fits .byte (.int (sb_b c)) = true := pk_fb _
theorem sb_fit0 : sb_Fit (fun _ => 0) := fun _ => by
  show fits .byte (.int 0) = true
  decide
theorem sb_fitU {a : Nat → Int32} {k : Nat} {x : Int32} (h : sb_Fit a) (hx : fits .byte (.int x) = true) : sb_Fit (upd a k x) := by
  intro j
  by_cases e : j = k
  · subst e
    rw [pk_us]
    exact hx
  · rw [pk_un e]
    exact h j
def sb_cat (t : Nat → Nat) (n : Nat) (s : Nat → Nat) : Nat → Nat := fun j => if j < n then t j else s (j - n)
theorem sb_cat_lo {t s : Nat → Nat} {n j : Nat} (h : j < n) : sb_cat t n s j = t j := if_pos h
theorem sb_cat_hi {t s : Nat → Nat} {n j : Nat} : sb_cat t n s (n + j) = s j := by
  show (if n + j < n then t (n + j) else s (n + j - n)) = s j
  rw [if_neg (by omega), Nat.add_sub_cancel_left]
theorem sb_latPut {t s : Nat → Nat} {n w : Nat} {a a' : Nat → Int32} (h : sb_Lat t n a) (hk : ∀ j, j < n → a' j = a j) (hs : ∀ i, i < w → s i < 256 ∧ a' (n + i) = sb_b (s i)) : sb_Lat (sb_cat t n s) (n + w) a' := by
  intro j hj
  by_cases e : j < n
  · rw [sb_cat_lo e, hk j e]
    exact h j e
  · obtain ⟨i, rfl⟩ : ∃ i, j = n + i := ⟨j - n, by omega⟩
    rw [sb_cat_hi]
    exact hs i (by omega)
theorem sb_latKeep {t : Nat → Nat} {n : Nat} {a a' : Nat → Int32} (h : sb_Lat t n a) (hk : ∀ j, j < n → a' j = a j) : sb_Lat t n a' := fun j hj => by
  rw [hk j hj]
  exact h j hj
def sb_cap (q m : Nat) : Nat := if q ≤ m then m else if 2 * m + 2 < q then q else 2 * m + 2
def sb_Room (q m mc ms : Nat) : Prop := q ≤ m ∨ (1 ≤ mc ∧ sb_cap q m ≤ ms ∧ sb_cap q m ≤ 65536)
theorem sb_cap_ge (q m : Nat) : q ≤ sb_cap q m := by
  unfold sb_cap
  split
  · omega
  · split <;> omega
theorem sb_cap_gem (q m : Nat) : m ≤ sb_cap q m := by
  unfold sb_cap
  split
  · omega
  · split <;> omega
theorem sb_cap_le {q m mc ms : Nat} (hm : m ≤ 65536) (hr : sb_Room q m mc ms) : sb_cap q m ≤ 65536 := by
  rcases hr with h | h
  · rw [sb_cap, if_pos h]
    exact hm
  · exact h.2.2
theorem sb_at {P : Int32 → Prop} {x y : Int32} (e : x = y) (h : P y) : P x := e ▸ h
def sb_dg (w : Nat) : Nat := if w < 10 then 1 else if w < 100 then 2 else if w < 1000 then 3 else if w < 10000 then 4 else if w < 100000 then 5 else if w < 1000000 then 6 else if w < 10000000 then 7 else if w < 100000000 then 8 else if w < 1000000000 then 9 else 10
def sb_dec (v : Nat) : Nat → Nat := fun i => 48 + v / 10 ^ (sb_dg v - 1 - i) % 10
theorem sb_dg_in (w : Nat) : 1 ≤ sb_dg w ∧ sb_dg w ≤ 10 := by
  unfold sb_dg
  constructor <;> (repeat' split) <;> omega
theorem sb_dg100 {w : Nat} (h : 100 ≤ w) (hw : w < 2 ^ 31) : sb_dg w = sb_dg (w / 100) + 2 := by
  rw [sb_dg, sb_dg, if_neg (show ¬ w < 10 by omega), if_neg (show ¬ w < 100 by omega)]
  by_cases h3 : w < 1000
  · rw [if_pos h3, if_pos (show w / 100 < 10 by omega)]
  rw [if_neg h3, if_neg (show ¬ w / 100 < 10 by omega)]
  by_cases h4 : w < 10000
  · rw [if_pos h4, if_pos (show w / 100 < 100 by omega)]
  rw [if_neg h4, if_neg (show ¬ w / 100 < 100 by omega)]
  by_cases h5 : w < 100000
  · rw [if_pos h5, if_pos (show w / 100 < 1000 by omega)]
  rw [if_neg h5, if_neg (show ¬ w / 100 < 1000 by omega)]
  by_cases h6 : w < 1000000
  · rw [if_pos h6, if_pos (show w / 100 < 10000 by omega)]
  rw [if_neg h6, if_neg (show ¬ w / 100 < 10000 by omega)]
  by_cases h7 : w < 10000000
  · rw [if_pos h7, if_pos (show w / 100 < 100000 by omega)]
  rw [if_neg h7, if_neg (show ¬ w / 100 < 100000 by omega)]
  by_cases h8 : w < 100000000
  · rw [if_pos h8, if_pos (show w / 100 < 1000000 by omega)]
  rw [if_neg h8, if_neg (show ¬ w / 100 < 1000000 by omega)]
  by_cases h9 : w < 1000000000
  · rw [if_pos h9, if_pos (show w / 100 < 10000000 by omega)]
  rw [if_neg h9, if_neg (show ¬ w / 100 < 10000000 by omega)]
  rw [if_pos (show w / 100 < 100000000 by omega)]
theorem sb_negT {w : Nat} (h : w < 2 ^ 31) : (-nI w).toInt = -(w : Int) := by
  rw [Int32.toInt_neg, nI_toInt h]
  exact Int.bmod_eq_of_le (by omega) (by omega)
theorem sb_nle {a b : Nat} (ha : a < 2 ^ 31) (hb : b < 2 ^ 31) : -nI a ≤ -nI b ↔ b ≤ a := by
  rw [Int32.le_iff_toInt_le, sb_negT ha, sb_negT hb]
  omega
theorem sb_nlt {a b : Nat} (ha : a < 2 ^ 31) (hb : b < 2 ^ 31) : -nI a < -nI b ↔ b < a := by
  rw [Int32.lt_iff_toInt_lt, sb_negT ha, sb_negT hb]
  omega
theorem sb_cmp {A B : Prop} {x : Int32} (v c : Nat) (f : c ≤ v → A) (g : v < c → B) (hv : v < 2 ^ 31) (hx : x = -nI c := by rfl) (hc : c < 2 ^ 31 := by omega) : (-nI v ≤ x → A) ∧ (¬ -nI v ≤ x → B) := by
  subst hx
  rw [sb_nle hv hc]
  exact ⟨f, fun z => g (by omega)⟩
theorem sb_ndiv {w : Nat} (hw : w < 2 ^ 31) : (-nI w) / 100 = -nI (w / 100) := by
  apply Int32.toInt_inj.mp
  have h100 : (100 : Int32).toInt = 100 := by decide
  rw [Int32.toInt_div, sb_negT hw, h100, sb_negT (by omega), Int.neg_tdiv, Int.tdiv_eq_ediv_of_nonneg (by omega), Int.bmod_eq_of_le (by omega) (by omega)]
  omega
theorem sb_nrem {w : Nat} (hw : w < 2 ^ 31) : (-nI (w / 100)) * 100 - (-nI w) = nI (w % 100) := by
  have h := pk_rem (a := w) (d := 100) hw (by decide) (by decide)
  rw [pk_div hw (by decide) (by decide)] at h
  rw [← h]
  show (-nI (w / 100)) * nI 100 - (-nI w) = nI w - nI (w / 100) * nI 100
  rw [Int32.neg_mul, Int32.sub_neg, Int32.add_comm, ← Int32.sub_eq_add_neg]
end
section
/-! rows on bits, shifts and unsigned numbers, to paste: each family out of a closed proof of our own, whole with what it rests on; each by itself clean at Lean in its own claim (generation 39, form 5). Take a family whole -/
/-! ===== Int32 by its bits: bt x i ===== -/
def bt (x : Int32) (i : Nat) : Bool := x.toBitVec.getLsbD i
theorem b_ext {x y : Int32} (h : ∀ i, i < 32 → bt x i = bt y i) : x = y := Int32.toBitVec_inj.mp (BitVec.eq_of_getLsbD_eq (fun i hi => h i hi))
theorem b_or (x y : Int32) (i : Nat) : bt (x ||| y) i = (bt x i || bt y i) := by unfold bt; rw [Int32.toBitVec_or, BitVec.getLsbD_or]
theorem b_and (x y : Int32) (i : Nat) : bt (x &&& y) i = (bt x i && bt y i) := by unfold bt; rw [Int32.toBitVec_and, BitVec.getLsbD_and]
theorem b_xor (x y : Int32) (i : Nat) : bt (x ^^^ y) i = (bt x i ^^ bt y i) := by unfold bt; rw [Int32.toBitVec_xor, BitVec.getLsbD_xor]
theorem b_big {x : Int32} {i : Nat} (h : 32 ≤ i) : bt x i = false := BitVec.getLsbD_of_ge _ _ h
theorem b_255 (i : Nat) : bt 255 i = decide (i < 8) := by
  rcases Nat.lt_or_ge i 32 with h | h
  · exact (by decide +kernel : ∀ i, i < 32 → bt 255 i = decide (i < 8)) i h
  · rw [b_big h, decide_eq_false (by omega)]
theorem b_65535 (i : Nat) : bt 65535 i = decide (i < 16) := by
  rcases Nat.lt_or_ge i 32 with h | h
  · exact (by decide +kernel : ∀ i, i < 32 → bt 65535 i = decide (i < 16)) i h
  · rw [b_big h, decide_eq_false (by omega)]
theorem b_m1 : ∀ i, i < 32 → bt (-1) i = true := by decide +kernel
theorem b_0 (i : Nat) : bt 0 i = false := BitVec.getLsbD_zero
theorem s_l : ∀ n, n < 32 → ((nI n &&& 31).toBitVec.smod 32).toNat = n := by decide +kernel
theorem s_u : ∀ n, n < 32 → (((nI n).toUInt32 &&& Int32.toUInt32 31).toBitVec % 32).toNat = n := by decide +kernel
theorem b_shl (n : Nat) (hn : n < 32) (x : Int32) {i : Nat} (hi : i < 32) : bt (x <<< (nI n &&& 31)) i = (decide (n ≤ i) && bt x (i - n)) := by
  unfold bt
  rw [Int32.toBitVec_shiftLeft]
  show (x.toBitVec <<< ((nI n &&& 31).toBitVec.smod 32).toNat).getLsbD i = _
  rw [s_l n hn, BitVec.getLsbD_shiftLeft]
  rcases Nat.lt_or_ge i n with h | h
  · simp [h, Nat.not_le.mpr h]
  · simp [hi, h, Nat.not_lt.mpr h]
theorem b_ushr (n : Nat) (hn : n < 32) (x : Int32) (i : Nat) : bt ((x.toUInt32 >>> ((nI n).toUInt32 &&& Int32.toUInt32 31)).toInt32) i = bt x (n + i) := by
  show (x.toUInt32 >>> ((nI n).toUInt32 &&& Int32.toUInt32 31)).toBitVec.getLsbD i = x.toUInt32.toBitVec.getLsbD (n + i)
  rw [UInt32.toBitVec_shiftRight]
  show (x.toUInt32.toBitVec >>> (((nI n).toUInt32 &&& Int32.toUInt32 31).toBitVec % 32).toNat).getLsbD i = _
  rw [s_u n hn, BitVec.getLsbD_ushiftRight]
theorem b_sshr (n : Nat) (hn : n < 32) (x : Int32) {i : Nat} (hi : i < 32) : bt (x >>> (nI n &&& 31)) i = if n + i < 32 then bt x (n + i) else bt x 31 := by
  unfold bt
  rw [Int32.toBitVec_shiftRight]
  show (x.toBitVec.sshiftRight ((nI n &&& 31).toBitVec.smod 32).toNat).getLsbD i = _
  rw [s_l n hn, BitVec.getLsbD_sshiftRight, BitVec.msb_eq_getLsbD_last]
  simp [hi]
theorem b_shl8 (x : Int32) {i : Nat} (hi : i < 32) : bt (x <<< ((8 : Int32) &&& 31)) i = (decide (8 ≤ i) && bt x (i - 8)) := b_shl 8 (by omega) x hi
theorem b_shl16 (x : Int32) {i : Nat} (hi : i < 32) : bt (x <<< ((16 : Int32) &&& 31)) i = (decide (16 ≤ i) && bt x (i - 16)) := b_shl 16 (by omega) x hi
theorem b_shl24 (x : Int32) {i : Nat} (hi : i < 32) : bt (x <<< ((24 : Int32) &&& 31)) i = (decide (24 ≤ i) && bt x (i - 24)) := b_shl 24 (by omega) x hi
theorem b_sshr8 (x : Int32) {i : Nat} (hi : i < 32) : bt (x >>> ((8 : Int32) &&& 31)) i = if 8 + i < 32 then bt x (8 + i) else bt x 31 := b_sshr 8 (by omega) x hi
/-! ===== nI under and, xor, >>>, one bit, 65535 ===== -/
theorem nx_and (a b : Nat) : nI a &&& nI b = nI (a &&& b) := by
  apply Int32.toBitVec_inj.1
  show BitVec.ofNat 32 a &&& BitVec.ofNat 32 b = BitVec.ofNat 32 (a &&& b)
  apply BitVec.eq_of_getLsbD_eq
  intro i hi
  simp [hi]
theorem nx_xor (a b : Nat) : nI a ^^^ nI b = nI (a ^^^ b) := by
  apply Int32.toBitVec_inj.1
  show BitVec.ofNat 32 a ^^^ BitVec.ofNat 32 b = BitVec.ofNat 32 (a ^^^ b)
  apply BitVec.eq_of_getLsbD_eq
  intro i hi
  simp [hi]
theorem nx_cnt : ∀ j : Fin 32, (UInt32.ofNat j.val &&& Int32.toUInt32 31).toNat % 32 = j.val := by decide +kernel
theorem nx_ush {k j : Nat} (hk : k < 65536) (hj : j < 32) : ((nI k).toUInt32 >>> ((nI j).toUInt32 &&& Int32.toUInt32 31)).toInt32 = nI (k >>> j) := by
  have hs : k >>> j ≤ k := by
    rw [Nat.shiftRight_eq_div_pow]
    exact Nat.div_le_self _ _
  have e2 : UInt32.ofNat k >>> (UInt32.ofNat j &&& Int32.toUInt32 31) = UInt32.ofNat (k >>> j) := by
    apply UInt32.toNat_inj.1
    have h1 : (UInt32.ofNat k).toNat = k := Nat.mod_eq_of_lt (by omega)
    have h2 : (UInt32.ofNat (k >>> j)).toNat = k >>> j := Nat.mod_eq_of_lt (by omega)
    rw [UInt32.toNat_shiftRight, nx_cnt ⟨j, hj⟩, h1, h2]
  show (UInt32.ofNat k >>> (UInt32.ofNat j &&& Int32.toUInt32 31)).toInt32 = _
  rw [e2]
  rfl
theorem nx_bit {k j : Nat} (hk : k < 65536) (hj : j < 16) : (((nI k).toUInt32 >>> ((nI j).toUInt32 &&& Int32.toUInt32 31)).toInt32 &&& 1) = 0 ↔ k.testBit j = false := by
  rw [nx_ush hk (by omega)]
  show nI (k >>> j) &&& nI 1 = 0 ↔ _
  rw [nx_and, Nat.and_one_is_mod, ← nI_0, nI_eq (by omega) (by omega), Nat.testBit_eq_decide_div_mod_eq, Nat.shiftRight_eq_div_pow, decide_eq_false_iff_not]
  generalize k / 2 ^ j = z
  omega
theorem nx_mod (k : Nat) : nI k &&& 65535 = nI (k % 65536) := by
  show nI k &&& nI 65535 = _
  rw [nx_and, show (65535 : Nat) = 2 ^ 16 - 1 from rfl, Nat.and_two_pow_sub_one_eq_mod]
theorem nx_m16 {k : Nat} (h : k < 65536) : nI k &&& 65535 = nI k := by rw [nx_mod, Nat.mod_eq_of_lt h]
theorem nx_mask (x : Int32) : ∃ k, k < 65536 ∧ x &&& 65535 = nI k := by
  have e : x = nI x.toBitVec.toNat := by
    apply Int32.toBitVec_inj.1
    show x.toBitVec = BitVec.ofNat 32 x.toBitVec.toNat
    simp
  refine ⟨x.toBitVec.toNat % 65536, Nat.mod_lt _ (by omega), ?_⟩
  rw [← nx_mod, ← e]
/-! ===== Int32 as a set of bits: test, set ===== -/
def nf_M (m : Int32) : Nat := 4294967296 - m.toBitVec.toNat
theorem nf_sh : ∀ l, l < 32 → ((1 : Int32) <<< (nI l &&& 31)).toBitVec = BitVec.twoPow 32 l := by decide +kernel
theorem nf_sl : ∀ l, l < 32 → (((nI l).toUInt32 &&& Int32.toUInt32 31).toBitVec % 32).toNat = l := by decide +kernel
theorem nf_tp : ∀ l, l < 32 → BitVec.twoPow 32 l ≠ 0#32 := by decide +kernel
theorem nf_bit (m : Int32) (l : Nat) (hl : l < 32) : ((m.toUInt32 >>> ((nI l).toUInt32 &&& Int32.toUInt32 31)).toInt32 &&& 1) = 0 ↔ (m &&& ((1 : Int32) <<< (nI l &&& 31))) = 0 := by
  have e : ((m.toUInt32 >>> ((nI l).toUInt32 &&& Int32.toUInt32 31)).toInt32).toBitVec = m.toBitVec >>> l := by
    show m.toBitVec >>> (((nI l).toUInt32 &&& Int32.toUInt32 31).toBitVec % 32) = m.toBitVec >>> l
    rw [BitVec.ushiftRight_eq', nf_sl l hl]
  rw [← Int32.toBitVec_inj, ← Int32.toBitVec_inj, Int32.toBitVec_and, Int32.toBitVec_and, nf_sh l hl, e, BitVec.and_twoPow]
  show (m.toBitVec >>> l &&& 1#32) = 0#32 ↔ _ = 0#32
  rw [BitVec.and_one_eq_setWidth_ofBool_getLsbD, BitVec.getLsbD_ushiftRight, Nat.add_zero]
  cases hb : m.toBitVec.getLsbD l
  · exact ⟨fun _ => by simp, fun _ => by decide⟩
  · exact ⟨fun z => absurd z (by decide), fun z => absurd ((if_pos rfl).symm.trans z) (nf_tp l hl)⟩
theorem nf_gr (m k : Int32) (h : m &&& k = 0) (hk : k ≠ 0) : nf_M (m ||| k) < nf_M m := by
  have hm := m.toBitVec.isLt
  have hm' := (m ||| k).toBitVec.isLt
  have h1 : m.toBitVec.toNat ≤ (m ||| k).toBitVec.toNat := by
    rw [Int32.toBitVec_or, BitVec.toNat_or]
    exact Nat.left_le_or
  have h2 : m.toBitVec.toNat ≠ (m ||| k).toBitVec.toNat := by
    intro e
    have e2 : m = m ||| k := Int32.toBitVec_inj.mp (BitVec.eq_of_toNat_eq e)
    apply hk
    apply Int32.toBitVec_inj.mp
    show k.toBitVec = 0#32
    apply BitVec.eq_of_getLsbD_eq
    intro i hi
    have a : m.toBitVec.getLsbD i = (m.toBitVec.getLsbD i || k.toBitVec.getLsbD i) := by rw [← BitVec.getLsbD_or, ← Int32.toBitVec_or, ← e2]
    have b : (m.toBitVec.getLsbD i && k.toBitVec.getLsbD i) = false := by
      rw [← BitVec.getLsbD_and, ← Int32.toBitVec_and, h]
      exact BitVec.getLsbD_zero
    rw [BitVec.getLsbD_zero]
    revert a b
    cases m.toBitVec.getLsbD i <;> cases k.toBitVec.getLsbD i <;> simp
  unfold nf_M
  omega
/-! ===== a byte read unsigned ===== -/
theorem bp_b (x : Int32) : x.toInt8.toInt32 &&& 255 = x &&& 255 := by
  apply Int32.toBitVec_inj.mp
  rw [Int32.toBitVec_and, Int32.toBitVec_and, Int8.toBitVec_toInt32, Int32.toBitVec_toInt8]
  apply BitVec.eq_of_getLsbD_eq
  intro i hi
  rw [BitVec.getLsbD_and, BitVec.getLsbD_and]
  have hm : ∀ i < 32, 8 ≤ i → (255 : Int32).toBitVec.getLsbD i = false := by decide
  rcases Nat.lt_or_ge i 8 with z | z
  · rw [BitVec.getLsbD_signExtend, BitVec.getLsbD_signExtend, if_pos z, if_pos hi]
    simp only [z, hi, decide_true, Bool.true_and]
  · rw [hm i hi z]; simp
/-! ===== the char cast and 65535 ===== -/
theorem em_w (v : Int32) : ∃ w : Nat, w < 65536 ∧ (v.toUInt32 % 65536).toInt32 = nI w ∧ v &&& 65535 = nI w := by
  have hr := lw_u16_r v
  have h0 : (0 : Int32).toInt = 0 := by decide
  obtain ⟨w, h1, h2⟩ := nI_of (x := lw_u16 v) (by rw [Int32.lt_iff_toInt_lt]; omega)
  have h3 : (v.toUInt32 % 65536).toInt32 = nI w := h2
  rw [h2, nI_toInt h1] at hr
  exact ⟨w, by omega, h3, by rw [← lg_i2c_mask, ← lg_i2c_nf, h3]⟩
/-! ===== Int64 as a set of bits: test, set, clear ===== -/
theorem ts_nf {x : Bool} (h : ¬ x = false) : x = true := by cases x <;> first | rfl | exact absurd rfl h
theorem ts_nt {x : Bool} (h : ¬ x = true) : x = false := by cases x <;> first | rfl | exact absurd rfl h
theorem ts_bit {w : Int64} {s : UInt64} {j : Nat} (hj : j < 64) (hs : s.toNat = j) : ((w.toUInt64 >>> s).toInt64 &&& 1) = 0 ↔ w.toBitVec.getLsbD j = false := by
  have e : (w.toUInt64 >>> s).toInt64.toBitVec = w.toBitVec >>> j := by
    apply BitVec.eq_of_toNat_eq
    show (w.toUInt64 >>> s).toNat = _
    rw [UInt64.toNat_shiftRight, hs, Nat.mod_eq_of_lt hj, BitVec.toNat_ushiftRight]
    rfl
  rw [← Int64.toBitVec_inj, Int64.toBitVec_and, e]
  show w.toBitVec >>> j &&& 1#64 = 0#64 ↔ _
  constructor
  · intro h
    have t := congrArg (fun x => x.getLsbD 0) h
    simpa using t
  · intro h
    apply BitVec.eq_of_getLsbD_eq
    intro i hi
    cases i with
    | zero => simp [h]
    | succ i => simp
theorem ts_or {w m : Int64} {j : Nat} (hj : j < 64) (hm : m.toBitVec = BitVec.twoPow 64 j) : (w ||| m) = w ↔ w.toBitVec.getLsbD j = true := by
  rw [← Int64.toBitVec_inj, Int64.toBitVec_or, hm]
  constructor
  · intro h
    have t := congrArg (fun x => x.getLsbD j) h
    simp only [BitVec.getLsbD_or, BitVec.getLsbD_twoPow] at t
    simpa [hj] using t.symm
  · intro h
    apply BitVec.eq_of_getLsbD_eq
    intro i hi
    rw [BitVec.getLsbD_or, BitVec.getLsbD_twoPow]
    by_cases e : j = i
    · subst e; rw [h, Bool.true_or]
    · simp [e]
theorem ts_and {w m : Int64} {j : Nat} (hj : j < 64) (hm : m.toBitVec = BitVec.twoPow 64 j) : (w &&& (m ^^^ (-1))) = w ↔ w.toBitVec.getLsbD j = false := by
  have ha : (-1 : Int64).toBitVec = BitVec.allOnes 64 := by decide
  rw [← Int64.toBitVec_inj, Int64.toBitVec_and, Int64.toBitVec_xor, hm, ha]
  constructor
  · intro h
    have t := congrArg (fun x => x.getLsbD j) h
    simp only [BitVec.getLsbD_and, BitVec.getLsbD_xor, BitVec.getLsbD_twoPow, BitVec.getLsbD_allOnes] at t
    simpa [hj] using t.symm
  · intro h
    apply BitVec.eq_of_getLsbD_eq
    intro i hi
    rw [BitVec.getLsbD_and, BitVec.getLsbD_xor, BitVec.getLsbD_twoPow, BitVec.getLsbD_allOnes]
    by_cases e : j = i
    · subst e; rw [h, Bool.false_and]
    · simp [e, hi]
/-! ===== lN n to 2^64: shifts, and, or, masks, one bit ===== -/
theorem wb_tb (n : Nat) : (lN n).toBitVec = BitVec.ofNat 64 n := rfl
theorem wb_inj {a b : Int64} (h : a.toBitVec = b.toBitVec) : a = b := Int64.toBitVec_inj.mp h
theorem wb_tn {n : Nat} (h : n < 2 ^ 64) : (lN n).toBitVec.toNat = n := by rw [wb_tb, BitVec.toNat_ofNat, Nat.mod_eq_of_lt h]
theorem wb_of (x : Int64) : ∃ n, n < 2 ^ 64 ∧ x = lN n := ⟨x.toBitVec.toNat, x.toBitVec.isLt, wb_inj (by rw [wb_tb]; simp)⟩
theorem wb_of32 (x : Int32) : ∃ n, n < 2 ^ 32 ∧ x = nI n := ⟨x.toBitVec.toNat, x.toBitVec.isLt, Int32.toBitVec_inj.mp (by show _ = BitVec.ofNat 32 _; simp)⟩
theorem wb_c : ∀ k, k < 64 → ((nI k).toInt64 &&& 63) = lN k := by decide +kernel
theorem wb_cu : ∀ k, k < 64 → ((nI k).toInt64.toUInt64 &&& Int64.toUInt64 63) = UInt64.ofNat k := by decide +kernel
theorem wb_sm : ∀ k, k < 64 → (BitVec.ofNat 64 k).smod 64 = BitVec.ofNat 64 k := by decide +kernel
theorem wb_pw {a b : Nat} (h : a ≤ b) : 2 ^ b = 2 ^ a * 2 ^ (b - a) := by rw [← Nat.pow_add]; congr 1; omega
theorem wb_lt2 {a b : Nat} (h : a < b) : 2 ^ a < 2 ^ b := Nat.pow_lt_pow_right (by decide) h
theorem wb_mod (n : Nat) : lN n = lN (n % 2 ^ 64) := wb_inj (by rw [wb_tb, wb_tb]; apply BitVec.eq_of_toNat_eq; rw [BitVec.toNat_ofNat, BitVec.toNat_ofNat, Nat.mod_mod])
theorem wb_shr {n k : Nat} (hn : n < 2 ^ 64) (hk : k < 64) : ((lN n).toUInt64 >>> ((nI k).toInt64.toUInt64 &&& Int64.toUInt64 63)).toInt64 = lN (n / 2 ^ k) := by
  rw [wb_cu k hk]
  apply wb_inj
  apply BitVec.eq_of_toNat_eq
  show ((lN n).toUInt64 >>> UInt64.ofNat k).toNat = (BitVec.ofNat 64 _).toNat
  have h1 : (UInt64.ofNat k).toNat = k := by
    show (BitVec.ofNat 64 k).toNat = k
    rw [BitVec.toNat_ofNat, Nat.mod_eq_of_lt (by omega)]
  have h2 : (lN n).toUInt64.toNat = n := wb_tn hn
  rw [UInt64.toNat_shiftRight, h1, h2, Nat.mod_eq_of_lt hk, Nat.shiftRight_eq_div_pow, BitVec.toNat_ofNat, Nat.mod_eq_of_lt (Nat.lt_of_le_of_lt (Nat.div_le_self _ _) hn)]
theorem wb_shl (n : Nat) {k : Nat} (hk : k < 64) : lN n <<< ((nI k).toInt64 &&& 63) = lN (n * 2 ^ k) := by
  rw [wb_c k hk]
  apply wb_inj
  rw [Int64.toBitVec_shiftLeft, wb_tb, wb_tb, wb_tb, wb_sm k hk]
  apply BitVec.eq_of_toNat_eq
  rw [BitVec.shiftLeft_eq', BitVec.toNat_shiftLeft, BitVec.toNat_ofNat, BitVec.toNat_ofNat, BitVec.toNat_ofNat, Nat.mod_eq_of_lt (show k < 2 ^ 64 by omega), Nat.shiftLeft_eq, Nat.mul_mod, Nat.mod_mod, ← Nat.mul_mod]
theorem wb_and {a b : Nat} (ha : a < 2 ^ 64) (hb : b < 2 ^ 64) : lN a &&& lN b = lN (a &&& b) := by
  apply wb_inj
  rw [Int64.toBitVec_and, wb_tb, wb_tb, wb_tb]
  apply BitVec.eq_of_toNat_eq
  rw [BitVec.toNat_and, BitVec.toNat_ofNat, BitVec.toNat_ofNat, BitVec.toNat_ofNat, Nat.mod_eq_of_lt ha, Nat.mod_eq_of_lt hb, Nat.mod_eq_of_lt (Nat.and_lt_two_pow _ hb)]
theorem wb_or {a b : Nat} (ha : a < 2 ^ 64) (hb : b < 2 ^ 64) : lN a ||| lN b = lN (a ||| b) := by
  apply wb_inj
  rw [Int64.toBitVec_or, wb_tb, wb_tb, wb_tb]
  apply BitVec.eq_of_toNat_eq
  rw [BitVec.toNat_or, BitVec.toNat_ofNat, BitVec.toNat_ofNat, BitVec.toNat_ofNat, Nat.mod_eq_of_lt ha, Nat.mod_eq_of_lt hb, Nat.mod_eq_of_lt (Nat.or_lt_two_pow ha hb)]
theorem wb_mask {n k : Nat} (hn : n < 2 ^ 64) (hk : k < 64) : lN n &&& lN (2 ^ k - 1) = lN (n % 2 ^ k) := by
  rw [wb_and hn (by have := wb_lt2 hk; omega), Nat.and_two_pow_sub_one_eq_mod]
theorem wb_a1 {n : Nat} (hn : n < 2 ^ 64) : lN n &&& 1 = lN (n % 2) := wb_mask (k := 1) hn (by decide)
theorem wb_bit {n k : Nat} (hn : n < 2 ^ 64) (hk : k < 64) : ((lN n).toUInt64 >>> ((nI k).toInt64.toUInt64 &&& Int64.toUInt64 63)).toInt64 &&& 1 = lN (n / 2 ^ k % 2) := by
  rw [wb_shr hn hk, wb_a1 (Nat.lt_of_le_of_lt (Nat.div_le_self _ _) hn)]
theorem wb_xor {q k : Nat} (hk : k < 63) (h : 2 ^ k ≤ q) (h2 : q < 2 ^ (k + 1)) : lN q ^^^ lN (2 ^ k) = lN (q - 2 ^ k) := by
  obtain ⟨r, rfl⟩ : ∃ r, q = 2 ^ k + r := ⟨q - 2 ^ k, by omega⟩
  have hr : r < 2 ^ k := by rw [Nat.pow_succ] at h2; omega
  have hx : (2 ^ k + r) ^^^ 2 ^ k = r := by
    apply Nat.eq_of_testBit_eq
    intro i
    rw [Nat.testBit_xor, Nat.testBit_two_pow]
    rcases Nat.lt_trichotomy i k with h | h | h
    · rw [Nat.testBit_two_pow_add_gt h]
      simp [show ¬ k = i by omega]
    · subst h
      rw [Nat.testBit_two_pow_add_eq]
      simp
    · have a1 : 2 ^ (k + 1) ≤ 2 ^ i := Nat.pow_le_pow_right (by decide) h
      rw [Nat.testBit_lt_two_pow (show 2 ^ k + r < 2 ^ i by omega), Nat.testBit_lt_two_pow (show r < 2 ^ i by omega)]
      simp [show ¬ k = i by omega]
  have b1 := wb_lt2 (show k + 1 < 64 by omega)
  have b2 := wb_lt2 (show k < 64 by omega)
  apply wb_inj
  rw [Int64.toBitVec_xor, wb_tb, wb_tb, wb_tb]
  apply BitVec.eq_of_toNat_eq
  rw [BitVec.toNat_xor, BitVec.toNat_ofNat, BitVec.toNat_ofNat, BitVec.toNat_ofNat, Nat.mod_eq_of_lt (by omega : 2 ^ k + r < 2 ^ 64), Nat.mod_eq_of_lt b2, hx, Nat.add_sub_cancel_left, Nat.mod_eq_of_lt (by omega)]
/-! ===== lN: masks, 'or' of parts that don't overlap is a sum ===== -/
theorem u_tn {n : Nat} (h : n < 2 ^ 64) : (UInt64.ofNat n).toNat = n := Nat.mod_eq_of_lt h
theorem g_and {a b c : Nat} (ha : a < 2 ^ 64) (hb : b < 2 ^ 64) (hc : a &&& b = c) : lN a &&& lN b = lN c := by
  subst hc
  have h : UInt64.ofNat a &&& UInt64.ofNat b = UInt64.ofNat (a &&& b) := UInt64.toNat_inj.mp (by rw [UInt64.toNat_and, u_tn ha, u_tn hb, u_tn (Nat.and_lt_two_pow a hb)])
  have h2 := congrArg UInt64.toInt64 h
  exact h2
theorem g_and1 {a : Nat} (ha : a < 2 ^ 64) : lN a &&& 1 = lN (a % 2) := g_and (b := 1) ha (by decide) (Nat.and_two_pow_sub_one_eq_mod a 1)
theorem g_mask {a s p : Nat} (hp : 2 ^ s = p) (hs : s < 64) (ha : a < 2 ^ 64) : lN a &&& lN (p - 1) = lN (a % p) := by
  subst hp
  have := Nat.pow_lt_pow_right (show 1 < 2 by decide) hs
  exact g_and ha (by omega) (Nat.and_two_pow_sub_one_eq_mod a s)
theorem g_or {k p a b : Nat} (hp : 2 ^ k = p) (ha : a < p) (h : b * p + a < 2 ^ 64) : lN (b * p) ||| lN a = lN (b * p + a) := by
  subst hp
  have h1 : b * 2 ^ k ||| a = b * 2 ^ k + a := by rw [← Nat.shiftLeft_eq, Nat.shiftLeft_add_eq_or_of_lt ha]
  have h3 : UInt64.ofNat (b * 2 ^ k) ||| UInt64.ofNat a = UInt64.ofNat (b * 2 ^ k + a) := UInt64.toNat_inj.mp (by rw [UInt64.toNat_or, u_tn (by omega), u_tn (by omega), u_tn h, h1])
  have h2 := congrArg UInt64.toInt64 h3
  exact h2
theorem g_or' {k p a b : Nat} (hp : 2 ^ k = p) (ha : a < p) (h : a + b * p < 2 ^ 64) : lN a ||| lN (b * p) = lN (a + b * p) := by
  rw [Int64.or_comm, g_or hp ha (by omega), Nat.add_comm]
theorem g_ushr {a k p : Nat} {y : UInt64} (hy : y = UInt64.ofNat k) (hk : k < 64) (hp : 2 ^ k = p) (ha : a < 2 ^ 64) : ((lN a).toUInt64 >>> y).toInt64 = lN (a / p) := by
  subst hy hp
  have h : UInt64.ofNat a >>> UInt64.ofNat k = UInt64.ofNat (a / 2 ^ k) := UInt64.toNat_inj.mp (by rw [UInt64.toNat_shiftRight, u_tn ha, u_tn (by omega), u_tn (Nat.lt_of_le_of_lt (Nat.div_le_self _ _) ha), Nat.mod_eq_of_lt hk, Nat.shiftRight_eq_div_pow])
  have h2 := congrArg UInt64.toInt64 h
  exact h2
theorem g_shl {a k p : Nat} {y : Int64} (hy : y.toBitVec.smod 64 = BitVec.ofNat 64 k) (hk : k < 64) (hp : 2 ^ k = p) (ha : a < 2 ^ 64) : lN a <<< y = lN (a * p) := by
  subst hp
  apply Int64.toBitVec_inj.mp
  rw [Int64.toBitVec_shiftLeft, hy]
  apply BitVec.eq_of_toNat_eq
  have hb : (lN a).toBitVec.toNat = a := Nat.mod_eq_of_lt ha
  have hk' : (BitVec.ofNat 64 k).toNat = k := Nat.mod_eq_of_lt (by omega)
  have h : ((lN a).toBitVec <<< BitVec.ofNat 64 k).toNat = (a * 2 ^ k) % 2 ^ 64 := by simp only [BitVec.shiftLeft_eq', BitVec.toNat_shiftLeft, hb, hk', Nat.shiftLeft_eq]
  exact h
/-! ===== lN to 2^62 under >> and >>> ===== -/
theorem pf_lI {a : Nat} (h : a < 2 ^ 63) : (lN a).toInt = (a : Int) := lg_ofNat_toInt h
theorem pf_shr {a d : Nat} {D : Int64} (hD : (D.toBitVec.smod 64).toNat = d) (h : a < 2 ^ 62) : lN a >>> D = lN (a / 2 ^ d) := by
  have hd : a / 2 ^ d ≤ a := Nat.div_le_self _ _
  apply Int64.toInt_inj.mp
  have e : (lN a >>> D).toInt = (lN a).toInt >>> d := by
    rw [← hD]
    exact BitVec.toInt_sshiftRight ..
  rw [e, Int.shiftRight_eq_div_pow, pf_lI (by omega), pf_lI (by omega)]
  rfl
theorem pf_ushr {a d : Nat} {D : UInt64} (hD : D.toNat % 64 = d) (h : a < 2 ^ 62) : ((lN a).toUInt64 >>> D).toInt64 = lN (a / 2 ^ d) := by
  have hd : a / 2 ^ d ≤ a := Nat.div_le_self _ _
  have e : (lN a).toUInt64 >>> D = UInt64.ofNat (a / 2 ^ d) := UInt64.toNat_inj.mp (by
    rw [UInt64.toNat_shiftRight, hD, Nat.shiftRight_eq_div_pow, UInt64.toNat_ofNat']
    show (UInt64.ofNat a).toNat / 2 ^ d = _
    rw [UInt64.toNat_ofNat', Nat.mod_eq_of_lt (by omega), Nat.mod_eq_of_lt (by omega)])
  rw [e]
  rfl
theorem pf_andw (x : Int64) : ∃ m, m < 2 ^ 32 ∧ x &&& 4294967295 = lN m := ⟨x.toBitVec.toNat % 2 ^ 32, Nat.mod_lt _ (by decide), Int64.toBitVec_inj.mp (BitVec.eq_of_toNat_eq (by
  show (x.toBitVec &&& 4294967295#64).toNat = (BitVec.ofNat 64 (x.toBitVec.toNat % 2 ^ 32)).toNat
  rw [BitVec.toNat_and, show (4294967295#64).toNat = 2 ^ 32 - 1 from by decide, Nat.and_two_pow_sub_one_eq_mod, BitVec.toNat_ofNat]
  omega))⟩
/-! ===== Int64 as an unsigned number: uN x ===== -/
def uN (x : Int64) : Nat := x.toUInt64.toNat
theorem uN_lt (x : Int64) : uN x < 18446744073709551616 := x.toUInt64.toNat_lt
theorem uN_inj {x y : Int64} (h : uN x = uN y) : x = y := congrArg UInt64.toInt64 (UInt64.toNat_inj.mp h)
theorem uN_add (x y : Int64) : uN (x + y) = (uN x + uN y) % 18446744073709551616 := by
  show (x.toUInt64 + y.toUInt64).toNat = _
  exact UInt64.toNat_add _ _
theorem uN_mul (x y : Int64) : uN (x * y) = (uN x * uN y) % 18446744073709551616 := by
  show (x.toUInt64 * y.toUInt64).toNat = _
  exact UInt64.toNat_mul _ _
theorem uN_shl (x : Int64) : uN (x <<< ((1 : Int32).toInt64 &&& 63)) = (2 * uN x) % 18446744073709551616 := by
  have h : (((1 : Int32).toInt64 &&& 63).toBitVec.smod 64).toNat = 1 := by decide
  show (x.toBitVec <<< (((1 : Int32).toInt64 &&& 63).toBitVec.smod 64).toNat).toNat = _
  rw [h, BitVec.toNat_shiftLeft, Nat.shiftLeft_eq, Nat.mul_comm]
  rfl
theorem uN_shr (x : Int64) (s : UInt64) : uN (x.toUInt64 >>> s).toInt64 = uN x / 2 ^ (s.toNat % 64) := by
  show (x.toUInt64 >>> s).toNat = _
  rw [UInt64.toNat_shiftRight, Nat.shiftRight_eq_div_pow]
  rfl
theorem uN_s32 (x : Int64) : uN (x.toUInt64 >>> ((32 : Int32).toInt64.toUInt64 &&& Int64.toUInt64 63)).toInt64 = uN x / 4294967296 := by
  have h : ((32 : Int32).toInt64.toUInt64 &&& Int64.toUInt64 63).toNat % 64 = 32 := by decide
  rw [uN_shr, h]
theorem uN_s63 (x : Int64) : uN (x.toUInt64 >>> ((63 : Int32).toInt64.toUInt64 &&& Int64.toUInt64 63)).toInt64 = uN x / 9223372036854775808 := by
  have h : ((63 : Int32).toInt64.toUInt64 &&& Int64.toUInt64 63).toNat % 64 = 63 := by decide
  rw [uN_shr, h]
theorem uN_lo (x : Int64) : uN (x &&& 4294967295) = uN x % 4294967296 := by
  show (x.toUInt64 &&& Int64.toUInt64 4294967295).toNat = _
  rw [UInt64.toNat_and]
  exact Nat.and_two_pow_sub_one_eq_mod _ 32
theorem uN_bit (x : Int64) : (x &&& 1) = 0 ↔ uN x % 2 = 0 := by
  have h : uN (x &&& 1) = uN x % 2 := by
    show (x.toUInt64 &&& Int64.toUInt64 1).toNat = _
    rw [UInt64.toNat_and]
    exact Nat.and_two_pow_sub_one_eq_mod _ 1
  rw [← h]
  exact ⟨fun z => by rw [z]; rfl, fun z => uN_inj (z.trans rfl)⟩
theorem uN_or {x y : Int64} (hy : uN y < 2) : uN ((x <<< ((1 : Int32).toInt64 &&& 63)) ||| y) = (2 * uN x) % 18446744073709551616 + uN y := by
  have h1 : uN ((x <<< ((1 : Int32).toInt64 &&& 63)) ||| y) = uN (x <<< ((1 : Int32).toInt64 &&& 63)) ||| uN y := UInt64.toNat_or _ _
  have h2 : (2 * uN x) % 18446744073709551616 = 2 ^ 1 * (uN x % 9223372036854775808) := by omega
  rw [h1, uN_shl, h2]
  exact (Nat.two_pow_add_eq_or_of_lt (i := 1) hy _).symm
theorem nat_xor {a : Nat} (h : a < 18446744073709551616) : a ^^^ 2 ^ 63 = (a + 9223372036854775808) % 18446744073709551616 := by
  have h1 : (a ^^^ 2 ^ 63) % 2 ^ 63 = a % 2 ^ 63 := by rw [Nat.xor_mod_two_pow, Nat.mod_self, Nat.xor_zero]
  have h2 : (a ^^^ 2 ^ 63) / 2 ^ 63 = (a / 2 ^ 63) ^^^ 1 := by rw [Nat.xor_div_two_pow, Nat.div_self (Nat.two_pow_pos 63)]
  have h3 : a / 2 ^ 63 = 0 ∨ a / 2 ^ 63 = 1 := by omega
  generalize a ^^^ 2 ^ 63 = t at h1 h2
  rcases h3 with h3 | h3
  · rw [h3] at h2
    have h2 : t / 2 ^ 63 = 1 := h2
    omega
  · rw [h3] at h2
    have h2 : t / 2 ^ 63 = 0 := h2
    omega
theorem uN_xor (x : Int64) : uN (x ^^^ (-9223372036854775808)) = (uN x + 9223372036854775808) % 18446744073709551616 := by
  rw [← nat_xor (uN_lt x)]
  exact UInt64.toNat_xor _ _
theorem uN_int (x : Int64) : x.toInt = if 2 * uN x < 18446744073709551616 then (uN x : Int) else (uN x : Int) - 18446744073709551616 := BitVec.toInt_eq_toNat_cond _
theorem uN_le (x y : Int64) : (x ^^^ (-9223372036854775808)) ≤ (y ^^^ (-9223372036854775808)) ↔ uN x ≤ uN y := by
  have hx := uN_lt x
  have hy := uN_lt y
  rw [Int64.le_iff_toInt_le, uN_int, uN_int, uN_xor, uN_xor]
  omega
theorem uN_sk (x : Int64) {k : Nat} (hk : k < 64) : uN (x.toUInt64 >>> ((nI k).toInt64.toUInt64 &&& Int64.toUInt64 63)).toInt64 = uN x / 2 ^ k := by
  have h : ((nI k).toInt64.toUInt64 &&& Int64.toUInt64 63).toNat % 64 = k := by
    rw [nI_l (by omega), UInt64.toNat_and]
    have e : (lN k).toUInt64.toNat = k % 2 ^ 64 := rfl
    have e2 : (Int64.toUInt64 63).toNat = 2 ^ 6 - 1 := by decide
    rw [e, e2, Nat.and_two_pow_sub_one_eq_mod]
    omega
  rw [uN_shr, h]
/-! ===== unsigned comparison by xor with the least ===== -/
theorem lN_bv (n : Nat) : (lN n).toBitVec = BitVec.ofNat 64 n := rfl
theorem lN_nat {n : Nat} (h : n < 2 ^ 64) : (lN n).toBitVec.toNat = n := by rw [lN_bv, BitVec.toNat_ofNat]; exact Nat.mod_eq_of_lt h
theorem lN_xor (a b : Nat) : lN a ^^^ lN b = lN (a ^^^ b) := by
  apply Int64.toBitVec_inj.mp; rw [Int64.toBitVec_xor, lN_bv, lN_bv, lN_bv]; apply BitVec.eq_of_getLsbD_eq; intro i hi; simp [BitVec.getLsbD_ofNat, Nat.testBit_xor, hi]
theorem lN_ti {m : Nat} (h : m < 2 ^ 64) : (lN m).toInt = if m < 2 ^ 63 then (m : Int) else (m : Int) - 2 ^ 64 := by
  have c := BitVec.toInt_eq_toNat_cond (lN m).toBitVec
  rw [lN_nat h] at c
  show (lN m).toBitVec.toInt = _
  rw [c]
  split <;> split <;> omega
theorem xor63 {x : Nat} (h : x < 2 ^ 63) : x ^^^ 2 ^ 63 = 2 ^ 63 + x := by
  apply Nat.eq_of_testBit_eq
  intro i
  rw [Nat.testBit_xor, Nat.testBit_two_pow]
  rcases Nat.lt_trichotomy i 63 with z | z | z
  · rw [Nat.testBit_two_pow_add_gt z, decide_eq_false (by omega)]; simp
  · subst z; rw [Nat.testBit_two_pow_add_eq]; simp
  · have hp : 2 ^ 64 ≤ 2 ^ i := Nat.pow_le_pow_right (by decide) z
    rw [Nat.testBit_lt_two_pow (show x < 2 ^ i by omega), Nat.testBit_lt_two_pow (show 2 ^ 63 + x < 2 ^ i by omega), decide_eq_false (by omega)]; rfl
theorem xorS {a : Nat} (h : a < 2 ^ 64) : (lN a ^^^ (-9223372036854775808)).toInt = (a : Int) - 2 ^ 63 := by
  rw [show (-9223372036854775808 : Int64) = lN (2 ^ 63) from by decide +kernel, lN_xor]
  rcases Nat.lt_or_ge a (2 ^ 63) with z | z
  · rw [xor63 z, lN_ti (by omega), if_neg (by omega)]; omega
  · obtain ⟨x, rfl⟩ : ∃ x, a = 2 ^ 63 + x := ⟨a - 2 ^ 63, by omega⟩
    rw [← xor63 (by omega), Nat.xor_assoc, Nat.xor_self, Nat.xor_zero, lN_ti (by omega), if_pos (by omega), xor63 (by omega)]; omega
theorem ultL {a b : Nat} (ha : a < 2 ^ 64) (hb : b < 2 ^ 64) : ((lN b ^^^ (-9223372036854775808)) ≤ (lN a ^^^ (-9223372036854775808))) ↔ b ≤ a := by
  rw [Int64.le_iff_toInt_le, xorS ha, xorS hb]; omega
/-! ===== Int64 masks of n low bits ===== -/
theorem cr_bits (W U M : BitVec 64) : ((W &&& U) &&& (U &&& (M ^^^ BitVec.allOnes 64))) = 0#64 ↔ (W &&& U) &&& M = W &&& U := by
  constructor
  · intro h
    apply BitVec.eq_of_getLsbD_eq
    intro i hi
    have e := congrArg (fun x => BitVec.getLsbD x i) h
    simp only [BitVec.getLsbD_and, BitVec.getLsbD_xor, BitVec.getLsbD_allOnes, BitVec.getLsbD_zero, hi, decide_true] at e ⊢
    revert e
    cases W.getLsbD i <;> cases U.getLsbD i <;> cases M.getLsbD i <;> decide
  · intro h
    apply BitVec.eq_of_getLsbD_eq
    intro i hi
    have e := congrArg (fun x => BitVec.getLsbD x i) h
    simp only [BitVec.getLsbD_and, BitVec.getLsbD_xor, BitVec.getLsbD_allOnes, BitVec.getLsbD_zero, hi, decide_true] at e ⊢
    revert e
    cases W.getLsbD i <;> cases U.getLsbD i <;> cases M.getLsbD i <;> decide
theorem cr_mask (w U m : Int64) (n : Nat) (hm : m.toBitVec.toNat = 2 ^ n - 1) : ((w &&& U) &&& (U &&& (m ^^^ (-1)))) = 0 ↔ (w &&& U).toBitVec.toNat < 2 ^ n := by
  have e0 : (-1 : Int64).toBitVec = BitVec.allOnes 64 := by decide
  have z0 : (0 : Int64).toBitVec = 0#64 := by decide
  rw [← Int64.toBitVec_inj, z0, Int64.toBitVec_and, Int64.toBitVec_and, Int64.toBitVec_and, Int64.toBitVec_xor, e0, cr_bits]
  generalize w.toBitVec &&& U.toBitVec = T
  rw [← BitVec.toNat_inj, BitVec.toNat_and, hm, Nat.and_two_pow_sub_one_eq_mod]
  constructor
  · intro h
    have t := Nat.mod_lt T.toNat (Nat.two_pow_pos n)
    rw [h] at t
    exact t
  · exact Nat.mod_eq_of_lt
theorem cr_shr (t : Int64) (x : UInt64) (n : Nat) (hx : x.toNat % 64 = n) : (t.toUInt64 >>> x).toInt64 = 0 ↔ t.toBitVec.toNat < 2 ^ n := by
  rw [← Int64.toBitVec_inj, ← BitVec.toNat_inj]
  show (t.toUInt64 >>> x).toNat = 0 ↔ t.toUInt64.toNat < 2 ^ n
  rw [UInt64.toNat_shiftRight, hx, Nat.shiftRight_eq_div_pow]
  constructor
  · intro h
    have d : t.toUInt64.toNat / 2 ^ n < 1 := by
      rw [h]
      decide
    have e := (Nat.div_lt_iff_lt_mul (Nat.two_pow_pos n)).mp d
    rw [Nat.one_mul] at e
    exact e
  · exact Nat.div_eq_of_lt
theorem cr_amt (s : Int64) : ∃ n, n < 64 ∧ s &&& 63 = lN n ∧ (s.toUInt64 &&& Int64.toUInt64 63).toNat % 64 = n := by
  have e : (s.toUInt64 &&& Int64.toUInt64 63).toNat = s.toUInt64.toNat % 2 ^ 6 := by
    rw [UInt64.toNat_and, show (Int64.toUInt64 63).toNat = 2 ^ 6 - 1 from by decide, Nat.and_two_pow_sub_one_eq_mod]
  refine ⟨s.toUInt64.toNat % 2 ^ 6, by omega, ?_, by omega⟩
  rw [← Int64.toBitVec_inj, ← BitVec.toNat_inj]
  show (s.toUInt64 &&& Int64.toUInt64 63).toNat = (BitVec.ofNat 64 (s.toUInt64.toNat % 2 ^ 6)).toNat
  rw [e, BitVec.toNat_ofNat]
  omega
end
section
/-! numbers: Int64 by their integers -/
theorem li_add {a b : Int64} (h1 : -4611686018427387904 ≤ a.toInt) (h2 : a.toInt < 4611686018427387904) (h3 : -4611686018427387904 ≤ b.toInt) (h4 : b.toInt < 4611686018427387904) : (a + b).toInt = a.toInt + b.toInt := by
  rw [Int64.toInt_add]
  exact Int.bmod_eq_of_le (by omega) (by omega)
theorem li_sub {a b : Int64} (h1 : -4611686018427387904 ≤ a.toInt) (h2 : a.toInt < 4611686018427387904) (h3 : -4611686018427387904 ≤ b.toInt) (h4 : b.toInt < 4611686018427387904) : (a - b).toInt = a.toInt - b.toInt := by
  rw [Int64.toInt_sub]
  exact Int.bmod_eq_of_le (by omega) (by omega)
theorem li_neg {a : Int64} (h1 : -4611686018427387904 ≤ a.toInt) (h2 : a.toInt < 4611686018427387904) : (-a).toInt = -a.toInt := by
  rw [Int64.toInt_neg]
  exact Int.bmod_eq_of_le (by omega) (by omega)
theorem li_mul {a b : Int64} (h1 : 0 ≤ a.toInt * b.toInt) (h2 : a.toInt * b.toInt < 9223372036854775808) : (a * b).toInt = a.toInt * b.toInt := by
  rw [Int64.toInt_mul]
  exact Int.bmod_eq_of_le (by omega) (by omega)
theorem li_all : (4294967295 : Int64).toInt = 4294967295 := by decide
theorem li_0 : (0 : Int64).toInt = 0 := by decide
theorem li_1 : (1 : Int64).toInt = 1 := by decide
theorem li_m1 : (-1 : Int64).toInt = -1 := by decide
theorem li_255 : (255 : Int64).toInt = 255 := by decide
theorem li_256 : (256 : Int64).toInt = 256 := by decide
theorem li_100 : (100 : Int64).toInt = 100 := by decide
theorem li_6 : (6 : Int64).toInt = 6 := by decide
theorem li_2 : (2 : Int64).toInt = 2 := by decide
theorem li_40 : (40 : Int64).toInt = 40 := by decide
theorem li_le {a b : Int64} : a ≤ b ↔ a.toInt ≤ b.toInt := Int64.le_iff_toInt_le
theorem li_lt {a b : Int64} : a < b ↔ a.toInt < b.toInt := Int64.lt_iff_toInt_lt
theorem li_eq {a b : Int64} : a = b ↔ a.toInt = b.toInt := Int64.toInt_inj.symm
theorem li_of {x : Int64} (h : 0 ≤ x.toInt) : ∃ n : Nat, x = lN n ∧ (n : Int) = x.toInt ∧ n < 2 ^ 63 := by
  have h63 := x.toInt_lt
  refine ⟨x.toInt.toNat, ?_, by omega, by omega⟩
  apply Int64.toInt_inj.mp
  rw [pk_lT (by omega)]
  omega
theorem li_imm (m : Int32) : 0 ≤ (m.toInt64 &&& 4294967295).toInt ∧ (m.toInt64 &&& 4294967295).toInt ≤ 4294967295 := by
  obtain ⟨k, hk, e⟩ := pf_andw m.toInt64
  rw [e, pk_lT (by omega)]
  omega
/-- the shift count -/
def z_sh (l : Int64) : Int64 := ((l &&& 31).toInt32).toInt64 &&& 63
theorem li_31 (x : Int64) : ∃ d : Nat, d < 32 ∧ x &&& 31 = lN d := by
  obtain ⟨n, hn, rfl⟩ := wb_of x
  refine ⟨n % 2 ^ 5, Nat.mod_lt _ (by decide), ?_⟩
  have h := wb_mask (k := 5) hn (by decide)
  exact h
theorem li_shc (x : Int64) : ∃ d : Nat, d < 32 ∧ x &&& 31 = lN d ∧ z_sh x = lN d ∧ ((z_sh x).toBitVec.smod 64).toNat = d := by
  obtain ⟨d, hd, e⟩ := li_31 x
  have e2 : z_sh x = lN d := by
    unfold z_sh
    rw [e, lN_i]
    exact wb_c d (by omega)
  refine ⟨d, hd, e, e2, ?_⟩
  rw [e2, wb_tb, wb_sm d (by omega), BitVec.toNat_ofNat]
  exact Nat.mod_eq_of_lt (by omega)
theorem li_shr {a : Int64} (h : 0 ≤ a.toInt) (h2 : a.toInt < 4611686018427387904) (x : Int64) : ∃ d : Nat, d < 32 ∧ z_sh x = lN d ∧ (a >>> z_sh x).toInt = a.toInt / 2 ^ d := by
  obtain ⟨d, hd, e1, e2, e3⟩ := li_shc x
  obtain ⟨n, rfl, hn, hn3⟩ := li_of h
  refine ⟨d, hd, e2, ?_⟩
  rw [pf_shr e3 (by omega), pk_lT (by have := Nat.div_le_self n (2 ^ d); omega), ← hn]
  simp
theorem li_shy (l : Int64) : (l.toInt32 &&& 31).toInt64 &&& 63 = z_sh l := by
  unfold z_sh
  rw [Int64.toInt32_and]
  rfl
end
section
/-! one instruction of the verifier, as data -/
abbrev zV : Type := Int32 × Int64 × Int64
abbrev zA : Type := (Nat → zV) × Int32 × Int32
abbrev zC : Type := Nat × Nat × Nat × Int32 × Int32
abbrev zO : Type := Int32 ⊕ ((Int64 × Int64) ⊕ ((Nat × zA) ⊕ ((Nat × zA) × (Nat × zA))))
abbrev zF (f : Int32) : zO := Sum.inl f
abbrev zE (l h : Int64) : zO := Sum.inr (Sum.inl (l, h))
abbrev z1 (j : Nat) (B : zA) : zO := Sum.inr (Sum.inr (Sum.inl (j, B)))
abbrev z2 (j : Nat) (C : zA) (k : Nat) (B : zA) : zO := Sum.inr (Sum.inr (Sum.inr ((j, C), (k, B))))
def z_el (fF : Int32 → Prop) (fE : Int64 → Int64 → Prop) (f1 : Nat → zA → Prop) (f2 : Nat → zA → Nat → zA → Prop) : zO → Prop
  | Sum.inl f => fF f
  | Sum.inr (Sum.inl e) => fE e.1 e.2
  | Sum.inr (Sum.inr (Sum.inl p)) => f1 p.1 p.2
  | Sum.inr (Sum.inr (Sum.inr q)) => f2 q.1.1 q.1.2 q.2.1 q.2.2
theorem z_el_F {fF : Int32 → Prop} {fE : Int64 → Int64 → Prop} {f1 : Nat → zA → Prop} {f2 : Nat → zA → Nat → zA → Prop} (f : Int32) : z_el fF fE f1 f2 (zF f) = fF f := rfl
theorem z_el_E {fF : Int32 → Prop} {fE : Int64 → Int64 → Prop} {f1 : Nat → zA → Prop} {f2 : Nat → zA → Nat → zA → Prop} (l h : Int64) : z_el fF fE f1 f2 (zE l h) = fE l h := rfl
theorem z_el_1 {fF : Int32 → Prop} {fE : Int64 → Int64 → Prop} {f1 : Nat → zA → Prop} {f2 : Nat → zA → Nat → zA → Prop} (j : Nat) (B : zA) : z_el fF fE f1 f2 (z1 j B) = f1 j B := rfl
theorem z_el_2 {fF : Int32 → Prop} {fE : Int64 → Int64 → Prop} {f1 : Nat → zA → Prop} {f2 : Nat → zA → Nat → zA → Prop} (j : Nat) (C : zA) (k : Nat) (B : zA) : z_el fF fE f1 f2 (z2 j C k B) = f2 j C k B := rfl
theorem z_el_mono {fF gF : Int32 → Prop} {fE gE : Int64 → Int64 → Prop} {f1 g1 : Nat → zA → Prop} {f2 g2 : Nat → zA → Nat → zA → Prop} {o : zO} (h : z_el fF fE f1 f2 o) (hF : ∀ f, fF f → gF f) (hE : ∀ a b, fE a b → gE a b) (h1 : ∀ j B, f1 j B → g1 j B) (h2 : ∀ j C k B, f2 j C k B → g2 j C k B) : z_el gF gE g1 g2 o := by
  rcases o with f | e | p | q
  · exact hF _ h
  · exact hE _ _ h
  · exact h1 _ _ h
  · exact h2 _ _ _ _ h
theorem z_el_and {fF gF : Int32 → Prop} {fE gE : Int64 → Int64 → Prop} {f1 g1 : Nat → zA → Prop} {f2 g2 : Nat → zA → Nat → zA → Prop} {o : zO} (h : z_el fF fE f1 f2 o) (g : z_el gF gE g1 g2 o) : z_el (fun f => fF f ∧ gF f) (fun a b => fE a b ∧ gE a b) (fun j B => f1 j B ∧ g1 j B) (fun j C k B => f2 j C k B ∧ g2 j C k B) o := by
  rcases o with f | e | p | q
  · exact ⟨h, g⟩
  · exact ⟨h, g⟩
  · exact ⟨h, g⟩
  · exact ⟨h, g⟩
def z_set (f : Nat → zV) (k : Nat) (v : zV) : Nat → zV := fun j => if j = k then v else f j
def z_src (s : Nat) (f : Nat → zV) : zV := if s = 8 then (4, 0, 0) else f s
def z_im (m : Int32) : zV := (1, m.toInt64 &&& 4294967295, m.toInt64 &&& 4294967295)
def z_orF (a b : Int64) : Nat → Int64 → Int64
  | 0, x => x
  | n + 1, x => if x < a ∨ x < b then z_orF a b n (2 * x + 1) else x
def z_or (a b : Int64) : Int64 := z_orF a b 33 0
def z_iv (n : Nat) (a b l h : Int64) : Int64 × Int64 :=
  if n = 1 then (a + l, b + h) else if n = 2 then (a - h, b - l)
  else if n = 3 then (if ¬ h ≤ 0 ∧ ¬ b ≤ 4294967295 / h then (-1, 4294967295) else (a * l, b * h))
  else if n = 4 then (0, if h ≤ b then h else b) else if n = 5 then (if a ≤ l then l else a, z_or b h)
  else if l = h then (a >>> z_sh l, b >>> z_sh l) else (0, b)
def z_cl (p : Int64 × Int64) : zV := if p.1 < 0 ∨ ¬ p.2 ≤ 4294967295 then (1, 0, 4294967295) else (1, p.1, p.2)
def z_by (n : Nat) (l : Int64) : Int64 := if n = 1 then l else -l
def z_alu (n d i : Nat) (f : Nat → zV) (sf lk : Int32) (w : zV) : zO :=
  if w.1 = 0 then zF 2 else if n = 0 then z1 (i + 1) (z_set f d w, sf, lk) else if (f d).1 = 0 then zF 2
  else if w.1 = 1 ∧ (f d).1 = 1 then z1 (i + 1) (z_set f d (z_cl (z_iv n (f d).2.1 (f d).2.2 w.2.1 w.2.2)), sf, lk)
  else if w.1 = 1 ∧ (f d).1 = 2 ∧ n = 1 ∧ ¬ 256 ≤ (f d).2.2 + w.2.2 then z1 (i + 1) (z_set f d (2, (f d).2.1 + w.2.1, (f d).2.2 + w.2.2), sf, lk)
  else if w.1 = 1 ∧ w.2.1 = w.2.2 ∧ ¬ 100 < w.2.2 ∧ ((f d).1 = 4 ∨ (f d).1 = 5) ∧ n < 3 then z1 (i + 1) (z_set f d ((f d).1, (f d).2.1 + z_by n w.2.1, (f d).2.2 + z_by n w.2.1), sf, lk)
  else zF 3
def z_pos (t : Nat) (v w : zV) : Bool :=
  if t = 1 then decide (¬ w.2.2 < v.2.1 ∧ ¬ v.2.2 < w.2.1) else if t = 2 then decide (v.2.1 < v.2.2 ∨ w.2.1 < w.2.2 ∨ ¬ v.2.1 = w.2.1)
  else if t = 3 then decide (¬ w.2.2 ≤ v.2.1) else decide (¬ v.2.2 < w.2.1)
def z_opp (t : Nat) : Nat := if 3 ≤ t then 7 - t else 3 - t
def z_cut (t : Nat) (v w : zV) : zV :=
  if ¬ w.2.1 = w.2.2 then v else if t = 1 then (1, w.2.1, w.2.1)
  else if t = 2 then (if v.2.1 = w.2.1 then (1, v.2.1 + 1, v.2.2) else if v.2.2 = w.2.1 then (1, v.2.1, v.2.2 - 1) else v)
  else if t = 3 then (if w.2.1 ≤ v.2.2 then (1, v.2.1, w.2.1 - 1) else v)
  else (if v.2.1 ≤ w.2.1 then (1, w.2.1, v.2.2) else v)
def z_to (i : Nat) (off : Int32) : Nat := if 40 < i + 1 + off.toNatClampNeg then 40 else i + 1 + off.toNatClampNeg
def z_stl (f : Nat → zV) (n : Int64) (b : Bool) : Nat → zV := fun k => if (f k).1 = 6 ∧ (f k).2.1 = n then (if b then (1, 0, 0) else (5, 0, 0)) else f k
def z_mx (a b : Int32) : Int32 := if b ≤ a then a else b
def z_jc (t d i to : Nat) (f : Nat → zV) (sf lk : Int32) (w : zV) : zO :=
  if (f d).1 = 1 ∧ w.1 = 1 then
    (if z_pos t (f d) w = true then
      (if z_pos (z_opp t) (f d) w = true then z2 (i + 1) (z_set f d (z_cut (z_opp t) (f d) w), sf, lk) to (z_set f d (z_cut t (f d) w), sf, lk)
       else z1 to (z_set f d (z_cut t (f d) w), sf, lk))
     else z1 (i + 1) (z_set f d (z_cut (z_opp t) (f d) w), sf, lk))
  else if (f d).1 = 6 ∧ w.1 = 1 ∧ w.2.2 = 0 ∧ t < 3 then z2 (i + 1) (z_stl f (f d).2.1 (decide (t = 2)), sf, lk) to (z_stl f (f d).2.1 (decide (t = 1)), sf, lk)
  else if 2 < t ∧ (f d).1 = 2 ∧ w.1 = 3 then
    (if t = 3 then z2 (i + 1) (f, sf, lk) to (f, z_mx sf ((f d).2.1 + 1).toInt32, lk) else z2 (i + 1) (f, z_mx sf ((f d).2.1 + 1).toInt32, lk) to (f, sf, lk))
  else if 2 < t ∧ (f d).1 = 3 ∧ w.1 = 2 then
    (if t = 3 then z2 (i + 1) (f, z_mx sf w.2.1.toInt32, lk) to (f, sf, lk) else z2 (i + 1) (f, sf, lk) to (f, z_mx sf w.2.1.toInt32, lk))
  else zF 3
def z_jmp (o d s i : Nat) (off im : Int32) (f : Nat → zV) (sf lk : Int32) : zO :=
  if off < 0 then zF 1 else if o = 20 then z1 (z_to i off) (f, sf, lk) else if (f d).1 = 0 then zF 2
  else if (if o < 30 then z_im im else z_src s f).1 = 0 then zF 2
  else z_jc (o % 10) d i (z_to i off) f sf lk (if o < 30 then z_im im else z_src s f)
def z_ld (d i : Nat) (off : Int32) (f : Nat → zV) (sf lk : Int32) (w : zV) : zO :=
  if w.1 = 0 then zF 2 else if ¬ (w.1 = 4 ∨ w.1 = 5) then zF 3
  else if (off < -100 ∨ 100 < off ∨ w.2.1 + off.toInt64 < 0 ∨ ¬ w.2.2 + off.toInt64 < (if w.1 = 4 then 6 else 2)) then zF 4
  else if w.1 = 5 then z1 (i + 1) (z_set f d (1, 0, 4294967295), sf, lk)
  else if (f (8 + (w.2.1 + off.toInt64).toInt32.toNatClampNeg)).1 = 0 then zF 2
  else z1 (i + 1) (z_set f d (f (8 + (w.2.1 + off.toInt64).toInt32.toNatClampNeg)), sf, lk)
def z_sto (d i : Nat) (off : Int32) (f : Nat → zV) (sf lk : Int32) (w : zV) : zO :=
  if (f d).1 = 0 then zF 2 else if w.1 = 0 then zF 2 else if ¬ ((f d).1 = 4 ∨ (f d).1 = 5) then zF 3
  else if (off < -100 ∨ 100 < off ∨ (f d).2.1 + off.toInt64 < 0 ∨ ¬ (f d).2.1 + off.toInt64 < (if (f d).1 = 4 then 6 else 2)) then zF 4
  else if (f d).1 = 4 then z1 (i + 1) (z_set f (8 + ((f d).2.1 + off.toInt64).toInt32.toNatClampNeg) w, sf, lk)
  else if w.1 = 1 then z1 (i + 1) (f, sf, lk) else zF 3
def z_pkt (d i : Nat) (off : Int32) (f : Nat → zV) (sf lk : Int32) (w : zV) : zO :=
  if w.1 = 0 then zF 2 else if ¬ w.1 = 2 then zF 3
  else if (off < -100 ∨ 100 < off ∨ w.2.1 + off.toInt64 < 0 ∨ ¬ w.2.2 + off.toInt64 < sf.toInt64) then zF 4
  else z1 (i + 1) (z_set f d (1, 0, 255), sf, lk)
def z_kill (f : Nat → zV) : Nat → zV := fun k => if (0 < k ∧ k < 6) ∨ (f k).1 = 5 ∨ (f k).1 = 6 then (0, 0, 0) else f k
def z_hlp (o i : Nat) (im : Int32) (f : Nat → zV) (sf lk : Int32) : zO :=
  if im < 0 ∨ ¬ im ≤ 1 then zF 1
  else if (f 1).1 = 0 ∨ (o = 51 ∧ ((f 2).1 = 0 ∨ (f 3).1 = 0)) then zF 2
  else if ¬ (f 1).1 = 1 ∨ (o = 51 ∧ (¬ (f 2).1 = 1 ∨ ¬ (f 3).1 = 1)) then zF 3
  else if o = 50 then z1 (i + 1) (z_set (z_kill f) 0 (6, (lk + 1).toInt64, (lk + 1).toInt64), sf, lk + 1)
  else z1 (i + 1) (z_set (z_kill f) 0 (1, 0, 1), sf, lk)
def z_ext (f : Nat → zV) : zO := if (f 0).1 = 0 then zF 2 else if (f 0).1 = 1 then zE (f 0).2.1 (f 0).2.2 else zF 3
def z_stp (c : zC) (i : Nat) (A : zA) : zO :=
  if c.1 < 20 then z_alu (c.1 % 10) c.2.1 i A.1 A.2.1 A.2.2 (if c.1 < 10 then z_im c.2.2.2.2 else z_src c.2.2.1 A.1)
  else if c.1 < 40 then z_jmp c.1 c.2.1 c.2.2.1 i c.2.2.2.1 c.2.2.2.2 A.1 A.2.1 A.2.2
  else if c.1 = 40 then z_ld c.2.1 i c.2.2.2.1 A.1 A.2.1 A.2.2 (z_src c.2.2.1 A.1)
  else if c.1 = 41 then z_sto c.2.1 i c.2.2.2.1 A.1 A.2.1 A.2.2 (z_src c.2.2.1 A.1)
  else if c.1 = 42 then z_pkt c.2.1 i c.2.2.2.1 A.1 A.2.1 A.2.2 (z_src c.2.2.1 A.1)
  else if c.1 < 60 then z_hlp c.1 i c.2.2.2.2 A.1 A.2.1 A.2.2
  else z_ext A.1
/-- an opcode that has a name; the registers are within -/
def z_nm (o : Nat) : Prop := o ≤ 6 ∨ (10 ≤ o ∧ o ≤ 16) ∨ (20 ≤ o ∧ o ≤ 24) ∨ (31 ≤ o ∧ o ≤ 34) ∨ (40 ≤ o ∧ o ≤ 42) ∨ (50 ≤ o ∧ o ≤ 52) ∨ o = 60
def z_cw (c : zC) : Prop := z_nm c.1 ∧ c.2.1 < 8 ∧ c.2.2.1 ≤ 8
/-- what holds of a place's knowledge at position i -/
def z_vw (i : Nat) (q : Int32) (v : zV) : Prop :=
  v.1 = 0 ∨ (v.1 = 1 ∧ 0 ≤ v.2.1.toInt ∧ v.2.1.toInt ≤ v.2.2.toInt ∧ v.2.2.toInt ≤ 4294967295) ∨ (v.1 = 2 ∧ 0 ≤ v.2.1.toInt ∧ v.2.1.toInt ≤ v.2.2.toInt ∧ v.2.2.toInt ≤ 255) ∨ v.1 = 3 ∨
  ((v.1 = 4 ∨ v.1 = 5) ∧ v.2.1 = v.2.2 ∧ -(100 * (i : Int)) ≤ v.2.1.toInt ∧ v.2.1.toInt ≤ 100 * (i : Int)) ∨ (v.1 = 6 ∧ v.2.1 = v.2.2 ∧ v.2.1 = q.toInt64)
def z_wf (i : Nat) (A : zA) : Prop := (∀ k, z_vw i A.2.2 (A.1 k)) ∧ (∃ a : Nat, a ≤ 256 ∧ A.2.1 = nI a) ∧ (∃ b : Nat, b ≤ i ∧ A.2.2 = nI b) ∧ ∀ k, 14 ≤ k → A.1 k = (0, 0, 0)
/-- A lies within T -/
def z_vle (v t : zV) : Prop := t.1 = 0 ∨ (t.1 = v.1 ∧ t.2.1 ≤ v.2.1 ∧ v.2.2 ≤ t.2.2)
def z_le (A T : zA) : Prop := T.2.1 ≤ A.2.1 ∧ A.2.2 = T.2.2 ∧ ∀ k, z_vle (A.1 k) (T.1 k)
end
section
/-! the intervals -/
theorem orF_sp {a b : Int64} (ha : 0 ≤ a.toInt) (ha' : a.toInt ≤ 4294967295) (hb : 0 ≤ b.toInt) (hb' : b.toInt ≤ 4294967295) : ∀ m j : Nat, j + m = 33 → (j = 0 ∨ ((2 ^ (j - 1) : Nat) : Int) ≤ a.toInt ∨ ((2 ^ (j - 1) : Nat) : Int) ≤ b.toInt) →
    ∃ k : Nat, k ≤ 32 ∧ z_orF a b m (lN (2 ^ j - 1)) = lN (2 ^ k - 1) ∧ a.toInt < ((2 ^ k : Nat) : Int) ∧ b.toInt < ((2 ^ k : Nat) : Int) ∧ (k = 0 ∨ ((2 ^ (k - 1) : Nat) : Int) ≤ a.toInt ∨ ((2 ^ (k - 1) : Nat) : Int) ≤ b.toInt) := by
  intro m
  induction m with
  | zero =>
    intro j hj h
    obtain rfl : j = 33 := by omega
    have e : (2 : Nat) ^ (33 - 1) = 4294967296 := by decide
    rw [e] at h
    omega
  | succ m ih =>
    intro j hj h
    have hp : (1 : Nat) ≤ 2 ^ j := Nat.one_le_two_pow
    have hq : (2 : Nat) ^ j ≤ 2 ^ 32 := Nat.pow_le_pow_right (by decide) (by omega)
    have e32 : (2 : Nat) ^ 32 = 4294967296 := by decide
    have ex : (lN (2 ^ j - 1)).toInt = ((2 ^ j - 1 : Nat) : Int) := pk_lT (by omega)
    by_cases c : lN (2 ^ j - 1) < a ∨ lN (2 ^ j - 1) < b
    · rw [z_orF, if_pos c]
      have e2 : 2 * lN (2 ^ j - 1) + 1 = lN (2 ^ (j + 1) - 1) := by
        rw [show (2 : Int64) = lN 2 from rfl, lN_mul, lN_1]
        exact congrArg lN (by rw [Nat.pow_succ]; omega)
      rw [e2]
      refine ih (j + 1) (by omega) (Or.inr ?_)
      rw [Nat.add_sub_cancel]
      rw [li_lt, li_lt, ex] at c
      omega
    · rw [z_orF, if_neg c]
      rw [li_lt, li_lt, ex] at c
      exact ⟨j, by omega, rfl, by omega, by omega, h⟩
theorem or_sp {a b : Int64} (ha : 0 ≤ a.toInt) (ha' : a.toInt ≤ 4294967295) (hb : 0 ≤ b.toInt) (hb' : b.toInt ≤ 4294967295) :
    ∃ k : Nat, k ≤ 32 ∧ z_or a b = lN (2 ^ k - 1) ∧ (z_or a b).toInt = ((2 ^ k : Nat) : Int) - 1 ∧ a.toInt < ((2 ^ k : Nat) : Int) ∧ b.toInt < ((2 ^ k : Nat) : Int) ∧ (k = 0 ∨ ((2 ^ (k - 1) : Nat) : Int) ≤ a.toInt ∨ ((2 ^ (k - 1) : Nat) : Int) ≤ b.toInt) := by
  obtain ⟨k, h1, h2, h3, h4, h5⟩ := orF_sp ha ha' hb hb' 33 0 rfl (Or.inl rfl)
  have e : z_or a b = lN (2 ^ k - 1) := h2
  have hp : (1 : Nat) ≤ 2 ^ k := Nat.one_le_two_pow
  have hq : (2 : Nat) ^ k ≤ 2 ^ 32 := Nat.pow_le_pow_right (by decide) (by omega)
  have e32 : (2 : Nat) ^ 32 = 4294967296 := by decide
  have ex : (lN (2 ^ k - 1)).toInt = ((2 ^ k - 1 : Nat) : Int) := pk_lT (by omega)
  exact ⟨k, h1, e, by rw [e, ex]; omega, h3, h4, h5⟩
theorem or_mono {a b a' b' : Int64} (ha : 0 ≤ a.toInt) (ha' : a'.toInt ≤ 4294967295) (hb : 0 ≤ b.toInt) (hb' : b'.toInt ≤ 4294967295) (h1 : a.toInt ≤ a'.toInt) (h2 : b.toInt ≤ b'.toInt) : (z_or a b).toInt ≤ (z_or a' b').toInt := by
  obtain ⟨k, k1, k2, k3, k4, k5, k6⟩ := or_sp ha (by omega) hb (by omega)
  obtain ⟨m, m1, m2, m3, m4, m5, m6⟩ := or_sp (a := a') (b := b') (by omega) (by omega) (by omega) (by omega)
  rw [k3, m3]
  by_cases c : k ≤ m
  · have := Nat.pow_le_pow_right (n := 2) (by decide) c
    omega
  · have := Nat.pow_le_pow_right (n := 2) (by decide) (show m ≤ k - 1 by omega)
    omega
theorem li_div {h : Int64} (h0 : 0 < h.toInt) : (4294967295 / h).toInt = 4294967295 / h.toInt := by
  rw [Int64.toInt_div_of_ne_left _ _ (by decide), li_all]
  exact Int.tdiv_eq_ediv_of_nonneg (by decide)
theorem iv_large {b h : Int64} (hb : 0 ≤ b.toInt) (hh : 0 ≤ h.toInt) : (¬ h ≤ 0 ∧ ¬ b ≤ 4294967295 / h) ↔ 4294967295 < b.toInt * h.toInt := by
  rw [li_le, li_le, li_0]
  by_cases c : h.toInt ≤ 0
  · have : h.toInt = 0 := by omega
    rw [this]; simp
  · rw [li_div (by omega)]
    have : b.toInt ≤ 4294967295 / h.toInt ↔ b.toInt * h.toInt ≤ 4294967295 := Int.le_ediv_iff_mul_le (by omega)
    omega
theorem iv_mul {a b l h : Int64} (ha : 0 ≤ a.toInt) (hab : a.toInt ≤ b.toInt) (hb : b.toInt ≤ 4294967295) (hl : 0 ≤ l.toInt) (hlh : l.toInt ≤ h.toInt) (hh : h.toInt ≤ 4294967295) (hm : b.toInt * h.toInt ≤ 4294967295) :
    (a * l).toInt = a.toInt * l.toInt ∧ (b * h).toInt = b.toInt * h.toInt ∧ 0 ≤ a.toInt * l.toInt ∧ a.toInt * l.toInt ≤ b.toInt * h.toInt := by
  have e1 : a.toInt * l.toInt ≤ b.toInt * h.toInt := Int.mul_le_mul hab hlh hl (by omega)
  have e2 : 0 ≤ a.toInt * l.toInt := Int.mul_nonneg ha hl
  exact ⟨li_mul e2 (by omega), li_mul (by omega) (by omega), e2, e1⟩
def z_R (a b l h a' b' l' h' : Int64) : Prop := 0 ≤ a'.toInt ∧ a'.toInt ≤ a.toInt ∧ a.toInt ≤ b.toInt ∧ b.toInt ≤ b'.toInt ∧ b'.toInt ≤ 4294967295 ∧ 0 ≤ l'.toInt ∧ l'.toInt ≤ l.toInt ∧ l.toInt ≤ h.toInt ∧ h.toInt ≤ h'.toInt ∧ h'.toInt ≤ 4294967295
theorem iv_mono {n : Nat} {a b l h a' b' l' h' : Int64} (R : z_R a b l h a' b' l' h') (hp : 0 ≤ (z_iv n a' b' l' h').1.toInt) (hq : (z_iv n a' b' l' h').2.toInt ≤ 4294967295) :
    (z_iv n a' b' l' h').1.toInt ≤ (z_iv n a b l h).1.toInt ∧ (z_iv n a b l h).1.toInt ≤ (z_iv n a b l h).2.toInt ∧ (z_iv n a b l h).2.toInt ≤ (z_iv n a' b' l' h').2.toInt := by
  obtain ⟨r1, r2, r3, r4, r5, r6, r7, r8, r9, r10⟩ := R
  unfold z_iv at *
  by_cases n1 : n = 1
  · rw [if_pos n1, if_pos n1] at *
    have e1 := li_add (a := a) (b := l) (by omega) (by omega) (by omega) (by omega)
    have e2 := li_add (a := b) (b := h) (by omega) (by omega) (by omega) (by omega)
    have e3 := li_add (a := a') (b := l') (by omega) (by omega) (by omega) (by omega)
    have e4 := li_add (a := b') (b := h') (by omega) (by omega) (by omega) (by omega)
    dsimp only at *
    omega
  rw [if_neg n1] at hp hq
  rw [if_neg n1, if_neg n1]
  by_cases n2 : n = 2
  · rw [if_pos n2] at hp hq
    rw [if_pos n2, if_pos n2]
    have e1 := li_sub (a := a) (b := h) (by omega) (by omega) (by omega) (by omega)
    have e2 := li_sub (a := b) (b := l) (by omega) (by omega) (by omega) (by omega)
    have e3 := li_sub (a := a') (b := h') (by omega) (by omega) (by omega) (by omega)
    have e4 := li_sub (a := b') (b := l') (by omega) (by omega) (by omega) (by omega)
    dsimp only at *
    omega
  rw [if_neg n2] at hp hq
  rw [if_neg n2, if_neg n2]
  by_cases n3 : n = 3
  · rw [if_pos n3] at hp hq
    rw [if_pos n3, if_pos n3]
    have L1 := iv_large (b := b) (h := h) (by omega) (by omega)
    have L2 := iv_large (b := b') (h := h') (by omega) (by omega)
    by_cases c : ¬ h' ≤ 0 ∧ ¬ b' ≤ 4294967295 / h'
    · rw [if_pos c] at hp
      exact absurd hp (by decide)
    · have m1 : b'.toInt * h'.toInt ≤ 4294967295 := Int.not_lt.mp (fun z => c (L2.mpr z))
      have m2 : b.toInt * h.toInt ≤ b'.toInt * h'.toInt := Int.mul_le_mul r4 r9 (by omega) (by omega)
      have c2 : ¬ (¬ h ≤ 0 ∧ ¬ b ≤ 4294967295 / h) := fun z => by have := L1.mp z; omega
      rw [if_neg c, if_neg c2]
      obtain ⟨e1, e2, e3, e4⟩ := iv_mul (a := a) (b := b) (l := l) (h := h) (by omega) (by omega) (by omega) (by omega) (by omega) (by omega) (by omega)
      obtain ⟨f1, f2, f3, f4⟩ := iv_mul (a := a') (b := b') (l := l') (h := h') (by omega) (by omega) (by omega) (by omega) (by omega) (by omega) (by omega)
      have m3 : a'.toInt * l'.toInt ≤ a.toInt * l.toInt := Int.mul_le_mul r2 r7 (by omega) (by omega)
      dsimp only
      rw [e1, e2, f1, f2]
      exact ⟨m3, e4, m2⟩
  rw [if_neg n3] at hp hq
  rw [if_neg n3, if_neg n3]
  by_cases n4 : n = 4
  · rw [if_pos n4] at hp hq
    rw [if_pos n4, if_pos n4]
    dsimp only at *
    by_cases c : h ≤ b <;> by_cases c' : h' ≤ b' <;> simp only [c, c', if_true, if_false] <;> rw [li_le] at c c' <;> rw [li_0] <;> omega
  rw [if_neg n4] at hp hq
  rw [if_neg n4, if_neg n4]
  by_cases n5 : n = 5
  · rw [if_pos n5] at hp hq
    rw [if_pos n5, if_pos n5]
    have m := or_mono (a := b) (b := h) (a' := b') (b' := h') (by omega) (by omega) (by omega) (by omega) r4 r9
    obtain ⟨k, k1, k2, k3, k4, k5, k6⟩ := or_sp (a := b) (b := h) (by omega) (by omega) (by omega) (by omega)
    dsimp only at *
    by_cases c : a ≤ l <;> by_cases c' : a' ≤ l' <;> simp only [c, c', if_true, if_false] <;> rw [li_le] at c c' <;> omega
  rw [if_neg n5] at hp hq
  rw [if_neg n5, if_neg n5]
  have sh : ∀ {x y : Int64}, 0 ≤ x.toInt → x.toInt ≤ y.toInt → y.toInt ≤ 4294967295 → ∀ z, 0 ≤ (x >>> z_sh z).toInt ∧ (x >>> z_sh z).toInt ≤ (y >>> z_sh z).toInt ∧ (y >>> z_sh z).toInt ≤ y.toInt := by
    intro x y h1 h2 h3 z
    obtain ⟨d, d1, d2, d3⟩ := li_shr (a := x) h1 (by omega) z
    obtain ⟨d', d1', d2', d3'⟩ := li_shr (a := y) (by omega) (by omega) z
    have ed : d = d' := by
      have := d2.symm.trans d2'
      exact (pk_lEQ (by omega) (by omega)).mp this
    subst ed
    rw [d3, d3']
    have hpos : (0 : Int) < 2 ^ d := Int.pow_pos (by decide)
    refine ⟨Int.ediv_nonneg h1 (by omega), Int.ediv_le_ediv hpos h2, Int.ediv_le_self _ (by omega)⟩
  by_cases c' : l' = h'
  · have c : l = h := li_eq.mpr (by have := li_eq.mp c'; omega)
    have cl : l = l' := li_eq.mpr (by have := li_eq.mp c'; omega)
    rw [if_pos c', if_pos c]
    dsimp only
    rw [cl]
    have s1 := sh (x := a') (y := a) (by omega) (by omega) (by omega) l'
    have s2 := sh (x := a) (y := b) (by omega) (by omega) (by omega) l'
    have s3 := sh (x := b) (y := b') (by omega) (by omega) (by omega) l'
    omega
  · rw [if_neg c']
    by_cases c : l = h
    · rw [if_pos c]
      dsimp only
      have s2 := sh (x := a) (y := b) (by omega) (by omega) (by omega) l
      rw [li_0]
      omega
    · rw [if_neg c]
      dsimp only
      rw [li_0]
      omega
theorem cl_wf {p : Int64 × Int64} (h : 0 ≤ p.1.toInt → p.2.toInt ≤ 4294967295 → p.1.toInt ≤ p.2.toInt) : (z_cl p).1 = 1 ∧ 0 ≤ (z_cl p).2.1.toInt ∧ (z_cl p).2.1.toInt ≤ (z_cl p).2.2.toInt ∧ (z_cl p).2.2.toInt ≤ 4294967295 := by
  unfold z_cl
  by_cases c : p.1 < 0 ∨ ¬ p.2 ≤ 4294967295
  · rw [if_pos c]
    exact ⟨rfl, by decide, by decide, by decide⟩
  · rw [if_neg c]
    rw [li_lt, li_le, li_0, li_all] at c
    exact ⟨rfl, by dsimp only; omega, h (by omega) (by omega), by dsimp only; omega⟩
theorem cl_le {p p' : Int64 × Int64} (h : 0 ≤ p'.1.toInt → p'.2.toInt ≤ 4294967295 → p'.1.toInt ≤ p.1.toInt ∧ p.2.toInt ≤ p'.2.toInt) (hw : 0 ≤ (z_cl p).2.1.toInt ∧ (z_cl p).2.2.toInt ≤ 4294967295) : (z_cl p').2.1 ≤ (z_cl p).2.1 ∧ (z_cl p).2.2 ≤ (z_cl p').2.2 := by
  by_cases c : p'.1 < 0 ∨ ¬ p'.2 ≤ 4294967295
  · have e : z_cl p' = (1, 0, 4294967295) := by unfold z_cl; rw [if_pos c]
    rw [e, li_le, li_le, li_0, li_all]
    exact hw
  · have e : z_cl p' = (1, p'.1, p'.2) := by unfold z_cl; rw [if_neg c]
    rw [li_lt, li_le, li_0, li_all] at c
    have h' := h (by omega) (by omega)
    have c2 : ¬ (p.1 < 0 ∨ ¬ p.2 ≤ 4294967295) := by
      rw [li_lt, li_le, li_0, li_all]
      omega
    have e2 : z_cl p = (1, p.1, p.2) := by unfold z_cl; rw [if_neg c2]
    rw [e, e2, li_le, li_le]
    exact h'
end
section
/-! what an instruction keeps -/
theorem vw_up {i j : Nat} {q : Int32} {v : zV} (h : z_vw i q v) (hij : i ≤ j) : z_vw j q v := by
  rcases h with h | h | h | h | ⟨h1, h2, h3, h4⟩ | h
  · exact Or.inl h
  · exact Or.inr (Or.inl h)
  · exact Or.inr (Or.inr (Or.inl h))
  · exact Or.inr (Or.inr (Or.inr (Or.inl h)))
  · exact Or.inr (Or.inr (Or.inr (Or.inr (Or.inl ⟨h1, h2, by omega, by omega⟩))))
  · exact Or.inr (Or.inr (Or.inr (Or.inr (Or.inr h))))
theorem vw_q {i j : Nat} {q q' : Int32} {v : zV} (h : z_vw i q v) (hij : i ≤ j) (h6 : ¬ v.1 = 6) : z_vw j q' v := by
  rcases h with h | h | h | h | ⟨h1, h2, h3, h4⟩ | h
  · exact Or.inl h
  · exact Or.inr (Or.inl h)
  · exact Or.inr (Or.inr (Or.inl h))
  · exact Or.inr (Or.inr (Or.inr (Or.inl h)))
  · exact Or.inr (Or.inr (Or.inr (Or.inr (Or.inl ⟨h1, h2, by omega, by omega⟩))))
  · exact absurd h.1 h6
theorem vw_1 {i : Nat} {q : Int32} {v : zV} (h : z_vw i q v) (e : v.1 = 1) : 0 ≤ v.2.1.toInt ∧ v.2.1.toInt ≤ v.2.2.toInt ∧ v.2.2.toInt ≤ 4294967295 := by
  rcases h with h | h | h | h | h | h
  · rw [e] at h; exact absurd h (by decide)
  · exact h.2
  · have := h.1; rw [e] at this; exact absurd this (by decide)
  · rw [e] at h; exact absurd h (by decide)
  · have := h.1; rw [e] at this; exact absurd this (by decide)
  · have := h.1; rw [e] at this; exact absurd this (by decide)
theorem vw_2 {i : Nat} {q : Int32} {v : zV} (h : z_vw i q v) (e : v.1 = 2) : 0 ≤ v.2.1.toInt ∧ v.2.1.toInt ≤ v.2.2.toInt ∧ v.2.2.toInt ≤ 255 := by
  rcases h with h | h | h | h | h | h
  · rw [e] at h; exact absurd h (by decide)
  · have := h.1; rw [e] at this; exact absurd this (by decide)
  · exact h.2
  · rw [e] at h; exact absurd h (by decide)
  · have := h.1; rw [e] at this; exact absurd this (by decide)
  · have := h.1; rw [e] at this; exact absurd this (by decide)
theorem vw_4 {i : Nat} {q : Int32} {v : zV} (h : z_vw i q v) (e : v.1 = 4 ∨ v.1 = 5) : v.2.1 = v.2.2 ∧ -(100 * (i : Int)) ≤ v.2.1.toInt ∧ v.2.1.toInt ≤ 100 * (i : Int) := by
  rcases h with h | h | h | h | h | h
  · rw [h] at e; exact absurd e (by decide)
  · rw [h.1] at e; exact absurd e (by decide)
  · rw [h.1] at e; exact absurd e (by decide)
  · rw [h] at e; exact absurd e (by decide)
  · exact h.2
  · rw [h.1] at e; exact absurd e (by decide)
theorem vw_6 {i : Nat} {q : Int32} {v : zV} (h : z_vw i q v) (e : v.1 = 6) : v.2.1 = v.2.2 ∧ v.2.1 = q.toInt64 := by
  rcases h with h | h | h | h | h | h
  · rw [e] at h; exact absurd h (by decide)
  · have := h.1; rw [e] at this; exact absurd this (by decide)
  · have := h.1; rw [e] at this; exact absurd this (by decide)
  · rw [e] at h; exact absurd h (by decide)
  · have := h.1; rw [e] at this; exact absurd this (by decide)
  · exact h.2
theorem vw_k {i : Nat} {q : Int32} {v : zV} (h : z_vw i q v) : v.1 = 0 ∨ v.1 = 1 ∨ v.1 = 2 ∨ v.1 = 3 ∨ v.1 = 4 ∨ v.1 = 5 ∨ v.1 = 6 := by
  rcases h with h | h | h | h | h | h
  · exact Or.inl h
  · exact Or.inr (Or.inl h.1)
  · exact Or.inr (Or.inr (Or.inl h.1))
  · exact Or.inr (Or.inr (Or.inr (Or.inl h)))
  · rcases h.1 with h | h
    · exact Or.inr (Or.inr (Or.inr (Or.inr (Or.inl h))))
    · exact Or.inr (Or.inr (Or.inr (Or.inr (Or.inr (Or.inl h)))))
  · exact Or.inr (Or.inr (Or.inr (Or.inr (Or.inr (Or.inr h.1)))))
theorem vw_sc {i : Nat} {q : Int32} {v : zV} (h : v.1 = 1 ∧ 0 ≤ v.2.1.toInt ∧ v.2.1.toInt ≤ v.2.2.toInt ∧ v.2.2.toInt ≤ 4294967295) : z_vw i q v := Or.inr (Or.inl h)
theorem vw_im (i : Nat) (q m : Int32) : z_vw i q (z_im m) := by
  have := li_imm m
  exact vw_sc ⟨rfl, this.1, Int.le_refl _, this.2⟩
theorem vw_src {i s : Nat} {f : Nat → zV} {q : Int32} (h : ∀ k, z_vw i q (f k)) : z_vw i q (z_src s f) := by
  unfold z_src
  by_cases c : s = 8
  · rw [if_pos c]
    exact Or.inr (Or.inr (Or.inr (Or.inr (Or.inl ⟨Or.inl rfl, rfl, by show _ ≤ (0 : Int64).toInt; rw [li_0]; omega, by show (0 : Int64).toInt ≤ _; rw [li_0]; omega⟩))))
  · rw [if_neg c]; exact h s
theorem wf_up {i j : Nat} {A : zA} (h : z_wf i A) (hij : i ≤ j) : z_wf j A :=
  ⟨fun k => vw_up (h.1 k) hij, h.2.1, by obtain ⟨b, h1, h2⟩ := h.2.2.1; exact ⟨b, by omega, h2⟩, h.2.2.2⟩
theorem wf_set {i j d : Nat} {f : Nat → zV} {sf lk : Int32} {v : zV} (h : z_wf i (f, sf, lk)) (hij : i ≤ j) (hv : z_vw j lk v) (hd : d < 14) : z_wf j (z_set f d v, sf, lk) := by
  have h' := wf_up h hij
  refine ⟨fun k => ?_, h'.2.1, h'.2.2.1, fun k hk => ?_⟩
  · show z_vw j lk (if k = d then v else f k)
    by_cases c : k = d
    · rw [if_pos c]; exact hv
    · rw [if_neg c]; exact h'.1 k
  · show (if k = d then v else f k) = _
    rw [if_neg (by omega)]
    exact h'.2.2.2 k hk
def z_sw (c : zC) (i : Nat) : zO → Prop := z_el (fun f => f ≠ 0) (fun lo hi => 0 ≤ lo.toInt ∧ lo.toInt ≤ hi.toInt ∧ hi.toInt ≤ 4294967295) (fun j B => i < j ∧ j ≤ 40 ∧ z_wf j B) (fun j C k B => j = i + 1 ∧ i < k ∧ k ≤ 40 ∧ z_wf j C ∧ z_wf k B ∧ 20 < c.1 ∧ c.1 < 40)
theorem sw_F (c : zC) (i : Nat) {f : Int32} (h : f ≠ 0) : z_sw c i (zF f) := h
theorem sw_1 (c : zC) (i : Nat) {j : Nat} {B : zA} (h : i < j ∧ j ≤ 40 ∧ z_wf j B) : z_sw c i (z1 j B) := h
theorem sw_2 (c : zC) (i : Nat) {j k : Nat} {B C : zA} (h : j = i + 1 ∧ i < k ∧ k ≤ 40 ∧ z_wf j C ∧ z_wf k B ∧ 20 < c.1 ∧ c.1 < 40) : z_sw c i (z2 j C k B) := h
theorem alu_wf {c : zC} {i n d : Nat} {f : Nat → zV} {sf lk : Int32} {w : zV} (hi : i < 40) (hd : d < 8) (h : z_wf i (f, sf, lk)) (hw : z_vw i lk w) : z_sw c i (z_alu n d i f sf lk w) := by
  unfold z_alu
  by_cases c1 : w.1 = 0
  · rw [if_pos c1]; exact sw_F _ _ (by decide)
  rw [if_neg c1]
  by_cases c2 : n = 0
  · rw [if_pos c2]; exact sw_1 _ _ ⟨by omega, by omega, wf_set h (by omega) (vw_up hw (by omega)) (by omega)⟩
  rw [if_neg c2]
  by_cases c3 : (f d).1 = 0
  · rw [if_pos c3]; exact sw_F _ _ (by decide)
  rw [if_neg c3]
  have hfd : z_vw i lk (f d) := h.1 d
  by_cases c4 : w.1 = 1 ∧ (f d).1 = 1
  · rw [if_pos c4]
    refine sw_1 _ _ ⟨by omega, by omega, wf_set h (by omega) (vw_sc (cl_wf fun p q => ?_)) (by omega)⟩
    have a1 := vw_1 hw c4.1
    have a2 := vw_1 hfd c4.2
    exact (iv_mono (show z_R _ _ _ _ _ _ _ _ from ⟨a2.1, Int.le_refl _, a2.2.1, Int.le_refl _, a2.2.2, a1.1, Int.le_refl _, a1.2.1, Int.le_refl _, a1.2.2⟩) p q).2.1
  rw [if_neg c4]
  by_cases c5 : w.1 = 1 ∧ (f d).1 = 2 ∧ n = 1 ∧ ¬ 256 ≤ (f d).2.2 + w.2.2
  · rw [if_pos c5]
    have a1 := vw_1 hw c5.1
    have a2 := vw_2 hfd c5.2.1
    have a3 := c5.2.2.2
    have e1 := li_add (a := (f d).2.1) (b := w.2.1) (by omega) (by omega) (by omega) (by omega)
    have e2 := li_add (a := (f d).2.2) (b := w.2.2) (by omega) (by omega) (by omega) (by omega)
    rw [li_le, li_256] at a3
    refine sw_1 _ _ ⟨by omega, by omega, wf_set h (by omega) (Or.inr (Or.inr (Or.inl ⟨rfl, ?_, ?_, ?_⟩))) (by omega)⟩ <;> dsimp only <;> omega
  rw [if_neg c5]
  by_cases c6 : w.1 = 1 ∧ w.2.1 = w.2.2 ∧ ¬ 100 < w.2.2 ∧ ((f d).1 = 4 ∨ (f d).1 = 5) ∧ n < 3
  · rw [if_pos c6]
    have a1 := vw_1 hw c6.1
    have a2 := vw_4 hfd c6.2.2.2.1
    have a3 := c6.2.2.1
    rw [li_lt, li_100] at a3
    have e1 : -100 ≤ (z_by n w.2.1).toInt ∧ (z_by n w.2.1).toInt ≤ 100 := by
      unfold z_by
      by_cases z : n = 1
      · rw [if_pos z]; omega
      · rw [if_neg z, li_neg (by omega) (by omega)]; omega
    have e2 := li_add (a := (f d).2.1) (b := z_by n w.2.1) (by omega) (by omega) (by omega) (by omega)
    refine sw_1 _ _ ⟨by omega, by omega, wf_set h (by omega) (Or.inr (Or.inr (Or.inr (Or.inr (Or.inl ⟨c6.2.2.2.1, ?_, ?_, ?_⟩))))) (by omega)⟩
    · dsimp only; rw [a2.1]
    · dsimp only; omega
    · dsimp only; omega
  rw [if_neg c6]
  exact sw_F _ _ (by decide)
theorem to_in {i : Nat} (hi : i < 40) (off : Int32) : i < z_to i off ∧ z_to i off ≤ 40 := by
  unfold z_to
  by_cases c : 40 < i + 1 + off.toNatClampNeg
  · rw [if_pos c]; omega
  · rw [if_neg c]; omega
theorem cut_wf {t : Nat} {v w : zV} (hv : v.1 = 1) (hv' : 0 ≤ v.2.1.toInt ∧ v.2.1.toInt ≤ v.2.2.toInt ∧ v.2.2.toInt ≤ 4294967295) (hw : 0 ≤ w.2.1.toInt ∧ w.2.1.toInt ≤ w.2.2.toInt ∧ w.2.2.toInt ≤ 4294967295) (hp : z_pos t v w = true) :
    (z_cut t v w).1 = 1 ∧ 0 ≤ (z_cut t v w).2.1.toInt ∧ (z_cut t v w).2.1.toInt ≤ (z_cut t v w).2.2.toInt ∧ (z_cut t v w).2.2.toInt ≤ 4294967295 := by
  unfold z_pos at hp
  unfold z_cut
  by_cases c0 : ¬ w.2.1 = w.2.2
  · rw [if_pos c0]; exact ⟨hv, hv'⟩
  rw [if_neg c0]
  have c0' : w.2.1.toInt = w.2.2.toInt := by rw [Classical.not_not.mp c0]
  by_cases t1 : t = 1
  · rw [if_pos t1]
    exact ⟨rfl, hw.1, Int.le_refl _, by dsimp only; omega⟩
  rw [if_neg t1] at hp ⊢
  by_cases t2 : t = 2
  · rw [if_pos t2] at hp ⊢
    have hp' := of_decide_eq_true hp
    rw [li_lt, li_lt, li_eq] at hp'
    by_cases e1 : v.2.1 = w.2.1
    · rw [if_pos e1]
      have e1' := li_eq.mp e1
      have e := li_add (a := v.2.1) (b := 1) (by omega) (by omega) (by decide) (by decide)
      rw [li_1] at e
      exact ⟨rfl, by dsimp only; omega, by dsimp only; omega, by dsimp only; omega⟩
    · rw [if_neg e1]
      rw [li_eq] at e1
      by_cases e2 : v.2.2 = w.2.1
      · rw [if_pos e2]
        have e2' := li_eq.mp e2
        have e := li_sub (a := v.2.2) (b := 1) (by omega) (by omega) (by decide) (by decide)
        rw [li_1] at e
        exact ⟨rfl, by dsimp only; omega, by dsimp only; omega, by dsimp only; omega⟩
      · rw [if_neg e2]; exact ⟨hv, hv'⟩
  rw [if_neg t2] at hp ⊢
  by_cases t3 : t = 3
  · rw [if_pos t3] at hp ⊢
    have hp' := of_decide_eq_true hp
    rw [li_le] at hp'
    by_cases e1 : w.2.1 ≤ v.2.2
    · rw [if_pos e1]
      rw [li_le] at e1
      have e := li_sub (a := w.2.1) (b := 1) (by omega) (by omega) (by decide) (by decide)
      rw [li_1] at e
      exact ⟨rfl, by dsimp only; omega, by dsimp only; omega, by dsimp only; omega⟩
    · rw [if_neg e1]; exact ⟨hv, hv'⟩
  rw [if_neg t3] at hp ⊢
  have hp' := of_decide_eq_true hp
  rw [li_lt] at hp'
  by_cases e1 : v.2.1 ≤ w.2.1
  · rw [if_pos e1]
    exact ⟨rfl, by dsimp only; omega, by dsimp only; omega, by dsimp only; omega⟩
  · rw [if_neg e1]; exact ⟨hv, hv'⟩
theorem mx_in {a b : Nat} (ha : a ≤ 256) (hb : b ≤ 256) : z_mx (nI a) (nI b) = nI (if b ≤ a then a else b) := by
  unfold z_mx
  by_cases c : b ≤ a
  · rw [if_pos c, if_pos (nI_le c (by omega))]
  · rw [if_neg c, if_neg (nI_ge (by omega) (by omega))]
theorem sm_lN {x : Int64} {n : Nat} (h : 0 ≤ x.toInt) (h2 : x.toInt < n) (hn : n ≤ 2 ^ 31) : ∃ m : Nat, m < n ∧ x = lN m ∧ x.toInt32 = nI m ∧ x.toInt32.toNatClampNeg = m ∧ x.toInt = m := by
  obtain ⟨m, e, hm, hm3⟩ := li_of h
  refine ⟨m, by omega, e, ?_, ?_, by omega⟩
  · rw [e, lN_i]
  · rw [e, lN_i, nI_clamp (by omega)]
theorem mx_wf {sf : Int32} {x : Int64} (hs : ∃ a : Nat, a ≤ 256 ∧ sf = nI a) (h : 0 ≤ x.toInt) (h2 : x.toInt ≤ 256) : ∃ a : Nat, a ≤ 256 ∧ z_mx sf x.toInt32 = nI a := by
  obtain ⟨a, ha, rfl⟩ := hs
  obtain ⟨m, hm, _, e, _⟩ := sm_lN (n := 257) h (by omega) (by decide)
  rw [e, mx_in ha (by omega)]
  refine ⟨_, ?_, rfl⟩
  by_cases c : m ≤ a
  · rw [if_pos c]; exact ha
  · rw [if_neg c]; omega
theorem stl_wf {i j : Nat} {f : Nat → zV} {sf lk : Int32} {n : Int64} {b : Bool} (h : z_wf i (f, sf, lk)) (hij : i ≤ j) : z_wf j (z_stl f n b, sf, lk) := by
  have h' := wf_up h hij
  refine ⟨fun k => ?_, h'.2.1, h'.2.2.1, fun k hk => ?_⟩
  · show z_vw j lk (if (f k).1 = 6 ∧ (f k).2.1 = n then (if b then (1, 0, 0) else (5, 0, 0)) else f k)
    by_cases c : (f k).1 = 6 ∧ (f k).2.1 = n
    · rw [if_pos c]
      cases b
      · exact Or.inr (Or.inr (Or.inr (Or.inr (Or.inl ⟨Or.inr rfl, rfl, by show _ ≤ (0 : Int64).toInt; rw [li_0]; omega, by show (0 : Int64).toInt ≤ _; rw [li_0]; omega⟩))))
      · exact Or.inr (Or.inl ⟨rfl, by decide, by decide, by decide⟩)
    · rw [if_neg c]; exact h'.1 k
  · have e : f k = (0, 0, 0) := h'.2.2.2 k hk
    show (if (f k).1 = 6 ∧ (f k).2.1 = n then (if b then (1, 0, 0) else (5, 0, 0)) else f k) = _
    rw [if_neg (by rw [e]; exact fun z => absurd z.1 (by decide))]
    exact e
theorem pos_or {t : Nat} {v w : zV} (ht : 1 ≤ t ∧ t ≤ 4) (hv : v.2.1.toInt ≤ v.2.2.toInt) (hw : w.2.1.toInt ≤ w.2.2.toInt) (h : ¬ z_pos t v w = true) : z_pos (z_opp t) v w = true := by
  have h4 : t = 1 ∨ t = 2 ∨ t = 3 ∨ t = 4 := by omega
  rcases h4 with rfl | rfl | rfl | rfl
  · have h' : ¬ (¬ w.2.2 < v.2.1 ∧ ¬ v.2.2 < w.2.1) := fun z => h (decide_eq_true z)
    refine decide_eq_true (p := v.2.1 < v.2.2 ∨ w.2.1 < w.2.2 ∨ ¬ v.2.1 = w.2.1) ?_
    rw [li_lt, li_lt] at h'
    rw [li_lt, li_lt, li_eq]
    omega
  · have h' : ¬ (v.2.1 < v.2.2 ∨ w.2.1 < w.2.2 ∨ ¬ v.2.1 = w.2.1) := fun z => h (decide_eq_true z)
    refine decide_eq_true (p := ¬ w.2.2 < v.2.1 ∧ ¬ v.2.2 < w.2.1) ?_
    rw [li_lt, li_lt, li_eq] at h'
    rw [li_lt, li_lt]
    omega
  · have h' : ¬ (¬ w.2.2 ≤ v.2.1) := fun z => h (decide_eq_true z)
    refine decide_eq_true (p := ¬ v.2.2 < w.2.1) ?_
    rw [li_le] at h'
    rw [li_lt]
    omega
  · have h' : ¬ (¬ v.2.2 < w.2.1) := fun z => h (decide_eq_true z)
    refine decide_eq_true (p := ¬ w.2.2 ≤ v.2.1) ?_
    rw [li_lt] at h'
    rw [li_le]
    omega
theorem jc_wf {c : zC} {i t d to : Nat} {f : Nat → zV} {sf lk : Int32} {w : zV} (hc : 20 < c.1 ∧ c.1 < 40) (hi : i < 40) (hto : i < to ∧ to ≤ 40) (ht : 1 ≤ t ∧ t ≤ 4) (hd : d < 8) (h : z_wf i (f, sf, lk)) (hw : z_vw i lk w) : z_sw c i (z_jc t d i to f sf lk w) := by
  have hfd : z_vw i lk (f d) := h.1 d
  unfold z_jc
  by_cases c1 : (f d).1 = 1 ∧ w.1 = 1
  · rw [if_pos c1]
    have a1 := vw_1 hfd c1.1
    have a2 := vw_1 hw c1.2
    by_cases p1 : z_pos t (f d) w = true
    · rw [if_pos p1]
      by_cases p2 : z_pos (z_opp t) (f d) w = true
      · rw [if_pos p2]
        exact sw_2 _ _ ⟨rfl, hto.1, hto.2, wf_set h (by omega) (vw_sc (cut_wf c1.1 a1 a2 p2)) (by omega), wf_set h (by omega) (vw_sc (cut_wf c1.1 a1 a2 p1)) (by omega), hc⟩
      · rw [if_neg p2]
        exact sw_1 _ _ ⟨hto.1, hto.2, wf_set h (by omega) (vw_sc (cut_wf c1.1 a1 a2 p1)) (by omega)⟩
    · rw [if_neg p1]
      exact sw_1 _ _ ⟨by omega, by omega, wf_set h (by omega) (vw_sc (cut_wf c1.1 a1 a2 (pos_or ht a1.2.1 a2.2.1 p1))) (by omega)⟩
  rw [if_neg c1]
  by_cases c2 : (f d).1 = 6 ∧ w.1 = 1 ∧ w.2.2 = 0 ∧ t < 3
  · rw [if_pos c2]
    exact sw_2 _ _ ⟨rfl, hto.1, hto.2, stl_wf h (by omega), stl_wf h (by omega), hc⟩
  rw [if_neg c2]
  by_cases c3 : 2 < t ∧ (f d).1 = 2 ∧ w.1 = 3
  · rw [if_pos c3]
    have a1 := vw_2 hfd c3.2.1
    have e := li_add (a := (f d).2.1) (b := 1) (by omega) (by omega) (by decide) (by decide)
    rw [li_1] at e
    have m : ∀ j, i ≤ j → z_wf j (f, z_mx sf ((f d).2.1 + 1).toInt32, lk) := fun j hj => ⟨(wf_up h hj).1, mx_wf h.2.1 (by omega) (by omega), (wf_up h hj).2.2⟩
    by_cases t3 : t = 3
    · rw [if_pos t3]; exact sw_2 _ _ ⟨rfl, hto.1, hto.2, wf_up h (by omega), m _ (by omega), hc⟩
    · rw [if_neg t3]; exact sw_2 _ _ ⟨rfl, hto.1, hto.2, m _ (by omega), wf_up h (by omega), hc⟩
  rw [if_neg c3]
  by_cases c4 : 2 < t ∧ (f d).1 = 3 ∧ w.1 = 2
  · rw [if_pos c4]
    have a1 := vw_2 hw c4.2.2
    have m : ∀ j, i ≤ j → z_wf j (f, z_mx sf w.2.1.toInt32, lk) := fun j hj => ⟨(wf_up h hj).1, mx_wf h.2.1 (by omega) (by omega), (wf_up h hj).2.2⟩
    by_cases t3 : t = 3
    · rw [if_pos t3]; exact sw_2 _ _ ⟨rfl, hto.1, hto.2, m _ (by omega), wf_up h (by omega), hc⟩
    · rw [if_neg t3]; exact sw_2 _ _ ⟨rfl, hto.1, hto.2, wf_up h (by omega), m _ (by omega), hc⟩
  rw [if_neg c4]
  exact sw_F _ _ (by decide)
end
section
theorem jmp_wf {c : zC} {i o d s : Nat} {off im : Int32} {f : Nat → zV} {sf lk : Int32} (hc : c.1 = o) (h20 : 20 ≤ o) (hn : z_nm o) (h40 : o < 40) (hi : i < 40) (hd : d < 8) (h : z_wf i (f, sf, lk)) : z_sw c i (z_jmp o d s i off im f sf lk) := by
  unfold z_jmp
  have hto := to_in hi off
  by_cases c1 : off < 0
  · rw [if_pos c1]; exact sw_F _ _ (by decide)
  rw [if_neg c1]
  by_cases c2 : o = 20
  · rw [if_pos c2]; exact sw_1 _ _ ⟨hto.1, hto.2, wf_up h (by omega)⟩
  rw [if_neg c2]
  by_cases c3 : (f d).1 = 0
  · rw [if_pos c3]; exact sw_F _ _ (by decide)
  rw [if_neg c3]
  by_cases c4 : (if o < 30 then z_im im else z_src s f).1 = 0
  · rw [if_pos c4]; exact sw_F _ _ (by decide)
  rw [if_neg c4]
  refine jc_wf (by omega) hi hto ?_ hd h ?_
  · unfold z_nm at hn; omega
  · by_cases c5 : o < 30
    · rw [if_pos c5]; exact vw_im _ _ _
    · rw [if_neg c5]; exact vw_src h.1
theorem ld_wf {c : zC} {i d : Nat} {off : Int32} {f : Nat → zV} {sf lk : Int32} {w : zV} (hi : i < 40) (hd : d < 8) (h : z_wf i (f, sf, lk)) (hw : z_vw i lk w) : z_sw c i (z_ld d i off f sf lk w) := by
  unfold z_ld
  by_cases c1 : w.1 = 0
  · rw [if_pos c1]; exact sw_F _ _ (by decide)
  rw [if_neg c1]
  by_cases c2 : ¬ (w.1 = 4 ∨ w.1 = 5)
  · rw [if_pos c2]; exact sw_F _ _ (by decide)
  rw [if_neg c2]
  by_cases c3 : (off < -100 ∨ 100 < off ∨ w.2.1 + off.toInt64 < 0 ∨ ¬ w.2.2 + off.toInt64 < (if w.1 = 4 then 6 else 2))
  · rw [if_pos c3]; exact sw_F _ _ (by decide)
  rw [if_neg c3]
  by_cases c4 : w.1 = 5
  · rw [if_pos c4]
    exact sw_1 _ _ ⟨by omega, by omega, wf_set h (by omega) (Or.inr (Or.inl ⟨rfl, by decide, by decide, by decide⟩)) (by omega)⟩
  rw [if_neg c4]
  by_cases c5 : (f (8 + (w.2.1 + off.toInt64).toInt32.toNatClampNeg)).1 = 0
  · rw [if_pos c5]; exact sw_F _ _ (by decide)
  rw [if_neg c5]
  exact sw_1 _ _ ⟨by omega, by omega, wf_set h (by omega) (vw_up (h.1 _) (by omega)) (by omega)⟩
theorem sto_wf {c : zC} {i d : Nat} {off : Int32} {f : Nat → zV} {sf lk : Int32} {w : zV} (hi : i < 40) (hd : d < 8) (h : z_wf i (f, sf, lk)) (hw : z_vw i lk w) : z_sw c i (z_sto d i off f sf lk w) := by
  unfold z_sto
  by_cases c0 : (f d).1 = 0
  · rw [if_pos c0]; exact sw_F _ _ (by decide)
  rw [if_neg c0]
  by_cases c1 : w.1 = 0
  · rw [if_pos c1]; exact sw_F _ _ (by decide)
  rw [if_neg c1]
  by_cases c2 : ¬ ((f d).1 = 4 ∨ (f d).1 = 5)
  · rw [if_pos c2]; exact sw_F _ _ (by decide)
  rw [if_neg c2]
  by_cases c3 : (off < -100 ∨ 100 < off ∨ (f d).2.1 + off.toInt64 < 0 ∨ ¬ (f d).2.1 + off.toInt64 < (if (f d).1 = 4 then 6 else 2))
  · rw [if_pos c3]; exact sw_F _ _ (by decide)
  rw [if_neg c3]
  by_cases c4 : (f d).1 = 4
  · rw [if_pos c4]
    rw [if_pos c4] at c3
    have c5 : 0 ≤ ((f d).2.1 + off.toInt64).toInt := by
      have : ¬ ((f d).2.1 + off.toInt64 < 0) := fun z => c3 (Or.inr (Or.inr (Or.inl z)))
      rw [li_lt, li_0] at this; omega
    have c6 : ((f d).2.1 + off.toInt64).toInt < (6 : Nat) := by
      have : ¬ ¬ ((f d).2.1 + off.toInt64 < 6) := fun z => c3 (Or.inr (Or.inr (Or.inr z)))
      rw [li_lt, li_6] at this; omega
    obtain ⟨m, hm, _, _, em, _⟩ := sm_lN c5 c6 (by decide)
    rw [em]
    exact sw_1 _ _ ⟨by omega, by omega, wf_set h (by omega) (vw_up hw (by omega)) (by omega)⟩
  rw [if_neg c4]
  by_cases c7 : w.1 = 1
  · rw [if_pos c7]; exact sw_1 _ _ ⟨by omega, by omega, wf_up h (by omega)⟩
  · rw [if_neg c7]; exact sw_F _ _ (by decide)
theorem pkt_wf {c : zC} {i d : Nat} {off : Int32} {f : Nat → zV} {sf lk : Int32} {w : zV} (hi : i < 40) (hd : d < 8) (h : z_wf i (f, sf, lk)) : z_sw c i (z_pkt d i off f sf lk w) := by
  unfold z_pkt
  by_cases c1 : w.1 = 0
  · rw [if_pos c1]; exact sw_F _ _ (by decide)
  rw [if_neg c1]
  by_cases c2 : ¬ w.1 = 2
  · rw [if_pos c2]; exact sw_F _ _ (by decide)
  rw [if_neg c2]
  by_cases c3 : (off < -100 ∨ 100 < off ∨ w.2.1 + off.toInt64 < 0 ∨ ¬ w.2.2 + off.toInt64 < sf.toInt64)
  · rw [if_pos c3]; exact sw_F _ _ (by decide)
  rw [if_neg c3]
  exact sw_1 _ _ ⟨by omega, by omega, wf_set h (by omega) (Or.inr (Or.inl ⟨rfl, by decide, by decide, by decide⟩)) (by omega)⟩
theorem kill_wf {i j : Nat} {f : Nat → zV} {sf lk lk' : Int32} (h : z_wf i (f, sf, lk)) (hij : i ≤ j) (hl : ∃ b : Nat, b ≤ j ∧ lk' = nI b) : z_wf j (z_kill f, sf, lk') := by
  refine ⟨fun k => ?_, h.2.1, hl, fun k hk => ?_⟩
  · show z_vw j lk' (if (0 < k ∧ k < 6) ∨ (f k).1 = 5 ∨ (f k).1 = 6 then (0, 0, 0) else f k)
    by_cases c : (0 < k ∧ k < 6) ∨ (f k).1 = 5 ∨ (f k).1 = 6
    · rw [if_pos c]; exact Or.inl rfl
    · rw [if_neg c]; exact vw_q (h.1 k) hij (fun z => c (Or.inr (Or.inr z)))
  · have e : f k = (0, 0, 0) := h.2.2.2 k hk
    show (if (0 < k ∧ k < 6) ∨ (f k).1 = 5 ∨ (f k).1 = 6 then (0, 0, 0) else f k) = _
    rw [e]
    by_cases c : (0 < k ∧ k < 6) ∨ ((0, 0, 0) : zV).1 = 5 ∨ ((0, 0, 0) : zV).1 = 6
    · rw [if_pos c]
    · rw [if_neg c]
theorem hlp_wf {c : zC} {i o : Nat} {im : Int32} {f : Nat → zV} {sf lk : Int32} (hi : i < 40) (h : z_wf i (f, sf, lk)) : z_sw c i (z_hlp o i im f sf lk) := by
  unfold z_hlp
  by_cases c1 : im < 0 ∨ ¬ im ≤ 1
  · rw [if_pos c1]; exact sw_F _ _ (by decide)
  rw [if_neg c1]
  by_cases c2 : (f 1).1 = 0 ∨ (o = 51 ∧ ((f 2).1 = 0 ∨ (f 3).1 = 0))
  · rw [if_pos c2]; exact sw_F _ _ (by decide)
  rw [if_neg c2]
  by_cases c3 : ¬ (f 1).1 = 1 ∨ (o = 51 ∧ (¬ (f 2).1 = 1 ∨ ¬ (f 3).1 = 1))
  · rw [if_pos c3]; exact sw_F _ _ (by decide)
  rw [if_neg c3]
  obtain ⟨b, hb, e⟩ := h.2.2.1
  have e' : lk = nI b := e
  by_cases c4 : o = 50
  · rw [if_pos c4]
    exact sw_1 _ _ ⟨by omega, by omega, wf_set (kill_wf h (Nat.le_succ i) ⟨b + 1, by omega, by rw [e', nI_1]⟩) (Nat.le_refl _) (Or.inr (Or.inr (Or.inr (Or.inr (Or.inr ⟨rfl, rfl, rfl⟩))))) (by omega)⟩
  · rw [if_neg c4]
    exact sw_1 _ _ ⟨by omega, by omega, wf_set (kill_wf h (Nat.le_succ i) ⟨b, by omega, e'⟩) (Nat.le_refl _) (Or.inr (Or.inl ⟨rfl, by decide, by decide, by decide⟩)) (by omega)⟩
theorem ext_wf {c : zC} {i : Nat} {f : Nat → zV} {sf lk : Int32} (h : z_wf i (f, sf, lk)) : z_sw c i (z_ext f) := by
  unfold z_ext
  by_cases c1 : (f 0).1 = 0
  · rw [if_pos c1]; exact sw_F _ _ (by decide)
  rw [if_neg c1]
  by_cases c2 : (f 0).1 = 1
  · rw [if_pos c2]; exact vw_1 (h.1 0) c2
  · rw [if_neg c2]; exact sw_F _ _ (by decide)
theorem stp_wf {c : zC} {i : Nat} {A : zA} (hc : z_cw c) (hi : i < 40) (h : z_wf i A) : z_sw c i (z_stp c i A) := by
  obtain ⟨f, sf, lk⟩ := A
  obtain ⟨hn, hd, hs⟩ := hc
  have hv : ∀ k, z_vw i lk (f k) := h.1
  unfold z_stp
  by_cases c1 : c.1 < 20
  · rw [if_pos c1]
    refine alu_wf hi hd h ?_
    by_cases c2 : c.1 < 10
    · rw [if_pos c2]; exact vw_im _ _ _
    · rw [if_neg c2]; exact vw_src hv
  rw [if_neg c1]
  by_cases c2 : c.1 < 40
  · rw [if_pos c2]; exact jmp_wf rfl (by omega) hn c2 hi hd h
  rw [if_neg c2]
  by_cases c3 : c.1 = 40
  · rw [if_pos c3]; exact ld_wf hi hd h (vw_src hv)
  rw [if_neg c3]
  by_cases c4 : c.1 = 41
  · rw [if_pos c4]; exact sto_wf hi hd h (vw_src hv)
  rw [if_neg c4]
  by_cases c5 : c.1 = 42
  · rw [if_pos c5]; exact pkt_wf hi hd h
  rw [if_neg c5]
  by_cases c6 : c.1 < 60
  · rw [if_pos c6]; exact hlp_wf hi h
  rw [if_neg c6]
  exact ext_wf h
end
section
/-! a state within another one: its instruction's outcome lies within the other's -/
def z_mo (os ot : zO) : Prop := z_el (fun _ => True)
  (fun lo hi => z_el (fun _ => False) (fun lo' hi' => lo ≤ lo' ∧ hi' ≤ hi) (fun _ _ => False) (fun _ _ _ _ => False) os)
  (fun j B => z_el (fun _ => False) (fun _ _ => False) (fun j' B' => j' = j ∧ z_le B' B) (fun _ _ _ _ => False) os)
  (fun j C k B => z_el (fun _ => False) (fun _ _ => False) (fun j' B' => (j' = j ∧ z_le B' C) ∨ (j' = k ∧ z_le B' B)) (fun j' C' k' B' => j' = j ∧ z_le C' C ∧ k' = k ∧ z_le B' B) os) ot
theorem mo_F (os : zO) (f : Int32) : z_mo os (zF f) := trivial
theorem mo_1 {j : Nat} {B' B : zA} (h : z_le B' B) : z_mo (z1 j B') (z1 j B) := ⟨rfl, h⟩
theorem mo_2 {j k : Nat} {C' C B' B : zA} (h : z_le C' C) (h2 : z_le B' B) : z_mo (z2 j C' k B') (z2 j C k B) := ⟨rfl, h, rfl, h2⟩
theorem mo_12a {j k : Nat} {B' C B : zA} (h : z_le B' C) : z_mo (z1 j B') (z2 j C k B) := Or.inl ⟨rfl, h⟩
theorem mo_12b {j k : Nat} {B' C B : zA} (h : z_le B' B) : z_mo (z1 k B') (z2 j C k B) := Or.inr ⟨rfl, h⟩
theorem vle_k {v t : zV} (h : z_vle v t) (h0 : ¬ t.1 = 0) : t.1 = v.1 ∧ t.2.1 ≤ v.2.1 ∧ v.2.2 ≤ t.2.2 := by
  rcases h with h | h
  · exact absurd h h0
  · exact h
theorem vle_rf (v : zV) : z_vle v v := Or.inr ⟨rfl, Int64.le_refl _, Int64.le_refl _⟩
theorem le_set {f g : Nat → zV} {sf tg lk d : _} {v t : zV} (h : z_le (f, sf, lk) (g, tg, lk)) (hv : z_vle v t) : z_le (z_set f d v, sf, lk) (z_set g d t, tg, lk) := by
  refine ⟨h.1, rfl, fun k => ?_⟩
  show z_vle (if k = d then v else f k) (if k = d then t else g k)
  by_cases c : k = d
  · rw [if_pos c, if_pos c]; exact hv
  · rw [if_neg c, if_neg c]; exact h.2.2 k
theorem src_le {f g : Nat → zV} {s : Nat} (h : ∀ k, z_vle (f k) (g k)) : z_vle (z_src s f) (z_src s g) := by
  unfold z_src
  by_cases c : s = 8
  · rw [if_pos c, if_pos c]; exact vle_rf _
  · rw [if_neg c, if_neg c]; exact h s
theorem alu_mo {i n d : Nat} {f g : Nat → zV} {sf tg lk : Int32} {w x : zV} (hd : d < 8) (hi : i < 40) (hf : z_wf i (f, sf, lk)) (hg : z_wf i (g, tg, lk)) (hw : z_vw i lk w) (hx : z_vw i lk x) (h : z_le (f, sf, lk) (g, tg, lk)) (hwx : z_vle w x) : z_mo (z_alu n d i f sf lk w) (z_alu n d i g tg lk x) := by
  have vf : z_vw i lk (f d) := hf.1 d
  have vg : z_vw i lk (g d) := hg.1 d
  have hfg : z_vle (f d) (g d) := h.2.2 d
  unfold z_alu
  by_cases c1 : x.1 = 0
  · rw [if_pos c1 (c := x.1 = 0)]; exact mo_F _ _
  rw [if_neg c1 (c := x.1 = 0)]
  obtain ⟨k1, k2, k3⟩ := vle_k hwx c1
  rw [if_neg (show ¬ w.1 = 0 by rw [← k1]; exact c1)]
  by_cases c2 : n = 0
  · rw [if_pos c2, if_pos c2]; exact mo_1 (le_set h hwx)
  rw [if_neg c2, if_neg c2]
  by_cases c3 : (g d).1 = 0
  · rw [if_pos c3 (c := (g d).1 = 0)]; exact mo_F _ _
  rw [if_neg c3 (c := (g d).1 = 0)]
  obtain ⟨j1, j2, j3⟩ := vle_k hfg c3
  rw [if_neg (show ¬ (f d).1 = 0 by rw [← j1]; exact c3)]
  rw [li_le] at k2 k3 j2 j3
  by_cases c4 : x.1 = 1 ∧ (g d).1 = 1
  · have c4' : w.1 = 1 ∧ (f d).1 = 1 := by rw [← k1, ← j1]; exact c4
    rw [if_pos c4, if_pos c4']
    have a1 := vw_1 hx c4.1
    have a2 := vw_1 vg c4.2
    have b1 := vw_1 hw c4'.1
    have b2 := vw_1 vf c4'.2
    have W : ∀ p q, _ := fun p q => (iv_mono (n := n) (show z_R (f d).2.1 (f d).2.2 w.2.1 w.2.2 (f d).2.1 (f d).2.2 w.2.1 w.2.2 from ⟨b2.1, Int.le_refl _, b2.2.1, Int.le_refl _, b2.2.2, b1.1, Int.le_refl _, b1.2.1, Int.le_refl _, b1.2.2⟩) p q).2.1
    have W' := cl_wf W
    refine mo_1 (le_set h (Or.inr ⟨?_, cl_le (fun p q => ?_) ⟨W'.2.1, W'.2.2.2⟩⟩))
    · have e : ∀ p, (z_cl p).1 = 1 := fun p => by
        unfold z_cl
        by_cases z : p.1 < 0 ∨ ¬ p.2 ≤ 4294967295
        · rw [if_pos z]
        · rw [if_neg z]
      rw [e, e]
    · have M := iv_mono (n := n) (show z_R (f d).2.1 (f d).2.2 w.2.1 w.2.2 (g d).2.1 (g d).2.2 x.2.1 x.2.2 from ⟨a2.1, j2, b2.2.1, j3, a2.2.2, a1.1, k2, b1.2.1, k3, a1.2.2⟩) p q
      exact ⟨M.1, M.2.2⟩
  have c4' : ¬ (w.1 = 1 ∧ (f d).1 = 1) := by rw [← k1, ← j1]; exact c4
  rw [if_neg c4, if_neg c4']
  by_cases c5 : x.1 = 1 ∧ (g d).1 = 2 ∧ n = 1 ∧ ¬ 256 ≤ (g d).2.2 + x.2.2
  · rw [if_pos c5]
    have a1 := vw_1 hx c5.1
    have a2 := vw_2 vg c5.2.1
    have b1 := vw_1 hw (by rw [← k1]; exact c5.1)
    have b2 := vw_2 vf (by rw [← j1]; exact c5.2.1)
    have e1 := li_add (a := (f d).2.1) (b := w.2.1) (by omega) (by omega) (by omega) (by omega)
    have e2 := li_add (a := (f d).2.2) (b := w.2.2) (by omega) (by omega) (by omega) (by omega)
    have e3 := li_add (a := (g d).2.1) (b := x.2.1) (by omega) (by omega) (by omega) (by omega)
    have e4 := li_add (a := (g d).2.2) (b := x.2.2) (by omega) (by omega) (by omega) (by omega)
    have a3 := c5.2.2.2
    rw [li_le, li_256] at a3
    have c5' : w.1 = 1 ∧ (f d).1 = 2 ∧ n = 1 ∧ ¬ 256 ≤ (f d).2.2 + w.2.2 := by
      refine ⟨by rw [← k1]; exact c5.1, by rw [← j1]; exact c5.2.1, c5.2.2.1, ?_⟩
      rw [li_le, li_256]; omega
    rw [if_pos c5']
    refine mo_1 (le_set h (Or.inr ⟨rfl, ?_, ?_⟩))
    · show (g d).2.1 + x.2.1 ≤ (f d).2.1 + w.2.1
      rw [li_le]; omega
    · show (f d).2.2 + w.2.2 ≤ (g d).2.2 + x.2.2
      rw [li_le]; omega
  rw [if_neg c5]
  by_cases c6 : x.1 = 1 ∧ x.2.1 = x.2.2 ∧ ¬ 100 < x.2.2 ∧ ((g d).1 = 4 ∨ (g d).1 = 5) ∧ n < 3
  · rw [if_pos c6]
    have a1 := vw_1 hx c6.1
    have b1 := vw_1 hw (by rw [← k1]; exact c6.1)
    have x1 := li_eq.mp c6.2.1
    have e1 : w.2.1 = x.2.1 := li_eq.mpr (by omega)
    have e2 : w.2.2 = x.2.2 := li_eq.mpr (by omega)
    have c5' : ¬ (w.1 = 1 ∧ (f d).1 = 2 ∧ n = 1 ∧ ¬ 256 ≤ (f d).2.2 + w.2.2) := by
      intro z
      have z2 := z.2.1
      rw [← j1] at z2
      have z3 := c6.2.2.2.1
      rw [z2] at z3
      exact absurd z3 (by decide)
    rw [if_neg c5']
    have c6' : w.1 = 1 ∧ w.2.1 = w.2.2 ∧ ¬ 100 < w.2.2 ∧ ((f d).1 = 4 ∨ (f d).1 = 5) ∧ n < 3 := by
      rw [e1, e2, ← k1, ← j1]; exact c6
    rw [if_pos c6']
    have g1 := vw_4 vg c6.2.2.2.1
    have f1 := vw_4 vf c6'.2.2.2.1
    have g2 := li_eq.mp g1.1
    have f2 := li_eq.mp f1.1
    have e3 : (f d).2.1 = (g d).2.1 := li_eq.mpr (by omega)
    have e4 : (f d).2.2 = (g d).2.2 := li_eq.mpr (by omega)
    refine mo_1 (le_set h (Or.inr ⟨j1, ?_, ?_⟩))
    · show (g d).2.1 + z_by n x.2.1 ≤ (f d).2.1 + z_by n w.2.1
      rw [e3, e1]; exact Int64.le_refl _
    · show (f d).2.2 + z_by n w.2.1 ≤ (g d).2.2 + z_by n x.2.1
      rw [e4, e1]; exact Int64.le_refl _
  rw [if_neg c6]
  exact mo_F _ _
theorem pos_mo {t : Nat} {v w v' w' : zV} (hv : v.2.1.toInt ≤ v.2.2.toInt) (hw : w.2.1.toInt ≤ w.2.2.toInt) (h1 : v'.2.1.toInt ≤ v.2.1.toInt) (h2 : v.2.2.toInt ≤ v'.2.2.toInt) (h3 : w'.2.1.toInt ≤ w.2.1.toInt) (h4 : w.2.2.toInt ≤ w'.2.2.toInt) (h : z_pos t v w = true) : z_pos t v' w' = true := by
  unfold z_pos at *
  by_cases t1 : t = 1
  · rw [if_pos t1] at h ⊢
    have h' := of_decide_eq_true h
    refine decide_eq_true ?_
    rw [li_lt, li_lt] at h' ⊢
    omega
  rw [if_neg t1] at h ⊢
  by_cases t2 : t = 2
  · rw [if_pos t2] at h ⊢
    have h' := of_decide_eq_true h
    refine decide_eq_true ?_
    rw [li_lt, li_lt, li_eq] at h' ⊢
    omega
  rw [if_neg t2] at h ⊢
  by_cases t3 : t = 3
  · rw [if_pos t3] at h ⊢
    have h' := of_decide_eq_true h
    refine decide_eq_true ?_
    rw [li_le] at h' ⊢
    omega
  rw [if_neg t3] at h ⊢
  have h' := of_decide_eq_true h
  refine decide_eq_true ?_
  rw [li_lt] at h' ⊢
  omega
theorem cut_mo {t : Nat} {v w v' w' : zV} (k1 : v.1 = 1) (k2 : v'.1 = 1) (R : z_R v.2.1 v.2.2 w.2.1 w.2.2 v'.2.1 v'.2.2 w'.2.1 w'.2.2) (h : z_pos t v w = true) : z_vle (z_cut t v w) (z_cut t v' w') := by
  have C := cut_wf (t := t) k1 (show 0 ≤ v.2.1.toInt ∧ v.2.1.toInt ≤ v.2.2.toInt ∧ v.2.2.toInt ≤ 4294967295 from by obtain ⟨r1, r2, r3, r4, r5, r6⟩ := R; omega) (show 0 ≤ w.2.1.toInt ∧ w.2.1.toInt ≤ w.2.2.toInt ∧ w.2.2.toInt ≤ 4294967295 from by obtain ⟨r1, r2, r3, r4, r5, r6, r7, r8, r9, r10⟩ := R; omega) h
  obtain ⟨r1, r2, r3, r4, r5, r6, r7, r8, r9, r10⟩ := R
  refine Or.inr ?_
  have h' := h
  unfold z_pos at h'
  unfold z_cut at *
  by_cases c0' : ¬ w'.2.1 = w'.2.2
  · rw [if_pos c0' (c := ¬ w'.2.1 = w'.2.2)]
    by_cases c0 : ¬ w.2.1 = w.2.2
    · rw [if_pos c0]; exact ⟨k2.trans k1.symm, li_le.mpr r2, li_le.mpr r4⟩
    rw [if_neg c0] at C ⊢
    refine ⟨k2.trans C.1.symm, ?_⟩
    have c0e := li_eq.mp (Classical.not_not.mp c0)
    by_cases t1 : t = 1
    · rw [if_pos t1] at C ⊢ h'
      have h'' := of_decide_eq_true h'
      rw [li_lt, li_lt] at h''
      rw [li_le, li_le]; dsimp only; omega
    rw [if_neg t1] at C ⊢ h'
    by_cases t2 : t = 2
    · rw [if_pos t2] at C ⊢
      by_cases e1 : v.2.1 = w.2.1
      · rw [if_pos e1] at C ⊢
        have e := li_add (a := v.2.1) (b := 1) (by omega) (by omega) (by decide) (by decide)
        rw [li_1] at e
        rw [li_le, li_le]; dsimp only; omega
      · rw [if_neg e1] at C ⊢
        by_cases e2 : v.2.2 = w.2.1
        · rw [if_pos e2] at C ⊢
          have e := li_sub (a := v.2.2) (b := 1) (by omega) (by omega) (by decide) (by decide)
          rw [li_1] at e
          rw [li_le, li_le]; dsimp only; omega
        · rw [if_neg e2]; exact ⟨li_le.mpr r2, li_le.mpr r4⟩
    rw [if_neg t2] at C ⊢ h'
    by_cases t3 : t = 3
    · rw [if_pos t3] at C ⊢
      by_cases e1 : w.2.1 ≤ v.2.2
      · rw [if_pos e1] at C ⊢
        rw [li_le] at e1
        have e := li_sub (a := w.2.1) (b := 1) (by omega) (by omega) (by decide) (by decide)
        rw [li_1] at e
        rw [li_le, li_le]; dsimp only; omega
      · rw [if_neg e1]; exact ⟨li_le.mpr r2, li_le.mpr r4⟩
    rw [if_neg t3] at C ⊢
    by_cases e1 : v.2.1 ≤ w.2.1
    · rw [if_pos e1] at C ⊢
      rw [li_le] at e1
      rw [li_le, li_le]; dsimp only; omega
    · rw [if_neg e1]; exact ⟨li_le.mpr r2, li_le.mpr r4⟩
  rw [if_neg c0' (c := ¬ w'.2.1 = w'.2.2)]
  have ce := li_eq.mp (Classical.not_not.mp c0')
  have ew : w.2.1 = w'.2.1 := li_eq.mpr (by omega)
  have c0 : ¬ ¬ w.2.1 = w.2.2 := fun z => z (li_eq.mpr (by omega))
  rw [if_neg c0] at C ⊢
  have ewe := li_eq.mp ew
  by_cases t1 : t = 1
  · rw [if_pos t1, if_pos t1]; rw [ew]; exact ⟨rfl, Int64.le_refl _, Int64.le_refl _⟩
  rw [if_neg t1] at C h'
  rw [if_neg t1, if_neg t1]
  by_cases t2 : t = 2
  · rw [if_pos t2] at C h'
    rw [if_pos t2, if_pos t2]
    have h'' := of_decide_eq_true h'
    rw [li_lt, li_lt, li_eq] at h''
    have A1 := li_add (a := v.2.1) (b := 1) (by omega) (by omega) (by decide) (by decide)
    have A2 := li_add (a := v'.2.1) (b := 1) (by omega) (by omega) (by decide) (by decide)
    have A3 := li_sub (a := v.2.2) (b := 1) (by omega) (by omega) (by decide) (by decide)
    have A4 := li_sub (a := v'.2.2) (b := 1) (by omega) (by omega) (by decide) (by decide)
    rw [li_1] at A1 A2 A3 A4
    by_cases e1 : v.2.1 = w.2.1 <;> by_cases e2 : v.2.2 = w.2.1 <;> by_cases e3 : v'.2.1 = w'.2.1 <;> by_cases e4 : v'.2.2 = w'.2.1 <;> (try first | rw [if_pos e1] | rw [if_neg e1]) <;> (try first | rw [if_pos e2] | rw [if_neg e2]) <;> (try first | rw [if_pos e3] | rw [if_neg e3]) <;> (try first | rw [if_pos e4] | rw [if_neg e4]) <;> rw [li_eq] at e1 e2 e3 e4 <;> refine ⟨by first | rfl | exact k2 | exact k1.symm | exact k2.trans k1.symm, ?_, ?_⟩ <;> rw [li_le] <;> (try dsimp only) <;> omega
  rw [if_neg t2] at C h'
  rw [if_neg t2, if_neg t2]
  by_cases t3 : t = 3
  · rw [if_pos t3] at C h'
    rw [if_pos t3, if_pos t3]
    have A1 := li_sub (a := w.2.1) (b := 1) (by omega) (by omega) (by decide) (by decide)
    have A2 := li_sub (a := w'.2.1) (b := 1) (by omega) (by omega) (by decide) (by decide)
    rw [li_1] at A1 A2
    by_cases e1 : w.2.1 ≤ v.2.2 <;> by_cases e2 : w'.2.1 ≤ v'.2.2 <;> (try first | rw [if_pos e1] | rw [if_neg e1]) <;> (try first | rw [if_pos e2] | rw [if_neg e2]) <;> rw [li_le] at e1 e2 <;> refine ⟨by first | rfl | exact k2 | exact k1.symm | exact k2.trans k1.symm, ?_, ?_⟩ <;> rw [li_le] <;> (try dsimp only) <;> omega
  rw [if_neg t3] at C h'
  rw [if_neg t3, if_neg t3]
  by_cases e1 : v.2.1 ≤ w.2.1 <;> by_cases e2 : v'.2.1 ≤ w'.2.1 <;> (try first | rw [if_pos e1] | rw [if_neg e1]) <;> (try first | rw [if_pos e2] | rw [if_neg e2]) <;> rw [li_le] at e1 e2 <;> refine ⟨by first | rfl | exact k2 | exact k1.symm | exact k2.trans k1.symm, ?_, ?_⟩ <;> rw [li_le] <;> (try dsimp only) <;> omega
end
section
theorem stl_le {f g : Nat → zV} {sf tg lk : Int32} {n : Int64} {b : Bool} {i : Nat} (hf : z_wf i (f, sf, lk)) (hg : z_wf i (g, tg, lk)) (h : z_le (f, sf, lk) (g, tg, lk)) : z_le (z_stl f n b, sf, lk) (z_stl g n b, tg, lk) := by
  refine ⟨h.1, rfl, fun k => ?_⟩
  show z_vle (if (f k).1 = 6 ∧ (f k).2.1 = n then (if b then (1, 0, 0) else (5, 0, 0)) else f k) (if (g k).1 = 6 ∧ (g k).2.1 = n then (if b then (1, 0, 0) else (5, 0, 0)) else g k)
  have hk : z_vle (f k) (g k) := h.2.2 k
  by_cases c : (g k).1 = 0
  · rw [if_neg (c := (g k).1 = 6 ∧ (g k).2.1 = n) (fun z => by have := z.1; rw [c] at this; exact absurd this (by decide))]
    exact Or.inl c
  obtain ⟨k1, k2, k3⟩ := vle_k hk c
  by_cases d : (g k).1 = 6 ∧ (g k).2.1 = n
  · have g6 := vw_6 (hg.1 k) d.1
    have f6 := vw_6 (hf.1 k) (k1.symm.trans d.1)
    have e : (f k).2.1 = (g k).2.1 := f6.2.trans g6.2.symm
    rw [if_pos d, if_pos ⟨k1.symm.trans d.1, e.trans d.2⟩]
    exact vle_rf _
  · rw [if_neg d]
    have d' : ¬ ((f k).1 = 6 ∧ (f k).2.1 = n) := by
      intro z
      have f6 := vw_6 (hf.1 k) z.1
      have g6 := vw_6 (hg.1 k) (k1.trans z.1)
      exact d ⟨k1.trans z.1, (g6.2.trans f6.2.symm).trans z.2⟩
    rw [if_neg d']
    exact hk
theorem mx_mo {sf tg : Int32} {x y : Int64} (hs : ∃ a : Nat, a ≤ 256 ∧ sf = nI a) (ht : ∃ a : Nat, a ≤ 256 ∧ tg = nI a) (h : tg ≤ sf) (hx : 0 ≤ x.toInt) (hx2 : x.toInt ≤ 256) (hy : y.toInt ≤ 256) (hxy : x.toInt ≤ y.toInt) : z_mx tg x.toInt32 ≤ z_mx sf y.toInt32 := by
  obtain ⟨a, ha, rfl⟩ := hs
  obtain ⟨b, hb, rfl⟩ := ht
  obtain ⟨m, hm, _, e, _, em⟩ := sm_lN (n := 257) hx (by omega) (by decide)
  obtain ⟨k, hk, _, e', _, ek⟩ := sm_lN (x := y) (n := 257) (by omega) (by omega) (by decide)
  rw [nI_leI (by omega) (by omega)] at h
  rw [e, e', mx_in hb (by omega), mx_in ha (by omega)]
  by_cases c : m ≤ b <;> by_cases d : k ≤ a <;> simp only [c, d, if_true, if_false] <;> exact nI_le (by omega) (by omega)
theorem jc_mo {i t d to : Nat} {f g : Nat → zV} {sf tg lk : Int32} {w x : zV} (ht : 1 ≤ t ∧ t ≤ 4) (hd : d < 8) (hf : z_wf i (f, sf, lk)) (hg : z_wf i (g, tg, lk)) (hw : z_vw i lk w) (hx : z_vw i lk x) (h : z_le (f, sf, lk) (g, tg, lk)) (hwx : z_vle w x) (h0 : ¬ (g d).1 = 0) (hx0 : ¬ x.1 = 0) : z_mo (z_jc t d i to f sf lk w) (z_jc t d i to g tg lk x) := by
  have vf : z_vw i lk (f d) := hf.1 d
  have vg : z_vw i lk (g d) := hg.1 d
  have hfg : z_vle (f d) (g d) := h.2.2 d
  obtain ⟨j1, j2, j3⟩ := vle_k hfg h0
  obtain ⟨k1, k2, k3⟩ := vle_k hwx hx0
  rw [li_le] at k2 k3 j2 j3
  unfold z_jc
  by_cases c1 : (g d).1 = 1 ∧ x.1 = 1
  · have c1' : (f d).1 = 1 ∧ w.1 = 1 := by rw [← k1, ← j1]; exact c1
    rw [if_pos c1, if_pos c1']
    have a1 := vw_1 vg c1.1
    have a2 := vw_1 hx c1.2
    have b1 := vw_1 vf c1'.1
    have b2 := vw_1 hw c1'.2
    have R : z_R (f d).2.1 (f d).2.2 w.2.1 w.2.2 (g d).2.1 (g d).2.2 x.2.1 x.2.2 := ⟨a1.1, j2, b1.2.1, j3, a1.2.2, a2.1, k2, b2.2.1, k3, a2.2.2⟩
    have pm : ∀ t, z_pos t (f d) w = true → z_pos t (g d) x = true := fun t => pos_mo b1.2.1 b2.2.1 j2 j3 k2 k3
    have cm : ∀ t, z_pos t (f d) w = true → z_vle (z_cut t (f d) w) (z_cut t (g d) x) := fun t => cut_mo c1'.1 c1.1 R
    have po := fun t ht => pos_or (t := t) (v := f d) (w := w) ht b1.2.1 b2.2.1
    by_cases p1 : z_pos t (g d) x = true
    · rw [if_pos p1]
      by_cases p2 : z_pos (z_opp t) (g d) x = true
      · rw [if_pos p2]
        by_cases q1 : z_pos t (f d) w = true
        · rw [if_pos q1]
          by_cases q2 : z_pos (z_opp t) (f d) w = true
          · rw [if_pos q2]; exact mo_2 (le_set h (cm _ q2)) (le_set h (cm _ q1))
          · rw [if_neg q2]; exact mo_12b (le_set h (cm _ q1))
        · rw [if_neg q1]; exact mo_12a (le_set h (cm _ (po _ ht q1)))
      · rw [if_neg p2]
        have q2 : ¬ z_pos (z_opp t) (f d) w = true := fun z => p2 (pm _ z)
        have q1 : z_pos t (f d) w = true := by
          refine Classical.byContradiction fun z => q2 (po _ ht z)
        rw [if_pos q1, if_neg q2]
        exact mo_1 (le_set h (cm _ q1))
    · rw [if_neg p1]
      have q1 : ¬ z_pos t (f d) w = true := fun z => p1 (pm _ z)
      rw [if_neg q1]
      exact mo_1 (le_set h (cm _ (po _ ht q1)))
  have c1' : ¬ ((f d).1 = 1 ∧ w.1 = 1) := by rw [← k1, ← j1]; exact c1
  rw [if_neg c1, if_neg c1']
  by_cases c2 : (g d).1 = 6 ∧ x.1 = 1 ∧ x.2.2 = 0 ∧ t < 3
  · have b2 := vw_1 hw (k1.symm.trans c2.2.1)
    have z0 := li_eq.mp c2.2.2.1
    rw [li_0] at z0
    have c2' : (f d).1 = 6 ∧ w.1 = 1 ∧ w.2.2 = 0 ∧ t < 3 := ⟨j1.symm.trans c2.1, k1.symm.trans c2.2.1, li_eq.mpr (by rw [li_0]; omega), c2.2.2.2⟩
    rw [if_pos c2, if_pos c2']
    have g6 := vw_6 vg c2.1
    have f6 := vw_6 vf c2'.1
    have e : (f d).2.1 = (g d).2.1 := f6.2.trans g6.2.symm
    rw [e]
    exact mo_2 (stl_le hf hg h) (stl_le hf hg h)
  rw [if_neg c2]
  have c2'' : (2 < t ∧ (g d).1 = 2 ∧ x.1 = 3) ∨ (2 < t ∧ (g d).1 = 3 ∧ x.1 = 2) → ¬ ((f d).1 = 6 ∧ w.1 = 1 ∧ w.2.2 = 0 ∧ t < 3) := by
    intro z y
    omega
  by_cases c3 : 2 < t ∧ (g d).1 = 2 ∧ x.1 = 3
  · have c3' : 2 < t ∧ (f d).1 = 2 ∧ w.1 = 3 := by rw [← k1, ← j1]; exact c3
    rw [if_pos c3, if_neg (c2'' (Or.inl c3)), if_pos c3']
    have a1 := vw_2 vg c3.2.1
    have b1 := vw_2 vf c3'.2.1
    have e1 := li_add (a := (f d).2.1) (b := 1) (by omega) (by omega) (by decide) (by decide)
    have e2 := li_add (a := (g d).2.1) (b := 1) (by omega) (by omega) (by decide) (by decide)
    rw [li_1] at e1 e2
    have M : z_mx tg ((g d).2.1 + 1).toInt32 ≤ z_mx sf ((f d).2.1 + 1).toInt32 := mx_mo hf.2.1 hg.2.1 h.1 (by omega) (by omega) (by omega) (by omega)
    by_cases t3 : t = 3
    · rw [if_pos t3, if_pos t3]; exact mo_2 h ⟨M, rfl, h.2.2⟩
    · rw [if_neg t3, if_neg t3]; exact mo_2 ⟨M, rfl, h.2.2⟩ h
  rw [if_neg c3]
  by_cases c4 : 2 < t ∧ (g d).1 = 3 ∧ x.1 = 2
  · have c4' : 2 < t ∧ (f d).1 = 3 ∧ w.1 = 2 := by rw [← k1, ← j1]; exact c4
    have c3' : ¬ (2 < t ∧ (f d).1 = 2 ∧ w.1 = 3) := by rw [← k1, ← j1]; exact c3
    rw [if_pos c4, if_neg (c2'' (Or.inr c4)), if_neg c3', if_pos c4']
    have a1 := vw_2 hx c4.2.2
    have b1 := vw_2 hw c4'.2.2
    have M : z_mx tg x.2.1.toInt32 ≤ z_mx sf w.2.1.toInt32 := mx_mo hf.2.1 hg.2.1 h.1 (by omega) (by omega) (by omega) (by omega)
    by_cases t3 : t = 3
    · rw [if_pos t3, if_pos t3]; exact mo_2 ⟨M, rfl, h.2.2⟩ h
    · rw [if_neg t3, if_neg t3]; exact mo_2 h ⟨M, rfl, h.2.2⟩
  rw [if_neg c4]
  exact mo_F _ _
theorem jmp_mo {i o d s : Nat} {off im : Int32} {f g : Nat → zV} {sf tg lk : Int32} (h20 : 20 ≤ o) (hn : z_nm o) (h40 : o < 40) (hd : d < 8) (hf : z_wf i (f, sf, lk)) (hg : z_wf i (g, tg, lk)) (h : z_le (f, sf, lk) (g, tg, lk)) : z_mo (z_jmp o d s i off im f sf lk) (z_jmp o d s i off im g tg lk) := by
  unfold z_jmp
  by_cases c1 : off < 0
  · rw [if_pos c1, if_pos c1]; exact mo_F _ _
  rw [if_neg c1, if_neg c1]
  by_cases c2 : o = 20
  · rw [if_pos c2, if_pos c2]; exact mo_1 h
  rw [if_neg c2, if_neg c2]
  by_cases c3 : (g d).1 = 0
  · rw [if_pos c3 (c := (g d).1 = 0)]; exact mo_F _ _
  rw [if_neg c3 (c := (g d).1 = 0)]
  obtain ⟨j1, j2, j3⟩ := vle_k (h.2.2 d) c3
  have c3' : ¬ (f d).1 = 0 := fun z => c3 (j1.trans z)
  rw [if_neg c3' (c := (f d).1 = 0)]
  have hwx : z_vle (if o < 30 then z_im im else z_src s f) (if o < 30 then z_im im else z_src s g) := by
    by_cases c5 : o < 30
    · rw [if_pos c5, if_pos c5]; exact vle_rf _
    · rw [if_neg c5, if_neg c5]; exact src_le h.2.2
  have hw : z_vw i lk (if o < 30 then z_im im else z_src s f) := by
    by_cases c5 : o < 30
    · rw [if_pos c5]; exact vw_im _ _ _
    · rw [if_neg c5]; exact vw_src hf.1
  have hx : z_vw i lk (if o < 30 then z_im im else z_src s g) := by
    by_cases c5 : o < 30
    · rw [if_pos c5]; exact vw_im _ _ _
    · rw [if_neg c5]; exact vw_src hg.1
  generalize (if o < 30 then z_im im else z_src s f) = w at hw hwx ⊢
  generalize (if o < 30 then z_im im else z_src s g) = x at hx hwx ⊢
  by_cases c4 : x.1 = 0
  · rw [if_pos c4 (c := x.1 = 0)]; exact mo_F _ _
  rw [if_neg c4 (c := x.1 = 0)]
  have c4' : ¬ w.1 = 0 := fun z => c4 ((vle_k hwx c4).1.trans z)
  rw [if_neg c4' (c := w.1 = 0)]
  exact jc_mo (by unfold z_nm at hn; omega) hd hf hg hw hx h hwx c3 c4
theorem fr_eq {i : Nat} {lk : Int32} {v t : zV} (hv : z_vw i lk v) (ht : z_vw i lk t) (h : z_vle v t) (k : t.1 = 4 ∨ t.1 = 5) : v = t := by
  have h0 : ¬ t.1 = 0 := fun z => by rw [z] at k; exact absurd k (by decide)
  obtain ⟨j1, j2, j3⟩ := vle_k h h0
  have a := vw_4 ht k
  have b := vw_4 hv (by rw [← j1]; exact k)
  rw [li_le] at j2 j3
  have a1 := li_eq.mp a.1
  have b1 := li_eq.mp b.1
  have e1 : v.2.1 = t.2.1 := li_eq.mpr (by omega)
  have e2 : v.2.2 = t.2.2 := li_eq.mpr (by omega)
  exact Prod.ext j1.symm (Prod.ext e1 e2)
theorem ld_mo {i d : Nat} {off : Int32} {f g : Nat → zV} {sf tg lk : Int32} {w x : zV} (h : z_le (f, sf, lk) (g, tg, lk)) (hw : z_vw i lk w) (hx : z_vw i lk x) (hwx : z_vle w x) : z_mo (z_ld d i off f sf lk w) (z_ld d i off g tg lk x) := by
  unfold z_ld
  by_cases c1 : x.1 = 0
  · rw [if_pos c1 (c := x.1 = 0)]; exact mo_F _ _
  by_cases c2 : ¬ (x.1 = 4 ∨ x.1 = 5)
  · rw [if_neg c1 (c := x.1 = 0), if_pos c2 (c := ¬ (x.1 = 4 ∨ x.1 = 5))]; exact mo_F _ _
  have e := fr_eq hw hx hwx (Classical.not_not.mp c2)
  subst e
  rw [if_neg c1, if_neg c1, if_neg c2, if_neg c2]
  by_cases c3 : (off < -100 ∨ 100 < off ∨ w.2.1 + off.toInt64 < 0 ∨ ¬ w.2.2 + off.toInt64 < (if w.1 = 4 then 6 else 2))
  · rw [if_pos c3, if_pos c3]; exact mo_F _ _
  rw [if_neg c3, if_neg c3]
  by_cases c4 : w.1 = 5
  · rw [if_pos c4, if_pos c4]; exact mo_1 (le_set h (vle_rf _))
  rw [if_neg c4, if_neg c4]
  generalize 8 + (w.2.1 + off.toInt64).toInt32.toNatClampNeg = m
  by_cases c5 : (g m).1 = 0
  · rw [if_pos c5 (c := (g m).1 = 0)]; exact mo_F _ _
  rw [if_neg c5 (c := (g m).1 = 0)]
  have hm : z_vle (f m) (g m) := h.2.2 m
  have c5' : ¬ (f m).1 = 0 := fun z => c5 ((vle_k hm c5).1.trans z)
  rw [if_neg c5' (c := (f m).1 = 0)]
  exact mo_1 (le_set h hm)
theorem sto_mo {i d : Nat} {off : Int32} {f g : Nat → zV} {sf tg lk : Int32} {w x : zV} (hf : z_wf i (f, sf, lk)) (hg : z_wf i (g, tg, lk)) (h : z_le (f, sf, lk) (g, tg, lk)) (hwx : z_vle w x) : z_mo (z_sto d i off f sf lk w) (z_sto d i off g tg lk x) := by
  unfold z_sto
  by_cases c0 : (g d).1 = 0
  · rw [if_pos c0 (c := (g d).1 = 0)]; exact mo_F _ _
  rw [if_neg c0 (c := (g d).1 = 0)]
  by_cases c1 : x.1 = 0
  · rw [if_pos c1 (c := x.1 = 0)]; exact mo_F _ _
  rw [if_neg c1 (c := x.1 = 0)]
  by_cases c2 : ¬ ((g d).1 = 4 ∨ (g d).1 = 5)
  · rw [if_pos c2 (c := ¬ ((g d).1 = 4 ∨ (g d).1 = 5))]; exact mo_F _ _
  rw [if_neg c2 (c := ¬ ((g d).1 = 4 ∨ (g d).1 = 5))]
  obtain ⟨k1, k2, k3⟩ := vle_k hwx c1
  have e : f d = g d := fr_eq (hf.1 d) (hg.1 d) (h.2.2 d) (Classical.not_not.mp c2)
  rw [e, if_neg c0, if_neg (c := w.1 = 0) (fun z => c1 (k1.trans z)), if_neg c2]
  by_cases c3 : (off < -100 ∨ 100 < off ∨ (g d).2.1 + off.toInt64 < 0 ∨ ¬ (g d).2.1 + off.toInt64 < (if (g d).1 = 4 then 6 else 2))
  · rw [if_pos c3, if_pos c3]; exact mo_F _ _
  rw [if_neg c3, if_neg c3]
  by_cases c4 : (g d).1 = 4
  · rw [if_pos c4, if_pos c4]; exact mo_1 (le_set h hwx)
  rw [if_neg c4, if_neg c4]
  by_cases c7 : x.1 = 1
  · rw [if_pos c7, if_pos (k1.symm.trans c7)]; exact mo_1 h
  · rw [if_neg c7 (c := x.1 = 1)]; exact mo_F _ _
theorem pkt_mo {i d : Nat} {off : Int32} {f g : Nat → zV} {sf tg lk : Int32} {w x : zV} (hf : z_wf i (f, sf, lk)) (hg : z_wf i (g, tg, lk)) (h : z_le (f, sf, lk) (g, tg, lk)) (hw : z_vw i lk w) (hx : z_vw i lk x) (hwx : z_vle w x) : z_mo (z_pkt d i off f sf lk w) (z_pkt d i off g tg lk x) := by
  unfold z_pkt
  by_cases c1 : x.1 = 0
  · rw [if_pos c1 (c := x.1 = 0)]; exact mo_F _ _
  rw [if_neg c1 (c := x.1 = 0)]
  by_cases c2 : ¬ x.1 = 2
  · rw [if_pos c2 (c := ¬ x.1 = 2)]; exact mo_F _ _
  rw [if_neg c2 (c := ¬ x.1 = 2)]
  by_cases c3 : (off < -100 ∨ 100 < off ∨ x.2.1 + off.toInt64 < 0 ∨ ¬ x.2.2 + off.toInt64 < tg.toInt64)
  · rw [if_pos c3]; exact mo_F _ _
  rw [if_neg c3]
  obtain ⟨k1, k2, k3⟩ := vle_k hwx c1
  have x2 : x.1 = 2 := Classical.not_not.mp c2
  have a := vw_2 hx x2
  have b := vw_2 hw (k1.symm.trans x2)
  rw [li_le] at k2 k3
  have o1 := off.le_toInt
  have o2 := off.toInt_lt
  have eo : off.toInt64.toInt = off.toInt := Int32.toInt_toInt64 off
  have e1 := li_add (a := w.2.1) (b := off.toInt64) (by omega) (by omega) (by omega) (by omega)
  have e2 := li_add (a := w.2.2) (b := off.toInt64) (by omega) (by omega) (by omega) (by omega)
  have e3 := li_add (a := x.2.1) (b := off.toInt64) (by omega) (by omega) (by omega) (by omega)
  have e4 := li_add (a := x.2.2) (b := off.toInt64) (by omega) (by omega) (by omega) (by omega)
  have hs : tg.toInt ≤ sf.toInt := Int32.le_iff_toInt_le.mp h.1
  have c3' : ¬ (off < -100 ∨ 100 < off ∨ w.2.1 + off.toInt64 < 0 ∨ ¬ w.2.2 + off.toInt64 < sf.toInt64) := by
    intro z
    apply c3
    rcases z with z | z | z | z
    · exact Or.inl z
    · exact Or.inr (Or.inl z)
    · refine Or.inr (Or.inr (Or.inl ?_))
      rw [li_lt, li_0] at *
      omega
    · refine Or.inr (Or.inr (Or.inr ?_))
      rw [li_lt, Int32.toInt_toInt64] at *
      omega
  rw [if_neg (c := w.1 = 0) (fun z => c1 (k1.trans z)), if_neg (c := ¬ w.1 = 2) (fun z => z (k1.symm.trans x2)), if_neg c3']
  exact mo_1 (le_set h (vle_rf _))
theorem kill_le {f g : Nat → zV} (h : ∀ k, z_vle (f k) (g k)) (k : Nat) : z_vle (z_kill f k) (z_kill g k) := by
  show z_vle (if (0 < k ∧ k < 6) ∨ (f k).1 = 5 ∨ (f k).1 = 6 then (0, 0, 0) else f k) (if (0 < k ∧ k < 6) ∨ (g k).1 = 5 ∨ (g k).1 = 6 then (0, 0, 0) else g k)
  by_cases c : (0 < k ∧ k < 6) ∨ (g k).1 = 5 ∨ (g k).1 = 6
  · rw [if_pos c]; exact Or.inl rfl
  rw [if_neg c]
  by_cases c0 : (g k).1 = 0
  · exact Or.inl c0
  have e := (vle_k (h k) c0).1
  rw [if_neg (by rw [← e]; exact c)]
  exact h k
theorem hlp_mo {i o : Nat} {im : Int32} {f g : Nat → zV} {sf tg lk : Int32} (h : z_le (f, sf, lk) (g, tg, lk)) : z_mo (z_hlp o i im f sf lk) (z_hlp o i im g tg lk) := by
  unfold z_hlp
  by_cases c1 : im < 0 ∨ ¬ im ≤ 1
  · rw [if_pos c1, if_pos c1]; exact mo_F _ _
  rw [if_neg c1, if_neg c1]
  by_cases c2 : (g 1).1 = 0 ∨ (o = 51 ∧ ((g 2).1 = 0 ∨ (g 3).1 = 0))
  · rw [if_pos c2 (c := (g 1).1 = 0 ∨ (o = 51 ∧ ((g 2).1 = 0 ∨ (g 3).1 = 0)))]; exact mo_F _ _
  rw [if_neg c2 (c := (g 1).1 = 0 ∨ (o = 51 ∧ ((g 2).1 = 0 ∨ (g 3).1 = 0)))]
  by_cases c3 : ¬ (g 1).1 = 1 ∨ (o = 51 ∧ (¬ (g 2).1 = 1 ∨ ¬ (g 3).1 = 1))
  · rw [if_pos c3 (c := ¬ (g 1).1 = 1 ∨ (o = 51 ∧ (¬ (g 2).1 = 1 ∨ ¬ (g 3).1 = 1)))]; exact mo_F _ _
  rw [if_neg c3 (c := ¬ (g 1).1 = 1 ∨ (o = 51 ∧ (¬ (g 2).1 = 1 ∨ ¬ (g 3).1 = 1)))]
  have hk : ∀ k, z_vle (f k) (g k) := h.2.2
  have s1 : ∀ k, (g k).1 = 1 → (f k).1 = 1 := fun k z => (vle_k (hk k) (fun y => by rw [z] at y; exact absurd y (by decide))).1.symm.trans z
  have q1 : (g 1).1 = 1 := Classical.byContradiction fun z => c3 (Or.inl z)
  have q2 : o = 51 → (g 2).1 = 1 := fun y => Classical.byContradiction fun z => c3 (Or.inr ⟨y, Or.inl z⟩)
  have q3 : o = 51 → (g 3).1 = 1 := fun y => Classical.byContradiction fun z => c3 (Or.inr ⟨y, Or.inr z⟩)
  have n0 : ∀ k, (f k).1 = 1 → ¬ (f k).1 = 0 := fun k z y => by rw [z] at y; exact absurd y (by decide)
  have c2' : ¬ ((f 1).1 = 0 ∨ (o = 51 ∧ ((f 2).1 = 0 ∨ (f 3).1 = 0))) := by
    rintro (z | ⟨y, z | z⟩)
    · exact n0 1 (s1 1 q1) z
    · exact n0 2 (s1 2 (q2 y)) z
    · exact n0 3 (s1 3 (q3 y)) z
  have c3' : ¬ (¬ (f 1).1 = 1 ∨ (o = 51 ∧ (¬ (f 2).1 = 1 ∨ ¬ (f 3).1 = 1))) := by
    rintro (z | ⟨y, z | z⟩)
    · exact z (s1 1 q1)
    · exact z (s1 2 (q2 y))
    · exact z (s1 3 (q3 y))
  rw [if_neg c2', if_neg c3']
  by_cases c4 : o = 50
  · rw [if_pos c4, if_pos c4]; exact mo_1 (le_set ⟨h.1, rfl, kill_le hk⟩ (vle_rf _))
  · rw [if_neg c4, if_neg c4]; exact mo_1 (le_set ⟨h.1, rfl, kill_le hk⟩ (vle_rf _))
theorem ext_mo {f g : Nat → zV} (hk : ∀ k, z_vle (f k) (g k)) : z_mo (z_ext f) (z_ext g) := by
  unfold z_ext
  by_cases c1 : (g 0).1 = 0
  · rw [if_pos c1 (c := (g 0).1 = 0)]; exact mo_F _ _
  rw [if_neg c1 (c := (g 0).1 = 0)]
  obtain ⟨k1, k2, k3⟩ := vle_k (hk 0) c1
  by_cases c2 : (g 0).1 = 1
  · rw [if_pos c2, if_neg (c := (f 0).1 = 0) (fun z => c1 (k1.trans z)), if_pos (k1.symm.trans c2)]
    exact ⟨k2, k3⟩
  · rw [if_neg c2 (c := (g 0).1 = 1)]; exact mo_F _ _
theorem stp_mo {c : zC} {i : Nat} {A T : zA} (hc : z_cw c) (hi : i < 40) (hA : z_wf i A) (hT : z_wf i T) (h : z_le A T) : z_mo (z_stp c i A) (z_stp c i T) := by
  obtain ⟨f, sf, lk⟩ := A
  obtain ⟨g, tg, lk'⟩ := T
  obtain rfl : lk = lk' := h.2.1
  obtain ⟨hn, hd, hs⟩ := hc
  have hv : ∀ k, z_vw i lk (f k) := hA.1
  have hv' : ∀ k, z_vw i lk (g k) := hT.1
  have hk : ∀ k, z_vle (f k) (g k) := h.2.2
  unfold z_stp
  by_cases c1 : c.1 < 20
  · rw [if_pos c1, if_pos c1]
    by_cases c2 : c.1 < 10
    · rw [if_pos c2, if_pos c2]; exact alu_mo hd hi hA hT (vw_im _ _ _) (vw_im _ _ _) h (vle_rf _)
    · rw [if_neg c2, if_neg c2]; exact alu_mo hd hi hA hT (vw_src hv) (vw_src hv') h (src_le hk)
  rw [if_neg c1, if_neg c1]
  by_cases c2 : c.1 < 40
  · rw [if_pos c2, if_pos c2]; exact jmp_mo (by omega) hn c2 hd hA hT h
  rw [if_neg c2, if_neg c2]
  by_cases c3 : c.1 = 40
  · rw [if_pos c3, if_pos c3]; exact ld_mo h (vw_src hv) (vw_src hv') (src_le hk)
  rw [if_neg c3, if_neg c3]
  by_cases c4 : c.1 = 41
  · rw [if_pos c4, if_pos c4]; exact sto_mo hA hT h (src_le hk)
  rw [if_neg c4, if_neg c4]
  by_cases c5 : c.1 = 42
  · rw [if_pos c5, if_pos c5]; exact pkt_mo hA hT h (vw_src hv) (vw_src hv') (src_le hk)
  rw [if_neg c5, if_neg c5]
  by_cases c6 : c.1 < 60
  · rw [if_pos c6, if_pos c6]; exact hlp_mo h
  rw [if_neg c6, if_neg c6]
  exact ext_mo hk
end
section
/-! good trees, the plain run, pruning -/
def z_ok (P : Nat → zC) (n : Nat) (M : Nat → Prop) (L H : Int64) (Q : Nat → zA → Prop) (i : Nat) (A : zA) : Prop :=
  i < n ∧ M i ∧ z_el (fun _ => False) (fun lo hi => L ≤ lo ∧ hi ≤ H) Q (fun j C k B => Q j C ∧ Q k B) (z_stp (P i) i A)
def z_gw (P : Nat → zC) (n : Nat) (M : Nat → Prop) (L H : Int64) (E : List (Nat × zA)) (i : Nat) (A : zA) : Prop :=
  ∀ Q : Nat → zA → Prop, (∀ p, p ∈ E → Q p.1 p.2) → (∀ i A, z_ok P n M L H Q i A → Q i A) → Q i A
section GW
variable {P : Nat → zC} {n : Nat} {M M' : Nat → Prop} {L H L' H' : Int64}
theorem ok_mono {Q Q' : Nat → zA → Prop} {i : Nat} {A : zA} (hQ : ∀ i A, Q i A → Q' i A) (hM : ∀ i, M i → M' i) (hL : L' ≤ L) (hH : H ≤ H') (h : z_ok P n M L H Q i A) : z_ok P n M' L' H' Q' i A :=
  ⟨h.1, hM i h.2.1, z_el_mono h.2.2 (fun _ x => x) (fun _ _ x => ⟨Int64.le_trans hL x.1, Int64.le_trans x.2 hH⟩) hQ (fun _ _ _ _ x => ⟨hQ _ _ x.1, hQ _ _ x.2⟩)⟩
theorem gw_in {E : List (Nat × zA)} {p : Nat × zA} (h : p ∈ E) : z_gw P n M L H E p.1 p.2 := fun _ h1 _ => h1 p h
theorem gw_ok {E : List (Nat × zA)} {i : Nat} {A : zA} (h : z_ok P n M L H (z_gw P n M L H E) i A) : z_gw P n M L H E i A :=
  fun Q h1 h2 => h2 i A (ok_mono (fun _ _ g => g Q h1 h2) (fun _ x => x) (Int64.le_refl _) (Int64.le_refl _) h)
theorem gw_bind {E E' : List (Nat × zA)} {i : Nat} {A : zA} (h : z_gw P n M L H E i A) (hE : ∀ p, p ∈ E → z_gw P n M' L' H' E' p.1 p.2) (hM : ∀ i, M i → M' i) (hL : L' ≤ L) (hH : H ≤ H') : z_gw P n M' L' H' E' i A :=
  h _ hE (fun _ _ o => gw_ok (ok_mono (fun _ _ x => x) hM hL hH o))
theorem gw_le (hP : ∀ i, i < n → z_cw (P i)) (hn : n ≤ 40) {i : Nat} {s t : zA} (h : z_gw P n M L H [] i t) (wt : z_wf i t) (ws : z_wf i s) (hle : z_le s t) : z_gw P n M L H [] i s := by
  refine h (fun i t => z_wf i t → ∀ s, z_wf i s → z_le s t → z_gw P n M L H [] i s) (fun p hp => by cases hp) ?_ wt s ws hle
  intro i t o wt s ws hle
  obtain ⟨o1, o2, o3⟩ := o
  have mo := stp_mo (hP i o1) (by omega) ws wt hle
  have sws := stp_wf (hP i o1) (by omega) ws
  have swt := stp_wf (hP i o1) (by omega) wt
  refine gw_ok ⟨o1, o2, ?_⟩
  generalize z_stp (P i) i s = os at mo sws ⊢
  generalize z_stp (P i) i t = ot at mo swt o3
  rcases ot with f | e | p | q
  · exact o3.elim
  · rcases os with f' | e' | p' | q'
    · exact mo.elim
    · exact ⟨Int64.le_trans o3.1 mo.1, Int64.le_trans mo.2 o3.2⟩
    · exact mo.elim
    · exact mo.elim
  · rcases os with f' | e' | p' | q'
    · exact mo.elim
    · exact mo.elim
    · obtain ⟨j', B'⟩ := p'
      obtain ⟨j, B⟩ := p
      obtain ⟨rfl, m⟩ : j' = j ∧ z_le B' B := mo
      exact o3 swt.2.2 B' sws.2.2 m
    · exact mo.elim
  · obtain ⟨⟨j, C⟩, ⟨k, B⟩⟩ := q
    rcases os with f' | e' | p' | q'
    · exact mo.elim
    · exact mo.elim
    · obtain ⟨j', B'⟩ := p'
      have mo' : (j' = j ∧ z_le B' C) ∨ (j' = k ∧ z_le B' B) := mo
      rcases mo' with ⟨rfl, m⟩ | ⟨rfl, m⟩
      · exact o3.1 swt.2.2.2.1 B' sws.2.2 m
      · exact o3.2 swt.2.2.2.2.1 B' sws.2.2 m
    · obtain ⟨⟨j', C'⟩, ⟨k', B'⟩⟩ := q'
      obtain ⟨rfl, m1, rfl, m2⟩ : j' = j ∧ z_le C' C ∧ k' = k ∧ z_le B' B := mo
      exact ⟨o3.1 swt.2.2.2.1 C' sws.2.2.2.1 m1, o3.2 swt.2.2.2.2.1 B' sws.2.2.2.2.1 m2⟩
end GW
/-- the result: a fault and its place, or what was met and the ends -/
abbrev zR : Type := (Int32 × Nat) ⊕ ((Nat → Prop) × Int64 × Int64)
def z_ad (M : Nat → Prop) (i : Nat) : Nat → Prop := fun j => j = i ∨ M j
def z_mn (L lo : Int64) : Int64 := if L ≤ lo then L else lo
def z_mh (H hi : Int64) : Int64 := if hi ≤ H then H else hi
def z_run (P : Nat → zC) (n : Nat) (ρ : zR) : Nat → List (Nat × zA) → (Nat → Prop) → Int64 → Int64 → Prop
  | 0 => fun _ _ _ _ => False
  | k + 1 => fun S M L H => match S with
    | [] => ρ = Sum.inr (M, L, H)
    | p :: W => (n ≤ p.1 ∧ ρ = Sum.inl (1, n)) ∨ (p.1 < n ∧ z_el (fun f => ρ = Sum.inl (f, p.1)) (fun lo hi => z_run P n ρ k W (z_ad M p.1) (z_mn L lo) (z_mh H hi))
        (fun j B => z_run P n ρ k ((j, B) :: W) (z_ad M p.1) L H) (fun j C l B => z_run P n ρ k ((j, C) :: (l, B) :: W) (z_ad M p.1) L H) (z_stp (P p.1) p.1 p.2))
theorem ad_eq {M : Nat → Prop} {i : Nat} (h : M i) : z_ad M i = M := by
  funext j
  exact propext ⟨fun z => z.elim (fun e => e ▸ h) id, Or.inr⟩
theorem gw_run {P : Nat → zC} {n : Nat} {M : Nat → Prop} {L H : Int64} {i : Nat} {s : zA} (h : z_gw P n M L H [] i s) : ∀ (ρ : zR) (W : List (Nat × zA)), (∃ k, z_run P n ρ k W M L H) → ∃ k, z_run P n ρ k ((i, s) :: W) M L H := by
  refine h (fun i s => ∀ (ρ : zR) (W : List (Nat × zA)), (∃ k, z_run P n ρ k W M L H) → ∃ k, z_run P n ρ k ((i, s) :: W) M L H) (fun p hp => by cases hp) ?_
  intro i s o ρ W hW
  obtain ⟨o1, o2, o3⟩ := o
  have eM : z_ad M i = M := ad_eq o2
  suffices hs : ∃ k, z_el (fun f => ρ = Sum.inl (f, i)) (fun lo hi => z_run P n ρ k W (z_ad M i) (z_mn L lo) (z_mh H hi))
        (fun j B => z_run P n ρ k ((j, B) :: W) (z_ad M i) L H) (fun j C l B => z_run P n ρ k ((j, C) :: (l, B) :: W) (z_ad M i) L H) (z_stp (P i) i s) by
    obtain ⟨k, hk⟩ := hs
    exact ⟨k + 1, Or.inr ⟨o1, hk⟩⟩
  rw [eM]
  generalize z_stp (P i) i s = os at o3 ⊢
  rcases os with f | e | p | q
  · exact o3.elim
  · obtain ⟨k, hk⟩ := hW
    refine ⟨k, ?_⟩
    show z_run P n ρ k W M (z_mn L e.1) (z_mh H e.2)
    rw [show z_mn L e.1 = L from if_pos o3.1, show z_mh H e.2 = H from if_pos o3.2]
    exact hk
  · exact o3 ρ W hW
  · exact o3.1 ρ _ (o3.2 ρ _ hW)
/-- a followed state: what is left of its tree lies on top of the stack -/
def z_fk (P : Nat → zC) (n : Nat) (M : Nat → Prop) (L H : Int64) (S : List (Nat × zA)) (i : Nat) (t : zA) : Prop :=
  z_wf i t ∧ ∃ E W, S = E ++ W ∧ (∀ p, p ∈ E → i < p.1) ∧ z_gw P n M L H E i t
theorem fk_step {P : Nat → zC} {n : Nat} {M M' : Nat → Prop} {L H L' H' : Int64} {c i : Nat} {s t : zA} {W E2 : List (Nat × zA)} (h : z_fk P n M L H ((c, s) :: W) i t) (h2 : z_gw P n M' L' H' E2 c s) (hp : ∀ p, p ∈ E2 → c < p.1) (hM : ∀ i, M i → M' i) (hL : L' ≤ L) (hH : H ≤ H') : z_fk P n M' L' H' (E2 ++ W) i t := by
  obtain ⟨hw, E, W', e, hE, hg⟩ := h
  refine ⟨hw, ?_⟩
  cases E with
  | nil => exact ⟨[], E2 ++ W, rfl, fun p hp => (List.not_mem_nil hp).elim, gw_bind hg (fun p hp => (List.not_mem_nil hp).elim) hM hL hH⟩
  | cons a E' =>
    rw [List.cons_append] at e
    injection e with e1 e2
    subst e1
    subst e2
    have hc : i < c := hE (c, s) (List.mem_cons_self ..)
    refine ⟨E2 ++ E', W', (List.append_assoc ..).symm, fun p hq => ?_, gw_bind hg (fun p hq => ?_) hM hL hH⟩
    · rcases List.mem_append.mp hq with q | q
      · have := hp p q; omega
      · exact hE p (List.mem_cons_of_mem _ q)
    · rcases List.mem_cons.mp hq with q | q
      · rw [q]
        exact gw_bind h2 (fun p hp => gw_in (List.mem_append.mpr (Or.inl hp))) (fun _ x => x) (Int64.le_refl _) (Int64.le_refl _)
      · exact gw_in (List.mem_append.mpr (Or.inr q))
theorem fk_prune {P : Nat → zC} {n : Nat} {M : Nat → Prop} {L H : Int64} {c : Nat} {s t : zA} {W : List (Nat × zA)} (h : z_fk P n M L H ((c, s) :: W) c t) : z_gw P n M L H [] c t := by
  obtain ⟨hw, E, W', e, hE, hg⟩ := h
  cases E with
  | nil => exact hg
  | cons a E' =>
    rw [List.cons_append] at e
    injection e with e1 e2
    subst e1
    exact absurd (hE (c, s) (List.mem_cons_self ..)) (Nat.lt_irrefl _)
theorem fk_done {P : Nat → zC} {n : Nat} {M : Nat → Prop} {L H : Int64} {i : Nat} {t : zA} (h : z_fk P n M L H [] i t) : z_gw P n M L H [] i t := by
  obtain ⟨hw, E, W', e, hE, hg⟩ := h
  have : E = [] := (List.append_eq_nil_iff.mp e.symm).1
  rw [this] at hg
  exact hg
/-- conditional jumps ahead of i -/
def z_cj (P : Nat → zC) : Nat → Nat
  | 0 => 0
  | i + 1 => z_cj P i + if 20 < (P i).1 ∧ (P i).1 < 40 then 1 else 0
theorem cj_le (P : Nat → zC) {i : Nat} : ∀ {j : Nat}, i ≤ j → z_cj P i ≤ z_cj P j := by
  intro j h
  induction j with
  | zero => obtain rfl : i = 0 := by omega
            exact Nat.le_refl _
  | succ j ih =>
    by_cases e : i = j + 1
    · rw [e]; exact Nat.le_refl _
    · have := ih (by omega)
      rw [z_cj]; omega
def z_so (P : Nat → zC) : List (Nat × zA) → Prop
  | [] => True
  | p :: W => W.length ≤ z_cj P p.1 ∧ p.1 ≤ 40 ∧ z_wf p.1 p.2 ∧ z_so P W
def z_wt : List (Nat × zA) → Nat
  | [] => 0
  | p :: W => 3 ^ (41 - p.1) + z_wt W
theorem wt_1 {i j : Nat} {A B : zA} {W : List (Nat × zA)} (h : i < j) : z_wt ((j, B) :: W) ≤ z_wt ((i, A) :: W) := by
  show 3 ^ (41 - j) + z_wt W ≤ 3 ^ (41 - i) + z_wt W
  have := Nat.pow_le_pow_right (n := 3) (by decide) (show 41 - j ≤ 41 - i by omega)
  omega
theorem wt_2 {i j k : Nat} {A B C : zA} {W : List (Nat × zA)} (hi : i ≤ 40) (h : i < j) (h2 : i < k) : z_wt ((j, B) :: (k, C) :: W) ≤ z_wt ((i, A) :: W) := by
  show 3 ^ (41 - j) + (3 ^ (41 - k) + z_wt W) ≤ 3 ^ (41 - i) + z_wt W
  have e : 3 ^ (41 - i) = 3 ^ (40 - i) * 3 := by rw [show 41 - i = (40 - i) + 1 by omega, Nat.pow_succ]
  have a1 := Nat.pow_le_pow_right (n := 3) (by decide) (show 41 - j ≤ 40 - i by omega)
  have a2 := Nat.pow_le_pow_right (n := 3) (by decide) (show 41 - k ≤ 40 - i by omega)
  omega
theorem wt_0 {i : Nat} {A : zA} {W : List (Nat × zA)} : z_wt W < z_wt ((i, A) :: W) := by
  show z_wt W < 3 ^ (41 - i) + z_wt W
  have := Nat.pow_pos (n := 41 - i) (show 0 < 3 by decide)
  omega
end
section
/-! rows of the component's tables -/
def z_row (K : Nat → Int32) (L H : Nat → Int64) (b : Nat) : Nat → zV := fun k => if k < 14 then (K (14 * b + k), L (14 * b + k), H (14 * b + k)) else (0, 0, 0)
def z_rA (K : Nat → Int32) (L H : Nat → Int64) (S Q : Nat → Int32) (b : Nat) : zA := (z_row K L H b, S b, Q b)
theorem row_at {K : Nat → Int32} {L H : Nat → Int64} {b k : Nat} (h : k < 14) : z_row K L H b k = (K (14 * b + k), L (14 * b + k), H (14 * b + k)) := if_pos h
theorem row_0 {K : Nat → Int32} {L H : Nat → Int64} {k : Nat} (h : k < 14) : z_row K L H 0 k = (K k, L k, H k) := by
  rw [row_at h, show 14 * 0 + k = k by omega]
theorem row_big {K : Nat → Int32} {L H : Nat → Int64} {b k : Nat} (h : 14 ≤ k) : z_row K L H b k = (0, 0, 0) := if_neg (by omega)
theorem row_ext {K K' : Nat → Int32} {L H L' H' : Nat → Int64} {b b' : Nat} (h : ∀ k, k < 14 → K' (14 * b' + k) = K (14 * b + k) ∧ L' (14 * b' + k) = L (14 * b + k) ∧ H' (14 * b' + k) = H (14 * b + k)) : z_row K' L' H' b' = z_row K L H b := by
  funext k
  by_cases c : k < 14
  · obtain ⟨h1, h2, h3⟩ := h k c
    rw [row_at c, row_at c, h1, h2, h3]
  · rw [row_big (by omega), row_big (by omega)]
theorem row_set {K : Nat → Int32} {L H : Nat → Int64} {b k : Nat} {v : Int32} {l h : Int64} (hk : k < 14) : z_row (upd K (14 * b + k) v) (vp_updL L (14 * b + k) l) (vp_updL H (14 * b + k) h) b = z_set (z_row K L H b) k (v, l, h) := by
  funext j
  show _ = if j = k then (v, l, h) else z_row K L H b j
  by_cases c : j < 14
  · rw [row_at c]
    by_cases e : j = k
    · rw [if_pos e, e, pk_us, pk_uLs, pk_uLs]
    · rw [if_neg e, pk_un (by omega), pk_uLn (by omega), pk_uLn (by omega), row_at c]
  · rw [row_big (by omega), if_neg (by omega), row_big (by omega)]
/-- row 0 becomes f, the others stay -/
def x_r0 (K : Nat → Int32) (L H : Nat → Int64) (K' : Nat → Int32) (L' H' : Nat → Int64) (f : Nat → zV) : Prop := z_row K' L' H' 0 = f ∧ ∀ c, c ≠ 0 → z_row K' L' H' c = z_row K L H c
theorem r0_rf {K : Nat → Int32} {L H : Nat → Int64} : x_r0 K L H K L H (z_row K L H 0) := ⟨rfl, fun _ _ => rfl⟩
theorem r0_set {K : Nat → Int32} {L H : Nat → Int64} {k : Nat} {v : Int32} {l h : Int64} (hk : k < 14) : x_r0 K L H (upd K k v) (vp_updL L k l) (vp_updL H k h) (z_set (z_row K L H 0) k (v, l, h)) := by
  refine ⟨?_, fun c hc => ?_⟩
  · have := row_set (K := K) (L := L) (H := H) (b := 0) (v := v) (l := l) (h := h) hk
    rw [show 14 * 0 + k = k by omega] at this
    exact this
  · exact row_ext fun j hj => by rw [pk_un (by omega), pk_uLn (by omega), pk_uLn (by omega)]; exact ⟨rfl, rfl, rfl⟩
theorem up_id {K : Nat → Int32} {k : Nat} {v : Int32} (h : K k = v) : upd K k v = K := by
  funext j
  by_cases e : j = k
  · rw [e, pk_us, h]
  · rw [pk_un e]
theorem upL_id {K : Nat → Int64} {k : Nat} {v : Int64} (h : K k = v) : vp_updL K k v = K := by
  funext j
  by_cases e : j = k
  · rw [e, pk_uLs, h]
  · rw [pk_uLn e]
theorem r0_L {K : Nat → Int32} {L H : Nat → Int64} {k : Nat} {l : Int64} (hk : k < 14) : x_r0 K L H K (vp_updL L k l) H (z_set (z_row K L H 0) k (K k, l, H k)) := by
  have := r0_set (K := K) (L := L) (H := H) (v := K k) (l := l) (h := H k) hk
  rw [up_id rfl, upL_id rfl] at this
  exact this
theorem r0_H {K : Nat → Int32} {L H : Nat → Int64} {k : Nat} {h : Int64} (hk : k < 14) : x_r0 K L H K L (vp_updL H k h) (z_set (z_row K L H 0) k (K k, L k, h)) := by
  have := r0_set (K := K) (L := L) (H := H) (v := K k) (l := L k) (h := h) hk
  rw [up_id rfl, upL_id rfl] at this
  exact this
theorem r0_tr {K K' K'' : Nat → Int32} {L H L' H' L'' H'' : Nat → Int64} {f g : Nat → zV} (h : x_r0 K L H K' L' H' f) (h2 : x_r0 K' L' H' K'' L'' H'' g) : x_r0 K L H K'' L'' H'' g := ⟨h2.1, fun c hc => (h2.2 c hc).trans (h.2 c hc)⟩
theorem set_id {f : Nat → zV} {k : Nat} {v : zV} (h : f k = v) : z_set f k v = f := by
  funext j
  show (if j = k then v else f j) = f j
  by_cases e : j = k
  · rw [if_pos e, e, h]
  · rw [if_neg e]
theorem set_set {f : Nat → zV} {k : Nat} {v w : zV} : z_set (z_set f k v) k w = z_set f k w := by
  funext j
  show (if j = k then w else if j = k then v else f j) = if j = k then w else f j
  by_cases e : j = k
  · rw [if_pos e, if_pos e]
  · rw [if_neg e, if_neg e, if_neg e]
theorem set_at {f : Nat → zV} {k : Nat} {v : zV} : z_set f k v k = v := if_pos rfl
theorem set_ne {f : Nat → zV} {k j : Nat} {v : zV} (h : j ≠ k) : z_set f k v j = f j := if_neg h
/-- a kind as a byte -/
def z_kb (k : Int32) : Prop := vp_nar .byte k.toInt8.toInt32 = k
theorem kb_nI {k : Nat} (h : k < 128) : z_kb (nI k) := by
  have : ∀ k, k < 128 → (nI k).toInt8.toInt32 = nI k := by decide +kernel
  unfold z_kb
  rw [pk_vb, this k h]
theorem kb_n {k : Int32} (h : z_kb k) : vp_nar .byte k = k := by
  have e : k.toInt8.toInt32 = k := by
    have h' := h
    unfold z_kb at h'
    rw [pk_vb] at h'
    exact h'
  rw [← e, pk_vb]
theorem kb_vw {i : Nat} {q : Int32} {v : zV} (h : z_vw i q v) : z_kb v.1 := by
  rcases vw_k h with e | e | e | e | e | e | e <;> rw [e]
  · exact kb_nI (k := 0) (by decide)
  · exact kb_nI (k := 1) (by decide)
  · exact kb_nI (k := 2) (by decide)
  · exact kb_nI (k := 3) (by decide)
  · exact kb_nI (k := 4) (by decide)
  · exact kb_nI (k := 5) (by decide)
  · exact kb_nI (k := 6) (by decide)
theorem kb_01 : z_kb 0 ∧ z_kb 1 ∧ z_kb 2 ∧ z_kb 3 ∧ z_kb 4 ∧ z_kb 5 ∧ z_kb 6 := ⟨kb_nI (k := 0) (by decide), kb_nI (k := 1) (by decide), kb_nI (k := 2) (by decide), kb_nI (k := 3) (by decide), kb_nI (k := 4) (by decide), kb_nI (k := 5) (by decide), kb_nI (k := 6) (by decide)⟩
end
section
/-! the component: its small methods -/
section XA
variable {xw xfo xol xfa xpl : Int32} {xle xmo xlw xhg : Int64} {xk2 : Int32} {xl2 xh2 : Int64} {xln xst : Int32} {xop xd xs xsz xof xim xth xK : Nat → Int32} {xL xH : Nat → Int64} {xS xQ xF xM xG : Nat → Int32} {xrg xce : Nat → Int64} {xpk xus xky : Nat → Int32} {xsr : Nat → Int64}
theorem x_set {post : SX → Prop} {p k : Int32} {l h : Int64} (c : Nat) (hp : p = nI c) (hc : c < 588) (hk : z_kb k) (hh : post ((xw, xfo, xol, xfa, xpl, xle, xmo, xlw, xhg, xk2, xl2, xh2, xln, xst, xop, xd, xs, xsz, xof, xim, xth, upd xK c k, vp_updL xL c l, vp_updL xH c h, xS, xQ, xF, xM, xG, xrg, xce, xpk, xus, xky, xsr))) : wpX_set post ((xw, xfo, xol, xfa, xpl, xle, xmo, xlw, xhg, xk2, xl2, xh2, xln, xst, xop, xd, xs, xsz, xof, xim, xth, xK, xL, xH, xS, xQ, xF, xM, xG, xrg, xce, xpk, xus, xky, xsr)) p k l h := by
  subst hp
  have v : vp_in (nI c) 588 := vp_in_nI hc (by omega)
  have e : (nI c).toNatClampNeg = c := nI_clamp (by omega)
  exact ⟨v, nm_r (by rw [e, hk]) ⟨v, nm_r (by rw [e]) ⟨v, nm_r (by rw [e]) hh⟩⟩⟩
theorem x_fail {post : SX → Prop} {a b : Int32} (hh : post ((xw, xfo, xol, a, b, xle, xmo, xlw, xhg, xk2, xl2, xh2, xln, xst, xop, xd, xs, xsz, xof, xim, xth, xK, xL, xH, xS, xQ, xF, xM, xG, xrg, xce, xpk, xus, xky, xsr))) : wpX_fail post ((xw, xfo, xol, 0, xpl, xle, xmo, xlw, xhg, xk2, xl2, xh2, xln, xst, xop, xd, xs, xsz, xof, xim, xth, xK, xL, xH, xS, xQ, xF, xM, xG, xrg, xce, xpk, xus, xky, xsr)) a b := br_t rfl hh
theorem x_failN {post : SX → Prop} {a b : Int32} (h : ¬ xfa = 0) (hh : post ((xw, xfo, xol, xfa, xpl, xle, xmo, xlw, xhg, xk2, xl2, xh2, xln, xst, xop, xd, xs, xsz, xof, xim, xth, xK, xL, xH, xS, xQ, xF, xM, xG, xrg, xce, xpk, xus, xky, xsr))) : wpX_fail post ((xw, xfo, xol, xfa, xpl, xle, xmo, xlw, xhg, xk2, xl2, xh2, xln, xst, xop, xd, xs, xsz, xof, xim, xth, xK, xL, xH, xS, xQ, xF, xM, xG, xrg, xce, xpk, xus, xky, xsr)) a b := br_f h hh
theorem x_known {post : Int32 → SX → Prop} {d : Nat} {p : Int32} (hd : d < 14) (h0 : xK d = 0 → post 0 ((xw, xfo, xol, 2, p, xle, xmo, xlw, xhg, xk2, xl2, xh2, xln, xst, xop, xd, xs, xsz, xof, xim, xth, xK, xL, xH, xS, xQ, xF, xM, xG, xrg, xce, xpk, xus, xky, xsr))) (h1 : ¬ xK d = 0 → post 1 ((xw, xfo, xol, 0, xpl, xle, xmo, xlw, xhg, xk2, xl2, xh2, xln, xst, xop, xd, xs, xsz, xof, xim, xth, xK, xL, xH, xS, xQ, xF, xM, xG, xrg, xce, xpk, xus, xky, xsr))) : wpX_known post ((xw, xfo, xol, 0, xpl, xle, xmo, xlw, xhg, xk2, xl2, xh2, xln, xst, xop, xd, xs, xsz, xof, xim, xth, xK, xL, xH, xS, xQ, xF, xM, xG, xrg, xce, xpk, xus, xky, xsr)) (nI d) p := by
  have v : vp_in (nI d) 588 := vp_in_nI (by omega) (by omega)
  have e : (nI d).toNatClampNeg = d := nI_clamp (by omega)
  by_cases z : xK d = 0
  · exact ⟨v, br_t (by rw [e]; exact z) (br_t rfl ⟨v, br_t (by rw [e]; exact z) (h0 z)⟩)⟩
  · exact ⟨v, br_f (by rw [e]; exact z) ⟨v, br_f (by rw [e]; exact z) (h1 z)⟩⟩
theorem x_use {post : Int32 → SX → Prop} {s : Nat} {p : Int32} (w : zV) (hw : z_src s (z_row xK xL xH 0) = w) (hs : s ≤ 8) (h0 : w.1 = 0 → post 0 ((xw, xfo, xol, 2, p, xle, xmo, xlw, xhg, w.1, w.2.1, w.2.2, xln, xst, xop, xd, xs, xsz, xof, xim, xth, xK, xL, xH, xS, xQ, xF, xM, xG, xrg, xce, xpk, xus, xky, xsr))) (h1 : ¬ w.1 = 0 → post 1 ((xw, xfo, xol, 0, xpl, xle, xmo, xlw, xhg, w.1, w.2.1, w.2.2, xln, xst, xop, xd, xs, xsz, xof, xim, xth, xK, xL, xH, xS, xQ, xF, xM, xG, xrg, xce, xpk, xus, xky, xsr))) : wpX_use post ((xw, xfo, xol, 0, xpl, xle, xmo, xlw, xhg, xk2, xl2, xh2, xln, xst, xop, xd, xs, xsz, xof, xim, xth, xK, xL, xH, xS, xQ, xF, xM, xG, xrg, xce, xpk, xus, xky, xsr)) (nI s) p := by
  have v : vp_in (nI s) 588 := vp_in_nI (by omega) (by omega)
  have e : (nI s).toNatClampNeg = s := nI_clamp (by omega)
  by_cases c : s = 8
  · have c8 : nI s = 8 := by rw [c]; rfl
    have ew : w = (4, 0, 0) := by rw [← hw]; exact if_pos c
    subst ew
    exact br_t c8 (br_t c8 (br_t c8 (br_f (by decide) (br_f (by decide) (h1 (by decide))))))
  · have c8 : ¬ nI s = 8 := fun z => c ((nI_eq (b := 8) (by omega) (by omega)).mp z)
    have ew : w = (xK (nI s).toNatClampNeg, xL (nI s).toNatClampNeg, xH (nI s).toNatClampNeg) := by rw [← hw, e, ← row_0 (by omega)]; exact if_neg c
    subst ew
    by_cases z : xK (nI s).toNatClampNeg = 0
    · exact br_f c8 ⟨v, br_f c8 ⟨v, br_f c8 ⟨v, br_t z (br_t rfl (br_t z (h0 z)))⟩⟩⟩
    · exact br_f c8 ⟨v, br_f c8 ⟨v, br_f c8 ⟨v, br_f z (br_f z (h1 z))⟩⟩⟩
theorem x_opp {post : Int32 → Prop} {t : Nat} (ht : 1 ≤ t ∧ t ≤ 4) (hh : post (nI (z_opp t))) : wpX_opposite post (nI t) := by
  have h4 : t = 1 ∨ t = 2 ∨ t = 3 ∨ t = 4 := by omega
  rcases h4 with rfl | rfl | rfl | rfl
  · exact br_f (by decide) hh
  · exact br_f (by decide) hh
  · exact br_t (by decide) hh
  · exact br_t (by decide) hh
theorem x_pos {post : Int32 → Prop} {d t : Nat} (v w : zV) (hv : (xK d, xL d, xH d) = v) (hw : (xk2, xl2, xh2) = w) (hd : d < 14) (ht : 1 ≤ t ∧ t ≤ 4) (h1 : z_pos t v w = true → post 1) (h0 : ¬ z_pos t v w = true → post 0) : wpX_possible post ((xw, xfo, xol, xfa, xpl, xle, xmo, xlw, xhg, xk2, xl2, xh2, xln, xst, xop, xd, xs, xsz, xof, xim, xth, xK, xL, xH, xS, xQ, xF, xM, xG, xrg, xce, xpk, xus, xky, xsr)) (nI d) (nI t) := by
  subst hv
  subst hw
  have vi : vp_in (nI d) 588 := vp_in_nI (by omega) (by omega)
  have e : (nI d).toNatClampNeg = d := nI_clamp (by omega)
  have h4 : t = 1 ∨ t = 2 ∨ t = 3 ∨ t = 4 := by omega
  rcases h4 with rfl | rfl | rfl | rfl
  · have H1 : (¬ xh2 < xL d ∧ ¬ xH d < xl2) → post 1 := fun z => h1 (decide_eq_true z)
    have H0 : ¬ (¬ xh2 < xL d ∧ ¬ xH d < xl2) → post 0 := fun z => h0 (fun y => z (of_decide_eq_true y))
    rw [← e] at H1 H0
    exact br_f (by decide) (br_f (by decide) (br_t rfl ⟨vi, br_c (fun z => H0 (fun y => y.1 z)) (fun z => ⟨vi, br_c (fun z' => H0 (fun y => y.2 z')) (fun z' => H1 ⟨z, z'⟩)⟩)⟩))
  · have H1 : (xL d < xH d ∨ xl2 < xh2 ∨ ¬ xL d = xl2) → post 1 := fun z => h1 (decide_eq_true z)
    have H0 : ¬ (xL d < xH d ∨ xl2 < xh2 ∨ ¬ xL d = xl2) → post 0 := fun z => h0 (fun y => z (of_decide_eq_true y))
    rw [← e] at H1 H0
    exact br_f (by decide) (br_f (by decide) (br_f (by decide) (br_t rfl ⟨vi, vi, br_c (fun z => H1 (Or.inl z)) (fun z => br_c (fun z' => H1 (Or.inr (Or.inl z'))) (fun z' => ⟨vi, br_c (fun y => H0 (fun q => by rcases q with q | q | q; exact z q; exact z' q; exact q y)) (fun y => H1 (Or.inr (Or.inr y)))⟩))⟩)))
  · have H1 : (¬ xh2 ≤ xL d) → post 1 := fun z => h1 (decide_eq_true z)
    have H0 : ¬ (¬ xh2 ≤ xL d) → post 0 := fun z => h0 (fun y => z (of_decide_eq_true y))
    rw [← e] at H1 H0
    exact br_f (by decide) (br_f (by decide) (br_f (by decide) (br_f (by decide) (br_t rfl ⟨vi, br_c (fun z => H0 (fun y => y z)) H1⟩))))
  · have H1 : (¬ xH d < xl2) → post 1 := fun z => h1 (decide_eq_true z)
    have H0 : ¬ (¬ xH d < xl2) → post 0 := fun z => h0 (fun y => z (of_decide_eq_true y))
    rw [← e] at H1 H0
    exact br_f (by decide) (br_t (by decide) ⟨vi, br_c (fun z => H0 (fun y => y z)) H1⟩)
theorem x_cut {post : SX → Prop} {d t : Nat} (v w : zV) (hv : (xK d, xL d, xH d) = v) (hw : (xk2, xl2, xh2) = w) (h1 : v.1 = 1) (hd : d < 14) (ht : 1 ≤ t ∧ t ≤ 4) (hh : ∀ K L H, x_r0 xK xL xH K L H (z_set (z_row xK xL xH 0) d (z_cut t v w)) → post ((xw, xfo, xol, xfa, xpl, xle, xmo, xlw, xhg, xk2, xl2, xh2, xln, xst, xop, xd, xs, xsz, xof, xim, xth, K, L, H, xS, xQ, xF, xM, xG, xrg, xce, xpk, xus, xky, xsr))) : wpX_cut post ((xw, xfo, xol, xfa, xpl, xle, xmo, xlw, xhg, xk2, xl2, xh2, xln, xst, xop, xd, xs, xsz, xof, xim, xth, xK, xL, xH, xS, xQ, xF, xM, xG, xrg, xce, xpk, xus, xky, xsr)) (nI d) (nI t) := by
  subst hv
  subst hw
  have h1' : xK d = 1 := h1
  have vi : vp_in (nI d) 588 := vp_in_nI (by omega) (by omega)
  have e : (nI d).toNatClampNeg = d := nI_clamp (by omega)
  have e0 : z_set (z_row xK xL xH 0) d (xK d, xL d, xH d) = z_row xK xL xH 0 := set_id (row_0 (by omega))
  have same : z_cut t (xK d, xL d, xH d) (xk2, xl2, xh2) = (xK d, xL d, xH d) → post ((xw, xfo, xol, xfa, xpl, xle, xmo, xlw, xhg, xk2, xl2, xh2, xln, xst, xop, xd, xs, xsz, xof, xim, xth, xK, xL, xH, xS, xQ, xF, xM, xG, xrg, xce, xpk, xus, xky, xsr)) := fun z => hh xK xL xH (by rw [z, e0]; exact r0_rf)
  have onL : ∀ l, z_cut t (xK d, xL d, xH d) (xk2, xl2, xh2) = (1, l, xH d) → post ((xw, xfo, xol, xfa, xpl, xle, xmo, xlw, xhg, xk2, xl2, xh2, xln, xst, xop, xd, xs, xsz, xof, xim, xth, xK, vp_updL xL d l, xH, xS, xQ, xF, xM, xG, xrg, xce, xpk, xus, xky, xsr)) := fun l z => hh xK _ xH (by rw [z, ← h1']; exact r0_L hd)
  have onH : ∀ h, z_cut t (xK d, xL d, xH d) (xk2, xl2, xh2) = (1, xL d, h) → post ((xw, xfo, xol, xfa, xpl, xle, xmo, xlw, xhg, xk2, xl2, xh2, xln, xst, xop, xd, xs, xsz, xof, xim, xth, xK, xL, vp_updL xH d h, xS, xQ, xF, xM, xG, xrg, xce, xpk, xus, xky, xsr)) := fun l z => hh xK xL _ (by rw [z, ← h1']; exact r0_H hd)
  by_cases c : xl2 = xh2
  · have ec : z_cut t (xK d, xL d, xH d) (xk2, xl2, xh2) = (if t = 1 then (1, xl2, xl2)
      else if t = 2 then (if xL d = xl2 then (1, xL d + 1, xH d) else if xH d = xl2 then (1, xL d, xH d - 1) else (xK d, xL d, xH d))
      else if t = 3 then (if xl2 ≤ xH d then (1, xL d, xl2 - 1) else (xK d, xL d, xH d))
      else (if xL d ≤ xl2 then (1, xl2, xH d) else (xK d, xL d, xH d))) := if_neg (fun z => z c)
    rw [ec] at same onL onH hh
    have h4 : t = 1 ∨ t = 2 ∨ t = 3 ∨ t = 4 := by omega
    rcases h4 with rfl | rfl | rfl | rfl
    · exact br_t c (br_t rfl (x_set d rfl (by omega) kb_01.2.1 (hh _ _ _ (r0_set hd))))
    · have onL' := onL (xL d + 1)
      have onH' := onH (xH d - 1)
      rw [if_neg (by decide), if_pos rfl] at same onL' onH'
      refine br_t c (br_f (by decide) (br_t rfl ⟨vi, ?_⟩))
      rw [e]
      refine br_c (fun z => ⟨vi, vi, nm_e (onL' (if_pos z))⟩) (fun z => ⟨vi, br_c (fun y => ⟨vi, vi, nm_e (onH' ?_)⟩) (fun y => same ?_)⟩)
      · rw [if_neg z, if_pos y]
      · rw [if_neg z, if_neg y]
    · have onH' := onH (xl2 - 1)
      rw [if_neg (by decide), if_neg (by decide), if_pos rfl] at same onH'
      refine br_t c (br_f (by decide) (br_f (by decide) (br_t rfl ⟨vi, ?_⟩)))
      rw [e]
      refine br_c (fun z => ⟨vi, nm_e (onH' (if_pos z))⟩) (fun z => ⟨vi, vi, nm_r (upL_id rfl) (same (if_neg z))⟩)
    · have onL' := onL xl2
      rw [if_neg (by decide), if_neg (by decide), if_neg (by decide)] at same onL'
      refine br_t c (br_f (by decide) (br_f (by decide) (br_f (by decide) ⟨vi, ?_⟩)))
      rw [e]
      refine br_c (fun z => ⟨vi, nm_e (onL' (if_pos z))⟩) (fun z => ⟨vi, vi, nm_r (upL_id rfl) (same (if_neg z))⟩)
  · exact br_f c (same (if_pos c))
end XA
end
section
/-! the component: copies, the search for a state that was followed -/
def x_cp (K0 : Nat → Int32) (L0 H0 : Nat → Int64) (K : Nat → Int32) (L H : Nat → Int64) (a b j : Nat) : Prop :=
  (∀ k, k < j → K (14 * b + k) = K0 (14 * a + k) ∧ L (14 * b + k) = L0 (14 * a + k) ∧ H (14 * b + k) = H0 (14 * a + k)) ∧ ∀ q, (q < 14 * b ∨ 14 * b + j ≤ q) → K q = K0 q ∧ L q = L0 q ∧ H q = H0 q
theorem ix14 (b j : Nat) : (14 : Int32) * nI b + nI j = nI (14 * b + j) := by rw [show (14 : Int32) = nI 14 from rfl, pk_mul, nI_add]
theorem kb_row {i a : Nat} {K : Nat → Int32} {L H : Nat → Int64} {S Q : Nat → Int32} (h : z_wf i (z_rA K L H S Q a)) : ∀ k, k < 14 → z_kb (K (14 * a + k)) := by
  intro k hk
  have e := h.1 k
  rw [show (z_rA K L H S Q a).1 k = z_row K L H a k from rfl, row_at hk] at e
  exact kb_vw (v := (K (14 * a + k), L (14 * a + k), H (14 * a + k))) e
theorem rA_ne {K K' : Nat → Int32} {L H L' H' : Nat → Int64} {S Q S' Q' : Nat → Int32} {c : Nat} (h : z_row K' L' H' c = z_row K L H c) (hs : S' c = S c) (hq : Q' c = Q c) : z_rA K' L' H' S' Q' c = z_rA K L H S Q c := by
  unfold z_rA
  rw [h, hs, hq]
section XB
variable {xw xfo xol xfa xpl : Int32} {xle xmo xlw xhg : Int64} {xk2 : Int32} {xl2 xh2 : Int64} {xln xst : Int32} {xop xd xs xsz xof xim xth xK : Nat → Int32} {xL xH : Nat → Int64} {xS xQ xF xM xG : Nat → Int32} {xrg xce : Nat → Int64} {xpk xus xky : Nat → Int32} {xsr : Nat → Int64}
theorem x_copyL {post : SX → Prop} {a b : Nat} {K0 : Nat → Int32} {L0 H0 : Nat → Int64} (ha : a < 42) (hb : b < 42) (hab : a ≠ b) (hk : ∀ k, k < 14 → z_kb (K0 (14 * a + k))) (hh : ∀ K L H, x_cp K0 L0 H0 K L H a b 14 → post ((xw, xfo, xol, xfa, xpl, xle, xmo, xlw, xhg, xk2, xl2, xh2, xln, xst, xop, xd, xs, xsz, xof, xim, xth, K, L, H, upd xS b (xS a), upd xQ b (xQ a), xF, xM, xG, xrg, xce, xpk, xus, xky, xsr))) :
    ∀ (m j : Nat) (K : Nat → Int32) (L H : Nat → Int64), j + m = 14 → x_cp K0 L0 H0 K L H a b j → ∀ n, m < n → wX_copyState_2 post (nI a) (nI b) n (nI j) xw xfo xol xfa xpl xle xmo xlw xhg xk2 xl2 xh2 xln xst xop xd xs xsz xof xim xth K L H xS xQ xF xM xG xrg xce xpk xus xky xsr := by
  have va : vp_in (nI a) 42 := vp_in_nI ha (by omega)
  have vb : vp_in (nI b) 42 := vp_in_nI hb (by omega)
  have ea : (nI a).toNatClampNeg = a := nI_clamp (by omega)
  have eb : (nI b).toNatClampNeg = b := nI_clamp (by omega)
  intro m
  induction m with
  | zero =>
    intro j K L H hj hc n hn
    obtain ⟨n, rfl⟩ : ∃ n', n = n' + 1 := ⟨n - 1, by omega⟩
    obtain rfl : j = 14 := by omega
    rw [wX_copyState_2]
    exact br_t (nI_le (a := 14) (b := 14) (by omega) (by omega)) ⟨va, vb, nm_r (by rw [ea, eb]) ⟨va, vb, nm_r (by rw [ea, eb]) (hh K L H hc)⟩⟩
  | succ m ih =>
    intro j K L H hj hc n hn
    obtain ⟨n, rfl⟩ : ∃ n', n = n' + 1 := ⟨n - 1, by omega⟩
    rw [wX_copyState_2]
    have vi : vp_in (14 * nI a + nI j) 588 := by rw [ix14]; exact vp_in_nI (by omega) (by omega)
    have ei : (14 * nI a + nI j).toNatClampNeg = 14 * a + j := by rw [ix14]; exact nI_clamp (by omega)
    have hs : K (14 * a + j) = K0 (14 * a + j) ∧ L (14 * a + j) = L0 (14 * a + j) ∧ H (14 * a + j) = H0 (14 * a + j) := hc.2 _ (by omega)
    refine br_f (nI_ge (b := 14) (by omega) (by omega)) ⟨vi, vi, vi, ?_⟩
    rw [ei, hs.1, hs.2.1, hs.2.2]
    refine x_set (14 * b + j) (ix14 b j) (by omega) (hk j (by omega)) (nm_r (nI_1 j) (ih (j + 1) _ _ _ (by omega) ⟨fun k hk => ?_, fun q hq => ?_⟩ n (by omega)))
    · by_cases e : k = j
      · rw [e, pk_us, pk_uLs, pk_uLs]; exact ⟨rfl, rfl, rfl⟩
      · rw [pk_un (by omega), pk_uLn (by omega), pk_uLn (by omega)]; exact hc.1 k (by omega)
    · rw [pk_un (by omega), pk_uLn (by omega), pk_uLn (by omega)]; exact hc.2 q (by omega)
theorem x_copy {post : SX → Prop} {p q : Int32} (a b : Nat) (hp : p = nI a) (hq : q = nI b) (ha : a < 42) (hb : b < 42) (hab : a ≠ b) (hk : ∀ k, k < 14 → z_kb (xK (14 * a + k))) (hh : ∀ K L H S Q, z_rA K L H S Q b = z_rA xK xL xH xS xQ a → (∀ c, c ≠ b → z_rA K L H S Q c = z_rA xK xL xH xS xQ c) → post ((xw, xfo, xol, xfa, xpl, xle, xmo, xlw, xhg, xk2, xl2, xh2, xln, xst, xop, xd, xs, xsz, xof, xim, xth, K, L, H, S, Q, xF, xM, xG, xrg, xce, xpk, xus, xky, xsr))) : wpX_copyState post ((xw, xfo, xol, xfa, xpl, xle, xmo, xlw, xhg, xk2, xl2, xh2, xln, xst, xop, xd, xs, xsz, xof, xim, xth, xK, xL, xH, xS, xQ, xF, xM, xG, xrg, xce, xpk, xus, xky, xsr)) p q := by
  subst hp
  subst hq
  refine ⟨15, x_copyL (K0 := xK) (L0 := xL) (H0 := xH) ha hb hab hk (fun K L H hc => hh K L H _ _ ?_ (fun c hcb => ?_)) 14 0 xK xL xH (by omega) ⟨fun k hk => by omega, fun q _ => ⟨rfl, rfl, rfl⟩⟩ 15 (by omega)⟩
  · unfold z_rA
    rw [pk_us, pk_us, row_ext (b := a) (b' := b) hc.1]
  · exact rA_ne (row_ext (fun k hk => hc.2 _ (by omega))) (pk_un hcb) (pk_un hcb)
theorem x_put {post : SX → Prop} {w k : Nat} {p : Int32} (hw : w < 11) (hp : p = nI k) (hk40 : k ≤ 40) (hk : ∀ k, k < 14 → z_kb (xK (14 * 0 + k))) (hh : ∀ K L H S Q F, z_rA K L H S Q (w + 1) = z_rA xK xL xH xS xQ 0 → (∀ c, c ≠ w + 1 → z_rA K L H S Q c = z_rA xK xL xH xS xQ c) → F (w + 1) = nI k → (∀ c, c ≠ w + 1 → F c = xF c) → post ((nI (w + 1), xfo, xol, xfa, xpl, xle, xmo, xlw, xhg, xk2, xl2, xh2, xln, xst, xop, xd, xs, xsz, xof, xim, xth, K, L, H, S, Q, F, xM, xG, xrg, xce, xpk, xus, xky, xsr))) : wpX_put post ((nI w, xfo, xol, xfa, xpl, xle, xmo, xlw, xhg, xk2, xl2, xh2, xln, xst, xop, xd, xs, xsz, xof, xim, xth, xK, xL, xH, xS, xQ, xF, xM, xG, xrg, xce, xpk, xus, xky, xsr)) p := by
  have e1 : (1 : Int32) + nI w = nI (w + 1) := by rw [show (1 : Int32) = nI 1 from rfl, nI_add, Nat.add_comm]
  have v : vp_in (1 + nI w) 42 := by rw [e1]; exact vp_in_nI (by omega) (by omega)
  have e2 : (1 + nI w).toNatClampNeg = w + 1 := by rw [e1]; exact nI_clamp (by omega)
  refine x_copy 0 (w + 1) rfl e1 (by omega) (by omega) (by omega) hk (fun K L H S Q h1 h2 => ⟨v, nm_e (nm_r (nI_1 w) (hh K L H S Q _ h1 h2 ?_ ?_))⟩)
  · rw [e2, pk_us, hp]; exact kb_nI (by omega)
  · intro c hc; rw [e2, pk_un hc]
theorem x_withinL {post : Int32 → Prop} {r : Nat} (hr : r < 42) (h1 : (∀ k, k < 14 → z_vle (xK k, xL k, xH k) (xK (14 * r + k), xL (14 * r + k), xH (14 * r + k))) → post 1) (h0 : post 0) :
    ∀ (m j : Nat), j + m = 14 → (∀ k, k < j → z_vle (xK k, xL k, xH k) (xK (14 * r + k), xL (14 * r + k), xH (14 * r + k))) → ∀ n, m < n → wX_within_34 post (nI r) xw xfo xol xfa xpl xle xmo xlw xhg xk2 xl2 xh2 xln xst xop xd xs xsz xof xim xth xK xL xH xS xQ xF xM xG xrg xce xpk xus xky xsr n (nI j) := by
  intro m
  induction m with
  | zero =>
    intro j hj hc n hn
    obtain ⟨n, rfl⟩ : ∃ n', n = n' + 1 := ⟨n - 1, by omega⟩
    obtain rfl : j = 14 := by omega
    rw [wX_within_34]
    exact br_t (nI_le (a := 14) (b := 14) (by omega) (by omega)) (h1 hc)
  | succ m ih =>
    intro j hj hc n hn
    obtain ⟨n, rfl⟩ : ∃ n', n = n' + 1 := ⟨n - 1, by omega⟩
    rw [wX_within_34]
    have vi : vp_in (nI (14 * r + j)) 588 := vp_in_nI (by omega) (by omega)
    have ei : (nI (14 * r + j)).toNatClampNeg = 14 * r + j := nI_clamp (by omega)
    have vj : vp_in (nI j) 588 := vp_in_nI (by omega) (by omega)
    have ej : (nI j).toNatClampNeg = j := nI_clamp (by omega)
    have go : z_vle (xK j, xL j, xH j) (xK (14 * r + j), xL (14 * r + j), xH (14 * r + j)) → wX_within_34 post (nI r) xw xfo xol xfa xpl xle xmo xlw xhg xk2 xl2 xh2 xln xst xop xd xs xsz xof xim xth xK xL xH xS xQ xF xM xG xrg xce xpk xus xky xsr n (nI (j + 1)) := fun z => ih (j + 1) (by omega) (fun k hk => by
      by_cases e : k = j
      · rw [e]; exact z
      · exact hc k (by omega)) n (by omega)
    refine br_f (nI_ge (b := 14) (by omega) (by omega)) (nm_r (ix14 r j) ⟨vi, ?_⟩)
    rw [ei, ej]
    refine br_c (fun z => nm_r (nI_1 j) (go (Or.inl z))) (fun z => ⟨vi, vj, br_c (fun z1 => ⟨vj, vi, br_c (fun _ => h0) (fun z2 => ⟨vj, vi, br_c (fun z3 => nm_r (nI_1 j) (go (Or.inr ⟨z1, Int64.not_lt.mp z2, z3⟩))) (fun _ => h0)⟩)⟩) (fun _ => h0)⟩)
theorem x_within {post : Int32 → Prop} {r : Nat} (hr : r < 42) (h1 : z_le (z_rA xK xL xH xS xQ 0) (z_rA xK xL xH xS xQ r) → post 1) (h0 : post 0) : wpX_within post ((xw, xfo, xol, xfa, xpl, xle, xmo, xlw, xhg, xk2, xl2, xh2, xln, xst, xop, xd, xs, xsz, xof, xim, xth, xK, xL, xH, xS, xQ, xF, xM, xG, xrg, xce, xpk, xus, xky, xsr)) (nI r) := by
  have v : vp_in (nI r) 42 := vp_in_nI (by omega) (by omega)
  have e : (nI r).toNatClampNeg = r := nI_clamp (by omega)
  refine ⟨v, ?_⟩
  rw [e]
  refine br_c (fun _ => h0) (fun z => ⟨v, br_c (fun z1 => ⟨15, x_withinL hr (fun hk => h1 ⟨Int32.not_lt.mp z, z1, fun k => ?_⟩) h0 14 0 (by omega) (fun k hk => by omega) 15 (by omega)⟩) (fun _ => h0)⟩)
  show z_vle (z_row xK xL xH 0 k) (z_row xK xL xH r k)
  by_cases c : k < 14
  · rw [row_0 c, row_at c]; exact hk k c
  · rw [row_big (b := r) (by omega)]; exact Or.inl rfl
theorem x_seen88 {post : Int32 → SX → Prop} {i r : Nat} {p : Int32} (hp : p = nI (12 + r)) (hi : i < 40) (hr : r < 30) (hk : ∀ k, k < 14 → z_kb (xK (14 * 0 + k))) (hh : ∀ K L H S Q F, z_rA K L H S Q (12 + r) = z_rA xK xL xH xS xQ 0 → F (12 + r) = nI i → (∀ c, c ≠ 12 + r → z_rA K L H S Q c = z_rA xK xL xH xS xQ c ∧ F c = xF c) → post 0 ((xw, xfo, xol, xfa, xpl, xle, xmo, xlw, xhg, xk2, xl2, xh2, xln, xst, xop, xd, xs, xsz, xof, xim, xth, K, L, H, S, Q, F, xM, xG, xrg, xce, xpk, xus, xky, xsr))) : wX_seenBefore_88 post (nI i) p xw xfo xol xfa xpl xle xmo xlw xhg xk2 xl2 xh2 xln xst xop xd xs xsz xof xim xth xK xL xH xS xQ xF xM xG xrg xce xpk xus xky xsr := by
  subst hp
  have v : vp_in (nI (12 + r)) 42 := vp_in_nI (by omega) (by omega)
  have e : (nI (12 + r)).toNatClampNeg = 12 + r := nI_clamp (by omega)
  refine x_copy 0 (12 + r) rfl rfl (by omega) (by omega) (by omega) hk (fun K L H S Q h1 h2 => ⟨v, nm_e (hh K L H S Q _ h1 ?_ (fun c hc => ⟨h2 c hc, ?_⟩))⟩)
  · rw [e, pk_us]; exact kb_nI (by omega)
  · rw [e, pk_un hc]
theorem x_seenL {post : Int32 → SX → Prop} {i m o : Nat} (hi : i < 40) (hm : m ≤ 30) (ho : o < 30) (hk : ∀ k, k < 14 → z_kb (xK (14 * 0 + k)))
    (h1 : ∀ r, r < m → xF (12 + r) = nI i → z_le (z_rA xK xL xH xS xQ 0) (z_rA xK xL xH xS xQ (12 + r)) → post 1 ((xw, nI m, nI o, xfa, xpl, xle, xmo, xlw, xhg, xk2, xl2, xh2, xln, xst, xop, xd, xs, xsz, xof, xim, xth, xK, xL, xH, xS, xQ, xF, xM, xG, xrg, xce, xpk, xus, xky, xsr)))
    (h0 : ∀ (K : Nat → Int32) (L H : Nat → Int64) (S Q F : Nat → Int32) (m' o' r : Nat), m' ≤ 30 → o' < 30 → r < m' → (∀ r', r' < m' → r' = r ∨ r' < m) → z_rA K L H S Q (12 + r) = z_rA xK xL xH xS xQ 0 → F (12 + r) = nI i → (∀ c, c ≠ 12 + r → z_rA K L H S Q c = z_rA xK xL xH xS xQ c ∧ F c = xF c) → post 0 ((xw, nI m', nI o', xfa, xpl, xle, xmo, xlw, xhg, xk2, xl2, xh2, xln, xst, xop, xd, xs, xsz, xof, xim, xth, K, L, H, S, Q, F, xM, xG, xrg, xce, xpk, xus, xky, xsr))) :
    ∀ (d j : Nat), j + d = m → ∀ n, d < n → wX_seenBefore_3 post (nI i) xw (nI m) (nI o) xfa xpl xle xmo xlw xhg xk2 xl2 xh2 xln xst xop xd xs xsz xof xim xth xK xL xH xS xQ xF xM xG xrg xce xpk xus xky xsr n (nI (12 + j)) := by
  have e12 : (12 : Int32) + nI m = nI (12 + m) := by rw [show (12 : Int32) = nI 12 from rfl, nI_add]
  intro d
  induction d with
  | zero =>
    intro j hj n hn
    obtain ⟨n, rfl⟩ : ∃ n', n = n' + 1 := ⟨n - 1, by omega⟩
    obtain rfl : j = m := by omega
    rw [wX_seenBefore_3]
    refine br_t (by rw [e12]; exact nI_le (Nat.le_refl _) (by omega)) (nm_r e12 ?_)
    by_cases c : j = 30
    · refine br_t (by rw [c]; exact nI_le (a := 42) (b := 42) (by omega) (by omega)) (nm_r (by rw [show (12 : Int32) = nI 12 from rfl, nI_add]) ⟨by decide, nm_r (e' := nI ((o + 1) % 30)) (by rw [nI_1]; exact pk_rem (d := 30) (by omega) (by omega) (by omega)) ?_⟩)
      exact x_seen88 rfl hi ho hk (fun K L H S Q F a1 a2 a3 => h0 K L H S Q F j _ o (by omega) (Nat.mod_lt _ (by omega)) (by omega) (fun r' hr' => Or.inr hr') a1 a2 a3)
    · refine br_f (nI_ge (b := 42) (by omega) (by omega)) (nm_r (nI_1 j) ?_)
      exact x_seen88 rfl hi (by omega) hk (fun K L H S Q F a1 a2 a3 => h0 K L H S Q F (j + 1) o j (by omega) ho (by omega) (fun r' hr' => by omega) a1 a2 a3)
  | succ d ih =>
    intro j hj n hn
    obtain ⟨n, rfl⟩ : ∃ n', n = n' + 1 := ⟨n - 1, by omega⟩
    rw [wX_seenBefore_3]
    have v : vp_in (nI (12 + j)) 42 := vp_in_nI (by omega) (by omega)
    have e : (nI (12 + j)).toNatClampNeg = 12 + j := nI_clamp (by omega)
    have next : wX_seenBefore_3 post (nI i) xw (nI m) (nI o) xfa xpl xle xmo xlw xhg xk2 xl2 xh2 xln xst xop xd xs xsz xof xim xth xK xL xH xS xQ xF xM xG xrg xce xpk xus xky xsr n (nI (12 + j + 1)) := ih (j + 1) (by omega) n (by omega)
    refine br_f (by rw [e12]; exact nI_ge (by omega) (by omega)) ⟨v, ?_⟩
    rw [e]
    refine br_c (fun z => x_within (by omega) (fun l => br_f (by decide) (h1 j (by omega) z l)) (br_t rfl (nm_r (nI_1 _) next))) (fun z => nm_r (nI_1 _) next)
theorem x_seen {post : Int32 → SX → Prop} {i m o : Nat} (hi : i < 40) (hm : m ≤ 30) (ho : o < 30) (hk : ∀ k, k < 14 → z_kb (xK (14 * 0 + k)))
    (h1 : ∀ r, r < m → xF (12 + r) = nI i → z_le (z_rA xK xL xH xS xQ 0) (z_rA xK xL xH xS xQ (12 + r)) → post 1 ((xw, nI m, nI o, xfa, xpl, xle, xmo, xlw, xhg, xk2, xl2, xh2, xln, xst, xop, xd, xs, xsz, xof, xim, xth, xK, xL, xH, xS, xQ, xF, xM, xG, xrg, xce, xpk, xus, xky, xsr)))
    (h0 : ∀ (K : Nat → Int32) (L H : Nat → Int64) (S Q F : Nat → Int32) (m' o' r : Nat), m' ≤ 30 → o' < 30 → r < m' → (∀ r', r' < m' → r' = r ∨ r' < m) → z_rA K L H S Q (12 + r) = z_rA xK xL xH xS xQ 0 → F (12 + r) = nI i → (∀ c, c ≠ 12 + r → z_rA K L H S Q c = z_rA xK xL xH xS xQ c ∧ F c = xF c) → post 0 ((xw, nI m', nI o', xfa, xpl, xle, xmo, xlw, xhg, xk2, xl2, xh2, xln, xst, xop, xd, xs, xsz, xof, xim, xth, K, L, H, S, Q, F, xM, xG, xrg, xce, xpk, xus, xky, xsr))) :
    wpX_seenBefore post ((xw, nI m, nI o, xfa, xpl, xle, xmo, xlw, xhg, xk2, xl2, xh2, xln, xst, xop, xd, xs, xsz, xof, xim, xth, xK, xL, xH, xS, xQ, xF, xM, xG, xrg, xce, xpk, xus, xky, xsr)) (nI i) := ⟨31, x_seenL hi hm ho hk h1 h0 m 0 (by omega) 31 (by omega)⟩
end XB
end
section
/-! the component: comparisons -/
theorem kb_set {f : Nat → zV} {d : Nat} {v : zV} (h : ∀ k, z_kb (f k).1) (hv : z_kb v.1) : ∀ k, z_kb (z_set f d v k).1 := by
  intro k
  by_cases e : k = d
  · rw [e, set_at]; exact hv
  · rw [set_ne e]; exact h k
theorem kb_r {K : Nat → Int32} {L H : Nat → Int64} {b : Nat} {g : Nat → zV} (e : z_row K L H b = g) (h : ∀ k, z_kb (g k).1) : ∀ k, k < 14 → z_kb (K (14 * b + k)) := by
  intro k hk
  have := h k
  rw [← e, row_at hk] at this
  exact this
theorem kb_wf {i : Nat} {f : Nat → zV} {sf lk : Int32} (h : z_wf i (f, sf, lk)) : ∀ k, z_kb (f k).1 := fun k => kb_vw (h.1 k)
theorem cut_k {t : Nat} {v w : zV} (h : v.1 = 1) : (z_cut t v w).1 = 1 := by
  unfold z_cut
  repeat' split
  all_goals first | exact h | rfl
theorem rA_of {K K' : Nat → Int32} {L H L' H' : Nat → Int64} {S Q : Nat → Int32} {g : Nat → zV} (h : x_r0 K L H K' L' H' g) : z_rA K' L' H' S Q 0 = (g, S 0, Q 0) := by
  unfold z_rA
  rw [h.1]
theorem rA_r {K : Nat → Int32} {L H : Nat → Int64} {S Q : Nat → Int32} {b : Nat} {g : Nat → zV} {s q : Int32} (h : z_rA K L H S Q b = (g, s, q)) : z_row K L H b = g := congrArg (fun z : zA => z.1) h
theorem rA_s {K : Nat → Int32} {L H : Nat → Int64} {S Q : Nat → Int32} {b : Nat} {g : Nat → zV} {s q : Int32} (h : z_rA K L H S Q b = (g, s, q)) : S b = s ∧ Q b = q := ⟨congrArg (fun z : zA => z.2.1) h, congrArg (fun z : zA => z.2.2) h⟩
theorem opp_in {t : Nat} (ht : 1 ≤ t ∧ t ≤ 4) : 1 ≤ z_opp t ∧ z_opp t ≤ 4 := by
  have h4 : t = 1 ∨ t = 2 ∨ t = 3 ∨ t = 4 := by omega
  rcases h4 with rfl | rfl | rfl | rfl <;> decide
section XC
variable {xw xfo xol xfa xpl : Int32} {xle xmo xlw xhg : Int64} {xk2 : Int32} {xl2 xh2 : Int64} {xln xst : Int32} {xop xd xs xsz xof xim xth xK : Nat → Int32} {xL xH : Nat → Int64} {xS xQ xF xM xG : Nat → Int32} {xrg xce : Nat → Int64} {xpk xus xky : Nat → Int32} {xsr : Nat → Int64}
theorem x_cmp60 {post : Int32 → SX → Prop} {d t i : Nat} {a b : Int64} (x : zV) (hx : (xk2, xl2, xh2) = x) (hd : d < 8) (ht : 1 ≤ t ∧ t ≤ 4) (g : Nat → zV) (hg : z_set (z_row xK xL xH 0) d (1, a, b) = g) (hh : ∀ K L H, x_r0 xK xL xH K L H (z_set g d (z_cut (z_opp t) (1, a, b) x)) → post (nI (i + 1)) ((xw, xfo, xol, xfa, xpl, xle, xmo, xlw, xhg, xk2, xl2, xh2, xln, xst, xop, xd, xs, xsz, xof, xim, xth, K, L, H, xS, xQ, xF, xM, xG, xrg, xce, xpk, xus, xky, xsr))) : wX_compare_60 post (nI d) (nI t) (nI i) a b xw xfo xol xfa xpl xle xmo xlw xhg xk2 xl2 xh2 xln xst xop xd xs xsz xof xim xth xK xL xH xS xQ xF xM xG xrg xce xpk xus xky xsr := by
  refine x_set d rfl (by omega) kb_01.2.1 (x_opp ht (x_cut (1, a, b) x (by rw [pk_us, pk_uLs, pk_uLs]) hx rfl (by omega) (opp_in ht) (fun K L H h => ?_)))
  show post (nI i + 1) _
  rw [nI_1 i]
  have r := r0_set (K := xK) (L := xL) (H := xH) (v := 1) (l := a) (h := b) (show d < 14 by omega)
  refine hh K L H (r0_tr r ?_)
  rw [r.1, hg] at h
  exact h
theorem x_compare {post : Int32 → SX → Prop} {d t i to w : Nat} {x : zV} {f : Nat → zV} (hx : (xk2, xl2, xh2) = x) (hd : d < 8) (ht : 1 ≤ t ∧ t ≤ 4) (hto : to ≤ 40) (hw : w < 11) (hf : z_row xK xL xH 0 = f) (hkb : ∀ k, z_kb (f k).1) (hc1 : (f d).1 = 1 ∧ x.1 = 1)
    (h : z_el (fun f => ∀ (r k2 : Int32) (l2 h2 : Int64) (K : Nat → Int32) (L H : Nat → Int64) (Q : Nat → Int32), post r ((nI w, xfo, xol, f, nI i, xle, xmo, xlw, xhg, k2, l2, h2, xln, xst, xop, xd, xs, xsz, xof, xim, xth, K, L, H, xS, Q, xF, xM, xG, xrg, xce, xpk, xus, xky, xsr))) (fun lo hi => ∀ (k2 : Int32) (l2 h2 : Int64), post (-1) ((nI w, xfo, xol, 0, xpl, xle, xmo, z_mn xlw lo, z_mh xhg hi, k2, l2, h2, xln, xst, xop, xd, xs, xsz, xof, xim, xth, xK, xL, xH, xS, xQ, xF, xM, xG, xrg, xce, xpk, xus, xky, xsr))) (fun j B => ∀ (k2 : Int32) (l2 h2 : Int64) (K : Nat → Int32) (L H : Nat → Int64) (Q : Nat → Int32), z_rA K L H xS Q 0 = B → (∀ c, c ≠ 0 → z_rA K L H xS Q c = z_rA xK xL xH xS xQ c) → post (nI j) ((nI w, xfo, xol, 0, xpl, xle, xmo, xlw, xhg, k2, l2, h2, xln, xst, xop, xd, xs, xsz, xof, xim, xth, K, L, H, xS, Q, xF, xM, xG, xrg, xce, xpk, xus, xky, xsr))) (fun j C k B => ∀ (k2 : Int32) (l2 h2 : Int64) (K : Nat → Int32) (L H : Nat → Int64) (S Q F : Nat → Int32), z_rA K L H S Q 0 = C → z_rA K L H S Q (w + 1) = B → (∀ c, c ≠ 0 → c ≠ w + 1 → z_rA K L H S Q c = z_rA xK xL xH xS xQ c) → F (w + 1) = nI k → (∀ c, c ≠ w + 1 → F c = xF c) → post (nI j) ((nI (w + 1), xfo, xol, 0, xpl, xle, xmo, xlw, xhg, k2, l2, h2, xln, xst, xop, xd, xs, xsz, xof, xim, xth, K, L, H, S, Q, F, xM, xG, xrg, xce, xpk, xus, xky, xsr))) (z_jc t d i to f (xS 0) (xQ 0) x)) : wpX_compare post ((nI w, xfo, xol, 0, xpl, xle, xmo, xlw, xhg, xk2, xl2, xh2, xln, xst, xop, xd, xs, xsz, xof, xim, xth, xK, xL, xH, xS, xQ, xF, xM, xG, xrg, xce, xpk, xus, xky, xsr)) (nI d) (nI t) (nI i) (nI to) := by
  have vi : vp_in (nI d) 588 := vp_in_nI (by omega) (by omega)
  have ei : (nI d).toNatClampNeg = d := nI_clamp (by omega)
  have hv : (xK d, xL d, xH d) = f d := by rw [← hf, row_0 (by omega)]
  have hv1 : f d = (1, xL d, xH d) := by
    rw [← hv]
    have := hc1.1
    rw [← hv] at this
    rw [show xK d = 1 from this]
  unfold z_jc at h
  rw [if_pos hc1] at h
  have hlo : xL (nI d).toNatClampNeg = xL d := by rw [ei]
  have hhi : xH (nI d).toNatClampNeg = xH d := by rw [ei]
  have stay : ∀ r38 : Int32, ¬ z_pos t (f d) x = true → (vp_in (nI d) 588 ∧ (∀ x7 : Int64, x7 = xL (nI d).toNatClampNeg → (vp_in (nI d) 588 ∧ (∀ x9 : Int64, x9 = xH (nI d).toNatClampNeg → wX_compare_60 post (nI d) (nI t) (nI i) x7 x9 (nI w) xfo xol 0 xpl xle xmo xlw xhg xk2 xl2 xh2 xln xst xop xd xs xsz xof xim xth xK xL xH xS xQ xF xM xG xrg xce xpk xus xky xsr)))) := by
    intro r38 p1
    rw [if_neg p1] at h
    refine ⟨vi, nm_r hlo ⟨vi, nm_r hhi ?_⟩⟩
    refine x_cmp60 x hx hd ht f (by rw [← hv1, hf]; exact set_id rfl) (fun K L H hr => ?_)
    rw [← hv1] at hr
    exact h xk2 xl2 xh2 K L H xQ (rA_of hr) (fun c hc => rA_ne (hr.2 c hc) rfl rfl)
  unfold wpX_compare
  refine x_pos (f d) x hv hx (by omega) ht (fun p1 => ?_) (fun p1 => ?_)
  all_goals refine x_opp ht ?_
  all_goals refine x_pos (f d) x hv hx (by omega) (opp_in ht) (fun p2 => ?_) (fun p2 => ?_)
  · rw [if_pos p1, if_pos p2] at h
    refine ⟨vi, nm_r hlo ⟨vi, nm_r hhi (br_f (by decide) (x_cut (f d) x hv hx hc1.1 (by omega) ht (fun K L H hr => br_f (by decide) (x_put hw rfl hto (kb_r hr.1 (kb_set (by rw [hf]; exact hkb) (by rw [cut_k hc1.1]; exact kb_01.2.1))) (fun K' L' H' S' Q' F' a1 a2 a3 a4 => ?_)))))⟩⟩
    have b0 : z_rA K' L' H' S' Q' 0 = (z_set f d (z_cut t (f d) x), xS 0, xQ 0) := by rw [a2 0 (by omega), rA_of hr, hf]
    refine x_cmp60 x hx hd ht f ?_ (fun K2 L2 H2 hr2 => ?_)
    · rw [rA_r b0, set_set, ← hv1]; exact set_id rfl
    · rw [← hv1] at hr2
      have e0 := rA_s b0
      refine h xk2 xl2 xh2 K2 L2 H2 S' Q' F' ?_ ?_ (fun c hc hc2 => ?_) a3 a4
      · rw [rA_of hr2, e0.1, e0.2]
      · rw [rA_ne (hr2.2 (w + 1) (by omega)) rfl rfl, a1, rA_of hr, hf]
      · rw [rA_ne (hr2.2 c hc) rfl rfl, a2 c hc2]; exact rA_ne (hr.2 c hc) rfl rfl
  · rw [if_pos p1, if_neg p2] at h
    refine ⟨vi, nm_r hlo ⟨vi, nm_r hhi (br_f (by decide) (x_cut (f d) x hv hx hc1.1 (by omega) ht (fun K L H hr => br_t rfl ?_)))⟩⟩
    rw [hf] at hr
    exact h xk2 xl2 xh2 K L H xQ (rA_of hr) (fun c hc => rA_ne (hr.2 c hc) rfl rfl)
  · have q := stay 1 p1
    exact ⟨q.1, fun x7 e7 => ⟨(q.2 x7 e7).1, fun x9 e9 => br_t rfl ((q.2 x7 e7).2 x9 e9)⟩⟩
  · have q := stay 0 p1
    exact ⟨q.1, fun x7 e7 => ⟨(q.2 x7 e7).1, fun x9 e9 => br_t rfl ((q.2 x7 e7).2 x9 e9)⟩⟩
end XC
end
section
/-! the component: what may be none, the packet's end, jumps -/
def x_sv (n : Int64) (b : Bool) (v : zV) : zV := if v.1 = 6 ∧ v.2.1 = n then (if b then (1, 0, 0) else (5, 0, 0)) else v
def x_st (K0 : Nat → Int32) (L0 H0 : Nat → Int64) (K : Nat → Int32) (L H : Nat → Int64) (n : Int64) (q : Bool) (b j : Nat) : Prop :=
  (∀ k, k < j → (K (14 * b + k), L (14 * b + k), H (14 * b + k)) = x_sv n q (K0 (14 * b + k), L0 (14 * b + k), H0 (14 * b + k))) ∧ ∀ q, (q < 14 * b ∨ 14 * b + j ≤ q) → K q = K0 q ∧ L q = L0 q ∧ H q = H0 q
theorem x_sv_set {q : Bool} : (if q then ((1, 0, 0) : zV) else (5, 0, 0)) = (if q = true then 1 else 5, 0, 0) := by cases q <;> rfl
theorem row_sv {K0 K : Nat → Int32} {L0 H0 L H : Nat → Int64} {n : Int64} {q : Bool} {b : Nat} (h : x_st K0 L0 H0 K L H n q b 14) : z_row K L H b = z_stl (z_row K0 L0 H0 b) n q ∧ ∀ c, c ≠ b → z_row K L H c = z_row K0 L0 H0 c := by
  refine ⟨?_, fun c hc => row_ext (fun k hk => h.2 _ (by omega))⟩
  funext k
  show _ = x_sv n q (z_row K0 L0 H0 b k)
  by_cases c : k < 14
  · rw [row_at c, row_at c]; exact h.1 k c
  · rw [row_big (by omega), row_big (by omega)]
    exact (if_neg (fun z => absurd z.1 (by decide))).symm
theorem st_up {K0 K : Nat → Int32} {L0 H0 L H : Nat → Int64} {n : Int64} {q : Bool} {b j : Nat} (h : x_st K0 L0 H0 K L H n q b j) (hn : ¬ (K (14 * b + j) = 6 ∧ L (14 * b + j) = n)) : x_st K0 L0 H0 K L H n q b (j + 1) := by
  have e := h.2 (14 * b + j) (by omega)
  refine ⟨fun k hk => ?_, fun q hq => h.2 q (by omega)⟩
  by_cases c : k = j
  · subst c
    rw [← e.1, ← e.2.1, ← e.2.2]
    exact (if_neg hn).symm
  · exact h.1 k (by omega)
theorem st_set {K0 K : Nat → Int32} {L0 H0 L H : Nat → Int64} {n : Int64} {q : Bool} {b j : Nat} {v : Int32} (hv : v = if q = true then 1 else 5) (h : x_st K0 L0 H0 K L H n q b j) (hn : K (14 * b + j) = 6 ∧ L (14 * b + j) = n) : x_st K0 L0 H0 (upd K (14 * b + j) v) (vp_updL L (14 * b + j) 0) (vp_updL H (14 * b + j) 0) n q b (j + 1) := by
  have e := h.2 (14 * b + j) (by omega)
  refine ⟨fun k hk => ?_, fun q hq => ?_⟩
  · by_cases c : k = j
    · subst c
      rw [pk_us, pk_uLs, pk_uLs, ← e.1, ← e.2.1, ← e.2.2]
      rw [show x_sv n q (K (14 * b + k), L (14 * b + k), H (14 * b + k)) = _ from if_pos hn, x_sv_set, hv]
    · rw [pk_un (by omega), pk_uLn (by omega), pk_uLn (by omega)]
      exact h.1 k (by omega)
  · rw [pk_un (by omega), pk_uLn (by omega), pk_uLn (by omega)]
    exact h.2 q (by omega)
section XD
variable {xw xfo xol xfa xpl : Int32} {xle xmo xlw xhg : Int64} {xk2 : Int32} {xl2 xh2 : Int64} {xln xst : Int32} {xop xd xs xsz xof xim xth xK : Nat → Int32} {xL xH : Nat → Int64} {xS xQ xF xM xG : Nat → Int32} {xrg xce : Nat → Int64} {xpk xus xky : Nat → Int32} {xsr : Nat → Int64}
theorem x_settleL {post : SX → Prop} {b : Nat} {nn : Int64} {q : Bool} {p : Int32} {K0 : Nat → Int32} {L0 H0 : Nat → Int64} (hp : p = if q = true then 1 else 0) (hb : b < 42) (hh : ∀ K L H, x_st K0 L0 H0 K L H nn q b 14 → post ((xw, xfo, xol, xfa, xpl, xle, xmo, xlw, xhg, xk2, xl2, xh2, xln, xst, xop, xd, xs, xsz, xof, xim, xth, K, L, H, xS, xQ, xF, xM, xG, xrg, xce, xpk, xus, xky, xsr))) :
    ∀ (m j : Nat) (K : Nat → Int32) (L H : Nat → Int64), j + m = 14 → x_st K0 L0 H0 K L H nn q b j → ∀ n, m < n → wX_settle_3 post (nI (14 * b)) nn p n (nI (14 * b + j)) xw xfo xol xfa xpl xle xmo xlw xhg xk2 xl2 xh2 xln xst xop xd xs xsz xof xim xth K L H xS xQ xF xM xG xrg xce xpk xus xky xsr := by
  have e14 : nI (14 * b) + 14 = nI (14 * b + 14) := by rw [show (14 : Int32) = nI 14 from rfl, nI_add]
  intro m
  induction m with
  | zero =>
    intro j K L H hj hc n hn
    obtain ⟨n, rfl⟩ : ∃ n', n = n' + 1 := ⟨n - 1, by omega⟩
    obtain rfl : j = 14 := by omega
    rw [wX_settle_3]
    exact br_t (by rw [e14]; exact nI_le (Nat.le_refl _) (by omega)) (hh K L H hc)
  | succ m ih =>
    intro j K L H hj hc n hn
    obtain ⟨n, rfl⟩ : ∃ n', n = n' + 1 := ⟨n - 1, by omega⟩
    rw [wX_settle_3]
    have vi : vp_in (nI (14 * b + j)) 588 := vp_in_nI (by omega) (by omega)
    have ei : (nI (14 * b + j)).toNatClampNeg = 14 * b + j := nI_clamp (by omega)
    refine br_f (by rw [e14]; exact nI_ge (by omega) (by omega)) ⟨vi, ?_⟩
    rw [ei]
    refine br_c (fun z => ⟨vi, br_c (fun z1 => ?_) (fun z1 => nm_r (nI_1 _) (ih (j + 1) K L H (by omega) (st_up hc (fun y => z1 y.2)) n (by omega)))⟩) (fun z => nm_r (nI_1 _) (ih (j + 1) K L H (by omega) (st_up hc (fun y => z y.1)) n (by omega)))
    cases q
    · exact br_t hp (x_set _ rfl (by omega) kb_01.2.2.2.2.2.1 (nm_r (nI_1 _) (ih (j + 1) _ _ _ (by omega) (st_set rfl hc ⟨z, z1⟩) n (by omega))))
    · exact br_f (by rw [hp]; decide) (x_set _ rfl (by omega) kb_01.2.1 (nm_r (nI_1 _) (ih (j + 1) _ _ _ (by omega) (st_set rfl hc ⟨z, z1⟩) n (by omega))))
theorem x_settle {post : SX → Prop} {b : Nat} {nn : Int64} {q : Bool} {p o : Int32} (ho : o = nI (14 * b)) (hp : p = if q = true then 1 else 0) (hb : b < 42) (hh : ∀ K L H, z_row K L H b = z_stl (z_row xK xL xH b) nn q → (∀ c, c ≠ b → z_row K L H c = z_row xK xL xH c) → post ((xw, xfo, xol, xfa, xpl, xle, xmo, xlw, xhg, xk2, xl2, xh2, xln, xst, xop, xd, xs, xsz, xof, xim, xth, K, L, H, xS, xQ, xF, xM, xG, xrg, xce, xpk, xus, xky, xsr))) : wpX_settle post ((xw, xfo, xol, xfa, xpl, xle, xmo, xlw, xhg, xk2, xl2, xh2, xln, xst, xop, xd, xs, xsz, xof, xim, xth, xK, xL, xH, xS, xQ, xF, xM, xG, xrg, xce, xpk, xus, xky, xsr)) o nn p := by
  subst ho
  exact ⟨15, x_settleL (K0 := xK) (L0 := xL) (H0 := xH) hp hb (fun K L H h => hh K L H (row_sv h).1 (row_sv h).2) 14 0 xK xL xH (by omega) ⟨fun k hk => by omega, fun _ _ => ⟨rfl, rfl, rfl⟩⟩ 15 (by omega)⟩
theorem x_whether {post : Int32 → SX → Prop} {d t i to w : Nat} {x : zV} {f : Nat → zV} (hd : d < 8) (ht : t = 1 ∨ t = 2) (hto : to ≤ 40) (hw : w < 11) (hf : z_row xK xL xH 0 = f) (hkb : ∀ k, z_kb (f k).1) (hc2 : (f d).1 = 6 ∧ x.1 = 1 ∧ x.2.2 = 0 ∧ t < 3)
    (h : z_el (fun f => ∀ (r k2 : Int32) (l2 h2 : Int64) (K : Nat → Int32) (L H : Nat → Int64) (Q : Nat → Int32), post r ((nI w, xfo, xol, f, nI i, xle, xmo, xlw, xhg, k2, l2, h2, xln, xst, xop, xd, xs, xsz, xof, xim, xth, K, L, H, xS, Q, xF, xM, xG, xrg, xce, xpk, xus, xky, xsr))) (fun lo hi => ∀ (k2 : Int32) (l2 h2 : Int64), post (-1) ((nI w, xfo, xol, 0, xpl, xle, xmo, z_mn xlw lo, z_mh xhg hi, k2, l2, h2, xln, xst, xop, xd, xs, xsz, xof, xim, xth, xK, xL, xH, xS, xQ, xF, xM, xG, xrg, xce, xpk, xus, xky, xsr))) (fun j B => ∀ (k2 : Int32) (l2 h2 : Int64) (K : Nat → Int32) (L H : Nat → Int64) (Q : Nat → Int32), z_rA K L H xS Q 0 = B → (∀ c, c ≠ 0 → z_rA K L H xS Q c = z_rA xK xL xH xS xQ c) → post (nI j) ((nI w, xfo, xol, 0, xpl, xle, xmo, xlw, xhg, k2, l2, h2, xln, xst, xop, xd, xs, xsz, xof, xim, xth, K, L, H, xS, Q, xF, xM, xG, xrg, xce, xpk, xus, xky, xsr))) (fun j C k B => ∀ (k2 : Int32) (l2 h2 : Int64) (K : Nat → Int32) (L H : Nat → Int64) (S Q F : Nat → Int32), z_rA K L H S Q 0 = C → z_rA K L H S Q (w + 1) = B → (∀ c, c ≠ 0 → c ≠ w + 1 → z_rA K L H S Q c = z_rA xK xL xH xS xQ c) → F (w + 1) = nI k → (∀ c, c ≠ w + 1 → F c = xF c) → post (nI j) ((nI (w + 1), xfo, xol, 0, xpl, xle, xmo, xlw, xhg, k2, l2, h2, xln, xst, xop, xd, xs, xsz, xof, xim, xth, K, L, H, S, Q, F, xM, xG, xrg, xce, xpk, xus, xky, xsr))) (z_jc t d i to f (xS 0) (xQ 0) x)) : wpX_whether post ((nI w, xfo, xol, 0, xpl, xle, xmo, xlw, xhg, xk2, xl2, xh2, xln, xst, xop, xd, xs, xsz, xof, xim, xth, xK, xL, xH, xS, xQ, xF, xM, xG, xrg, xce, xpk, xus, xky, xsr)) (nI d) (nI t) (nI i) (nI to) := by
  have vi : vp_in (nI d) 588 := vp_in_nI (by omega) (by omega)
  have ei : (nI d).toNatClampNeg = d := nI_clamp (by omega)
  have hv : (xK d, xL d, xH d) = f d := by rw [← hf, row_0 (by omega)]
  have hlo : xL (nI d).toNatClampNeg = (f d).2.1 := by rw [ei, ← hv]
  unfold z_jc at h
  rw [if_neg (fun z => absurd (z.1.symm.trans hc2.1) (by decide)), if_pos hc2] at h
  have e1 : (1 : Int32) + nI w = nI (w + 1) := by rw [show (1 : Int32) = nI 1 from rfl, nI_add, Nat.add_comm]
  have v1 : vp_in (1 + nI w) 42 := by rw [e1]; exact vp_in_nI (by omega) (by omega)
  have e2 : (1 + nI w).toNatClampNeg = w + 1 := by rw [e1]; exact nI_clamp (by omega)
  have e3 : (14 : Int32) * (1 + nI w) = nI (14 * (w + 1)) := by rw [e1, show (14 : Int32) = nI 14 from rfl, pk_mul]
  refine ⟨vi, nm_r hlo (x_copy 0 (w + 1) rfl e1 (by omega) (by omega) (by omega) (kb_r hf hkb) (fun K L H S Q a1 a2 => ?_))⟩
  have b1 : z_row K L H (w + 1) = f := by rw [← hf]; exact congrArg (fun z : zA => z.1) a1
  have b0 : z_row K L H 0 = f := by rw [← hf]; exact congrArg (fun z : zA => z.1) (a2 0 (by omega))
  have bs := rA_s (a1.trans rfl)
  have cs := rA_s ((a2 0 (by omega)).trans rfl)
  have fin : ∀ K' L' H' K2 L2 H2, z_row K' L' H' (w + 1) = z_stl (z_row K L H (w + 1)) (f d).2.1 (decide (t = 1)) → (∀ c, c ≠ w + 1 → z_row K' L' H' c = z_row K L H c) → z_row K2 L2 H2 0 = z_stl (z_row K' L' H' 0) (f d).2.1 (decide (t = 2)) → (∀ c, c ≠ 0 → z_row K2 L2 H2 c = z_row K' L' H' c) → post (nI i + 1) ((nI (w + 1), xfo, xol, 0, xpl, xle, xmo, xlw, xhg, xk2, xl2, xh2, xln, xst, xop, xd, xs, xsz, xof, xim, xth, K2, L2, H2, S, Q, upd xF (1 + nI w).toNatClampNeg (vp_nar .byte (nI to).toInt8.toInt32), xM, xG, xrg, xce, xpk, xus, xky, xsr)) := by
    intro K' L' H' K2 L2 H2 g1 g2 g3 g4
    rw [nI_1 i]
    refine h xk2 xl2 xh2 K2 L2 H2 S Q _ ?_ ?_ (fun c hc hc2 => ?_) ?_ (fun c hc => ?_)
    · unfold z_rA
      rw [g3, g2 0 (by omega), b0, cs.1, cs.2]
    · unfold z_rA
      rw [g4 (w + 1) (by omega), g1, b1, bs.1, bs.2]
    · rw [← a2 c hc2]
      exact rA_ne ((g4 c hc).trans (g2 c hc2)) rfl rfl
    · rw [e2, pk_us]; exact kb_nI (by omega)
    · rw [e2, pk_un hc]
  rcases ht with rfl | rfl
  · refine br_t rfl ?_
    refine x_settle (b := w + 1) (q := true) e3 rfl (by omega) (fun K' L' H' g1 g2 => ⟨v1, nm_e (nm_r (nI_1 w) (br_f (by decide) ?_))⟩)
    refine x_settle (b := 0) (q := false) rfl rfl (by omega) (fun K2 L2 H2 g3 g4 => ?_)
    exact fin K' L' H' K2 L2 H2 g1 g2 g3 g4
  · refine br_f (by decide) ?_
    refine x_settle (b := w + 1) (q := false) e3 rfl (by omega) (fun K' L' H' g1 g2 => ⟨v1, nm_e (nm_r (nI_1 w) (br_t rfl ?_))⟩)
    refine x_settle (b := 0) (q := true) rfl rfl (by omega) (fun K2 L2 H2 g3 g4 => ?_)
    exact fin K' L' H' K2 L2 H2 g1 g2 g3 g4
end XD
end
section
/-! the component: the packet's end, jumps -/
section XE
variable {xw xfo xol xfa xpl : Int32} {xle xmo xlw xhg : Int64} {xk2 : Int32} {xl2 xh2 : Int64} {xln xst : Int32} {xop xd xs xsz xof xim xth xK : Nat → Int32} {xL xH : Nat → Int64} {xS xQ xF xM xG : Nat → Int32} {xrg xce : Nat → Int64} {xpk xus xky : Nat → Int32} {xsr : Nat → Int64}
theorem x_reach94 {post : Int32 → SX → Prop} {i to w : Nat} {g y sf : Int32} {f : Nat → zV} (hto : to ≤ 40) (hw : w < 11) (hf : z_row xK xL xH 0 = f) (hkb : ∀ k, z_kb (f k).1)
    (hh : ∀ K L H S Q F, z_rA K L H S Q 0 = (f, if g = 0 then z_mx sf y else sf, xQ 0) → z_rA K L H S Q (w + 1) = (f, xS 0, xQ 0) → (∀ c, c ≠ 0 → c ≠ w + 1 → z_rA K L H S Q c = z_rA xK xL xH xS xQ c) → F (w + 1) = nI to → (∀ c, c ≠ w + 1 → F c = xF c) → post (nI (i + 1)) ((nI (w + 1), xfo, xol, 0, xpl, xle, xmo, xlw, xhg, xk2, xl2, xh2, xln, xst, xop, xd, xs, xsz, xof, xim, xth, K, L, H, S, Q, F, xM, xG, xrg, xce, xpk, xus, xky, xsr))) :
    wX_reach_94 post (nI i) (nI to) g y sf (nI w) xfo xol 0 xpl xle xmo xlw xhg xk2 xl2 xh2 xln xst xop xd xs xsz xof xim xth xK xL xH xS xQ xF xM xG xrg xce xpk xus xky xsr := by
  unfold wX_reach_94
  refine x_put hw rfl hto (kb_r hf hkb) (fun K L H S Q F a1 a2 a3 a4 => nm_e ?_)
  have b0 : z_row K L H 0 = f := by rw [← hf]; exact congrArg (fun z : zA => z.1) (a2 0 (by omega))
  have q0 : Q 0 = xQ 0 := congrArg (fun z : zA => z.2.2) (a2 0 (by omega))
  have go : ∀ v : Int32, v = (if g = 0 then z_mx sf y else sf) → ∀ S', S' 0 = v → (∀ c, c ≠ 0 → S' c = S c) → post (nI i + 1) ((nI (w + 1), xfo, xol, 0, xpl, xle, xmo, xlw, xhg, xk2, xl2, xh2, xln, xst, xop, xd, xs, xsz, xof, xim, xth, K, L, H, S', Q, F, xM, xG, xrg, xce, xpk, xus, xky, xsr)) := by
    intro v hv S' h0 hS
    rw [nI_1 i]
    refine hh K L H S' Q F ?_ ?_ (fun c hc hc2 => ?_) a3 a4
    · unfold z_rA
      rw [b0, h0, hv, q0]
    · rw [← hf, ← show z_rA xK xL xH xS xQ 0 = (z_row xK xL xH 0, xS 0, xQ 0) from rfl, ← a1]
      exact rA_ne rfl (hS _ (by omega)) rfl
    · rw [← a2 c hc2]
      exact rA_ne rfl (hS c hc) rfl
  refine br_c (fun z => ?_) (fun z => go sf (if_neg z).symm _ pk_us (fun c hc => pk_un hc))
  rw [pk_us]
  refine br_c (fun z1 => go sf ?_ _ pk_us (fun c hc => pk_un hc)) (fun z1 => nm_e (go y ?_ _ pk_us (fun c hc => by rw [pk_un hc, pk_un hc])))
  · rw [if_pos z]; exact (if_pos z1).symm
  · rw [if_pos z]; exact (if_neg z1).symm
theorem x_reach59 {post : Int32 → SX → Prop} {i to w : Nat} {g : Int32} {y : Int64} {f : Nat → zV} (hto : to ≤ 40) (hw : w < 11) (hf : z_row xK xL xH 0 = f) (hkb : ∀ k, z_kb (f k).1)
    (hh : ∀ K L H S Q F, z_rA K L H S Q 0 = (f, if g = 0 then z_mx (xS 0) y.toInt32 else xS 0, xQ 0) → z_rA K L H S Q (w + 1) = (f, if g = 0 then xS 0 else z_mx (xS 0) y.toInt32, xQ 0) → (∀ c, c ≠ 0 → c ≠ w + 1 → z_rA K L H S Q c = z_rA xK xL xH xS xQ c) → F (w + 1) = nI to → (∀ c, c ≠ w + 1 → F c = xF c) → post (nI (i + 1)) ((nI (w + 1), xfo, xol, 0, xpl, xle, xmo, xlw, xhg, xk2, xl2, xh2, xln, xst, xop, xd, xs, xsz, xof, xim, xth, K, L, H, S, Q, F, xM, xG, xrg, xce, xpk, xus, xky, xsr))) :
    wX_reach_59 post (nI i) (nI to) g y (nI w) xfo xol 0 xpl xle xmo xlw xhg xk2 xl2 xh2 xln xst xop xd xs xsz xof xim xth xK xL xH xS xQ xF xM xG xrg xce xpk xus xky xsr := by
  unfold wX_reach_59
  refine nm_e (br_c (fun z => ?_) (fun z => br_c (fun z1 => ?_) (fun z1 => nm_e ?_)))
  · refine x_reach94 hto hw hf hkb (fun K L H S Q F a1 a2 => hh K L H S Q F a1 ?_)
    rw [if_pos z]; exact a2
  · refine x_reach94 hto hw hf hkb (fun K L H S Q F a1 a2 => hh K L H S Q F a1 ?_)
    rw [if_neg z, show z_mx (xS 0) y.toInt32 = xS 0 from if_pos z1]; exact a2
  · refine x_reach94 hto hw hf hkb (fun K L H S Q F a1 a2 a3 => hh K L H S Q F a1 ?_ (fun c hc hc2 => (a3 c hc hc2).trans (rA_ne rfl (pk_un hc) rfl)))
    rw [pk_us] at a2
    rw [if_neg z, show z_mx (xS 0) y.toInt32 = y.toInt32 from if_neg z1]; exact a2
theorem x_reach {post : Int32 → SX → Prop} {d t i to w : Nat} {x : zV} {f : Nat → zV} (hx : (xk2, xl2, xh2) = x) (hd : d < 8) (ht : t = 3 ∨ t = 4) (hto : to ≤ 40) (hw : w < 11) (hf : z_row xK xL xH 0 = f) (hkb : ∀ k, z_kb (f k).1) (hc : ((f d).1 = 2 ∧ x.1 = 3) ∨ ((f d).1 = 3 ∧ x.1 = 2))
    (h : z_el (fun f => ∀ (r k2 : Int32) (l2 h2 : Int64) (K : Nat → Int32) (L H : Nat → Int64) (Q : Nat → Int32), post r ((nI w, xfo, xol, f, nI i, xle, xmo, xlw, xhg, k2, l2, h2, xln, xst, xop, xd, xs, xsz, xof, xim, xth, K, L, H, xS, Q, xF, xM, xG, xrg, xce, xpk, xus, xky, xsr))) (fun lo hi => ∀ (k2 : Int32) (l2 h2 : Int64), post (-1) ((nI w, xfo, xol, 0, xpl, xle, xmo, z_mn xlw lo, z_mh xhg hi, k2, l2, h2, xln, xst, xop, xd, xs, xsz, xof, xim, xth, xK, xL, xH, xS, xQ, xF, xM, xG, xrg, xce, xpk, xus, xky, xsr))) (fun j B => ∀ (k2 : Int32) (l2 h2 : Int64) (K : Nat → Int32) (L H : Nat → Int64) (Q : Nat → Int32), z_rA K L H xS Q 0 = B → (∀ c, c ≠ 0 → z_rA K L H xS Q c = z_rA xK xL xH xS xQ c) → post (nI j) ((nI w, xfo, xol, 0, xpl, xle, xmo, xlw, xhg, k2, l2, h2, xln, xst, xop, xd, xs, xsz, xof, xim, xth, K, L, H, xS, Q, xF, xM, xG, xrg, xce, xpk, xus, xky, xsr))) (fun j C k B => ∀ (k2 : Int32) (l2 h2 : Int64) (K : Nat → Int32) (L H : Nat → Int64) (S Q F : Nat → Int32), z_rA K L H S Q 0 = C → z_rA K L H S Q (w + 1) = B → (∀ c, c ≠ 0 → c ≠ w + 1 → z_rA K L H S Q c = z_rA xK xL xH xS xQ c) → F (w + 1) = nI k → (∀ c, c ≠ w + 1 → F c = xF c) → post (nI j) ((nI (w + 1), xfo, xol, 0, xpl, xle, xmo, xlw, xhg, k2, l2, h2, xln, xst, xop, xd, xs, xsz, xof, xim, xth, K, L, H, S, Q, F, xM, xG, xrg, xce, xpk, xus, xky, xsr))) (z_jc t d i to f (xS 0) (xQ 0) x)) : wpX_reach post ((nI w, xfo, xol, 0, xpl, xle, xmo, xlw, xhg, xk2, xl2, xh2, xln, xst, xop, xd, xs, xsz, xof, xim, xth, xK, xL, xH, xS, xQ, xF, xM, xG, xrg, xce, xpk, xus, xky, xsr)) (nI d) (nI t) (nI i) (nI to) := by
  have vi : vp_in (nI d) 588 := vp_in_nI (by omega) (by omega)
  have ei : (nI d).toNatClampNeg = d := nI_clamp (by omega)
  have hv : (xK d, xL d, xH d) = f d := by rw [← hf, row_0 (by omega)]
  have hK : xK (nI d).toNatClampNeg = (f d).1 := by rw [ei, ← hv]
  have hL : xL (nI d).toNatClampNeg = (f d).2.1 := by rw [ei, ← hv]
  have h2 : 2 < t := by omega
  unfold z_jc at h
  rcases hc with hc | hc
  · rw [if_neg (fun z => absurd (hc.1.symm.trans z.1) (by decide)), if_neg (fun z => absurd (hc.1.symm.trans z.1) (by decide)), if_pos ⟨h2, hc⟩] at h
    refine ⟨vi, br_t (hK.trans hc.1) ?_⟩
    rcases ht with rfl | rfl
    · refine br_t rfl (br_t rfl (br_f (by decide) ⟨vi, ?_⟩))
      rw [hL]
      exact x_reach59 hto hw hf hkb (fun K L H S Q F a1 a2 a3 a4 a5 => h xk2 xl2 xh2 K L H S Q F a1 a2 a3 a4 a5)
    · refine br_f (by decide) (br_f (by decide) (br_f (by decide) ⟨vi, ?_⟩))
      rw [hL]
      exact x_reach59 hto hw hf hkb (fun K L H S Q F a1 a2 a3 a4 a5 => h xk2 xl2 xh2 K L H S Q F a1 a2 a3 a4 a5)
  · rw [if_neg (fun z => absurd (hc.1.symm.trans z.1) (by decide)), if_neg (fun z => absurd (hc.1.symm.trans z.1) (by decide)), if_neg (fun z => absurd (hc.1.symm.trans z.2.1) (by decide)), if_pos ⟨h2, hc⟩] at h
    have e2 : xl2 = x.2.1 := by rw [← hx]
    refine ⟨vi, br_f (by rw [hK, hc.1]; decide) ?_⟩
    rcases ht with rfl | rfl
    · refine br_t rfl (br_f (by decide) (br_t rfl ?_))
      exact x_reach59 hto hw hf hkb (fun K L H S Q F a1 a2 a3 a4 a5 => h xk2 xl2 xh2 K L H S Q F (by rw [← e2]; exact a1) (by rw [if_pos rfl] at a2; exact a2) a3 a4 a5)
    · refine br_f (by decide) (br_t rfl (br_t rfl ?_))
      exact x_reach59 hto hw hf hkb (fun K L H S Q F a1 a2 a3 a4 a5 => h xk2 xl2 xh2 K L H S Q F a1 (by rw [← e2]; exact a2) a3 a4 a5)
theorem x_j143 {post : Int32 → SX → Prop} {d t i to w : Nat} {x : zV} {f : Nat → zV} (hd : d < 8) (ht : 1 ≤ t ∧ t ≤ 4) (hto : to ≤ 40) (hw : w < 11) (hf : z_row xK xL xH 0 = f) (hkb : ∀ k, z_kb (f k).1)
    (h : z_el (fun f => ∀ (r k2 : Int32) (l2 h2 : Int64) (K : Nat → Int32) (L H : Nat → Int64) (Q : Nat → Int32), post r ((nI w, xfo, xol, f, nI i, xle, xmo, xlw, xhg, k2, l2, h2, xln, xst, xop, xd, xs, xsz, xof, xim, xth, K, L, H, xS, Q, xF, xM, xG, xrg, xce, xpk, xus, xky, xsr))) (fun lo hi => ∀ (k2 : Int32) (l2 h2 : Int64), post (-1) ((nI w, xfo, xol, 0, xpl, xle, xmo, z_mn xlw lo, z_mh xhg hi, k2, l2, h2, xln, xst, xop, xd, xs, xsz, xof, xim, xth, xK, xL, xH, xS, xQ, xF, xM, xG, xrg, xce, xpk, xus, xky, xsr))) (fun j B => ∀ (k2 : Int32) (l2 h2 : Int64) (K : Nat → Int32) (L H : Nat → Int64) (Q : Nat → Int32), z_rA K L H xS Q 0 = B → (∀ c, c ≠ 0 → z_rA K L H xS Q c = z_rA xK xL xH xS xQ c) → post (nI j) ((nI w, xfo, xol, 0, xpl, xle, xmo, xlw, xhg, k2, l2, h2, xln, xst, xop, xd, xs, xsz, xof, xim, xth, K, L, H, xS, Q, xF, xM, xG, xrg, xce, xpk, xus, xky, xsr))) (fun j C k B => ∀ (k2 : Int32) (l2 h2 : Int64) (K : Nat → Int32) (L H : Nat → Int64) (S Q F : Nat → Int32), z_rA K L H S Q 0 = C → z_rA K L H S Q (w + 1) = B → (∀ c, c ≠ 0 → c ≠ w + 1 → z_rA K L H S Q c = z_rA xK xL xH xS xQ c) → F (w + 1) = nI k → (∀ c, c ≠ w + 1 → F c = xF c) → post (nI j) ((nI (w + 1), xfo, xol, 0, xpl, xle, xmo, xlw, xhg, k2, l2, h2, xln, xst, xop, xd, xs, xsz, xof, xim, xth, K, L, H, S, Q, F, xM, xG, xrg, xce, xpk, xus, xky, xsr))) (z_jc t d i to f (xS 0) (xQ 0) x)) : wX_jump_143 post (nI i) (nI d) (nI t) (nI to) (nI w) xfo xol 0 xpl xle xmo xlw xhg x.1 x.2.1 x.2.2 xln xst xop xd xs xsz xof xim xth xK xL xH xS xQ xF xM xG xrg xce xpk xus xky xsr := by
  have vi : vp_in (nI d) 588 := vp_in_nI (by omega) (by omega)
  have ei : (nI d).toNatClampNeg = d := nI_clamp (by omega)
  have hv : (xK d, xL d, xH d) = f d := by rw [← hf, row_0 (by omega)]
  have hK : xK (nI d).toNatClampNeg = (f d).1 := by rw [ei, ← hv]
  refine ⟨vi, ?_⟩
  rw [hK]
  by_cases c1 : (f d).1 = 1 ∧ x.1 = 1
  · exact br_t c1.1 (br_t c1.2 (x_compare (x := x) rfl hd ht hto hw hf hkb c1 h))
  have g174 : wX_jump_174 post (nI i) (nI d) (nI t) (nI to) (nI w) xfo xol 0 xpl xle xmo xlw xhg x.1 x.2.1 x.2.2 xln xst xop xd xs xsz xof xim xth xK xL xH xS xQ xF xM xG xrg xce xpk xus xky xsr := by
    refine ⟨vi, ?_⟩
    rw [hK]
    by_cases c2 : (f d).1 = 6 ∧ x.1 = 1 ∧ x.2.2 = 0 ∧ t < 3
    · exact br_t c2.1 (br_t c2.2.1 (br_t c2.2.2.1 (br_f (nI_ge (b := 3) c2.2.2.2 (by omega)) (x_whether (x := x) hd (by omega) hto hw hf hkb c2 h))))
    have g221 : wX_jump_221 post (nI i) (nI d) (nI t) (nI to) (nI w) xfo xol 0 xpl xle xmo xlw xhg x.1 x.2.1 x.2.2 xln xst xop xd xs xsz xof xim xth xK xL xH xS xQ xF xM xG xrg xce xpk xus xky xsr := by
      have bad : ¬ (2 < t ∧ (f d).1 = 2 ∧ x.1 = 3) → ¬ (2 < t ∧ (f d).1 = 3 ∧ x.1 = 2) → wX_jump_277 post (nI i) (nI w) xfo xol 0 xpl xle xmo xlw xhg x.1 x.2.1 x.2.2 xln xst xop xd xs xsz xof xim xth xK xL xH xS xQ xF xM xG xrg xce xpk xus xky xsr := by
        intro c3 c4
        unfold z_jc at h
        rw [if_neg c1, if_neg c2, if_neg c3, if_neg c4] at h
        exact x_fail (h _ _ _ _ _ _ _ _)
      by_cases c0 : t ≤ 2
      · exact br_t (nI_le (b := 2) c0 (by omega)) (bad (by omega) (by omega))
      have h2 : 2 < t := by omega
      refine br_f (nI_ge (a := 2) h2 (by omega)) ⟨vi, ?_⟩
      rw [hK]
      by_cases c3 : (f d).1 = 2 ∧ x.1 = 3
      · exact br_t c3.1 (br_t c3.2 (x_reach (x := x) rfl hd (by omega) hto hw hf hkb (Or.inl c3) h))
      have g246 : wX_jump_246 post (nI i) (nI d) (nI t) (nI to) (nI w) xfo xol 0 xpl xle xmo xlw xhg x.1 x.2.1 x.2.2 xln xst xop xd xs xsz xof xim xth xK xL xH xS xQ xF xM xG xrg xce xpk xus xky xsr := by
        refine ⟨vi, ?_⟩
        rw [hK]
        by_cases c4 : (f d).1 = 3 ∧ x.1 = 2
        · exact br_t c4.1 (br_t c4.2 (x_reach (x := x) rfl hd (by omega) hto hw hf hkb (Or.inr c4) h))
        · have b := bad (fun z => c3 z.2) (fun z => c4 z.2)
          exact br_c (fun z => br_c (fun z1 => absurd ⟨z, z1⟩ c4) (fun _ => b)) (fun _ => b)
      exact br_c (fun z => br_c (fun z1 => absurd ⟨z, z1⟩ c3) (fun _ => g246)) (fun _ => g246)
    refine br_c (fun z => br_c (fun z1 => br_c (fun z2 => br_c (fun _ => g221) (fun z3 => absurd ⟨z, z1, z2, ?_⟩ c2)) (fun _ => g221)) (fun _ => g221)) (fun _ => g221)
    exact Nat.lt_of_not_le (fun y => z3 (nI_le (a := 3) y (by omega)))
  exact br_c (fun z => br_c (fun z1 => absurd ⟨z, z1⟩ c1) (fun _ => g174)) (fun _ => g174)
theorem x_jump {post : Int32 → SX → Prop} {o d s i w : Nat} {off im : Int32} {f : Nat → zV} (po : xop (80 + i) = nI o) (pd : xd (80 + i) = nI d) (ps : xs (80 + i) = nI s) (pof : xof (80 + i) = off) (pim : xim (80 + i) = im) (hn : z_nm o) (h20 : 20 ≤ o) (h40 : o < 40) (hd : d < 8) (hs : s ≤ 8) (hi : i < 40) (hw : w < 11) (hf : z_row xK xL xH 0 = f) (hkb : ∀ k, z_kb (f k).1)
    (h : z_el (fun f => ∀ (r k2 : Int32) (l2 h2 : Int64) (K : Nat → Int32) (L H : Nat → Int64) (Q : Nat → Int32), post r ((nI w, xfo, xol, f, nI i, xle, xmo, xlw, xhg, k2, l2, h2, xln, xst, xop, xd, xs, xsz, xof, xim, xth, K, L, H, xS, Q, xF, xM, xG, xrg, xce, xpk, xus, xky, xsr))) (fun lo hi => ∀ (k2 : Int32) (l2 h2 : Int64), post (-1) ((nI w, xfo, xol, 0, xpl, xle, xmo, z_mn xlw lo, z_mh xhg hi, k2, l2, h2, xln, xst, xop, xd, xs, xsz, xof, xim, xth, xK, xL, xH, xS, xQ, xF, xM, xG, xrg, xce, xpk, xus, xky, xsr))) (fun j B => ∀ (k2 : Int32) (l2 h2 : Int64) (K : Nat → Int32) (L H : Nat → Int64) (Q : Nat → Int32), z_rA K L H xS Q 0 = B → (∀ c, c ≠ 0 → z_rA K L H xS Q c = z_rA xK xL xH xS xQ c) → post (nI j) ((nI w, xfo, xol, 0, xpl, xle, xmo, xlw, xhg, k2, l2, h2, xln, xst, xop, xd, xs, xsz, xof, xim, xth, K, L, H, xS, Q, xF, xM, xG, xrg, xce, xpk, xus, xky, xsr))) (fun j C k B => ∀ (k2 : Int32) (l2 h2 : Int64) (K : Nat → Int32) (L H : Nat → Int64) (S Q F : Nat → Int32), z_rA K L H S Q 0 = C → z_rA K L H S Q (w + 1) = B → (∀ c, c ≠ 0 → c ≠ w + 1 → z_rA K L H S Q c = z_rA xK xL xH xS xQ c) → F (w + 1) = nI k → (∀ c, c ≠ w + 1 → F c = xF c) → post (nI j) ((nI (w + 1), xfo, xol, 0, xpl, xle, xmo, xlw, xhg, k2, l2, h2, xln, xst, xop, xd, xs, xsz, xof, xim, xth, K, L, H, S, Q, F, xM, xG, xrg, xce, xpk, xus, xky, xsr))) (z_jmp o d s i off im f (xS 0) (xQ 0))) : wpX_jump post ((nI w, xfo, xol, 0, xpl, xle, xmo, xlw, xhg, xk2, xl2, xh2, xln, xst, xop, xd, xs, xsz, xof, xim, xth, xK, xL, xH, xS, xQ, xF, xM, xG, xrg, xce, xpk, xus, xky, xsr)) (nI (80 + i)) (nI i) := by
  have vc : vp_in (nI (80 + i)) 120 := vp_in_nI (by omega) (by omega)
  have ec : (nI (80 + i)).toNatClampNeg = 80 + i := nI_clamp (by omega)
  have po' : xop (nI (80 + i)).toNatClampNeg = nI o := by rw [ec, po]
  have pd' : xd (nI (80 + i)).toNatClampNeg = nI d := by rw [ec, pd]
  have ps' : xs (nI (80 + i)).toNatClampNeg = nI s := by rw [ec, ps]
  have pof' : xof (nI (80 + i)).toNatClampNeg = off := by rw [ec, pof]
  have pim' : xim (nI (80 + i)).toNatClampNeg = im := by rw [ec, pim]
  have hKd : xK d = (f d).1 := by rw [← hf, row_0 (by omega)]
  have hto := to_in hi off
  have ho10 : nI o - nI o / 10 * 10 = nI (o % 10) := pk_rem (d := 10) (by omega) (by omega) (by omega)
  have ht : o ≠ 20 → 1 ≤ o % 10 ∧ o % 10 ≤ 4 := by unfold z_nm at hn; omega
  unfold z_jmp at h
  refine ⟨vc, nm_r po' ⟨vc, nm_r pd' ⟨by decide, nm_r ho10 ⟨vc, ?_⟩⟩⟩⟩
  rw [pof']
  by_cases c1 : off < 0
  · rw [if_pos c1] at h
    exact br_f (Int32.not_le.mpr c1) (x_fail (h _ _ _ _ _ _ _ _))
  rw [if_neg c1] at h
  refine br_t (Int32.not_lt.mp c1) ⟨vc, ?_⟩
  obtain ⟨k, hk, ek⟩ := nI_of c1
  have g69 : wX_jump_69 post (nI (80 + i)) (nI i) (nI o) (nI d) (nI (o % 10)) (nI (z_to i off)) (nI w) xfo xol 0 xpl xle xmo xlw xhg xk2 xl2 xh2 xln xst xop xd xs xsz xof xim xth xK xL xH xS xQ xF xM xG xrg xce xpk xus xky xsr := by
    by_cases c2 : o = 20
    · rw [if_pos c2] at h
      refine br_t (by rw [c2]; rfl) (h _ _ _ _ _ _ _ ?_ (fun c hc => rfl))
      unfold z_rA
      rw [hf]
    rw [if_neg c2] at h
    refine br_f (fun z => c2 ((nI_eq (b := 20) (by omega) (by omega)).mp z)) (x_known (by omega) (fun z => ?_) (fun z => ?_))
    · rw [hKd] at z
      rw [if_pos z] at h
      exact br_t rfl (h _ _ _ _ _ _ _ _)
    rw [hKd] at z
    rw [if_neg z] at h
    refine br_f (by decide) ?_
    by_cases c3 : o < 30
    · rw [if_pos c3, if_neg (show ¬ (z_im im).1 = 0 from by show ¬ (1 : Int32) = 0; decide)] at h
      refine br_f (nI_ge (b := 30) c3 (by omega)) ⟨vc, vc, ?_⟩
      show wX_jump_143 post (nI i) (nI d) (nI (o % 10)) (nI (z_to i off)) (nI w) xfo xol 0 xpl xle xmo xlw xhg 1 (((xim (nI (80 + i)).toNatClampNeg).toInt64) &&& 4294967295) (((xim (nI (80 + i)).toNatClampNeg).toInt64) &&& 4294967295) xln xst xop xd xs xsz xof xim xth xK xL xH xS xQ xF xM xG xrg xce xpk xus xky xsr
      rw [pim']
      exact x_j143 (x := z_im im) hd (ht c2) hto.2 hw hf hkb h
    · rw [if_neg c3] at h
      refine br_t (nI_le (a := 30) (by omega) (by omega)) ⟨vc, ?_⟩
      rw [ps']
      refine x_use (z_src s (z_row xK xL xH 0)) rfl hs (fun z => ?_) (fun z => ?_)
      · rw [hf] at z
        rw [if_pos z] at h
        exact br_t rfl (h _ _ _ _ _ _ _ _)
      · rw [hf] at z
        rw [if_neg z] at h
        rw [hf]
        exact br_f (by decide) (x_j143 (x := z_src s f) hd (ht c2) hto.2 hw hf hkb h)
  have e6 : (nI i).toInt64 + 1 + off.toInt64 = lN (i + 1 + k) := by
    rw [ek, nI_l (by omega), nI_l hk, lN_1, lN_add]
  have ez : z_to i off = if 40 < i + 1 + k then 40 else i + 1 + k := by
    unfold z_to
    rw [ek, nI_clamp hk]
  refine nm_r e6 ?_
  by_cases c : 40 < i + 1 + k
  · rw [if_pos c] at ez
    rw [ez] at g69
    refine br_f (fun z => ?_) g69
    have := (pk_lLE (b := 40) (by omega) (by omega)).mp z
    omega
  · rw [if_neg c] at ez
    rw [ez] at g69
    refine br_t ((pk_lLE (b := 40) (by omega) (by omega)).mpr (by omega)) ?_
    rw [lN_i]
    exact g69
end XE
end
section
/-! the component: arithmetic -/
section XF
variable {xw xfo xol xfa xpl : Int32} {xle xmo xlw xhg : Int64} {xk2 : Int32} {xl2 xh2 : Int64} {xln xst : Int32} {xop xd xs xsz xof xim xth xK : Nat → Int32} {xL xH : Nat → Int64} {xS xQ xF xM xG : Nat → Int32} {xrg xce : Nat → Int64} {xpk xus xky : Nat → Int32} {xsr : Nat → Int64}
theorem x_367 {post : SX → Prop} {d : Nat} {a b : Int64} {f : Nat → zV} (hd : d < 8) (hf : z_row xK xL xH 0 = f) (hh : ∀ K L H, x_r0 xK xL xH K L H (z_set f d (z_cl (a, b))) → post ((xw, xfo, xol, xfa, xpl, xle, xmo, xlw, xhg, xk2, xl2, xh2, xln, xst, xop, xd, xs, xsz, xof, xim, xth, K, L, H, xS, xQ, xF, xM, xG, xrg, xce, xpk, xus, xky, xsr))) : wX_interval_367 post (nI d) a b xw xfo xol xfa xpl xle xmo xlw xhg xk2 xl2 xh2 xln xst xop xd xs xsz xof xim xth xK xL xH xS xQ xF xM xG xrg xce xpk xus xky xsr := by
  have e : ∀ p : Int64 × Int64, x_r0 xK xL xH (upd xK d 1) (vp_updL xL d p.1) (vp_updL xH d p.2) (z_set f d (1, p.1, p.2)) := fun p => by rw [← hf]; exact r0_set (by omega)
  have full : (a < 0 ∨ ¬ b ≤ 4294967295) → wX_interval_383 post (nI d) xw xfo xol xfa xpl xle xmo xlw xhg xk2 xl2 xh2 xln xst xop xd xs xsz xof xim xth xK xL xH xS xQ xF xM xG xrg xce xpk xus xky xsr := fun z => by
    have := hh _ _ _ (by rw [show z_cl (a, b) = (1, 0, 4294967295) from if_pos z]; exact e (0, 4294967295))
    exact x_set d rfl (by omega) kb_01.2.1 this
  refine br_c (fun z => full (Or.inl z)) (fun z => br_c (fun z1 => ?_) (fun z1 => full (Or.inr z1)))
  have := hh _ _ _ (by rw [show z_cl (a, b) = (1, a, b) from if_neg (fun y => by rcases y with y | y; exact z y; exact y z1)]; exact e (a, b))
  exact x_set d rfl (by omega) kb_01.2.1 this
theorem x_250 {post : SX → Prop} {d : Nat} {a : Int64} (hd : d < 8) : ∀ (m : Nat) (x : Int64) (n : Nat), m < n → ¬ (z_orF (xH d) xh2 m x < xH d ∨ z_orF (xH d) xh2 m x < xh2) → wX_interval_367 post (nI d) a (z_orF (xH d) xh2 m x) xw xfo xol xfa xpl xle xmo xlw xhg xk2 xl2 xh2 xln xst xop xd xs xsz xof xim xth xK xL xH xS xQ xF xM xG xrg xce xpk xus xky xsr → wX_interval_250 post (nI d) a xw xfo xol xfa xpl xle xmo xlw xhg xk2 xl2 xh2 xln xst xop xd xs xsz xof xim xth xK xL xH xS xQ xF xM xG xrg xce xpk xus xky xsr n x := by
  have vi : vp_in (nI d) 588 := vp_in_nI (by omega) (by omega)
  have ei : (nI d).toNatClampNeg = d := nI_clamp (by omega)
  intro m
  induction m with
  | zero =>
    intro x n hn hs h
    obtain ⟨n, rfl⟩ : ∃ n', n = n' + 1 := ⟨n - 1, by omega⟩
    rw [wX_interval_250]
    have hs' : ¬ (x < xH d ∨ x < xh2) := hs
    refine ⟨vi, ?_⟩
    rw [ei]
    exact br_f (fun z => hs' (Or.inl z)) (br_t (Int64.not_lt.mp (fun z => hs' (Or.inr z))) h)
  | succ m ih =>
    intro x n hn hs h
    obtain ⟨n, rfl⟩ : ∃ n', n = n' + 1 := ⟨n - 1, by omega⟩
    rw [wX_interval_250]
    refine ⟨vi, ?_⟩
    rw [ei]
    by_cases c : x < xH d ∨ x < xh2
    · have ez : z_orF (xH d) xh2 (m + 1) x = z_orF (xH d) xh2 m (2 * x + 1) := if_pos c
      rw [ez] at hs h
      have go := ih (2 * x + 1) n (by omega) hs h
      refine br_c (fun _ => nm_e go) (fun z => br_f (fun y => ?_) (nm_e go))
      rcases c with c | c
      · exact z c
      · exact absurd c (Int64.not_lt.mpr y)
    · have ez : z_orF (xH d) xh2 (m + 1) x = x := if_neg c
      rw [ez] at h
      exact br_f (fun z => c (Or.inl z)) (br_t (Int64.not_lt.mp (fun z => c (Or.inr z))) h)
theorem x_interval {post : SX → Prop} {d n : Nat} {p : Int32} {f : Nat → zV} {x : zV} (hx : (xk2, xl2, xh2) = x) (hd : d < 8) (hn : 1 ≤ n ∧ n ≤ 6) (hf : z_row xK xL xH 0 = f) (hp : ¬ p = 0 → x.2.1 = x.2.2) (w1 : 0 ≤ (f d).2.1.toInt ∧ (f d).2.1.toInt ≤ (f d).2.2.toInt ∧ (f d).2.2.toInt ≤ 4294967295) (w2 : 0 ≤ x.2.1.toInt ∧ x.2.1.toInt ≤ x.2.2.toInt ∧ x.2.2.toInt ≤ 4294967295)
    (hh : ∀ K L H, x_r0 xK xL xH K L H (z_set f d (z_cl (z_iv n (f d).2.1 (f d).2.2 x.2.1 x.2.2))) → post ((xw, xfo, xol, xfa, xpl, xle, xmo, xlw, xhg, xk2, xl2, xh2, xln, xst, xop, xd, xs, xsz, xof, xim, xth, K, L, H, xS, xQ, xF, xM, xG, xrg, xce, xpk, xus, xky, xsr))) : wpX_interval post ((xw, xfo, xol, xfa, xpl, xle, xmo, xlw, xhg, xk2, xl2, xh2, xln, xst, xop, xd, xs, xsz, xof, xim, xth, xK, xL, xH, xS, xQ, xF, xM, xG, xrg, xce, xpk, xus, xky, xsr)) (nI d) (nI n) p := by
  subst hx
  have vi : vp_in (nI d) 588 := vp_in_nI (by omega) (by omega)
  have ei : (nI d).toNatClampNeg = d := nI_clamp (by omega)
  have hv : f d = (xK d, xL d, xH d) := by rw [← hf, row_0 (by omega)]
  rw [hv] at hh w1
  dsimp only at hh w1 w2 hp
  have eL : xL (nI d).toNatClampNeg = xL d := by rw [ei]
  have eH : xH (nI d).toNatClampNeg = xH d := by rw [ei]
  have h6 : n = 1 ∨ n = 2 ∨ n = 3 ∨ n = 4 ∨ n = 5 ∨ n = 6 := by omega
  rcases h6 with rfl | rfl | rfl | rfl | rfl | rfl
  · refine br_f (by decide) (br_f (by decide) (br_t rfl ⟨vi, nm_r (by rw [eL]) ⟨vi, nm_r (by rw [eH]) (x_367 hd hf hh)⟩⟩))
  · refine br_f (by decide) (br_f (by decide) (br_f (by decide) (br_t rfl ⟨vi, nm_r (by rw [eL]) ⟨vi, nm_r (by rw [eH]) (x_367 hd hf hh)⟩⟩)))
  · have hs : z_iv 3 (xL d) (xH d) xl2 xh2 = if ¬ xh2 ≤ 0 ∧ ¬ xH d ≤ 4294967295 / xh2 then (-1, 4294967295) else (xL d * xl2, xH d * xh2) := rfl
    rw [hs] at hh
    have small : ¬ (¬ xh2 ≤ 0 ∧ ¬ xH d ≤ 4294967295 / xh2) → wX_interval_133 post (nI d) 4294967295 xw xfo xol xfa xpl xle xmo xlw xhg xk2 xl2 xh2 xln xst xop xd xs xsz xof xim xth xK xL xH xS xQ xF xM xG xrg xce xpk xus xky xsr := fun z => by
      rw [if_neg z] at hh
      refine br_t rfl ⟨vi, br_t rfl ⟨vi, ?_⟩⟩
      rw [eL, eH]
      exact x_367 hd hf hh
    refine br_f (by decide) (br_f (by decide) (br_f (by decide) (br_f (by decide) (br_t rfl (br_c (fun z => small (fun y => y.1 z)) (fun z => ⟨vi, fun y => z (by rw [y]; exact Int64.le_refl _), ?_⟩))))))
    rw [eH]
    refine br_c (fun z1 => small (fun y => y.2 z1)) (fun z1 => ?_)
    rw [if_pos ⟨z, z1⟩] at hh
    exact br_f (by decide) (br_f (by decide) (x_367 hd hf hh))
  · refine br_f (by decide) (br_f (by decide) (br_f (by decide) (br_f (by decide) (br_f (by decide) (br_t rfl ⟨vi, ?_⟩)))))
    have hs : z_iv 4 (xL d) (xH d) xl2 xh2 = (0, if xh2 ≤ xH d then xh2 else xH d) := rfl
    rw [hs] at hh
    rw [eH]
    refine br_c (fun z => ?_) (fun z => ⟨vi, ?_⟩)
    · rw [if_pos z] at hh
      exact x_367 hd hf hh
    · rw [if_neg z] at hh
      exact x_367 hd hf hh
  · refine br_f (by decide) (br_f (by decide) (br_f (by decide) (br_f (by decide) (br_f (by decide) (br_f (by decide) (br_t rfl ⟨vi, ?_⟩))))))
    have hs : z_iv 5 (xL d) (xH d) xl2 xh2 = (if xL d ≤ xl2 then xl2 else xL d, z_or (xH d) xh2) := rfl
    rw [hs] at hh
    rw [eL]
    have stop : ¬ (z_orF (xH d) xh2 33 0 < xH d ∨ z_orF (xH d) xh2 33 0 < xh2) := by
      obtain ⟨k, k1, k2, k3, k4, k5, k6⟩ := or_sp (a := xH d) (b := xh2) (by omega) (by omega) (by omega) (by omega)
      show ¬ (z_or (xH d) xh2 < xH d ∨ z_or (xH d) xh2 < xh2)
      rw [li_lt, li_lt, k3]
      omega
    refine br_c (fun z => ⟨34, x_250 hd 33 0 34 (by omega) stop ?_⟩) (fun z => ⟨vi, nm_e ⟨34, x_250 hd 33 0 34 (by omega) stop ?_⟩⟩)
    · rw [if_pos z] at hh
      exact x_367 hd hf hh
    · rw [if_neg z] at hh
      exact x_367 hd hf hh
  · have hs : z_iv 6 (xL d) (xH d) xl2 xh2 = if xl2 = xh2 then (xL d >>> z_sh xl2, xH d >>> z_sh xl2) else (0, xH d) := rfl
    rw [hs] at hh
    have one : xl2 = xh2 → wX_interval_301 post (nI d) xw xfo xol xfa xpl xle xmo xlw xhg xk2 xl2 xh2 xln xst xop xd xs xsz xof xim xth xK xL xH xS xQ xF xM xG xrg xce xpk xus xky xsr := fun z => by
      rw [if_pos z] at hh
      refine br_f (by decide) ⟨vi, br_f (by decide) ⟨vi, ?_⟩⟩
      rw [eL, eH]
      exact x_367 hd hf hh
    refine br_f (by decide) (br_t (by decide) (br_c (fun z => br_c one (fun z1 => ?_)) (fun z => one (hp z))))
    rw [if_neg z1] at hh
    refine br_t rfl (br_t rfl ⟨vi, ?_⟩)
    rw [eH]
    exact x_367 hd hf hh
theorem x_compute {post : SX → Prop} {o d n i : Nat} {f : Nat → zV} {x : zV} (po : xop (80 + i) = nI o) (pd : xd (80 + i) = nI d) (ho : o < 20) (hoi : o < 10 → x.2.1 = x.2.2) (hd : d < 8) (hn : n ≤ 6) (hi : i < 40) (hf : z_row xK xL xH 0 = f) (hwf : z_wf i (f, xS 0, xQ 0)) (hx : z_vw i (xQ 0) x) (hx0 : ¬ x.1 = 0)
    (h : z_el (fun fl => ¬ fl = 0 → ∀ (k2 : Int32) (l2 h2 : Int64) (K : Nat → Int32) (L H : Nat → Int64) (Q : Nat → Int32), post ((xw, xfo, xol, fl, nI i, xle, xmo, xlw, xhg, k2, l2, h2, xln, xst, xop, xd, xs, xsz, xof, xim, xth, K, L, H, xS, Q, xF, xM, xG, xrg, xce, xpk, xus, xky, xsr))) (fun _ _ => True) (fun j B => j = i + 1 → ∀ (k2 : Int32) (l2 h2 : Int64) (K : Nat → Int32) (L H : Nat → Int64) (Q : Nat → Int32), z_rA K L H xS Q 0 = B → (∀ c, c ≠ 0 → z_rA K L H xS Q c = z_rA xK xL xH xS xQ c) → post ((xw, xfo, xol, 0, xpl, xle, xmo, xlw, xhg, k2, l2, h2, xln, xst, xop, xd, xs, xsz, xof, xim, xth, K, L, H, xS, Q, xF, xM, xG, xrg, xce, xpk, xus, xky, xsr))) (fun _ _ _ _ => True) (z_alu n d i f (xS 0) (xQ 0) x)) : wpX_compute post ((xw, xfo, xol, 0, xpl, xle, xmo, xlw, xhg, x.1, x.2.1, x.2.2, xln, xst, xop, xd, xs, xsz, xof, xim, xth, xK, xL, xH, xS, xQ, xF, xM, xG, xrg, xce, xpk, xus, xky, xsr)) (nI (80 + i)) (nI i) (nI n) := by
  have vc : vp_in (nI (80 + i)) 120 := vp_in_nI (by omega) (by omega)
  have ec : (nI (80 + i)).toNatClampNeg = 80 + i := nI_clamp (by omega)
  have po' : xop (nI (80 + i)).toNatClampNeg = nI o := by rw [ec, po]
  have pd' : xd (nI (80 + i)).toNatClampNeg = nI d := by rw [ec, pd]
  have vi : vp_in (nI d) 588 := vp_in_nI (by omega) (by omega)
  have ei : (nI d).toNatClampNeg = d := nI_clamp (by omega)
  have hv : f d = (xK d, xL d, xH d) := by rw [← hf, row_0 (by omega)]
  have hKd : xK d = (f d).1 := by rw [hv]
  have hK : xK (nI d).toNatClampNeg = (f d).1 := by rw [ei, hKd]
  have hL : xL (nI d).toNatClampNeg = (f d).2.1 := by rw [ei, hv]
  have hH : xH (nI d).toNatClampNeg = (f d).2.2 := by rw [ei, hv]
  have hkb := kb_wf hwf
  have vfd : z_vw i (xQ 0) (f d) := hwf.1 d
  unfold z_alu at h
  rw [if_neg hx0] at h
  refine ⟨vc, nm_r pd' ?_⟩
  by_cases c2 : n = 0
  · rw [if_pos c2] at h
    refine br_t (by rw [c2]; rfl) (x_set d rfl (by omega) (kb_vw hx) (h rfl _ _ _ _ _ _ xQ ?_ ?_))
    · rw [rA_of (r0_set (by omega)), hf]
    · exact fun c hc => rA_ne ((r0_set (show d < 14 by omega)).2 c hc) rfl rfl
  rw [if_neg c2] at h
  refine br_f (fun z => c2 ((nI_eq (b := 0) (by omega) (by omega)).mp z)) (x_known (by omega) (fun z => ?_) (fun z => ?_))
  · rw [hKd] at z
    rw [if_pos z] at h
    exact br_t rfl (h (by decide) _ _ _ _ _ _ _)
  rw [hKd] at z
  rw [if_neg z] at h
  refine br_f (by decide) ?_
  have fin : ∀ K L H (v : zV), x_r0 xK xL xH K L H (z_set f d v) → (fun j B => j = i + 1 → ∀ (k2 : Int32) (l2 h2 : Int64) (K : Nat → Int32) (L H : Nat → Int64) (Q : Nat → Int32), z_rA K L H xS Q 0 = B → (∀ c, c ≠ 0 → z_rA K L H xS Q c = z_rA xK xL xH xS xQ c) → post ((xw, xfo, xol, 0, xpl, xle, xmo, xlw, xhg, k2, l2, h2, xln, xst, xop, xd, xs, xsz, xof, xim, xth, K, L, H, xS, Q, xF, xM, xG, xrg, xce, xpk, xus, xky, xsr))) (i + 1) (z_set f d v, xS 0, xQ 0) → post ((xw, xfo, xol, 0, xpl, xle, xmo, xlw, xhg, x.1, x.2.1, x.2.2, xln, xst, xop, xd, xs, xsz, xof, xim, xth, K, L, H, xS, xQ, xF, xM, xG, xrg, xce, xpk, xus, xky, xsr)) := fun K L H v hr hd1 => hd1 rfl _ _ _ K L H xQ (rA_of hr) (fun c hc => rA_ne (hr.2 c hc) rfl rfl)
  by_cases c4 : x.1 = 1 ∧ (f d).1 = 1
  · rw [if_pos c4] at h
    have iv : ∀ p : Int32, (¬ p = 0 → x.2.1 = x.2.2) → wpX_interval post ((xw, xfo, xol, 0, xpl, xle, xmo, xlw, xhg, x.1, x.2.1, x.2.2, xln, xst, xop, xd, xs, xsz, xof, xim, xth, xK, xL, xH, xS, xQ, xF, xM, xG, xrg, xce, xpk, xus, xky, xsr)) (nI d) (nI n) p := fun p hp =>
      x_interval (x := x) rfl hd ⟨by omega, hn⟩ hf hp (vw_1 vfd c4.2) (vw_1 hx c4.1) (fun K L H hr => fin K L H _ hr h)
    have g90 : ∀ z0 : Int32, wX_compute_90 post (nI (80 + i)) (nI i) (nI n) (nI d) 1 z0 xw xfo xol 0 xpl xle xmo xlw xhg x.1 x.2.1 x.2.2 xln xst xop xd xs xsz xof xim xth xK xL xH xS xQ xF xM xG xrg xce xpk xus xky xsr := fun z0 => by
      refine br_f (by decide) ⟨vi, br_t (hK.trans c4.2) (br_c (fun _ => ⟨vc, ?_⟩) (fun _ => iv 0 (fun y => absurd rfl y)))⟩
      rw [po']
      refine br_c (fun _ => iv 0 (fun y => absurd rfl y)) (fun y => iv 1 (fun _ => hoi ?_))
      exact Nat.lt_of_not_le (fun q => y (nI_le (a := 10) q (by omega)))
    exact br_t c4.1 (br_f (by decide) (br_c (fun _ => br_c (fun _ => g90 0) (fun _ => g90 1)) (fun _ => g90 0)))
  rw [if_neg c4] at h
  have bad : ¬ (x.1 = 1 ∧ (f d).1 = 2 ∧ n = 1 ∧ ¬ 256 ≤ (f d).2.2 + x.2.2) → ¬ (x.1 = 1 ∧ x.2.1 = x.2.2 ∧ ¬ 100 < x.2.2 ∧ ((f d).1 = 4 ∨ (f d).1 = 5) ∧ n < 3) → wX_compute_301 post (nI i) xw xfo xol 0 xpl xle xmo xlw xhg x.1 x.2.1 x.2.2 xln xst xop xd xs xsz xof xim xth xK xL xH xS xQ xF xM xG xrg xce xpk xus xky xsr := by
    intro c5 c6
    rw [if_neg c5, if_neg c6] at h
    exact x_fail (h (by decide) _ _ _ _ _ _ _)
  have g214 : ∀ x6 : Int32, (¬ x6 = 0 ↔ (x.1 = 1 ∧ x.2.1 = x.2.2 ∧ ¬ 100 < x.2.2)) → ¬ (x.1 = 1 ∧ (f d).1 = 2 ∧ n = 1 ∧ ¬ 256 ≤ (f d).2.2 + x.2.2) → wX_compute_214 post (nI i) (nI n) (nI d) x6 xw xfo xol 0 xpl xle xmo xlw xhg x.1 x.2.1 x.2.2 xln xst xop xd xs xsz xof xim xth xK xL xH xS xQ xF xM xG xrg xce xpk xus xky xsr := by
    intro x6 h6 c5
    refine br_c (fun y => bad c5 (fun q => h6.mpr ⟨q.1, q.2.1, q.2.2.1⟩ y)) (fun y => ?_)
    have hy := h6.mp y
    have g241 : ((f d).1 = 4 ∨ (f d).1 = 5) → wX_compute_241 post (nI i) (nI n) (nI d) xw xfo xol 0 xpl xle xmo xlw xhg x.1 x.2.1 x.2.2 xln xst xop xd xs xsz xof xim xth xK xL xH xS xQ xF xM xG xrg xce xpk xus xky xsr := by
      intro hk
      by_cases c3 : n < 3
      · rw [if_neg c5, if_pos ⟨hy.1, hy.2.1, hy.2.2, hk, c3⟩] at h
        have s263 : ∀ q : Int64, q = z_by n x.2.1 → wX_compute_263 post (nI d) q xw xfo xol 0 xpl xle xmo xlw xhg x.1 x.2.1 x.2.2 xln xst xop xd xs xsz xof xim xth xK xL xH xS xQ xF xM xG xrg xce xpk xus xky xsr := by
          intro q hq
          refine ⟨vi, vi, vi, ?_⟩
          rw [hK, hL, hH, hq]
          exact x_set d rfl (by omega) (kb_vw vfd) (fin _ _ _ _ (by rw [← hf]; exact r0_set (by omega)) h)
        refine br_f (nI_ge (b := 3) c3 (by omega)) (br_c (fun q => s263 _ ?_) (fun q => s263 _ ?_))
        · exact (if_pos ((nI_eq (b := 1) (by omega) (by omega)).mp q)).symm
        · exact (if_neg (fun e => q (by rw [e]; rfl))).symm
      · exact br_t (nI_le (a := 3) (by omega) (by omega)) (bad c5 (fun q => c3 q.2.2.2.2))
    refine ⟨vi, ?_⟩
    rw [hK]
    refine br_c (fun q => g241 (Or.inl q)) (fun q => ⟨vi, br_c (fun q2 => g241 (Or.inr q2)) (fun q2 => bad c5 (fun r => ?_))⟩)
    rcases r.2.2.2.1 with r | r
    · exact q r
    · exact q2 r
  have g140 : ∀ x5 x6 : Int32, (¬ x5 = 0 ↔ x.1 = 1) → (¬ x6 = 0 ↔ (x.1 = 1 ∧ x.2.1 = x.2.2 ∧ ¬ 100 < x.2.2)) → wX_compute_140 post (nI i) (nI n) (nI d) x5 x6 xw xfo xol 0 xpl xle xmo xlw xhg x.1 x.2.1 x.2.2 xln xst xop xd xs xsz xof xim xth xK xL xH xS xQ xF xM xG xrg xce xpk xus xky xsr := by
    intro x5 x6 h5 h6
    refine br_c (fun y => g214 x6 h6 (fun q => h5.mpr q.1 y)) (fun y => ⟨vi, ?_⟩)
    rw [hK]
    refine br_c (fun y1 => br_c (fun y2 => ⟨vi, ?_⟩) (fun y2 => g214 x6 h6 (fun q => y2 (by rw [q.2.2.1]; rfl)))) (fun y1 => g214 x6 h6 (fun q => y1 q.2.1))
    rw [hH]
    refine br_c (fun y3 => g214 x6 h6 (fun q => q.2.2.2 y3)) (fun y3 => ⟨vi, vi, ?_⟩)
    rw [if_pos ⟨h5.mp y, y1, (nI_eq (b := 1) (by omega) (by omega)).mp y2, y3⟩] at h
    rw [hL]
    exact x_set d rfl (by omega) kb_01.2.2.1 (fin _ _ _ _ (by rw [← hf]; exact r0_set (by omega)) h)
  have n10 : ¬ (1 : Int32) = 0 := by decide
  by_cases c1 : x.1 = 1
  · have k90 : ∀ z0 : Int32, (¬ z0 = 0 ↔ (x.1 = 1 ∧ x.2.1 = x.2.2 ∧ ¬ 100 < x.2.2)) → wX_compute_90 post (nI (80 + i)) (nI i) (nI n) (nI d) 1 z0 xw xfo xol 0 xpl xle xmo xlw xhg x.1 x.2.1 x.2.2 xln xst xop xd xs xsz xof xim xth xK xL xH xS xQ xF xM xG xrg xce xpk xus xky xsr := fun z0 h6 => by
      refine br_f n10 ⟨vi, br_f ?_ (g140 1 z0 ⟨fun _ => c1, fun _ => n10⟩ h6)⟩
      rw [hK]
      exact fun q => c4 ⟨c1, q⟩
    refine br_t c1 (br_f n10 (br_c (fun y => br_c (fun y1 => k90 0 ⟨fun q => absurd rfl q, fun q => absurd y1 q.2.2⟩) (fun y1 => k90 1 ⟨fun _ => ⟨c1, y, y1⟩, fun _ => n10⟩)) (fun y => k90 0 ⟨fun q => absurd rfl q, fun q => absurd q.2.1 y⟩)))
  · exact br_f c1 (br_t rfl (br_t rfl (g140 0 0 ⟨fun q => absurd rfl q, fun q => absurd q c1⟩ ⟨fun q => absurd rfl q, fun q => absurd q.1 c1⟩)))
end XF
end
section
/-! the component: cells, bytes -/
section XG
variable {xw xfo xol xfa xpl : Int32} {xle xmo xlw xhg : Int64} {xk2 : Int32} {xl2 xh2 : Int64} {xln xst : Int32} {xop xd xs xsz xof xim xth xK : Nat → Int32} {xL xH : Nat → Int64} {xS xQ xF xM xG : Nat → Int32} {xrg xce : Nat → Int64} {xpk xus xky : Nat → Int32} {xsr : Nat → Int64}
theorem x_acc40 {post : SX → Prop} {d s i : Nat} {off : Int32} {f : Nat → zV} (pd : xd (80 + i) = nI d) (ps : xs (80 + i) = nI s) (pof : xof (80 + i) = off) (hd : d < 8) (hs : s ≤ 8) (hi : i < 40) (hf : z_row xK xL xH 0 = f) (hwf : z_wf i (f, xS 0, xQ 0))
    (h : z_el (fun fl => ¬ fl = 0 → ∀ (k2 : Int32) (l2 h2 : Int64) (K : Nat → Int32) (L H : Nat → Int64) (Q : Nat → Int32), post ((xw, xfo, xol, fl, nI i, xle, xmo, xlw, xhg, k2, l2, h2, xln, xst, xop, xd, xs, xsz, xof, xim, xth, K, L, H, xS, Q, xF, xM, xG, xrg, xce, xpk, xus, xky, xsr))) (fun _ _ => True) (fun j B => j = i + 1 → ∀ (k2 : Int32) (l2 h2 : Int64) (K : Nat → Int32) (L H : Nat → Int64) (Q : Nat → Int32), z_rA K L H xS Q 0 = B → (∀ c, c ≠ 0 → z_rA K L H xS Q c = z_rA xK xL xH xS xQ c) → post ((xw, xfo, xol, 0, xpl, xle, xmo, xlw, xhg, k2, l2, h2, xln, xst, xop, xd, xs, xsz, xof, xim, xth, K, L, H, xS, Q, xF, xM, xG, xrg, xce, xpk, xus, xky, xsr))) (fun _ _ _ _ => True) (z_ld d i off f (xS 0) (xQ 0) (z_src s f))) : wpX_access post ((xw, xfo, xol, 0, xpl, xle, xmo, xlw, xhg, xk2, xl2, xh2, xln, xst, xop, xd, xs, xsz, xof, xim, xth, xK, xL, xH, xS, xQ, xF, xM, xG, xrg, xce, xpk, xus, xky, xsr)) (nI (80 + i)) (nI i) 40 := by
  have vc : vp_in (nI (80 + i)) 120 := vp_in_nI (by omega) (by omega)
  have ec : (nI (80 + i)).toNatClampNeg = 80 + i := nI_clamp (by omega)
  have pd' : xd (nI (80 + i)).toNatClampNeg = nI d := by rw [ec, pd]
  have ps' : xs (nI (80 + i)).toNatClampNeg = nI s := by rw [ec, ps]
  have pof' : xof (nI (80 + i)).toNatClampNeg = off := by rw [ec, pof]
  have hvs : z_vw i (xQ 0) (z_src s f) := vw_src hwf.1
  unfold z_ld at h
  refine br_f (by decide) ⟨vc, ?_⟩
  rw [ps']
  refine x_use (z_src s f) (by rw [hf]) hs (fun z => ?_) (fun z => ?_)
  · rw [if_pos z] at h
    exact br_t rfl (h (by decide) _ _ _ _ _ _ _)
  generalize z_src s f = x at h z hvs ⊢
  rw [if_neg z] at h
  refine br_f (by decide) (br_f (by decide) (br_f (by decide) (br_f (by decide) (br_f (by decide) ?_))))
  have fin : ∀ K L H (v : zV), x_r0 xK xL xH K L H (z_set f d v) → (fun j B => j = i + 1 → ∀ (k2 : Int32) (l2 h2 : Int64) (K : Nat → Int32) (L H : Nat → Int64) (Q : Nat → Int32), z_rA K L H xS Q 0 = B → (∀ c, c ≠ 0 → z_rA K L H xS Q c = z_rA xK xL xH xS xQ c) → post ((xw, xfo, xol, 0, xpl, xle, xmo, xlw, xhg, k2, l2, h2, xln, xst, xop, xd, xs, xsz, xof, xim, xth, K, L, H, xS, Q, xF, xM, xG, xrg, xce, xpk, xus, xky, xsr))) (i + 1) (z_set f d v, xS 0, xQ 0) → post ((xw, xfo, xol, 0, xpl, xle, xmo, xlw, xhg, x.1, x.2.1, x.2.2, xln, xst, xop, xd, xs, xsz, xof, xim, xth, K, L, H, xS, xQ, xF, xM, xG, xrg, xce, xpk, xus, xky, xsr)) := fun K L H v hr hd1 => hd1 rfl _ _ _ K L H xQ (rA_of hr) (fun c hc => rA_ne (hr.2 c hc) rfl rfl)
  by_cases k : ¬ (x.1 = 4 ∨ x.1 = 5)
  · rw [if_pos k] at h
    refine br_f (fun y => k (Or.inl y)) (br_f (fun y => k (Or.inr y)) (br_t rfl (x_fail (h (by decide) _ _ _ _ _ _ _))))
  rw [if_neg k] at h
  have k' := Classical.not_not.mp k
  have go : ∀ lim : Int64, lim = (if x.1 = 4 then 6 else 2) → wX_access_210 post (nI (80 + i)) (nI i) 40 x.1 (x.2.1 + off.toInt64) (x.2.2 + off.toInt64) lim xw xfo xol 0 xpl xle xmo xlw xhg x.1 x.2.1 x.2.2 xln xst xop xd xs xsz xof xim xth xK xL xH xS xQ xF xM xG xrg xce xpk xus xky xsr := by
    intro lim hlim
    rw [← hlim] at h
    have bad : (off < -100 ∨ 100 < off ∨ x.2.1 + off.toInt64 < 0 ∨ ¬ x.2.2 + off.toInt64 < lim) → wX_access_249 post (nI i) xw xfo xol 0 xpl xle xmo xlw xhg x.1 x.2.1 x.2.2 xln xst xop xd xs xsz xof xim xth xK xL xH xS xQ xF xM xG xrg xce xpk xus xky xsr := fun y => by
      rw [if_pos y] at h
      exact x_fail (h (by decide) _ _ _ _ _ _ _)
    refine ⟨vc, ?_⟩
    rw [pof']
    refine br_c (fun y => bad (Or.inl y)) (fun y1 => ⟨vc, br_c (fun y => bad (Or.inr (Or.inl y))) (fun y2 => br_c (fun y => bad (Or.inr (Or.inr (Or.inl y)))) (fun y3 => br_c (fun y4 => br_f (by decide) (br_t rfl ?_)) (fun y => bad (Or.inr (Or.inr (Or.inr y))))))⟩)
    rw [if_neg (fun q => by rcases q with q | q | q | q; exact y1 q; exact y2 q; exact y3 q; exact q y4)] at h
    have w4 := vw_4 hvs k'
    have l6 : lim.toInt ≤ 6 := by
      rw [hlim]
      by_cases q : x.1 = 4
      · rw [if_pos q]; decide
      · rw [if_neg q]; decide
    have c5 : 0 ≤ (x.2.1 + off.toInt64).toInt := by rw [li_lt, li_0] at y3; omega
    have c6 : (x.2.1 + off.toInt64).toInt < (6 : Nat) := by rw [li_lt, ← w4.1] at y4; omega
    obtain ⟨m, hm, _, em, en, _⟩ := sm_lN c5 c6 (by decide)
    rw [en] at h
    have e8 : (8 : Int32) + (x.2.1 + off.toInt64).toInt32 = nI (8 + m) := by rw [em, show (8 : Int32) = nI 8 from rfl, nI_add]
    have v8 : vp_in (nI (8 + m)) 588 := vp_in_nI (by omega) (by omega)
    have n8 : (nI (8 + m)).toNatClampNeg = 8 + m := nI_clamp (by omega)
    have hvm : f (8 + m) = (xK (8 + m), xL (8 + m), xH (8 + m)) := by rw [← hf, row_0 (by omega)]
    refine nm_r e8 (br_c (fun q => ⟨vc, ?_⟩) (fun q => ⟨v8, ?_⟩))
    · rw [if_pos q] at h
      rw [pd']
      exact x_set d rfl (by omega) kb_01.2.1 (fin _ _ _ _ (by rw [← hf]; exact r0_set (by omega)) h)
    · rw [if_neg q, hvm] at h
      rw [n8]
      refine br_c (fun r => ?_) (fun r => ⟨vc, v8, v8, v8, ?_⟩)
      · rw [if_pos r] at h
        exact x_fail (h (by decide) _ _ _ _ _ _ _)
      · rw [if_neg r] at h
        rw [pd']
        have vm : z_vw i (xQ 0) (f (8 + m)) := hwf.1 (8 + m)
        rw [hvm] at vm
        exact x_set d rfl (by omega) (kb_vw (v := (xK (8 + m), xL (8 + m), xH (8 + m))) vm) (fin _ _ _ _ (by rw [← hf]; exact r0_set (by omega)) h)
  have g136 : wX_access_141 post (nI (80 + i)) (nI i) 40 x.1 x.2.1 x.2.2 1 xw xfo xol 0 xpl xle xmo xlw xhg x.1 x.2.1 x.2.2 xln xst xop xd xs xsz xof xim xth xK xL xH xS xQ xF xM xG xrg xce xpk xus xky xsr := by
    refine br_f (by decide) ⟨vc, nm_r (by rw [pof']) ⟨vc, nm_r (by rw [pof']) (br_f (by decide) (br_c (fun q => go 6 (if_pos q).symm) (fun q => go 2 (if_neg q).symm)))⟩⟩
  exact br_c (fun _ => g136) (fun q => br_t (by rcases k' with r | r; exact absurd r q; exact r) g136)
theorem x_acc41 {post : SX → Prop} {d s i : Nat} {off : Int32} {f : Nat → zV} (pd : xd (80 + i) = nI d) (ps : xs (80 + i) = nI s) (pof : xof (80 + i) = off) (hd : d < 8) (hs : s ≤ 8) (hi : i < 40) (hf : z_row xK xL xH 0 = f) (hwf : z_wf i (f, xS 0, xQ 0))
    (h : z_el (fun fl => ¬ fl = 0 → ∀ (k2 : Int32) (l2 h2 : Int64) (K : Nat → Int32) (L H : Nat → Int64) (Q : Nat → Int32), post ((xw, xfo, xol, fl, nI i, xle, xmo, xlw, xhg, k2, l2, h2, xln, xst, xop, xd, xs, xsz, xof, xim, xth, K, L, H, xS, Q, xF, xM, xG, xrg, xce, xpk, xus, xky, xsr))) (fun _ _ => True) (fun j B => j = i + 1 → ∀ (k2 : Int32) (l2 h2 : Int64) (K : Nat → Int32) (L H : Nat → Int64) (Q : Nat → Int32), z_rA K L H xS Q 0 = B → (∀ c, c ≠ 0 → z_rA K L H xS Q c = z_rA xK xL xH xS xQ c) → post ((xw, xfo, xol, 0, xpl, xle, xmo, xlw, xhg, k2, l2, h2, xln, xst, xop, xd, xs, xsz, xof, xim, xth, K, L, H, xS, Q, xF, xM, xG, xrg, xce, xpk, xus, xky, xsr))) (fun _ _ _ _ => True) (z_sto d i off f (xS 0) (xQ 0) (z_src s f))) : wpX_access post ((xw, xfo, xol, 0, xpl, xle, xmo, xlw, xhg, xk2, xl2, xh2, xln, xst, xop, xd, xs, xsz, xof, xim, xth, xK, xL, xH, xS, xQ, xF, xM, xG, xrg, xce, xpk, xus, xky, xsr)) (nI (80 + i)) (nI i) 41 := by
  have vc : vp_in (nI (80 + i)) 120 := vp_in_nI (by omega) (by omega)
  have ec : (nI (80 + i)).toNatClampNeg = 80 + i := nI_clamp (by omega)
  have pd' : xd (nI (80 + i)).toNatClampNeg = nI d := by rw [ec, pd]
  have ps' : xs (nI (80 + i)).toNatClampNeg = nI s := by rw [ec, ps]
  have pof' : xof (nI (80 + i)).toNatClampNeg = off := by rw [ec, pof]
  have vi : vp_in (nI d) 588 := vp_in_nI (by omega) (by omega)
  have ei : (nI d).toNatClampNeg = d := nI_clamp (by omega)
  have vdd : vp_in (xd (nI (80 + i)).toNatClampNeg) 588 := by rw [pd']; exact vi
  have hv : f d = (xK d, xL d, xH d) := by rw [← hf, row_0 (by omega)]
  have hKd : xK d = (f d).1 := by rw [hv]
  have hK : xK (xd (nI (80 + i)).toNatClampNeg).toNatClampNeg = (f d).1 := by rw [pd', ei, hKd]
  have hL : xL (xd (nI (80 + i)).toNatClampNeg).toNatClampNeg = (f d).2.1 := by rw [pd', ei, hv]
  have hvs : z_vw i (xQ 0) (z_src s f) := vw_src hwf.1
  unfold z_sto at h
  refine br_t rfl ⟨vc, ?_⟩
  rw [pd']
  refine x_known (by omega) (fun z => ?_) (fun z => ?_)
  · rw [hKd] at z
    rw [if_pos z] at h
    exact br_t rfl (h (by decide) _ _ _ _ _ _ _)
  rw [hKd] at z
  rw [if_neg z] at h
  refine br_f (by decide) ⟨vc, ?_⟩
  rw [ps']
  refine x_use (z_src s f) (by rw [hf]) hs (fun z => ?_) (fun z => ?_)
  · rw [if_pos z] at h
    exact br_t rfl (h (by decide) _ _ _ _ _ _ _)
  generalize z_src s f = x at h z hvs ⊢
  rw [if_neg z] at h
  refine br_f (by decide) (br_t rfl ⟨vc, vdd, ?_⟩)
  rw [hK]
  refine br_t rfl ⟨vc, vdd, ?_⟩
  rw [hL]
  refine br_t rfl (br_f (by decide) ?_)
  by_cases k : ¬ ((f d).1 = 4 ∨ (f d).1 = 5)
  · rw [if_pos k] at h
    refine br_f (fun y => k (Or.inl y)) (br_f (fun y => k (Or.inr y)) (br_t rfl (x_fail (h (by decide) _ _ _ _ _ _ _))))
  rw [if_neg k] at h
  have k' := Classical.not_not.mp k
  have go : ∀ lim : Int64, lim = (if (f d).1 = 4 then 6 else 2) → wX_access_210 post (nI (80 + i)) (nI i) 41 (f d).1 ((f d).2.1 + off.toInt64) ((f d).2.1 + off.toInt64) lim xw xfo xol 0 xpl xle xmo xlw xhg x.1 x.2.1 x.2.2 xln xst xop xd xs xsz xof xim xth xK xL xH xS xQ xF xM xG xrg xce xpk xus xky xsr := by
    intro lim hlim
    rw [← hlim] at h
    have bad : (off < -100 ∨ 100 < off ∨ (f d).2.1 + off.toInt64 < 0 ∨ ¬ (f d).2.1 + off.toInt64 < lim) → wX_access_249 post (nI i) xw xfo xol 0 xpl xle xmo xlw xhg x.1 x.2.1 x.2.2 xln xst xop xd xs xsz xof xim xth xK xL xH xS xQ xF xM xG xrg xce xpk xus xky xsr := fun y => by
      rw [if_pos y] at h
      exact x_fail (h (by decide) _ _ _ _ _ _ _)
    refine ⟨vc, ?_⟩
    rw [pof']
    refine br_c (fun y => bad (Or.inl y)) (fun y1 => ⟨vc, br_c (fun y => bad (Or.inr (Or.inl y))) (fun y2 => br_c (fun y => bad (Or.inr (Or.inr (Or.inl y)))) (fun y3 => br_c (fun y4 => br_f (by decide) (br_f (by decide) ?_)) (fun y => bad (Or.inr (Or.inr (Or.inr y))))))⟩)
    rw [if_neg (fun q => by rcases q with q | q | q | q; exact y1 q; exact y2 q; exact y3 q; exact q y4)] at h
    refine br_c (fun q => ?_) (fun q => ?_)
    · rw [if_pos q] at h
      rw [if_pos q] at hlim
      have c5 : 0 ≤ ((f d).2.1 + off.toInt64).toInt := by rw [li_lt, li_0] at y3; omega
      have c6 : ((f d).2.1 + off.toInt64).toInt < (6 : Nat) := by rw [li_lt, hlim, li_6] at y4; omega
      obtain ⟨m, hm, _, em, en, _⟩ := sm_lN c5 c6 (by decide)
      rw [en] at h
      have e8 : (8 : Int32) + ((f d).2.1 + off.toInt64).toInt32 = nI (8 + m) := by rw [em, show (8 : Int32) = nI 8 from rfl, nI_add]
      have hr : x_r0 xK xL xH (upd xK (8 + m) x.1) (vp_updL xL (8 + m) x.2.1) (vp_updL xH (8 + m) x.2.2) (z_set f (8 + m) x) := by rw [← hf]; exact r0_set (by omega)
      exact x_set (8 + m) e8 (by omega) (kb_vw hvs) (h rfl _ _ _ _ _ _ xQ (rA_of hr) (fun c hc => rA_ne (hr.2 c hc) rfl rfl))
    · rw [if_neg q] at h
      refine br_c (fun r => ?_) (fun r => ?_)
      · rw [if_pos r] at h
        exact h rfl _ _ _ _ _ _ xQ (rA_of (by rw [← hf]; exact r0_rf)) (fun c hc => rfl)
      · rw [if_neg r] at h
        exact x_fail (h (by decide) _ _ _ _ _ _ _)
  have g136 : wX_access_141 post (nI (80 + i)) (nI i) 41 (f d).1 (f d).2.1 (f d).2.1 1 xw xfo xol 0 xpl xle xmo xlw xhg x.1 x.2.1 x.2.2 xln xst xop xd xs xsz xof xim xth xK xL xH xS xQ xF xM xG xrg xce xpk xus xky xsr := by
    refine br_f (by decide) ⟨vc, nm_r (by rw [pof']) ⟨vc, nm_r (by rw [pof']) (br_f (by decide) (br_c (fun q => go 6 (if_pos q).symm) (fun q => go 2 (if_neg q).symm)))⟩⟩
  exact br_c (fun _ => g136) (fun q => br_t (by rcases k' with r | r; exact absurd r q; exact r) g136)
theorem x_acc42 {post : SX → Prop} {d s i : Nat} {off : Int32} {f : Nat → zV} (pd : xd (80 + i) = nI d) (ps : xs (80 + i) = nI s) (pof : xof (80 + i) = off) (hd : d < 8) (hs : s ≤ 8) (hi : i < 40) (hf : z_row xK xL xH 0 = f)
    (h : z_el (fun fl => ¬ fl = 0 → ∀ (k2 : Int32) (l2 h2 : Int64) (K : Nat → Int32) (L H : Nat → Int64) (Q : Nat → Int32), post ((xw, xfo, xol, fl, nI i, xle, xmo, xlw, xhg, k2, l2, h2, xln, xst, xop, xd, xs, xsz, xof, xim, xth, K, L, H, xS, Q, xF, xM, xG, xrg, xce, xpk, xus, xky, xsr))) (fun _ _ => True) (fun j B => j = i + 1 → ∀ (k2 : Int32) (l2 h2 : Int64) (K : Nat → Int32) (L H : Nat → Int64) (Q : Nat → Int32), z_rA K L H xS Q 0 = B → (∀ c, c ≠ 0 → z_rA K L H xS Q c = z_rA xK xL xH xS xQ c) → post ((xw, xfo, xol, 0, xpl, xle, xmo, xlw, xhg, k2, l2, h2, xln, xst, xop, xd, xs, xsz, xof, xim, xth, K, L, H, xS, Q, xF, xM, xG, xrg, xce, xpk, xus, xky, xsr))) (fun _ _ _ _ => True) (z_pkt d i off f (xS 0) (xQ 0) (z_src s f))) : wpX_access post ((xw, xfo, xol, 0, xpl, xle, xmo, xlw, xhg, xk2, xl2, xh2, xln, xst, xop, xd, xs, xsz, xof, xim, xth, xK, xL, xH, xS, xQ, xF, xM, xG, xrg, xce, xpk, xus, xky, xsr)) (nI (80 + i)) (nI i) 42 := by
  have vc : vp_in (nI (80 + i)) 120 := vp_in_nI (by omega) (by omega)
  have ec : (nI (80 + i)).toNatClampNeg = 80 + i := nI_clamp (by omega)
  have pd' : xd (nI (80 + i)).toNatClampNeg = nI d := by rw [ec, pd]
  have ps' : xs (nI (80 + i)).toNatClampNeg = nI s := by rw [ec, ps]
  have pof' : xof (nI (80 + i)).toNatClampNeg = off := by rw [ec, pof]
  unfold z_pkt at h
  refine br_f (by decide) ⟨vc, ?_⟩
  rw [ps']
  refine x_use (z_src s f) (by rw [hf]) hs (fun z => ?_) (fun z => ?_)
  · rw [if_pos z] at h
    exact br_t rfl (h (by decide) _ _ _ _ _ _ _)
  generalize z_src s f = x at h z ⊢
  rw [if_neg z] at h
  refine br_f (by decide) (br_f (by decide) (br_f (by decide) (br_f (by decide) (br_t rfl ?_))))
  by_cases k : ¬ x.1 = 2
  · rw [if_pos k] at h
    exact br_f k (br_t rfl (x_fail (h (by decide) _ _ _ _ _ _ _)))
  rw [if_neg k] at h
  refine br_t (Classical.not_not.mp k) (br_f (by decide) ⟨vc, nm_r (by rw [pof']) ⟨vc, nm_r (by rw [pof']) (br_t rfl ⟨vc, ?_⟩)⟩⟩)
  have bad : (off < -100 ∨ 100 < off ∨ x.2.1 + off.toInt64 < 0 ∨ ¬ x.2.2 + off.toInt64 < (xS 0).toInt64) → wX_access_249 post (nI i) xw xfo xol 0 xpl xle xmo xlw xhg x.1 x.2.1 x.2.2 xln xst xop xd xs xsz xof xim xth xK xL xH xS xQ xF xM xG xrg xce xpk xus xky xsr := fun y => by
    rw [if_pos y] at h
    exact x_fail (h (by decide) _ _ _ _ _ _ _)
  rw [pof']
  refine br_c (fun y => bad (Or.inl y)) (fun y1 => ⟨vc, br_c (fun y => bad (Or.inr (Or.inl y))) (fun y2 => br_c (fun y => bad (Or.inr (Or.inr (Or.inl y)))) (fun y3 => br_c (fun y4 => br_t rfl ⟨vc, ?_⟩) (fun y => bad (Or.inr (Or.inr (Or.inr y))))))⟩)
  rw [if_neg (fun q => by rcases q with q | q | q | q; exact y1 q; exact y2 q; exact y3 q; exact q y4)] at h
  rw [pd']
  have hr : x_r0 xK xL xH (upd xK d 1) (vp_updL xL d 0) (vp_updL xH d 255) (z_set f d (1, 0, 255)) := by rw [← hf]; exact r0_set (by omega)
  exact x_set d rfl (by omega) kb_01.2.1 (h rfl _ _ _ _ _ _ xQ (rA_of hr) (fun c hc => rA_ne (hr.2 c hc) rfl rfl))
end XG
end
section
/-! the component: helpers' calls, one instruction -/
def x_kv (k : Nat) (v : zV) : zV := if (0 < k ∧ k < 6) ∨ v.1 = 5 ∨ v.1 = 6 then (0, 0, 0) else v
def x_kl (K0 : Nat → Int32) (L0 H0 : Nat → Int64) (K : Nat → Int32) (L H : Nat → Int64) (j : Nat) : Prop :=
  (∀ k, k < j → (K k, L k, H k) = x_kv k (K0 k, L0 k, H0 k)) ∧ ∀ q, j ≤ q → K q = K0 q ∧ L q = L0 q ∧ H q = H0 q
theorem kl_r0 {K0 K : Nat → Int32} {L0 H0 L H : Nat → Int64} (h : x_kl K0 L0 H0 K L H 14) : x_r0 K0 L0 H0 K L H (z_kill (z_row K0 L0 H0 0)) := by
  refine ⟨?_, fun c hc => row_ext (fun k hk => h.2 _ (by omega))⟩
  funext k
  show _ = x_kv k (z_row K0 L0 H0 0 k)
  by_cases c : k < 14
  · rw [row_0 c, row_0 c]; exact h.1 k c
  · rw [row_big (by omega), row_big (by omega)]
    exact (if_neg (fun z => by rcases z with z | z | z; omega; exact absurd z (by decide); exact absurd z (by decide))).symm
theorem kl_up {K0 K : Nat → Int32} {L0 H0 L H : Nat → Int64} {j : Nat} (h : x_kl K0 L0 H0 K L H j) (hn : ¬ ((0 < j ∧ j < 6) ∨ K j = 5 ∨ K j = 6)) : x_kl K0 L0 H0 K L H (j + 1) := by
  have e := h.2 j (Nat.le_refl _)
  refine ⟨fun k hk => ?_, fun q hq => h.2 q (by omega)⟩
  by_cases c : k = j
  · subst c
    rw [← e.1, ← e.2.1, ← e.2.2]
    exact (if_neg hn).symm
  · exact h.1 k (by omega)
theorem kl_set {K0 K : Nat → Int32} {L0 H0 L H : Nat → Int64} {j : Nat} (h : x_kl K0 L0 H0 K L H j) (hn : (0 < j ∧ j < 6) ∨ K j = 5 ∨ K j = 6) : x_kl K0 L0 H0 (upd K j 0) (vp_updL L j 0) (vp_updL H j 0) (j + 1) := by
  have e := h.2 j (Nat.le_refl _)
  refine ⟨fun k hk => ?_, fun q hq => ?_⟩
  · by_cases c : k = j
    · subst c
      rw [pk_us, pk_uLs, pk_uLs, ← e.1, ← e.2.1, ← e.2.2]
      exact (if_pos hn).symm
    · rw [pk_un (by omega), pk_uLn (by omega), pk_uLn (by omega)]
      exact h.1 k (by omega)
  · rw [pk_un (by omega), pk_uLn (by omega), pk_uLn (by omega)]
    exact h.2 q (by omega)
section XH
variable {xw xfo xol xfa xpl : Int32} {xle xmo xlw xhg : Int64} {xk2 : Int32} {xl2 xh2 : Int64} {xln xst : Int32} {xop xd xs xsz xof xim xth xK : Nat → Int32} {xL xH : Nat → Int64} {xS xQ xF xM xG : Nat → Int32} {xrg xce : Nat → Int64} {xpk xus xky : Nat → Int32} {xsr : Nat → Int64}
theorem x_h107L {post : SX → Prop} {o : Nat} {K0 : Nat → Int32} {L0 H0 : Nat → Int64} (ho : o < 100) (h50 : o = 50 → ∀ K L H, x_kl K0 L0 H0 K L H 14 → post ((xw, xfo, xol, xfa, xpl, xle, xmo, xlw, xhg, xk2, xl2, xh2, xln, xst, xop, xd, xs, xsz, xof, xim, xth, upd K 0 6, vp_updL L 0 (xQ 0 + 1).toInt64, vp_updL H 0 (xQ 0 + 1).toInt64, xS, upd xQ 0 (xQ 0 + 1), xF, xM, xG, xrg, xce, xpk, xus, xky, xsr))) (hN : ¬ o = 50 → ∀ K L H, x_kl K0 L0 H0 K L H 14 → post ((xw, xfo, xol, xfa, xpl, xle, xmo, xlw, xhg, xk2, xl2, xh2, xln, xst, xop, xd, xs, xsz, xof, xim, xth, upd K 0 1, vp_updL L 0 0, vp_updL H 0 1, xS, xQ, xF, xM, xG, xrg, xce, xpk, xus, xky, xsr))) :
    ∀ (m j : Nat) (K : Nat → Int32) (L H : Nat → Int64), j + m = 14 → x_kl K0 L0 H0 K L H j → ∀ n, m < n → wX_help_107 post (nI o) n (nI j) xw xfo xol xfa xpl xle xmo xlw xhg xk2 xl2 xh2 xln xst xop xd xs xsz xof xim xth K L H xS xQ xF xM xG xrg xce xpk xus xky xsr := by
  intro m
  induction m with
  | zero =>
    intro j K L H hj hc n hn
    obtain ⟨n, rfl⟩ : ∃ n', n = n' + 1 := ⟨n - 1, by omega⟩
    obtain rfl : j = 14 := by omega
    rw [wX_help_107]
    refine br_t (nI_le (a := 14) (b := 14) (by omega) (by omega)) ?_
    by_cases c : o = 50
    · have c' : nI o = 50 := by rw [c]; rfl
      have H5 := h50 c K L H hc
      refine br_t c' (nm_e (br_t c' (br_t c' (br_t c' ?_))))
      rw [pk_us]
      exact x_set 0 rfl (by omega) kb_01.2.2.2.2.2.2 H5
    · have c' : ¬ nI o = 50 := fun z => c ((nI_eq (b := 50) (by omega) (by omega)).mp z)
      exact br_f c' (br_f c' (br_f c' (br_f c' (x_set 0 rfl (by omega) kb_01.2.1 (hN c K L H hc)))))
  | succ m ih =>
    intro j K L H hj hc n hn
    obtain ⟨n, rfl⟩ : ∃ n', n = n' + 1 := ⟨n - 1, by omega⟩
    rw [wX_help_107]
    have vi : vp_in (nI j) 588 := vp_in_nI (by omega) (by omega)
    have ei : (nI j).toNatClampNeg = j := nI_clamp (by omega)
    have s149 : (0 < j ∧ j < 6) ∨ K j = 5 ∨ K j = 6 → wX_help_149 post (wX_help_107 post (nI o) n) (nI o) (nI j) xw xfo xol xfa xpl xle xmo xlw xhg xk2 xl2 xh2 xln xst xop xd xs xsz xof xim xth K L H xS xQ xF xM xG xrg xce xpk xus xky xsr := fun z => x_set j rfl (by omega) kb_01.1 (nm_r (nI_1 j) (ih (j + 1) _ _ _ (by omega) (kl_set hc z) n (by omega)))
    have s126 : ¬ (0 < j ∧ j < 6) → wX_help_126 post (wX_help_107 post (nI o) n) (nI o) (nI j) xw xfo xol xfa xpl xle xmo xlw xhg xk2 xl2 xh2 xln xst xop xd xs xsz xof xim xth K L H xS xQ xF xM xG xrg xce xpk xus xky xsr := fun z => by
      refine ⟨vi, ?_⟩
      rw [ei]
      exact br_c (fun y => s149 (Or.inr (Or.inl y))) (fun y => ⟨vi, br_c (fun y2 => s149 (Or.inr (Or.inr y2))) (fun y2 => nm_r (nI_1 j) (ih (j + 1) _ _ _ (by omega) (kl_up hc (fun q => by rcases q with q | q | q; exact z q; exact y q; exact y2 q)) n (by omega)))⟩)
    refine br_f (nI_ge (b := 14) (by omega) (by omega)) ?_
    by_cases c0 : j = 0
    · exact br_t (by rw [c0]; decide) (s126 (by omega))
    · refine br_f (nI_nle (by omega) (by omega)) ?_
      by_cases c6 : j < 6
      · exact br_t (nI_lt (b := 6) c6 (by omega)) (s149 (Or.inl ⟨by omega, c6⟩))
      · exact br_f (nI_nlt (b := 6) (by omega) (by omega)) (s126 (by omega))
theorem x_h107 {post : SX → Prop} {o : Nat} {f : Nat → zV} (ho : o < 100) (hf : z_row xK xL xH 0 = f) (h50 : o = 50 → ∀ K L H, x_r0 xK xL xH K L H (z_set (z_kill f) 0 (6, (xQ 0 + 1).toInt64, (xQ 0 + 1).toInt64)) → post ((xw, xfo, xol, xfa, xpl, xle, xmo, xlw, xhg, xk2, xl2, xh2, xln, xst, xop, xd, xs, xsz, xof, xim, xth, K, L, H, xS, upd xQ 0 (xQ 0 + 1), xF, xM, xG, xrg, xce, xpk, xus, xky, xsr))) (hN : ¬ o = 50 → ∀ K L H, x_r0 xK xL xH K L H (z_set (z_kill f) 0 (1, 0, 1)) → post ((xw, xfo, xol, xfa, xpl, xle, xmo, xlw, xhg, xk2, xl2, xh2, xln, xst, xop, xd, xs, xsz, xof, xim, xth, K, L, H, xS, xQ, xF, xM, xG, xrg, xce, xpk, xus, xky, xsr))) :
    ∃ n, wX_help_107 post (nI o) n 0 xw xfo xol xfa xpl xle xmo xlw xhg xk2 xl2 xh2 xln xst xop xd xs xsz xof xim xth xK xL xH xS xQ xF xM xG xrg xce xpk xus xky xsr := by
  have up : ∀ K L H, x_kl xK xL xH K L H 14 → ∀ (v : Int32) (l h : Int64), x_r0 xK xL xH (upd K 0 v) (vp_updL L 0 l) (vp_updL H 0 h) (z_set (z_kill f) 0 (v, l, h)) := by
    intro K L H hk v l h
    have a := kl_r0 hk
    have b := r0_tr a (r0_set (v := v) (l := l) (h := h) (show 0 < 14 by omega))
    rw [a.1, hf] at b
    exact b
  exact ⟨15, x_h107L (K0 := xK) (L0 := xL) (H0 := xH) ho (fun e K L H hk => h50 e _ _ _ (up K L H hk _ _ _)) (fun e K L H hk => hN e _ _ _ (up K L H hk _ _ _)) 14 0 xK xL xH (by omega) ⟨fun k hk => by omega, fun _ _ => ⟨rfl, rfl, rfl⟩⟩ 15 (by omega)⟩
theorem x_h65 {post : SX → Prop} {o i e : Nat} (ho : o < 100) (he : e = if o = 51 then 4 else 2) (hg : (∀ r, 1 ≤ r → r < e → xK r = 1) → ∃ n, wX_help_107 post (nI o) n 0 xw xfo xol 0 xpl xle xmo xlw xhg xk2 xl2 xh2 xln xst xop xd xs xsz xof xim xth xK xL xH xS xQ xF xM xG xrg xce xpk xus xky xsr) (hb : ¬ (∀ r, 1 ≤ r → r < e → xK r = 1) → ∃ n, wX_help_107 post (nI o) n 0 xw xfo xol 3 (nI i) xle xmo xlw xhg xk2 xl2 xh2 xln xst xop xd xs xsz xof xim xth xK xL xH xS xQ xF xM xG xrg xce xpk xus xky xsr) :
    ∀ (m j : Nat) (fa pl : Int32), j + m = e → 1 ≤ j → ((fa = 0 ∧ pl = xpl ∧ ∀ r, 1 ≤ r → r < j → xK r = 1) ∨ (fa = 3 ∧ pl = nI i ∧ ¬ (∀ r, 1 ≤ r → r < e → xK r = 1))) → ∀ n, m < n → wX_help_65 post (nI i) (nI o) n (nI j) xw xfo xol fa pl xle xmo xlw xhg xk2 xl2 xh2 xln xst xop xd xs xsz xof xim xth xK xL xH xS xQ xF xM xG xrg xce xpk xus xky xsr := by
  have he4 : e ≤ 4 := by rw [he]; by_cases c : o = 51 <;> simp only [c, if_true, if_false] <;> omega
  have br : ∀ {A : Int32 → Prop}, A (nI e) → (nI o = 51 → A 4) ∧ (¬ nI o = 51 → A 2) := by
    intro A hA
    by_cases c : o = 51
    · rw [if_pos c] at he
      rw [he] at hA
      exact br_t (by rw [c]; rfl) hA
    · rw [if_neg c] at he
      rw [he] at hA
      exact br_f (fun z => c ((nI_eq (b := 51) (by omega) (by omega)).mp z)) hA
  intro m
  induction m with
  | zero =>
    intro j fa pl hj h1 hs n hn
    obtain ⟨n, rfl⟩ : ∃ n', n = n' + 1 := ⟨n - 1, by omega⟩
    obtain rfl : j = e := by omega
    rw [wX_help_65]
    refine br (A := fun q => wX_help_78 post (wX_help_65 post (nI i) (nI o) n) (nI i) (nI o) (nI j) q (nI j) xw xfo xol fa pl xle xmo xlw xhg xk2 xl2 xh2 xln xst xop xd xs xsz xof xim xth xK xL xH xS xQ xF xM xG xrg xce xpk xus xky xsr) (br_t (nI_le (Nat.le_refl _) (by omega)) ?_)
    rcases hs with ⟨rfl, rfl, hk⟩ | ⟨rfl, rfl, hk⟩
    · exact hg hk
    · exact hb hk
  | succ m ih =>
    intro j fa pl hj h1 hs n hn
    obtain ⟨n, rfl⟩ : ∃ n', n = n' + 1 := ⟨n - 1, by omega⟩
    rw [wX_help_65]
    have vi : vp_in (nI j) 588 := vp_in_nI (by omega) (by omega)
    have ei : (nI j).toNatClampNeg = j := nI_clamp (by omega)
    refine br (A := fun q => wX_help_78 post (wX_help_65 post (nI i) (nI o) n) (nI i) (nI o) (nI j) q (nI j) xw xfo xol fa pl xle xmo xlw xhg xk2 xl2 xh2 xln xst xop xd xs xsz xof xim xth xK xL xH xS xQ xF xM xG xrg xce xpk xus xky xsr) (br_f (nI_ge (by omega) (by omega)) ⟨vi, ?_⟩)
    rw [ei]
    refine br_c (fun z => nm_r (nI_1 j) (ih (j + 1) fa pl (by omega) (by omega) ?_ n (by omega))) (fun z => ?_)
    · rcases hs with ⟨a, b, hk⟩ | hs
      · refine Or.inl ⟨a, b, fun r h1 h2 => ?_⟩
        by_cases c : r = j
        · rw [c]; exact z
        · exact hk r h1 (by omega)
      · exact Or.inr hs
    · have bad : ¬ (∀ r, 1 ≤ r → r < e → xK r = 1) := fun y => z (y j h1 (by omega))
      rcases hs with ⟨rfl, rfl, hk⟩ | ⟨rfl, rfl, hk⟩
      · exact x_fail (nm_r (nI_1 j) (ih (j + 1) 3 (nI i) (by omega) (by omega) (Or.inr ⟨rfl, rfl, bad⟩) n (by omega)))
      · exact x_failN (by decide) (nm_r (nI_1 j) (ih (j + 1) 3 (nI i) (by omega) (by omega) (Or.inr ⟨rfl, rfl, bad⟩) n (by omega)))
theorem x_h29 {post : SX → Prop} {o i e : Nat} (ho : o < 100) (he : e = if o = 51 then 4 else 2) (hg : (∀ r, 1 ≤ r → r < e → ¬ xK r = 0) → ∃ n, wX_help_65 post (nI i) (nI o) n 1 xw xfo xol 0 xpl xle xmo xlw xhg xk2 xl2 xh2 xln xst xop xd xs xsz xof xim xth xK xL xH xS xQ xF xM xG xrg xce xpk xus xky xsr) (hb : ¬ (∀ r, 1 ≤ r → r < e → ¬ xK r = 0) → post ((xw, xfo, xol, 2, nI i, xle, xmo, xlw, xhg, xk2, xl2, xh2, xln, xst, xop, xd, xs, xsz, xof, xim, xth, xK, xL, xH, xS, xQ, xF, xM, xG, xrg, xce, xpk, xus, xky, xsr))) :
    ∀ (m j : Nat), j + m = e → 1 ≤ j → (∀ r, 1 ≤ r → r < j → ¬ xK r = 0) → ∀ n, m < n → wX_help_29 post (nI i) (nI o) n (nI j) xw xfo xol 0 xpl xle xmo xlw xhg xk2 xl2 xh2 xln xst xop xd xs xsz xof xim xth xK xL xH xS xQ xF xM xG xrg xce xpk xus xky xsr := by
  have he4 : e ≤ 4 := by rw [he]; by_cases c : o = 51 <;> simp only [c, if_true, if_false] <;> omega
  have br : ∀ {A : Int32 → Prop}, A (nI e) → (nI o = 51 → A 4) ∧ (¬ nI o = 51 → A 2) := by
    intro A hA
    by_cases c : o = 51
    · rw [if_pos c] at he
      rw [he] at hA
      exact br_t (by rw [c]; rfl) hA
    · rw [if_neg c] at he
      rw [he] at hA
      exact br_f (fun z => c ((nI_eq (b := 51) (by omega) (by omega)).mp z)) hA
  intro m
  induction m with
  | zero =>
    intro j hj h1 hs n hn
    obtain ⟨n, rfl⟩ : ∃ n', n = n' + 1 := ⟨n - 1, by omega⟩
    obtain rfl : j = e := by omega
    rw [wX_help_29]
    exact br (A := fun q => wX_help_42 post (wX_help_29 post (nI i) (nI o) n) (nI i) (nI o) (nI j) q (nI j) xw xfo xol 0 xpl xle xmo xlw xhg xk2 xl2 xh2 xln xst xop xd xs xsz xof xim xth xK xL xH xS xQ xF xM xG xrg xce xpk xus xky xsr) (br_t (nI_le (Nat.le_refl _) (by omega)) (hg hs))
  | succ m ih =>
    intro j hj h1 hs n hn
    obtain ⟨n, rfl⟩ : ∃ n', n = n' + 1 := ⟨n - 1, by omega⟩
    rw [wX_help_29]
    refine br (A := fun q => wX_help_42 post (wX_help_29 post (nI i) (nI o) n) (nI i) (nI o) (nI j) q (nI j) xw xfo xol 0 xpl xle xmo xlw xhg xk2 xl2 xh2 xln xst xop xd xs xsz xof xim xth xK xL xH xS xQ xF xM xG xrg xce xpk xus xky xsr) (br_f (nI_ge (by omega) (by omega)) (x_known (by omega) (fun z => br_t rfl (hb (fun y => y j h1 (by omega) z))) (fun z => br_f (by decide) (nm_r (nI_1 j) (ih (j + 1) (by omega) (by omega) (fun r h1 h2 => ?_) n (by omega))))))
    by_cases c : r = j
    · rw [c]; exact z
    · exact hs r h1 (by omega)
theorem x_help {post : SX → Prop} {o i : Nat} {im : Int32} {f : Nat → zV} (pim : xim (80 + i) = im) (ho : o = 50 ∨ o = 51 ∨ o = 52) (hi : i < 40) (hf : z_row xK xL xH 0 = f)
    (h : z_el (fun fl => ¬ fl = 0 → ∀ (k2 : Int32) (l2 h2 : Int64) (K : Nat → Int32) (L H : Nat → Int64) (Q : Nat → Int32), post ((xw, xfo, xol, fl, nI i, xle, xmo, xlw, xhg, k2, l2, h2, xln, xst, xop, xd, xs, xsz, xof, xim, xth, K, L, H, xS, Q, xF, xM, xG, xrg, xce, xpk, xus, xky, xsr))) (fun _ _ => True) (fun j B => j = i + 1 → ∀ (k2 : Int32) (l2 h2 : Int64) (K : Nat → Int32) (L H : Nat → Int64) (Q : Nat → Int32), z_rA K L H xS Q 0 = B → (∀ c, c ≠ 0 → z_rA K L H xS Q c = z_rA xK xL xH xS xQ c) → post ((xw, xfo, xol, 0, xpl, xle, xmo, xlw, xhg, k2, l2, h2, xln, xst, xop, xd, xs, xsz, xof, xim, xth, K, L, H, xS, Q, xF, xM, xG, xrg, xce, xpk, xus, xky, xsr))) (fun _ _ _ _ => True) (z_hlp o i im f (xS 0) (xQ 0))) : wpX_help post ((xw, xfo, xol, 0, xpl, xle, xmo, xlw, xhg, xk2, xl2, xh2, xln, xst, xop, xd, xs, xsz, xof, xim, xth, xK, xL, xH, xS, xQ, xF, xM, xG, xrg, xce, xpk, xus, xky, xsr)) (nI (80 + i)) (nI i) (nI o) := by
  have vc : vp_in (nI (80 + i)) 120 := vp_in_nI (by omega) (by omega)
  have ec : (nI (80 + i)).toNatClampNeg = 80 + i := nI_clamp (by omega)
  have pim' : xim (nI (80 + i)).toNatClampNeg = im := by rw [ec, pim]
  have hK : ∀ r, r < 14 → (f r).1 = xK r := fun r hr => by rw [← hf, row_0 hr]
  unfold z_hlp at h
  refine ⟨vc, ?_⟩
  rw [pim']
  have bad1 : (im < 0 ∨ ¬ im ≤ 1) → wX_help_19 post (nI i) xw xfo xol 0 xpl xle xmo xlw xhg xk2 xl2 xh2 xln xst xop xd xs xsz xof xim xth xK xL xH xS xQ xF xM xG xrg xce xpk xus xky xsr := fun z => by
    rw [if_pos z] at h
    exact x_fail (h (by decide) _ _ _ _ _ _ _)
  refine br_c (fun z => bad1 (Or.inl z)) (fun z => ⟨vc, br_c (fun z1 => ?_) (fun z1 => bad1 (Or.inr z1))⟩)
  rw [if_neg (fun q => by rcases q with q | q; exact z q; exact q z1)] at h
  have hs : ∀ (A : Int32 → Prop), (∀ r, 1 ≤ r → r < (if o = 51 then 4 else 2) → A (xK r)) ↔ (A (xK 1) ∧ (o = 51 → A (xK 2) ∧ A (xK 3))) := by
    intro A
    constructor
    · intro q
      refine ⟨q 1 (by omega) (by by_cases c : o = 51 <;> simp only [c, if_true, if_false] <;> omega), fun e => ⟨q 2 (by omega) (by rw [if_pos e]; omega), q 3 (by omega) (by rw [if_pos e]; omega)⟩⟩
    · intro q r h1 h2
      by_cases c : o = 51
      · rw [if_pos c] at h2
        have : r = 1 ∨ r = 2 ∨ r = 3 := by omega
        rcases this with rfl | rfl | rfl
        · exact q.1
        · exact (q.2 c).1
        · exact (q.2 c).2
      · rw [if_neg c] at h2
        have : r = 1 := by omega
        rw [this]; exact q.1
  rw [hK 1 (by omega), hK 2 (by omega), hK 3 (by omega)] at h
  refine ⟨5, x_h29 (by omega) rfl (fun hg => ?_) (fun hb => ?_) ((if o = 51 then 4 else 2) - 1) 1 (by by_cases c : o = 51 <;> simp only [c, if_true, if_false]) (by omega) (fun r h1 h2 => by omega) 5 (by by_cases c : o = 51 <;> simp only [c, if_true, if_false] <;> omega)⟩
  · have g := (hs (fun v => ¬ v = 0)).mp hg
    rw [if_neg (fun q => by rcases q with q | ⟨q, q2 | q2⟩; exact g.1 q; exact (g.2 q).1 q2; exact (g.2 q).2 q2)] at h
    refine ⟨5, x_h65 (by omega) rfl (fun hg2 => ?_) (fun hb2 => ?_) ((if o = 51 then 4 else 2) - 1) 1 0 xpl (by by_cases c : o = 51 <;> simp only [c, if_true, if_false]) (by omega) (Or.inl ⟨rfl, rfl, fun r h1 h2 => by omega⟩) 5 (by by_cases c : o = 51 <;> simp only [c, if_true, if_false] <;> omega)⟩
    · have g2 := (hs (fun v => v = 1)).mp hg2
      rw [if_neg (fun q => by rcases q with q | ⟨q, q2 | q2⟩; exact q g2.1; exact q2 (g2.2 q).1; exact q2 (g2.2 q).2)] at h
      refine x_h107 (by omega) hf (fun e K L H hr => ?_) (fun e K L H hr => ?_)
      · rw [if_pos e] at h
        refine h rfl _ _ _ K L H _ ?_ (fun c hc => rA_ne (hr.2 c hc) rfl (pk_un hc))
        rw [rA_of hr, pk_us]
      · rw [if_neg e] at h
        exact h rfl _ _ _ K L H _ (rA_of hr) (fun c hc => rA_ne (hr.2 c hc) rfl rfl)
    · rw [if_pos (Classical.byContradiction fun q => hb2 ((hs (fun v => v = 1)).mpr ⟨Classical.byContradiction fun y => q (Or.inl y), fun e => ⟨Classical.byContradiction fun y => q (Or.inr ⟨e, Or.inl y⟩), Classical.byContradiction fun y => q (Or.inr ⟨e, Or.inr y⟩)⟩⟩))] at h
      exact x_h107 (f := f) (by omega) hf (fun e K L H hr => h (by decide) _ _ _ _ _ _ _) (fun e K L H hr => h (by decide) _ _ _ _ _ _ _)
  · rw [if_pos (Classical.byContradiction fun q => hb ((hs (fun v => ¬ v = 0)).mpr ⟨fun y => q (Or.inl y), fun e => ⟨fun y => q (Or.inr ⟨e, Or.inl y⟩), fun y => q (Or.inr ⟨e, Or.inr y⟩)⟩⟩))] at h
    exact h (by decide) _ _ _ _ _ _ _
end XH
end
section
/-! the component: one instruction -/
section XI
variable {xw xfo xol xfa xpl : Int32} {xle xmo xlw xhg : Int64} {xk2 : Int32} {xl2 xh2 : Int64} {xln xst : Int32} {xop xd xs xsz xof xim xth xK : Nat → Int32} {xL xH : Nat → Int64} {xS xQ xF xM xG : Nat → Int32} {xrg xce : Nat → Int64} {xpk xus xky : Nat → Int32} {xsr : Nat → Int64}
theorem x_one {post : Int32 → SX → Prop} {c : zC} {i w : Nat} (po : xop (80 + i) = nI c.1) (pd : xd (80 + i) = nI c.2.1) (ps : xs (80 + i) = nI c.2.2.1) (pof : xof (80 + i) = c.2.2.2.1) (pim : xim (80 + i) = c.2.2.2.2) (hc : z_cw c) (hi : i < 40) (hw : w < 11) (hwf : z_wf i (z_rA xK xL xH xS xQ 0))
    (h : z_el (fun f => ∀ (r k2 : Int32) (l2 h2 : Int64) (K : Nat → Int32) (L H : Nat → Int64) (Q : Nat → Int32), post r ((nI w, xfo, xol, f, nI i, xle, xmo, xlw, xhg, k2, l2, h2, xln, xst, xop, xd, xs, xsz, xof, xim, xth, K, L, H, xS, Q, xF, xM, xG, xrg, xce, xpk, xus, xky, xsr))) (fun lo hi => ∀ (k2 : Int32) (l2 h2 : Int64), post (-1) ((nI w, xfo, xol, 0, xpl, xle, xmo, z_mn xlw lo, z_mh xhg hi, k2, l2, h2, xln, xst, xop, xd, xs, xsz, xof, xim, xth, xK, xL, xH, xS, xQ, xF, xM, xG, xrg, xce, xpk, xus, xky, xsr))) (fun j B => ∀ (k2 : Int32) (l2 h2 : Int64) (K : Nat → Int32) (L H : Nat → Int64) (Q : Nat → Int32), z_rA K L H xS Q 0 = B → (∀ c, c ≠ 0 → z_rA K L H xS Q c = z_rA xK xL xH xS xQ c) → post (nI j) ((nI w, xfo, xol, 0, xpl, xle, xmo, xlw, xhg, k2, l2, h2, xln, xst, xop, xd, xs, xsz, xof, xim, xth, K, L, H, xS, Q, xF, xM, xG, xrg, xce, xpk, xus, xky, xsr))) (fun j C k B => ∀ (k2 : Int32) (l2 h2 : Int64) (K : Nat → Int32) (L H : Nat → Int64) (S Q F : Nat → Int32), z_rA K L H S Q 0 = C → z_rA K L H S Q (w + 1) = B → (∀ c, c ≠ 0 → c ≠ w + 1 → z_rA K L H S Q c = z_rA xK xL xH xS xQ c) → F (w + 1) = nI k → (∀ c, c ≠ w + 1 → F c = xF c) → post (nI j) ((nI (w + 1), xfo, xol, 0, xpl, xle, xmo, xlw, xhg, k2, l2, h2, xln, xst, xop, xd, xs, xsz, xof, xim, xth, K, L, H, S, Q, F, xM, xG, xrg, xce, xpk, xus, xky, xsr))) (z_stp c i (z_rA xK xL xH xS xQ 0))) : wpX_one post ((nI w, xfo, xol, 0, xpl, xle, xmo, xlw, xhg, xk2, xl2, xh2, xln, xst, xop, xd, xs, xsz, xof, xim, xth, xK, xL, xH, xS, xQ, xF, xM, xG, xrg, xce, xpk, xus, xky, xsr)) (nI (80 + i)) (nI i) := by
  obtain ⟨o, d, s, off, im⟩ := c
  obtain ⟨hn, hd, hs⟩ := hc
  dsimp only at po pd ps pof pim hn hd hs
  have vc : vp_in (nI (80 + i)) 120 := vp_in_nI (by omega) (by omega)
  have ec : (nI (80 + i)).toNatClampNeg = 80 + i := nI_clamp (by omega)
  have po' : xop (nI (80 + i)).toNatClampNeg = nI o := by rw [ec, po]
  have ps' : xs (nI (80 + i)).toNatClampNeg = nI s := by rw [ec, ps]
  have pim' : xim (nI (80 + i)).toNatClampNeg = im := by rw [ec, pim]
  have hkb := kb_wf hwf
  have hv : ∀ k, z_vw i (xQ 0) (z_row xK xL xH 0 k) := hwf.1
  have ho61 : o < 61 := by unfold z_nm at hn; omega
  have ho10 : nI o - nI o / 10 * 10 = nI (o % 10) := pk_rem (d := 10) (by omega) (by omega) (by omega)
  unfold z_stp z_rA at h
  dsimp only at h
  refine ⟨vc, nm_r po' ?_⟩
  by_cases c1 : o < 20
  · rw [if_pos c1] at h
    refine br_t (nI_lt (b := 20) c1 (by omega)) (br_f (nI_ge (b := 20) c1 (by omega)) ?_)
    by_cases c2 : o < 10
    · rw [if_pos c2] at h
      refine br_f (nI_ge (b := 10) c2 (by omega)) ⟨vc, vc, ?_⟩
      show wX_one_83 post (nI (80 + i)) (nI i) (nI o) (nI w) xfo xol 0 xpl xle xmo xlw xhg 1 (((xim (nI (80 + i)).toNatClampNeg).toInt64) &&& 4294967295) (((xim (nI (80 + i)).toNatClampNeg).toInt64) &&& 4294967295) xln xst xop xd xs xsz xof xim xth xK xL xH xS xQ xF xM xG xrg xce xpk xus xky xsr
      rw [pim']
      refine ⟨by decide, ?_⟩
      rw [ho10]
      refine x_compute (x := z_im im) po pd c1 (fun _ => rfl) hd (by unfold z_nm at hn; omega) hi rfl hwf (vw_im _ _ _) (by show ¬ (1 : Int32) = 0; decide) (z_el_mono h (fun fl hF hne k2 l2 h2 K L H Q => br_f hne (hF (-1) k2 l2 h2 K L H Q)) (fun _ _ _ => trivial) (fun j B h1 e k2 l2 h2 K L H Q a1 a2 => br_t rfl ?_) (fun _ _ _ _ _ => trivial))
      subst e
      rw [nI_1 i]
      exact h1 k2 l2 h2 K L H Q a1 a2
    · rw [if_neg c2] at h
      refine br_t (nI_le (a := 10) (by omega) (by omega)) ⟨vc, ?_⟩
      rw [ps']
      refine x_use (z_src s (z_row xK xL xH 0)) rfl hs (fun z => ?_) (fun z => ?_)
      · unfold z_alu at h
        rw [if_pos z] at h
        exact br_t rfl (h _ _ _ _ _ _ _ _)
      · refine br_f (by decide) ⟨by decide, ?_⟩
        rw [ho10]
        refine x_compute (x := z_src s (z_row xK xL xH 0)) po pd c1 (fun y => absurd y c2) hd (by unfold z_nm at hn; omega) hi rfl hwf (vw_src hv) z (z_el_mono h (fun fl hF hne k2 l2 h2 K L H Q => br_f hne (hF (-1) k2 l2 h2 K L H Q)) (fun _ _ _ => trivial) (fun j B h1 e k2 l2 h2 K L H Q a1 a2 => br_t rfl ?_) (fun _ _ _ _ _ => trivial))
        subst e
        rw [nI_1 i]
        exact h1 k2 l2 h2 K L H Q a1 a2
  rw [if_neg c1] at h
  by_cases c2 : o < 40
  · rw [if_pos c2] at h
    exact br_f (nI_nlt (b := 20) (by omega) (by omega)) (br_f (nI_ge (b := 40) c2 (by omega)) (x_jump po pd ps pof pim hn (by omega) c2 hd hs hi hw rfl hkb h))
  rw [if_neg c2] at h
  refine br_f (nI_nlt (b := 20) (by omega) (by omega)) (br_t (nI_le (a := 40) (by omega) (by omega)) (br_t (nI_le (a := 20) (by omega) (by omega)) ?_))
  by_cases c3 : o = 40
  · subst c3
    rw [if_pos rfl] at h
    refine br_f (nI_ge (b := 43) (by omega) (by omega)) (x_acc40 pd ps pof hd hs hi rfl hwf (z_el_mono h (fun fl hF hne k2 l2 h2 K L H Q => br_f hne (hF (-1) k2 l2 h2 K L H Q)) (fun _ _ _ => trivial) (fun j B h1 e k2 l2 h2 K L H Q a1 a2 => br_t rfl ?_) (fun _ _ _ _ _ => trivial)))
    subst e
    rw [nI_1 i]
    exact h1 k2 l2 h2 K L H Q a1 a2
  rw [if_neg c3] at h
  by_cases c4 : o = 41
  · subst c4
    rw [if_pos rfl] at h
    refine br_f (nI_ge (b := 43) (by omega) (by omega)) (x_acc41 pd ps pof hd hs hi rfl hwf (z_el_mono h (fun fl hF hne k2 l2 h2 K L H Q => br_f hne (hF (-1) k2 l2 h2 K L H Q)) (fun _ _ _ => trivial) (fun j B h1 e k2 l2 h2 K L H Q a1 a2 => br_t rfl ?_) (fun _ _ _ _ _ => trivial)))
    subst e
    rw [nI_1 i]
    exact h1 k2 l2 h2 K L H Q a1 a2
  rw [if_neg c4] at h
  by_cases c5 : o = 42
  · subst c5
    rw [if_pos rfl] at h
    refine br_f (nI_ge (b := 43) (by omega) (by omega)) (x_acc42 pd ps pof hd hs hi rfl (z_el_mono h (fun fl hF hne k2 l2 h2 K L H Q => br_f hne (hF (-1) k2 l2 h2 K L H Q)) (fun _ _ _ => trivial) (fun j B h1 e k2 l2 h2 K L H Q a1 a2 => br_t rfl ?_) (fun _ _ _ _ _ => trivial)))
    subst e
    rw [nI_1 i]
    exact h1 k2 l2 h2 K L H Q a1 a2
  rw [if_neg c5] at h
  refine br_t (nI_le (a := 43) (by omega) (by omega)) ?_
  by_cases c6 : o < 60
  · rw [if_pos c6] at h
    refine br_f (nI_ge (b := 60) c6 (by omega)) (x_help pim (by unfold z_nm at hn; omega) hi rfl (z_el_mono h (fun fl hF hne k2 l2 h2 K L H Q => br_f hne (hF (-1) k2 l2 h2 K L H Q)) (fun _ _ _ => trivial) (fun j B h1 e k2 l2 h2 K L H Q a1 a2 => br_t rfl ?_) (fun _ _ _ _ _ => trivial)))
    subst e
    rw [nI_1 i]
    exact h1 k2 l2 h2 K L H Q a1 a2
  rw [if_neg c6] at h
  have e0 : z_row xK xL xH 0 0 = (xK 0, xL 0, xH 0) := row_0 (by omega)
  unfold z_ext at h
  rw [e0] at h
  refine br_t (nI_le (a := 60) (by omega) (by omega)) (x_use (s := 0) (xK 0, xL 0, xH 0) (by rw [← e0]; rfl) (by omega) (fun z => ?_) (fun z => ?_))
  · rw [if_pos z] at h
    exact br_t rfl (br_f (by decide) (br_f (by decide) (h _ _ _ _ _ _ _ _)))
  · rw [if_neg z] at h
    refine br_f (by decide) (br_c (fun z1 => ?_) (fun z1 => ?_))
    · rw [if_pos z1] at h
      have h' := h (xK 0) (xL 0) (xH 0)
      dsimp only at h'
      unfold z_mn z_mh at h'
      refine br_t rfl (br_c (fun y => ?_) (fun y => nm_e ?_))
      · rw [if_pos y] at h'
        refine br_t rfl (br_c (fun y2 => ?_) (fun y2 => nm_e ?_))
        · rw [if_pos y2] at h'; exact h'
        · rw [if_neg y2] at h'; exact h'
      · rw [if_neg y] at h'
        refine br_t rfl (br_c (fun y2 => ?_) (fun y2 => nm_e ?_))
        · rw [if_pos y2] at h'; exact h'
        · rw [if_neg y2] at h'; exact h'
    · rw [if_neg z1] at h
      exact x_fail (br_f (by decide) (br_f (by decide) (h _ _ _ _ _ _ _ _)))
end XI
end
section
/-! the search's invariant -/
theorem gw_step {P : Nat → zC} {n : Nat} {M M' : Nat → Prop} {L H L' H' : Int64} {c i : Nat} {s t : zA} {W E2 : List (Nat × zA)} (h : z_gw P n M L H ((c, s) :: W) i t) (h2 : z_gw P n M' L' H' E2 c s) (hM : ∀ i, M i → M' i) (hL : L' ≤ L) (hH : H ≤ H') : z_gw P n M' L' H' (E2 ++ W) i t := by
  refine gw_bind h (fun p hp => ?_) hM hL hH
  rcases List.mem_cons.mp hp with q | q
  · rw [q]
    exact gw_bind h2 (fun p hp => gw_in (List.mem_append.mpr (Or.inl hp))) (fun _ x => x) (Int64.le_refl _) (Int64.le_refl _)
  · exact gw_in (List.mem_append.mpr (Or.inr q))
theorem gw_M {P : Nat → zC} {n : Nat} {M : Nat → Prop} {L H : Int64} {i : Nat} {s : zA} (h : z_gw P n M L H [] i s) : M i ∧ i < n :=
  h (fun i _ => M i ∧ i < n) (fun p hp => (List.not_mem_nil hp).elim) (fun i A o => ⟨o.2.1, o.1⟩)
theorem gw_exit {P : Nat → zC} {n : Nat} {M : Nat → Prop} {L H : Int64} {i : Nat} {s : zA} (hP : ∀ i, i < n → z_cw (P i)) (hn : n ≤ 40) (h : z_gw P n M L H [] i s) (hw : z_wf i s) : ∃ lo hi : Int64, L ≤ lo ∧ lo.toInt ≤ 4294967295 ∧ hi ≤ H ∧ 0 ≤ hi.toInt ∧ 0 ≤ lo.toInt := by
  refine h (fun i s => z_wf i s → ∃ lo hi : Int64, L ≤ lo ∧ lo.toInt ≤ 4294967295 ∧ hi ≤ H ∧ 0 ≤ hi.toInt ∧ 0 ≤ lo.toInt) (fun p hp => (List.not_mem_nil hp).elim) ?_ hw
  intro i A o hw
  have sw := stp_wf (hP i o.1) (by have := o.1; omega) hw
  have o3 := o.2.2
  generalize z_stp (P i) i A = os at sw o3
  rcases os with f | e | p | q
  · exact o3.elim
  · exact ⟨e.1, e.2, o3.1, by have := sw.2.1; have := sw.2.2; omega, o3.2, by have := sw.1; have := sw.2.1; omega, sw.1⟩
  · exact o3 sw.2.2
  · exact o3.1 sw.2.2.2.1
theorem st_E {P : Nat → zC} {n : Nat} {M : Nat → Prop} {L H lo hi : Int64} {i : Nat} {A : zA} (h : i < n) (e : z_stp (P i) i A = zE lo hi) : z_gw P n (z_ad M i) (z_mn L lo) (z_mh H hi) [] i A := by
  refine gw_ok ⟨h, Or.inl rfl, ?_⟩
  rw [e]
  show z_mn L lo ≤ lo ∧ hi ≤ z_mh H hi
  unfold z_mn z_mh
  constructor
  · by_cases c : L ≤ lo
    · rw [if_pos c]; exact c
    · rw [if_neg c]; exact Int64.le_refl _
  · by_cases c : hi ≤ H
    · rw [if_pos c]; exact c
    · rw [if_neg c]; exact Int64.le_refl _
theorem mn_le (L lo : Int64) : z_mn L lo ≤ L := by
  unfold z_mn
  by_cases c : L ≤ lo
  · rw [if_pos c]; exact Int64.le_refl _
  · rw [if_neg c]; rw [li_le] at *; omega
theorem mh_le (H hi : Int64) : H ≤ z_mh H hi := by
  unfold z_mh
  by_cases c : hi ≤ H
  · rw [if_pos c]; exact Int64.le_refl _
  · rw [if_neg c]; rw [li_le] at *; omega
theorem st_1 {P : Nat → zC} {n : Nat} {M : Nat → Prop} {L H : Int64} {i j : Nat} {A B : zA} (h : i < n) (e : z_stp (P i) i A = z1 j B) : z_gw P n (z_ad M i) L H [(j, B)] i A := by
  refine gw_ok ⟨h, Or.inl rfl, ?_⟩
  rw [e]
  exact gw_in (p := (j, B)) (List.mem_cons_self ..)
theorem st_2 {P : Nat → zC} {n : Nat} {M : Nat → Prop} {L H : Int64} {i j k : Nat} {A B C : zA} (h : i < n) (e : z_stp (P i) i A = z2 j C k B) : z_gw P n (z_ad M i) L H [(j, C), (k, B)] i A := by
  refine gw_ok ⟨h, Or.inl rfl, ?_⟩
  rw [e]
  exact ⟨gw_in (p := (j, C)) (List.mem_cons_self ..), gw_in (p := (k, B)) (List.mem_cons_of_mem _ (List.mem_cons_self ..))⟩
/-- the program in the component's arrays, draft row -/
def x_prog (b : Nat) (op d s of im : Nat → Int32) (P : Nat → zC) (n : Nat) : Prop := ∀ i, i < n → z_cw (P i) ∧ op (b + i) = nI (P i).1 ∧ d (b + i) = nI (P i).2.1 ∧ s (b + i) = nI (P i).2.2.1 ∧ of (b + i) = (P i).2.2.2.1 ∧ im (b + i) = (P i).2.2.2.2
def x_stk (K : Nat → Int32) (L H : Nat → Int64) (S Q F : Nat → Int32) : List (Nat × zA) → Prop
  | [] => True
  | p :: W => z_rA K L H S Q (W.length + 1) = p.2 ∧ F (W.length + 1) = nI p.1 ∧ x_stk K L H S Q F W
theorem stk_mono {K K' : Nat → Int32} {L H L' H' : Nat → Int64} {S Q F S' Q' F' : Nat → Int32} : ∀ {W : List (Nat × zA)}, x_stk K L H S Q F W → (∀ c, 1 ≤ c → c ≤ W.length → z_rA K' L' H' S' Q' c = z_rA K L H S Q c ∧ F' c = F c) → x_stk K' L' H' S' Q' F' W
  | [], _, _ => trivial
  | p :: W, h, hh => ⟨(hh (W.length + 1) (by omega) (Nat.le_refl _)).1.trans h.1, (hh (W.length + 1) (by omega) (Nat.le_refl _)).2.trans h.2.1, stk_mono h.2.2 (fun c h1 h2 => hh c h1 (Nat.le_succ_of_le h2))⟩
def x_I (P : Nat → zC) (n : Nat) (Z : zR → Prop) (A0 : zA) (K : Nat → Int32) (L H : Nat → Int64) (S Q F Mt : Nat → Int32) (m o : Nat) (St : List (Nat × zA)) (M : Nat → Prop) (lw hg : Int64) : Prop :=
  m ≤ 30 ∧ o < 30 ∧ (∀ j, j < 41 → (Mt j = 0 ↔ ¬ M j)) ∧ z_so P St ∧ z_gw P n M lw hg St 0 A0 ∧ (∀ ρ, (∃ k, z_run P n ρ k St M lw hg) → Z ρ) ∧
  ∀ r, r < m → ∃ j, F (12 + r) = nI j ∧ j < 40 ∧ z_fk P n M lw hg St j (z_rA K L H S Q (12 + r))
def x_J (P : Nat → zC) (n : Nat) (Z : zR → Prop) (A0 : zA) (K : Nat → Int32) (L H : Nat → Int64) (S Q F : Nat → Int32) (m o i : Nat) (A : zA) (W : List (Nat × zA)) (M : Nat → Prop) (lw hg : Int64) : Prop :=
  m ≤ 30 ∧ o < 30 ∧ z_so P ((i, A) :: W) ∧ z_gw P n M lw hg ((i, A) :: W) 0 A0 ∧ (∀ ρ, (∃ k, z_run P n ρ k ((i, A) :: W) M lw hg) → Z ρ) ∧
  ∀ r, r < m → (∃ j, F (12 + r) = nI j ∧ j < 40 ∧ z_fk P n M lw hg ((i, A) :: W) j (z_rA K L H S Q (12 + r))) ∨ (F (12 + r) = nI i ∧ z_rA K L H S Q (12 + r) = A)
theorem J_I {P : Nat → zC} {n : Nat} {Z : zR → Prop} {A0 : zA} {K K' : Nat → Int32} {L H L' H' : Nat → Int64} {S Q F S' Q' F' Mt : Nat → Int32} {m o i : Nat} {A : zA} {W : List (Nat × zA)} {M M' : Nat → Prop} {lw hg lw' hg' : Int64} (h : x_J P n Z A0 K L H S Q F m o i A W M lw hg) (hi : i < 40) (E2 : List (Nat × zA)) (h2 : z_gw P n M' lw' hg' E2 i A) (hp : ∀ p, p ∈ E2 → i < p.1) (hM : ∀ i, M i → M' i) (hL : lw' ≤ lw) (hH : hg ≤ hg') (hso : z_so P (E2 ++ W))
    (hrun : ∀ ρ, (∃ k, z_run P n ρ k (E2 ++ W) M' lw' hg') → ∃ k, z_run P n ρ k ((i, A) :: W) M lw hg) (hrow : ∀ r, r < 30 → z_rA K' L' H' S' Q' (12 + r) = z_rA K L H S Q (12 + r) ∧ F' (12 + r) = F (12 + r)) (hmt : ∀ j, j < 41 → (Mt j = 0 ↔ ¬ M' j)) : x_I P n Z A0 K' L' H' S' Q' F' Mt m o (E2 ++ W) M' lw' hg' := by
  obtain ⟨j1, j2, j3, j4, j5, j6⟩ := h
  refine ⟨j1, j2, hmt, hso, gw_step j4 h2 hM hL hH, fun ρ hρ => j5 ρ (hrun ρ hρ), fun r hr => ?_⟩
  obtain ⟨e1, e2⟩ := hrow r (by omega)
  rw [e1, e2]
  rcases j6 r hr with ⟨j, a1, a2, a3⟩ | ⟨a1, a2⟩
  · exact ⟨j, a1, a2, fk_step a3 h2 hp hM hL hH⟩
  · rw [a2]
    exact ⟨i, a1, hi, j3.2.2.1, E2, W, rfl, hp, h2⟩
end
section
/-! the component: following a path -/
theorem nb_1 : vp_nar .boolean 1 = 1 := rfl
theorem nb_0 : vp_nar .boolean 0 = 0 := rfl
theorem ix80 (i : Nat) : (80 : Int32) + nI i = nI (80 + i) := by rw [show (80 : Int32) = nI 80 from rfl, nI_add]
section XK
variable {xw xfo xol xfa xpl : Int32} {xle xmo xlw xhg : Int64} {xk2 : Int32} {xl2 xh2 : Int64} {xln xst : Int32} {xop xd xs xsz xof xim xth xK : Nat → Int32} {xL xH : Nat → Int64} {xS xQ xF xM xG : Nat → Int32} {xrg xce : Nat → Int64} {xpk xus xky : Nat → Int32} {xsr : Nat → Int64}
theorem x_f60 {post : SX → Prop} {P : Nat → zC} {n B : Nat} {Z : zR → Prop} {A0 : zA} (hp : x_prog 80 xop xd xs xof xim P n) (hn : n ≤ 40) (hcj : ∀ j, z_cj P j ≤ 10) (hF : (∀ (w fo ol f : Int32) (p : Nat) (lw hg : Int64) (k2 : Int32) (l2 h2 : Int64) (K : Nat → Int32) (L H : Nat → Int64) (S Q F Mt : Nat → Int32), ¬ f = 0 → Z (Sum.inl (f, p)) → post ((w, fo, ol, f, nI p, xle, xmo, lw, hg, k2, l2, h2, xln, xst, xop, xd, xs, xsz, xof, xim, xth, K, L, H, S, Q, F, Mt, xG, xrg, xce, xpk, xus, xky, xsr)))) (hE : (∀ (m o : Nat) (W : List (Nat × zA)) (M : Nat → Prop) (lw hg : Int64) (k2 : Int32) (l2 h2 : Int64) (K : Nat → Int32) (L H : Nat → Int64) (S Q F Mt : Nat → Int32), x_I P n Z A0 K L H S Q F Mt m o W M lw hg → x_stk K L H S Q F W → z_wt W < B → post ((nI W.length, nI m, nI o, 0, xpl, xle, xmo, lw, hg, k2, l2, h2, xln, xst, xop, xd, xs, xsz, xof, xim, xth, K, L, H, S, Q, F, Mt, xG, xrg, xce, xpk, xus, xky, xsr)))) {i m o k : Nat} {W : List (Nat × zA)} {M : Nat → Prop} (hi : i < n)
    (hJ : x_J P n Z A0 xK xL xH xS xQ xF m o i (z_rA xK xL xH xS xQ 0) W M xlw xhg) (hstk : x_stk xK xL xH xS xQ xF W) (hmt : ∀ j, j < 41 → (xM j = 0 ↔ ¬ z_ad M i j)) (hB : z_wt ((i, z_rA xK xL xH xS xQ 0) :: W) ≤ B) (hk : 0 < k)
    (next : ∀ (j : Nat) (W : List (Nat × zA)) (M : Nat → Prop) (lw hg : Int64) (k2 : Int32) (l2 h2 : Int64) (K : Nat → Int32) (L H : Nat → Int64) (S Q F Mt : Nat → Int32), i < j → x_I P n Z A0 K L H S Q F Mt m o ((j, z_rA K L H S Q 0) :: W) M lw hg → x_stk K L H S Q F W → z_wt ((j, z_rA K L H S Q 0) :: W) ≤ B → wX_follow_2 post k (nI j) (nI W.length) (nI m) (nI o) 0 xpl xle xmo lw hg k2 l2 h2 xln xst xop xd xs xsz xof xim xth K L H S Q F Mt xG xrg xce xpk xus xky xsr) :
    wX_follow_60 post (wX_follow_2 post k) (nI i) (nI W.length) (nI m) (nI o) 0 xpl xle xmo xlw xhg xk2 xl2 xh2 xln xst xop xd xs xsz xof xim xth xK xL xH xS xQ xF xM xG xrg xce xpk xus xky xsr := by
  obtain ⟨hcw, po, pd, ps, pof, pim⟩ := hp i hi
  have hJ' := hJ
  obtain ⟨j1, j2, ⟨s1, s2, s3, s4⟩, j4, j5, j6⟩ := hJ
  dsimp only at s1 s2 s3
  have hw : W.length < 11 := by have := hcj i; omega
  have sw := stp_wf hcw (by omega) s3
  unfold wX_follow_60
  rw [ix80]
  obtain ⟨k, rfl⟩ : ∃ k', k = k' + 1 := ⟨k - 1, by omega⟩
  refine x_one (w := W.length) po pd ps pof pim hcw (by omega) hw s3 ?_
  have runs : ∀ (ρ : zR) (q : Nat), z_el (fun f => ρ = Sum.inl (f, i)) (fun lo hi => z_run P n ρ q W (z_ad M i) (z_mn xlw lo) (z_mh xhg hi))
        (fun j B => z_run P n ρ q ((j, B) :: W) (z_ad M i) xlw xhg) (fun j C l B => z_run P n ρ q ((j, C) :: (l, B) :: W) (z_ad M i) xlw xhg) (z_stp (P i) i (z_rA xK xL xH xS xQ 0)) → z_run P n ρ (q + 1) ((i, z_rA xK xL xH xS xQ 0) :: W) M xlw xhg := fun ρ q h => Or.inr ⟨hi, h⟩
  rcases e : z_stp (P i) i (z_rA xK xL xH xS xQ 0) with f | p | p | q
  · rw [e] at runs sw
    intro r k2 l2 h2 K L H Q
    have hz : Z (Sum.inl (f, i)) := j5 _ ⟨1, runs _ 0 rfl⟩
    have hpost := hF (nI W.length) (nI m) (nI o) f i xlw xhg k2 l2 h2 K L H xS Q xF xM sw hz
    show wX_follow_2 post (k + 1) r _ _ _ _ _ _ _ _ _ _ _ _ _ _ _ _ _ _ _ _ _ _ _ _ _ _ _ _ _ _ _ _ _ _ _
    rw [wX_follow_2]
    exact br_c (fun _ => hpost) (fun _ => br_f sw hpost)
  · obtain ⟨lo, hi'⟩ := p
    rw [e] at runs
    intro k2 l2 h2
    have hI := J_I (K' := xK) (L' := xL) (H' := xH) (S' := xS) (Q' := xQ) (F' := xF) (Mt := xM) hJ' (by omega) [] (st_E (M := M) (L := xlw) (H := xhg) hi e) (fun p hp => (List.not_mem_nil hp).elim) (fun _ x => Or.inr x) (mn_le _ _) (mh_le _ _) s4 (fun ρ ⟨q, hq⟩ => ⟨q + 1, runs ρ q hq⟩) (fun r hr => ⟨rfl, rfl⟩) hmt
    have hpost := hE m o W _ _ _ k2 l2 h2 xK xL xH xS xQ xF xM hI hstk (Nat.lt_of_lt_of_le wt_0 hB)
    show wX_follow_2 post (k + 1) (-1) _ _ _ _ _ _ _ _ _ _ _ _ _ _ _ _ _ _ _ _ _ _ _ _ _ _ _ _ _ _ _ _ _ _ _
    rw [wX_follow_2]
    exact br_t (by decide) hpost
  · obtain ⟨j, B1⟩ := p
    rw [e] at runs sw
    obtain ⟨t1, t2, t3⟩ := sw
    dsimp only at t1 t2 t3
    intro k2 l2 h2 K L H Q a1 a2
    have hI := J_I (K' := K) (L' := L) (H' := H) (S' := xS) (Q' := Q) (F' := xF) (Mt := xM) hJ' (by omega) [(j, B1)] (st_1 (M := M) (L := xlw) (H := xhg) hi e) (fun p hp => by rw [List.mem_singleton.mp hp]; exact t1) (fun _ x => Or.inr x) (Int64.le_refl _) (Int64.le_refl _) ⟨Nat.le_trans s1 (cj_le P (Nat.le_of_lt t1)), t2, t3, s4⟩ (fun ρ ⟨q, hq⟩ => ⟨q + 1, runs ρ q hq⟩) (fun r hr => ⟨a2 _ (by omega), rfl⟩) hmt
    have a1' : z_rA K L H xS Q 0 = B1 := a1
    rw [← a1'] at hI
    exact next j W _ _ _ k2 l2 h2 K L H xS Q xF xM t1 hI (stk_mono hstk (fun c h1 h2 => ⟨a2 c (by omega), rfl⟩)) (Nat.le_trans (wt_1 t1) hB)
  · obtain ⟨⟨j, C⟩, ⟨l, B1⟩⟩ := q
    rw [e] at runs sw
    obtain ⟨t1, t2, t3, t4, t5, t6⟩ := sw
    dsimp only at t1 t2 t3 t4 t5 t6
    have ecj : z_cj P j = z_cj P i + 1 := by rw [t1, z_cj, if_pos t6]
    intro k2 l2 h2 K L H S Q F a1 a2 a3 a4 a5
    have hI := J_I (K' := K) (L' := L) (H' := H) (S' := S) (Q' := Q) (F' := F) (Mt := xM) hJ' (by omega) [(j, C), (l, B1)] (st_2 (M := M) (L := xlw) (H := xhg) hi e) (fun p hp => by
      rcases List.mem_cons.mp hp with q | q
      · rw [q]; show i < j; omega
      · rw [List.mem_singleton.mp q]; exact t2) (fun _ x => Or.inr x) (Int64.le_refl _) (Int64.le_refl _)
      ⟨by show W.length + 1 ≤ z_cj P j; omega, by show j ≤ 40; omega, t4, Nat.le_trans s1 (cj_le P (Nat.le_of_lt t2)), t3, t5, s4⟩ (fun ρ ⟨q, hq⟩ => ⟨q + 1, runs ρ q hq⟩) (fun r hr => ⟨a3 _ (by omega) (by omega), a5 _ (by omega)⟩) hmt
    have a1' : z_rA K L H S Q 0 = C := a1
    rw [← a1'] at hI
    exact next j ((l, B1) :: W) _ _ _ k2 l2 h2 K L H S Q F xM (by omega) hI ⟨a2, a4, stk_mono hstk (fun c h1 h2 => ⟨a3 c (by omega) (by omega), a5 c (by omega)⟩)⟩ (Nat.le_trans (wt_2 s2 (by omega) t2) hB)
theorem x_followL {post : SX → Prop} {P : Nat → zC} {n B : Nat} {Z : zR → Prop} {A0 : zA} (hp : x_prog 80 xop xd xs xof xim P n) (hn : n ≤ 40) (hsz : xsz 2 = nI n) (hcj : ∀ j, z_cj P j ≤ 10) (hF : (∀ (w fo ol f : Int32) (p : Nat) (lw hg : Int64) (k2 : Int32) (l2 h2 : Int64) (K : Nat → Int32) (L H : Nat → Int64) (S Q F Mt : Nat → Int32), ¬ f = 0 → Z (Sum.inl (f, p)) → post ((w, fo, ol, f, nI p, xle, xmo, lw, hg, k2, l2, h2, xln, xst, xop, xd, xs, xsz, xof, xim, xth, K, L, H, S, Q, F, Mt, xG, xrg, xce, xpk, xus, xky, xsr)))) (hE : (∀ (m o : Nat) (W : List (Nat × zA)) (M : Nat → Prop) (lw hg : Int64) (k2 : Int32) (l2 h2 : Int64) (K : Nat → Int32) (L H : Nat → Int64) (S Q F Mt : Nat → Int32), x_I P n Z A0 K L H S Q F Mt m o W M lw hg → x_stk K L H S Q F W → z_wt W < B → post ((nI W.length, nI m, nI o, 0, xpl, xle, xmo, lw, hg, k2, l2, h2, xln, xst, xop, xd, xs, xsz, xof, xim, xth, K, L, H, S, Q, F, Mt, xG, xrg, xce, xpk, xus, xky, xsr)))) :
    ∀ (d i m o : Nat) (W : List (Nat × zA)) (M : Nat → Prop) (lw hg : Int64) (k2 : Int32) (l2 h2 : Int64) (K : Nat → Int32) (L H : Nat → Int64) (S Q F Mt : Nat → Int32), 41 - i ≤ d → x_I P n Z A0 K L H S Q F Mt m o ((i, z_rA K L H S Q 0) :: W) M lw hg → x_stk K L H S Q F W → z_wt ((i, z_rA K L H S Q 0) :: W) ≤ B → ∀ k, d < k → wX_follow_2 post k (nI i) (nI W.length) (nI m) (nI o) 0 xpl xle xmo lw hg k2 l2 h2 xln xst xop xd xs xsz xof xim xth K L H S Q F Mt xG xrg xce xpk xus xky xsr := by
  intro d
  induction d with
  | zero =>
    intro i m o W M lw hg k2 l2 h2 K L H S Q F Mt hd hI
    have := hI.2.2.2.1.2.1
    dsimp only at this
    omega
  | succ d ih =>
    intro i m o W M lw hg k2 l2 h2 K L H S Q F Mt hd hI hstk hB k hk
    obtain ⟨k, rfl⟩ : ∃ k', k = k' + 1 := ⟨k - 1, by omega⟩
    obtain ⟨i1, i2, i3, ⟨s1, s2, s3, s4⟩, i5, i6, i7⟩ := hI
    dsimp only at s1 s2 s3
    rw [wX_follow_2]
    refine br_f (nI_pos (by omega)) (br_t rfl ?_)
    rw [hsz]
    by_cases c : i < n
    · have vi : vp_in (nI i) 41 := vp_in_nI (by omega) (by omega)
      have ei : (nI i).toNatClampNeg = i := nI_clamp (by omega)
      refine br_t (nI_lt c (by omega)) ⟨vi, nm_r (e' := upd Mt i 1) (by rw [ei, nb_1]) ⟨vi, ?_⟩⟩
      have hmt : ∀ j, j < 41 → (upd Mt i 1 j = 0 ↔ ¬ z_ad M i j) := by
        intro j hj
        by_cases e : j = i
        · rw [e, pk_us]
          exact ⟨fun z => absurd z (by decide), fun z => absurd (Or.inl rfl) z⟩
        · rw [pk_un e, i3 j hj]
          exact ⟨fun z y => y.elim e z, fun z y => z (Or.inr y)⟩
      have next : ∀ (m o j : Nat) (W : List (Nat × zA)) (M : Nat → Prop) (lw hg : Int64) (k2 : Int32) (l2 h2 : Int64) (K : Nat → Int32) (L H : Nat → Int64) (S Q F Mt : Nat → Int32), i < j → x_I P n Z A0 K L H S Q F Mt m o ((j, z_rA K L H S Q 0) :: W) M lw hg → x_stk K L H S Q F W → z_wt ((j, z_rA K L H S Q 0) :: W) ≤ B → wX_follow_2 post k (nI j) (nI W.length) (nI m) (nI o) 0 xpl xle xmo lw hg k2 l2 h2 xln xst xop xd xs xsz xof xim xth K L H S Q F Mt xG xrg xce xpk xus xky xsr :=
        fun m o j W M lw hg k2 l2 h2 K L H S Q F Mt hij a b c => ih j m o W M lw hg k2 l2 h2 K L H S Q F Mt (by omega) a b c k (by omega)
      refine br_c (fun _ => ?_) (fun _ => ?_)
      · exact x_f60 hp hn hcj hF hE (M := M) c ⟨i1, i2, ⟨s1, s2, s3, s4⟩, i5, i6, fun r hr => Or.inl (i7 r hr)⟩ hstk hmt hB (by omega) (next m o)
      · refine x_seen (by omega) i1 i2 (kb_row s3) (fun r hr hr2 hle => br_f (by decide) ?_) (fun K' L' H' S' Q' F' m' o' r b1 b2 b3 b4 b5 b6 b7 => br_t rfl ?_)
        · obtain ⟨j, c1, c2, c3⟩ := i7 r hr
          have ej : j = i := (nI_eq (by omega) (by omega)).mp (c1.symm.trans hr2)
          subst ej
          have g := fk_prune c3
          have wt := c3.1
          have g' := gw_le (fun i hi => (hp i hi).1) hn g wt s3 hle
          have gM := gw_M g'
          have eM : z_ad M j = M := ad_eq gM.1
          rw [eM] at hmt
          refine hE m o W M lw hg k2 l2 h2 K L H S Q F _ ⟨i1, i2, hmt, s4, ?_, fun ρ hρ => i6 ρ (gw_run g' ρ W hρ), fun r hr => ?_⟩ hstk (Nat.lt_of_lt_of_le wt_0 hB)
          · exact gw_step i5 g' (fun _ x => x) (Int64.le_refl _) (Int64.le_refl _)
          · obtain ⟨q, d1, d2, d3⟩ := i7 r hr
            exact ⟨q, d1, d2, fk_step d3 g' (fun p hp => (List.not_mem_nil hp).elim) (fun _ x => x) (Int64.le_refl _) (Int64.le_refl _)⟩
        · have e0 : z_rA K' L' H' S' Q' 0 = z_rA K L H S Q 0 := (b7 0 (by omega)).1
          have hstk' : x_stk K' L' H' S' Q' F' W := stk_mono hstk (fun c h1 h2 => b7 c (by have := hcj i; omega))
          refine x_f60 hp hn hcj hF hE (M := M) c ?_ hstk' hmt (by rw [e0]; exact hB) (by omega) (next m' o')
          rw [e0]
          refine ⟨b1, b2, ⟨s1, s2, s3, s4⟩, i5, i6, fun r' hr' => ?_⟩
          by_cases er : r' = r
          · rw [er]; exact Or.inr ⟨b6, b5⟩
          · have b8 := b7 (12 + r') (by omega)
            rw [b8.1, b8.2]
            refine Or.inl (i7 r' ?_)
            rcases b4 r' hr' with q | q
            · exact absurd q er
            · exact q
    · refine br_f (nI_nlt (by omega) (by omega)) (x_fail ?_)
      have hz : Z (Sum.inl (1, n)) := i6 _ ⟨1, Or.inl ⟨by show n ≤ i; omega, rfl⟩⟩
      exact hF _ _ _ 1 n lw hg k2 l2 h2 K L H S Q F Mt (by decide) hz
end XK
end
section
/-! the component: the ways that wait -/
theorem I_mono {P : Nat → zC} {n : Nat} {Z : zR → Prop} {A0 : zA} {K K' : Nat → Int32} {L H L' H' : Nat → Int64} {S Q F Mt S' Q' : Nat → Int32} {m o : Nat} {St : List (Nat × zA)} {M : Nat → Prop} {lw hg : Int64} (h : x_I P n Z A0 K L H S Q F Mt m o St M lw hg) (hr : ∀ r, r < 30 → z_rA K' L' H' S' Q' (12 + r) = z_rA K L H S Q (12 + r)) : x_I P n Z A0 K' L' H' S' Q' F Mt m o St M lw hg := by
  obtain ⟨i1, i2, i3, i4, i5, i6, i7⟩ := h
  refine ⟨i1, i2, i3, i4, i5, i6, fun r hr2 => ?_⟩
  rw [hr r (by omega)]
  exact i7 r hr2
section XL
variable {xw xfo xol xfa xpl : Int32} {xle xmo xlw xhg : Int64} {xk2 : Int32} {xl2 xh2 : Int64} {xln xst : Int32} {xop xd xs xsz xof xim xth xK : Nat → Int32} {xL xH : Nat → Int64} {xS xQ xF xM xG : Nat → Int32} {xrg xce : Nat → Int64} {xpk xus xky : Nat → Int32} {xsr : Nat → Int64}
theorem x_v36 {post : Int32 → SX → Prop} {x1 : Int32} {P : Nat → zC} {n : Nat} {Z : zR → Prop} {A0 : zA} (hp : x_prog 80 xop xd xs xof xim P n) (hn : n ≤ 40) (hsz : xsz 2 = nI n) (hcj : ∀ j, z_cj P j ≤ 10) (hBad : (∀ (w fo ol f : Int32) (p : Nat) (lw hg : Int64) (k2 : Int32) (l2 h2 : Int64) (K : Nat → Int32) (L H : Nat → Int64) (S Q F Mt : Nat → Int32), ¬ f = 0 → Z (Sum.inl (f, p)) → ∃ n91, wX_verify_91 post x1 n91 0 w fo ol f (nI p) xle xmo lw hg k2 l2 h2 xln xst xop xd xs xsz xof xim xth K L H S Q F Mt xG xrg xce xpk xus xky xsr)) (hOK : (∀ (w fo ol : Int32) (M : Nat → Prop) (lw hg : Int64) (k2 : Int32) (l2 h2 : Int64) (K : Nat → Int32) (L H : Nat → Int64) (S Q F Mt : Nat → Int32), Z (Sum.inr (M, lw, hg)) → z_gw P n M lw hg [] 0 A0 → (∀ j, j < 41 → (Mt j = 0 ↔ ¬ M j)) → ∃ n91, wX_verify_91 post x1 n91 0 w fo ol 0 xpl xle xmo lw hg k2 l2 h2 xln xst xop xd xs xsz xof xim xth K L H S Q F Mt xG xrg xce xpk xus xky xsr)) :
    ∀ (b m o : Nat) (W : List (Nat × zA)) (M : Nat → Prop) (lw hg : Int64) (k2 : Int32) (l2 h2 : Int64) (K : Nat → Int32) (L H : Nat → Int64) (S Q F Mt : Nat → Int32), x_I P n Z A0 K L H S Q F Mt m o W M lw hg → x_stk K L H S Q F W → z_wt W ≤ b → W.length ≤ 11 → ∀ k, b + 1 < k → wX_verify_36 post x1 k (nI W.length) (nI m) (nI o) 0 xpl xle xmo lw hg k2 l2 h2 xln xst xop xd xs xsz xof xim xth K L H S Q F Mt xG xrg xce xpk xus xky xsr := by
  intro b
  induction b with
  | zero =>
    intro m o W M lw hg k2 l2 h2 K L H S Q F Mt hI hstk hb hl k hk
    obtain ⟨k, rfl⟩ : ∃ k', k = k' + 1 := ⟨k - 1, by omega⟩
    rw [wX_verify_36]
    cases W with
    | nil => exact br_t (by decide) (hOK _ _ _ M lw hg k2 l2 h2 K L H S Q F Mt (hI.2.2.2.2.2.1 _ ⟨1, rfl⟩) hI.2.2.2.2.1 hI.2.2.1)
    | cons p W =>
      have := wt_0 (i := p.1) (A := p.2) (W := W)
      have e : (p.1, p.2) = p := rfl
      rw [e] at this
      omega
  | succ b ih =>
    intro m o W M lw hg k2 l2 h2 K L H S Q F Mt hI hstk hb hl k hk
    obtain ⟨k, rfl⟩ : ∃ k', k = k' + 1 := ⟨k - 1, by omega⟩
    rw [wX_verify_36]
    cases W with
    | nil => exact br_t (by decide) (hOK _ _ _ M lw hg k2 l2 h2 K L H S Q F Mt (hI.2.2.2.2.2.1 _ ⟨1, rfl⟩) hI.2.2.2.2.1 hI.2.2.1)
    | cons p W =>
      obtain ⟨j, B⟩ := p
      obtain ⟨t1, t2, t3⟩ := hstk
      dsimp only at t1 t2
      rw [List.length_cons] at hl
      obtain ⟨s1, s2, s3, s4⟩ := hI.2.2.2.1
      dsimp only at s1 s2 s3
      have e1 : (1 : Int32) + nI W.length = nI (W.length + 1) := by rw [show (1 : Int32) = nI 1 from rfl, nI_add, Nat.add_comm]
      have v1 : vp_in (1 + nI W.length) 42 := by rw [e1]; exact vp_in_nI (by omega) (by omega)
      have e2 : (1 + nI W.length).toNatClampNeg = W.length + 1 := by rw [e1]; exact nI_clamp (by omega)
      refine br_f (nI_nle (by rw [List.length_cons]; omega) (by rw [List.length_cons]; omega)) (br_t rfl (nm_r (nI_pred W.length) ?_))
      refine x_copy (W.length + 1) 0 e1 rfl (by omega) (by omega) (by omega) (kb_row (i := j) (by rw [t1]; exact s3)) (fun K' L' H' S' Q' a1 a2 => ⟨v1, ?_⟩)
      rw [e2, t2]
      have hI' : x_I P n Z A0 K' L' H' S' Q' F Mt m o ((j, z_rA K' L' H' S' Q' 0) :: W) M lw hg := by
        rw [a1, t1]
        exact I_mono hI (fun r hr => a2 _ (by omega))
      refine ⟨43, x_followL (B := b + 1) hp hn hsz hcj (fun w fo ol f p lw hg k2 l2 h2 K L H S Q F Mt hne hz => ?_) (fun m o W M lw hg k2 l2 h2 K L H S Q F Mt hI hs hw => ?_) 41 j m o W M lw hg k2 l2 h2 K' L' H' S' Q' F Mt (by omega) hI' (stk_mono t3 (fun c h1 h2 => ⟨a2 c (by omega), rfl⟩)) (by rw [a1, t1]; exact hb) 43 (by omega)⟩
      · obtain ⟨k, rfl⟩ : ∃ k', k = k' + 1 := ⟨k - 1, by omega⟩
        show wX_verify_36 post x1 (k + 1) _ _ _ _ _ _ _ _ _ _ _ _ _ _ _ _ _ _ _ _ _ _ _ _ _ _ _ _ _ _ _ _ _ _ _
        rw [wX_verify_36]
        have g := hBad w fo ol f p lw hg k2 l2 h2 K L H S Q F Mt hne hz
        exact br_c (fun _ => g) (fun _ => br_f hne g)
      · refine ih m o W M lw hg k2 l2 h2 K L H S Q F Mt hI hs (by omega) ?_ k (by omega)
        cases W with
        | nil => show 0 ≤ 11; omega
        | cons p W =>
          obtain ⟨q1, q2, q3, q4⟩ := hI.2.2.2.1
          have := hcj p.1
          show W.length + 1 ≤ 11
          omega
end XL
end
section
/-! the component: verify -/
def z_A0 : zA := (z_set (z_set (fun _ => (0, 0, 0)) 1 (2, 0, 0)) 2 (3, 0, 0), 0, 0)
def z_run0 (P : Nat → zC) (n : Nat) (r : zR) : Prop := ∃ k, z_run P n r k [(0, z_A0)] (fun _ => False) 4294967296 (-1)
/-- what verifying answers -/
def z_ver (P : Nat → zC) (n : Nat) (ρ : (Int32 × Nat) ⊕ (Int64 × Int64)) : Prop :=
  (∃ q, q < n ∧ z_cj P q = 10 ∧ z_cj P (q + 1) = 11 ∧ ρ = Sum.inl (5, q)) ∨
  (z_cj P n ≤ 10 ∧ ((∃ f q, z_run0 P n (Sum.inl (f, q)) ∧ ¬ f = 0 ∧ ρ = Sum.inl (f, q)) ∨
    (∃ M L H, z_run0 P n (Sum.inr (M, L, H)) ∧ ((∃ q, q < n ∧ ¬ M q ∧ (∀ j, j < q → M j) ∧ ρ = Sum.inl (6, q)) ∨ ((∀ j, j < n → M j) ∧ ρ = Sum.inr (L, H))))))
theorem A0_wf : z_wf 0 z_A0 := by
  refine ⟨fun k => ?_, ⟨0, by omega, rfl⟩, ⟨0, by omega, rfl⟩, fun k hk => ?_⟩
  · show z_vw 0 0 (if k = 2 then (3, 0, 0) else if k = 1 then (2, 0, 0) else (0, 0, 0))
    by_cases c : k = 2
    · rw [if_pos c]; exact Or.inr (Or.inr (Or.inr (Or.inl rfl)))
    · rw [if_neg c]
      by_cases c : k = 1
      · rw [if_pos c]; exact Or.inr (Or.inr (Or.inl ⟨rfl, by decide, by decide, by decide⟩))
      · rw [if_neg c]; exact Or.inl rfl
  · show (if k = 2 then ((3, 0, 0) : zV) else if k = 1 then (2, 0, 0) else (0, 0, 0)) = _
    rw [if_neg (by omega), if_neg (by omega)]
theorem cj_le_i (P : Nat → zC) : ∀ i, z_cj P i ≤ i
  | 0 => Nat.le_refl _
  | i + 1 => by
    have := cj_le_i P i
    rw [z_cj]
    split <;> omega
/-- a part of the draft, copied -/
def z_cp (f : Nat → Int32) (p i : Nat) : Nat → Int32 := fun j => if 40 * p ≤ j ∧ j < 40 * p + i then f (80 + (j - 40 * p)) else f j
theorem cp_0 (f : Nat → Int32) (p : Nat) : z_cp f p 0 = f := by
  funext j
  exact if_neg (by omega)
theorem cp_src {f : Nat → Int32} {p i : Nat} (hp : p ≤ 1) (hi : i ≤ 40) (k : Nat) : z_cp f p i (80 + k) = f (80 + k) := if_neg (by omega)
theorem cp_s {f : Nat → Int32} {p i : Nat} : upd (z_cp f p i) (40 * p + i) (f (80 + i)) = z_cp f p (i + 1) := by
  funext j
  show _ = if 40 * p ≤ j ∧ j < 40 * p + (i + 1) then f (80 + (j - 40 * p)) else f j
  by_cases e : j = 40 * p + i
  · rw [e, pk_us, if_pos (by omega), show 40 * p + i - 40 * p = i by omega]
  · rw [pk_un e]
    show (if 40 * p ≤ j ∧ j < 40 * p + i then f (80 + (j - 40 * p)) else f j) = _
    by_cases c : 40 * p ≤ j ∧ j < 40 * p + i
    · rw [if_pos c, if_pos (by omega)]
    · rw [if_neg c, if_neg (by omega)]
theorem ix40 (p i : Nat) : (40 : Int32) * nI p + nI i = nI (40 * p + i) := by rw [show (40 : Int32) = nI 40 from rfl, pk_mul, nI_add]
section XM
variable {xw xfo xol xfa xpl : Int32} {xle xmo xlw xhg : Int64} {xk2 : Int32} {xl2 xh2 : Int64} {xln xst : Int32} {xop xd xs xsz xof xim xth xK : Nat → Int32} {xL xH : Nat → Int64} {xS xQ xF xM xG : Nat → Int32} {xrg xce : Nat → Int64} {xpk xus xky : Nat → Int32} {xsr : Nat → Int64}
theorem x_beginL {post : SX → Prop} (hh : ∀ K L H, z_row K L H 1 = (fun _ => (0, 0, 0)) → wpX_set (fun u => match u with | (xw, xfo, xol, xfa, xpl, xle, xmo, xlw, xhg, xk2, xl2, xh2, xln, xst, xop, xd, xs, xsz, xof, xim, xth, xK, xL, xH, xS, xQ, xF, xM, xG, xrg, xce, xpk, xus, xky, xsr) => wpX_set (fun u => match u with | (xw, xfo, xol, xfa, xpl, xle, xmo, xlw, xhg, xk2, xl2, xh2, xln, xst, xop, xd, xs, xsz, xof, xim, xth, xK, xL, xH, xS, xQ, xF, xM, xG, xrg, xce, xpk, xus, xky, xsr) => ∀ s : Nat → Int32, s = upd xS 1 0 → ∀ q : Nat → Int32, q = upd xQ 1 0 → ∀ f : Nat → Int32, f = upd xF 1 (vp_nar .byte 0) → post ((1, 0, 0, xfa, xpl, xle, xmo, 4294967296, -1, xk2, xl2, xh2, xln, xst, xop, xd, xs, xsz, xof, xim, xth, xK, xL, xH, s, q, f, xM, xG, xrg, xce, xpk, xus, xky, xsr))) ((xw, xfo, xol, xfa, xpl, xle, xmo, xlw, xhg, xk2, xl2, xh2, xln, xst, xop, xd, xs, xsz, xof, xim, xth, xK, xL, xH, xS, xQ, xF, xM, xG, xrg, xce, xpk, xus, xky, xsr)) 16 3 0 0) ((xw, xfo, xol, xfa, xpl, xle, xmo, xlw, xhg, xk2, xl2, xh2, xln, xst, xop, xd, xs, xsz, xof, xim, xth, K, L, H, xS, xQ, xF, xM, xG, xrg, xce, xpk, xus, xky, xsr)) 15 2 0 0) :
    ∀ (m j : Nat) (K : Nat → Int32) (L H : Nat → Int64), j + m = 14 → (∀ k, k < j → K (14 + k) = 0 ∧ L (14 + k) = 0 ∧ H (14 + k) = 0) → ∀ n, m < n → wX_begin_2 post n (nI j) xw xfo xol xfa xpl xle xmo xlw xhg xk2 xl2 xh2 xln xst xop xd xs xsz xof xim xth K L H xS xQ xF xM xG xrg xce xpk xus xky xsr := by
  intro m
  induction m with
  | zero =>
    intro j K L H hj hc n hn
    obtain ⟨n, rfl⟩ : ∃ n', n = n' + 1 := ⟨n - 1, by omega⟩
    obtain rfl : j = 14 := by omega
    rw [wX_begin_2]
    refine br_t (nI_le (a := 14) (b := 14) (by omega) (by omega)) (hh K L H ?_)
    funext k
    by_cases c : k < 14
    · obtain ⟨a, b, d⟩ := hc k c
      rw [row_at c, show 14 * 1 + k = 14 + k by omega, a, b, d]
    · rw [row_big (by omega)]
  | succ m ih =>
    intro j K L H hj hc n hn
    obtain ⟨n, rfl⟩ : ∃ n', n = n' + 1 := ⟨n - 1, by omega⟩
    rw [wX_begin_2]
    have e14 : (14 : Int32) + nI j = nI (14 + j) := by rw [show (14 : Int32) = nI 14 from rfl, nI_add]
    refine br_f (nI_ge (b := 14) (by omega) (by omega)) (x_set (14 + j) e14 (by omega) kb_01.1 (nm_r (nI_1 j) (ih (j + 1) _ _ _ (by omega) (fun k hk => ?_) n (by omega))))
    by_cases e : k = j
    · rw [e, pk_us, pk_uLs, pk_uLs]; exact ⟨rfl, rfl, rfl⟩
    · rw [pk_un (by omega), pk_uLn (by omega), pk_uLn (by omega)]; exact hc k (by omega)
theorem x_begin {post : SX → Prop} (hh : ∀ K L H S Q F, z_rA K L H S Q 1 = z_A0 → F 1 = nI 0 → post ((1, 0, 0, xfa, xpl, xle, xmo, 4294967296, -1, xk2, xl2, xh2, xln, xst, xop, xd, xs, xsz, xof, xim, xth, K, L, H, S, Q, F, xM, xG, xrg, xce, xpk, xus, xky, xsr))) : wpX_begin post ((xw, xfo, xol, xfa, xpl, xle, xmo, xlw, xhg, xk2, xl2, xh2, xln, xst, xop, xd, xs, xsz, xof, xim, xth, xK, xL, xH, xS, xQ, xF, xM, xG, xrg, xce, xpk, xus, xky, xsr)) := by
  refine ⟨15, x_beginL (fun K L H hr => ?_) 14 0 xK xL xH (by omega) (fun k hk => by omega) 15 (by omega)⟩
  refine x_set 15 rfl (by omega) kb_01.2.2.1 (x_set 16 rfl (by omega) kb_01.2.2.2.1 (nm_e (nm_e (nm_e (hh _ _ _ _ _ _ ?_ ?_)))))
  · unfold z_rA
    have a := row_set (K := K) (L := L) (H := H) (b := 1) (k := 1) (v := 2) (l := 0) (h := 0) (by omega)
    have b := row_set (K := upd K 15 2) (L := vp_updL L 15 0) (H := vp_updL H 15 0) (b := 1) (k := 2) (v := 3) (l := 0) (h := 0) (by omega)
    rw [pk_us, pk_us]
    exact congrArg (fun g : Nat → zV => (g, (0 : Int32), (0 : Int32))) (b.trans (by rw [show z_row (upd K 15 2) (vp_updL L 15 0) (vp_updL H 15 0) 1 = z_set (z_row K L H 1) 1 (2, 0, 0) from a, hr]))
  · rw [pk_us]; exact kb_n kb_01.1
theorem x_p100 {post : SX → Prop} {J : _} {n j : Nat} {x1 : Int32} (hn : n ≤ 40) (hj : j < n) (hsz : xsz 2 = nI n) (hh : ∀ G, J x1 (nI (j + 1)) xw xfo xol xfa xpl xle xmo xlw xhg xk2 xl2 xh2 xln xst xop xd xs xsz xof xim xth xK xL xH xS xQ xF xM G xrg xce xpk xus xky xsr) : wX_prepare_100 post J x1 (nI j) xw xfo xol xfa xpl xle xmo xlw xhg xk2 xl2 xh2 xln xst xop xd xs xsz xof xim xth xK xL xH xS xQ xF xM xG xrg xce xpk xus xky xsr := by
  have v80 : vp_in (80 + nI j) 120 := by rw [ix80]; exact vp_in_nI (by omega) (by omega)
  have go : ∀ G, ∀ y : Int32, y = nI j + 1 → J x1 y xw xfo xol xfa xpl xle xmo xlw xhg xk2 xl2 xh2 xln xst xop xd xs xsz xof xim xth xK xL xH xS xQ xF xM G xrg xce xpk xus xky xsr := fun G => nm_r (nI_1 j) (hh G)
  refine ⟨v80, nm_e ⟨v80, br_c (fun _ => go xG) (fun z => br_c (fun _ => go xG) (fun z1 => ?_))⟩⟩
  obtain ⟨k, hk, ek⟩ := nI_of z
  rw [ek, hsz, nI_l (by omega), nI_l (by omega), nI_l hk, lN_1, lN_add, pk_lLE (by omega) (by omega)] at z1
  have e : ((nI j).toInt64 + 1 + (xof (80 + nI j).toNatClampNeg).toInt64).toInt32 = nI (j + 1 + k) := by
    rw [ek, nI_l (by omega), nI_l hk, lN_1, lN_add, lN_i]
  exact ⟨by rw [e]; exact vp_in_nI (by omega) (by omega), nm_e (go _)⟩
theorem x_prep32 {post : SX → Prop} {P : Nat → zC} {n : Nat} (hp : x_prog 80 xop xd xs xof xim P n) (hn : n ≤ 40) (hsz : xsz 2 = nI n) (h0 : z_cj P n ≤ 10 → ∀ G, post ((xw, xfo, xol, 0, xpl, xle, xmo, xlw, xhg, xk2, xl2, xh2, xln, xst, xop, xd, xs, xsz, xof, xim, xth, xK, xL, xH, xS, xQ, xF, xM, G, xrg, xce, xpk, xus, xky, xsr))) (h5 : ∀ p, p < n → z_cj P p = 10 → z_cj P (p + 1) = 11 → ∀ G, post ((xw, xfo, xol, 5, nI p, xle, xmo, xlw, xhg, xk2, xl2, xh2, xln, xst, xop, xd, xs, xsz, xof, xim, xth, xK, xL, xH, xS, xQ, xF, xM, G, xrg, xce, xpk, xus, xky, xsr))) :
    ∀ (m j : Nat) (fa pl : Int32) (G : Nat → Int32), j + m = n → ((z_cj P j ≤ 10 ∧ fa = 0 ∧ pl = xpl) ∨ (∃ p, p < j ∧ z_cj P p = 10 ∧ z_cj P (p + 1) = 11 ∧ fa = 5 ∧ pl = nI p)) → ∀ k, m < k → wX_prepare_32 post k (nI (z_cj P j)) (nI j) xw xfo xol fa pl xle xmo xlw xhg xk2 xl2 xh2 xln xst xop xd xs xsz xof xim xth xK xL xH xS xQ xF xM G xrg xce xpk xus xky xsr := by
  intro m
  induction m with
  | zero =>
    intro j fa pl G hj hs k hk
    obtain ⟨k, rfl⟩ : ∃ k', k = k' + 1 := ⟨k - 1, by omega⟩
    obtain rfl : j = n := by omega
    rw [wX_prepare_32]
    refine br_t (by rw [hsz]; exact nI_le (Nat.le_refl _) (by omega)) ?_
    rcases hs with ⟨a, rfl, rfl⟩ | ⟨p, a, b, c, rfl, rfl⟩
    · exact h0 a G
    · exact h5 p a b c G
  | succ m ih =>
    intro j fa pl G hj hs k hk
    obtain ⟨k, rfl⟩ : ∃ k', k = k' + 1 := ⟨k - 1, by omega⟩
    rw [wX_prepare_32]
    obtain ⟨hcw, po, -⟩ := hp j (by omega)
    have hnm := hcw.1
    have cji := cj_le_i P j
    have v80 : vp_in (80 + nI j) 120 := by rw [ix80]; exact vp_in_nI (by omega) (by omega)
    have po' : xop (80 + nI j).toNatClampNeg = nI (P j).1 := by rw [ix80, nI_clamp (by omega), po]
    have o61 : (P j).1 < 61 := by unfold z_nm at hnm; omega
    have inv : ¬ (20 < (P j).1 ∧ (P j).1 < 40) → ∀ G, wX_prepare_32 post k (nI (z_cj P j)) (nI (j + 1)) xw xfo xol fa pl xle xmo xlw xhg xk2 xl2 xh2 xln xst xop xd xs xsz xof xim xth xK xL xH xS xQ xF xM G xrg xce xpk xus xky xsr := by
      intro c G
      have e : z_cj P (j + 1) = z_cj P j := by rw [z_cj, if_neg c]; rfl
      have r := ih (j + 1) fa pl G (by omega) (by
        rw [e]
        rcases hs with a | ⟨p, a, b⟩
        · exact Or.inl a
        · exact Or.inr ⟨p, by omega, b⟩) k (by omega)
      rw [e] at r
      exact r
    have nxt : ¬ (20 < (P j).1 ∧ (P j).1 < 40) → ∀ y : Int32, y = nI j + 1 → wX_prepare_32 post k (nI (z_cj P j)) y xw xfo xol fa pl xle xmo xlw xhg xk2 xl2 xh2 xln xst xop xd xs xsz xof xim xth xK xL xH xS xQ xF xM G xrg xce xpk xus xky xsr := fun c => nm_r (nI_1 j) (inv c G)
    have g64 : ((P j).1 ≤ 24 ∨ 31 ≤ (P j).1) → wX_prepare_64 post (wX_prepare_32 post k) (nI (z_cj P j)) (nI j) (nI (P j).1) xw xfo xol fa pl xle xmo xlw xhg xk2 xl2 xh2 xln xst xop xd xs xsz xof xim xth xK xL xH xS xQ xF xM G xrg xce xpk xus xky xsr := by
      intro hr
      by_cases c34 : 34 < (P j).1
      · exact br_t (nI_lt (a := 34) c34 (by omega)) (nxt (by unfold z_nm at hnm; omega))
      refine br_f (nI_nlt (b := (P j).1) (a := 34) (by omega) (by omega)) ?_
      by_cases c20 : 20 ≤ (P j).1
      · refine br_t (nI_le (a := 20) c20 (by omega)) ?_
        by_cases d20 : (P j).1 ≤ 20
        · exact br_t (nI_le (b := 20) d20 (by omega)) (x_p100 hn (by omega) hsz (inv (by omega)))
        · refine br_f (nI_ge (a := 20) (by omega) (by omega)) (nm_r (nI_1 _) ?_)
          have e : z_cj P (j + 1) = z_cj P j + 1 := by rw [z_cj, if_pos (by omega)]
          rw [← e]
          by_cases c11 : z_cj P (j + 1) = 11
          · refine br_t (by rw [c11]; rfl) ?_
            rcases hs with ⟨a, rfl, rfl⟩ | ⟨p, a, b, c, d⟩
            · exact x_fail (x_p100 hn (by omega) hsz (fun G => ih (j + 1) 5 (nI j) G (by omega) (Or.inr ⟨j, by omega, by omega, c11, rfl, rfl⟩) k (by omega)))
            · have := cj_le P (show p + 1 ≤ j by omega)
              omega
          · refine br_f (fun z => c11 ((nI_eq (b := 11) (by have := cj_le_i P (j + 1); omega) (by omega)).mp z)) (x_p100 hn (by omega) hsz (fun G => ih (j + 1) fa pl G (by omega) ?_ k (by omega)))
            rcases hs with ⟨a, b⟩ | ⟨p, a, b⟩
            · exact Or.inl ⟨by omega, b⟩
            · exact Or.inr ⟨p, by omega, b⟩
      · exact br_f (nI_ge (b := 20) (by omega) (by omega)) (nxt (by omega))
    refine br_f (by rw [hsz]; exact nI_ge (by omega) (by omega)) ⟨v80, nm_r po' ?_⟩
    by_cases c24 : (P j).1 ≤ 24
    · exact br_t (nI_le (b := 24) c24 (by omega)) (g64 (Or.inl c24))
    · refine br_f (nI_ge (a := 24) (by omega) (by omega)) ?_
      by_cases c31 : (P j).1 < 31
      · exact br_t (nI_lt (b := 31) c31 (by omega)) (nxt (by unfold z_nm at hnm; omega))
      · exact br_f (nI_nlt (b := 31) (by omega) (by omega)) (g64 (Or.inr (by omega)))
theorem x_prep4 {post : SX → Prop} {x1 : Int32} (hh : ∀ Mt G, (∀ k, k < 41 → Mt k = 0) → ∃ n32, wX_prepare_32 post n32 x1 0 xw xfo xol xfa xpl xle xmo xlw xhg xk2 xl2 xh2 xln xst xop xd xs xsz xof xim xth xK xL xH xS xQ xF Mt G xrg xce xpk xus xky xsr) :
    ∀ (m j : Nat) (Mt G : Nat → Int32), j + m = 41 → (∀ k, k < j → Mt k = 0) → ∀ n, m < n → wX_prepare_4 post x1 xw xfo xol xfa xpl xle xmo xlw xhg xk2 xl2 xh2 xln xst n (nI j) xop xd xs xsz xof xim xth xK xL xH xS xQ xF Mt G xrg xce xpk xus xky xsr := by
  intro m
  induction m with
  | zero =>
    intro j Mt G hj hc n hn
    obtain ⟨n, rfl⟩ : ∃ n', n = n' + 1 := ⟨n - 1, by omega⟩
    obtain rfl : j = 41 := by omega
    rw [wX_prepare_4]
    exact br_t (nI_le (a := 41) (b := 41) (by omega) (by omega)) (hh Mt G hc)
  | succ m ih =>
    intro j Mt G hj hc n hn
    obtain ⟨n, rfl⟩ : ∃ n', n = n' + 1 := ⟨n - 1, by omega⟩
    rw [wX_prepare_4]
    have vi : vp_in (nI j) 41 := vp_in_nI (by omega) (by omega)
    have ei : (nI j).toNatClampNeg = j := nI_clamp (by omega)
    refine br_f (nI_ge (b := 41) (by omega) (by omega)) ⟨vi, nm_e ⟨vi, nm_e (nm_r (nI_1 j) (ih (j + 1) _ _ (by omega) (fun k hk => ?_) n (by omega)))⟩⟩
    rw [ei, nb_0]
    by_cases e : k = j
    · rw [e, pk_us]
    · rw [pk_un e]; exact hc k (by omega)
theorem x_prep {post : SX → Prop} {P : Nat → zC} {n : Nat} (hp : x_prog 80 xop xd xs xof xim P n) (hn : n ≤ 40) (hsz : xsz 2 = nI n) (h0 : z_cj P n ≤ 10 → ∀ Mt G, (∀ k, k < 41 → Mt k = 0) → post ((xw, xfo, xol, 0, xpl, xle, xmo, xlw, xhg, xk2, xl2, xh2, xln, xst, xop, xd, xs, xsz, xof, xim, xth, xK, xL, xH, xS, xQ, xF, Mt, G, xrg, xce, xpk, xus, xky, xsr))) (h5 : ∀ p, p < n → z_cj P p = 10 → z_cj P (p + 1) = 11 → ∀ Mt G, post ((xw, xfo, xol, 5, nI p, xle, xmo, xlw, xhg, xk2, xl2, xh2, xln, xst, xop, xd, xs, xsz, xof, xim, xth, xK, xL, xH, xS, xQ, xF, Mt, G, xrg, xce, xpk, xus, xky, xsr))) : wpX_prepare post ((xw, xfo, xol, 0, xpl, xle, xmo, xlw, xhg, xk2, xl2, xh2, xln, xst, xop, xd, xs, xsz, xof, xim, xth, xK, xL, xH, xS, xQ, xF, xM, xG, xrg, xce, xpk, xus, xky, xsr)) :=
  ⟨42, x_prep4 (fun Mt G hM => ⟨41, x_prep32 hp hn hsz (fun c G => h0 c Mt G hM) (fun p a b c G => h5 p a b c Mt G) n 0 0 xpl G (by omega) (Or.inl ⟨by show 0 ≤ 10; omega, rfl, rfl⟩) 41 (by omega)⟩) 41 0 xM xG (by omega) (fun k hk => by omega) 42 (by omega)⟩
end XM
end
section
/-! the component: the end of verify -/
section XN
variable {xw xfo xol xfa xpl : Int32} {xle xmo xlw xhg : Int64} {xk2 : Int32} {xl2 xh2 : Int64} {xln xst : Int32} {xop xd xs xsz xof xim xth xK : Nat → Int32} {xL xH : Nat → Int64} {xS xQ xF xM xG : Nat → Int32} {xrg xce : Nat → Int64} {xpk xus xky : Nat → Int32} {xsr : Nat → Int64}
theorem x_copyCode {post : SX → Prop} {pa pb : Int32} (a b : Nat) (ea : pa = nI a) (eb : pb = nI b) (ha : a < 120) (hb : b < 120) (k1 : z_kb (xop a)) (k2 : z_kb (xd a)) (k3 : z_kb (xs a)) (hh : post ((xw, xfo, xol, xfa, xpl, xle, xmo, xlw, xhg, xk2, xl2, xh2, xln, xst, upd xop b (xop a), upd xd b (xd a), upd xs b (xs a), xsz, upd xof b (xof a), upd xim b (xim a), xth, xK, xL, xH, xS, xQ, xF, xM, xG, xrg, xce, xpk, xus, xky, xsr))) : wpX_copyCode post ((xw, xfo, xol, xfa, xpl, xle, xmo, xlw, xhg, xk2, xl2, xh2, xln, xst, xop, xd, xs, xsz, xof, xim, xth, xK, xL, xH, xS, xQ, xF, xM, xG, xrg, xce, xpk, xus, xky, xsr)) pa pb := by
  subst ea
  subst eb
  have va : vp_in (nI a) 120 := vp_in_nI ha (by omega)
  have vb : vp_in (nI b) 120 := vp_in_nI hb (by omega)
  have ca : (nI a).toNatClampNeg = a := nI_clamp (by omega)
  have cb : (nI b).toNatClampNeg = b := nI_clamp (by omega)
  exact ⟨va, vb, nm_r (by rw [ca, cb, kb_n k1]) ⟨va, vb, nm_r (by rw [ca, cb, kb_n k2]) ⟨va, vb, nm_r (by rw [ca, cb, kb_n k3]) ⟨va, vb, nm_r (by rw [ca, cb]) ⟨va, vb, nm_r (by rw [ca, cb]) hh⟩⟩⟩⟩⟩
theorem prog_kb {P : Nat → zC} {n : Nat} (hp : x_prog 80 xop xd xs xof xim P n) {i : Nat} (hi : i < n) : z_kb (xop (80 + i)) ∧ z_kb (xd (80 + i)) ∧ z_kb (xs (80 + i)) := by
  obtain ⟨⟨h1, h2, h3⟩, a, b, c, -, -⟩ := hp i hi
  rw [a, b, c]
  exact ⟨kb_nI (by unfold z_nm at h1; omega), kb_nI (by omega), kb_nI (by omega)⟩
theorem x_v179 {post : Int32 → SX → Prop} {P : Nat → zC} {n p : Nat} (hp : x_prog 80 xop xd xs xof xim P n) (hn : n ≤ 40) (hsz : xsz 2 = nI n) (hp1 : p ≤ 1) (hh : post 0 ((xw, xfo, xol, xfa, xpl, xle, xmo, xlw, xhg, xk2, xl2, xh2, xln, xst, z_cp xop p n, z_cp xd p n, z_cp xs p n, xsz, z_cp xof p n, z_cp xim p n, xth, xK, xL, xH, xS, xQ, xF, xM, xG, xrg, xce, xpk, xus, xky, xsr))) :
    ∀ (m i : Nat), i + m = n → ∀ k, m < k → wX_verify_179 post (nI p) k (nI i) xw xfo xol xfa xpl xle xmo xlw xhg xk2 xl2 xh2 xln xst (z_cp xop p i) (z_cp xd p i) (z_cp xs p i) xsz (z_cp xof p i) (z_cp xim p i) xth xK xL xH xS xQ xF xM xG xrg xce xpk xus xky xsr := by
  intro m
  induction m with
  | zero =>
    intro i hi k hk
    obtain ⟨k, rfl⟩ : ∃ k', k = k' + 1 := ⟨k - 1, by omega⟩
    obtain rfl : i = n := by omega
    rw [wX_verify_179]
    exact br_t (by rw [hsz]; exact nI_le (Nat.le_refl _) (by omega)) hh
  | succ m ih =>
    intro i hi k hk
    obtain ⟨k, rfl⟩ : ∃ k', k = k' + 1 := ⟨k - 1, by omega⟩
    rw [wX_verify_179]
    obtain ⟨k1, k2, k3⟩ := prog_kb hp (show i < n by omega)
    have cs : ∀ f : Nat → Int32, z_cp f p i (80 + i) = f (80 + i) := fun f => cp_src hp1 (by omega) i
    refine br_f (by rw [hsz]; exact nI_ge (by omega) (by omega)) (x_copyCode (80 + i) (40 * p + i) (ix80 i) (ix40 p i) (by omega) (by omega) (by rw [cs]; exact k1) (by rw [cs]; exact k2) (by rw [cs]; exact k3) (nm_r (nI_1 i) ?_))
    rw [cs, cs, cs, cs, cs, cp_s, cp_s, cp_s, cp_s, cp_s]
    exact ih (i + 1) (by omega) k (by omega)
theorem x_v130 {post : Int32 → SX → Prop} {P : Nat → zC} {n p : Nat} (hp : x_prog 80 xop xd xs xof xim P n) (hn : n ≤ 40) (hsz : xsz 2 = nI n) (hp1 : p ≤ 1) (hh : post 0 ((xw, xfo, xol, 0, xpl, xlw, xhg, xlw, xhg, xk2, xl2, xh2, xln, xst, z_cp xop p n, z_cp xd p n, z_cp xs p n, upd xsz p (nI n), z_cp xof p n, z_cp xim p n, upd xth p 1, xK, xL, xH, xS, xQ, xF, xM, xG, xrg, xce, xpk, xus, xky, xsr))) : wX_verify_130 post (nI p) xw xfo xol 0 xpl xle xmo xlw xhg xk2 xl2 xh2 xln xst xop xd xs xsz xof xim xth xK xL xH xS xQ xF xM xG xrg xce xpk xus xky xsr := by
  have cp : (nI p).toNatClampNeg = p := nI_clamp (by omega)
  refine br_t rfl ⟨vp_in_nI (by omega) (by omega), nm_r (e' := upd xth p 1) (by rw [cp, nb_1]) ⟨vp_in_nI (by omega) (by omega), nm_r (e' := upd xsz p (nI n)) (by rw [cp, hsz, kb_n (kb_nI (by omega))]) ⟨n + 1, ?_⟩⟩⟩
  have := x_v179 (post := post) (n := n) (p := p) (xsz := upd xsz p (nI n)) (xth := upd xth p 1) (xfa := 0) (xle := xlw) (xmo := xhg) hp hn (by rw [pk_un (by omega)]; exact hsz) hp1 hh n 0 (by omega) (n + 1) (by omega)
  rw [cp_0, cp_0, cp_0, cp_0, cp_0] at this
  exact this
theorem x_v91 {post : Int32 → SX → Prop} {x1 : Int32} {n : Nat} (hn : n ≤ 40) (hsz : xsz 2 = nI n) (hall : (∀ j, j < n → ¬ xM j = 0) → wX_verify_130 post x1 xw xfo xol 0 xpl xle xmo xlw xhg xk2 xl2 xh2 xln xst xop xd xs xsz xof xim xth xK xL xH xS xQ xF xM xG xrg xce xpk xus xky xsr) (hdead : ∀ p, p < n → xM p = 0 → (∀ j, j < p → ¬ xM j = 0) → wX_verify_130 post x1 xw xfo xol 6 (nI p) xle xmo xlw xhg xk2 xl2 xh2 xln xst xop xd xs xsz xof xim xth xK xL xH xS xQ xF xM xG xrg xce xpk xus xky xsr) :
    ∀ (m i : Nat), i + m = n → (∀ j, j < i → ¬ xM j = 0) → ∀ k, m + 1 < k → wX_verify_91 post x1 k (nI i) xw xfo xol 0 xpl xle xmo xlw xhg xk2 xl2 xh2 xln xst xop xd xs xsz xof xim xth xK xL xH xS xQ xF xM xG xrg xce xpk xus xky xsr := by
  intro m
  induction m with
  | zero =>
    intro i hi hs k hk
    obtain ⟨k, rfl⟩ : ∃ k', k = k' + 1 := ⟨k - 1, by omega⟩
    obtain rfl : i = n := by omega
    rw [wX_verify_91]
    exact br_t (by rw [hsz]; exact nI_le (Nat.le_refl _) (by omega)) (hall hs)
  | succ m ih =>
    intro i hi hs k hk
    obtain ⟨k, rfl⟩ : ∃ k', k = k' + 1 := ⟨k - 1, by omega⟩
    rw [wX_verify_91]
    have vi : vp_in (nI i) 41 := vp_in_nI (by omega) (by omega)
    have ei : (nI i).toNatClampNeg = i := nI_clamp (by omega)
    refine br_f (by rw [hsz]; exact nI_ge (by omega) (by omega)) (br_t rfl ⟨vi, ?_⟩)
    rw [ei]
    refine br_c (fun z => x_fail (nm_r (nI_1 i) ?_)) (fun z => nm_r (nI_1 i) (ih (i + 1) (by omega) (fun j hj => ?_) k (by omega)))
    · obtain ⟨k, rfl⟩ : ∃ k', k = k' + 1 := ⟨k - 1, by omega⟩
      rw [wX_verify_91]
      have g := hdead i (by omega) z hs
      exact br_c (fun _ => g) (fun _ => br_f (by decide) g)
    · by_cases e : j = i
      · rw [e]; exact z
      · exact hs j (by omega)
theorem x_verify {post : Int32 → SX → Prop} {P : Nat → zC} {n p : Nat} (hp : x_prog 80 xop xd xs xof xim P n) (hP : ∀ j, z_cj P j ≤ z_cj P n) (hn : n ≤ 40) (hsz : xsz 2 = nI n) (hp1 : p ≤ 1)
    (hBad : ∀ (f : Int32) (q : Nat), z_ver P n (Sum.inl (f, q)) → ∀ (w fo ol : Int32) (lw hg : Int64) (k2 : Int32) (l2 h2 : Int64) (K : Nat → Int32) (L H : Nat → Int64) (S Q F Mt : Nat → Int32) (G : Nat → Int32), post f ((w, fo, ol, f, nI q, xle, xmo, lw, hg, k2, l2, h2, xln, xst, xop, xd, xs, xsz, xof, xim, xth, K, L, H, S, Q, F, Mt, G, xrg, xce, xpk, xus, xky, xsr)))
    (hOK : ∀ (lw hg : Int64) (k2 : Int32) (l2 h2 : Int64) (K : Nat → Int32) (L H : Nat → Int64) (S Q F Mt : Nat → Int32) (G : Nat → Int32) (w fo ol : Int32), z_ver P n (Sum.inr (lw, hg)) → (∃ M, z_gw P n M lw hg [] 0 z_A0) → post 0 ((w, fo, ol, 0, -1, lw, hg, lw, hg, k2, l2, h2, xln, xst, z_cp xop p n, z_cp xd p n, z_cp xs p n, upd xsz p (nI n), z_cp xof p n, z_cp xim p n, upd xth p 1, K, L, H, S, Q, F, Mt, G, xrg, xce, xpk, xus, xky, xsr))) : wpX_verify post ((xw, xfo, xol, xfa, xpl, xle, xmo, xlw, xhg, xk2, xl2, xh2, xln, xst, xop, xd, xs, xsz, xof, xim, xth, xK, xL, xH, xS, xQ, xF, xM, xG, xrg, xce, xpk, xus, xky, xsr)) (nI p) := by
  have bad130 : ∀ (f : Int32) (q : Nat), ¬ f = 0 → z_ver P n (Sum.inl (f, q)) → ∀ (w fo ol : Int32) (lw hg : Int64) (k2 : Int32) (l2 h2 : Int64) (K : Nat → Int32) (L H : Nat → Int64) (S Q F Mt : Nat → Int32) (G : Nat → Int32), wX_verify_130 post (nI p) w fo ol f (nI q) xle xmo lw hg k2 l2 h2 xln xst xop xd xs xsz xof xim xth K L H S Q F Mt G xrg xce xpk xus xky xsr := fun f q hne hv w fo ol lw hg k2 l2 h2 K L H S Q F Mt G => br_f hne (hBad f q hv w fo ol lw hg k2 l2 h2 K L H S Q F Mt G)
  refine br_f (nI_pos (by omega)) (br_t (nI_le (b := 1) hp1 (by omega)) (x_prep hp hn hsz (fun hcj Mt G hM => br_t rfl ?_) (fun q a b c Mt G => br_f (by decide) ?_)))
  · refine x_begin (fun K L H S Q F hr hF => ⟨z_wt [(0, z_A0)] + 2, ?_⟩)
    have V := x_v36 (post := post) (x1 := nI p) (P := P) (n := n) (Z := z_run0 P n) (A0 := z_A0) (xpl := -1) (xG := G) (xle := xle) (xmo := xmo) (xln := xln) (xst := xst) (xth := xth) (xrg := xrg) (xce := xce) (xpk := xpk) (xus := xus) (xky := xky) (xsr := xsr) hp hn hsz (fun j => Nat.le_trans (hP j) hcj) ?_ ?_ (z_wt [(0, z_A0)]) 0 0 [(0, z_A0)] (fun _ => False) 4294967296 (-1) xk2 xl2 xh2 K L H S Q F Mt ?_ ⟨hr, hF, trivial⟩ (Nat.le_refl _) (by show 1 ≤ 11; omega) (z_wt [(0, z_A0)] + 2) (by omega)
    · exact V
    · intro w fo ol f q lw hg k2 l2 h2 K L H S Q F Mt hne hz
      have g := bad130 f q hne (Or.inr ⟨hcj, Or.inl ⟨f, q, hz, hne, rfl⟩⟩) w fo ol lw hg k2 l2 h2 K L H S Q F Mt G
      refine ⟨1, ?_⟩
      rw [wX_verify_91]
      exact br_c (fun _ => g) (fun _ => br_f hne g)
    · intro w fo ol M lw hg k2 l2 h2 K L H S Q F Mt hz hgw hmt
      refine ⟨n + 2, x_v91 hn hsz (fun hall => ?_) (fun q hq hz0 hbef => ?_) n 0 (by omega) (fun j hj => by omega) (n + 2) (by omega)⟩
      · exact x_v130 hp hn hsz hp1 (hOK lw hg k2 l2 h2 K L H S Q F Mt G w fo ol (Or.inr ⟨hcj, Or.inr ⟨M, lw, hg, hz, Or.inr ⟨fun j hj => Classical.byContradiction fun y => hall j hj ((hmt j (by omega)).mpr y), rfl⟩⟩⟩) ⟨M, hgw⟩)
      · exact bad130 6 q (by decide) (Or.inr ⟨hcj, Or.inr ⟨M, lw, hg, hz, Or.inl ⟨q, hq, (hmt q (by omega)).mp hz0, fun j hj => Classical.byContradiction fun y => hbef j hj ((hmt j (by omega)).mpr y), rfl⟩⟩⟩) w fo ol lw hg k2 l2 h2 K L H S Q F Mt G
    · refine ⟨by omega, by omega, fun j hj => ⟨fun _ y => y, fun _ => hM j hj⟩, ⟨by show 0 ≤ _; omega, by show 0 ≤ 40; omega, A0_wf, trivial⟩, gw_in (p := (0, z_A0)) (List.mem_cons_self ..), fun ρ h => h, fun r hr => by omega⟩
  · have g := bad130 5 q (by decide) (Or.inl ⟨q, a, b, c, rfl⟩) xw xfo xol xlw xhg xk2 xl2 xh2 xK xL xH xS xQ xF Mt G
    refine ⟨1, ?_⟩
    rw [wX_verify_91]
    exact br_c (fun _ => g) (fun _ => br_f (by decide) g)
end XN
end
section
/-! the reference: its small methods -/
def y_v (v : zV) (k : Int32) (l h : Int64) : Prop := k = v.1 ∧ (¬ v.1 = 0 → l = v.2.1) ∧ (v.1 = 1 ∨ v.1 = 2 → h = v.2.2)
def y_row (K : Nat → Int32) (L H : Nat → Int64) (b : Nat) (f : Nat → zV) : Prop := ∀ k, k < 14 → y_v (f k) (K (14 * b + k)) (L (14 * b + k)) (H (14 * b + k))
def y_low (w : Nat) (K : Nat → Int32) (L H : Nat → Int64) (K' : Nat → Int32) (L' H' : Nat → Int64) : Prop := ∀ q, q < 14 * w → K' q = K q ∧ L' q = L q ∧ H' q = H q
theorem low_rf {w : Nat} {K : Nat → Int32} {L H : Nat → Int64} : y_low w K L H K L H := fun _ _ => ⟨rfl, rfl, rfl⟩
theorem yv_rf (v : zV) : y_v v v.1 v.2.1 v.2.2 := ⟨rfl, fun _ => rfl, fun _ => rfl⟩
theorem yr_up {K K' : Nat → Int32} {L H L' H' : Nat → Int64} {w k : Nat} {f : Nat → zV} {v : zV} (h : y_row K L H w f) (hk : k < 14) (hv : y_v v (K' (14 * w + k)) (L' (14 * w + k)) (H' (14 * w + k))) (ho : ∀ q, q ≠ 14 * w + k → K' q = K q ∧ L' q = L q ∧ H' q = H q) : y_row K' L' H' w (z_set f k v) ∧ y_low w K L H K' L' H' := by
  refine ⟨fun j hj => ?_, fun q hq => ho q (by omega)⟩
  by_cases e : j = k
  · rw [e, set_at]; exact hv
  · obtain ⟨a, b, c⟩ := ho (14 * w + j) (by omega)
    rw [set_ne e, a, b, c]; exact h j hj
theorem yr_set {K : Nat → Int32} {L H : Nat → Int64} {w k : Nat} {f : Nat → zV} {v : zV} {kd : Int32} {l h : Int64} (hr : y_row K L H w f) (hk : k < 14) (hv : y_v v kd l h) : y_row (upd K (14 * w + k) kd) (vp_updL L (14 * w + k) l) (vp_updL H (14 * w + k) h) w (z_set f k v) ∧ y_low w K L H (upd K (14 * w + k) kd) (vp_updL L (14 * w + k) l) (vp_updL H (14 * w + k) h) :=
  yr_up hr hk (by rw [pk_us, pk_uLs, pk_uLs]; exact hv) (fun q hq => ⟨pk_un hq, pk_uLn hq, pk_uLn hq⟩)
section YA
variable {ypl : Int32} {yle ymo ysm ygr : Int64} {yw yfa yb yok : Int32} {yol yoh ylw yhg : Int64} {yby yst : Int32} {yop yd ys yof yim ysz yth yK : Nat → Int32} {yL yH : Nat → Int64} {yat yQ yS yM ytg : Nat → Int32} {ywd : Nat → Int64} {ypk : Nat → Int32} {yks yvs : Nat → Int64} {ymn : Nat → Int32}
theorem y_set {post : SY → Prop} {p k : Int32} {l h : Int64} (w c : Nat) (hp : p = nI c) (hc : c < 14) (hw : w < 12) (hk : z_kb k) (hh : post ((ypl, yle, ymo, ysm, ygr, yw, yfa, nI (14 * w), yok, yol, yoh, ylw, yhg, yby, yst, yop, yd, ys, yof, yim, ysz, yth, upd yK (14 * w + c) k, vp_updL yL (14 * w + c) l, vp_updL yH (14 * w + c) h, yat, yQ, yS, yM, ytg, ywd, ypk, yks, yvs, ymn))) : wpY_set post ((ypl, yle, ymo, ysm, ygr, yw, yfa, nI (14 * w), yok, yol, yoh, ylw, yhg, yby, yst, yop, yd, ys, yof, yim, ysz, yth, yK, yL, yH, yat, yQ, yS, yM, ytg, ywd, ypk, yks, yvs, ymn)) p k l h := by
  subst hp
  have v : vp_in (nI (14 * w) + nI c) 168 := by rw [nI_add]; exact vp_in_nI (by omega) (by omega)
  have e : (nI (14 * w) + nI c).toNatClampNeg = 14 * w + c := by rw [nI_add]; exact nI_clamp (by omega)
  exact ⟨v, nm_r (by rw [e, hk]) ⟨v, nm_r (by rw [e]) ⟨v, nm_r (by rw [e]) hh⟩⟩⟩
theorem y_missing {post : Int32 → SY → Prop} {r w : Nat} {p : Int32} {f : Nat → zV} (hr : r ≤ 8) (hw : w < 12) (hrow : y_row yK yL yH w f) (h1 : (z_src r f).1 = 0 → post 1 ((p, yle, ymo, ysm, ygr, yw, 2, nI (14 * w), yok, yol, yoh, ylw, yhg, yby, yst, yop, yd, ys, yof, yim, ysz, yth, yK, yL, yH, yat, yQ, yS, yM, ytg, ywd, ypk, yks, yvs, ymn))) (h0 : ¬ (z_src r f).1 = 0 → post 0 ((ypl, yle, ymo, ysm, ygr, yw, yfa, nI (14 * w), yok, yol, yoh, ylw, yhg, yby, yst, yop, yd, ys, yof, yim, ysz, yth, yK, yL, yH, yat, yQ, yS, yM, ytg, ywd, ypk, yks, yvs, ymn))) : wpY_missing post ((ypl, yle, ymo, ysm, ygr, yw, yfa, nI (14 * w), yok, yol, yoh, ylw, yhg, yby, yst, yop, yd, ys, yof, yim, ysz, yth, yK, yL, yH, yat, yQ, yS, yM, ytg, ywd, ypk, yks, yvs, ymn)) (nI r) p := by
  have v : vp_in (nI (14 * w) + nI r) 168 := by rw [nI_add]; exact vp_in_nI (by omega) (by omega)
  have e : (nI (14 * w) + nI r).toNatClampNeg = 14 * w + r := by rw [nI_add]; exact nI_clamp (by omega)
  by_cases c : r = 8
  · rw [show z_src r f = (4, 0, 0) from if_pos c] at h0
    exact br_t (by rw [c]; rfl) (h0 (by decide))
  · rw [show z_src r f = f r from if_neg c] at h0 h1
    have hk : yK (14 * w + r) = (f r).1 := (hrow r (by omega)).1
    refine br_f (fun z => c ((nI_eq (b := 8) (by omega) (by omega)).mp z)) ⟨v, ?_⟩
    rw [e, hk]
    exact br_c h1 h0
theorem y_other {post : SY → Prop} {s i w : Nat} {g im : Int32} {f : Nat → zV} (ps : ys (80 + i) = nI s) (pim : yim (80 + i) = im) (hs : s ≤ 8) (hi : i < 40) (hw : w < 12) (hrow : y_row yK yL yH w f) (hh : ∀ ok ol oh, y_v (if g = 0 then z_im im else z_src s f) ok ol oh → post ((ypl, yle, ymo, ysm, ygr, yw, yfa, nI (14 * w), ok, ol, oh, ylw, yhg, yby, yst, yop, yd, ys, yof, yim, ysz, yth, yK, yL, yH, yat, yQ, yS, yM, ytg, ywd, ypk, yks, yvs, ymn))) : wpY_other post ((ypl, yle, ymo, ysm, ygr, yw, yfa, nI (14 * w), yok, yol, yoh, ylw, yhg, yby, yst, yop, yd, ys, yof, yim, ysz, yth, yK, yL, yH, yat, yQ, yS, yM, ytg, ywd, ypk, yks, yvs, ymn)) (nI (80 + i)) g := by
  have vc : vp_in (nI (80 + i)) 120 := vp_in_nI (by omega) (by omega)
  have ec : (nI (80 + i)).toNatClampNeg = 80 + i := nI_clamp (by omega)
  have ps' : ys (nI (80 + i)).toNatClampNeg = nI s := by rw [ec, ps]
  have pim' : yim (nI (80 + i)).toNatClampNeg = im := by rw [ec, pim]
  refine ⟨vc, nm_r ps' ?_⟩
  have im0 : g = 0 → ∀ z : Int32, wY_other_18 post (nI (80 + i)) g (nI s) z ypl yle ymo ysm ygr yw yfa (nI (14 * w)) yok yol yoh ylw yhg yby yst yop yd ys yof yim ysz yth yK yL yH yat yQ yS yM ytg ywd ypk yks yvs ymn := fun z0 z => by
    rw [if_pos z0] at hh
    refine br_t z0 (br_t z0 ⟨vc, br_t z0 ⟨vc, nm_e ?_⟩⟩)
    rw [pim']
    exact hh _ _ _ (yv_rf (z_im im))
  by_cases z0 : g = 0
  · exact br_c (fun _ => im0 z0 1) (fun _ => im0 z0 0)
  rw [if_neg z0] at hh
  by_cases c : s = 8
  · rw [show z_src s f = (4, 0, 0) from if_pos c] at hh
    have h1 : ¬ (1 : Int32) = 0 := by decide
    refine br_t (by rw [c]; rfl) (br_f z0 (br_f h1 (br_f z0 (br_f h1 (br_f z0 (br_f h1 (hh _ _ _ (yv_rf (4, 0, 0)))))))))
  · rw [show z_src s f = f s from if_neg c] at hh
    have v : vp_in (nI (14 * w) + nI s) 168 := by rw [nI_add]; exact vp_in_nI (by omega) (by omega)
    have e : (nI (14 * w) + nI s).toNatClampNeg = 14 * w + s := by rw [nI_add]; exact nI_clamp (by omega)
    refine br_f (fun z => c ((nI_eq (b := 8) (by omega) (by omega)).mp z)) (br_f z0 (br_t rfl ⟨v, br_f z0 (br_t rfl ⟨v, br_f z0 (br_t rfl ⟨v, nm_e (hh _ _ _ ?_)⟩)⟩)⟩))
    rw [e]
    exact hrow s (by omega)
theorem y_302 {post : SY → Prop} {lo hi : Int64} (hp : 0 ≤ lo.toInt → hi.toInt ≤ 4294967295 → 0 ≤ hi.toInt) (hh : post ((ypl, yle, ymo, ysm, ygr, yw, yfa, yb, yok, yol, yoh, (z_cl (lo, hi)).2.1, (z_cl (lo, hi)).2.2, yby, yst, yop, yd, ys, yof, yim, ysz, yth, yK, yL, yH, yat, yQ, yS, yM, ytg, ywd, ypk, yks, yvs, ymn))) : wY_interval_302 post ypl yle ymo ysm ygr yw yfa yb yok yol yoh lo hi yby yst yop yd ys yof yim ysz yth yK yL yH yat yQ yS yM ytg ywd ypk yks yvs ymn := by
  have full : (lo < 0 ∨ ¬ hi ≤ 4294967295) → post ((ypl, yle, ymo, ysm, ygr, yw, yfa, yb, yok, yol, yoh, 0, 4294967295, yby, yst, yop, yd, ys, yof, yim, ysz, yth, yK, yL, yH, yat, yQ, yS, yM, ytg, ywd, ypk, yks, yvs, ymn)) := fun z => by
    rw [show z_cl (lo, hi) = (1, 0, 4294967295) from if_pos z] at hh
    exact hh
  refine br_c (fun z => full (Or.inl z)) (fun z => br_c (fun z1 => full (Or.inr (Int64.not_le.mpr z1))) (fun z1 => br_t ?_ ?_))
  · rw [li_lt, li_0] at z
    rw [li_lt, li_all] at z1
    rw [li_le, li_0]
    exact hp (by omega) (by omega)
  · rw [show z_cl (lo, hi) = (1, lo, hi) from if_neg (fun y => by rcases y with y | y; exact z y; exact y (Int64.not_lt.mp z1))] at hh
    exact hh
theorem y_225 {post : SY → Prop} {b lo : Int64} : ∀ (m : Nat) (x : Int64) (n : Nat), m < n → ¬ (z_orF b yoh m x < b ∨ z_orF b yoh m x < yoh) → wY_interval_302 post ypl yle ymo ysm ygr yw yfa yb yok yol yoh lo (z_orF b yoh m x) yby yst yop yd ys yof yim ysz yth yK yL yH yat yQ yS yM ytg ywd ypk yks yvs ymn → wY_interval_225 post b ypl yle ymo ysm ygr yw yfa yb yok yol yoh lo yhg yby yst yop yd ys yof yim ysz yth yK yL yH yat yQ yS yM ytg ywd ypk yks yvs ymn n x := by
  intro m
  induction m with
  | zero =>
    intro x n hn hs h
    obtain ⟨n, rfl⟩ : ∃ n', n = n' + 1 := ⟨n - 1, by omega⟩
    rw [wY_interval_225]
    have hs' : ¬ (x < b ∨ x < yoh) := hs
    exact br_f (fun z => hs' (Or.inl z)) (br_t (Int64.not_lt.mp (fun z => hs' (Or.inr z))) h)
  | succ m ih =>
    intro x n hn hs h
    obtain ⟨n, rfl⟩ : ∃ n', n = n' + 1 := ⟨n - 1, by omega⟩
    rw [wY_interval_225]
    by_cases c : x < b ∨ x < yoh
    · have ez : z_orF b yoh (m + 1) x = z_orF b yoh m (2 * x + 1) := if_pos c
      rw [ez] at hs h
      have go := ih (2 * x + 1) n (by omega) hs h
      refine br_c (fun _ => nm_e go) (fun z => br_f (fun y => ?_) (nm_e go))
      rcases c with c | c
      · exact z c
      · exact absurd c (Int64.not_lt.mpr y)
    · have ez : z_orF b yoh (m + 1) x = x := if_neg c
      rw [ez] at h
      exact br_f (fun z => c (Or.inl z)) (br_t (Int64.not_lt.mp (fun z => c (Or.inr z))) h)
theorem y_interval {post : SY → Prop} {n : Nat} {g : Int32} {a b : Int64} (hn : 1 ≤ n ∧ n ≤ 6) (hg : g = 0 → yol = yoh) (w1 : 0 ≤ a.toInt ∧ a.toInt ≤ b.toInt ∧ b.toInt ≤ 4294967295) (w2 : 0 ≤ yol.toInt ∧ yol.toInt ≤ yoh.toInt ∧ yoh.toInt ≤ 4294967295)
    (hh : post ((ypl, yle, ymo, ysm, ygr, yw, yfa, yb, yok, yol, yoh, (z_cl (z_iv n a b yol yoh)).2.1, (z_cl (z_iv n a b yol yoh)).2.2, yby, yst, yop, yd, ys, yof, yim, ysz, yth, yK, yL, yH, yat, yQ, yS, yM, ytg, ywd, ypk, yks, yvs, ymn))) : wpY_interval post ((ypl, yle, ymo, ysm, ygr, yw, yfa, yb, yok, yol, yoh, ylw, yhg, yby, yst, yop, yd, ys, yof, yim, ysz, yth, yK, yL, yH, yat, yQ, yS, yM, ytg, ywd, ypk, yks, yvs, ymn)) (nI n) a b g := by
  have M : 0 ≤ (z_iv n a b yol yoh).1.toInt → (z_iv n a b yol yoh).2.toInt ≤ 4294967295 → 0 ≤ (z_iv n a b yol yoh).2.toInt := fun p q => by
    have := iv_mono (n := n) (show z_R a b yol yoh a b yol yoh from ⟨w1.1, Int.le_refl _, w1.2.1, Int.le_refl _, w1.2.2, w2.1, Int.le_refl _, w2.2.1, Int.le_refl _, w2.2.2⟩) p q
    omega
  refine nm_e ?_
  have h6 : n = 1 ∨ n = 2 ∨ n = 3 ∨ n = 4 ∨ n = 5 ∨ n = 6 := by omega
  rcases h6 with rfl | rfl | rfl | rfl | rfl | rfl
  · exact br_f (by decide) (br_f (by decide) (br_t rfl (nm_e (nm_e (y_302 M hh)))))
  · exact br_f (by decide) (br_f (by decide) (br_f (by decide) (br_t rfl (nm_e (nm_e (y_302 M hh))))))
  · have hs : z_iv 3 a b yol yoh = if ¬ yoh ≤ 0 ∧ ¬ b ≤ 4294967295 / yoh then (-1, 4294967295) else (a * yol, b * yoh) := rfl
    rw [hs] at hh M
    have Lg := iv_large (b := b) (h := yoh) (by omega) (by omega)
    have Lg' := iv_large (b := yoh) (h := b) (by omega) (by omega)
    rw [Int.mul_comm] at Lg'
    have small : ¬ (¬ yoh ≤ 0 ∧ ¬ b ≤ 4294967295 / yoh) → wY_interval_125 post a b ypl yle ymo ysm ygr yw yfa yb yok yol yoh 0 b yby yst yop yd ys yof yim ysz yth yK yL yH yat yQ yS yM ytg ywd ypk yks yvs ymn := fun z => by
      rw [if_neg z] at hh M
      exact br_f (by decide) (br_f (by decide) (y_302 M hh))
    refine br_f (by decide) (br_f (by decide) (br_f (by decide) (br_f (by decide) (br_t rfl (br_c (fun z => small (fun y => ?_)) (fun z => ⟨z, br_c (fun z1 => ?_) (fun z1 => small (fun y => ?_))⟩))))))
    · have := Lg.mp y
      rw [z, li_0] at this
      omega
    · have big : ¬ yoh ≤ 0 ∧ ¬ b ≤ 4294967295 / yoh := by
        apply Lg.mpr
        apply Lg'.mp
        refine ⟨fun y => z (li_eq.mpr ?_), Int64.not_le.mpr z1⟩
        rw [li_le, li_0] at y
        rw [li_0]; omega
      rw [if_pos big] at hh
      exact br_t rfl (br_t rfl (br_t (by decide) hh))
    · have := Lg'.mpr (Lg.mp y)
      exact this.2 (Int64.not_lt.mp z1)
  · have hs : z_iv 4 a b yol yoh = (0, if yoh ≤ b then yoh else b) := rfl
    rw [hs] at hh M
    refine br_f (by decide) (br_f (by decide) (br_f (by decide) (br_f (by decide) (br_f (by decide) (br_t rfl (br_c (fun z => ?_) (fun z => ?_)))))))
    · by_cases y : yoh ≤ b
      · have e : yoh = b := li_eq.mpr (by rw [li_le] at y z; omega)
        rw [show (if yoh ≤ b then yoh else b) = b from (if_pos y).trans e] at hh M
        exact y_302 M hh
      · rw [if_neg y] at hh M
        exact y_302 M hh
    · rw [if_pos (by rw [li_le] at *; omega)] at hh M
      exact y_302 M hh
  · have hs : z_iv 5 a b yol yoh = (if a ≤ yol then yol else a, z_or b yoh) := rfl
    rw [hs] at hh M
    have stop : ¬ (z_orF b yoh 33 0 < b ∨ z_orF b yoh 33 0 < yoh) := by
      obtain ⟨k, k1, k2, k3, k4, k5, k6⟩ := or_sp (a := b) (b := yoh) (by omega) (by omega) (by omega) (by omega)
      show ¬ (z_or b yoh < b ∨ z_or b yoh < yoh)
      rw [li_lt, li_lt, k3]
      omega
    refine br_f (by decide) (br_f (by decide) (br_f (by decide) (br_f (by decide) (br_f (by decide) (br_f (by decide) (br_t rfl (br_c (fun z => ⟨34, ?_⟩) (fun z => ⟨34, ?_⟩))))))))
    · rw [if_pos z] at hh M
      exact y_225 33 0 34 (by omega) stop (y_302 M hh)
    · rw [if_neg z] at hh M
      exact y_225 33 0 34 (by omega) stop (y_302 M hh)
  · have hs : z_iv 6 a b yol yoh = if yol = yoh then (a >>> z_sh yol, b >>> z_sh yol) else (0, b) := rfl
    rw [hs] at hh M
    have one : yol = yoh → wY_interval_285 post a b (yol.toInt32 &&& 31) ypl yle ymo ysm ygr yw yfa yb yok yol yoh 0 b yby yst yop yd ys yof yim ysz yth yK yL yH yat yQ yS yM ytg ywd ypk yks yvs ymn := fun z => by
      rw [if_pos z] at hh M
      refine nm_r (by rw [li_shy]) (nm_r (by rw [li_shy]) (y_302 M hh))
    refine br_f (by decide) (br_t (by decide) (br_c (fun z => one (hg z)) (fun z => br_c one (fun z1 => ?_))))
    rw [if_neg z1] at hh M
    exact y_302 M hh
end YA
end
section
/-! the reference: arithmetic -/
section YB
variable {ypl : Int32} {yle ymo ysm ygr : Int64} {yw yfa yb yok : Int32} {yol yoh ylw yhg : Int64} {yby yst : Int32} {yop yd ys yof yim ysz yth yK : Nat → Int32} {yL yH : Nat → Int64} {yat yQ yS yM ytg : Nat → Int32} {ywd : Nat → Int64} {ypk : Nat → Int32} {yks yvs : Nat → Int64} {ymn : Nat → Int32}
theorem y_arith {post : SY → Prop} {o d s i w : Nat} {im : Int32} {f : Nat → zV} {x : zV} (po : yop (80 + i) = nI o) (pd : yd (80 + i) = nI d) (ps : ys (80 + i) = nI s) (pim : yim (80 + i) = im) (hx : (if o < 10 then z_im im else z_src s f) = x) (hnm : z_nm o) (ho : o < 20) (hd : d < 8) (hs : s ≤ 8) (hi : i < 40) (hw : w < 12) (hrow : y_row yK yL yH w f) (hwf : z_wf i (f, yS w, yQ w))
    (h : z_el (fun fl => ¬ fl = 0 → ∀ (ok : Int32) (ol oh lw hg : Int64) (K : Nat → Int32) (L H : Nat → Int64) (Q : Nat → Int32), post ((nI i, yle, ymo, ysm, ygr, yw, fl, nI (14 * w), ok, ol, oh, lw, hg, yby, yst, yop, yd, ys, yof, yim, ysz, yth, K, L, H, yat, Q, yS, yM, ytg, ywd, ypk, yks, yvs, ymn))) (fun _ _ => True) (fun j B => j = i + 1 → ∀ (ok : Int32) (ol oh lw hg : Int64) (K : Nat → Int32) (L H : Nat → Int64) (Q : Nat → Int32), y_row K L H w B.1 → y_low w yK yL yH K L H → yS w = B.2.1 → Q w = B.2.2 → (∀ c, c < w → Q c = yQ c) → post ((ypl, yle, ymo, ysm, ygr, yw, 0, nI (14 * w), ok, ol, oh, lw, hg, yby, yst, yop, yd, ys, yof, yim, ysz, yth, K, L, H, yat, Q, yS, yM, ytg, ywd, ypk, yks, yvs, ymn))) (fun _ _ _ _ => True) (z_alu (o % 10) d i f (yS w) (yQ w) x)) : wpY_arithmetic post ((ypl, yle, ymo, ysm, ygr, yw, 0, nI (14 * w), yok, yol, yoh, ylw, yhg, yby, yst, yop, yd, ys, yof, yim, ysz, yth, yK, yL, yH, yat, yQ, yS, yM, ytg, ywd, ypk, yks, yvs, ymn)) (nI (80 + i)) (nI i) (nI o) := by
  have vc : vp_in (nI (80 + i)) 120 := vp_in_nI (by omega) (by omega)
  have ec : (nI (80 + i)).toNatClampNeg = 80 + i := nI_clamp (by omega)
  have pd' : yd (nI (80 + i)).toNatClampNeg = nI d := by rw [ec, pd]
  have ps' : ys (nI (80 + i)).toNatClampNeg = nI s := by rw [ec, ps]
  have ho10 : nI o - nI o / 10 * 10 = nI (o % 10) := pk_rem (d := 10) (by omega) (by omega) (by omega)
  have hn6 : o % 10 ≤ 6 := by unfold z_nm at hnm; omega
  have vfd : z_vw i (yQ w) (f d) := hwf.1 d
  have vx : z_vw i (yQ w) x := by
    rw [← hx]
    by_cases c : o < 10
    · rw [if_pos c]; exact vw_im _ _ _
    · rw [if_neg c]; exact vw_src hwf.1
  have vi : vp_in (nI (14 * w) + nI d) 168 := by rw [nI_add]; exact vp_in_nI (by omega) (by omega)
  have ei : (nI (14 * w) + nI d).toNatClampNeg = 14 * w + d := by rw [nI_add]; exact nI_clamp (by omega)
  obtain ⟨rK, rL, rH⟩ := hrow d (by omega)
  have srcd : z_src d f = f d := if_neg (by omega)
  generalize hN : o % 10 = n at *
  unfold z_alu at h
  -- after the checks
  have g66 : ∀ g : Int32, (if g = 0 then z_im im else z_src s f) = x → (g = 0 → x.2.1 = x.2.2) → ¬ x.1 = 0 → (¬ n = 0 → ¬ (f d).1 = 0) → wY_arithmetic_66 post (nI (80 + i)) (nI i) g (nI n) (nI d) ypl yle ymo ysm ygr yw 0 (nI (14 * w)) yok yol yoh ylw yhg yby yst yop yd ys yof yim ysz yth yK yL yH yat yQ yS yM ytg ywd ypk yks yvs ymn := by
    intro g hg hg2 x0 hd0
    rw [if_neg x0] at h
    refine y_other ps pim hs hi hw hrow (fun ok ol oh hv => ?_)
    rw [hg] at hv
    obtain ⟨e1, e2, e3⟩ := hv
    have e2' := e2 x0
    subst e1
    subst e2'
    have fin : ∀ K L H lw hg (v : zV), y_row K L H w (z_set f d v) ∧ y_low w yK yL yH K L H → (fun j B => j = i + 1 → ∀ (ok : Int32) (ol oh lw hg : Int64) (K : Nat → Int32) (L H : Nat → Int64) (Q : Nat → Int32), y_row K L H w B.1 → y_low w yK yL yH K L H → yS w = B.2.1 → Q w = B.2.2 → (∀ c, c < w → Q c = yQ c) → post ((ypl, yle, ymo, ysm, ygr, yw, 0, nI (14 * w), ok, ol, oh, lw, hg, yby, yst, yop, yd, ys, yof, yim, ysz, yth, K, L, H, yat, Q, yS, yM, ytg, ywd, ypk, yks, yvs, ymn))) (i + 1) (z_set f d v, yS w, yQ w) → post ((ypl, yle, ymo, ysm, ygr, yw, 0, nI (14 * w), x.1, x.2.1, oh, lw, hg, yby, yst, yop, yd, ys, yof, yim, ysz, yth, K, L, H, yat, yQ, yS, yM, ytg, ywd, ypk, yks, yvs, ymn)) := fun K L H lw hg v hr hd1 => hd1 rfl _ _ _ _ _ K L H yQ hr.1 hr.2 rfl rfl (fun _ _ => rfl)
    by_cases c2 : n = 0
    · rw [if_pos c2] at h
      refine br_t (by rw [c2]; rfl) (y_set w d rfl (by omega) hw (kb_vw vx) (fin _ _ _ _ _ x (yr_set hrow (by omega) ⟨rfl, fun _ => rfl, e3⟩) h))
    have d0 := hd0 c2
    have rL' := rL d0
    rw [if_neg c2, if_neg d0] at h
    refine br_f (fun z => c2 ((nI_eq (b := 0) (by omega) (by omega)).mp z)) ⟨vi, nm_r (e' := (f d).1) (by rw [ei, rK]) ?_⟩
    have bad : ¬ (x.1 = 1 ∧ (f d).1 = 1) → ¬ (x.1 = 1 ∧ (f d).1 = 2 ∧ n = 1 ∧ ¬ 256 ≤ (f d).2.2 + x.2.2) → ¬ (x.1 = 1 ∧ x.2.1 = x.2.2 ∧ ¬ 100 < x.2.2 ∧ ((f d).1 = 4 ∨ (f d).1 = 5) ∧ n < 3) → wY_arithmetic_363 post (nI i) ypl yle ymo ysm ygr yw 0 (nI (14 * w)) x.1 x.2.1 oh ylw yhg yby yst yop yd ys yof yim ysz yth yK yL yH yat yQ yS yM ytg ywd ypk yks yvs ymn := by
      intro c4 c5 c6
      rw [if_neg c4, if_neg c5, if_neg c6] at h
      exact h (by decide) _ _ _ _ _ _ _ _ _
    have g305 : ∀ x10 : Int32, (¬ x10 = 0 ↔ (x.1 = 1 ∧ x.2.1 = x.2.2)) → ((f d).1 = 4 ∨ (f d).1 = 5) → wY_arithmetic_305 post (nI i) (nI n) (nI d) x10 ypl yle ymo ysm ygr yw 0 (nI (14 * w)) x.1 x.2.1 oh ylw yhg yby yst yop yd ys yof yim ysz yth yK yL yH yat yQ yS yM ytg ywd ypk yks yvs ymn := by
      intro x10 h10 hk
      have c4 : ¬ (x.1 = 1 ∧ (f d).1 = 1) := fun z => by rw [z.2] at hk; exact absurd hk (by decide)
      have c5 : ¬ (x.1 = 1 ∧ (f d).1 = 2 ∧ n = 1 ∧ ¬ 256 ≤ (f d).2.2 + x.2.2) := fun z => by rw [z.2.1] at hk; exact absurd hk (by decide)
      by_cases c3 : n < 3
      · refine br_f (nI_ge (b := 3) c3 (by omega)) (br_c (fun y => bad c4 c5 (fun q => h10.mpr ⟨q.1, q.2.1⟩ y)) (fun y => ?_))
        have hy := h10.mp y
        refine br_c (fun y2 => bad c4 c5 (fun q => q.2.2.1 (by rw [← q.2.1]; exact y2))) (fun y2 => ⟨vi, ?_⟩)
        rw [if_neg c4, if_neg c5, if_pos ⟨hy.1, hy.2, by rw [← hy.2]; exact y2, hk, c3⟩] at h
        have f4 := vw_4 vfd hk
        have up : ∀ q : Int64, q = z_by n x.2.1 → ∀ L : Nat → Int64, L = vp_updL yL (nI (14 * w) + nI d).toNatClampNeg (yL (nI (14 * w) + nI d).toNatClampNeg + q) → post ((ypl, yle, ymo, ysm, ygr, yw, 0, nI (14 * w), x.1, x.2.1, oh, ylw, yhg, yby, yst, yop, yd, ys, yof, yim, ysz, yth, yK, L, yH, yat, yQ, yS, yM, ytg, ywd, ypk, yks, yvs, ymn)) := by
          intro q hq L hL
          rw [ei] at hL
          subst hL
          refine fin yK _ yH _ _ _ (yr_up hrow (by omega) ?_ (fun q hq => ⟨rfl, pk_uLn hq, rfl⟩)) h
          refine ⟨rK, fun _ => ?_, fun z => ?_⟩
          · rw [pk_uLs, rL', hq]
          · dsimp only at z
            rcases hk with hk | hk <;> rw [hk] at z <;> exact absurd z (by decide)
        refine br_c (fun q => ⟨vi, up _ ?_⟩) (fun q => ⟨vi, up _ ?_⟩)
        · exact (if_pos ((nI_eq (b := 1) (by omega) (by omega)).mp q)).symm
        · exact (if_neg (fun e => q (by rw [e]; rfl))).symm
      · exact br_t (nI_le (a := 3) (by omega) (by omega)) (bad c4 c5 (fun q => c3 q.2.2.2.2))
    have g293 : ∀ x10 : Int32, (¬ x10 = 0 ↔ (x.1 = 1 ∧ x.2.1 = x.2.2)) → ¬ (x.1 = 1 ∧ (f d).1 = 1) → ¬ (x.1 = 1 ∧ (f d).1 = 2 ∧ n = 1 ∧ ¬ 256 ≤ (f d).2.2 + x.2.2) → wY_arithmetic_293 post (nI i) (nI n) (nI d) (f d).1 x10 ypl yle ymo ysm ygr yw 0 (nI (14 * w)) x.1 x.2.1 oh ylw yhg yby yst yop yd ys yof yim ysz yth yK yL yH yat yQ yS yM ytg ywd ypk yks yvs ymn := by
      intro x10 h10 c4 c5
      refine br_c (fun q => g305 x10 h10 (Or.inl q)) (fun q => br_c (fun q2 => g305 x10 h10 (Or.inr q2)) (fun q2 => bad c4 c5 (fun r => ?_)))
      rcases r.2.2.2.1 with r | r
      · exact q r
      · exact q2 r
    have g211 : ∀ x9 x10 : Int32, (¬ x9 = 0 ↔ x.1 = 1) → (¬ x10 = 0 ↔ (x.1 = 1 ∧ x.2.1 = x.2.2)) → ¬ (x.1 = 1 ∧ (f d).1 = 1) → wY_arithmetic_211 post (nI i) (nI n) (nI d) (f d).1 x9 x10 ypl yle ymo ysm ygr yw 0 (nI (14 * w)) x.1 x.2.1 oh ylw yhg yby yst yop yd ys yof yim ysz yth yK yL yH yat yQ yS yM ytg ywd ypk yks yvs ymn := by
      intro x9 x10 h9 h10 c4
      refine br_c (fun y1 => br_c (fun y2 => br_c (fun y => g293 x10 h10 c4 (fun q => h9.mpr q.1 y)) (fun y => ⟨vi, ?_⟩)) (fun y2 => g293 x10 h10 c4 (fun q => y2 (by rw [q.2.2.1]; rfl)))) (fun y1 => g293 x10 h10 c4 (fun q => y1 q.2.1))
      have x1 := h9.mp y
      have e3' := e3 (Or.inl x1)
      have rH' := rH (Or.inr y1)
      have cmp : 255 < (f d).2.2 + x.2.2 ↔ 256 ≤ (f d).2.2 + x.2.2 := by rw [li_lt, li_le, li_255, li_256]; omega
      rw [ei, rH', e3']
      subst e3'
      refine br_c (fun y3 => g293 x10 h10 c4 (fun q => q.2.2.2 (cmp.mp y3))) (fun y3 => ⟨vi, vi, nm_e ⟨vi, vi, nm_e ?_⟩⟩)
      rw [if_neg c4, if_pos ⟨x1, y1, (nI_eq (b := 1) (by omega) (by omega)).mp y2, fun q => y3 (cmp.mpr q)⟩] at h
      rw [rL']
      refine fin yK _ _ _ _ _ (yr_up hrow (by omega) ?_ (fun q hq => ⟨rfl, pk_uLn hq, pk_uLn hq⟩)) h
      exact ⟨by rw [rK, y1], fun _ => by rw [pk_uLs], fun _ => by rw [pk_uLs]⟩
    have g148 : ∀ x9 x10 : Int32, (¬ x9 = 0 ↔ x.1 = 1) → (¬ x10 = 0 ↔ (x.1 = 1 ∧ x.2.1 = x.2.2)) → wY_arithmetic_148 post (nI i) g (nI n) (nI d) (f d).1 x9 x10 ypl yle ymo ysm ygr yw 0 (nI (14 * w)) x.1 x.2.1 oh ylw yhg yby yst yop yd ys yof yim ysz yth yK yL yH yat yQ yS yM ytg ywd ypk yks yvs ymn := by
      intro x9 x10 h9 h10
      refine br_c (fun y1 => br_c (fun y => g211 x9 x10 h9 h10 (fun q => h9.mpr q.1 y)) (fun y => ⟨vi, vi, ?_⟩)) (fun y1 => g211 x9 x10 h9 h10 (fun q => y1 q.2))
      have x1 := h9.mp y
      have e3' := e3 (Or.inl x1)
      have rH' := rH (Or.inl y1)
      rw [if_pos ⟨x1, y1⟩] at h
      rw [ei, rL', rH', e3']
      subst e3'
      refine y_interval ⟨by omega, hn6⟩ hg2 (vw_1 vfd y1) (vw_1 vx x1) (y_set w d rfl (by omega) hw kb_01.2.1 (fin _ _ _ _ _ _ (yr_set hrow (by omega) ?_) h))
      have ek : ∀ p, (z_cl p).1 = 1 := fun p => by
        unfold z_cl
        by_cases z : p.1 < 0 ∨ ¬ p.2 ≤ 4294967295
        · rw [if_pos z]
        · rw [if_neg z]
      exact ⟨(ek _).symm, fun _ => rfl, fun _ => rfl⟩
    have n10 : ¬ (1 : Int32) = 0 := by decide
    by_cases c1 : x.1 = 1
    · have e3' := e3 (Or.inl c1)
      refine br_t c1 (br_f n10 (br_c (fun y => g148 1 1 ⟨fun _ => c1, fun _ => n10⟩ ⟨fun _ => ⟨c1, by rw [← e3']; exact y⟩, fun _ => n10⟩) (fun y => g148 1 0 ⟨fun _ => c1, fun _ => n10⟩ ⟨fun q => absurd rfl q, fun q => absurd (by rw [e3']; exact q.2) y⟩)))
    · exact br_f c1 (br_t rfl (g148 0 0 ⟨fun q => absurd rfl q, fun q => absurd q c1⟩ ⟨fun q => absurd rfl q, fun q => absurd q.1 c1⟩))
  have f2 : (x.1 = 0 ∨ (¬ n = 0 ∧ (f d).1 = 0)) → ∀ (ok : Int32) (ol oh lw hg : Int64) (K : Nat → Int32) (L H : Nat → Int64) (Q : Nat → Int32), post ((nI i, yle, ymo, ysm, ygr, yw, 2, nI (14 * w), ok, ol, oh, lw, hg, yby, yst, yop, yd, ys, yof, yim, ysz, yth, K, L, H, yat, Q, yS, yM, ytg, ywd, ypk, yks, yvs, ymn)) := by
    intro q
    by_cases x0 : x.1 = 0
    · rw [if_pos x0] at h; exact h (by decide)
    · rcases q with q | q
      · exact absurd q x0
      · rw [if_neg x0, if_neg q.1, if_pos q.2] at h; exact h (by decide)
  have g50 : ∀ g : Int32, (g = 0 ↔ o < 10) → (¬ n = 0 → ¬ (f d).1 = 0) → wY_arithmetic_50 post (nI (80 + i)) (nI i) g (nI n) (nI d) (nI s) ypl yle ymo ysm ygr yw 0 (nI (14 * w)) yok yol yoh ylw yhg yby yst yop yd ys yof yim ysz yth yK yL yH yat yQ yS yM ytg ywd ypk yks yvs ymn := by
    intro g hg hd0
    have ex : (if g = 0 then z_im im else z_src s f) = x := by
      rw [← hx]
      by_cases c : o < 10
      · rw [if_pos c, if_pos (hg.mpr c)]
      · rw [if_neg c, if_neg (fun q => c (hg.mp q))]
    have ex2 : g = 0 → x.2.1 = x.2.2 := fun z => by
      rw [if_pos z] at ex
      rw [← ex]; rfl
    refine br_c (fun z => ?_) (fun z => y_missing hs hw hrow (fun y => br_f (by decide) ?_) (fun y => br_t rfl ?_))
    · refine g66 g ex ex2 ?_ hd0
      rw [if_pos z] at ex
      rw [← ex]
      show ¬ (1 : Int32) = 0
      decide
    · rw [if_neg z] at ex
      rw [ex] at y
      exact f2 (Or.inl y) _ _ _ _ _ _ _ _ _
    · refine g66 g ex ex2 ?_ hd0
      rw [if_neg z] at ex
      rw [ex] at y
      exact y
  have g11 : ∀ g : Int32, (g = 0 ↔ o < 10) → wY_arithmetic_11 post (nI (80 + i)) (nI i) (nI o) g ypl yle ymo ysm ygr yw 0 (nI (14 * w)) yok yol yoh ylw yhg yby yst yop yd ys yof yim ysz yth yK yL yH yat yQ yS yM ytg ywd ypk yks yvs ymn := by
    intro g hg
    refine ⟨by decide, nm_r ho10 ⟨vc, nm_r pd' ⟨vc, nm_r ps' (br_c (fun z => ?_) (fun z => y_missing (by omega) hw hrow (fun y => br_f (by decide) ?_) (fun y => br_t rfl (g50 g hg (fun _ => by rw [← srcd]; exact y)))))⟩⟩⟩
    · exact g50 g hg (fun q => absurd ((nI_eq (b := 0) (by omega) (by omega)).mp z) q)
    · rw [srcd] at y
      exact f2 (Or.inr ⟨fun q => z (by rw [q]; rfl), y⟩) _ _ _ _ _ _ _ _ _
  by_cases c : o < 10
  · exact br_t (nI_lt (b := 10) c (by omega)) (g11 0 ⟨fun _ => c, fun _ => rfl⟩)
  · exact br_f (nI_nlt (b := 10) (by omega) (by omega)) (g11 1 ⟨fun q => absurd q (by decide), fun q => absurd q c⟩)
end YB
end
section
/-! the reference: forks and comparisons -/
def y_ms (s lo : Int64) : Int64 := if s < 0 then lo else if s ≤ lo then s else lo
theorem ks_nI {k : Nat} (h : k ≤ 256) : vp_nar .short (nI k) = nI k := by
  have : ∀ k, k < 257 → (nI k).toInt16.toInt32 = nI k := by decide +kernel
  rw [vp_nar_short, this k (by omega)]
theorem ks_nI2 {k : Nat} (h : k ≤ 256) : vp_nar .short (nI k).toInt16.toInt32 = nI k := by
  have : ∀ k, k < 257 → (nI k).toInt16.toInt32 = nI k := by decide +kernel
  rw [pk_vs, this k (by omega)]
def y_fk (K0 : Nat → Int32) (L0 H0 : Nat → Int64) (K : Nat → Int32) (L H : Nat → Int64) (w j : Nat) : Prop :=
  (∀ q, q < 14 * (w + 1) → K q = K0 q ∧ L q = L0 q ∧ H q = H0 q) ∧ ∀ k, k < j → K (14 * (w + 1) + k) = K0 (14 * w + k) ∧ L (14 * (w + 1) + k) = L0 (14 * w + k) ∧ H (14 * (w + 1) + k) = H0 (14 * w + k)
theorem fk_rows {K0 K : Nat → Int32} {L0 H0 L H : Nat → Int64} {w : Nat} {f : Nat → zV} (h : y_fk K0 L0 H0 K L H w 14) (hr : y_row K0 L0 H0 w f) : y_row K L H w f ∧ y_row K L H (w + 1) f ∧ y_low w K0 L0 H0 K L H := by
  refine ⟨fun k hk => ?_, fun k hk => ?_, fun q hq => h.1 q (by omega)⟩
  · obtain ⟨a, b, c⟩ := h.1 (14 * w + k) (by omega)
    rw [a, b, c]; exact hr k hk
  · obtain ⟨a, b, c⟩ := h.2 k hk
    rw [a, b, c]; exact hr k hk
section YC
variable {ypl : Int32} {yle ymo ysm ygr : Int64} {yw yfa yb yok : Int32} {yol yoh ylw yhg : Int64} {yby yst : Int32} {yop yd ys yof yim ysz yth yK : Nat → Int32} {yL yH : Nat → Int64} {yat yQ yS yM ytg : Nat → Int32} {ywd : Nat → Int64} {ypk : Nat → Int32} {yks yvs : Nat → Int64} {ymn : Nat → Int32}
theorem y_forkL {post : SY → Prop} {w to nx : Nat} {K0 : Nat → Int32} {L0 H0 : Nat → Int64} (hw : w ≤ 10) (hto : to ≤ 40) (hnx : nx ≤ 40) (hkb : ∀ k, k < 14 → z_kb (K0 (14 * w + k))) (hS : ∃ a, a ≤ 256 ∧ yS w = nI a) (hQ : ∃ a, a ≤ 40 ∧ yQ w = nI a)
    (hh : ∀ K L H S Q At, y_fk K0 L0 H0 K L H w 14 → S (w + 1) = yS w → (∀ c, c ≤ w → S c = yS c) → Q (w + 1) = yQ w → (∀ c, c ≤ w → Q c = yQ c) → At w = nI to → At (w + 1) = nI nx → (∀ c, c < w → At c = yat c) → post ((ypl, yle, ymo, ysm, ygr, nI (w + 2), yfa, nI (14 * w), yok, yol, yoh, ylw, yhg, yby, yst, yop, yd, ys, yof, yim, ysz, yth, K, L, H, At, Q, S, yM, ytg, ywd, ypk, yks, yvs, ymn))) :
    ∀ (m j : Nat) (K : Nat → Int32) (L H : Nat → Int64), j + m = 14 → y_fk K0 L0 H0 K L H w j → ∀ n, m < n → wY_fork_10 post (nI to) (nI nx) (nI w) ypl yle ymo ysm ygr (nI (w + 1)) yfa (nI (14 * w)) yok yol yoh ylw yhg yby yst n (nI j) yop yd ys yof yim ysz yth K L H yat yQ yS yM ytg ywd ypk yks yvs ymn := by
  have vw : vp_in (nI w) 12 := vp_in_nI (by omega) (by omega)
  have vw1 : vp_in (nI w + 1) 12 := by rw [nI_1]; exact vp_in_nI (by omega) (by omega)
  have ew : (nI w).toNatClampNeg = w := nI_clamp (by omega)
  have ew1 : (nI w + 1).toNatClampNeg = w + 1 := by rw [nI_1]; exact nI_clamp (by omega)
  intro m
  induction m with
  | zero =>
    intro j K L H hj hc n hn
    obtain ⟨n, rfl⟩ : ∃ n', n = n' + 1 := ⟨n - 1, by omega⟩
    obtain rfl : j = 14 := by omega
    rw [wY_fork_10]
    obtain ⟨a, ha, ea⟩ := hS
    obtain ⟨b, hb, eb⟩ := hQ
    refine br_t (nI_le (a := 14) (b := 14) (by omega) (by omega)) ⟨vw, vw1, nm_e ⟨vw, vw1, nm_e ⟨vw, nm_e ⟨vw1, nm_e (nm_r (nI_1 _) (hh K L H _ _ _ hc ?_ ?_ ?_ ?_ ?_ ?_ ?_))⟩⟩⟩⟩
    · rw [ew, ew1, pk_us, ea, ks_nI ha]
    · intro c hc; rw [ew1, pk_un (by omega)]
    · rw [ew, ew1, pk_us, eb, kb_n (kb_nI (by omega))]
    · intro c hc; rw [ew1, pk_un (by omega)]
    · rw [ew, ew1, pk_un (by omega), pk_us]; exact kb_nI (by omega)
    · rw [ew1, pk_us]; exact kb_nI (by omega)
    · intro c hc; rw [ew, ew1, pk_un (by omega), pk_un (by omega)]
  | succ m ih =>
    intro j K L H hj hc n hn
    obtain ⟨n, rfl⟩ : ∃ n', n = n' + 1 := ⟨n - 1, by omega⟩
    rw [wY_fork_10]
    have va : vp_in (nI (14 * w) + nI j) 168 := by rw [nI_add]; exact vp_in_nI (by omega) (by omega)
    have ea : (nI (14 * w) + nI j).toNatClampNeg = 14 * w + j := by rw [nI_add]; exact nI_clamp (by omega)
    have e14 : nI (14 * w) + 14 + nI j = nI (14 * (w + 1) + j) := by rw [show (14 : Int32) = nI 14 from rfl, nI_add, nI_add, show 14 * w + 14 + j = 14 * (w + 1) + j by omega]
    have vb : vp_in (nI (14 * w) + 14 + nI j) 168 := by rw [e14]; exact vp_in_nI (by omega) (by omega)
    have eb : (nI (14 * w) + 14 + nI j).toNatClampNeg = 14 * (w + 1) + j := by rw [e14]; exact nI_clamp (by omega)
    obtain ⟨s1, s2, s3⟩ := hc.1 (14 * w + j) (by omega)
    refine br_f (nI_ge (b := 14) (by omega) (by omega)) ⟨va, vb, nm_r (e' := upd K (14 * (w + 1) + j) (K0 (14 * w + j))) (by rw [ea, eb, s1, kb_n (hkb j (by omega))]) ⟨va, vb, nm_r (e' := vp_updL L (14 * (w + 1) + j) (L0 (14 * w + j))) (by rw [ea, eb, s2]) ⟨va, vb, nm_r (e' := vp_updL H (14 * (w + 1) + j) (H0 (14 * w + j))) (by rw [ea, eb, s3]) (nm_r (nI_1 j) (ih (j + 1) _ _ _ (by omega) ⟨fun q hq => ?_, fun k hk => ?_⟩ n (by omega)))⟩⟩⟩
    · rw [pk_un (by omega), pk_uLn (by omega), pk_uLn (by omega)]; exact hc.1 q hq
    · by_cases e : k = j
      · rw [e, pk_us, pk_uLs, pk_uLs]; exact ⟨rfl, rfl, rfl⟩
      · rw [pk_un (by omega), pk_uLn (by omega), pk_uLn (by omega)]; exact hc.2 k (by omega)
theorem y_fork {post : SY → Prop} {w to nx : Nat} {i : Nat} {f : Nat → zV} {p q : Int32} (hp : p = nI to) (hq : q = nI nx) (hw : w ≤ 10) (hto : to ≤ 40) (hnx : nx ≤ 40) (hi : i < 40) (hrow : y_row yK yL yH w f) (hwf : z_wf i (f, yS w, yQ w))
    (hh : ∀ K L H S Q At, y_row K L H w f → y_row K L H (w + 1) f → y_low w yK yL yH K L H → S (w + 1) = yS w → (∀ c, c ≤ w → S c = yS c) → Q (w + 1) = yQ w → (∀ c, c ≤ w → Q c = yQ c) → At w = nI to → At (w + 1) = nI nx → (∀ c, c < w → At c = yat c) → post ((ypl, yle, ymo, ysm, ygr, nI (w + 2), yfa, nI (14 * w), yok, yol, yoh, ylw, yhg, yby, yst, yop, yd, ys, yof, yim, ysz, yth, K, L, H, At, Q, S, yM, ytg, ywd, ypk, yks, yvs, ymn))) : wpY_fork post ((ypl, yle, ymo, ysm, ygr, nI (w + 1), yfa, nI (14 * w), yok, yol, yoh, ylw, yhg, yby, yst, yop, yd, ys, yof, yim, ysz, yth, yK, yL, yH, yat, yQ, yS, yM, ytg, ywd, ypk, yks, yvs, ymn)) p q := by
  subst hp
  subst hq
  refine nm_r (nI_pred w) ⟨15, y_forkL (K0 := yK) (L0 := yL) (H0 := yH) hw hto hnx (fun k hk => by rw [(hrow k hk).1]; exact kb_vw (hwf.1 k)) hwf.2.1 (by obtain ⟨b, h1, h2⟩ := hwf.2.2.1; exact ⟨b, by omega, h2⟩) (fun K L H S Q At hf a1 a2 a3 a4 a5 a6 a7 => ?_) 14 0 yK yL yH (by omega) ⟨fun q _ => ⟨rfl, rfl, rfl⟩, fun k hk => by omega⟩ 15 (by omega)⟩
  obtain ⟨r1, r2, r3⟩ := fk_rows hf hrow
  exact hh K L H S Q At r1 r2 r3 a1 a2 a3 a4 a5 a6 a7
theorem y_cut {post : SY → Prop} {c d t : Nat} {x : zV} {f : Nat → zV} {p : Int32} (hp : p = nI (14 * c + d)) (hc : c < 12) (hd : d < 8) (ht : 1 ≤ t ∧ t ≤ 4) (hrow : y_row yK yL yH c f) (h1 : (f d).1 = 1) (hx : x.2.1 = x.2.2) (hol : yol = x.2.1) (hpos : t = 2 → z_pos 2 (f d) x = true) (hv : (f d).2.1.toInt ≤ (f d).2.2.toInt)
    (hh : ∀ L H, y_row yK L H c (z_set f d (z_cut t (f d) x)) → (∀ q, q ≠ 14 * c + d → L q = yL q ∧ H q = yH q) → post ((ypl, yle, ymo, ysm, ygr, yw, yfa, yb, yok, yol, yoh, ylw, yhg, yby, yst, yop, yd, ys, yof, yim, ysz, yth, yK, L, H, yat, yQ, yS, yM, ytg, ywd, ypk, yks, yvs, ymn))) : wpY_cut post ((ypl, yle, ymo, ysm, ygr, yw, yfa, yb, yok, yol, yoh, ylw, yhg, yby, yst, yop, yd, ys, yof, yim, ysz, yth, yK, yL, yH, yat, yQ, yS, yM, ytg, ywd, ypk, yks, yvs, ymn)) p (nI t) := by
  subst hp
  subst hol
  have v : vp_in (nI (14 * c + d)) 168 := vp_in_nI (by omega) (by omega)
  have e : (nI (14 * c + d)).toNatClampNeg = 14 * c + d := nI_clamp (by omega)
  obtain ⟨rK, rL, rH⟩ := hrow d (by omega)
  have rL' := rL (by rw [h1]; decide)
  have rH' := rH (Or.inl h1)
  have eL : yL (nI (14 * c + d)).toNatClampNeg = (f d).2.1 := by rw [e, rL']
  have eH : yH (nI (14 * c + d)).toNatClampNeg = (f d).2.2 := by rw [e, rH']
  have ec : z_cut t (f d) x = (if t = 1 then (1, x.2.1, x.2.1)
      else if t = 2 then (if (f d).2.1 = x.2.1 then (1, (f d).2.1 + 1, (f d).2.2) else if (f d).2.2 = x.2.1 then (1, (f d).2.1, (f d).2.2 - 1) else f d)
      else if t = 3 then (if x.2.1 ≤ (f d).2.2 then (1, (f d).2.1, x.2.1 - 1) else f d)
      else (if (f d).2.1 ≤ x.2.1 then (1, x.2.1, (f d).2.2) else f d)) := if_neg (fun z => z hx)
  rw [ec] at hh
  have mk : ∀ (L H : Nat → Int64) (u : zV), u.1 = 1 → L (14 * c + d) = u.2.1 → H (14 * c + d) = u.2.2 → (∀ q, q ≠ 14 * c + d → L q = yL q ∧ H q = yH q) → y_row yK L H c (z_set f d u) := fun L H u hu hl hr ho => (yr_up hrow (by omega) ⟨by rw [rK, h1, hu], fun _ => hl, fun _ => hr⟩ (fun q hq => ⟨rfl, ho q hq⟩)).1
  have both : ∀ l h : Int64, ∀ q, q ≠ 14 * c + d → vp_updL yL (14 * c + d) l q = yL q ∧ vp_updL yH (14 * c + d) h q = yH q := fun l h q hq => ⟨pk_uLn hq, pk_uLn hq⟩
  have oneL : ∀ l : Int64, ∀ q, q ≠ 14 * c + d → vp_updL yL (14 * c + d) l q = yL q ∧ yH q = yH q := fun l q hq => ⟨pk_uLn hq, rfl⟩
  have oneH : ∀ h : Int64, ∀ q, q ≠ 14 * c + d → yL q = yL q ∧ vp_updL yH (14 * c + d) h q = yH q := fun l q hq => ⟨rfl, pk_uLn hq⟩
  have non : ∀ q, q ≠ 14 * c + d → yL q = yL q ∧ yH q = yH q := fun q hq => ⟨rfl, rfl⟩
  have h4 : t = 1 ∨ t = 2 ∨ t = 3 ∨ t = 4 := by omega
  rcases h4 with rfl | rfl | rfl | rfl
  · rw [if_pos rfl] at hh
    refine br_t rfl ⟨v, nm_r (by rw [e]) ⟨v, nm_r (by rw [e]) (hh _ _ (mk _ _ (1, x.2.1, x.2.1) rfl pk_uLs pk_uLs (both _ _)) (both _ _))⟩⟩
  · rw [if_neg (by decide), if_pos rfl] at hh
    have hp := of_decide_eq_true (hpos rfl)
    refine br_f (by decide) (br_t rfl ⟨v, ?_⟩)
    rw [eL]
    refine br_c (fun z => ⟨v, v, nm_r (e' := vp_updL yL (14 * c + d) ((f d).2.1 + 1)) (by rw [e]) ⟨v, ?_⟩⟩) (fun z => ⟨v, ?_⟩)
    · rw [if_pos z] at hh
      rw [eH]
      refine br_f (fun y => ?_) (hh _ _ (mk _ _ (1, (f d).2.1 + 1, (f d).2.2) rfl pk_uLs rH' (oneL _)) (oneL _))
      rw [li_lt, li_lt] at hp
      rcases hp with hp | hp | hp
      · rw [z, y] at hp; omega
      · rw [hx] at hp; omega
      · exact hp z
    · rw [if_neg z] at hh
      rw [eH]
      refine br_c (fun y => ⟨v, v, nm_r (e' := vp_updL yH (14 * c + d) ((f d).2.2 - 1)) (by rw [e]) ?_⟩) (fun y => ?_)
      · rw [if_pos y] at hh
        exact hh _ _ (mk _ _ (1, (f d).2.1, (f d).2.2 - 1) rfl rL' pk_uLs (oneH _)) (oneH _)
      · rw [if_neg y] at hh
        exact hh _ _ (mk _ _ (f d) h1 rL' rH' non) non
  · rw [if_neg (by decide), if_neg (by decide), if_pos rfl] at hh
    refine br_f (by decide) (br_f (by decide) (br_t rfl ⟨v, ?_⟩))
    rw [eH]
    refine br_c (fun z => ?_) (fun z => ⟨v, nm_r (e' := vp_updL yH (14 * c + d) (x.2.1 - 1)) (by rw [e]) ?_⟩)
    · rw [if_neg (Int64.not_le.mpr z)] at hh
      exact hh _ _ (mk _ _ (f d) h1 rL' rH' non) non
    · rw [if_pos (Int64.not_lt.mp z)] at hh
      exact hh _ _ (mk _ _ (1, (f d).2.1, x.2.1 - 1) rfl rL' pk_uLs (oneH _)) (oneH _)
  · rw [if_neg (by decide), if_neg (by decide), if_neg (by decide)] at hh
    refine br_f (by decide) (br_f (by decide) (br_f (by decide) ⟨v, ?_⟩))
    rw [eL]
    refine br_c (fun z => ?_) (fun z => ⟨v, nm_r (e' := vp_updL yL (14 * c + d) x.2.1) (by rw [e]) ?_⟩)
    · by_cases y : (f d).2.1 ≤ x.2.1
      · have ee : x.2.1 = (f d).2.1 := li_eq.mpr (by rw [li_le] at y z; omega)
        rw [if_pos y] at hh
        exact hh _ _ (mk _ _ (1, x.2.1, (f d).2.2) rfl (by rw [rL', ee]) rH' non) non
      · rw [if_neg y] at hh
        exact hh _ _ (mk _ _ (f d) h1 rL' rH' non) non
    · rw [if_pos (by rw [li_le] at *; omega)] at hh
      exact hh _ _ (mk _ _ (1, x.2.1, (f d).2.2) rfl pk_uLs rH' (oneL _)) (oneL _)
end YC
end
section
/-! the reference: scalars compared -/
section YD
variable {ypl : Int32} {yle ymo ysm ygr : Int64} {yw yfa yb yok : Int32} {yol yoh ylw yhg : Int64} {yby yst : Int32} {yop yd ys yof yim ysz yth yK : Nat → Int32} {yL yH : Nat → Int64} {yat yQ yS yM ytg : Nat → Int32} {ywd : Nat → Int64} {ypk : Nat → Int32} {yks yvs : Nat → Int64} {ymn : Nat → Int32}
theorem y_273a {post : SY → Prop} {d t w : Nat} {g s : Int32} {x : zV} {f : Nat → zV} (hd : d < 8) (ht : 1 ≤ t ∧ t ≤ 4) (hw : w < 12) (hrow : y_row yK yL yH w f) (h1 : (f d).1 = 1) (hv : (f d).2.1.toInt ≤ (f d).2.2.toInt) (hol : yol = x.2.1) (hoh : yoh = x.2.2) (hg : ¬ g = 0) (hs : s = 0) (hp : z_pos t (f d) x = true)
    (hh : ∀ L H, y_row yK L H w (z_set f d (z_cut t (f d) x)) → (∀ q, q ≠ 14 * w + d → L q = yL q ∧ H q = yH q) → post ((ypl, yle, ymo, ysm, ygr, yw, yfa, nI (14 * w), yok, yol, yoh, ylw, yhg, yby, yst, yop, yd, ys, yof, yim, ysz, yth, yK, L, H, yat, yQ, yS, yM, ytg, ywd, ypk, yks, yvs, ymn))) : wY_scalars_273 post (nI d) (nI t) g s ypl yle ymo ysm ygr yw yfa (nI (14 * w)) yok yol yoh ylw yhg yby yst yop yd ys yof yim ysz yth yK yL yH yat yQ yS yM ytg ywd ypk yks yvs ymn := by
  have s306 : ∀ L H, post ((ypl, yle, ymo, ysm, ygr, yw, yfa, nI (14 * w), yok, yol, yoh, ylw, yhg, yby, yst, yop, yd, ys, yof, yim, ysz, yth, yK, L, H, yat, yQ, yS, yM, ytg, ywd, ypk, yks, yvs, ymn)) → wY_scalars_306 post (nI t) g s (nI (14 * w + d)) ypl yle ymo ysm ygr yw yfa (nI (14 * w)) yok yol yoh ylw yhg yby yst yop yd ys yof yim ysz yth yK L H yat yQ yS yM ytg ywd ypk yks yvs ymn := fun L H z => by
    have q : ∀ b : Int32, wY_scalars_334 post g s (nI (14 * w + d)) b ypl yle ymo ysm ygr yw yfa (nI (14 * w)) yok yol yoh ylw yhg yby yst yop yd ys yof yim ysz yth yK L H yat yQ yS yM ytg ywd ypk yks yvs ymn := fun b => br_t hs z
    exact br_c (fun _ => q _) (fun _ => br_c (fun _ => q _) (fun _ => br_c (fun _ => q _) (fun _ => q _)))
  refine br_c (fun z => nm_r (nI_add _ _) (br_f hg (y_cut rfl hw hd ht hrow h1 (by rw [← hol, ← hoh]; exact z) hol (fun e => by rw [← e]; exact hp) hv (fun L H a b => s306 L H (hh L H a b))))) (fun z => ?_)
  have e : z_cut t (f d) x = f d := if_pos (by rw [← hol, ← hoh]; exact z)
  rw [e, set_id rfl] at hh
  exact hh yL yH hrow (fun q hq => ⟨rfl, rfl⟩)
theorem y_306b {post : SY → Prop} {d t w c : Nat} {g s : Int32} {x : zV} {f : Nat → zV} (hd : d < 8) (ht : 1 ≤ t ∧ t ≤ 4) (hc : c < 12) (hrow : y_row yK yL yH c f) (h1 : (f d).1 = 1) (hv : (f d).2.1.toInt ≤ (f d).2.2.toInt) (hol : yol = x.2.1) (hx : x.2.1 = x.2.2) (hs : ¬ s = 0) (hg : (g = 0 ∧ c = w) ∨ (¬ g = 0 ∧ c = w + 1)) (hp : z_pos (z_opp t) (f d) x = true)
    (hh : ∀ L H, y_row yK L H c (z_set f d (z_cut (z_opp t) (f d) x)) → (∀ q, q ≠ 14 * c + d → L q = yL q ∧ H q = yH q) → post ((ypl, yle, ymo, ysm, ygr, yw, yfa, nI (14 * w), yok, yol, yoh, ylw, yhg, yby, yst, yop, yd, ys, yof, yim, ysz, yth, yK, L, H, yat, yQ, yS, yM, ytg, ywd, ypk, yks, yvs, ymn))) : wY_scalars_306 post (nI t) g s (nI (14 * w + d)) ypl yle ymo ysm ygr yw yfa (nI (14 * w)) yok yol yoh ylw yhg yby yst yop yd ys yof yim ysz yth yK yL yH yat yQ yS yM ytg ywd ypk yks yvs ymn := by
  have go : ∀ b : Nat, z_opp t = b → wY_scalars_334 post g s (nI (14 * w + d)) (nI b) ypl yle ymo ysm ygr yw yfa (nI (14 * w)) yok yol yoh ylw yhg yby yst yop yd ys yof yim ysz yth yK yL yH yat yQ yS yM ytg ywd ypk yks yvs ymn := fun b eb => by
    have hb := opp_in ht
    rw [eb] at hh hp hb
    refine br_f hs ?_
    rcases hg with ⟨z, rfl⟩ | ⟨z, rfl⟩
    · exact br_t z (y_cut rfl hc hd hb hrow h1 hx hol (fun e => by rw [← e]; exact hp) hv hh)
    · refine br_f z (y_cut ?_ hc hd hb hrow h1 hx hol (fun e => by rw [← e]; exact hp) hv hh)
      rw [show (14 : Int32) = nI 14 from rfl, nI_add, show 14 * w + d + 14 = 14 * (w + 1) + d by omega]
  have h4 : t = 1 ∨ t = 2 ∨ t = 3 ∨ t = 4 := by omega
  rcases h4 with rfl | rfl | rfl | rfl
  · exact br_t rfl (go 2 rfl)
  · exact br_f (by decide) (br_t rfl (go 1 rfl))
  · exact br_f (by decide) (br_f (by decide) (br_t rfl (go 4 rfl)))
  · exact br_f (by decide) (br_f (by decide) (br_f (by decide) (go 3 rfl)))
theorem y_273b {post : SY → Prop} {d t w : Nat} {g s : Int32} {x : zV} {f : Nat → zV} (hd : d < 8) (ht : 1 ≤ t ∧ t ≤ 4) (hw : w < 12) (hrow : y_row yK yL yH w f) (h1 : (f d).1 = 1) (hv : (f d).2.1.toInt ≤ (f d).2.2.toInt) (hol : yol = x.2.1) (hoh : yoh = x.2.2) (hg : g = 0) (hs : ¬ s = 0) (hp : z_pos (z_opp t) (f d) x = true)
    (hh : ∀ L H, y_row yK L H w (z_set f d (z_cut (z_opp t) (f d) x)) → (∀ q, q ≠ 14 * w + d → L q = yL q ∧ H q = yH q) → post ((ypl, yle, ymo, ysm, ygr, yw, yfa, nI (14 * w), yok, yol, yoh, ylw, yhg, yby, yst, yop, yd, ys, yof, yim, ysz, yth, yK, L, H, yat, yQ, yS, yM, ytg, ywd, ypk, yks, yvs, ymn))) : wY_scalars_273 post (nI d) (nI t) g s ypl yle ymo ysm ygr yw yfa (nI (14 * w)) yok yol yoh ylw yhg yby yst yop yd ys yof yim ysz yth yK yL yH yat yQ yS yM ytg ywd ypk yks yvs ymn := by
  refine br_c (fun z => nm_r (nI_add _ _) (br_t hg (y_306b (w := w) (c := w) hd ht hw hrow h1 hv hol (by rw [← hol, ← hoh]; exact z) hs (Or.inl ⟨hg, rfl⟩) hp hh))) (fun z => ?_)
  have e : z_cut (z_opp t) (f d) x = f d := if_pos (by rw [← hol, ← hoh]; exact z)
  rw [e, set_id rfl] at hh
  exact hh yL yH hrow (fun q hq => ⟨rfl, rfl⟩)
theorem row_keep {K : Nat → Int32} {L H L' H' : Nat → Int64} {w c d : Nat} {f : Nat → zV} (h : y_row K L H w f) (hc : c ≠ w) (hd : d < 8) (ho : ∀ q, q ≠ 14 * c + d → L' q = L q ∧ H' q = H q) : y_row K L' H' w f := fun k hk => by
  obtain ⟨a, b⟩ := ho (14 * w + k) (by omega)
  rw [a, b]; exact h k hk
theorem y_224 {post : SY → Prop} {d t i to w : Nat} {g s : Int32} {x : zV} {f : Nat → zV} (hd : d < 8) (ht : 1 ≤ t ∧ t ≤ 4) (hto : to ≤ 40) (hi : i < 40) (hw : w ≤ 10) (hrow : y_row yK yL yH w f) (hwf : z_wf i (f, yS w, yQ w)) (hx : z_vw i (yQ w) x) (hc1 : (f d).1 = 1 ∧ x.1 = 1) (hol : yol = x.2.1) (hoh : yoh = x.2.2) (hg : ¬ g = 0 ↔ z_pos t (f d) x = true) (hs : ¬ s = 0 ↔ z_pos (z_opp t) (f d) x = true)
    (h : z_el (fun fl => ¬ fl = 0 → ∀ (ok : Int32) (ol oh lw hg : Int64) (K : Nat → Int32) (L H : Nat → Int64) (At Q : Nat → Int32), post ((nI i, yle, ymo, ysm, ygr, nI (w + 1), fl, nI (14 * w), ok, ol, oh, lw, hg, yby, yst, yop, yd, ys, yof, yim, ysz, yth, K, L, H, At, Q, yS, yM, ytg, ywd, ypk, yks, yvs, ymn))) (fun _ _ => True) (fun j B => ∀ (ok : Int32) (ol oh lw hg : Int64) (K : Nat → Int32) (L H : Nat → Int64) (At Q : Nat → Int32), y_row K L H w B.1 → y_low w yK yL yH K L H → yS w = B.2.1 → Q w = B.2.2 → At w = nI j → (∀ c, c < w → Q c = yQ c ∧ At c = yat c) → post ((ypl, yle, ymo, ysm, ygr, nI (w + 1), 0, nI (14 * w), ok, ol, oh, lw, hg, yby, yst, yop, yd, ys, yof, yim, ysz, yth, K, L, H, At, Q, yS, yM, ytg, ywd, ypk, yks, yvs, ymn))) (fun j C k B => ∀ (ok : Int32) (ol oh lw hg : Int64) (K : Nat → Int32) (L H : Nat → Int64) (At Q S : Nat → Int32), y_row K L H w B.1 → y_row K L H (w + 1) C.1 → y_low w yK yL yH K L H → S w = B.2.1 → Q w = B.2.2 → At w = nI k → S (w + 1) = C.2.1 → Q (w + 1) = C.2.2 → At (w + 1) = nI j → (∀ c, c < w → S c = yS c ∧ Q c = yQ c ∧ At c = yat c) → post ((ypl, yle, ymo, ysm, ygr, nI (w + 2), 0, nI (14 * w), ok, ol, oh, lw, hg, yby, yst, yop, yd, ys, yof, yim, ysz, yth, K, L, H, At, Q, S, yM, ytg, ywd, ypk, yks, yvs, ymn))) (z_jc t d i to f (yS w) (yQ w) x)) : wY_scalars_224 post (nI d) (nI t) (nI to) (nI (i + 1)) g s ypl yle ymo ysm ygr (nI (w + 1)) 0 (nI (14 * w)) yok yol yoh ylw yhg yby yst yop yd ys yof yim ysz yth yK yL yH yat yQ yS yM ytg ywd ypk yks yvs ymn := by
  have vfd : z_vw i (yQ w) (f d) := hwf.1 d
  have a1 := vw_1 vfd hc1.1
  have a2 := vw_1 hx hc1.2
  have hv := a1.2.1
  have vw : vp_in (nI w) 12 := vp_in_nI (by omega) (by omega)
  have ew : (nI w).toNatClampNeg = w := nI_clamp (by omega)
  unfold z_jc at h
  rw [if_pos hc1] at h
  refine nm_r (nI_pred w) ?_
  have at0 : ∀ j : Nat, j ≤ 40 → vp_nar .byte (nI j).toInt8.toInt32 = nI j := fun j hj => kb_nI (by omega)
  have lowd : ∀ {K : Nat → Int32} {L H L' H' : Nat → Int64} {c : Nat}, w ≤ c → (∀ q, q ≠ 14 * c + d → L' q = L q ∧ H' q = H q) → y_low w K L H K L' H' := fun hc ho q hq => ⟨rfl, ho q (by omega)⟩
  by_cases g0 : g = 0
  · have p1 : ¬ z_pos t (f d) x = true := fun z => hg.mpr z g0
    have p2 := pos_or ht a1.2.1 a2.2.1 p1
    have s0 := hs.mpr p2
    rw [if_neg p1] at h
    refine br_t g0 (br_t g0 ⟨vw, nm_r (e' := upd yat w (nI (i + 1))) (by rw [ew, at0 _ (by omega)]) ?_⟩)
    refine y_273b hd ht (by omega) hrow hc1.1 hv hol hoh g0 s0 p2 (fun L H r1 r2 => ?_)
    exact h _ _ _ _ _ yK L H _ yQ r1 (lowd (Nat.le_refl _) r2) rfl rfl pk_us (fun c hc => ⟨rfl, pk_un (by omega)⟩)
  · have p1 := hg.mp g0
    rw [if_pos p1] at h
    by_cases s0 : s = 0
    · have p2 : ¬ z_pos (z_opp t) (f d) x = true := fun z => hs.mpr z s0
      rw [if_neg p2] at h
      refine br_f g0 (br_t s0 (br_f g0 ⟨vw, nm_r (e' := upd yat w (nI to)) (by rw [ew, at0 _ hto]) ?_⟩))
      refine y_273a hd ht (by omega) hrow hc1.1 hv hol hoh g0 s0 p1 (fun L H r1 r2 => ?_)
      exact h _ _ _ _ _ yK L H _ yQ r1 (lowd (Nat.le_refl _) r2) rfl rfl pk_us (fun c hc => ⟨rfl, pk_un (by omega)⟩)
    · have p2 := hs.mp s0
      rw [if_pos p2] at h
      refine br_f g0 (br_f s0 (y_fork rfl rfl hw hto (by omega) hi hrow hwf (fun K L H S Q At r1 r2 r3 q1 q2 q3 q4 q5 q6 q7 => ?_)))
      refine br_c (fun z => nm_r (nI_add _ _) (br_f g0 (y_cut rfl (by omega) hd ht r1 hc1.1 (by rw [← hol, ← hoh]; exact z) hol (fun e => by rw [← e]; exact p1) hv (fun L2 H2 b1 b2 => ?_)))) (fun z => ?_)
      · refine y_306b (w := w) (c := w + 1) hd ht (by omega) (row_keep r2 (by omega) hd b2) hc1.1 hv hol (by rw [← hol, ← hoh]; exact z) s0 (Or.inr ⟨g0, rfl⟩) p2 (fun L3 H3 d1 d2 => ?_)
        refine h _ _ _ _ _ K L3 H3 At Q S (row_keep b1 (by omega) hd d2) d1 (fun q hq => ?_) (q2 w (by omega)) (q4 w (by omega)) q5 q1 q3 q6 (fun c hc => ⟨q2 c (by omega), q4 c (by omega), q7 c hc⟩)
        obtain ⟨e1, e2⟩ := d2 q (by omega)
        obtain ⟨e3, e4⟩ := b2 q (by omega)
        rw [e1, e2, e3, e4]; exact r3 q hq
      · have hne : ¬ x.2.1 = x.2.2 := by rw [← hol, ← hoh]; exact z
        have e1 : ∀ t, z_cut t (f d) x = f d := fun t => if_pos hne
        rw [e1, e1, set_id rfl] at h
        exact h _ _ _ _ _ K L H At Q S r1 r2 r3 (q2 w (by omega)) (q4 w (by omega)) q5 q1 q3 q6 (fun c hc => ⟨q2 c (by omega), q4 c (by omega), q7 c hc⟩)
theorem y_scalars {post : SY → Prop} {d t i to w : Nat} {x : zV} {f : Nat → zV} {p : Int32} (hpp : p = nI (i + 1)) (hd : d < 8) (ht : 1 ≤ t ∧ t ≤ 4) (hto : to ≤ 40) (hi : i < 40) (hw : w ≤ 10) (hrow : y_row yK yL yH w f) (hwf : z_wf i (f, yS w, yQ w)) (hx : z_vw i (yQ w) x) (hc1 : (f d).1 = 1 ∧ x.1 = 1) (hol : yol = x.2.1) (hoh : yoh = x.2.2)
    (h : z_el (fun fl => ¬ fl = 0 → ∀ (ok : Int32) (ol oh lw hg : Int64) (K : Nat → Int32) (L H : Nat → Int64) (At Q : Nat → Int32), post ((nI i, yle, ymo, ysm, ygr, nI (w + 1), fl, nI (14 * w), ok, ol, oh, lw, hg, yby, yst, yop, yd, ys, yof, yim, ysz, yth, K, L, H, At, Q, yS, yM, ytg, ywd, ypk, yks, yvs, ymn))) (fun _ _ => True) (fun j B => ∀ (ok : Int32) (ol oh lw hg : Int64) (K : Nat → Int32) (L H : Nat → Int64) (At Q : Nat → Int32), y_row K L H w B.1 → y_low w yK yL yH K L H → yS w = B.2.1 → Q w = B.2.2 → At w = nI j → (∀ c, c < w → Q c = yQ c ∧ At c = yat c) → post ((ypl, yle, ymo, ysm, ygr, nI (w + 1), 0, nI (14 * w), ok, ol, oh, lw, hg, yby, yst, yop, yd, ys, yof, yim, ysz, yth, K, L, H, At, Q, yS, yM, ytg, ywd, ypk, yks, yvs, ymn))) (fun j C k B => ∀ (ok : Int32) (ol oh lw hg : Int64) (K : Nat → Int32) (L H : Nat → Int64) (At Q S : Nat → Int32), y_row K L H w B.1 → y_row K L H (w + 1) C.1 → y_low w yK yL yH K L H → S w = B.2.1 → Q w = B.2.2 → At w = nI k → S (w + 1) = C.2.1 → Q (w + 1) = C.2.2 → At (w + 1) = nI j → (∀ c, c < w → S c = yS c ∧ Q c = yQ c ∧ At c = yat c) → post ((ypl, yle, ymo, ysm, ygr, nI (w + 2), 0, nI (14 * w), ok, ol, oh, lw, hg, yby, yst, yop, yd, ys, yof, yim, ysz, yth, K, L, H, At, Q, S, yM, ytg, ywd, ypk, yks, yvs, ymn))) (z_jc t d i to f (yS w) (yQ w) x)) : wpY_scalars post ((ypl, yle, ymo, ysm, ygr, nI (w + 1), 0, nI (14 * w), yok, yol, yoh, ylw, yhg, yby, yst, yop, yd, ys, yof, yim, ysz, yth, yK, yL, yH, yat, yQ, yS, yM, ytg, ywd, ypk, yks, yvs, ymn)) (nI d) (nI t) (nI to) p := by
  subst hpp
  have vfd : z_vw i (yQ w) (f d) := hwf.1 d
  have a1 := vw_1 vfd hc1.1
  have a2 := vw_1 hx hc1.2
  have v : vp_in (nI (14 * w) + nI d) 168 := by rw [nI_add]; exact vp_in_nI (by omega) (by omega)
  have e : (nI (14 * w) + nI d).toNatClampNeg = 14 * w + d := by rw [nI_add]; exact nI_clamp (by omega)
  obtain ⟨rK, rL, rH⟩ := hrow d (by omega)
  have rL' := rL (by rw [hc1.1]; decide)
  have rH' := rH (Or.inl hc1.1)
  have n10 : ¬ (1 : Int32) = 0 := by decide
  have n00 : ¬ ¬ (0 : Int32) = 0 := fun z => z rfl
  have T1 : z_pos 1 (f d) x = true ↔ (¬ yoh < (f d).2.1 ∧ ¬ (f d).2.2 < yol) := by rw [hol, hoh]; exact ⟨fun z => of_decide_eq_true z, fun z => decide_eq_true z⟩
  have T2 : z_pos 2 (f d) x = true ↔ ¬ ((f d).2.1 = (f d).2.2 ∧ yol = yoh ∧ (f d).2.1 = yol) := by
    rw [hol, hoh]
    refine Iff.trans ⟨fun z => of_decide_eq_true z, fun z => decide_eq_true z⟩ (show ((f d).2.1 < (f d).2.2 ∨ x.2.1 < x.2.2 ∨ ¬ (f d).2.1 = x.2.1) ↔ _ from ?_)
    rw [li_lt, li_lt, li_eq, li_eq, li_eq]
    omega
  have T3 : z_pos 3 (f d) x = true ↔ ¬ yoh ≤ (f d).2.1 := by rw [hoh]; exact ⟨fun z => of_decide_eq_true z, fun z => decide_eq_true z⟩
  have T4 : z_pos 4 (f d) x = true ↔ ¬ (f d).2.2 < yol := by rw [hol]; exact ⟨fun z => of_decide_eq_true z, fun z => decide_eq_true z⟩
  have fin : ∀ g s : Int32, (¬ g = 0 ↔ z_pos t (f d) x = true) → (¬ s = 0 ↔ z_pos (z_opp t) (f d) x = true) → wY_scalars_224 post (nI d) (nI t) (nI to) (nI (i + 1)) g s ypl yle ymo ysm ygr (nI (w + 1)) 0 (nI (14 * w)) yok yol yoh ylw yhg yby yst yop yd ys yof yim ysz yth yK yL yH yat yQ yS yM ytg ywd ypk yks yvs ymn := fun g s hg hs => y_224 hd ht hto hi hw hrow hwf hx hc1 hol hoh hg hs h
  have g88 : ∀ tf sf : Int32, (¬ tf = 0 ↔ z_pos 1 (f d) x = true) → (sf = 0 ↔ z_pos 2 (f d) x = true) → wY_scalars_88 post (nI d) (nI t) (nI to) (nI (i + 1)) (f d).2.1 (f d).2.2 tf sf ypl yle ymo ysm ygr (nI (w + 1)) 0 (nI (14 * w)) yok yol yoh ylw yhg yby yst yop yd ys yof yim ysz yth yK yL yH yat yQ yS yM ytg ywd ypk yks yvs ymn := by
    intro tf sf htf hsf
    have h4 : t = 1 ∨ t = 2 ∨ t = 3 ∨ t = 4 := by omega
    rcases h4 with rfl | rfl | rfl | rfl
    · exact br_t rfl (br_t rfl (br_c (fun z => fin _ _ htf ⟨fun _ => hsf.mp z, fun _ => n10⟩) (fun z => fin _ _ htf ⟨fun y => absurd y n00, fun y => absurd (hsf.mpr y) z⟩)))
    · have st : ∀ g : Int32, (¬ g = 0 ↔ z_pos 2 (f d) x = true) → wY_scalars_156 post (nI d) (nI 2) (nI to) (nI (i + 1)) (f d).2.1 (f d).2.2 tf sf g ypl yle ymo ysm ygr (nI (w + 1)) 0 (nI (14 * w)) yok yol yoh ylw yhg yby yst yop yd ys yof yim ysz yth yK yL yH yat yQ yS yM ytg ywd ypk yks yvs ymn := fun g hg => br_f (by decide) (br_t rfl (fin g tf hg htf))
      exact br_f (by decide) (br_t rfl (br_c (fun z => st 1 ⟨fun _ => hsf.mp z, fun _ => n10⟩) (fun z => st 0 ⟨fun y => absurd y n00, fun y => absurd (hsf.mpr y) z⟩)))
    · have st : ∀ g : Int32, (¬ g = 0 ↔ z_pos 3 (f d) x = true) → wY_scalars_156 post (nI d) (nI 3) (nI to) (nI (i + 1)) (f d).2.1 (f d).2.2 tf sf g ypl yle ymo ysm ygr (nI (w + 1)) 0 (nI (14 * w)) yok yol yoh ylw yhg yby yst yop yd ys yof yim ysz yth yK yL yH yat yQ yS yM ytg ywd ypk yks yvs ymn := fun g hg => br_f (by decide) (br_f (by decide) (br_t rfl (br_c (fun z => fin g 0 hg ⟨fun y => absurd y n00, fun y => absurd z (T4.mp y)⟩) (fun z => fin g 1 hg ⟨fun _ => T4.mpr z, fun _ => n10⟩))))
      exact br_f (by decide) (br_f (by decide) (br_t rfl (br_c (fun z => st 0 ⟨fun y => absurd y n00, fun y => absurd z (T3.mp y)⟩) (fun z => st 1 ⟨fun _ => T3.mpr z, fun _ => n10⟩))))
    · have st : ∀ g : Int32, (¬ g = 0 ↔ z_pos 4 (f d) x = true) → wY_scalars_156 post (nI d) (nI 4) (nI to) (nI (i + 1)) (f d).2.1 (f d).2.2 tf sf g ypl yle ymo ysm ygr (nI (w + 1)) 0 (nI (14 * w)) yok yol yoh ylw yhg yby yst yop yd ys yof yim ysz yth yK yL yH yat yQ yS yM ytg ywd ypk yks yvs ymn := fun g hg => br_f (by decide) (br_f (by decide) (br_f (by decide) (br_c (fun z => fin g 0 hg ⟨fun y => absurd y n00, fun y => absurd z (T3.mp y)⟩) (fun z => fin g 1 hg ⟨fun _ => T3.mpr z, fun _ => n10⟩))))
      exact br_f (by decide) (br_f (by decide) (br_f (by decide) (br_c (fun z => st 0 ⟨fun y => absurd y n00, fun y => absurd z (T4.mp y)⟩) (fun z => st 1 ⟨fun _ => T4.mpr z, fun _ => n10⟩))))
  have g51 : ∀ tf : Int32, (¬ tf = 0 ↔ z_pos 1 (f d) x = true) → wY_scalars_51 post (nI d) (nI t) (nI to) (nI (i + 1)) (f d).2.1 (f d).2.2 tf ypl yle ymo ysm ygr (nI (w + 1)) 0 (nI (14 * w)) yok yol yoh ylw yhg yby yst yop yd ys yof yim ysz yth yK yL yH yat yQ yS yM ytg ywd ypk yks yvs ymn := fun tf htf => by
    have z87 : ¬ ((f d).2.1 = (f d).2.2 ∧ yol = yoh ∧ (f d).2.1 = yol) → wY_scalars_87 post (nI d) (nI t) (nI to) (nI (i + 1)) (f d).2.1 (f d).2.2 tf ypl yle ymo ysm ygr (nI (w + 1)) 0 (nI (14 * w)) yok yol yoh ylw yhg yby yst yop yd ys yof yim ysz yth yK yL yH yat yQ yS yM ytg ywd ypk yks yvs ymn := fun z => g88 tf 0 htf ⟨fun _ => T2.mpr z, fun _ => rfl⟩
    exact br_c (fun z1 => br_c (fun z2 => br_c (fun z3 => g88 tf 1 htf ⟨fun y => absurd y n10, fun y => absurd ⟨z1, z2, z3⟩ (T2.mp y)⟩) (fun z3 => z87 (fun y => z3 y.2.2))) (fun z2 => z87 (fun y => z2 y.2.1))) (fun z1 => z87 (fun y => z1 y.1))
  refine ⟨v, nm_r (e' := (f d).2.1) (by rw [e, rL']) ⟨v, nm_r (e' := (f d).2.2) (by rw [e, rH']) (br_c (fun z => g51 0 ⟨fun y => absurd y n00, fun y => absurd z (T1.mp y).1⟩) (fun z => br_c (fun z1 => g51 0 ⟨fun y => absurd y n00, fun y => absurd z1 (T1.mp y).2⟩) (fun z1 => g51 1 ⟨fun _ => T1.mpr ⟨z, z1⟩, fun _ => n10⟩)))⟩⟩
end YD
end
section
/-! the reference: what may be none, the packet's end, jumps -/
def y_at (v : zV) (K : Nat → Int32) (L H : Nat → Int64) (q : Nat) : Prop := y_v v (K q) (L q) (H q)
def y_mb (n : Int64) (f : Nat → zV) (K : Nat → Int32) (L H : Nat → Int64) (zr nr j : Nat) : Prop :=
  (∀ k, k < j → y_at (x_sv n true (f k)) K L H (14 * zr + k) ∧ y_at (x_sv n false (f k)) K L H (14 * nr + k)) ∧ (∀ k, j ≤ k → k < 14 → y_at (f k) K L H (14 * zr + k) ∧ y_at (f k) K L H (14 * nr + k))
theorem ya_ne {v : zV} {K : Nat → Int32} {L H : Nat → Int64} {q c : Nat} {k : Int32} {l h : Int64} (hv : y_at v K L H q) (hq : q ≠ c) : y_at v (upd K c k) (vp_updL L c l) (vp_updL H c h) q := by
  unfold y_at
  rw [pk_un hq, pk_uLn hq, pk_uLn hq]
  exact hv
theorem ya_set {v : zV} {K : Nat → Int32} {L H : Nat → Int64} {c : Nat} : y_at v (upd K c v.1) (vp_updL L c v.2.1) (vp_updL H c v.2.2) c := by
  unfold y_at
  rw [pk_us, pk_uLs, pk_uLs]
  exact yv_rf v
theorem mb_up {n : Int64} {f : Nat → zV} {K : Nat → Int32} {L H : Nat → Int64} {zr nr j : Nat} (h : y_mb n f K L H zr nr j) (hj : j < 14) (hn : ¬ ((f j).1 = 6 ∧ (f j).2.1 = n)) : y_mb n f K L H zr nr (j + 1) := by
  refine ⟨fun k hk => ?_, fun k h1 h2 => h.2 k (by omega) h2⟩
  by_cases e : k = j
  · subst e
    have a := h.2 k (Nat.le_refl _) hj
    have e1 : ∀ b, x_sv n b (f k) = f k := fun b => if_neg hn
    rw [e1, e1]
    exact a
  · exact h.1 k (by omega)
theorem mb_set {n : Int64} {f : Nat → zV} {K : Nat → Int32} {L H : Nat → Int64} {zr nr j : Nat} (h : y_mb n f K L H zr nr j) (hz : zr = nr + 1 ∨ nr = zr + 1) (hj : j < 14) (hn : (f j).1 = 6 ∧ (f j).2.1 = n) : y_mb n f (upd (upd K (14 * zr + j) 1) (14 * nr + j) 5) (vp_updL (vp_updL L (14 * zr + j) 0) (14 * nr + j) 0) (vp_updL (vp_updL H (14 * zr + j) 0) (14 * nr + j) 0) zr nr (j + 1) := by
  refine ⟨fun k hk => ?_, fun k h1 h2 => ?_⟩
  · by_cases e : k = j
    · subst e
      have e1 : x_sv n true (f k) = (1, 0, 0) := if_pos hn
      have e2 : x_sv n false (f k) = (5, 0, 0) := if_pos hn
      rw [e1, e2]
      exact ⟨ya_ne (ya_set (v := (1, 0, 0))) (by omega), ya_set (v := (5, 0, 0))⟩
    · obtain ⟨a, b⟩ := h.1 k (by omega)
      exact ⟨ya_ne (ya_ne a (by omega)) (by omega), ya_ne (ya_ne b (by omega)) (by omega)⟩
  · obtain ⟨a, b⟩ := h.2 k (by omega) h2
    exact ⟨ya_ne (ya_ne a (by omega)) (by omega), ya_ne (ya_ne b (by omega)) (by omega)⟩
section YE
variable {ypl : Int32} {yle ymo ysm ygr : Int64} {yw yfa yb yok : Int32} {yol yoh ylw yhg : Int64} {yby yst : Int32} {yop yd ys yof yim ysz yth yK : Nat → Int32} {yL yH : Nat → Int64} {yat yQ yS yM ytg : Nat → Int32} {ywd : Nat → Int64} {ypk : Nat → Int32} {yks yvs : Nat → Int64} {ymn : Nat → Int32}
theorem y_maybeL {post : SY → Prop} {zr nr w : Nat} {n : Int64} {x1 : Int32} {f : Nat → zV} {K0 : Nat → Int32} {L0 H0 : Nat → Int64} (hx : x1.toInt64 = n) (hz : zr = nr + 1 ∨ nr = zr + 1) (hw : w ≤ zr ∧ w ≤ nr) (h12 : zr < 12 ∧ nr < 12)
    (hh : ∀ K L H, y_mb n f K L H zr nr 14 → y_low w K0 L0 H0 K L H → post ((ypl, yle, ymo, ysm, ygr, yw, yfa, yb, yok, yol, yoh, ylw, yhg, yby, yst, yop, yd, ys, yof, yim, ysz, yth, K, L, H, yat, yQ, yS, yM, ytg, ywd, ypk, yks, yvs, ymn))) :
    ∀ (m j : Nat) (K : Nat → Int32) (L H : Nat → Int64), j + m = 14 → y_mb n f K L H zr nr j → y_low w K0 L0 H0 K L H → ∀ k, m < k → wY_maybe_52 post x1 (nI (14 * zr)) (nI (14 * nr)) ypl yle ymo ysm ygr yw yfa yb yok yol yoh ylw yhg yby yst k (nI j) yop yd ys yof yim ysz yth K L H yat yQ yS yM ytg ywd ypk yks yvs ymn := by
  intro m
  induction m with
  | zero =>
    intro j K L H hj hc hl k hk
    obtain ⟨k, rfl⟩ : ∃ k', k = k' + 1 := ⟨k - 1, by omega⟩
    obtain rfl : j = 14 := by omega
    rw [wY_maybe_52]
    exact br_t (nI_le (a := 14) (b := 14) (by omega) (by omega)) (hh K L H hc hl)
  | succ m ih =>
    intro j K L H hj hc hl k hk
    obtain ⟨k, rfl⟩ : ∃ k', k = k' + 1 := ⟨k - 1, by omega⟩
    rw [wY_maybe_52]
    have va : vp_in (nI (14 * zr) + nI j) 168 := by rw [nI_add]; exact vp_in_nI (by omega) (by omega)
    have ea : (nI (14 * zr) + nI j).toNatClampNeg = 14 * zr + j := by rw [nI_add]; exact nI_clamp (by omega)
    have vb : vp_in (nI (14 * nr) + nI j) 168 := by rw [nI_add]; exact vp_in_nI (by omega) (by omega)
    have eb : (nI (14 * nr) + nI j).toNatClampNeg = 14 * nr + j := by rw [nI_add]; exact nI_clamp (by omega)
    obtain ⟨⟨a1, a2, -⟩, ⟨b1, b2, -⟩⟩ := hc.2 j (Nat.le_refl _) (by omega)
    have s123 : ¬ ((f j).1 = 6 ∧ (f j).2.1 = n) → wY_maybe_123 post (wY_maybe_52 post x1 (nI (14 * zr)) (nI (14 * nr)) ypl yle ymo ysm ygr yw yfa yb yok yol yoh ylw yhg yby yst k) x1 (nI (14 * zr)) (nI (14 * nr)) (nI j) ypl yle ymo ysm ygr yw yfa yb yok yol yoh ylw yhg yby yst yop yd ys yof yim ysz yth K L H yat yQ yS yM ytg ywd ypk yks yvs ymn := fun hn => by
      have go := nm_r (P := fun y => wY_maybe_52 post x1 (nI (14 * zr)) (nI (14 * nr)) ypl yle ymo ysm ygr yw yfa yb yok yol yoh ylw yhg yby yst k y yop yd ys yof yim ysz yth K L H yat yQ yS yM ytg ywd ypk yks yvs ymn) (nI_1 j) (ih (j + 1) K L H (by omega) (mb_up hc (by omega) hn) hl k (by omega))
      refine ⟨vb, ?_⟩
      rw [eb, b1]
      refine br_c (fun z => ⟨vb, ?_⟩) (fun z => go)
      rw [b2 (by rw [z]; decide), hx]
      exact br_f (fun y => hn ⟨z, y⟩) go
    refine br_f (nI_ge (b := 14) (by omega) (by omega)) ⟨va, ?_⟩
    rw [ea, a1]
    refine br_c (fun z => ⟨va, ?_⟩) (fun z => s123 (fun y => z y.1))
    rw [a2 (by rw [z]; decide), hx]
    refine br_c (fun z1 => ⟨va, nm_r (e' := upd K (14 * zr + j) 1) (by rw [kb_n kb_01.2.1]) ⟨va, nm_e ⟨va, nm_e ⟨vb, ?_⟩⟩⟩⟩) (fun z1 => s123 (fun y => z1 y.2))
    rw [eb]
    refine br_t (by rw [pk_un (by omega), b1]; exact z) ⟨vb, br_t (by rw [pk_uLn (by omega), b2 (by rw [z]; decide), hx]; exact z1) ⟨vb, nm_r (e' := upd (upd K (14 * zr + j) 1) (14 * nr + j) 5) (by rw [kb_n kb_01.2.2.2.2.2.1]) ⟨vb, nm_e ⟨vb, nm_e (nm_r (nI_1 j) (ih (j + 1) _ _ _ (by omega) (mb_set hc hz (by omega) ⟨z, z1⟩) (fun q hq => ?_) k (by omega)))⟩⟩⟩⟩
    rw [pk_un (by omega), pk_un (by omega), pk_uLn (by omega), pk_uLn (by omega), pk_uLn (by omega), pk_uLn (by omega)]
    exact hl q hq
theorem y_maybe {post : SY → Prop} {d t i to w : Nat} {x : zV} {f : Nat → zV} {p q : Int32} (hq : q = nI (i + 1)) (hp : p.toInt64 = (f d).2.1) (hd : d < 8) (ht : t = 1 ∨ t = 2) (hto : to ≤ 40) (hi : i < 40) (hw : w ≤ 10) (hrow : y_row yK yL yH w f) (hwf : z_wf i (f, yS w, yQ w)) (hc2 : (f d).1 = 6 ∧ x.1 = 1 ∧ x.2.2 = 0 ∧ t < 3)
    (h : z_el (fun fl => ¬ fl = 0 → ∀ (ok : Int32) (ol oh lw hg : Int64) (K : Nat → Int32) (L H : Nat → Int64) (At Q : Nat → Int32), post ((nI i, yle, ymo, ysm, ygr, nI (w + 1), fl, nI (14 * w), ok, ol, oh, lw, hg, yby, yst, yop, yd, ys, yof, yim, ysz, yth, K, L, H, At, Q, yS, yM, ytg, ywd, ypk, yks, yvs, ymn))) (fun _ _ => True) (fun j B => ∀ (ok : Int32) (ol oh lw hg : Int64) (K : Nat → Int32) (L H : Nat → Int64) (At Q : Nat → Int32), y_row K L H w B.1 → y_low w yK yL yH K L H → yS w = B.2.1 → Q w = B.2.2 → At w = nI j → (∀ c, c < w → Q c = yQ c ∧ At c = yat c) → post ((ypl, yle, ymo, ysm, ygr, nI (w + 1), 0, nI (14 * w), ok, ol, oh, lw, hg, yby, yst, yop, yd, ys, yof, yim, ysz, yth, K, L, H, At, Q, yS, yM, ytg, ywd, ypk, yks, yvs, ymn))) (fun j C k B => ∀ (ok : Int32) (ol oh lw hg : Int64) (K : Nat → Int32) (L H : Nat → Int64) (At Q S : Nat → Int32), y_row K L H w B.1 → y_row K L H (w + 1) C.1 → y_low w yK yL yH K L H → S w = B.2.1 → Q w = B.2.2 → At w = nI k → S (w + 1) = C.2.1 → Q (w + 1) = C.2.2 → At (w + 1) = nI j → (∀ c, c < w → S c = yS c ∧ Q c = yQ c ∧ At c = yat c) → post ((ypl, yle, ymo, ysm, ygr, nI (w + 2), 0, nI (14 * w), ok, ol, oh, lw, hg, yby, yst, yop, yd, ys, yof, yim, ysz, yth, K, L, H, At, Q, S, yM, ytg, ywd, ypk, yks, yvs, ymn))) (z_jc t d i to f (yS w) (yQ w) x)) : wpY_maybe post ((ypl, yle, ymo, ysm, ygr, nI (w + 1), 0, nI (14 * w), yok, yol, yoh, ylw, yhg, yby, yst, yop, yd, ys, yof, yim, ysz, yth, yK, yL, yH, yat, yQ, yS, yM, ytg, ywd, ypk, yks, yvs, ymn)) p (nI t) (nI to) q := by
  unfold z_jc at h
  rw [if_neg (fun z => absurd (z.1.symm.trans hc2.1) (by decide)), if_pos hc2] at h
  have e14 : nI (14 * w) + 14 = nI (14 * (w + 1)) := by rw [show (14 : Int32) = nI 14 from rfl, nI_add, show 14 * w + 14 = 14 * (w + 1) by omega]
  have rows : ∀ {K L H b}, y_mb (f d).2.1 f K L H b (b + 1) 14 → y_row K L H b (z_stl f (f d).2.1 true) ∧ y_row K L H (b + 1) (z_stl f (f d).2.1 false) := fun hm => ⟨fun k hk => (hm.1 k hk).1, fun k hk => (hm.1 k hk).2⟩
  have rows' : ∀ {K L H b}, y_mb (f d).2.1 f K L H (b + 1) b 14 → y_row K L H b (z_stl f (f d).2.1 false) ∧ y_row K L H (b + 1) (z_stl f (f d).2.1 true) := fun hm => ⟨fun k hk => (hm.1 k hk).2, fun k hk => (hm.1 k hk).1⟩
  rcases ht with rfl | rfl
  · refine br_t rfl (br_t rfl ?_)
    refine y_fork rfl hq hw hto (by omega) hi hrow hwf (fun K L H S Q At r1 r2 r3 q1 q2 q3 q4 q5 q6 q7 => ⟨15, ?_⟩)
    rw [e14]
    refine y_maybeL (zr := w) (nr := w + 1) (w := w) (K0 := yK) (L0 := yL) (H0 := yH) hp (Or.inr rfl) (by omega) (by omega) (fun K2 L2 H2 m1 m2 => ?_) 14 0 K L H (by omega) ⟨fun k hk => by omega, fun k h1 h2 => ⟨r1 k h2, r2 k h2⟩⟩ r3 15 (by omega)
    obtain ⟨s1, s2⟩ := rows m1
    exact h _ _ _ _ _ K2 L2 H2 At Q S s1 s2 m2 (q2 w (by omega)) (q4 w (by omega)) q5 q1 q3 q6 (fun c hc => ⟨q2 c (by omega), q4 c (by omega), q7 c hc⟩)
  · refine br_f (by decide) (br_f (by decide) ?_)
    refine y_fork rfl hq hw hto (by omega) hi hrow hwf (fun K L H S Q At r1 r2 r3 q1 q2 q3 q4 q5 q6 q7 => ⟨15, ?_⟩)
    rw [e14]
    refine y_maybeL (zr := w + 1) (nr := w) (w := w) (K0 := yK) (L0 := yL) (H0 := yH) hp (Or.inl rfl) (by omega) (by omega) (fun K2 L2 H2 m1 m2 => ?_) 14 0 K L H (by omega) ⟨fun k hk => by omega, fun k h1 h2 => ⟨r2 k h2, r1 k h2⟩⟩ r3 15 (by omega)
    obtain ⟨s1, s2⟩ := rows' m1
    exact h _ _ _ _ _ K2 L2 H2 At Q S s1 s2 m2 (q2 w (by omega)) (q4 w (by omega)) q5 q1 q3 q6 (fun c hc => ⟨q2 c (by omega), q4 c (by omega), q7 c hc⟩)
theorem y_b29 {post : SY → Prop} {c : Nat} {y : Int64} {p : Int32} (hp : p = nI c) (hc : c < 12) (hS : ∃ a, a ≤ 256 ∧ yS c = nI a) (hy : 0 ≤ y.toInt ∧ y.toInt ≤ 256) (hh : ∀ S, S c = z_mx (yS c) y.toInt32 → (∀ q, q ≠ c → S q = yS q) → post ((ypl, yle, ymo, ysm, ygr, yw, yfa, yb, yok, yol, yoh, ylw, yhg, yby, yst, yop, yd, ys, yof, yim, ysz, yth, yK, yL, yH, yat, yQ, S, yM, ytg, ywd, ypk, yks, yvs, ymn))) : wY_bounds_29 post y p ypl yle ymo ysm ygr yw yfa yb yok yol yoh ylw yhg yby yst yop yd ys yof yim ysz yth yK yL yH yat yQ yS yM ytg ywd ypk yks yvs ymn := by
  subst hp
  obtain ⟨a, ha, ea⟩ := hS
  obtain ⟨m, hm, em, ei, _, _⟩ := sm_lN (x := y) (n := 257) hy.1 (by omega) (by decide)
  have v : vp_in (nI c) 12 := vp_in_nI hc (by omega)
  have e : (nI c).toNatClampNeg = c := nI_clamp (by omega)
  refine ⟨v, ?_⟩
  rw [ea, ei] at hh
  rw [e, ea, nI_l (by omega), em]
  have key : (lN m ≤ lN a) ↔ m ≤ a := pk_lLE (by omega) (by omega)
  refine br_c (fun z => hh yS ?_ (fun _ _ => rfl)) (fun z => ⟨v, nm_e (hh _ ?_ (fun q hq => ?_))⟩)
  · rw [ea, z_mx, if_pos (nI_le (key.mp z) (by omega))]
  · rw [pk_us, z_mx, if_neg (nI_ge (by have q : ¬ m ≤ a := fun q => z (key.mpr q); omega) (by omega)), lN_i, ks_nI2 (by omega)]
  · rw [pk_un hq]
theorem y_bounds {post : SY → Prop} {i to w : Nat} {y : Int64} {g q : Int32} {f : Nat → zV} (hq : q = nI (i + 1)) (hto : to ≤ 40) (hi : i < 40) (hw : w ≤ 10) (hrow : y_row yK yL yH w f) (hwf : z_wf i (f, yS w, yQ w)) (hy : 0 ≤ y.toInt ∧ y.toInt ≤ 256)
    (hh : ∀ (K : Nat → Int32) (L H : Nat → Int64) (At Q S : Nat → Int32), y_row K L H w f → y_row K L H (w + 1) f → y_low w yK yL yH K L H → S w = (if g = 0 then yS w else z_mx (yS w) y.toInt32) → Q w = yQ w → At w = nI to → S (w + 1) = (if g = 0 then z_mx (yS w) y.toInt32 else yS w) → Q (w + 1) = yQ w → At (w + 1) = nI (i + 1) → (∀ c, c < w → S c = yS c ∧ Q c = yQ c ∧ At c = yat c) → post ((ypl, yle, ymo, ysm, ygr, nI (w + 2), yfa, nI (14 * w), yok, yol, yoh, ylw, yhg, yby, yst, yop, yd, ys, yof, yim, ysz, yth, K, L, H, At, Q, S, yM, ytg, ywd, ypk, yks, yvs, ymn))) :
    wpY_bounds post ((ypl, yle, ymo, ysm, ygr, nI (w + 1), yfa, nI (14 * w), yok, yol, yoh, ylw, yhg, yby, yst, yop, yd, ys, yof, yim, ysz, yth, yK, yL, yH, yat, yQ, yS, yM, ytg, ywd, ypk, yks, yvs, ymn)) y g (nI to) q := by
  refine nm_r (nI_pred w) ?_
  refine y_fork rfl hq hw hto (by omega) hi hrow hwf (fun K L H S Q At r1 r2 r3 q1 q2 q3 q4 q5 q6 q7 => ?_)
  refine br_c (fun z => ?_) (fun z => ?_)
  · simp only [if_pos z] at hh
    refine y_b29 (c := w + 1) (nI_1 w) (by omega) (by rw [q1]; exact hwf.2.1) hy (fun S2 s1 s2 => hh K L H At Q S2 r1 r2 r3 ?_ (q4 w (by omega)) q5 ?_ q3 q6 (fun c hc => ⟨?_, q4 c (by omega), q7 c hc⟩))
    · rw [s2 w (by omega), q2 w (by omega)]
    · rw [s1, q1]
    · rw [s2 c (by omega), q2 c (by omega)]
  · simp only [if_neg z] at hh
    refine y_b29 (c := w) rfl (by omega) (by rw [q2 w (by omega)]; exact hwf.2.1) hy (fun S2 s1 s2 => hh K L H At Q S2 r1 r2 r3 ?_ (q4 w (by omega)) q5 ?_ q3 q6 (fun c hc => ⟨?_, q4 c (by omega), q7 c hc⟩))
    · rw [s1, q2 w (by omega)]
    · rw [s2 (w + 1) (by omega), q1]
    · rw [s2 c (by omega), q2 c (by omega)]
end YE
end
section
/-! the reference: jumps -/
section YF
variable {ypl : Int32} {yle ymo ysm ygr : Int64} {yw yfa yb yok : Int32} {yol yoh ylw yhg : Int64} {yby yst : Int32} {yop yd ys yof yim ysz yth yK : Nat → Int32} {yL yH : Nat → Int64} {yat yQ yS yM ytg : Nat → Int32} {ywd : Nat → Int64} {ypk : Nat → Int32} {yks yvs : Nat → Int64} {ymn : Nat → Int32}
theorem y_j125 {post : SY → Prop} {o d s i to w : Nat} {g im : Int32} {x : zV} {f : Nat → zV} (ps : ys (80 + i) = nI s) (pim : yim (80 + i) = im) (hx : (if g = 0 then z_im im else z_src s f) = x) (ho : o < 100) (ht : 1 ≤ o % 10 ∧ o % 10 ≤ 4) (hd : d < 8) (hs : s ≤ 8) (hto : to ≤ 40) (hi : i < 40) (hw : w ≤ 10) (hrow : y_row yK yL yH w f) (hwf : z_wf i (f, yS w, yQ w)) (d0 : ¬ (f d).1 = 0) (x0 : ¬ x.1 = 0)
    (h : z_el (fun fl => ¬ fl = 0 → ∀ (ok : Int32) (ol oh lw hg : Int64) (K : Nat → Int32) (L H : Nat → Int64) (At Q : Nat → Int32), post ((nI i, yle, ymo, ysm, ygr, nI (w + 1), fl, nI (14 * w), ok, ol, oh, lw, hg, yby, yst, yop, yd, ys, yof, yim, ysz, yth, K, L, H, At, Q, yS, yM, ytg, ywd, ypk, yks, yvs, ymn))) (fun _ _ => True) (fun j B => ∀ (ok : Int32) (ol oh lw hg : Int64) (K : Nat → Int32) (L H : Nat → Int64) (At Q : Nat → Int32), y_row K L H w B.1 → y_low w yK yL yH K L H → yS w = B.2.1 → Q w = B.2.2 → At w = nI j → (∀ c, c < w → Q c = yQ c ∧ At c = yat c) → post ((ypl, yle, ymo, ysm, ygr, nI (w + 1), 0, nI (14 * w), ok, ol, oh, lw, hg, yby, yst, yop, yd, ys, yof, yim, ysz, yth, K, L, H, At, Q, yS, yM, ytg, ywd, ypk, yks, yvs, ymn))) (fun j C k B => ∀ (ok : Int32) (ol oh lw hg : Int64) (K : Nat → Int32) (L H : Nat → Int64) (At Q S : Nat → Int32), y_row K L H w B.1 → y_row K L H (w + 1) C.1 → y_low w yK yL yH K L H → S w = B.2.1 → Q w = B.2.2 → At w = nI k → S (w + 1) = C.2.1 → Q (w + 1) = C.2.2 → At (w + 1) = nI j → (∀ c, c < w → S c = yS c ∧ Q c = yQ c ∧ At c = yat c) → post ((ypl, yle, ymo, ysm, ygr, nI (w + 2), 0, nI (14 * w), ok, ol, oh, lw, hg, yby, yst, yop, yd, ys, yof, yim, ysz, yth, K, L, H, At, Q, S, yM, ytg, ywd, ypk, yks, yvs, ymn))) (z_jc (o % 10) d i to f (yS w) (yQ w) x)) : wY_jump_125 post (nI (80 + i)) (nI i) (nI o) (nI to) g (nI d) ypl yle ymo ysm ygr (nI (w + 1)) 0 (nI (14 * w)) yok yol yoh ylw yhg yby yst yop yd ys yof yim ysz yth yK yL yH yat yQ yS yM ytg ywd ypk yks yvs ymn := by
  have ho10 : nI o - nI o / 10 * 10 = nI (o % 10) := pk_rem (d := 10) (by omega) (by omega) (by omega)
  have vi : vp_in (nI (14 * w) + nI d) 168 := by rw [nI_add]; exact vp_in_nI (by omega) (by omega)
  have ei : (nI (14 * w) + nI d).toNatClampNeg = 14 * w + d := by rw [nI_add]; exact nI_clamp (by omega)
  obtain ⟨rK, rL, rH⟩ := hrow d (by omega)
  have rL' := rL d0
  have vfd : z_vw i (yQ w) (f d) := hwf.1 d
  have vx : z_vw i (yQ w) x := by
    rw [← hx]
    by_cases c : g = 0
    · rw [if_pos c]; exact vw_im _ _ _
    · rw [if_neg c]; exact vw_src hwf.1
  have n1 : nI i + 1 = nI (i + 1) := nI_1 i
  generalize hN : o % 10 = t at *
  refine y_other ps pim hs hi (by omega) hrow (fun ok ol oh hv => ⟨vi, nm_r (e' := (f d).1) (by rw [ei, rK]) ⟨by decide, nm_r ho10 ?_⟩⟩)
  rw [hx] at hv
  obtain ⟨e1, e2, e3⟩ := hv
  have e2' := e2 x0
  subst e1
  subst e2'
  by_cases c1 : (f d).1 = 1 ∧ x.1 = 1
  · exact br_t c1.1 (br_t c1.2 (y_scalars n1 hd ht hto hi hw hrow hwf vx c1 rfl (e3 (Or.inl c1.2)) h))
  have g182 : wY_jump_182 post (nI i) (nI to) (nI d) (f d).1 (nI t) ypl yle ymo ysm ygr (nI (w + 1)) 0 (nI (14 * w)) x.1 x.2.1 oh ylw yhg yby yst yop yd ys yof yim ysz yth yK yL yH yat yQ yS yM ytg ywd ypk yks yvs ymn := by
    by_cases c2 : (f d).1 = 6 ∧ x.1 = 1 ∧ x.2.2 = 0 ∧ t < 3
    · have w6 := vw_6 vfd c2.1
      obtain ⟨b, hb, eb⟩ := hwf.2.2.1
      have eb' : yQ w = nI b := eb
      refine br_t c2.1 (br_t c2.2.1 (br_t (by rw [e3 (Or.inl c2.2.1)]; exact c2.2.2.1) (br_f (nI_ge (b := 3) c2.2.2.2 (by omega)) ⟨vi, y_maybe (x := x) n1 ?_ hd (by omega) hto hi hw hrow hwf c2 h⟩)))
      rw [ei, rL', w6.2, eb', nI_l (by omega), lN_i, nI_l (by omega)]
    have bad : ¬ (2 < t ∧ (f d).1 = 2 ∧ x.1 = 3) → ¬ (2 < t ∧ (f d).1 = 3 ∧ x.1 = 2) → wY_jump_343 post (nI i) ypl yle ymo ysm ygr (nI (w + 1)) 0 (nI (14 * w)) x.1 x.2.1 oh ylw yhg yby yst yop yd ys yof yim ysz yth yK yL yH yat yQ yS yM ytg ywd ypk yks yvs ymn := by
      intro c3 c4
      unfold z_jc at h
      rw [if_neg c1, if_neg c2, if_neg c3, if_neg c4] at h
      exact h (by decide) _ _ _ _ _ _ _ _ _ _
    have g296 : ¬ (2 < t ∧ (f d).1 = 2 ∧ x.1 = 3) → wY_jump_296 post (nI i) (nI to) (f d).1 (nI t) ypl yle ymo ysm ygr (nI (w + 1)) 0 (nI (14 * w)) x.1 x.2.1 oh ylw yhg yby yst yop yd ys yof yim ysz yth yK yL yH yat yQ yS yM ytg ywd ypk yks yvs ymn := by
      intro c3
      by_cases c0 : t ≤ 2
      · exact br_t (nI_le (b := 2) c0 (by omega)) (bad c3 (by omega))
      refine br_f (nI_ge (a := 2) (by omega) (by omega)) ?_
      by_cases c4 : (f d).1 = 3 ∧ x.1 = 2
      · have w2 := vw_2 vx c4.2
        unfold z_jc at h
        rw [if_neg c1, if_neg c2, if_neg c3, if_pos ⟨by omega, c4⟩] at h
        have h34 : t = 3 ∨ t = 4 := by omega
        refine br_t c4.1 (br_t c4.2 ?_)
        rcases h34 with rfl | rfl
        · rw [if_pos rfl] at h
          exact br_f (by decide) (y_bounds n1 hto hi hw hrow hwf ⟨w2.1, by omega⟩ (fun K L H At Q S a1 a2 a3 a4 a5 a6 a7 a8 a9 a10 => h _ _ _ _ _ K L H At Q S a1 a2 a3 a4 a5 a6 a7 a8 a9 a10))
        · rw [if_neg (by decide)] at h
          exact br_t rfl (y_bounds n1 hto hi hw hrow hwf ⟨w2.1, by omega⟩ (fun K L H At Q S a1 a2 a3 a4 a5 a6 a7 a8 a9 a10 => h _ _ _ _ _ K L H At Q S a1 a2 a3 a4 a5 a6 a7 a8 a9 a10))
      · have b := bad c3 (fun z => c4 z.2)
        exact br_c (fun z => br_c (fun z1 => absurd ⟨z, z1⟩ c4) (fun _ => b)) (fun _ => b)
    have g239 : wY_jump_239 post (nI i) (nI to) (nI d) (f d).1 (nI t) ypl yle ymo ysm ygr (nI (w + 1)) 0 (nI (14 * w)) x.1 x.2.1 oh ylw yhg yby yst yop yd ys yof yim ysz yth yK yL yH yat yQ yS yM ytg ywd ypk yks yvs ymn := by
      by_cases c0 : t ≤ 2
      · exact br_t (nI_le (b := 2) c0 (by omega)) (g296 (by omega))
      refine br_f (nI_ge (a := 2) (by omega) (by omega)) ?_
      by_cases c3 : (f d).1 = 2 ∧ x.1 = 3
      · have w2 := vw_2 vfd c3.1
        have e := li_add (a := (f d).2.1) (b := 1) (by omega) (by omega) (by decide) (by decide)
        rw [li_1] at e
        unfold z_jc at h
        rw [if_neg c1, if_neg c2, if_pos ⟨by omega, c3⟩] at h
        have h34 : t = 3 ∨ t = 4 := by omega
        refine br_t c3.1 (br_t c3.2 ⟨vi, ?_⟩)
        rw [ei, rL']
        rcases h34 with rfl | rfl
        · rw [if_pos rfl] at h
          exact br_t rfl (y_bounds n1 hto hi hw hrow hwf ⟨by omega, by omega⟩ (fun K L H At Q S a1 a2 a3 a4 a5 a6 a7 a8 a9 a10 => h _ _ _ _ _ K L H At Q S a1 a2 a3 a4 a5 a6 a7 a8 a9 a10))
        · rw [if_neg (by decide)] at h
          exact br_f (by decide) (y_bounds n1 hto hi hw hrow hwf ⟨by omega, by omega⟩ (fun K L H At Q S a1 a2 a3 a4 a5 a6 a7 a8 a9 a10 => h _ _ _ _ _ K L H At Q S a1 a2 a3 a4 a5 a6 a7 a8 a9 a10))
      · have g := g296 (fun z => c3 z.2)
        exact br_c (fun z => br_c (fun z1 => absurd ⟨z, z1⟩ c3) (fun _ => g)) (fun _ => g)
    refine br_c (fun z => br_c (fun z1 => br_c (fun z2 => br_c (fun _ => g239) (fun z3 => absurd ⟨z, z1, by rw [← e3 (Or.inl z1)]; exact z2, ?_⟩ c2)) (fun _ => g239)) (fun _ => g239)) (fun _ => g239)
    exact Nat.lt_of_not_le (fun y => z3 (nI_le (a := 3) y (by omega)))
  exact br_c (fun z => br_c (fun z1 => absurd ⟨z, z1⟩ c1) (fun _ => g182)) (fun _ => g182)
theorem y_jump {post : SY → Prop} {o d s i w : Nat} {off im : Int32} {f : Nat → zV} (pd : yd (80 + i) = nI d) (ps : ys (80 + i) = nI s) (pof : yof (80 + i) = off) (pim : yim (80 + i) = im) (hn : z_nm o) (h20 : 20 ≤ o) (h40 : o < 40) (hd : d < 8) (hs : s ≤ 8) (hi : i < 40) (hw : w ≤ 10) (hrow : y_row yK yL yH w f) (hwf : z_wf i (f, yS w, yQ w))
    (h : z_el (fun fl => ¬ fl = 0 → ∀ (ok : Int32) (ol oh lw hg : Int64) (K : Nat → Int32) (L H : Nat → Int64) (At Q : Nat → Int32), post ((nI i, yle, ymo, ysm, ygr, nI (w + 1), fl, nI (14 * w), ok, ol, oh, lw, hg, yby, yst, yop, yd, ys, yof, yim, ysz, yth, K, L, H, At, Q, yS, yM, ytg, ywd, ypk, yks, yvs, ymn))) (fun _ _ => True) (fun j B => ∀ (ok : Int32) (ol oh lw hg : Int64) (K : Nat → Int32) (L H : Nat → Int64) (At Q : Nat → Int32), y_row K L H w B.1 → y_low w yK yL yH K L H → yS w = B.2.1 → Q w = B.2.2 → At w = nI j → (∀ c, c < w → Q c = yQ c ∧ At c = yat c) → post ((ypl, yle, ymo, ysm, ygr, nI (w + 1), 0, nI (14 * w), ok, ol, oh, lw, hg, yby, yst, yop, yd, ys, yof, yim, ysz, yth, K, L, H, At, Q, yS, yM, ytg, ywd, ypk, yks, yvs, ymn))) (fun j C k B => ∀ (ok : Int32) (ol oh lw hg : Int64) (K : Nat → Int32) (L H : Nat → Int64) (At Q S : Nat → Int32), y_row K L H w B.1 → y_row K L H (w + 1) C.1 → y_low w yK yL yH K L H → S w = B.2.1 → Q w = B.2.2 → At w = nI k → S (w + 1) = C.2.1 → Q (w + 1) = C.2.2 → At (w + 1) = nI j → (∀ c, c < w → S c = yS c ∧ Q c = yQ c ∧ At c = yat c) → post ((ypl, yle, ymo, ysm, ygr, nI (w + 2), 0, nI (14 * w), ok, ol, oh, lw, hg, yby, yst, yop, yd, ys, yof, yim, ysz, yth, K, L, H, At, Q, S, yM, ytg, ywd, ypk, yks, yvs, ymn))) (z_jmp o d s i off im f (yS w) (yQ w))) : wpY_jump post ((ypl, yle, ymo, ysm, ygr, nI (w + 1), 0, nI (14 * w), yok, yol, yoh, ylw, yhg, yby, yst, yop, yd, ys, yof, yim, ysz, yth, yK, yL, yH, yat, yQ, yS, yM, ytg, ywd, ypk, yks, yvs, ymn)) (nI (80 + i)) (nI i) (nI o) := by
  have vc : vp_in (nI (80 + i)) 120 := vp_in_nI (by omega) (by omega)
  have ec : (nI (80 + i)).toNatClampNeg = 80 + i := nI_clamp (by omega)
  have pd' : yd (nI (80 + i)).toNatClampNeg = nI d := by rw [ec, pd]
  have ps' : ys (nI (80 + i)).toNatClampNeg = nI s := by rw [ec, ps]
  have pof' : yof (nI (80 + i)).toNatClampNeg = off := by rw [ec, pof]
  have vw : vp_in (nI (w + 1) - 1) 12 := by rw [nI_pred]; exact vp_in_nI (by omega) (by omega)
  have ew : (nI (w + 1) - 1).toNatClampNeg = w := by rw [nI_pred]; exact nI_clamp (by omega)
  have hto := to_in hi off
  have ht : o ≠ 20 → 1 ≤ o % 10 ∧ o % 10 ≤ 4 := by unfold z_nm at hn; omega
  have srcd : z_src d f = f d := if_neg (by omega)
  unfold z_jmp at h
  by_cases c1 : off < 0
  · rw [if_pos c1] at h
    have b31 : ∀ z0 : Int32, wY_jump_31 post (nI (80 + i)) (nI i) (nI o) z0 ypl yle ymo ysm ygr (nI (w + 1)) 0 (nI (14 * w)) yok yol yoh ylw yhg yby yst yop yd ys yof yim ysz yth yK yL yH yat yQ yS yM ytg ywd ypk yks yvs ymn := fun z0 => by
      refine ⟨vc, br_f ?_ (h (by decide) _ _ _ _ _ _ _ _ _ _)⟩
      rw [pof']
      exact Int32.not_le.mpr c1
    exact ⟨vc, nm_e (br_c (fun _ => b31 _) (fun _ => b31 _))⟩
  rw [if_neg c1] at h
  obtain ⟨k, hk, ek⟩ := nI_of c1
  have g31 : wY_jump_31 post (nI (80 + i)) (nI i) (nI o) (nI (z_to i off)) ypl yle ymo ysm ygr (nI (w + 1)) 0 (nI (14 * w)) yok yol yoh ylw yhg yby yst yop yd ys yof yim ysz yth yK yL yH yat yQ yS yM ytg ywd ypk yks yvs ymn := by
    refine ⟨vc, br_t (by rw [pof']; exact Int32.not_lt.mp c1) ?_⟩
    by_cases c2 : o = 20
    · rw [if_pos c2] at h
      refine br_t (by rw [c2]; rfl) ⟨vw, nm_e ?_⟩
      rw [ew]
      exact h _ _ _ _ _ yK yL yH _ yQ hrow low_rf rfl rfl (by rw [pk_us]; exact kb_nI (by omega)) (fun c hc => ⟨rfl, pk_un (by omega)⟩)
    rw [if_neg c2] at h
    refine br_f (fun z => c2 ((nI_eq (b := 20) (by omega) (by omega)).mp z)) ?_
    have g81 : ∀ g : Int32, (g = 0 ↔ o < 30) → wY_jump_81 post (nI (80 + i)) (nI i) (nI o) (nI (z_to i off)) g ypl yle ymo ysm ygr (nI (w + 1)) 0 (nI (14 * w)) yok yol yoh ylw yhg yby yst yop yd ys yof yim ysz yth yK yL yH yat yQ yS yM ytg ywd ypk yks yvs ymn := by
      intro g hg
      have ex : (if g = 0 then z_im im else z_src s f) = (if o < 30 then z_im im else z_src s f) := by
        by_cases c : o < 30
        · rw [if_pos c, if_pos (hg.mpr c)]
        · rw [if_neg c, if_neg (fun q => c (hg.mp q))]
      refine ⟨vc, nm_r pd' ⟨vc, nm_r ps' (y_missing (by omega) (by omega) hrow (fun z => br_f (by decide) ?_) (fun z => br_t rfl (br_c (fun g0 => ?_) (fun g0 => y_missing hs (by omega) hrow (fun y => br_f (by decide) ?_) (fun y => br_t rfl ?_)))))⟩⟩
      · rw [srcd] at z
        rw [if_pos z] at h
        exact h (by decide) _ _ _ _ _ _ _ _ _ _
      · rw [srcd] at z
        rw [if_neg z] at h
        have c3 := hg.mp g0
        have x0 : ¬ (if o < 30 then z_im im else z_src s f).1 = 0 := by rw [if_pos c3]; show ¬ (1 : Int32) = 0; decide
        rw [if_neg x0] at h
        exact y_j125 ps pim ex (by omega) (ht c2) hd hs hto.2 hi hw hrow hwf z x0 h
      · rw [srcd] at z
        rw [if_neg z] at h
        have c3 : ¬ o < 30 := fun q => g0 (hg.mpr q)
        rw [if_neg c3, if_pos y] at h
        exact h (by decide) _ _ _ _ _ _ _ _ _ _
      · rw [srcd] at z
        rw [if_neg z] at h
        have c3 : ¬ o < 30 := fun q => g0 (hg.mpr q)
        have x0 : ¬ (if o < 30 then z_im im else z_src s f).1 = 0 := by rw [if_neg c3]; exact y
        rw [if_neg x0] at h
        exact y_j125 ps pim ex (by omega) (ht c2) hd hs hto.2 hi hw hrow hwf z x0 h
    by_cases c3 : o ≤ 30
    · exact br_t (nI_le (b := 30) c3 (by omega)) (g81 0 ⟨fun _ => by unfold z_nm at hn; omega, fun _ => rfl⟩)
    · exact br_f (nI_ge (a := 30) (by omega) (by omega)) (g81 1 ⟨fun q => absurd q (by decide), fun q => by omega⟩)
  have e6 : (nI i).toInt64 + 1 + (yof (nI (80 + i)).toNatClampNeg).toInt64 = lN (i + 1 + k) := by
    rw [pof', ek, nI_l (by omega), nI_l hk, lN_1, lN_add]
  have ez : z_to i off = if 40 < i + 1 + k then 40 else i + 1 + k := by
    unfold z_to
    rw [ek, nI_clamp hk]
  refine ⟨vc, nm_r e6 ?_⟩
  by_cases c : 40 < i + 1 + k
  · rw [if_pos c] at ez
    rw [ez] at g31
    refine br_f (fun z => ?_) g31
    have := (pk_lLE (b := 40) (by omega) (by omega)).mp z
    omega
  · rw [if_neg c] at ez
    rw [ez] at g31
    refine br_t ((pk_lLE (b := 40) (by omega) (by omega)).mpr (by omega)) ?_
    rw [lN_i]
    exact g31
end YF
end
section
/-! the reference: memory -/
theorem t64_5 : (5 : Int32).toInt64 = 5 := by decide
theorem t64_1 : (1 : Int32).toInt64 = 1 := by decide
section YG
variable {ypl : Int32} {yle ymo ysm ygr : Int64} {yw yfa yb yok : Int32} {yol yoh ylw yhg : Int64} {yby yst : Int32} {yop yd ys yof yim ysz yth yK : Nat → Int32} {yL yH : Nat → Int64} {yat yQ yS yM ytg : Nat → Int32} {ywd : Nat → Int64} {ypk : Nat → Int32} {yks yvs : Nat → Int64} {ymn : Nat → Int32}
theorem y_m106 {post : SY → Prop} {i w k : Nat} {o c x5 x6 : Int32} {off : Int32} {v : zV} (pof : yof (80 + i) = off) (hi : i < 40) (h106 : (¬ (off < -100 ∨ 100 < off) → wY_memory_140 post (nI i) o c x5 x6 v.1 v.2.1 off.toInt64 0 ypl yle ymo ysm ygr (nI (w + 1)) 0 (nI (14 * w)) yok yol yoh ylw yhg yby yst yop yd ys yof yim ysz yth yK yL yH yat yQ yS yM ytg ywd ypk yks yvs ymn) ∧ ((off < -100 ∨ 100 < off) → wY_memory_140 post (nI i) o c x5 x6 v.1 v.2.1 off.toInt64 1 ypl yle ymo ysm ygr (nI (w + 1)) 0 (nI (14 * w)) yok yol yoh ylw yhg yby yst yop yd ys yof yim ysz yth yK yL yH yat yQ yS yM ytg ywd ypk yks yvs ymn)) : wY_memory_106 post (nI (80 + i)) (nI i) o c x5 x6 v.1 v.2.1 ypl yle ymo ysm ygr (nI (w + 1)) 0 (nI (14 * w)) yok yol yoh ylw yhg yby yst yop yd ys yof yim ysz yth yK yL yH yat yQ yS yM ytg ywd ypk yks yvs ymn := by
  have vc : vp_in (nI (80 + i)) 120 := vp_in_nI (by omega) (by omega)
  have ec : (nI (80 + i)).toNatClampNeg = 80 + i := nI_clamp (by omega)
  refine ⟨vc, nm_r (e' := off.toInt64) (by rw [ec, pof]) ?_⟩
  have e1 : off.toInt64 < -100 ↔ off < -100 := by rw [li_lt, Int32.lt_iff_toInt_lt, Int32.toInt_toInt64]; exact Iff.rfl
  have e2 : off.toInt64 ≤ 100 ↔ ¬ 100 < off := by
    rw [li_le, Int32.lt_iff_toInt_lt, Int32.toInt_toInt64, li_100, show (100 : Int32).toInt = 100 from by decide]
    omega
  refine br_c (fun z => h106.2 (Or.inl (e1.mp z))) (fun z => br_c (fun z1 => h106.1 (fun q => ?_)) (fun z1 => h106.2 (Or.inr (Classical.byContradiction fun q => z1 (e2.mpr q)))))
  rcases q with q | q
  · exact z (e1.mpr q)
  · exact e2.mp z1 q
theorem y_m58 {post : SY → Prop} {i w p : Nat} {o c x5 : Int32} {f : Nat → zV} (hp : p ≤ 8) (hw : w < 12) (hrow : y_row yK yL yH w f) (h0 : ¬ (z_src p f).1 = 0) (hh : wY_memory_106 post (nI (80 + i)) (nI i) o c x5 (nI p) (z_src p f).1 (z_src p f).2.1 ypl yle ymo ysm ygr (nI (w + 1)) 0 (nI (14 * w)) yok yol yoh ylw yhg yby yst yop yd ys yof yim ysz yth yK yL yH yat yQ yS yM ytg ywd ypk yks yvs ymn) : wY_memory_58 post (nI (80 + i)) (nI i) o c x5 (nI p) ypl yle ymo ysm ygr (nI (w + 1)) 0 (nI (14 * w)) yok yol yoh ylw yhg yby yst yop yd ys yof yim ysz yth yK yL yH yat yQ yS yM ytg ywd ypk yks yvs ymn := by
  by_cases c8 : p = 8
  · have e8 : nI p = 8 := by rw [c8]; rfl
    rw [show z_src p f = (4, 0, 0) from if_pos c8] at hh
    exact br_t e8 (br_t e8 hh)
  · have e8 : ¬ nI p = 8 := fun z => c8 ((nI_eq (b := 8) (by omega) (by omega)).mp z)
    have v : vp_in (nI (14 * w) + nI p) 168 := by rw [nI_add]; exact vp_in_nI (by omega) (by omega)
    have e : (nI (14 * w) + nI p).toNatClampNeg = 14 * w + p := by rw [nI_add]; exact nI_clamp (by omega)
    rw [show z_src p f = f p from if_neg c8] at hh h0
    obtain ⟨rK, rL, -⟩ := hrow p (by omega)
    refine br_f e8 ⟨v, br_f e8 ⟨v, ?_⟩⟩
    rw [e, rK, rL h0]
    exact hh
theorem y_mem40 {post : SY → Prop} {d s i w : Nat} {off : Int32} {f : Nat → zV} (pd : yd (80 + i) = nI d) (ps : ys (80 + i) = nI s) (pof : yof (80 + i) = off) (hd : d < 8) (hs : s ≤ 8) (hi : i < 40) (hw : w < 12) (hrow : y_row yK yL yH w f) (hwf : z_wf i (f, yS w, yQ w))
    (h : z_el (fun fl => ¬ fl = 0 → ∀ (ok : Int32) (ol oh lw hg : Int64) (K : Nat → Int32) (L H : Nat → Int64) (Q : Nat → Int32), post ((nI i, yle, ymo, ysm, ygr, nI (w + 1), fl, nI (14 * w), ok, ol, oh, lw, hg, yby, yst, yop, yd, ys, yof, yim, ysz, yth, K, L, H, yat, Q, yS, yM, ytg, ywd, ypk, yks, yvs, ymn))) (fun _ _ => True) (fun j B => j = i + 1 → ∀ (ok : Int32) (ol oh lw hg : Int64) (K : Nat → Int32) (L H : Nat → Int64) (Q : Nat → Int32), y_row K L H w B.1 → y_low w yK yL yH K L H → yS w = B.2.1 → Q w = B.2.2 → (∀ c, c < w → Q c = yQ c) → post ((ypl, yle, ymo, ysm, ygr, nI (w + 1), 0, nI (14 * w), ok, ol, oh, lw, hg, yby, yst, yop, yd, ys, yof, yim, ysz, yth, K, L, H, yat, Q, yS, yM, ytg, ywd, ypk, yks, yvs, ymn))) (fun _ _ _ _ => True) (z_ld d i off f (yS w) (yQ w) (z_src s f))) : wpY_memory post ((ypl, yle, ymo, ysm, ygr, nI (w + 1), 0, nI (14 * w), yok, yol, yoh, ylw, yhg, yby, yst, yop, yd, ys, yof, yim, ysz, yth, yK, yL, yH, yat, yQ, yS, yM, ytg, ywd, ypk, yks, yvs, ymn)) (nI (80 + i)) (nI i) 40 := by
  have vc : vp_in (nI (80 + i)) 120 := vp_in_nI (by omega) (by omega)
  have ec : (nI (80 + i)).toNatClampNeg = 80 + i := nI_clamp (by omega)
  have pd' : yd (nI (80 + i)).toNatClampNeg = nI d := by rw [ec, pd]
  have ps' : ys (nI (80 + i)).toNatClampNeg = nI s := by rw [ec, ps]
  have hvs : z_vw i (yQ w) (z_src s f) := vw_src hwf.1
  unfold z_ld at h
  refine ⟨vc, nm_r pd' ⟨vc, nm_r ps' (br_f (by decide) (y_missing hs hw hrow (fun z => br_f (by decide) ?_) (fun z => br_t rfl (br_f (by decide) (y_m58 hs hw hrow z (y_m106 (k := 0) pof hi ⟨fun far => ?_, fun far => ?_⟩))))))⟩⟩
  · rw [if_pos z] at h
    exact h (by decide) _ _ _ _ _ _ _ _ _
  all_goals generalize z_src s f = x at h z hvs ⊢
  all_goals rw [if_neg z] at h
  all_goals refine br_f (by decide) (nm_e ?_)
  · by_cases k : ¬ (x.1 = 4 ∨ x.1 = 5)
    · rw [if_pos k] at h
      exact br_f (fun y => k (Or.inl y)) (br_f (fun y => k (Or.inr y)) (h (by decide) _ _ _ _ _ _ _ _ _))
    rw [if_neg k] at h
    have k' := Classical.not_not.mp k
    have w4 := vw_4 hvs k'
    have fin : ∀ K L H (u : zV), y_row K L H w (z_set f d u) ∧ y_low w yK yL yH K L H → (fun j B => j = i + 1 → ∀ (ok : Int32) (ol oh lw hg : Int64) (K : Nat → Int32) (L H : Nat → Int64) (Q : Nat → Int32), y_row K L H w B.1 → y_low w yK yL yH K L H → yS w = B.2.1 → Q w = B.2.2 → (∀ c, c < w → Q c = yQ c) → post ((ypl, yle, ymo, ysm, ygr, nI (w + 1), 0, nI (14 * w), ok, ol, oh, lw, hg, yby, yst, yop, yd, ys, yof, yim, ysz, yth, K, L, H, yat, Q, yS, yM, ytg, ywd, ypk, yks, yvs, ymn))) (i + 1) (z_set f d u, yS w, yQ w) → post ((ypl, yle, ymo, ysm, ygr, nI (w + 1), 0, nI (14 * w), yok, yol, yoh, ylw, yhg, yby, yst, yop, yd, ys, yof, yim, ysz, yth, K, L, H, yat, yQ, yS, yM, ytg, ywd, ypk, yks, yvs, ymn)) := fun K L H u hr hd1 => hd1 rfl _ _ _ _ _ K L H yQ hr.1 hr.2 rfl rfl (fun _ _ => rfl)
    have g258 : wY_memory_258 post (nI i) 40 (nI d) (nI s) x.1 0 (x.2.1 + off.toInt64) ypl yle ymo ysm ygr (nI (w + 1)) 0 (nI (14 * w)) yok yol yoh ylw yhg yby yst yop yd ys yof yim ysz yth yK yL yH yat yQ yS yM ytg ywd ypk yks yvs ymn := by
      have bad : (x.2.1 + off.toInt64 < 0 ∨ ¬ x.2.2 + off.toInt64 < (if x.1 = 4 then 6 else 2)) → wY_memory_288 post (nI i) ypl yle ymo ysm ygr (nI (w + 1)) 0 (nI (14 * w)) yok yol yoh ylw yhg yby yst yop yd ys yof yim ysz yth yK yL yH yat yQ yS yM ytg ywd ypk yks yvs ymn := fun y => by
        rw [if_pos (Or.inr (Or.inr y))] at h
        exact h (by decide) _ _ _ _ _ _ _ _ _
      refine br_t rfl (br_c (fun y => bad (Or.inl y)) (fun y3 => ?_))
      have go : ∀ q : Int32, (x.2.1 + off.toInt64 ≤ q.toInt64 ↔ x.2.2 + off.toInt64 < (if x.1 = 4 then 6 else 2)) → q.toInt64.toInt ≤ 5 → wY_memory_283 post (nI i) 40 (nI d) (nI s) x.1 (x.2.1 + off.toInt64) q (x.2.1 + off.toInt64) ypl yle ymo ysm ygr (nI (w + 1)) 0 (nI (14 * w)) yok yol yoh ylw yhg yby yst yop yd ys yof yim ysz yth yK yL yH yat yQ yS yM ytg ywd ypk yks yvs ymn := by
        intro q hq hq5
        refine br_c (fun y4 => br_f (by decide) ?_) (fun y => bad (Or.inr (fun r => y (hq.mpr r))))
        rw [if_neg (fun r => by rcases r with r | r | r | r; exact far (Or.inl r); exact far (Or.inr r); exact y3 r; exact r (hq.mp y4))] at h
        have c5 : 0 ≤ (x.2.1 + off.toInt64).toInt := by rw [li_lt, li_0] at y3; omega
        have c6 : (x.2.1 + off.toInt64).toInt < (6 : Nat) := by rw [li_le] at y4; omega
        obtain ⟨m, hm, _, em, en, _⟩ := sm_lN c5 c6 (by decide)
        rw [en] at h
        refine br_c (fun y5 => ?_) (fun y5 => ?_)
        · rw [if_pos y5] at h
          exact y_set w d rfl (by omega) hw kb_01.2.1 (fin _ _ _ _ (yr_set hrow (by omega) (yv_rf (1, 0, 4294967295))) h)
        · rw [if_neg y5] at h
          have e8 : (8 : Int32) + (x.2.1 + off.toInt64).toInt32 = nI (8 + m) := by rw [em, show (8 : Int32) = nI 8 from rfl, nI_add]
          have v8 : vp_in (nI (14 * w) + nI (8 + m)) 168 := by rw [nI_add]; exact vp_in_nI (by omega) (by omega)
          have n8 : (nI (14 * w) + nI (8 + m)).toNatClampNeg = 14 * w + (8 + m) := by rw [nI_add]; exact nI_clamp (by omega)
          have hr8 := hrow (8 + m) (by omega)
          rw [e8]
          refine ⟨v8, ?_⟩
          rw [n8, hr8.1]
          refine br_c (fun r => ?_) (fun r => ⟨v8, v8, v8, ?_⟩)
          · rw [if_pos r] at h
            exact h (by decide) _ _ _ _ _ _ _ _ _
          · rw [if_neg r] at h
            refine y_set w d rfl (by omega) hw (kb_vw (hwf.1 (8 + m))) (fin _ _ _ _ (yr_set hrow (by omega) ?_) h)
            exact ⟨rfl, hr8.2.1, hr8.2.2⟩
      have al : x.2.2 + off.toInt64 = x.2.1 + off.toInt64 := by rw [w4.1]
      refine br_c (fun y4 => go 5 ?_ (by decide)) (fun y4 => go 1 ?_ (by decide))
      · rw [if_pos y4, al, t64_5, li_le, li_lt, li_6, show (5 : Int64).toInt = 5 from by decide]; omega
      · rw [if_neg y4, al, t64_1, li_le, li_lt, li_2, li_1]; omega
    exact br_c (fun _ => g258) (fun q => br_t (by rcases k' with r | r; exact absurd r q; exact r) g258)
  · by_cases k : ¬ (x.1 = 4 ∨ x.1 = 5)
    · rw [if_pos k] at h
      exact br_f (fun y => k (Or.inl y)) (br_f (fun y => k (Or.inr y)) (h (by decide) _ _ _ _ _ _ _ _ _))
    rw [if_neg k, if_pos (by rcases far with r | r; exact Or.inl r; exact Or.inr (Or.inl r))] at h
    have k' := Classical.not_not.mp k
    have g258 : wY_memory_258 post (nI i) 40 (nI d) (nI s) x.1 1 (x.2.1 + off.toInt64) ypl yle ymo ysm ygr (nI (w + 1)) 0 (nI (14 * w)) yok yol yoh ylw yhg yby yst yop yd ys yof yim ysz yth yK yL yH yat yQ yS yM ytg ywd ypk yks yvs ymn := br_f (by decide) (h (by decide) _ _ _ _ _ _ _ _ _)
    exact br_c (fun _ => g258) (fun q => br_t (by rcases k' with r | r; exact absurd r q; exact r) g258)
theorem y_mem41 {post : SY → Prop} {d s i w : Nat} {off : Int32} {f : Nat → zV} (pd : yd (80 + i) = nI d) (ps : ys (80 + i) = nI s) (pof : yof (80 + i) = off) (hd : d < 8) (hs : s ≤ 8) (hi : i < 40) (hw : w < 12) (hrow : y_row yK yL yH w f) (hwf : z_wf i (f, yS w, yQ w))
    (h : z_el (fun fl => ¬ fl = 0 → ∀ (ok : Int32) (ol oh lw hg : Int64) (K : Nat → Int32) (L H : Nat → Int64) (Q : Nat → Int32), post ((nI i, yle, ymo, ysm, ygr, nI (w + 1), fl, nI (14 * w), ok, ol, oh, lw, hg, yby, yst, yop, yd, ys, yof, yim, ysz, yth, K, L, H, yat, Q, yS, yM, ytg, ywd, ypk, yks, yvs, ymn))) (fun _ _ => True) (fun j B => j = i + 1 → ∀ (ok : Int32) (ol oh lw hg : Int64) (K : Nat → Int32) (L H : Nat → Int64) (Q : Nat → Int32), y_row K L H w B.1 → y_low w yK yL yH K L H → yS w = B.2.1 → Q w = B.2.2 → (∀ c, c < w → Q c = yQ c) → post ((ypl, yle, ymo, ysm, ygr, nI (w + 1), 0, nI (14 * w), ok, ol, oh, lw, hg, yby, yst, yop, yd, ys, yof, yim, ysz, yth, K, L, H, yat, Q, yS, yM, ytg, ywd, ypk, yks, yvs, ymn))) (fun _ _ _ _ => True) (z_sto d i off f (yS w) (yQ w) (z_src s f))) : wpY_memory post ((ypl, yle, ymo, ysm, ygr, nI (w + 1), 0, nI (14 * w), yok, yol, yoh, ylw, yhg, yby, yst, yop, yd, ys, yof, yim, ysz, yth, yK, yL, yH, yat, yQ, yS, yM, ytg, ywd, ypk, yks, yvs, ymn)) (nI (80 + i)) (nI i) 41 := by
  have vc : vp_in (nI (80 + i)) 120 := vp_in_nI (by omega) (by omega)
  have ec : (nI (80 + i)).toNatClampNeg = 80 + i := nI_clamp (by omega)
  have pd' : yd (nI (80 + i)).toNatClampNeg = nI d := by rw [ec, pd]
  have ps' : ys (nI (80 + i)).toNatClampNeg = nI s := by rw [ec, ps]
  have hvs : z_vw i (yQ w) (z_src s f) := vw_src hwf.1
  have srcd : z_src d f = f d := if_neg (by omega)
  unfold z_sto at h
  have hvd : z_vw i (yQ w) (z_src d f) := vw_src hwf.1
  rw [← srcd] at h
  have bad0 : (z_src d f).1 = 0 ∨ (z_src s f).1 = 0 → ∀ (ok : Int32) (ol oh lw hg : Int64) (K : Nat → Int32) (L H : Nat → Int64) (Q : Nat → Int32), post ((nI i, yle, ymo, ysm, ygr, nI (w + 1), 2, nI (14 * w), ok, ol, oh, lw, hg, yby, yst, yop, yd, ys, yof, yim, ysz, yth, K, L, H, yat, Q, yS, yM, ytg, ywd, ypk, yks, yvs, ymn)) := by
    intro q
    by_cases c0 : (z_src d f).1 = 0
    · rw [if_pos c0] at h; exact h (by decide)
    · rcases q with q | q
      · exact absurd q c0
      · rw [if_neg c0, if_pos q] at h; exact h (by decide)
  refine ⟨vc, nm_r pd' ⟨vc, nm_r ps' (br_t rfl (y_missing (by omega) hw hrow (fun z => br_f (by decide) (bad0 (Or.inl z) _ _ _ _ _ _ _ _ _)) (fun z => br_t rfl (br_t rfl (y_missing hs hw hrow (fun z1 => br_f (by decide) (bad0 (Or.inr z1) _ _ _ _ _ _ _ _ _)) (fun z1 => br_t rfl (y_m58 (by omega) hw hrow z (y_m106 (k := 0) pof hi ⟨fun far => ?_, fun far => ?_⟩))))))))⟩⟩
  all_goals rw [if_neg z, if_neg z1] at h
  all_goals generalize z_src d f = v at h z hvd ⊢
  all_goals refine br_f (by decide) (nm_e ?_)
  · by_cases k : ¬ (v.1 = 4 ∨ v.1 = 5)
    · rw [if_pos k] at h
      exact br_f (fun y => k (Or.inl y)) (br_f (fun y => k (Or.inr y)) (h (by decide) _ _ _ _ _ _ _ _ _))
    rw [if_neg k] at h
    have k' := Classical.not_not.mp k
    have g258 : wY_memory_258 post (nI i) 41 (nI d) (nI s) v.1 0 (v.2.1 + off.toInt64) ypl yle ymo ysm ygr (nI (w + 1)) 0 (nI (14 * w)) yok yol yoh ylw yhg yby yst yop yd ys yof yim ysz yth yK yL yH yat yQ yS yM ytg ywd ypk yks yvs ymn := by
      have bad : (v.2.1 + off.toInt64 < 0 ∨ ¬ v.2.1 + off.toInt64 < (if v.1 = 4 then 6 else 2)) → wY_memory_288 post (nI i) ypl yle ymo ysm ygr (nI (w + 1)) 0 (nI (14 * w)) yok yol yoh ylw yhg yby yst yop yd ys yof yim ysz yth yK yL yH yat yQ yS yM ytg ywd ypk yks yvs ymn := fun y => by
        rw [if_pos (Or.inr (Or.inr y))] at h
        exact h (by decide) _ _ _ _ _ _ _ _ _
      refine br_t rfl (br_c (fun y => bad (Or.inl y)) (fun y3 => ?_))
      have go : ∀ q : Int32, (v.2.1 + off.toInt64 ≤ q.toInt64 ↔ v.2.1 + off.toInt64 < (if v.1 = 4 then 6 else 2)) → q.toInt64.toInt ≤ 5 → wY_memory_283 post (nI i) 41 (nI d) (nI s) v.1 (v.2.1 + off.toInt64) q (v.2.1 + off.toInt64) ypl yle ymo ysm ygr (nI (w + 1)) 0 (nI (14 * w)) yok yol yoh ylw yhg yby yst yop yd ys yof yim ysz yth yK yL yH yat yQ yS yM ytg ywd ypk yks yvs ymn := by
        intro q hq hq5
        refine br_c (fun y4 => br_t rfl ?_) (fun y => bad (Or.inr (fun r => y (hq.mpr r))))
        rw [if_neg (fun r => by rcases r with r | r | r | r; exact far (Or.inl r); exact far (Or.inr r); exact y3 r; exact r (hq.mp y4))] at h
        have c5 : 0 ≤ (v.2.1 + off.toInt64).toInt := by rw [li_lt, li_0] at y3; omega
        have c6 : (v.2.1 + off.toInt64).toInt < (6 : Nat) := by rw [li_le] at y4; omega
        obtain ⟨m, hm, _, em, en, _⟩ := sm_lN c5 c6 (by decide)
        rw [en] at h
        rw [em]
        have e8 : (8 : Int32) + nI m = nI (8 + m) := by rw [show (8 : Int32) = nI 8 from rfl, nI_add]
        have fin : ∀ K L H (u : zV), y_row K L H w (z_set f (8 + m) u) ∧ y_low w yK yL yH K L H → (fun j B => j = i + 1 → ∀ (ok : Int32) (ol oh lw hg : Int64) (K : Nat → Int32) (L H : Nat → Int64) (Q : Nat → Int32), y_row K L H w B.1 → y_low w yK yL yH K L H → yS w = B.2.1 → Q w = B.2.2 → (∀ c, c < w → Q c = yQ c) → post ((ypl, yle, ymo, ysm, ygr, nI (w + 1), 0, nI (14 * w), ok, ol, oh, lw, hg, yby, yst, yop, yd, ys, yof, yim, ysz, yth, K, L, H, yat, Q, yS, yM, ytg, ywd, ypk, yks, yvs, ymn))) (i + 1) (z_set f (8 + m) u, yS w, yQ w) → post ((ypl, yle, ymo, ysm, ygr, nI (w + 1), 0, nI (14 * w), yok, yol, yoh, ylw, yhg, yby, yst, yop, yd, ys, yof, yim, ysz, yth, K, L, H, yat, yQ, yS, yM, ytg, ywd, ypk, yks, yvs, ymn)) := fun K L H u hr hd1 => hd1 rfl _ _ _ _ _ K L H yQ hr.1 hr.2 rfl rfl (fun _ _ => rfl)
        have val : v.1 = 5 → ∀ kd : Int32, kd = (z_src s f).1 → ((kd = 1 → post ((ypl, yle, ymo, ysm, ygr, nI (w + 1), 0, nI (14 * w), yok, yol, yoh, ylw, yhg, yby, yst, yop, yd, ys, yof, yim, ysz, yth, yK, yL, yH, yat, yQ, yS, yM, ytg, ywd, ypk, yks, yvs, ymn))) ∧ (¬ kd = 1 → post ((nI i, yle, ymo, ysm, ygr, nI (w + 1), 3, nI (14 * w), yok, yol, yoh, ylw, yhg, yby, yst, yop, yd, ys, yof, yim, ysz, yth, yK, yL, yH, yat, yQ, yS, yM, ytg, ywd, ypk, yks, yvs, ymn)))) := by
          intro y5 kd hkd
          rw [if_neg (fun r => by rw [y5] at r; exact absurd r (by decide))] at h
          rw [hkd]
          refine br_c (fun r => ?_) (fun r => ?_)
          · rw [if_pos r] at h
            exact h rfl _ _ _ _ _ yK yL yH yQ hrow low_rf rfl rfl (fun _ _ => rfl)
          · rw [if_neg r] at h
            exact h (by decide) _ _ _ _ _ _ _ _ _
        by_cases c8 : s = 8
        · have es : nI s = 8 := by rw [c8]; rfl
          have ex : z_src s f = (4, 0, 0) := if_pos c8
          refine br_t es (br_c (fun y5 => val y5 4 (by rw [ex])) (fun y5 => br_t es ?_))
          have v4 : v.1 = 4 := by rcases k' with r | r; exact r; exact absurd r y5
          rw [if_pos v4] at h
          exact y_set w (8 + m) e8 (by omega) hw kb_01.2.2.2.2.1 (fin _ _ _ _ (yr_set hrow (by omega) (by rw [ex]; exact yv_rf (4, 0, 0))) h)
        · have es : ¬ nI s = 8 := fun z => c8 ((nI_eq (b := 8) (by omega) (by omega)).mp z)
          have ex : z_src s f = f s := if_neg c8
          have vs : vp_in (nI (14 * w) + nI s) 168 := by rw [nI_add]; exact vp_in_nI (by omega) (by omega)
          have ns : (nI (14 * w) + nI s).toNatClampNeg = 14 * w + s := by rw [nI_add]; exact nI_clamp (by omega)
          obtain ⟨r1, r2, r3⟩ := hrow s (by omega)
          refine br_f es ⟨vs, ?_⟩
          rw [ns, r1]
          refine br_c (fun y5 => val y5 _ (by rw [ex])) (fun y5 => br_f es ⟨vs, vs, ?_⟩)
          have v4 : v.1 = 4 := by rcases k' with r | r; exact r; exact absurd r y5
          rw [if_pos v4] at h
          rw [ns]
          rw [ex] at z1 h
          exact y_set w (8 + m) e8 (by omega) hw (kb_vw (hwf.1 s)) (fin _ _ _ _ (yr_set hrow (by omega) ⟨rfl, r2, r3⟩) h)
      refine br_c (fun y4 => go 5 ?_ (by decide)) (fun y4 => go 1 ?_ (by decide))
      · rw [if_pos y4, t64_5, li_le, li_lt, li_6, show (5 : Int64).toInt = 5 from by decide]; omega
      · rw [if_neg y4, t64_1, li_le, li_lt, li_2, li_1]; omega
    exact br_c (fun _ => g258) (fun q => br_t (by rcases k' with r | r; exact absurd r q; exact r) g258)
  · by_cases k : ¬ (v.1 = 4 ∨ v.1 = 5)
    · rw [if_pos k] at h
      exact br_f (fun y => k (Or.inl y)) (br_f (fun y => k (Or.inr y)) (h (by decide) _ _ _ _ _ _ _ _ _))
    rw [if_neg k, if_pos (by rcases far with r | r; exact Or.inl r; exact Or.inr (Or.inl r))] at h
    have k' := Classical.not_not.mp k
    have g258 : wY_memory_258 post (nI i) 41 (nI d) (nI s) v.1 1 (v.2.1 + off.toInt64) ypl yle ymo ysm ygr (nI (w + 1)) 0 (nI (14 * w)) yok yol yoh ylw yhg yby yst yop yd ys yof yim ysz yth yK yL yH yat yQ yS yM ytg ywd ypk yks yvs ymn := br_f (by decide) (h (by decide) _ _ _ _ _ _ _ _ _)
    exact br_c (fun _ => g258) (fun q => br_t (by rcases k' with r | r; exact absurd r q; exact r) g258)
theorem y_mem42 {post : SY → Prop} {d s i w : Nat} {off : Int32} {f : Nat → zV} (pd : yd (80 + i) = nI d) (ps : ys (80 + i) = nI s) (pof : yof (80 + i) = off) (hd : d < 8) (hs : s ≤ 8) (hi : i < 40) (hw : w < 12) (hrow : y_row yK yL yH w f)
    (h : z_el (fun fl => ¬ fl = 0 → ∀ (ok : Int32) (ol oh lw hg : Int64) (K : Nat → Int32) (L H : Nat → Int64) (Q : Nat → Int32), post ((nI i, yle, ymo, ysm, ygr, nI (w + 1), fl, nI (14 * w), ok, ol, oh, lw, hg, yby, yst, yop, yd, ys, yof, yim, ysz, yth, K, L, H, yat, Q, yS, yM, ytg, ywd, ypk, yks, yvs, ymn))) (fun _ _ => True) (fun j B => j = i + 1 → ∀ (ok : Int32) (ol oh lw hg : Int64) (K : Nat → Int32) (L H : Nat → Int64) (Q : Nat → Int32), y_row K L H w B.1 → y_low w yK yL yH K L H → yS w = B.2.1 → Q w = B.2.2 → (∀ c, c < w → Q c = yQ c) → post ((ypl, yle, ymo, ysm, ygr, nI (w + 1), 0, nI (14 * w), ok, ol, oh, lw, hg, yby, yst, yop, yd, ys, yof, yim, ysz, yth, K, L, H, yat, Q, yS, yM, ytg, ywd, ypk, yks, yvs, ymn))) (fun _ _ _ _ => True) (z_pkt d i off f (yS w) (yQ w) (z_src s f))) : wpY_memory post ((ypl, yle, ymo, ysm, ygr, nI (w + 1), 0, nI (14 * w), yok, yol, yoh, ylw, yhg, yby, yst, yop, yd, ys, yof, yim, ysz, yth, yK, yL, yH, yat, yQ, yS, yM, ytg, ywd, ypk, yks, yvs, ymn)) (nI (80 + i)) (nI i) 42 := by
  have vc : vp_in (nI (80 + i)) 120 := vp_in_nI (by omega) (by omega)
  have ec : (nI (80 + i)).toNatClampNeg = 80 + i := nI_clamp (by omega)
  have pd' : yd (nI (80 + i)).toNatClampNeg = nI d := by rw [ec, pd]
  have ps' : ys (nI (80 + i)).toNatClampNeg = nI s := by rw [ec, ps]
  have vw : vp_in (nI (w + 1) - 1) 12 := by rw [nI_pred]; exact vp_in_nI (by omega) (by omega)
  have ew : (nI (w + 1) - 1).toNatClampNeg = w := by rw [nI_pred]; exact nI_clamp (by omega)
  unfold z_pkt at h
  refine ⟨vc, nm_r pd' ⟨vc, nm_r ps' (br_f (by decide) (y_missing hs hw hrow (fun z => br_f (by decide) ?_) (fun z => br_t rfl (br_f (by decide) (y_m58 hs hw hrow z (y_m106 (k := 0) pof hi ⟨fun far => ?_, fun far => ?_⟩))))))⟩⟩
  · rw [if_pos z] at h
    exact h (by decide) _ _ _ _ _ _ _ _ _
  · rw [if_neg z] at h
    by_cases k : ¬ (z_src s f).1 = 2
    · rw [if_pos k] at h
      exact br_t rfl (br_f k (h (by decide) _ _ _ _ _ _ _ _ _))
    rw [if_neg k] at h
    have k2 := Classical.not_not.mp k
    have s8 : ¬ s = 8 := fun q => by rw [show z_src s f = (4, 0, 0) from if_pos q] at k2; exact absurd k2 (by decide)
    have ex : z_src s f = f s := if_neg s8
    have vs : vp_in (nI (14 * w) + nI s) 168 := by rw [nI_add]; exact vp_in_nI (by omega) (by omega)
    have ns : (nI (14 * w) + nI s).toNatClampNeg = 14 * w + s := by rw [nI_add]; exact nI_clamp (by omega)
    have r3 := (hrow s (by omega)).2.2
    rw [ex] at k2
    have r3' := r3 (Or.inr k2)
    have bad : (z_src s f).2.1 + off.toInt64 < 0 ∨ ¬ (z_src s f).2.2 + off.toInt64 < (yS w).toInt64 → wY_memory_209 post (nI i) ypl yle ymo ysm ygr (nI (w + 1)) 0 (nI (14 * w)) yok yol yoh ylw yhg yby yst yop yd ys yof yim ysz yth yK yL yH yat yQ yS yM ytg ywd ypk yks yvs ymn := fun y => by
      rw [if_pos (Or.inr (Or.inr y))] at h
      exact h (by decide) _ _ _ _ _ _ _ _ _
    refine br_t rfl (br_t (Classical.not_not.mp k) (br_t rfl (br_c (fun y => bad (Or.inl y)) (fun y3 => ⟨vs, vw, ?_⟩))))
    rw [ns, ew, r3', ← ex]
    refine br_c (fun y4 => ?_) (fun y => bad (Or.inr y))
    rw [if_neg (fun r => by rcases r with r | r | r | r; exact far (Or.inl r); exact far (Or.inr r); exact y3 r; exact r y4)] at h
    have hr := yr_set (v := (1, 0, 255)) (kd := 1) (l := 0) (h := 255) hrow (show d < 14 by omega) (yv_rf (1, 0, 255))
    exact y_set w d rfl (by omega) hw kb_01.2.1 (h rfl _ _ _ _ _ _ _ _ yQ hr.1 hr.2 rfl rfl (fun _ _ => rfl))
  · rw [if_neg z] at h
    by_cases k : ¬ (z_src s f).1 = 2
    · rw [if_pos k] at h
      exact br_t rfl (br_f k (h (by decide) _ _ _ _ _ _ _ _ _))
    rw [if_neg k, if_pos (by rcases far with r | r; exact Or.inl r; exact Or.inr (Or.inl r))] at h
    exact br_t rfl (br_t (Classical.not_not.mp k) (br_f (by decide) (h (by decide) _ _ _ _ _ _ _ _ _)))
end YG
end
section
/-! the reference: helpers' calls -/
theorem kb_raw {k : Int32} (h : z_kb k) : k.toInt8.toInt32 = k := by
  have h' := h
  unfold z_kb at h'
  rw [pk_vb] at h'
  exact h'
theorem im_01 (m : Int32) : (m &&& (-2)) = 0 ↔ ¬ (m < 0 ∨ ¬ m ≤ 1) := by
  constructor
  · intro h
    have b2 : ∀ i, i < 32 → bt (-2) i = decide (1 ≤ i) := by decide +kernel
    have b1 : ∀ i, i < 32 → bt 1 i = decide (i = 0) := by decide +kernel
    have hz : ∀ i, i < 32 → 1 ≤ i → bt m i = false := by
      intro i hi h1
      have e := b_and m (-2) i
      rw [h, b_0, b2 i hi, decide_eq_true h1, Bool.and_true] at e
      exact e.symm
    have e : m = 0 ∨ m = 1 := by
      by_cases c : bt m 0 = true
      · refine Or.inr (b_ext fun i hi => ?_)
        by_cases z : i = 0
        · rw [z, c]; decide
        · rw [hz i hi (by omega), b1 i hi, decide_eq_false z]
      · refine Or.inl (b_ext fun i hi => ?_)
        rw [b_0]
        by_cases z : i = 0
        · rw [z]; exact Bool.not_eq_true _ ▸ c
        · exact hz i hi (by omega)
    rcases e with e | e <;> rw [e] <;> decide
  · intro h
    have h0 : ¬ m < 0 := fun z => h (Or.inl z)
    have h1 : m ≤ 1 := Classical.byContradiction fun z => h (Or.inr z)
    obtain ⟨j, hj, rfl⟩ := nI_of2 (M := 1) (n := 1) (by decide) h0 h1
    have : j = 0 ∨ j = 1 := by omega
    rcases this with rfl | rfl <;> decide
def y_kl (f : Nat → zV) (K : Nat → Int32) (L H : Nat → Int64) (w j : Nat) : Prop := (∀ k, k < j → y_at (x_kv k (f k)) K L H (14 * w + k)) ∧ ∀ k, j ≤ k → k < 14 → y_at (f k) K L H (14 * w + k)
theorem yl_up {f : Nat → zV} {K : Nat → Int32} {L H : Nat → Int64} {w j : Nat} (h : y_kl f K L H w j) (hj : j < 14) (hn : ¬ ((0 < j ∧ j < 6) ∨ (f j).1 = 5 ∨ (f j).1 = 6)) : y_kl f K L H w (j + 1) := by
  refine ⟨fun k hk => ?_, fun k h1 h2 => h.2 k (by omega) h2⟩
  by_cases e : k = j
  · subst e
    rw [show x_kv k (f k) = f k from if_neg hn]
    exact h.2 k (Nat.le_refl _) hj
  · exact h.1 k (by omega)
theorem yl_set {f : Nat → zV} {K : Nat → Int32} {L H : Nat → Int64} {w j : Nat} (h : y_kl f K L H w j) (hn : (0 < j ∧ j < 6) ∨ (f j).1 = 5 ∨ (f j).1 = 6) : y_kl f (upd K (14 * w + j) 0) L H w (j + 1) := by
  have ne : ∀ {v q}, y_at v K L H q → q ≠ 14 * w + j → y_at v (upd K (14 * w + j) 0) L H q := fun hv hq => by
    unfold y_at
    rw [pk_un hq]
    exact hv
  refine ⟨fun k hk => ?_, fun k h1 h2 => ne (h.2 k (by omega) h2) (by omega)⟩
  by_cases e : k = j
  · subst e
    rw [show x_kv k (f k) = (0, 0, 0) from if_pos hn]
    unfold y_at
    rw [pk_us]
    exact ⟨rfl, fun z => absurd rfl z, fun z => absurd z (by decide)⟩
  · exact ne (h.1 k (by omega)) (by omega)
section YH
variable {ypl : Int32} {yle ymo ysm ygr : Int64} {yw yfa yb yok : Int32} {yol yoh ylw yhg : Int64} {yby yst : Int32} {yop yd ys yof yim ysz yth yK : Nat → Int32} {yL yH : Nat → Int64} {yat yQ yS yM ytg : Nat → Int32} {ywd : Nat → Int64} {ypk : Nat → Int32} {yks yvs : Nat → Int64} {ymn : Nat → Int32}
theorem y_l101 {post : SY → Prop} {o w b : Nat} {f : Nat → zV} {K0 : Nat → Int32} (ho : o < 100) (hw : w < 12) (hQ : yQ w = nI b) (hb : b ≤ 40)
    (h50 : o = 50 → ∀ K Q, y_kl f K yL yH w 14 → y_low w K0 yL yH K yL yH → Q w = nI (b + 1) → (∀ c, c < w → Q c = yQ c) → wpY_set post ((ypl, yle, ymo, ysm, ygr, nI (w + 1), 0, nI (14 * w), yok, yol, yoh, ylw, yhg, yby, yst, yop, yd, ys, yof, yim, ysz, yth, K, yL, yH, yat, Q, yS, yM, ytg, ywd, ypk, yks, yvs, ymn)) 0 6 (nI (b + 1)).toInt64 0) (hN : ¬ o = 50 → ∀ K, y_kl f K yL yH w 14 → y_low w K0 yL yH K yL yH → wpY_set post ((ypl, yle, ymo, ysm, ygr, nI (w + 1), 0, nI (14 * w), yok, yol, yoh, ylw, yhg, yby, yst, yop, yd, ys, yof, yim, ysz, yth, K, yL, yH, yat, yQ, yS, yM, ytg, ywd, ypk, yks, yvs, ymn)) 0 1 0 1) :
    ∀ (m j : Nat) (K : Nat → Int32), j + m = 14 → y_kl f K yL yH w j → y_low w K0 yL yH K yL yH → ∀ n, m < n → wY_lookup_101 post (nI o) ypl yle ymo ysm ygr (nI (w + 1)) 0 (nI (14 * w)) yok yol yoh ylw yhg yby yst n (nI j) yop yd ys yof yim ysz yth K yL yH yat yQ yS yM ytg ywd ypk yks yvs ymn := by
  have vw : vp_in (nI (w + 1) - 1) 12 := by rw [nI_pred]; exact vp_in_nI (by omega) (by omega)
  have ew : (nI (w + 1) - 1).toNatClampNeg = w := by rw [nI_pred]; exact nI_clamp (by omega)
  intro m
  induction m with
  | zero =>
    intro j K hj hc hl n hn
    obtain ⟨n, rfl⟩ : ∃ n', n = n' + 1 := ⟨n - 1, by omega⟩
    obtain rfl : j = 14 := by omega
    rw [wY_lookup_101]
    refine br_t (nI_le (a := 14) (b := 14) (by omega) (by omega)) ?_
    by_cases c : o = 50
    · refine br_t (by rw [c]; rfl) ⟨vw, vw, nm_e ?_⟩
      have kb1 : z_kb (nI (b + 1)) := kb_nI (by omega)
      rw [ew, hQ, nI_1 b, kb_raw kb1]
      refine h50 c K _ hc hl ?_ (fun c hc => ?_)
      · rw [pk_us]; exact kb_n kb1
      · rw [pk_un (by omega)]
    · exact br_f (fun z => c ((nI_eq (b := 50) (by omega) (by omega)).mp z)) (hN c K hc hl)
  | succ m ih =>
    intro j K hj hc hl n hn
    obtain ⟨n, rfl⟩ : ∃ n', n = n' + 1 := ⟨n - 1, by omega⟩
    rw [wY_lookup_101]
    have vi : vp_in (nI (14 * w) + nI j) 168 := by rw [nI_add]; exact vp_in_nI (by omega) (by omega)
    have ei : (nI (14 * w) + nI j).toNatClampNeg = 14 * w + j := by rw [nI_add]; exact nI_clamp (by omega)
    have hk : K (14 * w + j) = (f j).1 := (hc.2 j (Nat.le_refl _) (by omega)).1
    have s153 : (0 < j ∧ j < 6) ∨ (f j).1 = 5 ∨ (f j).1 = 6 → wY_lookup_153 post (wY_lookup_101 post (nI o) ypl yle ymo ysm ygr (nI (w + 1)) 0 (nI (14 * w)) yok yol yoh ylw yhg yby yst n) (nI o) (nI j) ypl yle ymo ysm ygr (nI (w + 1)) 0 (nI (14 * w)) yok yol yoh ylw yhg yby yst yop yd ys yof yim ysz yth K yL yH yat yQ yS yM ytg ywd ypk yks yvs ymn := fun z => by
      refine ⟨vi, nm_r (e' := upd K (14 * w + j) 0) (by rw [ei, kb_n kb_01.1]) (nm_r (nI_1 j) (ih (j + 1) _ (by omega) (yl_set hc z) (fun q hq => ?_) n (by omega)))⟩
      rw [pk_un (by omega)]
      exact hl q hq
    have s120 : ¬ (0 < j ∧ j < 6) → wY_lookup_120 post (wY_lookup_101 post (nI o) ypl yle ymo ysm ygr (nI (w + 1)) 0 (nI (14 * w)) yok yol yoh ylw yhg yby yst n) (nI o) (nI j) ypl yle ymo ysm ygr (nI (w + 1)) 0 (nI (14 * w)) yok yol yoh ylw yhg yby yst yop yd ys yof yim ysz yth K yL yH yat yQ yS yM ytg ywd ypk yks yvs ymn := fun z => by
      refine ⟨vi, ?_⟩
      rw [ei, hk]
      exact br_c (fun y => s153 (Or.inr (Or.inl y))) (fun y => ⟨vi, br_c (fun y2 => s153 (Or.inr (Or.inr y2))) (fun y2 => nm_r (nI_1 j) (ih (j + 1) _ (by omega) (yl_up hc (by omega) (fun q => by rcases q with q | q | q; exact z q; exact y q; exact y2 q)) hl n (by omega)))⟩)
    refine br_f (nI_ge (b := 14) (by omega) (by omega)) ?_
    by_cases c0 : j = 0
    · exact br_t (by rw [c0]; decide) (s120 (by omega))
    · refine br_f (nI_nle (by omega) (by omega)) ?_
      by_cases c6 : j < 6
      · exact br_t (nI_lt (b := 6) c6 (by omega)) (s153 (Or.inl ⟨by omega, c6⟩))
      · exact br_f (nI_nlt (b := 6) (by omega) (by omega)) (s120 (by omega))
theorem y_l62 {post : SY → Prop} {o i w e : Nat} {f : Nat → zV} (he : e ≤ 3) (hw : w < 12) (hrow : y_row yK yL yH w f) (hg : (∀ r, 1 ≤ r → r ≤ e → (f r).1 = 1) → ∃ n, wY_lookup_101 post (nI o) ypl yle ymo ysm ygr (nI (w + 1)) 0 (nI (14 * w)) yok yol yoh ylw yhg yby yst n 0 yop yd ys yof yim ysz yth yK yL yH yat yQ yS yM ytg ywd ypk yks yvs ymn) (hb : ¬ (∀ r, 1 ≤ r → r ≤ e → (f r).1 = 1) → post ((nI i, yle, ymo, ysm, ygr, nI (w + 1), 3, nI (14 * w), yok, yol, yoh, ylw, yhg, yby, yst, yop, yd, ys, yof, yim, ysz, yth, yK, yL, yH, yat, yQ, yS, yM, ytg, ywd, ypk, yks, yvs, ymn))) :
    ∀ (m j : Nat), j + m = e + 1 → 1 ≤ j → (∀ r, 1 ≤ r → r < j → (f r).1 = 1) → ∀ n, m < n → wY_lookup_62 post (nI i) (nI o) (nI e) ypl yle ymo ysm ygr (nI (w + 1)) 0 (nI (14 * w)) yok yol yoh ylw yhg yby yst yop yd ys yof yim ysz yth yK yL yH yat yQ yS yM ytg ywd ypk yks yvs ymn n (nI j) := by
  intro m
  induction m with
  | zero =>
    intro j hj h1 hs n hn
    obtain ⟨n, rfl⟩ : ∃ n', n = n' + 1 := ⟨n - 1, by omega⟩
    rw [wY_lookup_62]
    exact br_t (nI_lt (by omega) (by omega)) (hg (fun r h1 h2 => hs r h1 (by omega)))
  | succ m ih =>
    intro j hj h1 hs n hn
    obtain ⟨n, rfl⟩ : ∃ n', n = n' + 1 := ⟨n - 1, by omega⟩
    rw [wY_lookup_62]
    have vi : vp_in (nI (14 * w) + nI j) 168 := by rw [nI_add]; exact vp_in_nI (by omega) (by omega)
    have ei : (nI (14 * w) + nI j).toNatClampNeg = 14 * w + j := by rw [nI_add]; exact nI_clamp (by omega)
    refine br_f (nI_nlt (by omega) (by omega)) ⟨vi, ?_⟩
    rw [ei, (hrow j (by omega)).1]
    refine br_c (fun z => nm_r (nI_1 j) (ih (j + 1) (by omega) (by omega) (fun r h1 h2 => ?_) n (by omega))) (fun z => hb (fun y => z (y j h1 (by omega))))
    by_cases c : r = j
    · rw [c]; exact z
    · exact hs r h1 (by omega)
theorem y_l35 {post : SY → Prop} {o i w e : Nat} {f : Nat → zV} (he : e ≤ 3) (hw : w < 12) (hrow : y_row yK yL yH w f) (hg : (∀ r, 1 ≤ r → r ≤ e → ¬ (f r).1 = 0) → ∃ n, wY_lookup_62 post (nI i) (nI o) (nI e) ypl yle ymo ysm ygr (nI (w + 1)) 0 (nI (14 * w)) yok yol yoh ylw yhg yby yst yop yd ys yof yim ysz yth yK yL yH yat yQ yS yM ytg ywd ypk yks yvs ymn n 1) (hb : ¬ (∀ r, 1 ≤ r → r ≤ e → ¬ (f r).1 = 0) → post ((nI i, yle, ymo, ysm, ygr, nI (w + 1), 2, nI (14 * w), yok, yol, yoh, ylw, yhg, yby, yst, yop, yd, ys, yof, yim, ysz, yth, yK, yL, yH, yat, yQ, yS, yM, ytg, ywd, ypk, yks, yvs, ymn))) :
    ∀ (m j : Nat), j + m = e + 1 → 1 ≤ j → (∀ r, 1 ≤ r → r < j → ¬ (f r).1 = 0) → ∀ n, m < n → wY_lookup_35 post (nI i) (nI o) (nI e) n (nI j) ypl yle ymo ysm ygr (nI (w + 1)) 0 (nI (14 * w)) yok yol yoh ylw yhg yby yst yop yd ys yof yim ysz yth yK yL yH yat yQ yS yM ytg ywd ypk yks yvs ymn := by
  intro m
  induction m with
  | zero =>
    intro j hj h1 hs n hn
    obtain ⟨n, rfl⟩ : ∃ n', n = n' + 1 := ⟨n - 1, by omega⟩
    rw [wY_lookup_35]
    exact br_t (nI_lt (by omega) (by omega)) (hg (fun r h1 h2 => hs r h1 (by omega)))
  | succ m ih =>
    intro j hj h1 hs n hn
    obtain ⟨n, rfl⟩ : ∃ n', n = n' + 1 := ⟨n - 1, by omega⟩
    rw [wY_lookup_35]
    have sj : z_src j f = f j := if_neg (by omega)
    refine br_f (nI_nlt (by omega) (by omega)) (y_missing (by omega) hw hrow (fun z => br_f (by decide) (hb (fun y => y j h1 (by omega) (by rw [← sj]; exact z)))) (fun z => br_t rfl (nm_r (nI_1 j) (ih (j + 1) (by omega) (by omega) (fun r h1 h2 => ?_) n (by omega)))))
    by_cases c : r = j
    · rw [c, ← sj]; exact z
    · exact hs r h1 (by omega)
theorem y_lookup {post : SY → Prop} {o i w : Nat} {im : Int32} {f : Nat → zV} (pim : yim (80 + i) = im) (ho : o = 50 ∨ o = 51 ∨ o = 52) (hi : i < 40) (hw : w < 12) (hrow : y_row yK yL yH w f) (hwf : z_wf i (f, yS w, yQ w))
    (h : z_el (fun fl => ¬ fl = 0 → ∀ (ok : Int32) (ol oh lw hg : Int64) (K : Nat → Int32) (L H : Nat → Int64) (Q : Nat → Int32), post ((nI i, yle, ymo, ysm, ygr, nI (w + 1), fl, nI (14 * w), ok, ol, oh, lw, hg, yby, yst, yop, yd, ys, yof, yim, ysz, yth, K, L, H, yat, Q, yS, yM, ytg, ywd, ypk, yks, yvs, ymn))) (fun _ _ => True) (fun j B => j = i + 1 → ∀ (ok : Int32) (ol oh lw hg : Int64) (K : Nat → Int32) (L H : Nat → Int64) (Q : Nat → Int32), y_row K L H w B.1 → y_low w yK yL yH K L H → yS w = B.2.1 → Q w = B.2.2 → (∀ c, c < w → Q c = yQ c) → post ((ypl, yle, ymo, ysm, ygr, nI (w + 1), 0, nI (14 * w), ok, ol, oh, lw, hg, yby, yst, yop, yd, ys, yof, yim, ysz, yth, K, L, H, yat, Q, yS, yM, ytg, ywd, ypk, yks, yvs, ymn))) (fun _ _ _ _ => True) (z_hlp o i im f (yS w) (yQ w))) : wpY_lookup post ((ypl, yle, ymo, ysm, ygr, nI (w + 1), 0, nI (14 * w), yok, yol, yoh, ylw, yhg, yby, yst, yop, yd, ys, yof, yim, ysz, yth, yK, yL, yH, yat, yQ, yS, yM, ytg, ywd, ypk, yks, yvs, ymn)) (nI (80 + i)) (nI i) (nI o) := by
  have vc : vp_in (nI (80 + i)) 120 := vp_in_nI (by omega) (by omega)
  have ec : (nI (80 + i)).toNatClampNeg = 80 + i := nI_clamp (by omega)
  have pim' : yim (nI (80 + i)).toNatClampNeg = im := by rw [ec, pim]
  obtain ⟨b, hb, eb⟩ := hwf.2.2.1
  have eb' : yQ w = nI b := eb
  unfold z_hlp at h
  refine ⟨vc, ?_⟩
  rw [pim', im_01]
  refine br_c (fun z => ?_) (fun z => ?_)
  · rw [if_neg z] at h
    have hs : ∀ (A : Int32 → Prop), (∀ r, 1 ≤ r → r ≤ (if o = 51 then 3 else 1) → A (f r).1) ↔ (A (f 1).1 ∧ (o = 51 → A (f 2).1 ∧ A (f 3).1)) := by
      intro A
      constructor
      · intro q
        refine ⟨q 1 (by omega) (by by_cases c : o = 51 <;> simp only [c, if_true, if_false] <;> omega), fun e => ⟨q 2 (by omega) (by rw [if_pos e]; omega), q 3 (by omega) (by rw [if_pos e]; omega)⟩⟩
      · intro q r h1 h2
        by_cases c : o = 51
        · rw [if_pos c] at h2
          have : r = 1 ∨ r = 2 ∨ r = 3 := by omega
          rcases this with rfl | rfl | rfl
          · exact q.1
          · exact (q.2 c).1
          · exact (q.2 c).2
        · rw [if_neg c] at h2
          have : r = 1 := by omega
          rw [this]; exact q.1
    have all : ∀ e, e = (if o = 51 then 3 else 1) → ∃ n, wY_lookup_35 post (nI i) (nI o) (nI e) n 1 ypl yle ymo ysm ygr (nI (w + 1)) 0 (nI (14 * w)) yok yol yoh ylw yhg yby yst yop yd ys yof yim ysz yth yK yL yH yat yQ yS yM ytg ywd ypk yks yvs ymn := by
      intro e he
      have he3 : e ≤ 3 := by rw [he]; by_cases c : o = 51 <;> simp only [c, if_true, if_false] <;> omega
      rw [← he] at hs
      refine ⟨5, y_l35 he3 hw hrow (fun hg => ⟨5, y_l62 he3 hw hrow (fun hg2 => ?_) (fun hb2 => ?_) e 1 (by omega) (by omega) (fun r h1 h2 => by omega) 5 (by omega)⟩) (fun hb1 => ?_) e 1 (by omega) (by omega) (fun r h1 h2 => by omega) 5 (by omega)⟩
      · have g := (hs (fun v => ¬ v = 0)).mp hg
        have g2 := (hs (fun v => v = 1)).mp hg2
        rw [if_neg (fun q => by rcases q with q | ⟨q, q2 | q2⟩; exact g.1 q; exact (g.2 q).1 q2; exact (g.2 q).2 q2), if_neg (fun q => by rcases q with q | ⟨q, q2 | q2⟩; exact q g2.1; exact q2 (g2.2 q).1; exact q2 (g2.2 q).2)] at h
        have rowk : ∀ {K}, y_kl f K yL yH w 14 → y_row K yL yH w (z_kill f) := fun hk k hk2 => hk.1 k hk2
        refine ⟨15, y_l101 (K0 := yK) (b := b) (by omega) hw eb' (by omega) (fun e50 K Q hk hl q1 q2 => ?_) (fun e50 K hk hl => ?_) 14 0 yK (by omega) ⟨fun k hk => by omega, fun k h1 h2 => hrow k h2⟩ low_rf 15 (by omega)⟩
        · rw [if_pos e50, eb', nI_1 b] at h
          have hr := yr_set (v := (6, (nI (b + 1)).toInt64, (nI (b + 1)).toInt64)) (kd := 6) (l := (nI (b + 1)).toInt64) (h := 0) (rowk hk) (show 0 < 14 by omega) ⟨rfl, fun _ => rfl, fun y => absurd (show (6 : Int32) = 1 ∨ (6 : Int32) = 2 from y) (by decide)⟩
          exact y_set w 0 rfl (by omega) hw kb_01.2.2.2.2.2.2 (h rfl _ _ _ _ _ _ _ _ Q hr.1 (fun q hq => ⟨(hr.2 q hq).1.trans (hl q hq).1, (hr.2 q hq).2⟩) rfl q1 q2)
        · rw [if_neg e50] at h
          have hr := yr_set (v := (1, 0, 1)) (kd := 1) (l := 0) (h := 1) (rowk hk) (show 0 < 14 by omega) (yv_rf (1, 0, 1))
          exact y_set w 0 rfl (by omega) hw kb_01.2.1 (h rfl _ _ _ _ _ _ _ _ yQ hr.1 (fun q hq => ⟨(hr.2 q hq).1.trans (hl q hq).1, (hr.2 q hq).2⟩) rfl rfl (fun _ _ => rfl))
      · have g := (hs (fun v => ¬ v = 0)).mp hg
        rw [if_neg (fun q => by rcases q with q | ⟨q, q2 | q2⟩; exact g.1 q; exact (g.2 q).1 q2; exact (g.2 q).2 q2), if_pos (Classical.byContradiction fun q => hb2 ((hs (fun v => v = 1)).mpr ⟨Classical.byContradiction fun y => q (Or.inl y), fun e => ⟨Classical.byContradiction fun y => q (Or.inr ⟨e, Or.inl y⟩), Classical.byContradiction fun y => q (Or.inr ⟨e, Or.inr y⟩)⟩⟩))] at h
        exact h (by decide) _ _ _ _ _ _ _ _ _
      · rw [if_pos (Classical.byContradiction fun q => hb1 ((hs (fun v => ¬ v = 0)).mpr ⟨fun y => q (Or.inl y), fun e => ⟨fun y => q (Or.inr ⟨e, Or.inl y⟩), fun y => q (Or.inr ⟨e, Or.inr y⟩)⟩⟩))] at h
        exact h (by decide) _ _ _ _ _ _ _ _ _
    by_cases c : o = 51
    · exact br_t (by rw [c]; rfl) (all 3 (by rw [if_pos c]))
    · exact br_f (fun z => c ((nI_eq (b := 51) (by omega) (by omega)).mp z)) (all 1 (by rw [if_neg c]))
  · rw [if_pos (Classical.not_not.mp z)] at h
    exact h (by decide) _ _ _ _ _ _ _ _ _
end YH
end
section
/-! the reference: one instruction -/
section YI
variable {ypl : Int32} {yle ymo ysm ygr : Int64} {yw yfa yb yok : Int32} {yol yoh ylw yhg : Int64} {yby yst : Int32} {yop yd ys yof yim ysz yth yK : Nat → Int32} {yL yH : Nat → Int64} {yat yQ yS yM ytg : Nat → Int32} {ywd : Nat → Int64} {ypk : Nat → Int32} {yks yvs : Nat → Int64} {ymn : Nat → Int32}
theorem y_exit {post : SY → Prop} {i w : Nat} {f : Nat → zV} (hw : w ≤ 10) (hrow : y_row yK yL yH w f) (h : z_el (fun fl => ¬ fl = 0 → ∀ (ok : Int32) (ol oh lw hg : Int64) (K : Nat → Int32) (L H : Nat → Int64) (At Q : Nat → Int32), post ((nI i, yle, ymo, ysm, ygr, nI (w + 1), fl, nI (14 * w), ok, ol, oh, lw, hg, yby, yst, yop, yd, ys, yof, yim, ysz, yth, K, L, H, At, Q, yS, yM, ytg, ywd, ypk, yks, yvs, ymn))) (fun lo hi => post ((ypl, yle, ymo, y_ms ysm lo, z_mh ygr hi, nI w, 0, nI (14 * w), yok, yol, yoh, ylw, yhg, yby, yst, yop, yd, ys, yof, yim, ysz, yth, yK, yL, yH, yat, yQ, yS, yM, ytg, ywd, ypk, yks, yvs, ymn))) (fun j B => ∀ (ok : Int32) (ol oh lw hg : Int64) (K : Nat → Int32) (L H : Nat → Int64) (At Q : Nat → Int32), y_row K L H w B.1 → y_low w yK yL yH K L H → yS w = B.2.1 → Q w = B.2.2 → At w = nI j → (∀ c, c < w → Q c = yQ c ∧ At c = yat c) → post ((ypl, yle, ymo, ysm, ygr, nI (w + 1), 0, nI (14 * w), ok, ol, oh, lw, hg, yby, yst, yop, yd, ys, yof, yim, ysz, yth, K, L, H, At, Q, yS, yM, ytg, ywd, ypk, yks, yvs, ymn))) (fun j C k B => ∀ (ok : Int32) (ol oh lw hg : Int64) (K : Nat → Int32) (L H : Nat → Int64) (At Q S : Nat → Int32), y_row K L H w B.1 → y_row K L H (w + 1) C.1 → y_low w yK yL yH K L H → S w = B.2.1 → Q w = B.2.2 → At w = nI k → S (w + 1) = C.2.1 → Q (w + 1) = C.2.2 → At (w + 1) = nI j → (∀ c, c < w → S c = yS c ∧ Q c = yQ c ∧ At c = yat c) → post ((ypl, yle, ymo, ysm, ygr, nI (w + 2), 0, nI (14 * w), ok, ol, oh, lw, hg, yby, yst, yop, yd, ys, yof, yim, ysz, yth, K, L, H, At, Q, S, yM, ytg, ywd, ypk, yks, yvs, ymn))) (z_ext f)) : wpY_exit post ((ypl, yle, ymo, ysm, ygr, nI (w + 1), 0, nI (14 * w), yok, yol, yoh, ylw, yhg, yby, yst, yop, yd, ys, yof, yim, ysz, yth, yK, yL, yH, yat, yQ, yS, yM, ytg, ywd, ypk, yks, yvs, ymn)) (nI i) := by
  have v : vp_in (nI (14 * w)) 168 := vp_in_nI (by omega) (by omega)
  have e : (nI (14 * w)).toNatClampNeg = 14 * w := nI_clamp (by omega)
  obtain ⟨r1, r2, r3⟩ := hrow 0 (by omega)
  rw [Nat.add_zero] at r1 r2 r3
  have s0 : z_src 0 f = f 0 := rfl
  unfold z_ext at h
  unfold wpY_exit
  refine y_missing (r := 0) (by omega) (by omega) hrow (fun z => ?_) (fun z => ?_)
  · rw [s0] at z
    rw [if_pos z] at h
    exact br_f (by decide) (h (by decide) _ _ _ _ _ _ _ _ _ _)
  refine br_t rfl ⟨v, ?_⟩
  rw [s0] at z
  rw [if_neg z] at h
  rw [e, r1]
  refine br_c (fun z1 => ?_) (fun z1 => ?_)
  · rw [if_pos z1] at h
    have r2' := r2 z
    have r3' := r3 (Or.inl z1)
    have h' : post ((ypl, yle, ymo, y_ms ysm (f 0).2.1, z_mh ygr (f 0).2.2, nI w, 0, nI (14 * w), yok, yol, yoh, ylw, yhg, yby, yst, yop, yd, ys, yof, yim, ysz, yth, yK, yL, yH, yat, yQ, yS, yM, ytg, ywd, ypk, yks, yvs, ymn)) := h
    have eL : yL (nI (14 * w)).toNatClampNeg = (f 0).2.1 := by rw [e, r2']
    have eH : yH (nI (14 * w)).toNatClampNeg = (f 0).2.2 := by rw [e, r3']
    have g69 : ∀ s : Int64, s = y_ms ysm (f 0).2.1 → wY_exit_69 post ypl yle ymo s ygr (nI (w + 1)) 0 (nI (14 * w)) yok yol yoh ylw yhg yby yst yop yd ys yof yim ysz yth yK yL yH yat yQ yS yM ytg ywd ypk yks yvs ymn := by
      intro s hs
      rw [← hs] at h'
      refine ⟨v, ?_⟩
      rw [eH]
      refine br_c (fun y => nm_r (nI_pred w) ?_) (fun y => ⟨v, nm_e (nm_r (nI_pred w) ?_)⟩)
      · rw [show z_mh ygr (f 0).2.2 = ygr from if_pos y] at h'; exact h'
      · rw [show z_mh ygr (f 0).2.2 = (f 0).2.2 from if_neg y] at h'; exact h'
    have g56 : (f 0).2.1 = y_ms ysm (f 0).2.1 → wY_exit_56 post ypl yle ymo ysm ygr (nI (w + 1)) 0 (nI (14 * w)) yok yol yoh ylw yhg yby yst yop yd ys yof yim ysz yth yK yL yH yat yQ yS yM ytg ywd ypk yks yvs ymn := fun hs => ⟨v, nm_r (e' := (f 0).2.1) eL (g69 _ hs)⟩
    refine br_c (fun y => g56 (if_pos y).symm) (fun y => ⟨v, ?_⟩)
    rw [show yL (14 * w) = (f 0).2.1 from r2']
    refine br_c (fun y2 => g69 _ ?_) (fun y2 => g56 ?_)
    · rw [y_ms, if_neg y, if_pos y2]
    · rw [y_ms, if_neg y, if_neg y2]
  · rw [if_neg z1] at h
    exact h (by decide) _ _ _ _ _ _ _ _ _ _
theorem y_78 {post : SY → Prop} {i w : Nat} (hw : w ≤ 10) (hi : i < 40) (hat : yat w = nI i) (h : post ((ypl, yle, ymo, ysm, ygr, nI (w + 1), yfa, yb, yok, yol, yoh, ylw, yhg, yby, yst, yop, yd, ys, yof, yim, ysz, yth, yK, yL, yH, upd yat w (nI (i + 1)), yQ, yS, yM, ytg, ywd, ypk, yks, yvs, ymn))) : wY_instruction_78 post ypl yle ymo ysm ygr (nI (w + 1)) yfa yb yok yol yoh ylw yhg yby yst yop yd ys yof yim ysz yth yK yL yH yat yQ yS yM ytg ywd ypk yks yvs ymn := by
  have vw : vp_in (nI (w + 1) - 1) 12 := by rw [nI_pred]; exact vp_in_nI (by omega) (by omega)
  have ew : (nI (w + 1) - 1).toNatClampNeg = w := by rw [nI_pred]; exact nI_clamp (by omega)
  exact ⟨vw, vw, nm_r (by rw [ew, hat, nI_1 i, show vp_nar .byte (nI (i + 1)).toInt8.toInt32 = nI (i + 1) from kb_nI (by omega)]) h⟩
theorem y_ins {post : SY → Prop} {c : zC} {i w : Nat} {f : Nat → zV} (po : yop (80 + i) = nI c.1) (pd : yd (80 + i) = nI c.2.1) (ps : ys (80 + i) = nI c.2.2.1) (pof : yof (80 + i) = c.2.2.2.1) (pim : yim (80 + i) = c.2.2.2.2) (hc : z_cw c) (hi : i < 40) (hw : w ≤ 10) (hrow : y_row yK yL yH w f) (hwf : z_wf i (f, yS w, yQ w)) (hat : yat w = nI i)
    (h : z_el (fun fl => ¬ fl = 0 → ∀ (ok : Int32) (ol oh lw hg : Int64) (K : Nat → Int32) (L H : Nat → Int64) (At Q : Nat → Int32), post ((nI i, yle, ymo, ysm, ygr, nI (w + 1), fl, nI (14 * w), ok, ol, oh, lw, hg, yby, yst, yop, yd, ys, yof, yim, ysz, yth, K, L, H, At, Q, yS, yM, ytg, ywd, ypk, yks, yvs, ymn))) (fun lo hi => post ((ypl, yle, ymo, y_ms ysm lo, z_mh ygr hi, nI w, 0, nI (14 * w), yok, yol, yoh, ylw, yhg, yby, yst, yop, yd, ys, yof, yim, ysz, yth, yK, yL, yH, yat, yQ, yS, yM, ytg, ywd, ypk, yks, yvs, ymn))) (fun j B => ∀ (ok : Int32) (ol oh lw hg : Int64) (K : Nat → Int32) (L H : Nat → Int64) (At Q : Nat → Int32), y_row K L H w B.1 → y_low w yK yL yH K L H → yS w = B.2.1 → Q w = B.2.2 → At w = nI j → (∀ c, c < w → Q c = yQ c ∧ At c = yat c) → post ((ypl, yle, ymo, ysm, ygr, nI (w + 1), 0, nI (14 * w), ok, ol, oh, lw, hg, yby, yst, yop, yd, ys, yof, yim, ysz, yth, K, L, H, At, Q, yS, yM, ytg, ywd, ypk, yks, yvs, ymn))) (fun j C k B => ∀ (ok : Int32) (ol oh lw hg : Int64) (K : Nat → Int32) (L H : Nat → Int64) (At Q S : Nat → Int32), y_row K L H w B.1 → y_row K L H (w + 1) C.1 → y_low w yK yL yH K L H → S w = B.2.1 → Q w = B.2.2 → At w = nI k → S (w + 1) = C.2.1 → Q (w + 1) = C.2.2 → At (w + 1) = nI j → (∀ c, c < w → S c = yS c ∧ Q c = yQ c ∧ At c = yat c) → post ((ypl, yle, ymo, ysm, ygr, nI (w + 2), 0, nI (14 * w), ok, ol, oh, lw, hg, yby, yst, yop, yd, ys, yof, yim, ysz, yth, K, L, H, At, Q, S, yM, ytg, ywd, ypk, yks, yvs, ymn))) (z_stp c i (f, yS w, yQ w))) : wpY_instruction post ((ypl, yle, ymo, ysm, ygr, nI (w + 1), 0, nI (14 * w), yok, yol, yoh, ylw, yhg, yby, yst, yop, yd, ys, yof, yim, ysz, yth, yK, yL, yH, yat, yQ, yS, yM, ytg, ywd, ypk, yks, yvs, ymn)) (nI (80 + i)) (nI i) := by
  obtain ⟨o, d, s, off, im⟩ := c
  obtain ⟨hn, hd, hs⟩ := hc
  dsimp only at po pd ps pof pim hn hd hs
  have vc : vp_in (nI (80 + i)) 120 := vp_in_nI (by omega) (by omega)
  have ec : (nI (80 + i)).toNatClampNeg = 80 + i := nI_clamp (by omega)
  have po' : yop (nI (80 + i)).toNatClampNeg = nI o := by rw [ec, po]
  have ho61 : o < 61 := by unfold z_nm at hn; omega
  unfold z_stp at h
  dsimp only at h
  refine ⟨vc, nm_r po' ?_⟩
  have n60 : ¬ o = 60 → ¬ nI o = 60 := fun q z => q ((nI_eq (b := 60) (by omega) (by omega)).mp z)
  by_cases c1 : o < 20
  · rw [if_pos c1] at h
    refine br_t (nI_lt (b := 20) c1 (by omega)) (br_f (n60 (by omega)) (br_t (nI_lt (b := 50) (by omega) (by omega)) (br_t (nI_lt (b := 40) (by omega) (by omega)) ?_)))
    exact y_arith po pd ps pim rfl hn c1 hd hs hi (by omega) hrow hwf (z_el_mono h (fun fl hF hne ok ol oh lw hg K L H Q => y_78 hw hi hat (hF hne ok ol oh lw hg K L H _ Q)) (fun _ _ _ => trivial) (fun j B h1 e ok ol oh lw hg K L H Q a1 a2 a3 a4 a5 => y_78 hw hi hat (h1 ok ol oh lw hg K L H _ Q a1 a2 a3 a4 (by rw [e, pk_us]) (fun c hc => ⟨a5 c hc, pk_un (by omega)⟩))) (fun _ _ _ _ _ => trivial))
  rw [if_neg c1] at h
  by_cases c2 : o < 40
  · rw [if_pos c2] at h
    refine br_f (nI_nlt (b := 20) (by omega) (by omega)) (br_f (nI_ge (b := 40) c2 (by omega)) ?_)
    exact y_jump pd ps pof pim hn (by omega) c2 hd hs hi hw hrow hwf (z_el_mono h (fun _ x => x) (fun _ _ _ => trivial) (fun _ _ x => x) (fun _ _ _ _ x => x))
  rw [if_neg c2] at h
  refine br_f (nI_nlt (b := 20) (by omega) (by omega)) (br_t (nI_le (a := 40) (by omega) (by omega)) ?_)
  by_cases c6 : o = 60
  · subst c6
    rw [if_neg (by omega), if_neg (by omega), if_neg (by omega), if_neg (by omega)] at h
    exact br_t rfl (y_exit hw hrow h)
  refine br_f (n60 c6) ?_
  by_cases c5 : o < 50
  · refine br_t (nI_lt (b := 50) c5 (by omega)) (br_f (nI_nlt (b := 40) (by omega) (by omega)) ?_)
    have h3 : o = 40 ∨ o = 41 ∨ o = 42 := by unfold z_nm at hn; omega
    rcases h3 with rfl | rfl | rfl
    · rw [if_pos rfl] at h
      exact y_mem40 pd ps pof hd hs hi (by omega) hrow hwf (z_el_mono h (fun fl hF hne ok ol oh lw hg K L H Q => y_78 hw hi hat (hF hne ok ol oh lw hg K L H _ Q)) (fun _ _ _ => trivial) (fun j B h1 e ok ol oh lw hg K L H Q a1 a2 a3 a4 a5 => y_78 hw hi hat (h1 ok ol oh lw hg K L H _ Q a1 a2 a3 a4 (by rw [e, pk_us]) (fun c hc => ⟨a5 c hc, pk_un (by omega)⟩))) (fun _ _ _ _ _ => trivial))
    · rw [if_neg (by omega), if_pos rfl] at h
      exact y_mem41 pd ps pof hd hs hi (by omega) hrow hwf (z_el_mono h (fun fl hF hne ok ol oh lw hg K L H Q => y_78 hw hi hat (hF hne ok ol oh lw hg K L H _ Q)) (fun _ _ _ => trivial) (fun j B h1 e ok ol oh lw hg K L H Q a1 a2 a3 a4 a5 => y_78 hw hi hat (h1 ok ol oh lw hg K L H _ Q a1 a2 a3 a4 (by rw [e, pk_us]) (fun c hc => ⟨a5 c hc, pk_un (by omega)⟩))) (fun _ _ _ _ _ => trivial))
    · rw [if_neg (by omega), if_neg (by omega), if_pos rfl] at h
      exact y_mem42 pd ps pof hd hs hi (by omega) hrow (z_el_mono h (fun fl hF hne ok ol oh lw hg K L H Q => y_78 hw hi hat (hF hne ok ol oh lw hg K L H _ Q)) (fun _ _ _ => trivial) (fun j B h1 e ok ol oh lw hg K L H Q a1 a2 a3 a4 a5 => y_78 hw hi hat (h1 ok ol oh lw hg K L H _ Q a1 a2 a3 a4 (by rw [e, pk_us]) (fun c hc => ⟨a5 c hc, pk_un (by omega)⟩))) (fun _ _ _ _ _ => trivial))
  · rw [if_neg (by omega), if_neg (by omega), if_neg (by omega), if_pos (by omega)] at h
    refine br_f (nI_nlt (b := 50) (by omega) (by omega)) ?_
    exact y_lookup pim (by unfold z_nm at hn; omega) hi (by omega) hrow hwf (z_el_mono h (fun fl hF hne ok ol oh lw hg K L H Q => y_78 hw hi hat (hF hne ok ol oh lw hg K L H _ Q)) (fun _ _ _ => trivial) (fun j B h1 e ok ol oh lw hg K L H Q a1 a2 a3 a4 a5 => y_78 hw hi hat (h1 ok ol oh lw hg K L H _ Q a1 a2 a3 a4 (by rw [e, pk_us]) (fun c hc => ⟨a5 c hc, pk_un (by omega)⟩))) (fun _ _ _ _ _ => trivial))
end YI
end
section
/-! the reference: the ways -/
def y_sm (L : Int64) : Int64 := if L = 4294967296 then -1 else L
theorem sm_ms {L lo : Int64} (hL : L = 4294967296 ∨ (0 ≤ L.toInt ∧ L.toInt ≤ 4294967295)) (h0 : 0 ≤ lo.toInt) (h1 : lo.toInt ≤ 4294967295) : y_ms (y_sm L) lo = y_sm (z_mn L lo) ∧ (z_mn L lo = 4294967296 ∨ (0 ≤ (z_mn L lo).toInt ∧ (z_mn L lo).toInt ≤ 4294967295)) := by
  have big : (4294967296 : Int64).toInt = 4294967296 := by decide
  have nlo : ¬ lo = 4294967296 := fun z => by rw [z, big] at h1; omega
  have slo : y_sm lo = lo := if_neg nlo
  rcases hL with rfl | ⟨a, b⟩
  · have e1 : z_mn 4294967296 lo = lo := if_neg (by rw [li_le, big]; omega)
    have e2 : y_sm 4294967296 = -1 := if_pos rfl
    rw [e1, e2, slo]
    exact ⟨if_pos (by decide), Or.inr ⟨h0, h1⟩⟩
  · have nL : ¬ L = 4294967296 := fun z => by rw [z, big] at b; omega
    have sL : y_sm L = L := if_neg nL
    have n0 : ¬ L < 0 := by rw [li_lt, li_0]; omega
    rw [sL, y_ms, if_neg n0, z_mn]
    by_cases c : L ≤ lo
    · rw [if_pos c, sL]; exact ⟨rfl, Or.inr ⟨a, b⟩⟩
    · rw [if_neg c, slo]; exact ⟨rfl, Or.inr ⟨h0, h1⟩⟩
def y_stk (K : Nat → Int32) (L H : Nat → Int64) (At Q S : Nat → Int32) : List (Nat × zA) → Prop
  | [] => True
  | p :: W => y_row K L H W.length p.2.1 ∧ S W.length = p.2.2.1 ∧ Q W.length = p.2.2.2 ∧ At W.length = nI p.1 ∧ y_stk K L H At Q S W
theorem ystk_mono {K K' : Nat → Int32} {L H L' H' : Nat → Int64} {At Q S At' Q' S' : Nat → Int32} : ∀ {W : List (Nat × zA)}, y_stk K L H At Q S W → y_low W.length K L H K' L' H' → (∀ c, c < W.length → At' c = At c ∧ Q' c = Q c ∧ S' c = S c) → y_stk K' L' H' At' Q' S' W
  | [], _, _, _ => trivial
  | p :: W, h, hl, hc => by
    obtain ⟨h1, h2, h3, h4, h5⟩ := h
    have e : (p :: W).length = W.length + 1 := List.length_cons
    rw [e] at hl hc
    obtain ⟨c1, c2, c3⟩ := hc W.length (by omega)
    refine ⟨fun k hk => ?_, by rw [c3]; exact h2, by rw [c2]; exact h3, by rw [c1]; exact h4, ystk_mono h5 (fun q hq => hl q (by omega)) (fun c h => hc c (by omega))⟩
    obtain ⟨a, b, c⟩ := hl (14 * W.length + k) (by omega)
    rw [a, b, c]
    exact h1 k hk
section YJ
variable {ypl : Int32} {yle ymo ysm ygr : Int64} {yw yfa yb yok : Int32} {yol yoh ylw yhg : Int64} {yby yst : Int32} {yop yd ys yof yim ysz yth yK : Nat → Int32} {yL yH : Nat → Int64} {yat yQ yS yM ytg : Nat → Int32} {ywd : Nat → Int64} {ypk : Nat → Int32} {yks yvs : Nat → Int64} {ymn : Nat → Int32}
theorem y_fol {post : SY → Prop} {P : Nat → zC} {n : Nat} {ρ : zR} (hp : x_prog 80 yop yd ys yof yim P n) (hn : n ≤ 40) (hsz : ysz 2 = nI n) (hcj : ∀ j, z_cj P j ≤ 10)
    (hF : ∀ (f : Int32) (q : Nat), ρ = Sum.inl (f, q) → ¬ f = 0 → ∀ (sm gr : Int64) (ww bb ok : Int32) (ol oh lw hg : Int64) (K : Nat → Int32) (L H : Nat → Int64) (At Q S Mt : Nat → Int32), post ((nI q, yle, ymo, sm, gr, ww, f, bb, ok, ol, oh, lw, hg, yby, yst, yop, yd, ys, yof, yim, ysz, yth, K, L, H, At, Q, S, Mt, ytg, ywd, ypk, yks, yvs, ymn)))
    (hD : ∀ (M : Nat → Prop) (Lo Hi : Int64), ρ = Sum.inr (M, Lo, Hi) → ∀ (ww bb ok : Int32) (ol oh lw hg : Int64) (K : Nat → Int32) (L H : Nat → Int64) (At Q S Mt : Nat → Int32), (∀ j, j < n → (Mt j = 0 ↔ ¬ M j)) → post ((ypl, yle, ymo, y_sm Lo, Hi, ww, 0, bb, ok, ol, oh, lw, hg, yby, yst, yop, yd, ys, yof, yim, ysz, yth, K, L, H, At, Q, S, Mt, ytg, ywd, ypk, yks, yvs, ymn))) :
    ∀ (k : Nat) (St : List (Nat × zA)) (M : Nat → Prop) (Lo Hi : Int64) (bb ok : Int32) (ol oh lw hg : Int64) (K : Nat → Int32) (L H : Nat → Int64) (At Q S Mt : Nat → Int32), z_run P n ρ k St M Lo Hi → z_so P St → y_stk K L H At Q S St → (∀ j, j < n → (Mt j = 0 ↔ ¬ M j)) → (Lo = 4294967296 ∨ (0 ≤ Lo.toInt ∧ Lo.toInt ≤ 4294967295)) →
      ∀ k', k < k' → wY_follow_69 post k' ypl yle ymo (y_sm Lo) Hi (nI St.length) 0 bb ok ol oh lw hg yby yst yop yd ys yof yim ysz yth K L H At Q S Mt ytg ywd ypk yks yvs ymn := by
  have fl : ∀ (f : Int32) (q : Nat), ρ = Sum.inl (f, q) → ¬ f = 0 → ∀ (k : Nat) (sm gr : Int64) (ww bb ok : Int32) (ol oh lw hg : Int64) (K : Nat → Int32) (L H : Nat → Int64) (At Q S Mt : Nat → Int32), 0 < k → wY_follow_69 post k (nI q) yle ymo sm gr ww f bb ok ol oh lw hg yby yst yop yd ys yof yim ysz yth K L H At Q S Mt ytg ywd ypk yks yvs ymn := by
    intro f q e hne k sm gr ww bb ok ol oh lw hg K L H At Q S Mt hk
    obtain ⟨k, rfl⟩ : ∃ k'', k = k'' + 1 := ⟨k - 1, by omega⟩
    rw [wY_follow_69]
    have g := hF f q e hne sm gr ww bb ok ol oh lw hg K L H At Q S Mt
    exact br_c (fun _ => g) (fun _ => br_f hne g)
  intro k
  induction k with
  | zero => intro St M Lo Hi bb ok ol oh lw hg K L H At Q S Mt hr; exact hr.elim
  | succ k ih =>
    intro St M Lo Hi bb ok ol oh lw hg K L H At Q S Mt hr hso hst hmt hLo k' hk
    obtain ⟨k', rfl⟩ : ∃ k'', k' = k'' + 1 := ⟨k' - 1, by omega⟩
    rw [wY_follow_69]
    cases St with
    | nil => exact br_t (by decide) (hD M Lo Hi hr _ _ _ _ _ _ _ _ _ _ _ _ _ _ hmt)
    | cons p W =>
      obtain ⟨i, A⟩ := p
      obtain ⟨s1, s2, s3, s4⟩ := hso
      obtain ⟨t1, t2, t3, t4, t5⟩ := hst
      dsimp only at s1 s2 s3 t1 t2 t3 t4
      have hw := hcj i
      have el : ((i, A) :: W).length = W.length + 1 := List.length_cons
      rw [el]
      have vw : vp_in (nI (W.length + 1) - 1) 12 := by rw [nI_pred]; exact vp_in_nI (by omega) (by omega)
      have ew : (nI (W.length + 1) - 1).toNatClampNeg = W.length := by rw [nI_pred]; exact nI_clamp (by omega)
      have eb : (14 : Int32) * (nI (W.length + 1) - 1) = nI (14 * W.length) := by rw [nI_pred, show (14 : Int32) = nI 14 from rfl, pk_mul]
      refine br_f (nI_nle (by omega) (by omega)) (br_t rfl ⟨vw, nm_r (e' := nI i) (by rw [ew, t4]) (nm_r eb ?_)⟩)
      rw [hsz]
      rcases hr with ⟨h1, h2⟩ | ⟨h1, h2⟩
      · dsimp only at h1
        exact br_f (nI_nlt (by omega) (by omega)) (fl 1 n h2 (by decide) k' _ _ _ _ _ _ _ _ _ _ _ _ _ _ _ _ (by omega))
      · dsimp only at h1 h2
        have vi : vp_in (nI i) 40 := vp_in_nI (by omega) (by omega)
        have ei : (nI i).toNatClampNeg = i := nI_clamp (by omega)
        obtain ⟨hcw, po, pd, ps, pof, pim⟩ := hp i h1
        have eA : A = (A.1, S W.length, Q W.length) := by rw [t2, t3]
        have hmt' : ∀ j, j < n → (upd Mt i 1 j = 0 ↔ ¬ z_ad M i j) := by
          intro j hj
          by_cases e : j = i
          · rw [e, pk_us]
            exact ⟨fun z => absurd z (by decide), fun z => absurd (Or.inl rfl) z⟩
          · rw [pk_un e, hmt j hj]
            exact ⟨fun z y => y.elim e z, fun z y => z (Or.inr y)⟩
        have sw := stp_wf hcw (by omega) s3
        refine br_t (nI_lt h1 (by omega)) ⟨vi, nm_r (e' := upd Mt i 1) (by rw [ei, nb_1]) ?_⟩
        rw [ix80]
        refine y_ins (c := P i) (f := A.1) po pd ps pof pim hcw (by omega) (by omega) t1 (by rw [← eA]; exact s3) t4 ?_
        rw [← eA]
        rcases e : z_stp (P i) i A with f | p | p | q
        · rw [e] at h2 sw
          intro hne ok ol oh lw hg K L H At Q
          exact fl f i h2 hne k' _ _ _ _ _ _ _ _ _ _ _ _ _ _ _ _ (by omega)
        · obtain ⟨lo, hi⟩ := p
          rw [e] at h2 sw
          obtain ⟨u1, u2, u3⟩ := sw
          dsimp only at u1 u2 u3
          have sm := sm_ms hLo u1 (by omega)
          have R := ih W _ _ _ (nI (14 * W.length)) ok ol oh lw hg K L H At Q S (upd Mt i 1) h2 s4 t5 hmt' sm.2 k' (by omega)
          rw [← sm.1] at R
          exact R
        · obtain ⟨j, B⟩ := p
          rw [e] at h2 sw
          obtain ⟨u1, u2, u3⟩ := sw
          dsimp only at u1 u2 u3
          intro ok ol oh lw hg K2 L2 H2 At2 Q2 a1 a2 a3 a4 a5 a6
          exact ih ((j, B) :: W) _ _ _ (nI (14 * W.length)) ok ol oh lw hg K2 L2 H2 At2 Q2 S (upd Mt i 1) h2 ⟨Nat.le_trans s1 (cj_le P (Nat.le_of_lt u1)), u2, u3, s4⟩ ⟨a1, a3, a4, a5, ystk_mono t5 a2 (fun c hc => ⟨(a6 c hc).2, (a6 c hc).1, rfl⟩)⟩ hmt' hLo k' (by omega)
        · obtain ⟨⟨j, C⟩, ⟨l, B⟩⟩ := q
          rw [e] at h2 sw
          obtain ⟨u1, u2, u3, u4, u5, u6⟩ := sw
          dsimp only at u1 u2 u3 u4 u5 u6
          have ecj : z_cj P j = z_cj P i + 1 := by rw [u1, z_cj, if_pos u6]
          intro ok ol oh lw hg K2 L2 H2 At2 Q2 S2 a1 a2 a3 a4 a5 a6 a7 a8 a9 a10
          exact ih ((j, C) :: (l, B) :: W) _ _ _ (nI (14 * W.length)) ok ol oh lw hg K2 L2 H2 At2 Q2 S2 (upd Mt i 1) h2 ⟨by show W.length + 1 ≤ z_cj P j; omega, by show j ≤ 40; omega, u4, Nat.le_trans s1 (cj_le P (Nat.le_of_lt u2)), u3, u5, s4⟩ ⟨a2, a7, a8, a9, a1, a4, a5, a6, ystk_mono t5 a3 (fun c hc => ⟨(a10 c hc).2.2, (a10 c hc).2.1, (a10 c hc).1⟩)⟩ hmt' hLo k' (by omega)
end YJ
end
section
/-! the reference: verify -/
section YK
variable {ypl : Int32} {yle ymo ysm ygr : Int64} {yw yfa yb yok : Int32} {yol yoh ylw yhg : Int64} {yby yst : Int32} {yop yd ys yof yim ysz yth yK : Nat → Int32} {yL yH : Nat → Int64} {yat yQ yS yM ytg : Nat → Int32} {ywd : Nat → Int64} {ypk : Nat → Int32} {yks yvs : Nat → Int64} {ymn : Nat → Int32}
theorem y_f7L {post : SY → Prop} (hh : ∀ K L H, y_row K L H 0 (fun _ => (0, 0, 0)) → wY_follow_7 post 1 (nI 14) ypl yle ymo ysm ygr yw yfa 0 yok yol yoh ylw yhg yby yst yop yd ys yof yim ysz yth K L H yat yQ yS yM ytg ywd ypk yks yvs ymn) :
    ∀ (m j : Nat) (K : Nat → Int32) (L H : Nat → Int64), j + m = 14 → (∀ k, k < j → K k = 0 ∧ L k = 0 ∧ H k = 0) → wY_follow_7 post (m + 1) (nI j) ypl yle ymo ysm ygr yw yfa 0 yok yol yoh ylw yhg yby yst yop yd ys yof yim ysz yth K L H yat yQ yS yM ytg ywd ypk yks yvs ymn := by
  intro m
  induction m with
  | zero =>
    intro j K L H hj hc
    obtain rfl : j = 14 := by omega
    refine hh K L H (fun k hk => ?_)
    obtain ⟨a, b, c⟩ := hc k hk
    rw [show 14 * 0 + k = k by omega, a, b, c]
    exact yv_rf (0, 0, 0)
  | succ m ih =>
    intro j K L H hj hc
    rw [wY_follow_7]
    refine br_f (nI_ge (b := 14) (by omega) (by omega)) (y_set 0 j rfl (by omega) (by omega) kb_01.1 (nm_r (nI_1 j) (ih (j + 1) _ _ _ (by omega) (fun k hk => ?_))))
    rw [show 14 * 0 + j = j by omega]
    by_cases e : k = j
    · rw [e, pk_us, pk_uLs, pk_uLs]; exact ⟨rfl, rfl, rfl⟩
    · rw [pk_un (by omega), pk_uLn (by omega), pk_uLn (by omega)]; exact hc k (by omega)
theorem y_follow {post : SY → Prop} (hh : ∀ K L H At Q S, y_stk K L H At Q S [(0, z_A0)] → ∃ n, wY_follow_69 post n ypl yle ymo ysm ygr 1 yfa 0 yok yol yoh ylw yhg yby yst yop yd ys yof yim ysz yth K L H At Q S yM ytg ywd ypk yks yvs ymn) : wpY_follow post ((ypl, yle, ymo, ysm, ygr, yw, yfa, yb, yok, yol, yoh, ylw, yhg, yby, yst, yop, yd, ys, yof, yim, ysz, yth, yK, yL, yH, yat, yQ, yS, yM, ytg, ywd, ypk, yks, yvs, ymn)) := by
  refine ⟨15, y_f7L (fun K L H hr => ?_) 14 0 yK yL yH (by omega) (fun k hk => by omega)⟩
  rw [wY_follow_7]
  have a := yr_set (v := (2, 0, 0)) hr (show 1 < 14 by omega) (yv_rf (2, 0, 0))
  have b := yr_set (v := (3, 0, 0)) a.1 (show 2 < 14 by omega) (yv_rf (3, 0, 0))
  refine br_t (nI_le (a := 14) (b := 14) (by omega) (by omega)) (y_set 0 1 rfl (by omega) (by omega) kb_01.2.2.1 (y_set 0 2 rfl (by omega) (by omega) kb_01.2.2.2.1 (nm_e (nm_e (nm_e (hh _ _ _ _ _ _ ⟨b.1, ?_, ?_, ?_, trivial⟩))))))
  · show upd yS 0 (vp_nar .short 0) 0 = 0
    rw [pk_us]; exact ks_nI (k := 0) (by omega)
  · show upd yQ 0 (vp_nar .byte 0) 0 = 0
    rw [pk_us]; exact kb_n kb_01.1
  · show upd yat 0 (vp_nar .byte 0) 0 = nI 0
    rw [pk_us]; exact kb_n kb_01.1
theorem y_v199 {post : Int32 → SY → Prop} {P : Nat → zC} {n p : Nat} (hp : x_prog 80 yop yd ys yof yim P n) (hn : n ≤ 40) (hp1 : p ≤ 1) (hh : post 0 ((ypl, yle, ymo, ysm, ygr, yw, yfa, yb, yok, yol, yoh, ylw, yhg, yby, yst, z_cp yop p n, z_cp yd p n, z_cp ys p n, z_cp yof p n, z_cp yim p n, ysz, yth, yK, yL, yH, yat, yQ, yS, yM, ytg, ywd, ypk, yks, yvs, ymn))) :
    ∀ (m i : Nat), i + m = n → ∀ k, m < k → wY_verify_199 post (nI p) (nI n) ypl yle ymo ysm ygr yw yfa yb yok yol yoh ylw yhg yby yst k (nI i) (z_cp yop p i) (z_cp yd p i) (z_cp ys p i) (z_cp yof p i) (z_cp yim p i) ysz yth yK yL yH yat yQ yS yM ytg ywd ypk yks yvs ymn := by
  intro m
  induction m with
  | zero =>
    intro i hi k hk
    obtain ⟨k, rfl⟩ : ∃ k', k = k' + 1 := ⟨k - 1, by omega⟩
    obtain rfl : i = n := by omega
    rw [wY_verify_199]
    exact br_t (nI_le (Nat.le_refl _) (by omega)) hh
  | succ m ih =>
    intro i hi k hk
    obtain ⟨k, rfl⟩ : ∃ k', k = k' + 1 := ⟨k - 1, by omega⟩
    rw [wY_verify_199]
    obtain ⟨k1, k2, k3⟩ := prog_kb hp (show i < n by omega)
    have cs : ∀ f : Nat → Int32, z_cp f p i (80 + i) = f (80 + i) := fun f => cp_src hp1 (by omega) i
    have va : vp_in (80 + nI i) 120 := by rw [ix80]; exact vp_in_nI (by omega) (by omega)
    have ea : (80 + nI i).toNatClampNeg = 80 + i := by rw [ix80]; exact nI_clamp (by omega)
    have vb : vp_in (40 * nI p + nI i) 120 := by rw [ix40]; exact vp_in_nI (by omega) (by omega)
    have eb : (40 * nI p + nI i).toNatClampNeg = 40 * p + i := by rw [ix40]; exact nI_clamp (by omega)
    refine br_f (nI_ge (by omega) (by omega)) ⟨va, vb, nm_r (e' := z_cp yop p (i + 1)) (by rw [ea, eb, cs, kb_n k1, cp_s]) ⟨va, vb, nm_r (e' := z_cp yd p (i + 1)) (by rw [ea, eb, cs, kb_n k2, cp_s]) ⟨va, vb, nm_r (e' := z_cp ys p (i + 1)) (by rw [ea, eb, cs, kb_n k3, cp_s]) ⟨va, vb, nm_r (e' := z_cp yof p (i + 1)) (by rw [ea, eb, cs, cp_s]) ⟨va, vb, nm_r (e' := z_cp yim p (i + 1)) (by rw [ea, eb, cs, cp_s]) (nm_r (nI_1 i) (ih (i + 1) (by omega) k (by omega)))⟩⟩⟩⟩⟩
theorem y_v148 {post : Int32 → SY → Prop} {P : Nat → zC} {n p : Nat} (hp : x_prog 80 yop yd ys yof yim P n) (hn : n ≤ 40) (hp1 : p ≤ 1) (hh : post 0 ((-1, ysm, ygr, ysm, ygr, yw, 0, yb, yok, yol, yoh, ylw, yhg, yby, yst, z_cp yop p n, z_cp yd p n, z_cp ys p n, z_cp yof p n, z_cp yim p n, upd ysz p (nI n), upd yth p 1, yK, yL, yH, yat, yQ, yS, yM, ytg, ywd, ypk, yks, yvs, ymn))) : wY_verify_148 post (nI p) (nI n) ypl yle ymo ysm ygr yw 0 yb yok yol yoh ylw yhg yby yst yop yd ys yof yim ysz yth yK yL yH yat yQ yS yM ytg ywd ypk yks yvs ymn := by
  have cp : (nI p).toNatClampNeg = p := nI_clamp (by omega)
  refine br_t rfl ⟨vp_in_nI (by omega) (by omega), nm_r (e' := upd yth p 1) (by rw [cp, nb_1]) ⟨vp_in_nI (by omega) (by omega), nm_r (e' := upd ysz p (nI n)) (by rw [cp, show vp_nar .byte (nI n).toInt8.toInt32 = nI n from kb_nI (by omega)]) ⟨n + 1, ?_⟩⟩⟩
  have := y_v199 (post := post) (n := n) (p := p) (ysz := upd ysz p (nI n)) (yth := upd yth p 1) (yfa := 0) (ypl := -1) (yle := ysm) (ymo := ygr) hp hn hp1 hh n 0 (by omega) (n + 1) (by omega)
  rw [cp_0, cp_0, cp_0, cp_0, cp_0] at this
  exact this
theorem y_v111 {post : Int32 → SY → Prop} {x1 : Int32} {n : Nat} (hn : n ≤ 40) (hall : (∀ j, j < n → ¬ yM j = 0) → wY_verify_148 post x1 (nI n) ypl yle ymo ysm ygr yw 0 yb yok yol yoh ylw yhg yby yst yop yd ys yof yim ysz yth yK yL yH yat yQ yS yM ytg ywd ypk yks yvs ymn) (hdead : ∀ p, p < n → yM p = 0 → (∀ j, j < p → ¬ yM j = 0) → wY_verify_148 post x1 (nI n) (nI p) yle ymo ysm ygr yw 6 yb yok yol yoh ylw yhg yby yst yop yd ys yof yim ysz yth yK yL yH yat yQ yS yM ytg ywd ypk yks yvs ymn) :
    ∀ (m i : Nat), i + m = n → (∀ j, j < i → ¬ yM j = 0) → ∀ k, m + 1 < k → wY_verify_111 post x1 (nI n) k (nI i) ypl yle ymo ysm ygr yw 0 yb yok yol yoh ylw yhg yby yst yop yd ys yof yim ysz yth yK yL yH yat yQ yS yM ytg ywd ypk yks yvs ymn := by
  intro m
  induction m with
  | zero =>
    intro i hi hs k hk
    obtain ⟨k, rfl⟩ : ∃ k', k = k' + 1 := ⟨k - 1, by omega⟩
    obtain rfl : i = n := by omega
    rw [wY_verify_111]
    exact br_t (nI_le (Nat.le_refl _) (by omega)) (hall hs)
  | succ m ih =>
    intro i hi hs k hk
    obtain ⟨k, rfl⟩ : ∃ k', k = k' + 1 := ⟨k - 1, by omega⟩
    rw [wY_verify_111]
    have vi : vp_in (nI i) 40 := vp_in_nI (by omega) (by omega)
    have ei : (nI i).toNatClampNeg = i := nI_clamp (by omega)
    refine br_f (nI_ge (by omega) (by omega)) (br_t rfl ⟨vi, ?_⟩)
    rw [ei]
    refine br_c (fun z => nm_r (P := fun y => wY_verify_111 post x1 (nI n) k y (nI i) yle ymo ysm ygr yw 6 yb yok yol yoh ylw yhg yby yst yop yd ys yof yim ysz yth yK yL yH yat yQ yS yM ytg ywd ypk yks yvs ymn) (nI_1 i) ?_) (fun z => nm_r (nI_1 i) (ih (i + 1) (by omega) (fun j hj => ?_) k (by omega)))
    · obtain ⟨k, rfl⟩ : ∃ k', k = k' + 1 := ⟨k - 1, by omega⟩
      rw [wY_verify_111]
      have g := hdead i (by omega) z hs
      exact br_c (fun _ => g) (fun _ => br_f (by decide) g)
    · by_cases e : j = i
      · rw [e]; exact z
      · exact hs j (by omega)
theorem y_cond {post : Int32 → Prop} {i : Nat} {o : Nat} (po : yop (80 + i) = nI o) (hi : i < 40) (ho : o < 100) (h1 : (20 < o ∧ o < 40) → post 1) (h0 : ¬ (20 < o ∧ o < 40) → post 0) : wpY_conditional post ((ypl, yle, ymo, ysm, ygr, yw, yfa, yb, yok, yol, yoh, ylw, yhg, yby, yst, yop, yd, ys, yof, yim, ysz, yth, yK, yL, yH, yat, yQ, yS, yM, ytg, ywd, ypk, yks, yvs, ymn)) (80 + nI i) := by
  have va : vp_in (80 + nI i) 120 := by rw [ix80]; exact vp_in_nI (by omega) (by omega)
  have ea : (80 + nI i).toNatClampNeg = 80 + i := by rw [ix80]; exact nI_clamp (by omega)
  refine ⟨va, ?_⟩
  rw [ea, po]
  by_cases c : o ≤ 20
  · exact br_t (nI_le (b := 20) c (by omega)) (h0 (by omega))
  · refine br_f (nI_ge (a := 20) (by omega) (by omega)) ⟨va, ?_⟩
    by_cases d : 40 ≤ o
    · exact br_t (nI_le (a := 40) d (by omega)) (h0 (by omega))
    · exact br_f (nI_ge (b := 40) (by omega) (by omega)) (h1 (by omega))
theorem y_v42 {post : Int32 → SY → Prop} {x1 : Int32} {P : Nat → zC} {n : Nat} (hp : x_prog 80 yop yd ys yof yim P n) (hn : n ≤ 40) (h0 : z_cj P n ≤ 10 → ∀ Mt, (∀ j, j < n → Mt j = 0) → wY_verify_97 post x1 (nI n) ypl yle ymo ysm ygr yw 0 yb yok yol yoh ylw yhg yby yst yop yd ys yof yim ysz yth yK yL yH yat yQ yS Mt ytg ywd ypk yks yvs ymn) (h5 : ∀ q, q < n → z_cj P q = 10 → z_cj P (q + 1) = 11 → ∀ Mt, wY_verify_97 post x1 (nI n) (nI q) yle ymo ysm ygr yw 5 yb yok yol yoh ylw yhg yby yst yop yd ys yof yim ysz yth yK yL yH yat yQ yS Mt ytg ywd ypk yks yvs ymn) :
    ∀ (m j : Nat) (Mt : Nat → Int32), j + m = n → z_cj P j ≤ 10 → (∀ k, k < j → Mt k = 0) → ∀ k, m + 1 < k → wY_verify_42 post x1 (nI n) k (nI (z_cj P j)) (nI j) ypl yle ymo ysm ygr yw 0 yb yok yol yoh ylw yhg yby yst yop yd ys yof yim ysz yth yK yL yH yat yQ yS Mt ytg ywd ypk yks yvs ymn := by
  intro m
  induction m with
  | zero =>
    intro j Mt hj hc hm k hk
    obtain ⟨k, rfl⟩ : ∃ k', k = k' + 1 := ⟨k - 1, by omega⟩
    obtain rfl : j = n := by omega
    rw [wY_verify_42]
    exact br_t (nI_le (Nat.le_refl _) (by omega)) (h0 hc Mt hm)
  | succ m ih =>
    intro j Mt hj hc hm k hk
    obtain ⟨k, rfl⟩ : ∃ k', k = k' + 1 := ⟨k - 1, by omega⟩
    rw [wY_verify_42]
    obtain ⟨hcw, po, -⟩ := hp j (by omega)
    have hnm := hcw.1
    have cji := cj_le_i P j
    have vi : vp_in (nI j) 40 := vp_in_nI (by omega) (by omega)
    have ei : (nI j).toNatClampNeg = j := nI_clamp (by omega)
    have hm' : ∀ q, q < j + 1 → upd Mt j 0 q = 0 := by
      intro q hq
      by_cases e : q = j
      · rw [e, pk_us]
      · rw [pk_un e]; exact hm q (by omega)
    refine br_f (nI_ge (by omega) (by omega)) (br_t rfl ⟨vi, nm_r (e' := upd Mt j 0) (by rw [ei, nb_0]) (y_cond po (by omega) (by unfold z_nm at hnm; omega) (fun c => br_f (by decide) (nm_r (nI_1 _) ?_)) (fun c => br_t rfl (nm_r (nI_1 j) ?_)))⟩)
    · have e : z_cj P (j + 1) = z_cj P j + 1 := by rw [z_cj, if_pos c]
      rw [← e]
      by_cases c11 : z_cj P (j + 1) = 11
      · refine br_t (by rw [c11]; rfl) (nm_r (P := fun y => wY_verify_42 post x1 (nI n) k (nI (z_cj P (j + 1))) y (nI j) yle ymo ysm ygr yw 5 yb yok yol yoh ylw yhg yby yst yop yd ys yof yim ysz yth yK yL yH yat yQ yS (upd Mt j 0) ytg ywd ypk yks yvs ymn) (nI_1 j) ?_)
        obtain ⟨k, rfl⟩ : ∃ k', k = k' + 1 := ⟨k - 1, by omega⟩
        rw [wY_verify_42]
        have g := h5 j (by omega) (by omega) c11 (upd Mt j 0)
        exact br_c (fun _ => g) (fun _ => br_f (by decide) g)
      · exact br_f (fun z => c11 ((nI_eq (b := 11) (by omega) (by omega)).mp z)) (nm_r (nI_1 j) (ih (j + 1) _ (by omega) (by omega) hm' k (by omega)))
    · have e : z_cj P (j + 1) = z_cj P j := by rw [z_cj, if_neg c]; rfl
      have r := ih (j + 1) (upd Mt j 0) (by omega) (by omega) hm' k (by omega)
      rw [e] at r
      exact r
theorem y_verify {post : Int32 → SY → Prop} {P : Nat → zC} {n p : Nat} {ρ : (Int32 × Nat) ⊕ (Int64 × Int64)} (hp : x_prog 80 yop yd ys yof yim P n) (hP : ∀ j, z_cj P j ≤ z_cj P n) (hn : n ≤ 40) (hsz : ysz 2 = nI n) (hp1 : p ≤ 1) (hv : z_ver P n ρ)
    (hBad : ∀ (f : Int32) (q : Nat), ρ = Sum.inl (f, q) → ∀ (sm gr : Int64) (ww bb ok : Int32) (ol oh lw hg : Int64) (K : Nat → Int32) (L H : Nat → Int64) (At Q S Mt : Nat → Int32), post f ((nI q, yle, ymo, sm, gr, ww, f, bb, ok, ol, oh, lw, hg, yby, yst, yop, yd, ys, yof, yim, ysz, yth, K, L, H, At, Q, S, Mt, ytg, ywd, ypk, yks, yvs, ymn)))
    (hOK : ∀ (Lo Hi : Int64), ρ = Sum.inr (Lo, Hi) → ∀ (sm gr : Int64) (ww bb ok : Int32) (ol oh lw hg : Int64) (K : Nat → Int32) (L H : Nat → Int64) (At Q S Mt : Nat → Int32), post 0 ((-1, y_sm Lo, Hi, sm, gr, ww, 0, bb, ok, ol, oh, lw, hg, yby, yst, z_cp yop p n, z_cp yd p n, z_cp ys p n, z_cp yof p n, z_cp yim p n, upd ysz p (nI n), upd yth p 1, K, L, H, At, Q, S, Mt, ytg, ywd, ypk, yks, yvs, ymn))) : wpY_verify post ((ypl, yle, ymo, ysm, ygr, yw, yfa, yb, yok, yol, yoh, ylw, yhg, yby, yst, yop, yd, ys, yof, yim, ysz, yth, yK, yL, yH, yat, yQ, yS, yM, ytg, ywd, ypk, yks, yvs, ymn)) (nI p) := by
  refine br_f (nI_pos (by omega)) (br_t (nI_le (b := 1) hp1 (by omega)) (nm_r hsz ⟨n + 2, ?_⟩))
  have bad111 : ∀ (f : Int32) (q : Nat), ¬ f = 0 → ρ = Sum.inl (f, q) → ∀ (sm gr : Int64) (ww bb ok : Int32) (ol oh lw hg : Int64) (K : Nat → Int32) (L H : Nat → Int64) (At Q S Mt : Nat → Int32), ∃ k, wY_verify_111 post (nI p) (nI n) k 0 (nI q) yle ymo sm gr ww f bb ok ol oh lw hg yby yst yop yd ys yof yim ysz yth K L H At Q S Mt ytg ywd ypk yks yvs ymn := by
    intro f q hne e sm gr ww bb ok ol oh lw hg K L H At Q S Mt
    refine ⟨1, ?_⟩
    rw [wY_verify_111]
    have g : wY_verify_148 post (nI p) (nI n) (nI q) yle ymo sm gr ww f bb ok ol oh lw hg yby yst yop yd ys yof yim ysz yth K L H At Q S Mt ytg ywd ypk yks yvs ymn := br_f hne (hBad f q e sm gr ww bb ok ol oh lw hg K L H At Q S Mt)
    exact br_c (fun _ => g) (fun _ => br_f hne g)
  refine y_v42 hp hn (fun hcj Mt hM => ?_) (fun q a b c Mt => ?_) n 0 yM (by omega) (by show 0 ≤ 10; omega) (fun k hk => by omega) (n + 2) (by omega)
  · rcases hv with ⟨q, a, b, c, d⟩ | ⟨_, hv⟩
    · have := cj_le P (show q + 1 ≤ n by omega); omega
    have hcj' : ∀ j, z_cj P j ≤ 10 := fun j => Nat.le_trans (hP j) hcj
    have so : z_so P [(0, z_A0)] := ⟨by show 0 ≤ _; omega, by show 0 ≤ 40; omega, A0_wf, trivial⟩
    have hM0 : ∀ j, j < n → (Mt j = 0 ↔ ¬ (fun _ => False : Nat → Prop) j) := fun j hj => ⟨fun _ y => y, fun _ => hM j hj⟩
    rcases hv with ⟨f, q, ⟨k, hr⟩, hne, e⟩ | ⟨M, Lo, Hi, ⟨k, hr⟩, hv⟩
    · refine br_t rfl (y_follow (fun K L H At Q S hs => ⟨k + 1, ?_⟩))
      exact y_fol (ρ := Sum.inl (f, q)) hp hn hsz hcj' (fun f' q' e' hne' sm gr ww bb ok ol oh lw hg K L H At Q S Mt => bad111 f' q' hne' (by injection e' with e'; rw [e, e']) sm gr ww bb ok ol oh lw hg K L H At Q S Mt) (fun M Lo Hi e' => by cases e') k _ _ _ _ _ _ _ _ _ _ K L H At Q S Mt hr so hs hM0 (Or.inl rfl) (k + 1) (by omega)
    · refine br_t rfl (y_follow (fun K L H At Q S hs => ⟨k + 1, ?_⟩))
      refine y_fol (ρ := Sum.inr (M, Lo, Hi)) hp hn hsz hcj' (fun f' q' e' => by cases e') (fun M' Lo' Hi' e' ww bb ok ol oh lw hg K L H At Q S Mt hmt => ⟨n + 2, ?_⟩) k _ _ _ _ _ _ _ _ _ _ K L H At Q S Mt hr so hs hM0 (Or.inl rfl) (k + 1) (by omega)
      obtain ⟨rfl, rfl, rfl⟩ : M = M' ∧ Lo = Lo' ∧ Hi = Hi' := by
        injection e' with e'
        injection e' with e1 e2
        injection e2 with e2 e3
        exact ⟨e1, e2, e3⟩
      refine y_v111 hn (fun hall => ?_) (fun q hq hz0 hbef => ?_) n 0 (by omega) (fun j hj => by omega) (n + 2) (by omega)
      · rcases hv with ⟨q, h1, h2, h3, h4⟩ | ⟨h1, h2⟩
        · exact absurd ((hmt q h1).mpr h2) (hall q h1)
        · exact y_v148 hp hn hp1 (hOK Lo Hi h2 _ _ ww bb ok ol oh lw hg K L H At Q S Mt)
      · rcases hv with ⟨q', h1, h2, h3, h4⟩ | ⟨h1, h2⟩
        · have : q = q' := by
            rcases Nat.lt_trichotomy q q' with h | h | h
            · exact absurd (h3 q h) ((hmt q hq).mp hz0)
            · exact h
            · exact absurd ((hmt q' h1).mpr h2) (hbef q' h)
          subst this
          exact br_f (by decide) (hBad 6 q h4 _ _ ww bb ok ol oh lw hg K L H At Q S Mt)
        · exact absurd (h1 q hq) ((hmt q hq).mp hz0)
  · rcases hv with ⟨q', a', b', c', d'⟩ | ⟨hv, _⟩
    · have : q = q' := by
        rcases Nat.lt_trichotomy q q' with h | h | h
        · have := cj_le P (show q + 1 ≤ q' by omega); omega
        · exact h
        · have := cj_le P (show q' + 1 ≤ q by omega); omega
      subst this
      exact br_f (by decide) (bad111 5 q (by decide) d' _ _ _ _ _ _ _ _ _ _ _ _ _ _ _ _)
    · have := cj_le P (show q + 1 ≤ n by omega); omega
end YK
end
section
/-! running: the two machines' words -/
def r_v (q : Option (Nat × Nat)) (ln : Nat) (v : zV) (x : Int64) (t : Int32) (y : Int64) : Prop :=
  (v.1 = 1 → t = 1 ∧ y = x ∧ v.2.1.toInt ≤ x.toInt ∧ x.toInt ≤ v.2.2.toInt) ∧
  (v.1 = 2 → t = 2 ∧ x = 3298534883328 + y ∧ v.2.1.toInt ≤ y.toInt ∧ y.toInt ≤ v.2.2.toInt) ∧
  (v.1 = 3 → t = 3 ∧ y = lN ln ∧ x = 3298534883328 + lN ln) ∧
  (v.1 = 4 → t = 4 ∧ y = v.2.1 ∧ x = 1099511627776 + v.2.1) ∧
  (v.1 = 5 → t = 5 ∧ ∃ e k, q = some (e, k) ∧ x = 2199023255552 + lN (2 * e) + v.2.1 ∧ y = lN (100 * (8 + k)) + v.2.1) ∧
  (v.1 = 6 → (q = none ∧ t = 1 ∧ x = 0 ∧ y = 0) ∨ (∃ e k, q = some (e, k) ∧ t = 5 ∧ x = 2199023255552 + lN (2 * e) ∧ y = lN (100 * (8 + k))))
theorem rv_1 {q : Option (Nat × Nat)} {ln : Nat} {v : zV} {x : Int64} (hv : v.1 = 1) (h : v.2.1.toInt ≤ x.toInt ∧ x.toInt ≤ v.2.2.toInt) : r_v q ln v x 1 x := by
  refine ⟨fun _ => ⟨rfl, rfl, h⟩, ?_, ?_, ?_, ?_, ?_⟩ <;> intro z <;> rw [hv] at z <;> exact absurd z (by decide)
theorem rv_2 {q : Option (Nat × Nat)} {ln : Nat} {v : zV} {x y : Int64} (hv : v.1 = 2) (hx : x = 3298534883328 + y) (h : v.2.1.toInt ≤ y.toInt ∧ y.toInt ≤ v.2.2.toInt) : r_v q ln v x 2 y := by
  refine ⟨?_, fun _ => ⟨rfl, hx, h⟩, ?_, ?_, ?_, ?_⟩ <;> intro z <;> rw [hv] at z <;> exact absurd z (by decide)
theorem rv_3 {q : Option (Nat × Nat)} {ln : Nat} {v : zV} {x y : Int64} (hv : v.1 = 3) (hy : y = lN ln) (hx : x = 3298534883328 + lN ln) : r_v q ln v x 3 y := by
  refine ⟨?_, ?_, fun _ => ⟨rfl, hy, hx⟩, ?_, ?_, ?_⟩ <;> intro z <;> rw [hv] at z <;> exact absurd z (by decide)
theorem rv_4 {q : Option (Nat × Nat)} {ln : Nat} {v : zV} {x y : Int64} (hv : v.1 = 4) (hy : y = v.2.1) (hx : x = 1099511627776 + v.2.1) : r_v q ln v x 4 y := by
  refine ⟨?_, ?_, ?_, fun _ => ⟨rfl, hy, hx⟩, ?_, ?_⟩ <;> intro z <;> rw [hv] at z <;> exact absurd z (by decide)
theorem rv_5 {ln e k : Nat} {v : zV} {x y : Int64} (hv : v.1 = 5) (hx : x = 2199023255552 + lN (2 * e) + v.2.1) (hy : y = lN (100 * (8 + k)) + v.2.1) : r_v (some (e, k)) ln v x 5 y := by
  refine ⟨?_, ?_, ?_, ?_, fun _ => ⟨rfl, e, k, rfl, hx, hy⟩, ?_⟩ <;> intro z <;> rw [hv] at z <;> exact absurd z (by decide)
theorem rv_0 {q : Option (Nat × Nat)} {ln : Nat} {v : zV} {x y : Int64} {t : Int32} (hv : v.1 = 0) : r_v q ln v x t y := by
  refine ⟨?_, ?_, ?_, ?_, ?_, ?_⟩ <;> intro z <;> rw [hv] at z <;> exact absurd z (by decide)
theorem rv_6 {q : Option (Nat × Nat)} {ln : Nat} {v : zV} {x y : Int64} {t : Int32} (hv : v.1 = 6) (h : (q = none ∧ t = 1 ∧ x = 0 ∧ y = 0) ∨ (∃ e k, q = some (e, k) ∧ t = 5 ∧ x = 2199023255552 + lN (2 * e) ∧ y = lN (100 * (8 + k)))) : r_v q ln v x t y := by
  refine ⟨?_, ?_, ?_, ?_, ?_, fun _ => h⟩ <;> intro z <;> rw [hv] at z <;> exact absurd z (by decide)
theorem rv_q {q q' : Option (Nat × Nat)} {ln : Nat} {v : zV} {x y : Int64} {t : Int32} (h : r_v q ln v x t y) (h5 : ¬ v.1 = 5) (h6 : ¬ v.1 = 6) : r_v q' ln v x t y := ⟨h.1, h.2.1, h.2.2.1, h.2.2.2.1, fun z => absurd z h5, fun z => absurd z h6⟩
/-- a word of the component, by its place -/
def r_x (rg ce : Nat → Int64) (k : Nat) : Int64 := if k < 8 then rg k else ce (k - 8)
def r_wx (rg : Nat → Int64) (s : Nat) : Int64 := if s = 8 then 1099511627776 else rg s
def r_wt (tg : Nat → Int32) (s : Nat) : Int32 := if s = 8 then 4 else tg s
def r_wy (wd : Nat → Int64) (s : Nat) : Int64 := if s = 8 then 0 else wd s
def r_st (q : Option (Nat × Nat)) (ln : Nat) (f : Nat → zV) (rg ce : Nat → Int64) (tg : Nat → Int32) (wd : Nat → Int64) : Prop := ∀ k, k < 14 → r_v q ln (f k) (r_x rg ce k) (tg k) (wd k)
theorem st_src {q : Option (Nat × Nat)} {ln s : Nat} {f : Nat → zV} {rg ce wd : Nat → Int64} {tg : Nat → Int32} (h : r_st q ln f rg ce tg wd) (hs : s ≤ 8) : r_v q ln (z_src s f) (r_wx rg s) (r_wt tg s) (r_wy wd s) := by
  unfold z_src r_wx r_wt r_wy
  by_cases c : s = 8
  · rw [if_pos c, if_pos c, if_pos c, if_pos c]
    exact rv_4 rfl rfl rfl
  · rw [if_neg c, if_neg c, if_neg c, if_neg c]
    have := h s (by omega)
    rw [show r_x rg ce s = rg s from if_pos (by omega)] at this
    exact this
theorem st_reg {q : Option (Nat × Nat)} {ln d : Nat} {f : Nat → zV} {rg ce wd : Nat → Int64} {tg : Nat → Int32} (h : r_st q ln f rg ce tg wd) (hd : d < 8) : r_v q ln (f d) (rg d) (tg d) (wd d) := by
  have := h d (by omega)
  rw [show r_x rg ce d = rg d from if_pos hd] at this
  exact this
theorem st_setR {q : Option (Nat × Nat)} {ln d : Nat} {f : Nat → zV} {rg ce wd : Nat → Int64} {tg : Nat → Int32} {v : zV} {x y : Int64} {t : Int32} (h : r_st q ln f rg ce tg wd) (hd : d < 8) (hv : r_v q ln v x t y) : r_st q ln (z_set f d v) (vp_updL rg d x) ce (upd tg d t) (vp_updL wd d y) := by
  intro k hk
  unfold r_x
  by_cases e : k = d
  · rw [e, set_at, if_pos hd, pk_uLs, pk_us, pk_uLs]; exact hv
  · rw [set_ne e, pk_uLn e, pk_un e, pk_uLn e]; exact h k hk
theorem st_setC {q : Option (Nat × Nat)} {ln a : Nat} {f : Nat → zV} {rg ce wd : Nat → Int64} {tg : Nat → Int32} {v : zV} {x y : Int64} {t : Int32} (h : r_st q ln f rg ce tg wd) (ha : a < 6) (hv : r_v q ln v x t y) : r_st q ln (z_set f (8 + a) v) rg (vp_updL ce a x) (upd tg (8 + a) t) (vp_updL wd (8 + a) y) := by
  intro k hk
  by_cases e : k = 8 + a
  · rw [e, set_at, pk_us, pk_uLs]
    rw [show r_x rg (vp_updL ce a x) (8 + a) = x from by unfold r_x; rw [if_neg (by omega), show 8 + a - 8 = a by omega, pk_uLs]]
    exact hv
  · rw [set_ne e, pk_un e, pk_uLn e]
    have := h k hk
    unfold r_x at *
    by_cases c : k < 8
    · rw [if_pos c] at *; exact this
    · rw [if_neg c] at *; rw [pk_uLn (by omega)]; exact this
/-- results -/
def r_res (n : Nat) (a w : Int64) : Int64 :=
  if n = 0 then w else if n = 1 then (if a ≤ 4294967295 then (a + w) &&& 4294967295 else a + w) else if n = 2 then (if a ≤ 4294967295 then (a - w) &&& 4294967295 else a - w)
  else if n = 3 then (a * w) &&& 4294967295 else if n = 4 then a &&& w else if n = 5 then a ||| w else a >>> z_sh w
def r_yres (n : Nat) (a w : Int64) : Int64 :=
  if n = 1 then a + w else if n = 2 then a - w else if n = 3 then a * w else if n = 4 then a &&& w else if n = 5 then a ||| w else a >>> z_sh w
theorem ra_in (x : Int64) : 0 ≤ (x &&& 4294967295).toInt ∧ (x &&& 4294967295).toInt ≤ 4294967295 := by
  obtain ⟨k, hk, e⟩ := pf_andw x
  rw [e, pk_lT (by omega)]
  omega
theorem ra_id {x : Int64} (h : 0 ≤ x.toInt) (h2 : x.toInt ≤ 4294967295) : x &&& 4294967295 = x := by
  obtain ⟨n, rfl, hn, hn3⟩ := li_of h
  have e := wb_mask (n := n) (k := 32) (by omega) (by omega)
  rw [show (2 : Nat) ^ 32 - 1 = 4294967295 from by decide] at e
  rw [show (4294967295 : Int64) = lN 4294967295 from rfl, e]
  exact congrArg lN (Nat.mod_eq_of_lt (by omega))
theorem ra_and {x y : Int64} (hx : 0 ≤ x.toInt) (hy : 0 ≤ y.toInt) : 0 ≤ (x &&& y).toInt ∧ (x &&& y).toInt ≤ x.toInt ∧ (x &&& y).toInt ≤ y.toInt := by
  obtain ⟨n, rfl, hn, hn3⟩ := li_of hx
  obtain ⟨m, rfl, hm, hm3⟩ := li_of hy
  have a := Nat.and_le_left (n := n) (m := m)
  have b := Nat.and_le_right (n := n) (m := m)
  rw [wb_and (by omega) (by omega), pk_lT (by omega), pk_lT (by omega), pk_lT (by omega)]
  omega
theorem ra_or {x y : Int64} {k : Nat} (hk : k ≤ 32) (hx : 0 ≤ x.toInt) (hy : 0 ≤ y.toInt) (hx2 : x.toInt < ((2 ^ k : Nat) : Int)) (hy2 : y.toInt < ((2 ^ k : Nat) : Int)) : x.toInt ≤ (x ||| y).toInt ∧ y.toInt ≤ (x ||| y).toInt ∧ (x ||| y).toInt < ((2 ^ k : Nat) : Int) := by
  obtain ⟨n, rfl, hn, hn3⟩ := li_of hx
  obtain ⟨m, rfl, hm, hm3⟩ := li_of hy
  rw [pk_lT (by omega)] at hx2 hy2
  have a := (Nat.left_le_or : n ≤ n ||| m)
  have b := (Nat.right_le_or : m ≤ n ||| m)
  have c : n ||| m < 2 ^ k := Nat.or_lt_two_pow (by omega) (by omega)
  have d := Nat.pow_le_pow_right (n := 2) (by decide) hk
  have e32 : (2 : Nat) ^ 32 = 4294967296 := by decide
  rw [wb_or (by omega) (by omega), pk_lT (by omega), pk_lT (by omega), pk_lT (by omega)]
  omega
/-- scalars: the two results agree, and lie within -/
theorem ra_alu {n : Nat} {a b l h x w : Int64} (hn : 1 ≤ n ∧ n ≤ 6) (ha : 0 ≤ a.toInt) (hax : a.toInt ≤ x.toInt) (hxb : x.toInt ≤ b.toInt) (hb : b.toInt ≤ 4294967295) (hl : 0 ≤ l.toInt) (hlw : l.toInt ≤ w.toInt) (hwh : w.toInt ≤ h.toInt) (hh : h.toInt ≤ 4294967295) :
    r_yres n x w &&& 4294967295 = r_res n x w ∧ (z_cl (z_iv n a b l h)).2.1.toInt ≤ (r_res n x w).toInt ∧ (r_res n x w).toInt ≤ (z_cl (z_iv n a b l h)).2.2.toInt := by
  have xle : x ≤ 4294967295 := by rw [li_le, li_all]; omega
  -- the clamp: if the exact interval is in range, within it; else anything in range
  have fin : ∀ r : Int64, 0 ≤ r.toInt → r.toInt ≤ 4294967295 → (0 ≤ (z_iv n a b l h).1.toInt → (z_iv n a b l h).2.toInt ≤ 4294967295 → (z_iv n a b l h).1.toInt ≤ r.toInt ∧ r.toInt ≤ (z_iv n a b l h).2.toInt) → (z_cl (z_iv n a b l h)).2.1.toInt ≤ r.toInt ∧ r.toInt ≤ (z_cl (z_iv n a b l h)).2.2.toInt := by
    intro r h0 h1 hr
    unfold z_cl
    by_cases c : (z_iv n a b l h).1 < 0 ∨ ¬ (z_iv n a b l h).2 ≤ 4294967295
    · rw [if_pos c]
      dsimp only
      rw [li_0, li_all]
      exact ⟨h0, h1⟩
    · rw [if_neg c]
      rw [li_lt, li_le, li_0, li_all] at c
      exact hr (by omega) (by omega)
  have h6 : n = 1 ∨ n = 2 ∨ n = 3 ∨ n = 4 ∨ n = 5 ∨ n = 6 := by omega
  rcases h6 with rfl | rfl | rfl | rfl | rfl | rfl
  · have e : r_res 1 x w = (x + w) &&& 4294967295 := if_pos xle
    have i1 := ra_in (x + w)
    rw [e]
    refine ⟨rfl, fin _ i1.1 i1.2 (fun p q => ?_)⟩
    have e1 := li_add (a := x) (b := w) (by omega) (by omega) (by omega) (by omega)
    have e2 : (a + l).toInt = a.toInt + l.toInt := li_add (by omega) (by omega) (by omega) (by omega)
    have e3 : (b + h).toInt = b.toInt + h.toInt := li_add (by omega) (by omega) (by omega) (by omega)
    have q' : (b + h).toInt ≤ 4294967295 := q
    rw [ra_id (by omega) (by omega)]
    show (a + l).toInt ≤ _ ∧ _ ≤ (b + h).toInt
    omega
  · have e : r_res 2 x w = (x - w) &&& 4294967295 := if_pos xle
    have i1 := ra_in (x - w)
    rw [e]
    refine ⟨rfl, fin _ i1.1 i1.2 (fun p q => ?_)⟩
    have e1 := li_sub (a := x) (b := w) (by omega) (by omega) (by omega) (by omega)
    have e2 : (a - h).toInt = a.toInt - h.toInt := li_sub (by omega) (by omega) (by omega) (by omega)
    have e3 : (b - l).toInt = b.toInt - l.toInt := li_sub (by omega) (by omega) (by omega) (by omega)
    have p' : 0 ≤ (a - h).toInt := p
    rw [ra_id (by omega) (by omega)]
    show (a - h).toInt ≤ _ ∧ _ ≤ (b - l).toInt
    omega
  · have e : r_res 3 x w = (x * w) &&& 4294967295 := rfl
    have i1 := ra_in (x * w)
    rw [e]
    refine ⟨rfl, fin _ i1.1 i1.2 (fun p q => ?_)⟩
    have hs : z_iv 3 a b l h = if ¬ h ≤ 0 ∧ ¬ b ≤ 4294967295 / h then (-1, 4294967295) else (a * l, b * h) := rfl
    rw [hs] at p q ⊢
    have Lg := iv_large (b := b) (h := h) (by omega) (by omega)
    by_cases c : ¬ h ≤ 0 ∧ ¬ b ≤ 4294967295 / h
    · rw [if_pos c] at p
      exact absurd p (by decide)
    · rw [if_neg c] at p q ⊢
      have m1 : b.toInt * h.toInt ≤ 4294967295 := Int.not_lt.mp (fun z => c (Lg.mpr z))
      obtain ⟨e1, e2, e3, e4⟩ := iv_mul (a := a) (b := b) (l := l) (h := h) (by omega) (by omega) (by omega) (by omega) (by omega) (by omega) (by omega)
      have m2 : x.toInt * w.toInt ≤ b.toInt * h.toInt := Int.mul_le_mul hxb hwh (by omega) (by omega)
      have m3 : a.toInt * l.toInt ≤ x.toInt * w.toInt := Int.mul_le_mul hax hlw (by omega) (by omega)
      have e5 : (x * w).toInt = x.toInt * w.toInt := li_mul (by omega) (by omega)
      rw [ra_id (by omega) (by omega)]
      dsimp only
      rw [e1, e2, e5]
      exact ⟨m3, m2⟩
  · have e : r_res 4 x w = x &&& w := rfl
    have i1 := ra_and (x := x) (y := w) (by omega) (by omega)
    rw [e]
    refine ⟨ra_id (x := x &&& w) (by omega) (by omega), fin _ (by omega) (by omega) (fun p q => ?_)⟩
    show (0 : Int64).toInt ≤ _ ∧ _ ≤ (if h ≤ b then h else b).toInt
    rw [li_0]
    by_cases c : h ≤ b
    · rw [if_pos c]; omega
    · rw [if_neg c]; omega
  · have e : r_res 5 x w = x ||| w := rfl
    obtain ⟨k, k1, k2, k3, k4, k5, k6⟩ := or_sp (a := b) (b := h) (by omega) (by omega) (by omega) (by omega)
    have i1 := ra_or (x := x) (y := w) k1 (by omega) (by omega) (by omega) (by omega)
    have d := Nat.pow_le_pow_right (n := 2) (by decide) k1
    have e32 : (2 : Nat) ^ 32 = 4294967296 := by decide
    rw [e]
    refine ⟨ra_id (x := x ||| w) (by omega) (by omega), fin _ (by omega) (by omega) (fun p q => ?_)⟩
    show (if a ≤ l then l else a).toInt ≤ _ ∧ _ ≤ (z_or b h).toInt
    rw [k3]
    by_cases c : a ≤ l
    · rw [if_pos c]; omega
    · rw [if_neg c]; omega
  · have e : r_res 6 x w = x >>> z_sh w := rfl
    obtain ⟨d, d1, d2, d3⟩ := li_shr (a := x) (by omega) (by omega) w
    have hpos : (0 : Int) < 2 ^ d := Int.pow_pos (by decide)
    have b1 : 0 ≤ x.toInt / 2 ^ d := Int.ediv_nonneg (by omega) (by omega)
    have b2 : x.toInt / 2 ^ d ≤ x.toInt := Int.ediv_le_self _ (by omega)
    rw [e]
    refine ⟨ra_id (x := x >>> z_sh w) (by omega) (by omega), fin _ (by omega) (by omega) (fun p q => ?_)⟩
    have hs : z_iv 6 a b l h = if l = h then (a >>> z_sh l, b >>> z_sh l) else (0, b) := rfl
    rw [hs]
    by_cases c : l = h
    · rw [if_pos c]
      have c' := li_eq.mp c
      have el : l = w := li_eq.mpr (by omega)
      obtain ⟨d', d1', d2', d3'⟩ := li_shr (a := a) (by omega) (by omega) w
      obtain ⟨d'', d1'', d2'', d3''⟩ := li_shr (a := b) (by omega) (by omega) w
      have ed : d = d' := (pk_lEQ (by omega) (by omega)).mp (d2.symm.trans d2')
      have ed2 : d = d'' := (pk_lEQ (by omega) (by omega)).mp (d2.symm.trans d2'')
      subst ed
      subst ed2
      dsimp only
      rw [el, d3, d3', d3'']
      exact ⟨Int.ediv_le_ediv hpos hax, Int.ediv_le_ediv hpos hxb⟩
    · rw [if_neg c]
      dsimp only
      rw [li_0, d3]
      omega
end
section
/-! running: arithmetic -/
def z_okQ (Q : Nat → zA → Prop) : zO → Prop := z_el (fun _ => False) (fun _ _ => True) Q (fun j C k B => Q j C ∧ Q k B)
theorem okF {Q : Nat → zA → Prop} {f : Int32} (h : z_okQ Q (zF f)) {C : Prop} : C := h.elim
theorem ok1 {Q : Nat → zA → Prop} {j : Nat} {B : zA} (h : z_okQ Q (z1 j B)) : Q j B := h
theorem big_f {i : Nat} {v : Int64} (hi : i < 40) (h : -(100 * (i : Int)) ≤ v.toInt) (h2 : v.toInt ≤ 100 * (i : Int)) : (1099511627776 + v).toInt = 1099511627776 + v.toInt := by
  have e := li_add (a := 1099511627776) (b := v) (by decide) (by decide) (by omega) (by omega)
  rw [show (1099511627776 : Int64).toInt = 1099511627776 from by decide] at e
  exact e
theorem big_v {i e : Nat} {v : Int64} (hi : i < 40) (he : e < 8) (h : -(100 * (i : Int)) ≤ v.toInt) (h2 : v.toInt ≤ 100 * (i : Int)) : (2199023255552 + lN (2 * e) + v).toInt = 2199023255552 + 2 * e + v.toInt := by
  have e0 : (lN (2 * e)).toInt = ((2 * e : Nat) : Int) := pk_lT (by omega)
  have e1 := li_add (a := 2199023255552) (b := lN (2 * e)) (by decide) (by decide) (by omega) (by omega)
  rw [show (2199023255552 : Int64).toInt = 2199023255552 from by decide] at e1
  have e2 := li_add (a := 2199023255552 + lN (2 * e)) (b := v) (by omega) (by omega) (by omega) (by omega)
  omega
theorem big_p {y : Int64} (h : 0 ≤ y.toInt) (h2 : y.toInt ≤ 4294967295) : (3298534883328 + y).toInt = 3298534883328 + y.toInt := by
  have e := li_add (a := 3298534883328) (b := y) (by decide) (by decide) (by omega) (by omega)
  rw [show (3298534883328 : Int64).toInt = 3298534883328 from by decide] at e
  exact e
theorem res_big {n : Nat} {x w : Int64} (hn : n = 1 ∨ n = 2) (hx : 4294967295 < x.toInt) : r_res n x w = x + z_by n w ∧ ∀ y : Int64, r_yres n y w = y + z_by n w := by
  have c : ¬ x ≤ 4294967295 := by rw [li_le, li_all]; omega
  rcases hn with rfl | rfl
  · exact ⟨if_neg c, fun y => rfl⟩
  · refine ⟨(if_neg c : r_res 2 x w = x - w).trans ?_, fun y => ?_⟩
    · show x - w = x + -w
      exact Int64.sub_eq_add_neg ..
    · show y - w = y + -w
      exact Int64.sub_eq_add_neg ..
theorem ra_z_alu {Q : Nat → zA → Prop} {q : Option (Nat × Nat)} {ln n d i : Nat} {f : Nat → zV} {sf lk t wt : Int32} {w : zV} {x y wx wy : Int64} (hi : i < 40) (hn : n ≤ 6) (hq : ∀ e k, q = some (e, k) → e < 8) (vf : z_vw i lk (f d)) (vw : z_vw i lk w) (hx : r_v q ln (f d) x t y) (hw : r_v q ln w wx wt wy) (hok : z_okQ Q (z_alu n d i f sf lk w)) :
    ∃ v', Q (i + 1) (z_set f d v', sf, lk) ∧ r_v q ln v' (r_res n x wx) (if n = 0 then wt else t) (if n = 0 then wy else if t = 1 then r_yres n y wy &&& 4294967295 else r_yres n y wy) := by
  unfold z_alu at hok
  by_cases c1 : w.1 = 0
  · rw [if_pos c1] at hok; exact okF hok
  rw [if_neg c1] at hok
  by_cases c2 : n = 0
  · rw [if_pos c2] at hok
    subst c2
    exact ⟨w, hok, hw⟩
  rw [if_neg c2] at hok
  rw [if_neg c2, if_neg c2]
  by_cases c3 : (f d).1 = 0
  · rw [if_pos c3] at hok; exact okF hok
  rw [if_neg c3] at hok
  by_cases c4 : w.1 = 1 ∧ (f d).1 = 1
  · rw [if_pos c4] at hok
    obtain ⟨rfl, rfl, a1, a2⟩ := hx.1 c4.2
    obtain ⟨-, rfl, b1, b2⟩ := hw.1 c4.1
    have v1 := vw_1 vf c4.2
    have v2 := vw_1 vw c4.1
    obtain ⟨r1, r2, r3⟩ := ra_alu (n := n) ⟨by omega, hn⟩ v1.1 a1 a2 v1.2.2 v2.1 b1 b2 v2.2.2
    refine ⟨_, hok, ?_⟩
    rw [if_pos rfl, r1]
    refine rv_1 ?_ ⟨r2, r3⟩
    unfold z_cl
    by_cases z : (z_iv n (f d).2.1 (f d).2.2 w.2.1 w.2.2).1 < 0 ∨ ¬ (z_iv n (f d).2.1 (f d).2.2 w.2.1 w.2.2).2 ≤ 4294967295
    · rw [if_pos z]
    · rw [if_neg z]
  rw [if_neg c4] at hok
  by_cases c5 : w.1 = 1 ∧ (f d).1 = 2 ∧ n = 1 ∧ ¬ 256 ≤ (f d).2.2 + w.2.2
  · rw [if_pos c5] at hok
    obtain ⟨rfl, rfl, a1, a2⟩ := hx.2.1 c5.2.1
    obtain ⟨-, rfl, b1, b2⟩ := hw.1 c5.1
    have v1 := vw_2 vf c5.2.1
    have v2 := vw_1 vw c5.1
    have bp := big_p (y := y) (by omega) (by omega)
    obtain ⟨n1⟩ : n = 1 ∧ True := ⟨c5.2.2.1, trivial⟩
    have rb := res_big (n := n) (x := 3298534883328 + y) (w := wy) (Or.inl n1) (by omega)
    have eby : z_by n wy = wy := if_pos n1
    refine ⟨_, hok, ?_⟩
    rw [if_neg (by decide), rb.1, rb.2, eby]
    have e1 := li_add (a := y) (b := wy) (by omega) (by omega) (by omega) (by omega)
    have e2 := li_add (a := (f d).2.1) (b := w.2.1) (by omega) (by omega) (by omega) (by omega)
    have e3 := li_add (a := (f d).2.2) (b := w.2.2) (by omega) (by omega) (by omega) (by omega)
    refine rv_2 rfl (Int64.add_assoc ..) ⟨?_, ?_⟩ <;> dsimp only <;> omega
  rw [if_neg c5] at hok
  by_cases c6 : w.1 = 1 ∧ w.2.1 = w.2.2 ∧ ¬ 100 < w.2.2 ∧ ((f d).1 = 4 ∨ (f d).1 = 5) ∧ n < 3
  · rw [if_pos c6] at hok
    obtain ⟨-, rfl, b1, b2⟩ := hw.1 c6.1
    have v1 := vw_4 vf c6.2.2.2.1
    have wl : wy = w.2.1 := li_eq.mpr (by have := li_eq.mp c6.2.1; omega)
    subst wl
    refine ⟨_, hok, ?_⟩
    rcases c6.2.2.2.1 with k4 | k5
    · obtain ⟨rfl, rfl, rfl⟩ := hx.2.2.2.1 k4
      have bf := big_f hi v1.2.1 v1.2.2
      have rb := res_big (n := n) (x := 1099511627776 + (f d).2.1) (w := w.2.1) (by omega) (by omega)
      rw [if_neg (by decide), rb.1, rb.2]
      exact rv_4 k4 rfl (Int64.add_assoc ..)
    · obtain ⟨rfl, e, k, rfl, rfl, rfl⟩ := hx.2.2.2.2.1 k5
      have bv := big_v hi (hq e k rfl) v1.2.1 v1.2.2
      have rb := res_big (n := n) (x := 2199023255552 + lN (2 * e) + (f d).2.1) (w := w.2.1) (by omega) (by omega)
      rw [if_neg (by decide), rb.1, rb.2]
      exact rv_5 k5 (Int64.add_assoc ..) (Int64.add_assoc ..)
  rw [if_neg c6] at hok
  exact okF hok
/-- the tests -/
def r_hd (t : Nat) (a b : Int64) : Prop := if t = 1 then a = b else if t = 2 then ¬ a = b else if t = 3 then ¬ b ≤ a else ¬ a < b
section RB
variable {xw xfo xol xfa xpl : Int32} {xle xmo xlw xhg : Int64} {xk2 : Int32} {xl2 xh2 : Int64} {xln xst : Int32} {xop xd xs xsz xof xim xth xK : Nat → Int32} {xL xH : Nat → Int64} {xS xQ xF xM xG : Nat → Int32} {xrg xce : Nat → Int64} {xpk xus xky : Nat → Int32} {xsr : Nat → Int64}
theorem x_word {post : Int64 → Prop} {s : Nat} (hs : s ≤ 8) (h : post (r_wx xrg s)) : wpX_word post ((xw, xfo, xol, xfa, xpl, xle, xmo, xlw, xhg, xk2, xl2, xh2, xln, xst, xop, xd, xs, xsz, xof, xim, xth, xK, xL, xH, xS, xQ, xF, xM, xG, xrg, xce, xpk, xus, xky, xsr)) (nI s) := by
  unfold r_wx at h
  by_cases c : s = 8
  · rw [if_pos c] at h
    exact br_t (by rw [c]; rfl) h
  · rw [if_neg c] at h
    refine br_f (fun z => c ((nI_eq (b := 8) (by omega) (by omega)).mp z)) ⟨vp_in_nI (by omega) (by omega), ?_⟩
    rw [nI_clamp (by omega)]
    exact h
theorem x_result {post : Int64 → Prop} {n : Nat} {a w : Int64} (hn : n ≤ 6) (h : post (r_res n a w)) : wpX_result post (nI n) a w := by
  have h7 : n = 0 ∨ n = 1 ∨ n = 2 ∨ n = 3 ∨ n = 4 ∨ n = 5 ∨ n = 6 := by omega
  rcases h7 with rfl | rfl | rfl | rfl | rfl | rfl | rfl
  · exact br_f (by decide) (br_f (by decide) (br_t rfl h))
  · refine br_f (by decide) (br_f (by decide) (br_f (by decide) (br_t rfl (br_c (fun z => ?_) (fun z => ?_)))))
    · rw [show r_res 1 a w = (a + w) &&& 4294967295 from if_pos z] at h; exact h
    · rw [show r_res 1 a w = a + w from if_neg z] at h; exact h
  · refine br_f (by decide) (br_f (by decide) (br_f (by decide) (br_f (by decide) (br_t rfl (br_c (fun z => ?_) (fun z => ?_))))))
    · rw [show r_res 2 a w = (a - w) &&& 4294967295 from if_pos z] at h; exact h
    · rw [show r_res 2 a w = a - w from if_neg z] at h; exact h
  · exact br_f (by decide) (br_f (by decide) (br_f (by decide) (br_f (by decide) (br_f (by decide) (br_t rfl h)))))
  · exact br_f (by decide) (br_f (by decide) (br_f (by decide) (br_f (by decide) (br_f (by decide) (br_f (by decide) (br_t rfl h))))))
  · exact br_f (by decide) (br_f (by decide) (br_f (by decide) (br_f (by decide) (br_f (by decide) (br_f (by decide) (br_f (by decide) (br_t rfl h)))))))
  · exact br_f (by decide) (br_t (by decide) h)
theorem x_holds {post : Int32 → Prop} {t : Nat} {a b : Int64} (ht : 1 ≤ t ∧ t ≤ 4) (h1 : r_hd t a b → post 1) (h0 : ¬ r_hd t a b → post 0) : wpX_holds post (nI t) a b := by
  have h4 : t = 1 ∨ t = 2 ∨ t = 3 ∨ t = 4 := by omega
  rcases h4 with rfl | rfl | rfl | rfl
  · exact br_t rfl (br_c (fun z => h1 z) (fun z => h0 z))
  · exact br_f (by decide) (br_t rfl (br_c (fun z => h0 (fun y => y z)) (fun z => h1 z)))
  · exact br_f (by decide) (br_f (by decide) (br_t rfl (br_c (fun z => h0 (fun y => y z)) (fun z => h1 z))))
  · exact br_f (by decide) (br_f (by decide) (br_f (by decide) (br_c (fun z => h0 (fun y => y z)) (fun z => h1 z))))
/-- the program's instruction at c -/
theorem x_exA {post : Int32 → SX → Prop} {o d s c : Nat} {im : Int32} (hc : c < 120) (po : xop c = nI o) (pd : xd c = nI d) (ps : xs c = nI s) (pim : xim c = im) (hn : z_nm o) (ho : o < 20) (hd : d < 8) (hs : s ≤ 8) (h : post (nI (c + 1)) ((xw, xfo, xol, xfa, xpl, xle, xmo, xlw, xhg, xk2, xl2, xh2, xln, xst, xop, xd, xs, xsz, xof, xim, xth, xK, xL, xH, xS, xQ, xF, xM, xG, vp_updL xrg d (r_res (o % 10) (xrg d) (if o < 10 then im.toInt64 &&& 4294967295 else r_wx xrg s)), xce, xpk, xus, xky, xsr))) : wpX_execute post ((xw, xfo, xol, xfa, xpl, xle, xmo, xlw, xhg, xk2, xl2, xh2, xln, xst, xop, xd, xs, xsz, xof, xim, xth, xK, xL, xH, xS, xQ, xF, xM, xG, xrg, xce, xpk, xus, xky, xsr)) (nI c) := by
  have vc : vp_in (nI c) 120 := vp_in_nI hc (by omega)
  have ec : (nI c).toNatClampNeg = c := nI_clamp (by omega)
  have vd : vp_in (nI d) 8 := vp_in_nI (by omega) (by omega)
  have ed : (nI d).toNatClampNeg = d := nI_clamp (by omega)
  have ho10 : nI o - nI o / 10 * 10 = nI (o % 10) := pk_rem (d := 10) (by omega) (by omega) (by omega)
  have g150 : ∀ w : Int64, w = (if o < 10 then im.toInt64 &&& 4294967295 else r_wx xrg s) → wX_execute_150 post (nI c) (nI o) (nI d) w xw xfo xol xfa xpl xle xmo xlw xhg xk2 xl2 xh2 xln xst xop xd xs xsz xof xim xth xK xL xH xS xQ xF xM xG xrg xce xpk xus xky xsr := by
    intro w hw
    refine ⟨by decide, vd, ?_⟩
    rw [ho10, ed]
    refine x_result (by unfold z_nm at hn; omega) ⟨vd, nm_e ?_⟩
    rw [nI_1 c, hw]
    exact h
  refine ⟨vc, nm_r (e' := nI o) (by rw [ec, po]) ⟨vc, nm_r (e' := nI d) (by rw [ec, pd]) (br_f (fun z => ?_) (br_t (nI_le (b := 20) (by omega) (by omega)) (br_f (nI_ge (b := 20) (by omega) (by omega)) ?_)))⟩⟩
  · have := (nI_eq (b := 20) (by omega) (by omega)).mp z
    omega
  · by_cases c10 : o < 10
    · refine br_f (nI_ge (b := 10) c10 (by omega)) ⟨vc, ?_⟩
      rw [ec, pim]
      exact g150 _ (by rw [if_pos c10])
    · refine br_t (nI_le (a := 10) (by omega) (by omega)) ⟨vc, ?_⟩
      rw [ec, ps]
      exact x_word hs (g150 _ (by rw [if_neg c10]))
theorem x_exJ {post : Int32 → SX → Prop} {o d s c k : Nat} {im : Int32} (hc : c < 120) (po : xop c = nI o) (pd : xd c = nI d) (ps : xs c = nI s) (pof : xof c = nI k) (pim : xim c = im) (hn : z_nm o) (ho : 20 ≤ o) (ho2 : o < 40) (hd : d < 8) (hs : s ≤ 8) (h1 : (o = 20 ∨ r_hd (o % 10) (xrg d) (if o < 30 then im.toInt64 &&& 4294967295 else r_wx xrg s)) → post (nI (c + 1 + k)) ((xw, xfo, xol, xfa, xpl, xle, xmo, xlw, xhg, xk2, xl2, xh2, xln, xst, xop, xd, xs, xsz, xof, xim, xth, xK, xL, xH, xS, xQ, xF, xM, xG, xrg, xce, xpk, xus, xky, xsr))) (h0 : ¬ o = 20 → ¬ r_hd (o % 10) (xrg d) (if o < 30 then im.toInt64 &&& 4294967295 else r_wx xrg s) → post (nI (c + 1)) ((xw, xfo, xol, xfa, xpl, xle, xmo, xlw, xhg, xk2, xl2, xh2, xln, xst, xop, xd, xs, xsz, xof, xim, xth, xK, xL, xH, xS, xQ, xF, xM, xG, xrg, xce, xpk, xus, xky, xsr))) : wpX_execute post ((xw, xfo, xol, xfa, xpl, xle, xmo, xlw, xhg, xk2, xl2, xh2, xln, xst, xop, xd, xs, xsz, xof, xim, xth, xK, xL, xH, xS, xQ, xF, xM, xG, xrg, xce, xpk, xus, xky, xsr)) (nI c) := by
  have vc : vp_in (nI c) 120 := vp_in_nI hc (by omega)
  have ec : (nI c).toNatClampNeg = c := nI_clamp (by omega)
  have vd : vp_in (nI d) 8 := vp_in_nI (by omega) (by omega)
  have ed : (nI d).toNatClampNeg = d := nI_clamp (by omega)
  have ho10 : nI o - nI o / 10 * 10 = nI (o % 10) := pk_rem (d := 10) (by omega) (by omega) (by omega)
  have ej : nI c + 1 + xof (nI c).toNatClampNeg = nI (c + 1 + k) := by rw [ec, pof, nI_1 c, nI_add]
  have g73 : ¬ o = 20 → ∀ w : Int64, w = (if o < 30 then im.toInt64 &&& 4294967295 else r_wx xrg s) → wX_execute_73 post (nI c) (nI o) (nI d) w xw xfo xol xfa xpl xle xmo xlw xhg xk2 xl2 xh2 xln xst xop xd xs xsz xof xim xth xK xL xH xS xQ xF xM xG xrg xce xpk xus xky xsr := by
    intro o20 w hw
    refine ⟨by decide, vd, ?_⟩
    rw [ho10, ed, hw]
    refine x_holds (by unfold z_nm at hn; omega) (fun z => br_f (by decide) ⟨vc, ?_⟩) (fun z => br_t rfl ?_)
    · rw [ej]; exact h1 (Or.inr z)
    · rw [nI_1 c]; exact h0 o20 z
  refine ⟨vc, nm_r (e' := nI o) (by rw [ec, po]) ⟨vc, nm_r (e' := nI d) (by rw [ec, pd]) ?_⟩⟩
  by_cases o20 : o = 20
  · refine br_t (by rw [o20]; rfl) ⟨vc, ?_⟩
    rw [ej]; exact h1 (Or.inl o20)
  · refine br_f (fun z => o20 ((nI_eq (b := 20) (by omega) (by omega)).mp z)) (br_f (nI_ge (a := 20) (by omega) (by omega)) (br_f (nI_ge (b := 40) ho2 (by omega)) ?_))
    by_cases c30 : o < 30
    · refine br_f (nI_ge (b := 30) c30 (by omega)) ⟨vc, ?_⟩
      rw [ec, pim]
      exact g73 o20 _ (by rw [if_pos c30])
    · refine br_t (nI_le (a := 30) (by omega) (by omega)) ⟨vc, ?_⟩
      rw [ec, ps]
      exact x_word hs (g73 o20 _ (by rw [if_neg c30]))
end RB
section RBY
variable {ypl : Int32} {yle ymo ysm ygr : Int64} {yw yfa yb yok : Int32} {yol yoh ylw yhg : Int64} {yby yst : Int32} {yop yd ys yof yim ysz yth yK : Nat → Int32} {yL yH : Nat → Int64} {yat yQ yS yM ytg : Nat → Int32} {ywd : Nat → Int64} {ypk : Nat → Int32} {yks yvs : Nat → Int64} {ymn : Nat → Int32}
theorem y_hold {post : SY → Prop} {r : Nat} {p t : Int32} {v : Int64} (hp : p = nI r) (hr : r < 14) (hk : z_kb t) (h : post ((ypl, yle, ymo, ysm, ygr, yw, yfa, yb, yok, yol, yoh, ylw, yhg, yby, yst, yop, yd, ys, yof, yim, ysz, yth, yK, yL, yH, yat, yQ, yS, yM, upd ytg r t, vp_updL ywd r v, ypk, yks, yvs, ymn))) : wpY_hold post ((ypl, yle, ymo, ysm, ygr, yw, yfa, yb, yok, yol, yoh, ylw, yhg, yby, yst, yop, yd, ys, yof, yim, ysz, yth, yK, yL, yH, yat, yQ, yS, yM, ytg, ywd, ypk, yks, yvs, ymn)) p t v := by
  subst hp
  have vr : vp_in (nI r) 14 := vp_in_nI hr (by omega)
  have er : (nI r).toNatClampNeg = r := nI_clamp (by omega)
  exact ⟨vr, nm_r (by rw [er, hk]) ⟨vr, nm_r (by rw [er]) h⟩⟩
theorem y_calc {post : SY → Prop} {n d : Nat} {t : Int32} {v : Int64} (hn : n ≤ 6) (hd : d < 8) (hk : n = 0 → z_kb t) (h : post ((ypl, yle, ymo, ysm, ygr, yw, yfa, yb, yok, yol, yoh, ylw, yhg, yby, yst, yop, yd, ys, yof, yim, ysz, yth, yK, yL, yH, yat, yQ, yS, yM, upd ytg d (if n = 0 then t else ytg d), vp_updL ywd d (if n = 0 then v else if ytg d = 1 then r_yres n (ywd d) v &&& 4294967295 else r_yres n (ywd d) v), ypk, yks, yvs, ymn))) : wpY_calculate post ((ypl, yle, ymo, ysm, ygr, yw, yfa, yb, yok, yol, yoh, ylw, yhg, yby, yst, yop, yd, ys, yof, yim, ysz, yth, yK, yL, yH, yat, yQ, yS, yM, ytg, ywd, ypk, yks, yvs, ymn)) (nI n) (nI d) t v := by
  have vd : vp_in (nI d) 14 := vp_in_nI (by omega) (by omega)
  have ed : (nI d).toNatClampNeg = d := nI_clamp (by omega)
  have fin : ∀ x : Int64, x = r_yres n (ywd d) v → ¬ n = 0 → wY_calculate_119 post (nI d) x ypl yle ymo ysm ygr yw yfa yb yok yol yoh ylw yhg yby yst yop yd ys yof yim ysz yth yK yL yH yat yQ yS yM ytg ywd ypk yks yvs ymn := by
    intro x hx n0
    rw [if_neg n0, if_neg n0, up_id rfl, ← hx] at h
    refine ⟨vd, ?_⟩
    rw [ed]
    refine br_c (fun z => ⟨vd, nm_e ?_⟩) (fun z => ⟨vd, nm_e ?_⟩)
    · rw [if_pos z] at h; exact h
    · rw [if_neg z] at h; exact h
  refine ⟨vd, nm_r (e' := ywd d) (by rw [ed]) ?_⟩
  have h7 : n = 0 ∨ n = 1 ∨ n = 2 ∨ n = 3 ∨ n = 4 ∨ n = 5 ∨ n = 6 := by omega
  rcases h7 with rfl | rfl | rfl | rfl | rfl | rfl | rfl
  · exact br_f (by decide) (br_f (by decide) (br_t rfl (y_hold rfl (by omega) (hk rfl) h)))
  · exact br_f (by decide) (br_f (by decide) (br_f (by decide) (br_t rfl (nm_e (fin _ rfl (by decide))))))
  · exact br_f (by decide) (br_f (by decide) (br_f (by decide) (br_f (by decide) (br_t rfl (nm_e (fin _ rfl (by decide)))))))
  · exact br_f (by decide) (br_f (by decide) (br_f (by decide) (br_f (by decide) (br_f (by decide) (br_t rfl (nm_e (fin _ rfl (by decide))))))))
  · exact br_f (by decide) (br_f (by decide) (br_f (by decide) (br_f (by decide) (br_f (by decide) (br_f (by decide) (br_t rfl (nm_e (fin _ rfl (by decide)))))))))
  · exact br_f (by decide) (br_f (by decide) (br_f (by decide) (br_f (by decide) (br_f (by decide) (br_f (by decide) (br_f (by decide) (br_t rfl (nm_e (fin _ rfl (by decide))))))))))
  · exact br_f (by decide) (br_t (by decide) (nm_e (fin _ rfl (by decide))))
theorem y_taken {post : Int32 → Prop} {t : Nat} {a b : Int64} (ht : 1 ≤ t ∧ t ≤ 4) (h1 : r_hd t a b → post 1) (h0 : ¬ r_hd t a b → post 0) : wpY_taken post (nI t) a b := by
  have h4 : t = 1 ∨ t = 2 ∨ t = 3 ∨ t = 4 := by omega
  rcases h4 with rfl | rfl | rfl | rfl
  · exact br_t rfl (br_c (fun z => h1 z) (fun z => h0 z))
  · exact br_f (by decide) (br_t rfl (br_c (fun z => h0 (fun y => y z)) (fun z => h1 z)))
  · exact br_f (by decide) (br_f (by decide) (br_t rfl (br_c (fun z => h0 (fun y => y z)) (fun z => h1 z))))
  · exact br_f (by decide) (br_f (by decide) (br_f (by decide) (br_c (fun z => h0 (fun y => y z)) (fun z => h1 z))))
theorem y_stp {post : Int32 → SY → Prop} {o d s c i : Nat} {im : Int32} (hc : c < 120) (po : yop c = nI o) (pd : yd c = nI d) (ps : ys c = nI s) (pim : yim c = im) (ho : o < 61) (hs : s ≤ 8) (h : wY_step_114 post (nI c) (nI i) (nI o) (nI d) (if (10 ≤ o ∧ o < 20) ∨ 30 < o then r_wt ytg s else 1) (if (10 ≤ o ∧ o < 20) ∨ 30 < o then r_wy ywd s else im.toInt64 &&& 4294967295) ypl yle ymo ysm ygr yw yfa yb yok yol yoh ylw yhg yby yst yop yd ys yof yim ysz yth yK yL yH yat yQ yS yM ytg ywd ypk yks yvs ymn) : wpY_step post ((ypl, yle, ymo, ysm, ygr, yw, yfa, yb, yok, yol, yoh, ylw, yhg, yby, yst, yop, yd, ys, yof, yim, ysz, yth, yK, yL, yH, yat, yQ, yS, yM, ytg, ywd, ypk, yks, yvs, ymn)) (nI c) (nI i) := by
  have vc : vp_in (nI c) 120 := vp_in_nI hc (by omega)
  have ec : (nI c).toNatClampNeg = c := nI_clamp (by omega)
  have g46 : ∀ g : Int32, (¬ g = 0 ↔ ((10 ≤ o ∧ o < 20) ∨ 30 < o)) → wY_step_46 post (nI c) (nI i) (nI o) (nI d) (nI s) g ypl yle ymo ysm ygr yw yfa yb yok yol yoh ylw yhg yby yst yop yd ys yof yim ysz yth yK yL yH yat yQ yS yM ytg ywd ypk yks yvs ymn := by
    intro g hg
    by_cases r : (10 ≤ o ∧ o < 20) ∨ 30 < o
    · have g0 := hg.mpr r
      rw [if_pos r, if_pos r] at h
      refine br_f g0 ?_
      unfold r_wt r_wy at h
      by_cases s8 : s = 8
      · have e8 : nI s = 8 := by rw [s8]; rfl
        rw [if_pos s8, if_pos s8] at h
        exact br_t e8 (br_f g0 (br_t e8 h))
      · have e8 : ¬ nI s = 8 := fun z => s8 ((nI_eq (b := 8) (by omega) (by omega)).mp z)
        have vs : vp_in (nI s) 14 := vp_in_nI (by omega) (by omega)
        have es : (nI s).toNatClampNeg = s := nI_clamp (by omega)
        rw [if_neg s8, if_neg s8] at h
        refine br_f e8 ⟨vs, br_f g0 (br_f e8 ⟨vs, ?_⟩)⟩
        rw [es]
        exact h
    · have g0 : g = 0 := Classical.byContradiction fun z => r (hg.mp z)
      rw [if_neg r, if_neg r] at h
      refine br_t g0 (br_t g0 ⟨vc, ?_⟩)
      rw [ec, pim]
      exact h
  refine ⟨vc, nm_r (e' := nI o) (by rw [ec, po]) ⟨vc, nm_r (e' := nI d) (by rw [ec, pd]) ⟨vc, nm_r (e' := nI s) (by rw [ec, ps]) ?_⟩⟩⟩
  have n10 : ¬ (1 : Int32) = 0 := by decide
  have g35 : ¬ (10 ≤ o ∧ o < 20) → wY_step_35 post (nI c) (nI i) (nI o) (nI d) (nI s) ypl yle ymo ysm ygr yw yfa yb yok yol yoh ylw yhg yby yst yop yd ys yof yim ysz yth yK yL yH yat yQ yS yM ytg ywd ypk yks yvs ymn := fun hr => by
    by_cases c30 : o ≤ 30
    · exact br_t (nI_le (b := 30) c30 (by omega)) (g46 0 ⟨fun q => absurd rfl q, fun q => by omega⟩)
    · exact br_f (nI_ge (a := 30) (by omega) (by omega)) (g46 1 ⟨fun _ => Or.inr (by omega), fun _ => n10⟩)
  by_cases c10 : o < 10
  · exact br_t (nI_lt (b := 10) c10 (by omega)) (g35 (by omega))
  · refine br_f (nI_nlt (b := 10) (by omega) (by omega)) ?_
    by_cases c20 : o < 20
    · exact br_t (nI_lt (b := 20) c20 (by omega)) (g46 1 ⟨fun _ => Or.inl ⟨by omega, c20⟩, fun _ => n10⟩)
    · exact br_f (nI_nlt (b := 20) (by omega) (by omega)) (g35 (by omega))
end RBY
end
section
/-! running: jumps, as pure facts -/
theorem st_ab {q : Option (Nat × Nat)} {ln d : Nat} {f : Nat → zV} {rg ce wd : Nat → Int64} {tg : Nat → Int32} {v : zV} (h : r_st q ln f rg ce tg wd) (hd : d < 8) (hv : r_v q ln v (rg d) (tg d) (wd d)) : r_st q ln (z_set f d v) rg ce tg wd := by
  intro k hk
  by_cases e : k = d
  · rw [e, set_at, show r_x rg ce d = rg d from if_pos hd]; exact hv
  · rw [set_ne e]; exact h k hk
theorem cut_in {t : Nat} {v w : zV} {x wx : Int64} (ht : 1 ≤ t ∧ t ≤ 4) (hv1 : v.1 = 1) (h0 : 0 ≤ v.2.1.toInt) (h1 : v.2.1.toInt ≤ x.toInt) (h2 : x.toInt ≤ v.2.2.toInt) (h3 : v.2.2.toInt ≤ 4294967295) (g0 : 0 ≤ w.2.1.toInt) (g1 : w.2.1.toInt ≤ wx.toInt) (g2 : wx.toInt ≤ w.2.2.toInt) (g3 : w.2.2.toInt ≤ 4294967295) (hr : r_hd t x wx) :
    z_pos t v w = true ∧ (z_cut t v w).1 = 1 ∧ (z_cut t v w).2.1.toInt ≤ x.toInt ∧ x.toInt ≤ (z_cut t v w).2.2.toInt := by
  have k1 := cut_k (t := t) (w := w) hv1
  have h4 : t = 1 ∨ t = 2 ∨ t = 3 ∨ t = 4 := by omega
  rcases h4 with rfl | rfl | rfl | rfl
  · have hr' : x = wx := hr
    have hr2 := li_eq.mp hr'
    refine ⟨decide_eq_true (p := ¬ w.2.2 < v.2.1 ∧ ¬ v.2.2 < w.2.1) ?_, k1, ?_⟩
    · rw [li_lt, li_lt]; omega
    · unfold z_cut
      by_cases c : ¬ w.2.1 = w.2.2
      · rw [if_pos c]; exact ⟨h1, h2⟩
      · rw [if_neg c, if_pos rfl]
        have c' := li_eq.mp (Classical.not_not.mp c)
        dsimp only
        omega
  · have hr' : ¬ x = wx := hr
    rw [li_eq] at hr'
    refine ⟨decide_eq_true (p := v.2.1 < v.2.2 ∨ w.2.1 < w.2.2 ∨ ¬ v.2.1 = w.2.1) ?_, k1, ?_⟩
    · rw [li_lt, li_lt, li_eq]; omega
    · unfold z_cut
      by_cases c : ¬ w.2.1 = w.2.2
      · rw [if_pos c]; exact ⟨h1, h2⟩
      · rw [if_neg c, if_neg (by decide), if_pos rfl]
        have c' := li_eq.mp (Classical.not_not.mp c)
        have A1 := li_add (a := v.2.1) (b := 1) (by omega) (by omega) (by decide) (by decide)
        have A3 := li_sub (a := v.2.2) (b := 1) (by omega) (by omega) (by decide) (by decide)
        rw [li_1] at A1 A3
        by_cases e1 : v.2.1 = w.2.1
        · rw [if_pos e1]
          have e1' := li_eq.mp e1
          dsimp only
          omega
        · rw [if_neg e1]
          by_cases e2 : v.2.2 = w.2.1
          · rw [if_pos e2]
            have e2' := li_eq.mp e2
            dsimp only
            omega
          · rw [if_neg e2]; exact ⟨h1, h2⟩
  · have hr' : ¬ wx ≤ x := hr
    rw [li_le] at hr'
    refine ⟨decide_eq_true (p := ¬ w.2.2 ≤ v.2.1) ?_, k1, ?_⟩
    · rw [li_le]; omega
    · unfold z_cut
      by_cases c : ¬ w.2.1 = w.2.2
      · rw [if_pos c]; exact ⟨h1, h2⟩
      · rw [if_neg c, if_neg (by decide), if_neg (by decide), if_pos rfl]
        have c' := li_eq.mp (Classical.not_not.mp c)
        have A3 := li_sub (a := w.2.1) (b := 1) (by omega) (by omega) (by decide) (by decide)
        rw [li_1] at A3
        by_cases e1 : w.2.1 ≤ v.2.2
        · rw [if_pos e1]; dsimp only; omega
        · rw [if_neg e1]; exact ⟨h1, h2⟩
  · have hr' : ¬ x < wx := hr
    rw [li_lt] at hr'
    refine ⟨decide_eq_true (p := ¬ v.2.2 < w.2.1) ?_, k1, ?_⟩
    · rw [li_lt]; omega
    · unfold z_cut
      by_cases c : ¬ w.2.1 = w.2.2
      · rw [if_pos c]; exact ⟨h1, h2⟩
      · rw [if_neg c, if_neg (by decide), if_neg (by decide), if_neg (by decide)]
        have c' := li_eq.mp (Classical.not_not.mp c)
        by_cases e1 : v.2.1 ≤ w.2.1
        · rw [if_pos e1]; dsimp only; omega
        · rw [if_neg e1]; exact ⟨h1, h2⟩
theorem hd_opp {t : Nat} {x w : Int64} (ht : 1 ≤ t ∧ t ≤ 4) (h : ¬ r_hd t x w) : r_hd (z_opp t) x w := by
  have h4 : t = 1 ∨ t = 2 ∨ t = 3 ∨ t = 4 := by omega
  rcases h4 with rfl | rfl | rfl | rfl
  · exact h
  · exact Classical.not_not.mp h
  · show ¬ x < w
    have h' : w ≤ x := Classical.not_not.mp h
    rw [li_le] at h'
    rw [li_lt]; omega
  · show ¬ w ≤ x
    have h' : x < w := Classical.not_not.mp h
    rw [li_lt] at h'
    rw [li_le]; omega
/-- what remains known of a state: the words, and the bytes that are there -/
def r_AS (q : Option (Nat × Nat)) (ln : Nat) (A : zA) (rg ce : Nat → Int64) (tg : Nat → Int32) (wd : Nat → Int64) : Prop := r_st q ln A.1 rg ce tg wd ∧ ∃ a, a ≤ ln ∧ A.2.1 = nI a
theorem ra_z_jc {Q : Nat → zA → Prop} {q : Option (Nat × Nat)} {ln t d i to : Nat} {f : Nat → zV} {sf lk wt : Int32} {w : zV} {rg ce wd : Nat → Int64} {tg : Nat → Int32} {wx wy : Int64} (hln : ln ≤ 24) (ht : 1 ≤ t ∧ t ≤ 4) (hd : d < 8) (hwf : z_wf i (f, sf, lk)) (vw : z_vw i lk w) (hq : ∀ e k, q = some (e, k) → e < 8 ∧ k < 8) (hS : r_AS q ln (f, sf, lk) rg ce tg wd) (hw : r_v q ln w wx wt wy) (hok : z_okQ Q (z_jc t d i to f sf lk w)) :
    (r_hd t (rg d) wx ↔ r_hd t (wd d) wy) ∧ (r_hd t (rg d) wx → ∃ B, Q to B ∧ r_AS q ln B rg ce tg wd) ∧ (¬ r_hd t (rg d) wx → ∃ B, Q (i + 1) B ∧ r_AS q ln B rg ce tg wd) := by
  obtain ⟨hst0, a, ha, ea⟩ := hS
  have hst : r_st q ln f rg ce tg wd := hst0
  have ea' : sf = nI a := ea
  have hx := st_reg hst hd
  have vf : z_vw i lk (f d) := hwf.1 d
  unfold z_jc at hok
  by_cases c1 : (f d).1 = 1 ∧ w.1 = 1
  · rw [if_pos c1] at hok
    obtain ⟨a1, a2, a3, a4⟩ := hx.1 c1.1
    obtain ⟨b1, rfl, b3, b4⟩ := hw.1 c1.2
    have v1 := vw_1 vf c1.1
    have v2 := vw_1 vw c1.2
    have mk : ∀ u, r_hd u (rg d) wy → 1 ≤ u ∧ u ≤ 4 → z_pos u (f d) w = true ∧ r_AS q ln (z_set f d (z_cut u (f d) w), sf, lk) rg ce tg wd := by
      intro u hu hu4
      obtain ⟨k0, k1, k2, k3⟩ := cut_in hu4 c1.1 v1.1 a3 a4 v1.2.2 v2.1 b3 b4 v2.2.2 hu
      refine ⟨k0, st_ab hst hd ?_, a, ha, ea⟩
      rw [a1, a2]
      exact rv_1 k1 ⟨k2, k3⟩
    rw [a2]
    refine ⟨Iff.rfl, fun hg => ?_, fun hg => ?_⟩
    · obtain ⟨p1, r1⟩ := mk t hg ht
      rw [if_pos p1] at hok
      by_cases p2 : z_pos (z_opp t) (f d) w = true
      · rw [if_pos p2] at hok; exact ⟨_, hok.2, r1⟩
      · rw [if_neg p2] at hok; exact ⟨_, hok, r1⟩
    · obtain ⟨p2, r2⟩ := mk (z_opp t) (hd_opp ht hg) (opp_in ht)
      by_cases p1 : z_pos t (f d) w = true
      · rw [if_pos p1, if_pos p2] at hok; exact ⟨_, hok.1, r2⟩
      · rw [if_neg p1] at hok; exact ⟨_, hok, r2⟩
  rw [if_neg c1] at hok
  by_cases c2 : (f d).1 = 6 ∧ w.1 = 1 ∧ w.2.2 = 0 ∧ t < 3
  · rw [if_pos c2] at hok
    obtain ⟨b1, rfl, b3, b4⟩ := hw.1 c2.2.1
    have v2 := vw_1 vw c2.2.1
    have w0 := li_eq.mp c2.2.2.1
    rw [li_0] at w0
    have wz : wy = 0 := li_eq.mpr (by rw [li_0]; omega)
    subst wz
    have f6 := vw_6 vf c2.1
    have hx6 := hx.2.2.2.2.2 c2.1
    have h12 : t = 1 ∨ t = 2 := by omega
    have all6 : ∀ k, (f k).1 = 6 → (f k).2.1 = (f d).2.1 := fun k hk => ((vw_6 (hwf.1 k) hk).2).trans f6.2.symm
    have stl : ∀ b : Bool, (q = none ↔ b = true) → r_AS q ln (z_stl f (f d).2.1 b, sf, lk) rg ce tg wd := by
      intro b hb
      refine ⟨fun k hk => ?_, a, ha, ea⟩
      have hk' := hst k hk
      show r_v q ln (if (f k).1 = 6 ∧ (f k).2.1 = (f d).2.1 then (if b then (1, 0, 0) else (5, 0, 0)) else f k) _ _ _
      by_cases z : (f k).1 = 6
      · rw [if_pos ⟨z, all6 k z⟩]
        rcases hk'.2.2.2.2.2 z with ⟨e1, e2, e3, e4⟩ | ⟨e, k', e1, e2, e3, e4⟩
        · have hbt := hb.mp e1
          subst hbt
          rw [e2, e3, e4]
          exact rv_1 rfl ⟨Int.le_refl _, Int.le_refl _⟩
        · have hbf : b = false := by
            cases b
            · rfl
            · rw [hb.mpr rfl] at e1; cases e1
          subst hbf
          rw [e2, e3, e4, e1]
          refine rv_5 rfl ?_ ?_
          · show _ = _ + (0 : Int64)
            rw [Int64.add_zero]
          · show _ = _ + (0 : Int64)
            rw [Int64.add_zero]
      · rw [if_neg (fun y => z y.1)]; exact hk'
    have nz : ∀ e : Nat, e < 8 → ¬ (2199023255552 + lN (2 * e)) = 0 := by
      intro e he z
      have e0 : (lN (2 * e)).toInt = ((2 * e : Nat) : Int) := pk_lT (by omega)
      have e1 := li_add (a := 2199023255552) (b := lN (2 * e)) (by decide) (by decide) (by omega) (by omega)
      rw [z, li_0, show (2199023255552 : Int64).toInt = 2199023255552 from by decide] at e1
      omega
    have nz2 : ∀ k : Nat, k < 8 → ¬ lN (100 * (8 + k)) = 0 := by
      intro k hk z
      have e0 : (lN (100 * (8 + k))).toInt = ((100 * (8 + k) : Nat) : Int) := pk_lT (by omega)
      rw [z, li_0] at e0
      omega
    rcases hx6 with ⟨e1, e2, e3, e4⟩ | ⟨e, k, e1, e2, e3, e4⟩
    · rw [e3, e4]
      rcases h12 with rfl | rfl
      · exact ⟨Iff.rfl, fun _ => ⟨_, hok.2, stl true ⟨fun _ => rfl, fun _ => e1⟩⟩, fun hg => absurd rfl hg⟩
      · exact ⟨Iff.rfl, fun hg => absurd rfl hg, fun _ => ⟨_, hok.1, stl true ⟨fun _ => rfl, fun _ => e1⟩⟩⟩
    · have hek := hq e k e1
      have nq : q = none ↔ false = true := ⟨fun z => (by rw [z] at e1; cases e1), fun z => (by cases z)⟩
      rw [e3, e4]
      rcases h12 with rfl | rfl
      · exact ⟨⟨fun z => absurd z (nz e hek.1), fun z => absurd z (nz2 k hek.2)⟩, fun z => absurd z (nz e hek.1), fun _ => ⟨_, hok.1, stl false nq⟩⟩
      · exact ⟨⟨fun _ => nz2 k hek.2, fun _ => nz e hek.1⟩, fun _ => ⟨_, hok.2, stl false nq⟩, fun z => absurd (nz e hek.1) z⟩
  rw [if_neg c2] at hok
  have mxa : ∀ {y : Int64}, 0 ≤ y.toInt → y.toInt ≤ ln → ∃ a, a ≤ ln ∧ z_mx sf y.toInt32 = nI a := by
    intro y h0 h1
    obtain ⟨m, hm, _, em, _, _⟩ := sm_lN (x := y) (n := 257) h0 (by omega) (by decide)
    rw [ea', em, mx_in (by omega) (by omega)]
    refine ⟨_, ?_, rfl⟩
    by_cases c : m ≤ a
    · rw [if_pos c]; exact ha
    · rw [if_neg c]; omega
  have lnI : (lN ln).toInt = (ln : Int) := pk_lT (by omega)
  have pln : (3298534883328 + lN ln).toInt = 3298534883328 + (ln : Int) := by rw [big_p (by omega) (by omega), lnI]
  by_cases c3 : 2 < t ∧ (f d).1 = 2 ∧ w.1 = 3
  · rw [if_pos c3] at hok
    obtain ⟨a1, a2, a3, a4⟩ := hx.2.1 c3.2.1
    obtain ⟨b1, rfl, rfl⟩ := hw.2.2.1 c3.2.2
    have v1 := vw_2 vf c3.2.1
    have px : (rg d).toInt = 3298534883328 + (wd d).toInt := by rw [a2, big_p (by omega) (by omega)]
    have lo1 := li_add (a := (f d).2.1) (b := 1) (by omega) (by omega) (by decide) (by decide)
    rw [li_1] at lo1
    have keep : r_AS q ln (f, sf, lk) rg ce tg wd := ⟨hst, a, ha, ea⟩
    have more : (wd d).toInt < ln → r_AS q ln (f, z_mx sf ((f d).2.1 + 1).toInt32, lk) rg ce tg wd := fun z => ⟨hst, mxa (by omega) (by omega)⟩
    have h34 : t = 3 ∨ t = 4 := by omega
    rcases h34 with rfl | rfl
    · rw [if_pos rfl] at hok
      refine ⟨show (¬ 3298534883328 + lN ln ≤ rg d) ↔ ¬ lN ln ≤ wd d from by rw [li_le, li_le, pln, px, lnI]; omega, fun hg => ⟨_, hok.2, more ?_⟩, fun hg => ⟨_, hok.1, keep⟩⟩
      have hg' : ¬ 3298534883328 + lN ln ≤ rg d := hg
      rw [li_le, pln, px] at hg'
      omega
    · rw [if_neg (by decide)] at hok
      refine ⟨show (¬ rg d < 3298534883328 + lN ln) ↔ ¬ wd d < lN ln from by rw [li_lt, li_lt, pln, px, lnI]; omega, fun hg => ⟨_, hok.2, keep⟩, fun hg => ⟨_, hok.1, more ?_⟩⟩
      have hg' : rg d < 3298534883328 + lN ln := Classical.not_not.mp hg
      rw [li_lt, pln, px] at hg'
      omega
  rw [if_neg c3] at hok
  by_cases c4 : 2 < t ∧ (f d).1 = 3 ∧ w.1 = 2
  · rw [if_pos c4] at hok
    obtain ⟨a1, a2, a3⟩ := hx.2.2.1 c4.2.1
    obtain ⟨b1, rfl, b3, b4⟩ := hw.2.1 c4.2.2
    have v2 := vw_2 vw c4.2.2
    have py : (3298534883328 + wy).toInt = 3298534883328 + wy.toInt := big_p (by omega) (by omega)
    have keep : r_AS q ln (f, sf, lk) rg ce tg wd := ⟨hst, a, ha, ea⟩
    have more : wy.toInt ≤ ln → r_AS q ln (f, z_mx sf w.2.1.toInt32, lk) rg ce tg wd := fun z => ⟨hst, mxa (by omega) (by omega)⟩
    rw [a3, a2]
    have h34 : t = 3 ∨ t = 4 := by omega
    rcases h34 with rfl | rfl
    · rw [if_pos rfl] at hok
      refine ⟨show (¬ 3298534883328 + wy ≤ 3298534883328 + lN ln) ↔ ¬ wy ≤ lN ln from by rw [li_le, li_le, pln, py, lnI]; omega, fun hg => ⟨_, hok.2, keep⟩, fun hg => ⟨_, hok.1, more ?_⟩⟩
      have hg' : 3298534883328 + wy ≤ 3298534883328 + lN ln := Classical.not_not.mp hg
      rw [li_le, pln, py] at hg'
      omega
    · rw [if_neg (by decide)] at hok
      refine ⟨show (¬ 3298534883328 + lN ln < 3298534883328 + wy) ↔ ¬ lN ln < wy from by rw [li_lt, li_lt, pln, py, lnI]; omega, fun hg => ⟨_, hok.2, more ?_⟩, fun hg => ⟨_, hok.1, keep⟩⟩
      have hg' : ¬ 3298534883328 + lN ln < 3298534883328 + wy := hg
      rw [li_lt, pln, py] at hg'
      omega
  rw [if_neg c4] at hok
  exact okF hok
end
section
/-! running: maps' relation; steps -/
def z_u (k : Int32) : Int64 := k.toInt64 &&& 4294967295
def r_cnt (us : Nat → Int32) (m : Nat) : Nat → Nat
  | 0 => 0
  | j + 1 => r_cnt us m j + if us (4 * m + j) = 0 then 0 else 1
def r_m1 (us ky : Nat → Int32) (sr ks vs : Nat → Int64) (m c : Nat) : Prop :=
  c ≤ 4 ∧ r_cnt us m 4 = c ∧ (∀ e, e < 4 → ¬ us (4 * m + e) = 0 → ∃ k, k < c ∧ ks (4 * m + k) = z_u (ky (4 * m + e))) ∧ (∀ k, k < c → ∃ e, e < 4 ∧ ¬ us (4 * m + e) = 0 ∧ ks (4 * m + k) = z_u (ky (4 * m + e))) ∧
  (∀ e e', e < 4 → e' < 4 → ¬ us (4 * m + e) = 0 → ¬ us (4 * m + e') = 0 → ky (4 * m + e) = ky (4 * m + e') → e = e') ∧ (∀ k k', k < c → k' < c → ks (4 * m + k) = ks (4 * m + k') → k = k') ∧
  (∀ e k b, e < 4 → k < c → b < 2 → ¬ us (4 * m + e) = 0 → ks (4 * m + k) = z_u (ky (4 * m + e)) → sr (2 * (4 * m + e) + b) = vs (2 * (4 * m + k) + b) ∧ 0 ≤ (vs (2 * (4 * m + k) + b)).toInt ∧ (vs (2 * (4 * m + k) + b)).toInt ≤ 4294967295)
def r_map (us ky : Nat → Int32) (sr ks vs : Nat → Int64) (mn : Nat → Int32) : Prop := ∀ m, m < 2 → ∃ c, mn m = nI c ∧ r_m1 us ky sr ks vs m c
def r_mt (us ky : Nat → Int32) (ks : Nat → Int64) (mn : Nat → Int32) (e k : Nat) : Prop := ∃ m a b c, m < 2 ∧ a < 4 ∧ b < c ∧ c ≤ 4 ∧ mn m = nI c ∧ e = 4 * m + a ∧ k = 4 * m + b ∧ ¬ us e = 0 ∧ ks k = z_u (ky e)
def r_S (q : Option (Nat × Nat)) (ln : Nat) (A : zA) (rg ce : Nat → Int64) (us ky : Nat → Int32) (sr : Nat → Int64) (tg : Nat → Int32) (wd ks vs : Nat → Int64) (mn : Nat → Int32) : Prop :=
  r_AS q ln A rg ce tg wd ∧ r_map us ky sr ks vs mn ∧ ∀ e k, q = some (e, k) → r_mt us ky ks mn e k
theorem mt_in {us ky : Nat → Int32} {ks : Nat → Int64} {mn : Nat → Int32} {e k : Nat} (h : r_mt us ky ks mn e k) : e < 8 ∧ k < 8 := by
  obtain ⟨m, a, b, c, h1, h2, h3, h4, h5, h6, h7, -⟩ := h
  omega
/-- an instruction in the arrays -/
def x_at (c : Nat) (op d s of im : Nat → Int32) (z : zC) : Prop := op c = nI z.1 ∧ d c = nI z.2.1 ∧ s c = nI z.2.2.1 ∧ of c = z.2.2.2.1 ∧ im c = z.2.2.2.2
section RD
variable {xw xfo xol xfa xpl : Int32} {xle xmo xlw xhg : Int64} {xk2 : Int32} {xl2 xh2 : Int64} {xln xst : Int32} {xop xd xs xsz xof xim xth xK : Nat → Int32} {xL xH : Nat → Int64} {xS xQ xF xM xG : Nat → Int32} {xrg xce : Nat → Int64} {xpk xus xky : Nat → Int32} {xsr : Nat → Int64}
theorem x_run1 {post : Int64 → SX → Prop} {c k o : Nat} (hc : c < 120) (po : xop c = nI o) (ho : o < 60) (h : wpX_execute (fun r u => match u with | (xw, xfo, xol, xfa, xpl, xle, xmo, xlw, xhg, xk2, xl2, xh2, xln, xst, xop, xd, xs, xsz, xof, xim, xth, xK, xL, xH, xS, xQ, xF, xM, xG, xrg, xce, xpk, xus, xky, xsr) => wX_run_60 post k r xw xfo xol xfa xpl xle xmo xlw xhg xk2 xl2 xh2 xln xst xop xd xs xsz xof xim xth xK xL xH xS xQ xF xM xG xrg xce xpk xus xky xsr) ((xw, xfo, xol, xfa, xpl, xle, xmo, xlw, xhg, xk2, xl2, xh2, xln, xst + 1, xop, xd, xs, xsz, xof, xim, xth, xK, xL, xH, xS, xQ, xF, xM, xG, xrg, xce, xpk, xus, xky, xsr)) (nI c)) : wX_run_60 post (k + 1) (nI c) xw xfo xol xfa xpl xle xmo xlw xhg xk2 xl2 xh2 xln xst xop xd xs xsz xof xim xth xK xL xH xS xQ xF xM xG xrg xce xpk xus xky xsr := by
  rw [wX_run_60]
  refine ⟨vp_in_nI hc (by omega), br_f ?_ (nm_e h)⟩
  rw [nI_clamp (by omega), po]
  exact fun z => by have := (nI_eq (b := 60) (by omega) (by omega)).mp z; omega
end RD
section RDY
variable {ypl : Int32} {yle ymo ysm ygr : Int64} {yw yfa yb yok : Int32} {yol yoh ylw yhg : Int64} {yby yst : Int32} {yop yd ys yof yim ysz yth yK : Nat → Int32} {yL yH : Nat → Int64} {yat yQ yS yM ytg : Nat → Int32} {ywd : Nat → Int64} {ypk : Nat → Int32} {yks yvs : Nat → Int64} {ymn : Nat → Int32}
theorem y_run1 {post : Int64 → SY → Prop} {p i k o : Nat} (hc : 40 * p + i < 120) (po : yop (40 * p + i) = nI o) (ho : o < 60) (h : wpY_step (fun r u => match u with | (ypl, yle, ymo, ysm, ygr, yw, yfa, yb, yok, yol, yoh, ylw, yhg, yby, yst, yop, yd, ys, yof, yim, ysz, yth, yK, yL, yH, yat, yQ, yS, yM, ytg, ywd, ypk, yks, yvs, ymn) => ∀ s : Int32, s = yst + 1 → wY_run_72 post (nI p) k r ypl yle ymo ysm ygr yw yfa yb yok yol yoh ylw yhg yby s yop yd ys yof yim ysz yth yK yL yH yat yQ yS yM ytg ywd ypk yks yvs ymn) ((ypl, yle, ymo, ysm, ygr, yw, yfa, yb, yok, yol, yoh, ylw, yhg, yby, yst, yop, yd, ys, yof, yim, ysz, yth, yK, yL, yH, yat, yQ, yS, yM, ytg, ywd, ypk, yks, yvs, ymn)) (nI (40 * p + i)) (nI i)) : wY_run_72 post (nI p) (k + 1) (nI i) ypl yle ymo ysm ygr yw yfa yb yok yol yoh ylw yhg yby yst yop yd ys yof yim ysz yth yK yL yH yat yQ yS yM ytg ywd ypk yks yvs ymn := by
  rw [wY_run_72]
  have v : vp_in (40 * nI p + nI i) 120 := by rw [ix40]; exact vp_in_nI hc (by omega)
  refine ⟨v, br_f ?_ ?_⟩
  · rw [ix40, nI_clamp (by omega), po]
    exact fun z => by have := (nI_eq (b := 60) (by omega) (by omega)).mp z; omega
  · rw [ix40]
    exact h
end RDY
section RDZ
variable {xw xfo xol xfa xpl : Int32} {xle xmo xlw xhg : Int64} {xk2 : Int32} {xl2 xh2 : Int64} {xln xst : Int32} {xop xd xs xsz xof xim xth xK : Nat → Int32} {xL xH : Nat → Int64} {xS xQ xF xM xG : Nat → Int32} {xrg xce : Nat → Int64} {xpk xus xky : Nat → Int32} {xsr : Nat → Int64}
variable {ypl : Int32} {yle ymo ysm ygr : Int64} {yw yfa yb yok : Int32} {yol yoh ylw yhg : Int64} {yby yst : Int32} {yop yd ys yof yim ysz yth yK : Nat → Int32} {yL yH : Nat → Int64} {yat yQ yS yM ytg : Nat → Int32} {ywd : Nat → Int64} {ypk : Nat → Int32} {yks yvs : Nat → Int64} {ymn : Nat → Int32}
theorem r_alu {Q : Nat → zA → Prop} {c : zC} {p i ln : Nat} {q : Option (Nat × Nat)} {f : Nat → zV} {sf lk : Int32} (hx : x_at (40 * p + i) xop xd xs xof xim c) (hy : x_at (40 * p + i) yop yd ys yof yim c) (hc : z_cw c) (hp : p ≤ 1) (hi : i < 40) (hS : r_S q ln (f, sf, lk) xrg xce xus xky xsr ytg ywd yks yvs ymn) (hwf : z_wf i (f, sf, lk)) (hln : ln ≤ 24) (ho : c.1 < 20) (hok : z_okQ Q (z_alu (c.1 % 10) c.2.1 i f sf lk (if c.1 < 10 then z_im c.2.2.2.2 else z_src c.2.2.1 f))) : (∃ (j : Nat) (B : zA) (rg ce : Nat → Int64) (us ky : Nat → Int32) (sr : Nat → Int64) (tg : Nat → Int32) (wd ks vs : Nat → Int64) (mn : Nat → Int32) (q' : Option (Nat × Nat)), Q j B ∧ r_S q' ln B rg ce us ky sr tg wd ks vs mn ∧ (∀ (post : Int64 → SX → Prop) (k : Nat), wX_run_60 post k (nI (40 * p + j)) xw xfo xol xfa xpl xle xmo xlw xhg xk2 xl2 xh2 xln (xst + 1) xop xd xs xsz xof xim xth xK xL xH xS xQ xF xM xG rg ce xpk us ky sr → wX_run_60 post (k + 1) (nI (40 * p + i)) xw xfo xol xfa xpl xle xmo xlw xhg xk2 xl2 xh2 xln xst xop xd xs xsz xof xim xth xK xL xH xS xQ xF xM xG xrg xce xpk xus xky xsr) ∧ (∀ (post : Int64 → SY → Prop) (k : Nat), wY_run_72 post (nI p) k (nI j) ypl yle ymo ysm ygr yw yfa yb yok yol yoh ylw yhg yby (yst + 1) yop yd ys yof yim ysz yth yK yL yH yat yQ yS yM tg wd ypk ks vs mn → wY_run_72 post (nI p) (k + 1) (nI i) ypl yle ymo ysm ygr yw yfa yb yok yol yoh ylw yhg yby yst yop yd ys yof yim ysz yth yK yL yH yat yQ yS yM ytg ywd ypk yks yvs ymn)) := by
  obtain ⟨o, d, s, off, im⟩ := c
  obtain ⟨hn, hd, hs⟩ := hc
  obtain ⟨x1, x2, x3, x4, x5⟩ := hx
  obtain ⟨y1, y2, y3, y4, y5⟩ := hy
  dsimp only at *
  obtain ⟨⟨hst0, a, ha, ea⟩, hmap, hmt⟩ := hS
  have hst : r_st q ln f xrg xce ytg ywd := hst0
  have hn6 : o % 10 ≤ 6 := by unfold z_nm at hn; omega
  have vw : z_vw i lk (if o < 10 then z_im im else z_src s f) := by
    by_cases c : o < 10
    · rw [if_pos c]; exact vw_im _ _ _
    · rw [if_neg c]; exact vw_src hwf.1
  have hreg : ((10 ≤ o ∧ o < 20) ∨ 30 < o) ↔ ¬ o < 10 := by omega
  have hw : r_v q ln (if o < 10 then z_im im else z_src s f) (if o < 10 then im.toInt64 &&& 4294967295 else r_wx xrg s) (if (10 ≤ o ∧ o < 20) ∨ 30 < o then r_wt ytg s else 1) (if (10 ≤ o ∧ o < 20) ∨ 30 < o then r_wy ywd s else im.toInt64 &&& 4294967295) := by
    by_cases c : o < 10
    · rw [if_pos c, if_pos c, if_neg (fun z => hreg.mp z c), if_neg (fun z => hreg.mp z c)]
      exact rv_1 rfl ⟨Int.le_refl _, Int.le_refl _⟩
    · rw [if_neg c, if_neg c, if_pos (hreg.mpr c), if_pos (hreg.mpr c)]
      exact st_src hst hs
  obtain ⟨v', hQ, hv⟩ := ra_z_alu hi hn6 (fun e k z => (mt_in (hmt e k z)).1) (hwf.1 d) vw (st_reg hst hd) hw hok
  refine ⟨i + 1, _, _, xce, xus, xky, xsr, _, _, yks, yvs, ymn, q, hQ, ⟨⟨st_setR hst hd hv, a, ha, ea⟩, hmap, hmt⟩, fun post k h => ?_, fun post k h => ?_⟩
  · exact x_run1 (by omega) x1 (by omega) (x_exA (by omega) x1 x2 x3 x5 hn ho hd hs h)
  · refine y_run1 (by omega) y1 (by omega) (y_stp (by omega) y1 y2 y3 y5 (by omega) hs ?_)
    have ho10 : nI o - nI o / 10 * 10 = nI (o % 10) := pk_rem (d := 10) (by omega) (by omega) (by omega)
    refine br_f (nI_ge (b := 20) ho (by omega)) ⟨by decide, ?_⟩
    rw [ho10]
    refine y_calc hn6 hd (fun n0 => ?_) ?_
    · by_cases c : o < 10
      · rw [if_neg (fun z => hreg.mp z c)]; exact kb_01.2.1
      · rw [if_pos (hreg.mpr c)]
        have w0 : ¬ (z_src s f).1 = 0 := by
          intro z
          unfold z_alu at hok
          rw [if_neg c, if_pos z] at hok
          exact okF hok
        have sv := st_src hst hs
        rcases vw_k (vw_src (s := s) hwf.1) with e | e | e | e | e | e | e
        · exact absurd e w0
        · rw [(sv.1 e).1]; exact kb_01.2.1
        · rw [(sv.2.1 e).1]; exact kb_01.2.2.1
        · rw [(sv.2.2.1 e).1]; exact kb_01.2.2.2.1
        · rw [(sv.2.2.2.1 e).1]; exact kb_01.2.2.2.2.1
        · rw [(sv.2.2.2.2.1 e).1]; exact kb_01.2.2.2.2.2.1
        · rcases sv.2.2.2.2.2 e with ⟨_, z, _⟩ | ⟨_, _, _, z, _⟩
          · rw [z]; exact kb_01.2.1
          · rw [z]; exact kb_01.2.2.2.2.2.1
    · intro s hs
      subst hs
      show wY_run_72 post (nI p) k (nI i + 1) _ _ _ _ _ _ _ _ _ _ _ _ _ _ _ _ _ _ _ _ _ _ _ _ _ _ _ _ _ _ _ _ _ _ _
      rw [nI_1 i]
      exact h
end RDZ
end
section
/-! running: jumps, cells, bytes -/
theorem ac_l (a b : Int64) : a + b - a = b := by rw [Int64.add_comm, Int64.add_sub_cancel]
theorem map_val {us ky : Nat → Int32} {sr ks vs : Nat → Int64} {mn : Nat → Int32} {e k b : Nat} (h : r_map us ky sr ks vs mn) (ht : r_mt us ky ks mn e k) (hb : b < 2) : sr (2 * e + b) = vs (2 * k + b) ∧ 0 ≤ (vs (2 * k + b)).toInt ∧ (vs (2 * k + b)).toInt ≤ 4294967295 := by
  obtain ⟨m, a, x, c, h1, h2, h3, h4, h5, rfl, rfl, h8, h9⟩ := ht
  obtain ⟨c', e1, e2, e3, e4, e5, e6, e7, e8⟩ := h m h1
  have : c = c' := (nI_eq (by omega) (by omega)).mp (h5.symm.trans e1)
  subst this
  exact e8 a x b h2 h3 hb h8 h9
theorem map_store {us ky : Nat → Int32} {sr ks vs : Nat → Int64} {mn : Nat → Int32} {e k b : Nat} {x : Int64} (h : r_map us ky sr ks vs mn) (ht : r_mt us ky ks mn e k) (hb : b < 2) (h0 : 0 ≤ x.toInt) (h1 : x.toInt ≤ 4294967295) : r_map us ky (vp_updL sr (2 * e + b) x) ks (vp_updL vs (2 * k + b) x) mn := by
  obtain ⟨m, a, y, c, g1, g2, g3, g4, g5, rfl, rfl, g8, g9⟩ := ht
  intro m' hm'
  obtain ⟨c', e1, e2, e3, e4, e5, e6, e7, e8⟩ := h m' hm'
  refine ⟨c', e1, e2, e3, e4, e5, e6, e7, fun e k b' h2 h3 h4 h5 h6 => ?_⟩
  have old := e8 e k b' h2 h3 h4 h5 h6
  by_cases z : m' = m ∧ e = a ∧ b' = b
  · obtain ⟨rfl, rfl, rfl⟩ := z
    have : c = c' := (nI_eq (by omega) (by omega)).mp (g5.symm.trans e1)
    subst this
    have ek : k = y := e7 k y h3 g3 (h6.trans g9.symm)
    subst ek
    rw [pk_uLs, pk_uLs]
    exact ⟨rfl, h0, h1⟩
  · have ne1 : 2 * (4 * m' + e) + b' ≠ 2 * (4 * m + a) + b := by omega
    have ne2 : 2 * (4 * m' + k) + b' ≠ 2 * (4 * m + y) + b := by
      intro w
      have w1 : m' = m ∧ k = y ∧ b' = b := by omega
      obtain ⟨rfl, rfl, rfl⟩ := w1
      have hz : z_u (ky (4 * m' + e)) = z_u (ky (4 * m' + a)) := h6.symm.trans g9
      have hu : ∀ u v : Int32, z_u u = z_u v → u = v := by
        intro u v huv
        obtain ⟨n1, l1, rfl⟩ := wb_of32 u
        obtain ⟨n2, l2, rfl⟩ := wb_of32 v
        have key : ∀ n, n < 2 ^ 32 → ((nI n).toInt64 &&& 4294967295).toInt32 = nI n := by
          intro n hn
          rw [Int64.toInt32_and, Int32.toInt32_toInt64]
          show nI n &&& (-1) = nI n
          exact Int32.and_neg_one
        rw [← key n1 l1, ← key n2 l2]
        exact congrArg Int64.toInt32 huv
      exact z ⟨rfl, e6 e a h2 g2 h5 g8 (hu _ _ hz), rfl⟩
    rw [pk_uLn ne1, pk_uLn ne2]
    exact old
section RE
variable {xw xfo xol xfa xpl : Int32} {xle xmo xlw xhg : Int64} {xk2 : Int32} {xl2 xh2 : Int64} {xln xst : Int32} {xop xd xs xsz xof xim xth xK : Nat → Int32} {xL xH : Nat → Int64} {xS xQ xF xM xG : Nat → Int32} {xrg xce : Nat → Int64} {xpk xus xky : Nat → Int32} {xsr : Nat → Int64}
theorem x_fetchF {post : Int64 → Prop} {w : Int64} {m : Nat} (hw : w = 1099511627776 + lN m) (hm : m < 6) (h : post (xce m)) : wpX_fetch post ((xw, xfo, xol, xfa, xpl, xle, xmo, xlw, xhg, xk2, xl2, xh2, xln, xst, xop, xd, xs, xsz, xof, xim, xth, xK, xL, xH, xS, xQ, xF, xM, xG, xrg, xce, xpk, xus, xky, xsr)) w := by
  have e0 : (lN m).toInt = (m : Int) := pk_lT (by omega)
  have e1 := li_add (a := 1099511627776) (b := lN m) (by decide) (by decide) (by omega) (by omega)
  rw [show (1099511627776 : Int64).toInt = 1099511627776 from by decide] at e1
  have ei : (w - 1099511627776).toInt32 = nI m := by rw [hw, ac_l, lN_i]
  refine br_f ?_ ⟨by rw [ei]; exact vp_in_nI hm (by omega), ?_⟩
  · rw [hw, li_le, e1, show (2199023254552 : Int64).toInt = 2199023254552 from by decide]; omega
  · rw [ei, nI_clamp (by omega)]; exact h
theorem x_fetchV {post : Int64 → Prop} {w : Int64} {m : Nat} (hw : w = 2199023255552 + lN m) (hm : m < 16) (h : post (xsr m)) : wpX_fetch post ((xw, xfo, xol, xfa, xpl, xle, xmo, xlw, xhg, xk2, xl2, xh2, xln, xst, xop, xd, xs, xsz, xof, xim, xth, xK, xL, xH, xS, xQ, xF, xM, xG, xrg, xce, xpk, xus, xky, xsr)) w := by
  have e0 : (lN m).toInt = (m : Int) := pk_lT (by omega)
  have e1 := li_add (a := 2199023255552) (b := lN m) (by decide) (by decide) (by omega) (by omega)
  rw [show (2199023255552 : Int64).toInt = 2199023255552 from by decide] at e1
  have ei : (w - 2199023255552).toInt32 = nI m := by rw [hw, ac_l, lN_i]
  refine br_t ?_ ⟨by rw [ei]; exact vp_in_nI hm (by omega), ?_⟩
  · rw [hw, li_le, e1, show (2199023254552 : Int64).toInt = 2199023254552 from by decide]; omega
  · rw [ei, nI_clamp (by omega)]; exact h
theorem x_storeF {post : SX → Prop} {w v : Int64} {m : Nat} (hw : w = 1099511627776 + lN m) (hm : m < 6) (h : post ((xw, xfo, xol, xfa, xpl, xle, xmo, xlw, xhg, xk2, xl2, xh2, xln, xst, xop, xd, xs, xsz, xof, xim, xth, xK, xL, xH, xS, xQ, xF, xM, xG, xrg, vp_updL xce m v, xpk, xus, xky, xsr))) : wpX_store post ((xw, xfo, xol, xfa, xpl, xle, xmo, xlw, xhg, xk2, xl2, xh2, xln, xst, xop, xd, xs, xsz, xof, xim, xth, xK, xL, xH, xS, xQ, xF, xM, xG, xrg, xce, xpk, xus, xky, xsr)) w v := by
  have e0 : (lN m).toInt = (m : Int) := pk_lT (by omega)
  have e1 := li_add (a := 1099511627776) (b := lN m) (by decide) (by decide) (by omega) (by omega)
  rw [show (1099511627776 : Int64).toInt = 1099511627776 from by decide] at e1
  have ei : (w - 1099511627776).toInt32 = nI m := by rw [hw, ac_l, lN_i]
  refine br_f ?_ ⟨by rw [ei]; exact vp_in_nI hm (by omega), nm_r (by rw [ei, nI_clamp (by omega)]) h⟩
  rw [hw, li_le, e1, show (2199023254552 : Int64).toInt = 2199023254552 from by decide]; omega
theorem x_storeV {post : SX → Prop} {w v : Int64} {m : Nat} (hw : w = 2199023255552 + lN m) (hm : m < 16) (h : post ((xw, xfo, xol, xfa, xpl, xle, xmo, xlw, xhg, xk2, xl2, xh2, xln, xst, xop, xd, xs, xsz, xof, xim, xth, xK, xL, xH, xS, xQ, xF, xM, xG, xrg, xce, xpk, xus, xky, vp_updL xsr m v))) : wpX_store post ((xw, xfo, xol, xfa, xpl, xle, xmo, xlw, xhg, xk2, xl2, xh2, xln, xst, xop, xd, xs, xsz, xof, xim, xth, xK, xL, xH, xS, xQ, xF, xM, xG, xrg, xce, xpk, xus, xky, xsr)) w v := by
  have e0 : (lN m).toInt = (m : Int) := pk_lT (by omega)
  have e1 := li_add (a := 2199023255552) (b := lN m) (by decide) (by decide) (by omega) (by omega)
  rw [show (2199023255552 : Int64).toInt = 2199023255552 from by decide] at e1
  have ei : (w - 2199023255552).toInt32 = nI m := by rw [hw, ac_l, lN_i]
  refine br_t ?_ ⟨by rw [ei]; exact vp_in_nI hm (by omega), nm_r (by rw [ei, nI_clamp (by omega)]) h⟩
  rw [hw, li_le, e1, show (2199023254552 : Int64).toInt = 2199023254552 from by decide]; omega
theorem x_ex114 {post : Int32 → SX → Prop} {o d c : Nat} (hc : c < 120) (po : xop c = nI o) (pd : xd c = nI d) (ho : 40 ≤ o) (ho2 : o < 60) (h : wX_execute_114 post (nI c) (nI o) (nI d) xw xfo xol xfa xpl xle xmo xlw xhg xk2 xl2 xh2 xln xst xop xd xs xsz xof xim xth xK xL xH xS xQ xF xM xG xrg xce xpk xus xky xsr) : wpX_execute post ((xw, xfo, xol, xfa, xpl, xle, xmo, xlw, xhg, xk2, xl2, xh2, xln, xst, xop, xd, xs, xsz, xof, xim, xth, xK, xL, xH, xS, xQ, xF, xM, xG, xrg, xce, xpk, xus, xky, xsr)) (nI c) := by
  have vc : vp_in (nI c) 120 := vp_in_nI hc (by omega)
  have ec : (nI c).toNatClampNeg = c := nI_clamp (by omega)
  refine ⟨vc, nm_r (e' := nI o) (by rw [ec, po]) ⟨vc, nm_r (e' := nI d) (by rw [ec, pd]) (br_f (fun z => ?_) (br_f (nI_ge (a := 20) (by omega) (by omega)) (br_t (nI_le (a := 40) ho (by omega)) h)))⟩⟩
  have := (nI_eq (b := 20) (by omega) (by omega)).mp z
  omega
end RE
section REY
variable {ypl : Int32} {yle ymo ysm ygr : Int64} {yw yfa yb yok : Int32} {yol yoh ylw yhg : Int64} {yby yst : Int32} {yop yd ys yof yim ysz yth yK : Nat → Int32} {yL yH : Nat → Int64} {yat yQ yS yM ytg : Nat → Int32} {ywd : Nat → Int64} {ypk : Nat → Int32} {yks yvs : Nat → Int64} {ymn : Nat → Int32}
theorem y_idx {k b : Nat} (hk : k < 8) (hb : b < 2) : (((lN (100 * (8 + k) + b) / 100) - 8).toInt32) * 2 + ((lN (100 * (8 + k) + b) - lN (100 * (8 + k) + b) / 100 * 100).toInt32) = nI (2 * k + b) := by
  have e1 : lN (100 * (8 + k) + b) / 100 = lN (8 + k) := by
    rw [show (100 : Int64) = lN 100 from rfl, pk_lDiv (by omega) (by omega) (by omega)]
    exact congrArg lN (by omega)
  have e2 : lN (100 * (8 + k) + b) - lN (100 * (8 + k) + b) / 100 * 100 = lN b := by
    rw [show (100 : Int64) = lN 100 from rfl, pk_lRem (by omega) (by omega) (by omega)]
    exact congrArg lN (by omega)
  rw [e2, e1, show (8 : Int64) = lN 8 from rfl, lN_sub (by omega), lN_i, lN_i, show (2 : Int32) = nI 2 from rfl, pk_mul, nI_add]
  exact congrArg nI (by omega)
theorem y_loadF {post : SY → Prop} {d m : Nat} {t : Int32} {w : Int64} (ht : t = 4) (hw : w = lN m) (hm : m < 6) (hd : d < 8) (hk : z_kb (ytg (8 + m))) (h : post ((ypl, yle, ymo, ysm, ygr, yw, yfa, yb, yok, yol, yoh, ylw, yhg, yby, yst, yop, yd, ys, yof, yim, ysz, yth, yK, yL, yH, yat, yQ, yS, yM, upd ytg d (ytg (8 + m)), vp_updL ywd d (ywd (8 + m)), ypk, yks, yvs, ymn))) : wpY_load post ((ypl, yle, ymo, ysm, ygr, yw, yfa, yb, yok, yol, yoh, ylw, yhg, yby, yst, yop, yd, ys, yof, yim, ysz, yth, yK, yL, yH, yat, yQ, yS, yM, ytg, ywd, ypk, yks, yvs, ymn)) (nI d) t w := by
  have ei : (8 : Int32) + w.toInt32 = nI (8 + m) := by rw [hw, lN_i, show (8 : Int32) = nI 8 from rfl, nI_add]
  have v : vp_in (8 + w.toInt32) 14 := by rw [ei]; exact vp_in_nI (by omega) (by omega)
  refine br_t ht ⟨v, v, ?_⟩
  rw [ei, nI_clamp (by omega)]
  exact y_hold rfl (by omega) hk h
theorem y_loadV {post : SY → Prop} {d k b : Nat} {t : Int32} {w : Int64} (ht : t = 5) (hw : w = lN (100 * (8 + k) + b)) (hk : k < 8) (hb : b < 2) (hd : d < 8) (h : post ((ypl, yle, ymo, ysm, ygr, yw, yfa, yb, yok, yol, yoh, ylw, yhg, yby, yst, yop, yd, ys, yof, yim, ysz, yth, yK, yL, yH, yat, yQ, yS, yM, upd ytg d 1, vp_updL ywd d (yvs (2 * k + b)), ypk, yks, yvs, ymn))) : wpY_load post ((ypl, yle, ymo, ysm, ygr, yw, yfa, yb, yok, yol, yoh, ylw, yhg, yby, yst, yop, yd, ys, yof, yim, ysz, yth, yK, yL, yH, yat, yQ, yS, yM, ytg, ywd, ypk, yks, yvs, ymn)) (nI d) t w := by
  subst hw
  refine br_f (by rw [ht]; decide) ⟨by decide, by decide, ?_⟩
  rw [y_idx hk hb, nI_clamp (by omega)]
  exact ⟨vp_in_nI (by omega) (by omega), y_hold rfl (by omega) kb_01.2.1 h⟩
theorem y_storeF {post : SY → Prop} {m : Nat} {g t : Int32} {w v : Int64} (hg : g = 4) (hw : w = lN m) (hm : m < 6) (hk : z_kb t) (h : post ((ypl, yle, ymo, ysm, ygr, yw, yfa, yb, yok, yol, yoh, ylw, yhg, yby, yst, yop, yd, ys, yof, yim, ysz, yth, yK, yL, yH, yat, yQ, yS, yM, upd ytg (8 + m) t, vp_updL ywd (8 + m) v, ypk, yks, yvs, ymn))) : wpY_store post ((ypl, yle, ymo, ysm, ygr, yw, yfa, yb, yok, yol, yoh, ylw, yhg, yby, yst, yop, yd, ys, yof, yim, ysz, yth, yK, yL, yH, yat, yQ, yS, yM, ytg, ywd, ypk, yks, yvs, ymn)) g w t v :=
  br_t hg (y_hold (by rw [hw, lN_i, show (8 : Int32) = nI 8 from rfl, nI_add]) (by omega) hk h)
theorem y_storeV {post : SY → Prop} {k b : Nat} {g t : Int32} {w v : Int64} (hg : g = 5) (hw : w = lN (100 * (8 + k) + b)) (hk : k < 8) (hb : b < 2) (h : post ((ypl, yle, ymo, ysm, ygr, yw, yfa, yb, yok, yol, yoh, ylw, yhg, yby, yst, yop, yd, ys, yof, yim, ysz, yth, yK, yL, yH, yat, yQ, yS, yM, ytg, ywd, ypk, yks, vp_updL yvs (2 * k + b) v, ymn))) : wpY_store post ((ypl, yle, ymo, ysm, ygr, yw, yfa, yb, yok, yol, yoh, ylw, yhg, yby, yst, yop, yd, ys, yof, yim, ysz, yth, yK, yL, yH, yat, yQ, yS, yM, ytg, ywd, ypk, yks, yvs, ymn)) g w t v := by
  subst hw
  refine br_f (by rw [hg]; decide) ⟨by decide, by decide, ?_⟩
  rw [y_idx hk hb, nI_clamp (by omega)]
  exact ⟨vp_in_nI (by omega) (by omega), nm_e h⟩
end REY
section REZ
variable {xw xfo xol xfa xpl : Int32} {xle xmo xlw xhg : Int64} {xk2 : Int32} {xl2 xh2 : Int64} {xln xst : Int32} {xop xd xs xsz xof xim xth xK : Nat → Int32} {xL xH : Nat → Int64} {xS xQ xF xM xG : Nat → Int32} {xrg xce : Nat → Int64} {xpk xus xky : Nat → Int32} {xsr : Nat → Int64}
variable {ypl : Int32} {yle ymo ysm ygr : Int64} {yw yfa yb yok : Int32} {yol yoh ylw yhg : Int64} {yby yst : Int32} {yop yd ys yof yim ysz yth yK : Nat → Int32} {yL yH : Nat → Int64} {yat yQ yS yM ytg : Nat → Int32} {ywd : Nat → Int64} {ypk : Nat → Int32} {yks yvs : Nat → Int64} {ymn : Nat → Int32}
theorem r_jmp {Q : Nat → zA → Prop} {c : zC} {p i ln : Nat} {q : Option (Nat × Nat)} {f : Nat → zV} {sf lk : Int32} (hx : x_at (40 * p + i) xop xd xs xof xim c) (hy : x_at (40 * p + i) yop yd ys yof yim c) (hc : z_cw c) (hp : p ≤ 1) (hi : i < 40) (hS : r_S q ln (f, sf, lk) xrg xce xus xky xsr ytg ywd yks yvs ymn) (hwf : z_wf i (f, sf, lk)) (hln : ln ≤ 24) (hQ : ∀ j B, Q j B → j < 40) (ho : 20 ≤ c.1) (ho2 : c.1 < 40) (hok : z_okQ Q (z_jmp c.1 c.2.1 c.2.2.1 i c.2.2.2.1 c.2.2.2.2 f sf lk)) : (∃ (j : Nat) (B : zA) (rg ce : Nat → Int64) (us ky : Nat → Int32) (sr : Nat → Int64) (tg : Nat → Int32) (wd ks vs : Nat → Int64) (mn : Nat → Int32) (q' : Option (Nat × Nat)), Q j B ∧ r_S q' ln B rg ce us ky sr tg wd ks vs mn ∧ (∀ (post : Int64 → SX → Prop) (k : Nat), wX_run_60 post k (nI (40 * p + j)) xw xfo xol xfa xpl xle xmo xlw xhg xk2 xl2 xh2 xln (xst + 1) xop xd xs xsz xof xim xth xK xL xH xS xQ xF xM xG rg ce xpk us ky sr → wX_run_60 post (k + 1) (nI (40 * p + i)) xw xfo xol xfa xpl xle xmo xlw xhg xk2 xl2 xh2 xln xst xop xd xs xsz xof xim xth xK xL xH xS xQ xF xM xG xrg xce xpk xus xky xsr) ∧ (∀ (post : Int64 → SY → Prop) (k : Nat), wY_run_72 post (nI p) k (nI j) ypl yle ymo ysm ygr yw yfa yb yok yol yoh ylw yhg yby (yst + 1) yop yd ys yof yim ysz yth yK yL yH yat yQ yS yM tg wd ypk ks vs mn → wY_run_72 post (nI p) (k + 1) (nI i) ypl yle ymo ysm ygr yw yfa yb yok yol yoh ylw yhg yby yst yop yd ys yof yim ysz yth yK yL yH yat yQ yS yM ytg ywd ypk yks yvs ymn)) := by
  obtain ⟨o, d, s, off, im⟩ := c
  obtain ⟨hn, hd, hs⟩ := hc
  obtain ⟨x1, x2, x3, x4, x5⟩ := hx
  obtain ⟨y1, y2, y3, y4, y5⟩ := hy
  dsimp only at *
  obtain ⟨hAS, hmap, hmt⟩ := hS
  have hst : r_st q ln f xrg xce ytg ywd := hAS.1
  unfold z_jmp at hok
  by_cases c1 : off < 0
  · rw [if_pos c1] at hok; exact okF hok
  rw [if_neg c1] at hok
  obtain ⟨k, hk, rfl⟩ := nI_of c1
  have zto : ∀ B, Q (z_to i (nI k)) B → z_to i (nI k) = i + 1 + k := by
    intro B hB
    have h40 := hQ _ _ hB
    unfold z_to at *
    rw [nI_clamp hk] at *
    by_cases z : 40 < i + 1 + k
    · rw [if_pos z] at h40; omega
    · rw [if_neg z]
  have ej : ∀ j, j = i + 1 + k → nI (40 * p + i + 1 + k) = nI (40 * p + j) := fun j hj => congrArg nI (by omega)
  have v1 : vp_in (nI (40 * p + i)) 120 := vp_in_nI (by omega) (by omega)
  have e1 : (nI (40 * p + i)).toNatClampNeg = 40 * p + i := nI_clamp (by omega)
  have eyj : nI i + 1 + yof (nI (40 * p + i)).toNatClampNeg = nI (i + 1 + k) := by rw [e1, y4, nI_1 i, nI_add]
  by_cases o20 : o = 20
  · rw [if_pos o20] at hok
    have ez := zto _ hok
    refine ⟨z_to i (nI k), _, xrg, xce, xus, xky, xsr, ytg, ywd, yks, yvs, ymn, q, hok, ⟨hAS, hmap, hmt⟩, fun post k' h => ?_, fun post k' h => ?_⟩
    · refine x_run1 (by omega) x1 (by omega) (x_exJ (by omega) x1 x2 x3 x4 x5 hn ho ho2 hd hs (fun _ => ?_) (fun z => absurd o20 z))
      rw [ej _ ez]
      exact h
    · refine y_run1 (by omega) y1 (by omega) (y_stp (by omega) y1 y2 y3 y5 (by omega) hs (br_t (nI_le (a := 20) ho (by omega)) (br_t (by rw [o20]; rfl) ⟨v1, ?_⟩)))
      rw [eyj, ← ez]
      exact nm_e h
  rw [if_neg o20] at hok
  by_cases c3 : (f d).1 = 0
  · rw [if_pos c3] at hok; exact okF hok
  rw [if_neg c3] at hok
  by_cases c4 : (if o < 30 then z_im im else z_src s f).1 = 0
  · rw [if_pos c4] at hok; exact okF hok
  rw [if_neg c4] at hok
  have ht : 1 ≤ o % 10 ∧ o % 10 ≤ 4 := by unfold z_nm at hn; omega
  have hreg : ((10 ≤ o ∧ o < 20) ∨ 30 < o) ↔ ¬ o < 30 := by unfold z_nm at hn; omega
  have vw : z_vw i lk (if o < 30 then z_im im else z_src s f) := by
    by_cases c : o < 30
    · rw [if_pos c]; exact vw_im _ _ _
    · rw [if_neg c]; exact vw_src hwf.1
  have hw : r_v q ln (if o < 30 then z_im im else z_src s f) (if o < 30 then im.toInt64 &&& 4294967295 else r_wx xrg s) (if (10 ≤ o ∧ o < 20) ∨ 30 < o then r_wt ytg s else 1) (if (10 ≤ o ∧ o < 20) ∨ 30 < o then r_wy ywd s else im.toInt64 &&& 4294967295) := by
    by_cases c : o < 30
    · rw [if_pos c, if_pos c, if_neg (fun z => hreg.mp z c), if_neg (fun z => hreg.mp z c)]
      exact rv_1 rfl ⟨Int.le_refl _, Int.le_refl _⟩
    · rw [if_neg c, if_neg c, if_pos (hreg.mpr c), if_pos (hreg.mpr c)]
      exact st_src hst hs
  obtain ⟨j1, j2, j3⟩ := ra_z_jc hln ht hd hwf vw (fun e k z => mt_in (hmt e k z)) hAS hw hok
  have ho10 : nI o - nI o / 10 * 10 = nI (o % 10) := pk_rem (d := 10) (by omega) (by omega) (by omega)
  have vd : vp_in (nI d) 14 := vp_in_nI (by omega) (by omega)
  have ed : (nI d).toNatClampNeg = d := nI_clamp (by omega)
  have n20 : ¬ nI o = 20 := fun z => o20 ((nI_eq (b := 20) (by omega) (by omega)).mp z)
  by_cases hg : r_hd (o % 10) (xrg d) (if o < 30 then im.toInt64 &&& 4294967295 else r_wx xrg s)
  · obtain ⟨B, b1, b2⟩ := j2 hg
    have ez := zto _ b1
    refine ⟨z_to i (nI k), B, xrg, xce, xus, xky, xsr, ytg, ywd, yks, yvs, ymn, q, b1, ⟨b2, hmap, hmt⟩, fun post k' h => ?_, fun post k' h => ?_⟩
    · refine x_run1 (by omega) x1 (by omega) (x_exJ (by omega) x1 x2 x3 x4 x5 hn ho ho2 hd hs (fun _ => ?_) (fun _ z => absurd hg z))
      rw [ej _ ez]
      exact h
    · refine y_run1 (by omega) y1 (by omega) (y_stp (by omega) y1 y2 y3 y5 (by omega) hs (br_t (nI_le (a := 20) ho (by omega)) (br_f n20 (br_f (nI_ge (b := 40) ho2 (by omega)) ⟨by decide, vd, ?_⟩))))
      rw [ho10, ed]
      refine y_taken ht (fun _ => br_f (by decide) ⟨v1, ?_⟩) (fun z => absurd (j1.mp hg) z)
      rw [eyj, ← ez]
      exact nm_e h
  · obtain ⟨B, b1, b2⟩ := j3 hg
    refine ⟨i + 1, B, xrg, xce, xus, xky, xsr, ytg, ywd, yks, yvs, ymn, q, b1, ⟨b2, hmap, hmt⟩, fun post k' h => ?_, fun post k' h => ?_⟩
    · exact x_run1 (by omega) x1 (by omega) (x_exJ (by omega) x1 x2 x3 x4 x5 hn ho ho2 hd hs (fun z => by rcases z with z | z; exact absurd z o20; exact absurd z hg) (fun _ _ => h))
    · refine y_run1 (by omega) y1 (by omega) (y_stp (by omega) y1 y2 y3 y5 (by omega) hs (br_t (nI_le (a := 20) ho (by omega)) (br_f n20 (br_f (nI_ge (b := 40) ho2 (by omega)) ⟨by decide, vd, ?_⟩))))
      rw [ho10, ed]
      refine y_taken ht (fun z => absurd (j1.mpr z) hg) (fun _ => br_t rfl ?_)
      rw [nI_1 i]
      exact nm_e h
end REZ
end
section
/-! running: cells and bytes -/
theorem rv_kb {q : Option (Nat × Nat)} {ln : Nat} {v : zV} {x y : Int64} {t : Int32} (h : r_v q ln v x t y) (hk : v.1 = 0 ∨ v.1 = 1 ∨ v.1 = 2 ∨ v.1 = 3 ∨ v.1 = 4 ∨ v.1 = 5 ∨ v.1 = 6) (h0 : ¬ v.1 = 0) : z_kb t := by
  rcases hk with e | e | e | e | e | e | e
  · exact absurd e h0
  · rw [(h.1 e).1]; exact kb_01.2.1
  · rw [(h.2.1 e).1]; exact kb_01.2.2.1
  · rw [(h.2.2.1 e).1]; exact kb_01.2.2.2.1
  · rw [(h.2.2.2.1 e).1]; exact kb_01.2.2.2.2.1
  · rw [(h.2.2.2.2.1 e).1]; exact kb_01.2.2.2.2.2.1
  · rcases h.2.2.2.2.2 e with ⟨_, z, _⟩ | ⟨_, _, _, z, _⟩
    · rw [z]; exact kb_01.2.1
    · rw [z]; exact kb_01.2.2.2.2.2.1
theorem b255 (z : Int32) : 0 ≤ ((z &&& 255).toInt64).toInt ∧ ((z &&& 255).toInt64).toInt ≤ 255 := by
  obtain ⟨j, hj, e⟩ := pk_andE z (m := 255) 8 (by decide)
  rw [e, nI_l (by omega), pk_lT (by omega)]
  omega
section RF
variable {xw xfo xol xfa xpl : Int32} {xle xmo xlw xhg : Int64} {xk2 : Int32} {xl2 xh2 : Int64} {xln xst : Int32} {xop xd xs xsz xof xim xth xK : Nat → Int32} {xL xH : Nat → Int64} {xS xQ xF xM xG : Nat → Int32} {xrg xce : Nat → Int64} {xpk xus xky : Nat → Int32} {xsr : Nat → Int64}
variable {ypl : Int32} {yle ymo ysm ygr : Int64} {yw yfa yb yok : Int32} {yol yoh ylw yhg : Int64} {yby yst : Int32} {yop yd ys yof yim ysz yth yK : Nat → Int32} {yL yH : Nat → Int64} {yat yQ yS yM ytg : Nat → Int32} {ywd : Nat → Int64} {ypk : Nat → Int32} {yks yvs : Nat → Int64} {ymn : Nat → Int32}
theorem r_ld {Q : Nat → zA → Prop} {c : zC} {p i ln : Nat} {q : Option (Nat × Nat)} {f : Nat → zV} {sf lk : Int32} (hx : x_at (40 * p + i) xop xd xs xof xim c) (hy : x_at (40 * p + i) yop yd ys yof yim c) (hc : z_cw c) (hp : p ≤ 1) (hi : i < 40) (hS : r_S q ln (f, sf, lk) xrg xce xus xky xsr ytg ywd yks yvs ymn) (hwf : z_wf i (f, sf, lk)) (hln : ln ≤ 24) (ho : c.1 = 40) (hok : z_okQ Q (z_ld c.2.1 i c.2.2.2.1 f sf lk (z_src c.2.2.1 f))) : (∃ (j : Nat) (B : zA) (rg ce : Nat → Int64) (us ky : Nat → Int32) (sr : Nat → Int64) (tg : Nat → Int32) (wd ks vs : Nat → Int64) (mn : Nat → Int32) (q' : Option (Nat × Nat)), Q j B ∧ r_S q' ln B rg ce us ky sr tg wd ks vs mn ∧ (∀ (post : Int64 → SX → Prop) (k : Nat), wX_run_60 post k (nI (40 * p + j)) xw xfo xol xfa xpl xle xmo xlw xhg xk2 xl2 xh2 xln (xst + 1) xop xd xs xsz xof xim xth xK xL xH xS xQ xF xM xG rg ce xpk us ky sr → wX_run_60 post (k + 1) (nI (40 * p + i)) xw xfo xol xfa xpl xle xmo xlw xhg xk2 xl2 xh2 xln xst xop xd xs xsz xof xim xth xK xL xH xS xQ xF xM xG xrg xce xpk xus xky xsr) ∧ (∀ (post : Int64 → SY → Prop) (k : Nat), wY_run_72 post (nI p) k (nI j) ypl yle ymo ysm ygr yw yfa yb yok yol yoh ylw yhg yby (yst + 1) yop yd ys yof yim ysz yth yK yL yH yat yQ yS yM tg wd ypk ks vs mn → wY_run_72 post (nI p) (k + 1) (nI i) ypl yle ymo ysm ygr yw yfa yb yok yol yoh ylw yhg yby yst yop yd ys yof yim ysz yth yK yL yH yat yQ yS yM ytg ywd ypk yks yvs ymn)) := by
  obtain ⟨o, d, s, off, im⟩ := c
  obtain ⟨hn, hd, hs⟩ := hc
  obtain ⟨x1, x2, x3, x4, x5⟩ := hx
  obtain ⟨y1, y2, y3, y4, y5⟩ := hy
  dsimp only at *
  subst ho
  obtain ⟨⟨hst0, a, ha, ea⟩, hmap, hmt⟩ := hS
  have hst : r_st q ln f xrg xce ytg ywd := hst0
  have hv : z_vw i lk (z_src s f) := vw_src hwf.1
  have hw := st_src hst hs
  have vc : vp_in (nI (40 * p + i)) 120 := vp_in_nI (by omega) (by omega)
  have ec : (nI (40 * p + i)).toNatClampNeg = 40 * p + i := nI_clamp (by omega)
  have vd : vp_in (nI d) 8 := vp_in_nI (by omega) (by omega)
  have ed : (nI d).toNatClampNeg = d := nI_clamp (by omega)
  unfold z_ld at hok
  generalize z_src s f = w at *
  by_cases c1 : w.1 = 0
  · rw [if_pos c1] at hok; exact okF hok
  rw [if_neg c1] at hok
  by_cases c2 : ¬ (w.1 = 4 ∨ w.1 = 5)
  · rw [if_pos c2] at hok; exact okF hok
  rw [if_neg c2] at hok
  have k45 := Classical.not_not.mp c2
  have w4 := vw_4 hv k45
  by_cases c3 : (off < -100 ∨ 100 < off ∨ w.2.1 + off.toInt64 < 0 ∨ ¬ w.2.2 + off.toInt64 < (if w.1 = 4 then 6 else 2))
  · rw [if_pos c3] at hok; exact okF hok
  rw [if_neg c3] at hok
  have d3 : ¬ (w.2.1 + off.toInt64 < 0) := fun z => c3 (Or.inr (Or.inr (Or.inl z)))
  have d4 : w.2.1 + off.toInt64 < (if w.1 = 4 then 6 else 2) := by
    rw [w4.1]
    exact Classical.byContradiction fun z => c3 (Or.inr (Or.inr (Or.inr z)))
  rw [li_lt, li_0] at d3
  have xs' : xs (nI (40 * p + i)).toNatClampNeg = nI s := by rw [ec, x3]
  have xo' : xof (nI (40 * p + i)).toNatClampNeg = off := by rw [ec, x4]
  have yo' : yof (nI (40 * p + i)).toNatClampNeg = off := by rw [ec, y4]
  have goX : ∀ (post : Int64 → SX → Prop) (k : Nat) (r : Int64), wpX_fetch (fun r => vp_in (nI d) 8 ∧ ∀ g : Nat → Int64, g = vp_updL xrg (nI d).toNatClampNeg r → wX_run_60 post k (nI (40 * p + i) + 1) xw xfo xol xfa xpl xle xmo xlw xhg xk2 xl2 xh2 xln (xst + 1) xop xd xs xsz xof xim xth xK xL xH xS xQ xF xM xG g xce xpk xus xky xsr) ((xw, xfo, xol, xfa, xpl, xle, xmo, xlw, xhg, xk2, xl2, xh2, xln, xst + 1, xop, xd, xs, xsz, xof, xim, xth, xK, xL, xH, xS, xQ, xF, xM, xG, xrg, xce, xpk, xus, xky, xsr)) (r_wx xrg s + off.toInt64) → wX_run_60 post (k + 1) (nI (40 * p + i)) xw xfo xol xfa xpl xle xmo xlw xhg xk2 xl2 xh2 xln xst xop xd xs xsz xof xim xth xK xL xH xS xQ xF xM xG xrg xce xpk xus xky xsr := by
    intro post k r h
    refine x_run1 (by omega) x1 (by omega) (x_ex114 (by omega) x1 x2 (by omega) (by omega) (br_t (by decide) (br_t rfl ⟨vc, ?_⟩)))
    rw [xs']
    refine x_word hs ⟨vc, nm_r (e' := r_wx xrg s + off.toInt64) (by rw [xo']) h⟩
  have goY : ∀ (post : Int64 → SY → Prop) (k : Nat), wpY_load (fun u => match u with | (ypl, yle, ymo, ysm, ygr, yw, yfa, yb, yok, yol, yoh, ylw, yhg, yby, yst, yop, yd, ys, yof, yim, ysz, yth, yK, yL, yH, yat, yQ, yS, yM, ytg, ywd, ypk, yks, yvs, ymn) => ∀ s : Int32, s = yst + 1 → wY_run_72 post (nI p) k (nI i + 1) ypl yle ymo ysm ygr yw yfa yb yok yol yoh ylw yhg yby s yop yd ys yof yim ysz yth yK yL yH yat yQ yS yM ytg ywd ypk yks yvs ymn) ((ypl, yle, ymo, ysm, ygr, yw, yfa, yb, yok, yol, yoh, ylw, yhg, yby, yst, yop, yd, ys, yof, yim, ysz, yth, yK, yL, yH, yat, yQ, yS, yM, ytg, ywd, ypk, yks, yvs, ymn)) (nI d) (r_wt ytg s) (r_wy ywd s + off.toInt64) → wY_run_72 post (nI p) (k + 1) (nI i) ypl yle ymo ysm ygr yw yfa yb yok yol yoh ylw yhg yby yst yop yd ys yof yim ysz yth yK yL yH yat yQ yS yM ytg ywd ypk yks yvs ymn := by
    intro post k h
    refine y_run1 (by omega) y1 (by omega) (y_stp (by omega) y1 y2 y3 y5 (by omega) hs (br_t (by decide) (br_f (by decide) (br_t (by decide) (br_t rfl ⟨vc, ?_⟩)))))
    rw [yo', if_pos (Or.inr (by omega)), if_pos (Or.inr (by omega))]
    exact h
  by_cases c4 : w.1 = 5
  · rw [if_pos c4] at hok
    rw [if_neg (by rw [c4]; decide), li_lt, li_2] at d4
    obtain ⟨t5, e, k, hq, ex, ey⟩ := hw.2.2.2.2.1 c4
    have hek := mt_in (hmt e k hq)
    obtain ⟨m, hm, em, _, _, _⟩ := sm_lN (x := w.2.1 + off.toInt64) (n := 2) (by omega) (by omega) (by decide)
    obtain ⟨mv, m0, m1⟩ := map_val hmap (hmt e k hq) hm
    have fx : r_wx xrg s + off.toInt64 = 2199023255552 + lN (2 * e + m) := by rw [ex, Int64.add_assoc, em, Int64.add_assoc, lN_add]
    have fy : r_wy ywd s + off.toInt64 = lN (100 * (8 + k) + m) := by rw [ey, Int64.add_assoc, em, lN_add]
    refine ⟨i + 1, _, _, xce, xus, xky, xsr, _, _, yks, yvs, ymn, q, hok, ⟨⟨st_setR hst hd (x := xsr (2 * e + m)) (t := 1) (y := yvs (2 * k + m)) ?_, a, ha, ea⟩, hmap, hmt⟩, fun post k' h => goX post k' 0 (x_fetchV fx (by omega) ⟨vd, nm_r (by rw [ed]) ?_⟩), fun post k' h => goY post k' (y_loadV t5 fy hek.2 hm hd ?_)⟩
    · rw [mv]
      exact rv_1 rfl (by dsimp only; rw [li_0, li_all]; exact ⟨m0, m1⟩)
    · rw [nI_1]; exact h
    · intro s hs
      subst hs
      rw [nI_1 i]
      exact h
  · rw [if_neg c4] at hok
    have k4 : w.1 = 4 := by rcases k45 with z | z; exact z; exact absurd z c4
    rw [if_pos k4, li_lt, li_6] at d4
    obtain ⟨t4, ey, ex⟩ := hw.2.2.2.1 k4
    obtain ⟨m, hm, em, _, en, _⟩ := sm_lN (x := w.2.1 + off.toInt64) (n := 6) (by omega) (by omega) (by decide)
    rw [en] at hok
    by_cases c5 : (f (8 + m)).1 = 0
    · rw [if_pos c5] at hok; exact okF hok
    rw [if_neg c5] at hok
    have fx : r_wx xrg s + off.toInt64 = 1099511627776 + lN m := by rw [ex, Int64.add_assoc, em]
    have fy : r_wy ywd s + off.toInt64 = lN m := by rw [ey, em]
    have hv8 := hst (8 + m) (by omega)
    rw [show r_x xrg xce (8 + m) = xce m from by unfold r_x; rw [if_neg (by omega), show 8 + m - 8 = m by omega]] at hv8
    have kb8 := rv_kb hv8 (vw_k (hwf.1 (8 + m))) c5
    refine ⟨i + 1, _, _, xce, xus, xky, xsr, _, _, yks, yvs, ymn, q, hok, ⟨⟨st_setR hst hd hv8, a, ha, ea⟩, hmap, hmt⟩, fun post k' h => goX post k' 0 (x_fetchF fx hm ⟨vd, nm_r (by rw [ed]) ?_⟩), fun post k' h => goY post k' (y_loadF t4 fy hm hd kb8 ?_)⟩
    · rw [nI_1]; exact h
    · intro s hs
      subst hs
      rw [nI_1 i]
      exact h
theorem r_sto {Q : Nat → zA → Prop} {c : zC} {p i ln : Nat} {q : Option (Nat × Nat)} {f : Nat → zV} {sf lk : Int32} (hx : x_at (40 * p + i) xop xd xs xof xim c) (hy : x_at (40 * p + i) yop yd ys yof yim c) (hc : z_cw c) (hp : p ≤ 1) (hi : i < 40) (hS : r_S q ln (f, sf, lk) xrg xce xus xky xsr ytg ywd yks yvs ymn) (hwf : z_wf i (f, sf, lk)) (hln : ln ≤ 24) (ho : c.1 = 41) (hok : z_okQ Q (z_sto c.2.1 i c.2.2.2.1 f sf lk (z_src c.2.2.1 f))) : (∃ (j : Nat) (B : zA) (rg ce : Nat → Int64) (us ky : Nat → Int32) (sr : Nat → Int64) (tg : Nat → Int32) (wd ks vs : Nat → Int64) (mn : Nat → Int32) (q' : Option (Nat × Nat)), Q j B ∧ r_S q' ln B rg ce us ky sr tg wd ks vs mn ∧ (∀ (post : Int64 → SX → Prop) (k : Nat), wX_run_60 post k (nI (40 * p + j)) xw xfo xol xfa xpl xle xmo xlw xhg xk2 xl2 xh2 xln (xst + 1) xop xd xs xsz xof xim xth xK xL xH xS xQ xF xM xG rg ce xpk us ky sr → wX_run_60 post (k + 1) (nI (40 * p + i)) xw xfo xol xfa xpl xle xmo xlw xhg xk2 xl2 xh2 xln xst xop xd xs xsz xof xim xth xK xL xH xS xQ xF xM xG xrg xce xpk xus xky xsr) ∧ (∀ (post : Int64 → SY → Prop) (k : Nat), wY_run_72 post (nI p) k (nI j) ypl yle ymo ysm ygr yw yfa yb yok yol yoh ylw yhg yby (yst + 1) yop yd ys yof yim ysz yth yK yL yH yat yQ yS yM tg wd ypk ks vs mn → wY_run_72 post (nI p) (k + 1) (nI i) ypl yle ymo ysm ygr yw yfa yb yok yol yoh ylw yhg yby yst yop yd ys yof yim ysz yth yK yL yH yat yQ yS yM ytg ywd ypk yks yvs ymn)) := by
  obtain ⟨o, d, s, off, im⟩ := c
  obtain ⟨hn, hd, hs⟩ := hc
  obtain ⟨x1, x2, x3, x4, x5⟩ := hx
  obtain ⟨y1, y2, y3, y4, y5⟩ := hy
  dsimp only at *
  subst ho
  obtain ⟨⟨hst0, a, ha, ea⟩, hmap, hmt⟩ := hS
  have hst : r_st q ln f xrg xce ytg ywd := hst0
  have hv : z_vw i lk (z_src s f) := vw_src hwf.1
  have hvd : z_vw i lk (f d) := hwf.1 d
  have hw := st_src hst hs
  have hx := st_reg hst hd
  have vc : vp_in (nI (40 * p + i)) 120 := vp_in_nI (by omega) (by omega)
  have ec : (nI (40 * p + i)).toNatClampNeg = 40 * p + i := nI_clamp (by omega)
  have vd : vp_in (nI d) 8 := vp_in_nI (by omega) (by omega)
  have vd14 : vp_in (nI d) 14 := vp_in_nI (by omega) (by omega)
  have ed : (nI d).toNatClampNeg = d := nI_clamp (by omega)
  unfold z_sto at hok
  generalize z_src s f = w at *
  by_cases c0 : (f d).1 = 0
  · rw [if_pos c0] at hok; exact okF hok
  rw [if_neg c0] at hok
  by_cases c1 : w.1 = 0
  · rw [if_pos c1] at hok; exact okF hok
  rw [if_neg c1] at hok
  by_cases c2 : ¬ ((f d).1 = 4 ∨ (f d).1 = 5)
  · rw [if_pos c2] at hok; exact okF hok
  rw [if_neg c2] at hok
  have k45 := Classical.not_not.mp c2
  by_cases c3 : (off < -100 ∨ 100 < off ∨ (f d).2.1 + off.toInt64 < 0 ∨ ¬ (f d).2.1 + off.toInt64 < (if (f d).1 = 4 then 6 else 2))
  · rw [if_pos c3] at hok; exact okF hok
  rw [if_neg c3] at hok
  have d3 : ¬ ((f d).2.1 + off.toInt64 < 0) := fun z => c3 (Or.inr (Or.inr (Or.inl z)))
  have d4 : (f d).2.1 + off.toInt64 < (if (f d).1 = 4 then 6 else 2) := Classical.byContradiction fun z => c3 (Or.inr (Or.inr (Or.inr z)))
  rw [li_lt, li_0] at d3
  have xs' : xs (nI (40 * p + i)).toNatClampNeg = nI s := by rw [ec, x3]
  have xo' : xof (nI (40 * p + i)).toNatClampNeg = off := by rw [ec, x4]
  have yo' : yof (nI (40 * p + i)).toNatClampNeg = off := by rw [ec, y4]
  have goX : ∀ (post : Int64 → SX → Prop) (k : Nat), wpX_store (fun u => match u with | (xw, xfo, xol, xfa, xpl, xle, xmo, xlw, xhg, xk2, xl2, xh2, xln, xst, xop, xd, xs, xsz, xof, xim, xth, xK, xL, xH, xS, xQ, xF, xM, xG, xrg, xce, xpk, xus, xky, xsr) => wX_run_60 post k (nI (40 * p + i) + 1) xw xfo xol xfa xpl xle xmo xlw xhg xk2 xl2 xh2 xln xst xop xd xs xsz xof xim xth xK xL xH xS xQ xF xM xG xrg xce xpk xus xky xsr) ((xw, xfo, xol, xfa, xpl, xle, xmo, xlw, xhg, xk2, xl2, xh2, xln, xst + 1, xop, xd, xs, xsz, xof, xim, xth, xK, xL, xH, xS, xQ, xF, xM, xG, xrg, xce, xpk, xus, xky, xsr)) (xrg d + off.toInt64) (r_wx xrg s) → wX_run_60 post (k + 1) (nI (40 * p + i)) xw xfo xol xfa xpl xle xmo xlw xhg xk2 xl2 xh2 xln xst xop xd xs xsz xof xim xth xK xL xH xS xQ xF xM xG xrg xce xpk xus xky xsr := by
    intro post k h
    refine x_run1 (by omega) x1 (by omega) (x_ex114 (by omega) x1 x2 (by omega) (by omega) (br_t (by decide) (br_f (by decide) (br_t rfl ⟨vc, ?_⟩))))
    rw [xs']
    refine x_word hs ⟨vd, vc, ?_⟩
    rw [ed, xo']
    exact h
  have goY : ∀ (post : Int64 → SY → Prop) (k : Nat), wpY_store (fun u => match u with | (ypl, yle, ymo, ysm, ygr, yw, yfa, yb, yok, yol, yoh, ylw, yhg, yby, yst, yop, yd, ys, yof, yim, ysz, yth, yK, yL, yH, yat, yQ, yS, yM, ytg, ywd, ypk, yks, yvs, ymn) => ∀ s : Int32, s = yst + 1 → wY_run_72 post (nI p) k (nI i + 1) ypl yle ymo ysm ygr yw yfa yb yok yol yoh ylw yhg yby s yop yd ys yof yim ysz yth yK yL yH yat yQ yS yM ytg ywd ypk yks yvs ymn) ((ypl, yle, ymo, ysm, ygr, yw, yfa, yb, yok, yol, yoh, ylw, yhg, yby, yst, yop, yd, ys, yof, yim, ysz, yth, yK, yL, yH, yat, yQ, yS, yM, ytg, ywd, ypk, yks, yvs, ymn)) (ytg d) (ywd d + off.toInt64) (r_wt ytg s) (r_wy ywd s) → wY_run_72 post (nI p) (k + 1) (nI i) ypl yle ymo ysm ygr yw yfa yb yok yol yoh ylw yhg yby yst yop yd ys yof yim ysz yth yK yL yH yat yQ yS yM ytg ywd ypk yks yvs ymn := by
    intro post k h
    refine y_run1 (by omega) y1 (by omega) (y_stp (by omega) y1 y2 y3 y5 (by omega) hs (br_t (by decide) (br_f (by decide) (br_t (by decide) (br_f (by decide) (br_t rfl ⟨vd14, vd14, vc, ?_⟩))))))
    rw [yo', ed, if_pos (Or.inr (by omega)), if_pos (Or.inr (by omega))]
    exact h
  by_cases c4 : (f d).1 = 4
  · rw [if_pos c4] at hok d4
    rw [li_lt, li_6] at d4
    obtain ⟨t4, ey, ex⟩ := hx.2.2.2.1 c4
    obtain ⟨m, hm, em, _, en, _⟩ := sm_lN (x := (f d).2.1 + off.toInt64) (n := 6) (by omega) (by omega) (by decide)
    rw [en] at hok
    have fx : xrg d + off.toInt64 = 1099511627776 + lN m := by rw [ex, Int64.add_assoc, em]
    have fy : ywd d + off.toInt64 = lN m := by rw [ey, em]
    refine ⟨i + 1, _, xrg, _, xus, xky, xsr, _, _, yks, yvs, ymn, q, hok, ⟨⟨st_setC hst hm hw, a, ha, ea⟩, hmap, hmt⟩, fun post k' h => goX post k' (x_storeF fx hm ?_), fun post k' h => goY post k' (y_storeF t4 fy hm (rv_kb hw (vw_k hv) c1) ?_)⟩
    · show wX_run_60 post k' (nI (40 * p + i) + 1) _ _ _ _ _ _ _ _ _ _ _ _ _ _ _ _ _ _ _ _ _ _ _ _ _ _ _ _ _ _ _ _ _ _ _
      rw [nI_1]; exact h
    · intro s hs
      subst hs
      rw [nI_1 i]
      exact h
  · rw [if_neg c4] at hok d4
    rw [li_lt, li_2] at d4
    have k5 : (f d).1 = 5 := by rcases k45 with z | z; exact absurd z c4; exact z
    by_cases c7 : w.1 = 1
    · rw [if_pos c7] at hok
      obtain ⟨t5, e, k, hq, ex, ey⟩ := hx.2.2.2.2.1 k5
      obtain ⟨t1, ewy, b3, b4⟩ := hw.1 c7
      have v1 := vw_1 hv c7
      have hek := mt_in (hmt e k hq)
      obtain ⟨m, hm, em, _, _, _⟩ := sm_lN (x := (f d).2.1 + off.toInt64) (n := 2) (by omega) (by omega) (by decide)
      have fx : xrg d + off.toInt64 = 2199023255552 + lN (2 * e + m) := by rw [ex, Int64.add_assoc, em, Int64.add_assoc, lN_add]
      have fy : ywd d + off.toInt64 = lN (100 * (8 + k) + m) := by rw [ey, Int64.add_assoc, em, lN_add]
      refine ⟨i + 1, _, xrg, xce, xus, xky, _, ytg, ywd, yks, _, ymn, q, hok, ⟨⟨hst, a, ha, ea⟩, map_store hmap (hmt e k hq) hm (x := r_wx xrg s) (by omega) (by omega), hmt⟩, fun post k' h => goX post k' (x_storeV fx (by omega) ?_), fun post k' h => goY post k' (y_storeV t5 fy hek.2 hm ?_)⟩
      · show wX_run_60 post k' (nI (40 * p + i) + 1) _ _ _ _ _ _ _ _ _ _ _ _ _ _ _ _ _ _ _ _ _ _ _ _ _ _ _ _ _ _ _ _ _ _ _
        rw [nI_1]; exact h
      · intro s hs
        subst hs
        rw [nI_1 i, ewy]
        exact h
    · rw [if_neg c7] at hok; exact okF hok
theorem r_pkt {Q : Nat → zA → Prop} {c : zC} {p i ln : Nat} {q : Option (Nat × Nat)} {f : Nat → zV} {sf lk : Int32} (hx : x_at (40 * p + i) xop xd xs xof xim c) (hy : x_at (40 * p + i) yop yd ys yof yim c) (hc : z_cw c) (hp : p ≤ 1) (hi : i < 40) (hS : r_S q ln (f, sf, lk) xrg xce xus xky xsr ytg ywd yks yvs ymn) (hwf : z_wf i (f, sf, lk)) (hln : ln ≤ 24) (hpk : ypk = xpk) (ho : c.1 = 42) (hok : z_okQ Q (z_pkt c.2.1 i c.2.2.2.1 f sf lk (z_src c.2.2.1 f))) : (∃ (j : Nat) (B : zA) (rg ce : Nat → Int64) (us ky : Nat → Int32) (sr : Nat → Int64) (tg : Nat → Int32) (wd ks vs : Nat → Int64) (mn : Nat → Int32) (q' : Option (Nat × Nat)), Q j B ∧ r_S q' ln B rg ce us ky sr tg wd ks vs mn ∧ (∀ (post : Int64 → SX → Prop) (k : Nat), wX_run_60 post k (nI (40 * p + j)) xw xfo xol xfa xpl xle xmo xlw xhg xk2 xl2 xh2 xln (xst + 1) xop xd xs xsz xof xim xth xK xL xH xS xQ xF xM xG rg ce xpk us ky sr → wX_run_60 post (k + 1) (nI (40 * p + i)) xw xfo xol xfa xpl xle xmo xlw xhg xk2 xl2 xh2 xln xst xop xd xs xsz xof xim xth xK xL xH xS xQ xF xM xG xrg xce xpk xus xky xsr) ∧ (∀ (post : Int64 → SY → Prop) (k : Nat), wY_run_72 post (nI p) k (nI j) ypl yle ymo ysm ygr yw yfa yb yok yol yoh ylw yhg yby (yst + 1) yop yd ys yof yim ysz yth yK yL yH yat yQ yS yM tg wd ypk ks vs mn → wY_run_72 post (nI p) (k + 1) (nI i) ypl yle ymo ysm ygr yw yfa yb yok yol yoh ylw yhg yby yst yop yd ys yof yim ysz yth yK yL yH yat yQ yS yM ytg ywd ypk yks yvs ymn)) := by
  obtain ⟨o, d, s, off, im⟩ := c
  obtain ⟨hn, hd, hs⟩ := hc
  obtain ⟨x1, x2, x3, x4, x5⟩ := hx
  obtain ⟨y1, y2, y3, y4, y5⟩ := hy
  dsimp only at *
  subst ho
  subst hpk
  obtain ⟨⟨hst0, a, ha, ea⟩, hmap, hmt⟩ := hS
  have hst : r_st q ln f xrg xce ytg ywd := hst0
  have ea' : sf = nI a := ea
  have hv : z_vw i lk (z_src s f) := vw_src hwf.1
  have hw := st_src hst hs
  have vc : vp_in (nI (40 * p + i)) 120 := vp_in_nI (by omega) (by omega)
  have ec : (nI (40 * p + i)).toNatClampNeg = 40 * p + i := nI_clamp (by omega)
  have vd : vp_in (nI d) 8 := vp_in_nI (by omega) (by omega)
  have ed : (nI d).toNatClampNeg = d := nI_clamp (by omega)
  unfold z_pkt at hok
  by_cases c1 : (z_src s f).1 = 0
  · rw [if_pos c1] at hok; exact okF hok
  rw [if_neg c1] at hok
  by_cases c2 : ¬ (z_src s f).1 = 2
  · rw [if_pos c2] at hok; exact okF hok
  rw [if_neg c2] at hok
  have k2 := Classical.not_not.mp c2
  by_cases c3 : (off < -100 ∨ 100 < off ∨ (z_src s f).2.1 + off.toInt64 < 0 ∨ ¬ (z_src s f).2.2 + off.toInt64 < sf.toInt64)
  · rw [if_pos c3] at hok; exact okF hok
  rw [if_neg c3] at hok
  have s8 : ¬ s = 8 := fun z => by rw [show z_src s f = (4, 0, 0) from if_pos z] at k2; exact absurd k2 (by decide)
  have d3 : ¬ ((z_src s f).2.1 + off.toInt64 < 0) := fun z => c3 (Or.inr (Or.inr (Or.inl z)))
  have d4 : (z_src s f).2.2 + off.toInt64 < sf.toInt64 := Classical.byContradiction fun z => c3 (Or.inr (Or.inr (Or.inr z)))
  obtain ⟨t2, ex, b3, b4⟩ := hw.2.1 k2
  have v2 := vw_2 hv k2
  rw [show r_wx xrg s = xrg s from if_neg s8] at ex
  have o1 := off.le_toInt
  have o2 := off.toInt_lt
  have eo : off.toInt64.toInt = off.toInt := Int32.toInt_toInt64 off
  have e1 := li_add (a := (z_src s f).2.1) (b := off.toInt64) (by omega) (by omega) (by omega) (by omega)
  have e2 := li_add (a := (z_src s f).2.2) (b := off.toInt64) (by omega) (by omega) (by omega) (by omega)
  rw [li_lt, li_0] at d3
  rw [li_lt, ea', nI_l (by omega), pk_lT (by omega)] at d4
  generalize hy' : r_wy ywd s = y at *
  obtain ⟨m, hm, em, em2, _, em3⟩ := sm_lN (x := y) (n := 256) (by omega) (by omega) (by decide)
  have ti : (y.toInt32 + off).toInt = (m : Int) + off.toInt := by
    rw [em2, Int32.toInt_add, nI_toInt (by omega)]
    exact Int.bmod_eq_of_le (by omega) (by omega)
  have vi : vp_in (y.toInt32 + off) 24 := vp_in_iff.mpr (by omega)
  have xs' : xs (nI (40 * p + i)).toNatClampNeg = nI s := by rw [ec, x3]
  have xo' : xof (nI (40 * p + i)).toNatClampNeg = off := by rw [ec, x4]
  have yo' : yof (nI (40 * p + i)).toNatClampNeg = off := by rw [ec, y4]
  have es : (nI s).toNatClampNeg = s := nI_clamp (by omega)
  have xi : (xrg s - 3298534883328).toInt32 + off = y.toInt32 + off := by rw [ex, ac_l]
  have rb := b255 (ypk (y.toInt32 + off).toNatClampNeg)
  refine ⟨i + 1, _, _, xce, xus, xky, xsr, _, _, yks, yvs, ymn, q, hok, ⟨⟨st_setR hst hd (x := (ypk (y.toInt32 + off).toNatClampNeg &&& 255).toInt64) (t := 1) (y := (ypk (y.toInt32 + off).toNatClampNeg &&& 255).toInt64) (rv_1 rfl (by dsimp only; rw [li_0, li_255]; exact rb)), a, ha, ea⟩, hmap, hmt⟩, fun post k' h => ?_, fun post k' h => ?_⟩
  · refine x_run1 (by omega) x1 (by omega) (x_ex114 (by omega) x1 x2 (by omega) (by omega) (br_t (by decide) (br_f (by decide) (br_f (by decide) (br_t rfl ⟨vc, ?_⟩)))))
    rw [xs', es, xo', xi]
    refine ⟨vp_in_nI (by omega) (by omega), vc, vi, vd, nm_r (by rw [ed]) ?_⟩
    show wX_run_60 post k' (nI (40 * p + i) + 1) _ _ _ _ _ _ _ _ _ _ _ _ _ _ _ _ _ _ _ _ _ _ _ _ _ _ _ _ _ _ _ _ _ _ _
    rw [nI_1]; exact h
  · refine y_run1 (by omega) y1 (by omega) (y_stp (by omega) y1 y2 y3 y5 (by omega) hs (br_t (by decide) (br_f (by decide) (br_t (by decide) (br_f (by decide) (br_f (by decide) (br_t rfl ⟨vc, ?_⟩)))))))
    rw [yo', if_pos (Or.inr (by omega)), hy']
    refine ⟨vi, y_hold rfl (by omega) kb_01.2.1 ?_⟩
    intro s hs
    subst hs
    rw [nI_1 i]
    exact h
end RF
end
section
/-! running: the maps, as pure facts -/
theorem zu_l {a : Nat} (h : a < 4294967296) : z_u (nI a) = lN a := by
  unfold z_u
  obtain ⟨n, hn, e⟩ := wb_of (nI a).toInt64
  have t : (nI a).toInt64.toInt = (nI a).toInt := Int32.toInt_toInt64 _
  have t2 : (lN n).toInt = if n < 2 ^ 63 then (n : Int) else (n : Int) - 2 ^ 64 := lN_ti hn
  have t3 : (nI a).toInt = if a < 2 ^ 31 then (a : Int) else (a : Int) - 2 ^ 32 := by
    rw [nI, Int32.toInt_ofNat']
    simp only [Int.bmod, Int32.size]
    split <;> split <;> omega
  rw [e] at t ⊢
  have n' : n % 2 ^ 32 = a := by
    rw [t2, t3] at t
    split at t <;> split at t <;> omega
  have m := wb_mask (n := n) (k := 32) hn (by omega)
  rw [n'] at m
  exact m
theorem zu_x {x : Int64} (h0 : 0 ≤ x.toInt) (h1 : x.toInt ≤ 4294967295) : z_u x.toInt32 = x := by
  obtain ⟨n, rfl, hn, hn3⟩ := li_of h0
  rw [lN_i]
  exact zu_l (by omega)
theorem zu_inj {u v : Int32} (h : z_u u = z_u v) : u = v := by
  obtain ⟨n1, l1, rfl⟩ := wb_of32 u
  obtain ⟨n2, l2, rfl⟩ := wb_of32 v
  have key : ∀ n, n < 2 ^ 32 → ((nI n).toInt64 &&& 4294967295).toInt32 = nI n := by
    intro n hn
    rw [Int64.toInt32_and, Int32.toInt32_toInt64]
    show nI n &&& (-1) = nI n
    exact Int32.and_neg_one
  rw [← key n1 l1, ← key n2 l2]
  exact congrArg Int64.toInt32 h
def r_ind (v : Int32) : Nat := if v = 0 then 0 else 1
theorem cnt_upd {us : Nat → Int32} {m e : Nat} {v : Int32} : ∀ j, r_cnt (upd us (4 * m + e) v) m j + (if e < j then r_ind (us (4 * m + e)) else 0) = r_cnt us m j + (if e < j then r_ind v else 0)
  | 0 => by rw [if_neg (by omega), if_neg (by omega)]; rfl
  | j + 1 => by
    have ih := cnt_upd (us := us) (m := m) (e := e) (v := v) j
    rw [r_cnt, r_cnt]
    by_cases c : e = j
    · subst c
      rw [if_neg (show ¬ e < e by omega), if_neg (show ¬ e < e by omega)] at ih
      rw [if_pos (show e < e + 1 by omega), if_pos (show e < e + 1 by omega), pk_us, show r_cnt (upd us (4 * m + e) v) m e = r_cnt us m e from ih]
      exact Nat.add_right_comm _ _ _
    · rw [pk_un (show 4 * m + j ≠ 4 * m + e by omega)]
      by_cases d : e < j
      · rw [if_pos d, if_pos d] at ih
        rw [if_pos (show e < j + 1 by omega), if_pos (show e < j + 1 by omega)]
        omega
      · rw [if_neg d, if_neg d] at ih
        rw [if_neg (show ¬ e < j + 1 by omega), if_neg (show ¬ e < j + 1 by omega)]
        omega
theorem cnt_ext {us us' : Nat → Int32} {m m' : Nat} : ∀ j, (∀ e, e < j → us' (4 * m' + e) = us (4 * m + e)) → r_cnt us' m' j = r_cnt us m j
  | 0, _ => rfl
  | j + 1, h => by rw [r_cnt, r_cnt, cnt_ext j (fun e he => h e (by omega)), h j (by omega)]
theorem cnt_le {us : Nat → Int32} {m : Nat} : ∀ j, r_cnt us m j ≤ j
  | 0 => Nat.le_refl _
  | j + 1 => by have := cnt_le (us := us) (m := m) j; rw [r_cnt]; split <;> omega
theorem cnt_full {us : Nat → Int32} {m : Nat} : ∀ j, r_cnt us m j = j → ∀ e, e < j → ¬ us (4 * m + e) = 0
  | 0, _, e, he => by omega
  | j + 1, h, e, he => by
    have l := cnt_le (us := us) (m := m) j
    rw [r_cnt] at h
    by_cases c : us (4 * m + j) = 0
    · rw [if_pos c] at h; omega
    · rw [if_neg c] at h
      by_cases d : e = j
      · rw [d]; exact c
      · exact cnt_full j (by omega) e (by omega)
theorem cnt_all {us : Nat → Int32} {m : Nat} : ∀ j, (∀ e, e < j → ¬ us (4 * m + e) = 0) → r_cnt us m j = j
  | 0, _ => rfl
  | j + 1, h => by rw [r_cnt, cnt_all j (fun e he => h e (by omega)), if_neg (h j (by omega))]
section RG
variable {us ky us' ky' : Nat → Int32} {sr ks vs sr' ks' vs' : Nat → Int64} {m c : Nat}
theorem m1_frame (h : r_m1 us ky sr ks vs m c) (h1 : ∀ e, e < 4 → us' (4 * m + e) = us (4 * m + e) ∧ ky' (4 * m + e) = ky (4 * m + e) ∧ ks' (4 * m + e) = ks (4 * m + e)) (h2 : ∀ e b, e < 4 → b < 2 → sr' (2 * (4 * m + e) + b) = sr (2 * (4 * m + e) + b) ∧ vs' (2 * (4 * m + e) + b) = vs (2 * (4 * m + e) + b)) : r_m1 us' ky' sr' ks' vs' m c := by
  obtain ⟨a1, a2, a3, a4, a5, a6, a7⟩ := h
  refine ⟨a1, ?_, ?_, ?_, ?_, ?_, ?_⟩
  · rw [cnt_ext 4 (fun e he => (h1 e he).1)]; exact a2
  · intro e he hu
    rw [(h1 e he).1] at hu
    obtain ⟨k, k1, k2⟩ := a3 e he hu
    exact ⟨k, k1, by rw [(h1 k (by omega)).2.2, (h1 e he).2.1]; exact k2⟩
  · intro k hk
    obtain ⟨e, e1, e2, e3⟩ := a4 k hk
    exact ⟨e, e1, by rw [(h1 e e1).1]; exact e2, by rw [(h1 k (by omega)).2.2, (h1 e e1).2.1]; exact e3⟩
  · intro e e' he he' hu hu' hk
    rw [(h1 e he).1] at hu
    rw [(h1 e' he').1] at hu'
    rw [(h1 e he).2.1, (h1 e' he').2.1] at hk
    exact a5 e e' he he' hu hu' hk
  · intro k k' hk hk' hh
    rw [(h1 k (by omega)).2.2, (h1 k' (by omega)).2.2] at hh
    exact a6 k k' hk hk' hh
  · intro e k b he hk hb hu hh
    rw [(h1 e he).1] at hu
    rw [(h1 k (by omega)).2.2, (h1 e he).2.1] at hh
    rw [(h2 e b he hb).1, (h2 k b (by omega) hb).2]
    exact a7 e k b he hk hb hu hh
theorem m1_sub (h : r_m1 us ky sr ks vs m c) {c' : Nat} {g : Nat → Nat} (hc' : c' ≤ 4) (hcnt : r_cnt us' m 4 = c') (hg : ∀ k, k < c' → g k < c ∧ ks' (4 * m + k) = ks (4 * m + g k) ∧ ∀ b, b < 2 → vs' (2 * (4 * m + k) + b) = vs (2 * (4 * m + g k) + b)) (hinj : ∀ k k', k < c' → k' < c' → g k = g k' → k = k')
    (hU : ∀ e, e < 4 → ¬ us' (4 * m + e) = 0 → ¬ us (4 * m + e) = 0 ∧ ∀ k, k < c → ks (4 * m + k) = z_u (ky (4 * m + e)) → ∃ k', k' < c' ∧ g k' = k) (hV : ∀ k', k' < c' → ∀ e, e < 4 → ¬ us (4 * m + e) = 0 → ks (4 * m + g k') = z_u (ky (4 * m + e)) → ¬ us' (4 * m + e) = 0) : r_m1 us' ky sr ks' vs' m c' := by
  obtain ⟨a1, a2, a3, a4, a5, a6, a7⟩ := h
  refine ⟨hc', hcnt, ?_, ?_, ?_, ?_, ?_⟩
  · intro e he hu
    obtain ⟨u1, u2⟩ := hU e he hu
    obtain ⟨k, k1, k2⟩ := a3 e he u1
    obtain ⟨k', k3, k4⟩ := u2 k k1 k2
    exact ⟨k', k3, by rw [(hg k' k3).2.1, k4]; exact k2⟩
  · intro k hk
    obtain ⟨g1, g2, g3⟩ := hg k hk
    obtain ⟨e, e1, e2, e3⟩ := a4 (g k) g1
    exact ⟨e, e1, hV k hk e e1 e2 e3, by rw [g2]; exact e3⟩
  · intro e e' he he' hu hu' hk
    exact a5 e e' he he' (hU e he hu).1 (hU e' he' hu').1 hk
  · intro k k' hk hk' hh
    rw [(hg k hk).2.1, (hg k' hk').2.1] at hh
    exact hinj k k' hk hk' (a6 _ _ (hg k hk).1 (hg k' hk').1 hh)
  · intro e k b he hk hb hu hh
    rw [(hg k hk).2.1] at hh
    rw [(hg k hk).2.2 b hb]
    exact a7 e (g k) b he (hg k hk).1 hb (hU e he hu).1 hh
theorem m1_del {e k : Nat} (h : r_m1 us ky sr ks vs m c) (he : e < 4) (hk : k < c) (hu : ¬ us (4 * m + e) = 0) (hm : ks (4 * m + k) = z_u (ky (4 * m + e))) : r_m1 (upd us (4 * m + e) 0) ky sr (vp_updL ks (4 * m + k) (ks (4 * m + (c - 1)))) (vp_updL (vp_updL vs (2 * (4 * m + k)) (vs (2 * (4 * m + (c - 1))))) (2 * (4 * m + k) + 1) (vp_updL vs (2 * (4 * m + k)) (vs (2 * (4 * m + (c - 1)))) (2 * (4 * m + (c - 1)) + 1))) m (c - 1) := by
  have h' := h
  obtain ⟨a1, a2, a3, a4, a5, a6, a7⟩ := h'
  have gk : ∀ k', k' < c - 1 → ∃ k'', k'' = (if k' = k then c - 1 else k') ∧ k'' < c ∧ k'' ≠ k := by
    intro k' hk'
    by_cases z : k' = k
    · exact ⟨c - 1, (if_pos z).symm, by omega, by omega⟩
    · exact ⟨k', (if_neg z).symm, by omega, z⟩
  refine m1_sub (g := fun k' => if k' = k then c - 1 else k') h (by omega) ?_ (fun k' hk' => ?_) (fun k1 k2 h1 h2 hh => ?_) (fun e' he' hu' => ?_) (fun k' hk' e' he' hu' hh => ?_)
  · have e1 := cnt_upd (us := us) (m := m) (e := e) (v := 0) 4
    rw [if_pos he, if_pos he, a2] at e1
    unfold r_ind at e1
    rw [if_neg hu, if_pos rfl] at e1
    omega
  · by_cases z : k' = k
    · subst z
      (try dsimp only)
      rw [if_pos rfl, pk_uLs]
      refine ⟨by omega, rfl, fun b hb => ?_⟩
      have : b = 0 ∨ b = 1 := by omega
      rcases this with rfl | rfl
      · rw [pk_uLn (by omega), Nat.add_zero, pk_uLs, Nat.add_zero]
      · rw [pk_uLs, pk_uLn (by omega)]
    · (try dsimp only)
      rw [if_neg z, pk_uLn (by omega)]
      refine ⟨by omega, rfl, fun b hb => ?_⟩
      rw [pk_uLn (by omega), pk_uLn (by omega)]
  · (try dsimp only at hh)
    by_cases z1 : k1 = k <;> by_cases z2 : k2 = k <;> simp only [z1, z2, if_true, if_false] at hh <;> omega
  · by_cases z : e' = e
    · rw [z, pk_us] at hu'; exact absurd rfl hu'
    · rw [pk_un (by omega)] at hu'
      refine ⟨hu', fun k0 h0 hh => ?_⟩
      have nk : k0 ≠ k := by
        intro y
        rw [y, hm] at hh
        exact z (a5 e' e he' he hu' hu (zu_inj hh).symm)
      by_cases y : k0 = c - 1
      · exact ⟨k, by omega, by (try dsimp only); rw [if_pos rfl, y]⟩
      · exact ⟨k0, by omega, by (try dsimp only); rw [if_neg nk]⟩
  · by_cases z : e' = e
    · rw [z] at hh
      obtain ⟨k'', q1, q2, q3⟩ := gk k' hk'
      (try dsimp only at hh)
      rw [← q1] at hh
      exact absurd (a6 k'' k q2 hk (hh.trans hm.symm)) q3
    · rw [pk_un (by omega)]; exact hu'
theorem m1_put {e k : Nat} {x a b : Int64} (h : r_m1 us ky sr ks vs m c) (he : e < 4) (hk : k < c) (hu : ¬ us (4 * m + e) = 0) (hx : ks (4 * m + k) = z_u (ky (4 * m + e))) (ha : 0 ≤ a.toInt ∧ a.toInt ≤ 4294967295) (hb : 0 ≤ b.toInt ∧ b.toInt ≤ 4294967295) :
    r_m1 (upd us (4 * m + e) 1) ky (vp_updL (vp_updL sr (2 * (4 * m + e)) a) (2 * (4 * m + e) + 1) b) ks (vp_updL (vp_updL vs (2 * (4 * m + k)) a) (2 * (4 * m + k) + 1) b) m c := by
  obtain ⟨a1, a2, a3, a4, a5, a6, a7⟩ := h
  have nz : ∀ e', ¬ upd us (4 * m + e) 1 (4 * m + e') = 0 ↔ ¬ us (4 * m + e') = 0 := by
    intro e'
    by_cases z : e' = e
    · rw [z, pk_us]; exact ⟨fun _ => hu, fun _ => by decide⟩
    · rw [pk_un (by omega)]
  refine ⟨a1, ?_, ?_, ?_, ?_, a6, ?_⟩
  · have e1 := cnt_upd (us := us) (m := m) (e := e) (v := 1) 4
    rw [if_pos he, if_pos he, a2] at e1
    unfold r_ind at e1
    rw [if_neg hu, if_neg (show ¬ (1 : Int32) = 0 by decide)] at e1
    omega
  · intro e' he' hu'; exact a3 e' he' ((nz e').mp hu')
  · intro k' hk'
    obtain ⟨e', e1, e2, e3⟩ := a4 k' hk'
    exact ⟨e', e1, (nz e').mpr e2, e3⟩
  · intro e1 e2 h1 h2 u1 u2 hh; exact a5 e1 e2 h1 h2 ((nz e1).mp u1) ((nz e2).mp u2) hh
  · intro e' k' b' he' hk' hb' hu' hh
    have hu2 := (nz e').mp hu'
    by_cases z : e' = e
    · subst z
      have ek : k' = k := a6 k' k hk' hk (hh.trans hx.symm)
      subst ek
      have : b' = 0 ∨ b' = 1 := by omega
      rcases this with rfl | rfl
      · simp only [Nat.add_zero]; rw [pk_uLn (by omega), pk_uLs, pk_uLn (by omega), pk_uLs]
        exact ⟨rfl, ha⟩
      · rw [pk_uLs, pk_uLs]
        exact ⟨rfl, hb⟩
    · have nk : k' ≠ k := by
        intro y
        rw [y, hx] at hh
        exact z (a5 e' e he' he hu2 hu (zu_inj hh).symm)
      rw [pk_uLn (by omega), pk_uLn (by omega), pk_uLn (by omega), pk_uLn (by omega)]
      exact a7 e' k' b' he' hk' hb' hu2 hh
theorem m1_new {e : Nat} {x32 : Int32} {a b : Int64} (h : r_m1 us ky sr ks vs m c) (hc : c < 4) (he : e < 4) (hu : us (4 * m + e) = 0) (hno : ∀ e', e' < 4 → ¬ us (4 * m + e') = 0 → ¬ ky (4 * m + e') = x32) (ha : 0 ≤ a.toInt ∧ a.toInt ≤ 4294967295) (hb : 0 ≤ b.toInt ∧ b.toInt ≤ 4294967295) :
    r_m1 (upd us (4 * m + e) 1) (upd ky (4 * m + e) x32) (vp_updL (vp_updL sr (2 * (4 * m + e)) a) (2 * (4 * m + e) + 1) b) (vp_updL ks (4 * m + c) (z_u x32)) (vp_updL (vp_updL vs (2 * (4 * m + c)) a) (2 * (4 * m + c) + 1) b) m (c + 1) := by
  obtain ⟨a1, a2, a3, a4, a5, a6, a7⟩ := h
  have kold : ∀ k, k < c → ¬ ks (4 * m + k) = z_u x32 := by
    intro k hk hh
    obtain ⟨e', e1, e2, e3⟩ := a4 k hk
    exact hno e' e1 e2 (zu_inj (e3.symm.trans hh))
  have uo : ∀ e', e' ≠ e → (upd us (4 * m + e) 1 (4 * m + e') = us (4 * m + e') ∧ upd ky (4 * m + e) x32 (4 * m + e') = ky (4 * m + e')) := fun e' z => ⟨pk_un (by omega), pk_un (by omega)⟩
  have ko : ∀ k, k < c → vp_updL ks (4 * m + c) (z_u x32) (4 * m + k) = ks (4 * m + k) := fun k hk => pk_uLn (by omega)
  refine ⟨by omega, ?_, ?_, ?_, ?_, ?_, ?_⟩
  · have e1 := cnt_upd (us := us) (m := m) (e := e) (v := 1) 4
    rw [if_pos he, if_pos he, a2] at e1
    unfold r_ind at e1
    rw [if_pos hu, if_neg (show ¬ (1 : Int32) = 0 by decide)] at e1
    omega
  · intro e' he' hu'
    by_cases z : e' = e
    · rw [z]; exact ⟨c, by omega, by rw [pk_uLs, pk_us]⟩
    · rw [(uo e' z).1] at hu'
      obtain ⟨k, k1, k2⟩ := a3 e' he' hu'
      exact ⟨k, by omega, by rw [ko k k1, (uo e' z).2]; exact k2⟩
  · intro k hk
    by_cases z : k = c
    · rw [z]; exact ⟨e, he, by rw [pk_us]; decide, by rw [pk_uLs, pk_us]⟩
    · obtain ⟨e', e1, e2, e3⟩ := a4 k (by omega)
      have ne : e' ≠ e := fun y => by rw [y] at e2; exact e2 hu
      exact ⟨e', e1, by rw [(uo e' ne).1]; exact e2, by rw [ko k (by omega), (uo e' ne).2]; exact e3⟩
  · intro e1 e2 h1 h2 u1 u2 hh
    by_cases z1 : e1 = e
    · by_cases z2 : e2 = e
      · rw [z1, z2]
      · rw [z1, pk_us, (uo e2 z2).2] at hh
        rw [(uo e2 z2).1] at u2
        exact absurd hh.symm (hno e2 h2 u2)
    · by_cases z2 : e2 = e
      · rw [z2, pk_us, (uo e1 z1).2] at hh
        rw [(uo e1 z1).1] at u1
        exact absurd hh (hno e1 h1 u1)
      · rw [(uo e1 z1).1] at u1
        rw [(uo e2 z2).1] at u2
        rw [(uo e1 z1).2, (uo e2 z2).2] at hh
        exact a5 e1 e2 h1 h2 u1 u2 hh
  · intro k1 k2 h1 h2 hh
    by_cases z1 : k1 = c
    · by_cases z2 : k2 = c
      · rw [z1, z2]
      · rw [z1, pk_uLs, ko k2 (by omega)] at hh
        exact absurd hh.symm (kold k2 (by omega))
    · by_cases z2 : k2 = c
      · rw [z2, pk_uLs, ko k1 (by omega)] at hh
        exact absurd hh (kold k1 (by omega))
      · rw [ko k1 (by omega), ko k2 (by omega)] at hh
        exact a6 k1 k2 (by omega) (by omega) hh
  · intro e' k' b' he' hk' hb' hu' hh
    by_cases z : e' = e
    · by_cases zk : k' = c
      · rw [z, zk]
        have : b' = 0 ∨ b' = 1 := by omega
        rcases this with rfl | rfl
        · simp only [Nat.add_zero]; rw [pk_uLn (by omega), pk_uLs, pk_uLn (by omega), pk_uLs]
          exact ⟨rfl, ha⟩
        · rw [pk_uLs, pk_uLs]
          exact ⟨rfl, hb⟩
      · rw [z, pk_us, ko k' (by omega)] at hh
        exact absurd hh (kold k' (by omega))
    · rw [(uo e' z).1] at hu'
      rw [(uo e' z).2] at hh
      by_cases zk : k' = c
      · rw [zk, pk_uLs] at hh
        exact absurd (zu_inj hh).symm (hno e' he' hu')
      · rw [ko k' (by omega)] at hh
        rw [pk_uLn (by omega), pk_uLn (by omega), pk_uLn (by omega), pk_uLn (by omega)]
        exact a7 e' k' b' he' (by omega) hb' hu' hh
end RG
end
section
/-! running: helpers -/
theorem ix4 (m e : Nat) : (4 : Int32) * nI m = nI (4 * m) := by rw [show (4 : Int32) = nI 4 from rfl, pk_mul]
theorem upL_upL {f : Nat → Int64} {k : Nat} {a b : Int64} : vp_updL (vp_updL f k a) k b = vp_updL f k b := by
  funext j
  by_cases e : j = k
  · rw [e, pk_uLs, pk_uLs]
  · rw [pk_uLn e, pk_uLn e, pk_uLn e]
section RH
variable {xw xfo xol xfa xpl : Int32} {xle xmo xlw xhg : Int64} {xk2 : Int32} {xl2 xh2 : Int64} {xln xst : Int32} {xop xd xs xsz xof xim xth xK : Nat → Int32} {xL xH : Nat → Int64} {xS xQ xF xM xG : Nat → Int32} {xrg xce : Nat → Int64} {xpk xus xky : Nat → Int32} {xsr : Nat → Int64}
theorem x_entryL {post : Int32 → Prop} {m : Nat} {key : Int32} (hm : m < 2) (hf : ∀ e, e < 4 → ¬ xus (4 * m + e) = 0 → xky (4 * m + e) = key → post (nI (4 * m + e))) (hn : (∀ e, e < 4 → ¬ xus (4 * m + e) = 0 → ¬ xky (4 * m + e) = key) → post (-1)) :
    ∀ (d j : Nat), j + d = 4 → (∀ e, e < j → ¬ xus (4 * m + e) = 0 → ¬ xky (4 * m + e) = key) → ∀ n, d < n → wX_entry_4 post (nI m) key xw xfo xol xfa xpl xle xmo xlw xhg xk2 xl2 xh2 xln xst xop xd xs xsz xof xim xth xK xL xH xS xQ xF xM xG xrg xce xpk xus xky xsr n (nI (4 * m + j)) := by
  have e4 : (4 : Int32) * nI m + 4 = nI (4 * m + 4) := by rw [ix4 m 0, show (4 : Int32) = nI 4 from rfl, nI_add]
  intro d
  induction d with
  | zero =>
    intro j hj hs n hn'
    obtain ⟨n, rfl⟩ : ∃ n', n = n' + 1 := ⟨n - 1, by omega⟩
    obtain rfl : j = 4 := by omega
    rw [wX_entry_4]
    exact br_t (by rw [e4]; exact nI_le (Nat.le_refl _) (by omega)) (hn hs)
  | succ d ih =>
    intro j hj hs n hn'
    obtain ⟨n, rfl⟩ : ∃ n', n = n' + 1 := ⟨n - 1, by omega⟩
    rw [wX_entry_4]
    have v : vp_in (nI (4 * m + j)) 8 := vp_in_nI (by omega) (by omega)
    have ei : (nI (4 * m + j)).toNatClampNeg = 4 * m + j := nI_clamp (by omega)
    have next : ((¬ xus (4 * m + j) = 0) → ¬ xky (4 * m + j) = key) → wX_entry_4 post (nI m) key xw xfo xol xfa xpl xle xmo xlw xhg xk2 xl2 xh2 xln xst xop xd xs xsz xof xim xth xK xL xH xS xQ xF xM xG xrg xce xpk xus xky xsr n (nI (4 * m + j + 1)) := fun hz => ih (j + 1) (by omega) (fun e he hu => by
      by_cases c : e = j
      · rw [c] at hu ⊢; exact hz hu
      · exact hs e (by omega) hu) n (by omega)
    refine br_f (by rw [e4]; exact nI_ge (by omega) (by omega)) ⟨v, ?_⟩
    rw [ei]
    exact br_c (fun z => nm_r (nI_1 _) (next (fun q => absurd z q))) (fun z => ⟨v, br_c (fun z1 => hf j (by omega) z z1) (fun z1 => nm_r (nI_1 _) (next (fun _ => z1)))⟩)
theorem x_entry {post : Int32 → Prop} {m : Nat} {key : Int32} (hm : m < 2) (hf : ∀ e, e < 4 → ¬ xus (4 * m + e) = 0 → xky (4 * m + e) = key → post (nI (4 * m + e))) (hn : (∀ e, e < 4 → ¬ xus (4 * m + e) = 0 → ¬ xky (4 * m + e) = key) → post (-1)) : wpX_entry post ((xw, xfo, xol, xfa, xpl, xle, xmo, xlw, xhg, xk2, xl2, xh2, xln, xst, xop, xd, xs, xsz, xof, xim, xth, xK, xL, xH, xS, xQ, xF, xM, xG, xrg, xce, xpk, xus, xky, xsr)) (nI m) key :=
  nm_r (ix4 m 0) ⟨5, x_entryL hm hf hn 4 0 (by omega) (fun e he => by omega) 5 (by omega)⟩
theorem x_freeL {post : SX → Prop} {m : Nat} (hm : m < 2) (hf : ∀ e, e < 4 → xus (4 * m + e) = 0 → (∀ e', e' < e → ¬ xus (4 * m + e') = 0) → wX_helper_113 post (nI (4 * m + e)) xw xfo xol xfa xpl xle xmo xlw xhg xk2 xl2 xh2 xln xst xop xd xs xsz xof xim xth xK xL xH xS xQ xF xM xG xrg xce xpk xus xky xsr) (hn : (∀ e, e < 4 → ¬ xus (4 * m + e) = 0) → wX_helper_113 post (-1) xw xfo xol xfa xpl xle xmo xlw xhg xk2 xl2 xh2 xln xst xop xd xs xsz xof xim xth xK xL xH xS xQ xF xM xG xrg xce xpk xus xky xsr) :
    ∀ (d j : Nat), j + d = 4 → (∀ e, e < j → ¬ xus (4 * m + e) = 0) → ∀ n, d + 1 < n → wX_helper_80 post (nI m) xw xfo xol xfa xpl xle xmo xlw xhg xk2 xl2 xh2 xln xst xop xd xs xsz xof xim xth xK xL xH xS xQ xF xM xG xrg xce xpk xus xky xsr n (-1) (nI (4 * m + j)) := by
  have e4 : (4 : Int32) * nI m + 4 = nI (4 * m + 4) := by rw [ix4 m 0, show (4 : Int32) = nI 4 from rfl, nI_add]
  intro d
  induction d with
  | zero =>
    intro j hj hs n hn'
    obtain ⟨n, rfl⟩ : ∃ n', n = n' + 1 := ⟨n - 1, by omega⟩
    obtain rfl : j = 4 := by omega
    rw [wX_helper_80]
    exact br_t (by rw [e4]; exact nI_le (Nat.le_refl _) (by omega)) (hn hs)
  | succ d ih =>
    intro j hj hs n hn'
    obtain ⟨n, rfl⟩ : ∃ n', n = n' + 1 := ⟨n - 1, by omega⟩
    rw [wX_helper_80]
    have v : vp_in (nI (4 * m + j)) 8 := vp_in_nI (by omega) (by omega)
    have ei : (nI (4 * m + j)).toNatClampNeg = 4 * m + j := nI_clamp (by omega)
    refine br_f (by rw [e4]; exact nI_ge (by omega) (by omega)) (br_f (by decide) ⟨v, ?_⟩)
    rw [ei]
    refine br_c (fun z => nm_r (nI_1 _) ?_) (fun z => nm_r (nI_1 _) (ih (j + 1) (by omega) (fun e he => ?_) n (by omega)))
    · obtain ⟨n, rfl⟩ : ∃ n', n = n' + 1 := ⟨n - 1, by omega⟩
      rw [wX_helper_80]
      have g := hf j (by omega) z hs
      exact br_c (fun _ => g) (fun _ => br_t (nI_pos' (by omega)) g)
    · by_cases c : e = j
      · rw [c]; exact z
      · exact hs e (by omega)
theorem x_h113 {post : SX → Prop} {e : Nat} (he : e < 8) (h : post ((xw, xfo, xol, xfa, xpl, xle, xmo, xlw, xhg, xk2, xl2, xh2, xln, xst, xop, xd, xs, xsz, xof, xim, xth, xK, xL, xH, xS, xQ, xF, xM, xG, vp_updL xrg 0 0, xce, xpk, upd xus e 1, upd xky e (xrg 1).toInt32, vp_updL (vp_updL xsr (2 * e) (xrg 2)) (2 * e + 1) (xrg 3)))) : wX_helper_113 post (nI e) xw xfo xol xfa xpl xle xmo xlw xhg xk2 xl2 xh2 xln xst xop xd xs xsz xof xim xth xK xL xH xS xQ xF xM xG xrg xce xpk xus xky xsr := by
  have p : (0 : Int32) ≤ nI e := nI_pos' (by omega)
  have v : vp_in (nI e) 8 := vp_in_nI he (by omega)
  have ei : (nI e).toNatClampNeg = e := nI_clamp (by omega)
  have e2 : (2 : Int32) * nI e = nI (2 * e) := by rw [show (2 : Int32) = nI 2 from rfl, pk_mul]
  have e21 : (2 : Int32) * nI e + 1 = nI (2 * e + 1) := by rw [e2, nI_1]
  have v2 : vp_in (2 * nI e) 16 := by rw [e2]; exact vp_in_nI (by omega) (by omega)
  have v21 : vp_in (2 * nI e + 1) 16 := by rw [e21]; exact vp_in_nI (by omega) (by omega)
  refine br_t p ⟨vp_in_nI (n := 0) (by omega) (by omega), nm_r (e' := vp_updL xrg 0 0) rfl (br_t p ⟨v, nm_r (by rw [ei, nb_1]) ⟨v, nm_r (by rw [ei, pk_uLn (by omega)]) ⟨v2, nm_r (by rw [e2, nI_clamp (by omega), pk_uLn (by omega)]) ⟨v21, nm_r (by rw [e21, nI_clamp (by omega), pk_uLn (by omega)]) h⟩⟩⟩⟩)⟩
theorem x_h113n {post : SX → Prop} (h : post ((xw, xfo, xol, xfa, xpl, xle, xmo, xlw, xhg, xk2, xl2, xh2, xln, xst, xop, xd, xs, xsz, xof, xim, xth, xK, xL, xH, xS, xQ, xF, xM, xG, vp_updL xrg 0 1, xce, xpk, xus, xky, xsr))) : wX_helper_113 post (-1) xw xfo xol xfa xpl xle xmo xlw xhg xk2 xl2 xh2 xln xst xop xd xs xsz xof xim xth xK xL xH xS xQ xF xM xG xrg xce xpk xus xky xsr :=
  br_f (by decide) ⟨vp_in_nI (n := 0) (by omega) (by omega), nm_r (e' := vp_updL xrg 0 1) rfl (br_f (by decide) h)⟩
end RH
section RHY
variable {ypl : Int32} {yle ymo ysm ygr : Int64} {yw yfa yb yok : Int32} {yol yoh ylw yhg : Int64} {yby yst : Int32} {yop yd ys yof yim ysz yth yK : Nat → Int32} {yL yH : Nat → Int64} {yat yQ yS yM ytg : Nat → Int32} {ywd : Nat → Int64} {ypk : Nat → Int32} {yks yvs : Nat → Int64} {ymn : Nat → Int32}
theorem y_findL {post : Int32 → Prop} {m c : Nat} {key : Int64} (hm : m < 2) (hmn : ymn m = nI c) (hc : c ≤ 4) (hf : ∀ k, k < c → yks (4 * m + k) = key → post (nI (4 * m + k))) (hn : (∀ k, k < c → ¬ yks (4 * m + k) = key) → post (-1)) :
    ∀ (d j : Nat), j + d = c → (∀ k, k < j → ¬ yks (4 * m + k) = key) → ∀ n, d < n → wY_find_5 post (nI m) key ypl yle ymo ysm ygr yw yfa yb yok yol yoh ylw yhg yby yst yop yd ys yof yim ysz yth yK yL yH yat yQ yS yM ytg ywd ypk yks yvs ymn n (nI (4 * m + j)) := by
  have em : (nI m).toNatClampNeg = m := nI_clamp (by omega)
  have vm : vp_in (nI m) 2 := vp_in_nI hm (by omega)
  have e4 : (4 : Int32) * nI m + ymn (nI m).toNatClampNeg = nI (4 * m + c) := by rw [em, hmn, ix4 m 0, nI_add]
  intro d
  induction d with
  | zero =>
    intro j hj hs n hn'
    obtain ⟨n, rfl⟩ : ∃ n', n = n' + 1 := ⟨n - 1, by omega⟩
    obtain rfl : j = c := by omega
    rw [wY_find_5]
    exact ⟨vm, br_t (by rw [e4]; exact nI_le (Nat.le_refl _) (by omega)) (hn hs)⟩
  | succ d ih =>
    intro j hj hs n hn'
    obtain ⟨n, rfl⟩ : ∃ n', n = n' + 1 := ⟨n - 1, by omega⟩
    rw [wY_find_5]
    have v : vp_in (nI (4 * m + j)) 8 := vp_in_nI (by omega) (by omega)
    have ei : (nI (4 * m + j)).toNatClampNeg = 4 * m + j := nI_clamp (by omega)
    refine ⟨vm, br_f (by rw [e4]; exact nI_ge (by omega) (by omega)) ⟨v, ?_⟩⟩
    rw [ei]
    refine br_c (fun z => hf j (by omega) z) (fun z => nm_r (nI_1 _) (ih (j + 1) (by omega) (fun k hk => ?_) n (by omega)))
    by_cases c : k = j
    · rw [c]; exact z
    · exact hs k (by omega)
theorem y_find {post : Int32 → Prop} {m c : Nat} {key : Int64} (hm : m < 2) (hmn : ymn m = nI c) (hc : c ≤ 4) (hf : ∀ k, k < c → yks (4 * m + k) = key → post (nI (4 * m + k))) (hn : (∀ k, k < c → ¬ yks (4 * m + k) = key) → post (-1)) : wpY_find post ((ypl, yle, ymo, ysm, ygr, yw, yfa, yb, yok, yol, yoh, ylw, yhg, yby, yst, yop, yd, ys, yof, yim, ysz, yth, yK, yL, yH, yat, yQ, yS, yM, ytg, ywd, ypk, yks, yvs, ymn)) (nI m) key :=
  nm_r (ix4 m 0) ⟨5, y_findL hm hmn hc hf hn c 0 (by omega) (fun e he => by omega) 5 (by omega)⟩
theorem y_u46 {post : SY → Prop} {p : Int32} {k : Nat} (hp : p = nI k) (hk : k < 8) (h : post ((ypl, yle, ymo, ysm, ygr, yw, yfa, yb, yok, yol, yoh, ylw, yhg, yby, yst, yop, yd, ys, yof, yim, ysz, yth, yK, yL, yH, yat, yQ, yS, yM, ytg, ywd, ypk, vp_updL yks k (ywd 1), vp_updL (vp_updL yvs (2 * k) (ywd 2)) (2 * k + 1) (ywd 3), ymn))) : wY_update_46 post p ypl yle ymo ysm ygr yw yfa yb yok yol yoh ylw yhg yby yst yop yd ys yof yim ysz yth yK yL yH yat yQ yS yM ytg ywd ypk yks yvs ymn := by
  subst hp
  have v : vp_in (nI k) 8 := vp_in_nI hk (by omega)
  have ei : (nI k).toNatClampNeg = k := nI_clamp (by omega)
  have e2 : (2 : Int32) * nI k = nI (2 * k) := by rw [show (2 : Int32) = nI 2 from rfl, pk_mul]
  have e21 : (2 : Int32) * nI k + 1 = nI (2 * k + 1) := by rw [e2, nI_1]
  have v2 : vp_in (2 * nI k) 16 := by rw [e2]; exact vp_in_nI (by omega) (by omega)
  have v21 : vp_in (2 * nI k + 1) 16 := by rw [e21]; exact vp_in_nI (by omega) (by omega)
  exact ⟨v, nm_r (by rw [ei]) ⟨v2, nm_r (by rw [e2, nI_clamp (by omega)]) ⟨v21, nm_r (by rw [e21, nI_clamp (by omega)]) h⟩⟩⟩
end RHY
end
section
/-! running: helpers, the step -/
theorem st_kill {q q' : Option (Nat × Nat)} {ln : Nat} {f : Nat → zV} {rg ce wd : Nat → Int64} {tg : Nat → Int32} (h : r_st q ln f rg ce tg wd) : r_st q' ln (z_kill f) rg ce tg wd := by
  intro k hk
  show r_v q' ln (if (0 < k ∧ k < 6) ∨ (f k).1 = 5 ∨ (f k).1 = 6 then (0, 0, 0) else f k) _ _ _
  by_cases c : (0 < k ∧ k < 6) ∨ (f k).1 = 5 ∨ (f k).1 = 6
  · rw [if_pos c]; exact rv_0 rfl
  · rw [if_neg c]; exact rv_q (h k hk) (fun z => c (Or.inr (Or.inl z))) (fun z => c (Or.inr (Or.inr z)))
theorem map_upd {us ky us' ky' : Nat → Int32} {sr ks vs sr' ks' vs' : Nat → Int64} {mn mn' : Nat → Int32} {m c' : Nat} (h : r_map us ky sr ks vs mn) (hm : m < 2) (h1 : r_m1 us' ky' sr' ks' vs' m c') (h2 : mn' m = nI c') (h3 : ∀ m', m' ≠ m → mn' m' = mn m') (f1 : ∀ j, (j < 4 * m ∨ 4 * m + 4 ≤ j) → us' j = us j ∧ ky' j = ky j ∧ ks' j = ks j) (f2 : ∀ j, (j < 8 * m ∨ 8 * m + 8 ≤ j) → sr' j = sr j ∧ vs' j = vs j) : r_map us' ky' sr' ks' vs' mn' := by
  intro m' hm'
  by_cases e : m' = m
  · rw [e]; exact ⟨c', h2, h1⟩
  · obtain ⟨c, a1, a2⟩ := h m' hm'
    exact ⟨c, (h3 m' e).trans a1, m1_frame a2 (fun e he => f1 _ (by omega)) (fun e b he hb => f2 _ (by omega))⟩
section RI
variable {xw xfo xol xfa xpl : Int32} {xle xmo xlw xhg : Int64} {xk2 : Int32} {xl2 xh2 : Int64} {xln xst : Int32} {xop xd xs xsz xof xim xth xK : Nat → Int32} {xL xH : Nat → Int64} {xS xQ xF xM xG : Nat → Int32} {xrg xce : Nat → Int64} {xpk xus xky : Nat → Int32} {xsr : Nat → Int64}
variable {ypl : Int32} {yle ymo ysm ygr : Int64} {yw yfa yb yok : Int32} {yol yoh ylw yhg : Int64} {yby yst : Int32} {yop yd ys yof yim ysz yth yK : Nat → Int32} {yL yH : Nat → Int64} {yat yQ yS yM ytg : Nat → Int32} {ywd : Nat → Int64} {ypk : Nat → Int32} {yks yvs : Nat → Int64} {ymn : Nat → Int32}
theorem r_hlp {Q : Nat → zA → Prop} {c : zC} {p i ln : Nat} {q : Option (Nat × Nat)} {f : Nat → zV} {sf lk : Int32} (hx : x_at (40 * p + i) xop xd xs xof xim c) (hy : x_at (40 * p + i) yop yd ys yof yim c) (hc : z_cw c) (hp : p ≤ 1) (hi : i < 40) (hS : r_S q ln (f, sf, lk) xrg xce xus xky xsr ytg ywd yks yvs ymn) (hwf : z_wf i (f, sf, lk)) (hln : ln ≤ 24) (ho : c.1 = 50 ∨ c.1 = 51 ∨ c.1 = 52) (hok : z_okQ Q (z_hlp c.1 i c.2.2.2.2 f sf lk)) : (∃ (j : Nat) (B : zA) (rg ce : Nat → Int64) (us ky : Nat → Int32) (sr : Nat → Int64) (tg : Nat → Int32) (wd ks vs : Nat → Int64) (mn : Nat → Int32) (q' : Option (Nat × Nat)), Q j B ∧ r_S q' ln B rg ce us ky sr tg wd ks vs mn ∧ (∀ (post : Int64 → SX → Prop) (k : Nat), wX_run_60 post k (nI (40 * p + j)) xw xfo xol xfa xpl xle xmo xlw xhg xk2 xl2 xh2 xln (xst + 1) xop xd xs xsz xof xim xth xK xL xH xS xQ xF xM xG rg ce xpk us ky sr → wX_run_60 post (k + 1) (nI (40 * p + i)) xw xfo xol xfa xpl xle xmo xlw xhg xk2 xl2 xh2 xln xst xop xd xs xsz xof xim xth xK xL xH xS xQ xF xM xG xrg xce xpk xus xky xsr) ∧ (∀ (post : Int64 → SY → Prop) (k : Nat), wY_run_72 post (nI p) k (nI j) ypl yle ymo ysm ygr yw yfa yb yok yol yoh ylw yhg yby (yst + 1) yop yd ys yof yim ysz yth yK yL yH yat yQ yS yM tg wd ypk ks vs mn → wY_run_72 post (nI p) (k + 1) (nI i) ypl yle ymo ysm ygr yw yfa yb yok yol yoh ylw yhg yby yst yop yd ys yof yim ysz yth yK yL yH yat yQ yS yM ytg ywd ypk yks yvs ymn)) := by
  obtain ⟨o, d, s, off, im⟩ := c
  obtain ⟨hn, hd, hs⟩ := hc
  obtain ⟨x1, x2, x3, x4, x5⟩ := hx
  obtain ⟨y1, y2, y3, y4, y5⟩ := hy
  dsimp only at *
  obtain ⟨⟨hst0, a, ha, ea⟩, hmap, hmt⟩ := hS
  have hst : r_st q ln f xrg xce ytg ywd := hst0
  have vc : vp_in (nI (40 * p + i)) 120 := vp_in_nI (by omega) (by omega)
  have ec : (nI (40 * p + i)).toNatClampNeg = 40 * p + i := nI_clamp (by omega)
  unfold z_hlp at hok
  by_cases c1 : im < 0 ∨ ¬ im ≤ 1
  · rw [if_pos c1] at hok; exact okF hok
  rw [if_neg c1] at hok
  by_cases c2 : (f 1).1 = 0 ∨ (o = 51 ∧ ((f 2).1 = 0 ∨ (f 3).1 = 0))
  · rw [if_pos c2] at hok; exact okF hok
  rw [if_neg c2] at hok
  by_cases c3 : ¬ (f 1).1 = 1 ∨ (o = 51 ∧ (¬ (f 2).1 = 1 ∨ ¬ (f 3).1 = 1))
  · rw [if_pos c3] at hok; exact okF hok
  rw [if_neg c3] at hok
  have k1 : (f 1).1 = 1 := Classical.byContradiction fun z => c3 (Or.inl z)
  have sc : ∀ r, r < 8 → (f r).1 = 1 → ywd r = xrg r ∧ 0 ≤ (xrg r).toInt ∧ (xrg r).toInt ≤ 4294967295 := by
    intro r hr h1
    obtain ⟨_, b, c, d⟩ := (st_reg hst hr).1 h1
    have vr : z_vw i lk (f r) := hwf.1 r
    have v := vw_1 vr h1
    exact ⟨b, by omega, by omega⟩
  obtain ⟨w1, r10, r11⟩ := sc 1 (by omega) k1
  obtain ⟨m, hm1, em⟩ : ∃ m, m ≤ 1 ∧ im = nI m := nI_of2 (M := 1) (n := 1) (by decide) (fun z => c1 (Or.inl z)) (Classical.byContradiction fun z => c1 (Or.inr z))
  have hm : m < 2 := by omega
  have emc : (nI m).toNatClampNeg = m := nI_clamp (by omega)
  have vm : vp_in (nI m) 2 := vp_in_nI hm (by omega)
  obtain ⟨cc, hcc, hm1'⟩ := hmap m hm
  have M := hm1'
  obtain ⟨a1, a2, a3, a4, a5, a6, a7⟩ := M
  have ux : z_u (xrg 1).toInt32 = xrg 1 := zu_x r10 r11
  have goX : ∀ (post : Int64 → SX → Prop) (k : Nat), wpX_helper (fun u => match u with | (xw, xfo, xol, xfa, xpl, xle, xmo, xlw, xhg, xk2, xl2, xh2, xln, xst, xop, xd, xs, xsz, xof, xim, xth, xK, xL, xH, xS, xQ, xF, xM, xG, xrg, xce, xpk, xus, xky, xsr) => wX_run_60 post k (nI (40 * p + i) + 1) xw xfo xol xfa xpl xle xmo xlw xhg xk2 xl2 xh2 xln xst xop xd xs xsz xof xim xth xK xL xH xS xQ xF xM xG xrg xce xpk xus xky xsr) ((xw, xfo, xol, xfa, xpl, xle, xmo, xlw, xhg, xk2, xl2, xh2, xln, xst + 1, xop, xd, xs, xsz, xof, xim, xth, xK, xL, xH, xS, xQ, xF, xM, xG, xrg, xce, xpk, xus, xky, xsr)) (nI o) (nI m) → wX_run_60 post (k + 1) (nI (40 * p + i)) xw xfo xol xfa xpl xle xmo xlw xhg xk2 xl2 xh2 xln xst xop xd xs xsz xof xim xth xK xL xH xS xQ xF xM xG xrg xce xpk xus xky xsr := by
    intro post k h
    have n40 : ¬ nI o = 40 := fun z => by have := (nI_eq (b := 40) (by omega) (by omega)).mp z; omega
    have n41 : ¬ nI o = 41 := fun z => by have := (nI_eq (b := 41) (by omega) (by omega)).mp z; omega
    have n42 : ¬ nI o = 42 := fun z => by have := (nI_eq (b := 42) (by omega) (by omega)).mp z; omega
    refine x_run1 (by omega) x1 (by omega) (x_ex114 (by omega) x1 x2 (by omega) (by omega) (br_t (nI_le (a := 20) (by omega) (by omega)) (br_f n40 (br_f n41 (br_f n42 ⟨vc, ?_⟩)))))
    rw [ec, x5, em]
    exact h
  have goY : ∀ (post : Int64 → SY → Prop) (k : Nat), wpY_maps (fun u => match u with | (ypl, yle, ymo, ysm, ygr, yw, yfa, yb, yok, yol, yoh, ylw, yhg, yby, yst, yop, yd, ys, yof, yim, ysz, yth, yK, yL, yH, yat, yQ, yS, yM, ytg, ywd, ypk, yks, yvs, ymn) => ∀ s : Int32, s = yst + 1 → wY_run_72 post (nI p) k (nI i + 1) ypl yle ymo ysm ygr yw yfa yb yok yol yoh ylw yhg yby s yop yd ys yof yim ysz yth yK yL yH yat yQ yS yM ytg ywd ypk yks yvs ymn) ((ypl, yle, ymo, ysm, ygr, yw, yfa, yb, yok, yol, yoh, ylw, yhg, yby, yst, yop, yd, ys, yof, yim, ysz, yth, yK, yL, yH, yat, yQ, yS, yM, ytg, ywd, ypk, yks, yvs, ymn)) (nI o) (nI m) → wY_run_72 post (nI p) (k + 1) (nI i) ypl yle ymo ysm ygr yw yfa yb yok yol yoh ylw yhg yby yst yop yd ys yof yim ysz yth yK yL yH yat yQ yS yM ytg ywd ypk yks yvs ymn := by
    intro post k h
    have n20 : ¬ nI o = 20 := fun z => by have := (nI_eq (b := 20) (by omega) (by omega)).mp z; omega
    have n40 : ¬ nI o = 40 := fun z => by have := (nI_eq (b := 40) (by omega) (by omega)).mp z; omega
    have n41 : ¬ nI o = 41 := fun z => by have := (nI_eq (b := 41) (by omega) (by omega)).mp z; omega
    have n42 : ¬ nI o = 42 := fun z => by have := (nI_eq (b := 42) (by omega) (by omega)).mp z; omega
    refine y_run1 (by omega) y1 (by omega) (y_stp (by omega) y1 y2 y3 y5 (by omega) hs (br_t (nI_le (a := 20) (by omega) (by omega)) (br_f n20 (br_t (nI_le (a := 40) (by omega) (by omega)) (br_f n40 (br_f n41 (br_f n42 ⟨vc, ?_⟩)))))))
    rw [ec, y5, em]
    exact h
  have finY : ∀ (post : Int64 → SY → Prop) (k : Nat) (tg : Nat → Int32) (wd ks vs : Nat → Int64) (mn : Nat → Int32), wY_run_72 post (nI p) k (nI (i + 1)) ypl yle ymo ysm ygr yw yfa yb yok yol yoh ylw yhg yby (yst + 1) yop yd ys yof yim ysz yth yK yL yH yat yQ yS yM tg wd ypk ks vs mn → ∀ s : Int32, s = yst + 1 → wY_run_72 post (nI p) k (nI i + 1) ypl yle ymo ysm ygr yw yfa yb yok yol yoh ylw yhg yby s yop yd ys yof yim ysz yth yK yL yH yat yQ yS yM tg wd ypk ks vs mn := by
    intro post k tg wd ks vs mn h s hs
    subst hs
    rw [nI_1 i]
    exact h
  have finX : ∀ (post : Int64 → SX → Prop) (k : Nat) (rg : Nat → Int64) (us ky : Nat → Int32) (sr : Nat → Int64), wX_run_60 post k (nI (40 * p + (i + 1))) xw xfo xol xfa xpl xle xmo xlw xhg xk2 xl2 xh2 xln (xst + 1) xop xd xs xsz xof xim xth xK xL xH xS xQ xF xM xG rg xce xpk us ky sr → wX_run_60 post k (nI (40 * p + i) + 1) xw xfo xol xfa xpl xle xmo xlw xhg xk2 xl2 xh2 xln (xst + 1) xop xd xs xsz xof xim xth xK xL xH xS xQ xF xM xG rg xce xpk us ky sr := by
    intro post k rg us ky sr h
    rw [nI_1]
    exact h
  have sc01 : ∀ v : Int64, (v = 0 ∨ v = 1) → r_st none ln (z_set (z_kill f) 0 (1, 0, 1)) (vp_updL xrg 0 v) xce (upd ytg 0 1) (vp_updL ywd 0 v) := by
    intro v hv
    refine st_setR (st_kill hst) (by omega) (rv_1 rfl ?_)
    rcases hv with rfl | rfl <;> decide
  have nq : ∀ {us ky ks mn} (e k : Nat), (none : Option (Nat × Nat)) = some (e, k) → r_mt us ky ks mn e k := fun e k z => by cases z
  have o50 : nI o = 50 ↔ o = 50 := nI_eq (b := 50) (by omega) (by omega)
  have o51 : nI o = 51 ↔ o = 51 := nI_eq (b := 51) (by omega) (by omega)
  have o52 : nI o = 52 ↔ o = 52 := nI_eq (b := 52) (by omega) (by omega)
  by_cases fnd : ∃ e, e < 4 ∧ ¬ xus (4 * m + e) = 0 ∧ xky (4 * m + e) = (xrg 1).toInt32
  · obtain ⟨e, he, hu, hky⟩ := fnd
    obtain ⟨k, hk, hks⟩ := a3 e he hu
    have hks1 : yks (4 * m + k) = xrg 1 := by rw [hks, hky, ux]
    have xe : ∀ {post : Int32 → Prop} {st : Int32}, post (nI (4 * m + e)) → wpX_entry post ((xw, xfo, xol, xfa, xpl, xle, xmo, xlw, xhg, xk2, xl2, xh2, xln, st, xop, xd, xs, xsz, xof, xim, xth, xK, xL, xH, xS, xQ, xF, xM, xG, xrg, xce, xpk, xus, xky, xsr)) (nI m) (xrg 1).toInt32 := by
      intro post st h
      refine x_entry hm (fun e' he' hu' hk' => ?_) (fun z => absurd hky (z e he hu))
      rw [a5 e' e he' he hu' hu (hk'.trans hky.symm)]; exact h
    have yf : ∀ {post : Int32 → Prop}, post (nI (4 * m + k)) → wpY_find post ((ypl, yle, ymo, ysm, ygr, yw, yfa, yb, yok, yol, yoh, ylw, yhg, yby, yst, yop, yd, ys, yof, yim, ysz, yth, yK, yL, yH, yat, yQ, yS, yM, ytg, ywd, ypk, yks, yvs, ymn)) (nI m) (ywd 1) := by
      intro post h
      refine y_find hm hcc a1 (fun k' hk' hh => ?_) (fun z => absurd (hks1.trans w1.symm) (z k hk))
      rw [a6 k' k hk' hk (hh.trans (w1.trans hks1.symm))]; exact h
    have pe : (0 : Int32) ≤ nI (4 * m + e) := nI_pos' (by omega)
    have pk : (0 : Int32) ≤ nI (4 * m + k) := nI_pos' (by omega)
    rcases ho with h50 | h51 | h52
    · rw [if_pos h50] at hok
      have ex : (2199023255552 : Int64) + ((2 : Int32) * nI (4 * m + e)).toInt64 = 2199023255552 + lN (2 * (4 * m + e)) := by rw [show (2 : Int32) = nI 2 from rfl, pk_mul, nI_l (by omega)]
      have ey : ((100 : Int32) * (8 + nI (4 * m + k))).toInt64 = lN (100 * (8 + (4 * m + k))) := by rw [show (8 : Int32) = nI 8 from rfl, nI_add, show (100 : Int32) = nI 100 from rfl, pk_mul, nI_l (by omega)]
      refine ⟨i + 1, _, _, xce, xus, xky, xsr, _, _, yks, yvs, ymn, some (4 * m + e, 4 * m + k), hok, ⟨⟨st_setR (st_kill hst) (by omega) (x := 2199023255552 + lN (2 * (4 * m + e))) (t := 5) (y := lN (100 * (8 + (4 * m + k)))) (rv_6 rfl (Or.inr ⟨_, _, rfl, rfl, rfl, rfl⟩)), a, ha, ea⟩, hmap, fun e' k' z => ?_⟩, fun post k' h => goX post k' ?_, fun post k' h => goY post k' ?_⟩
      · injection z with z
        injection z with z1 z2
        subst z1
        subst z2
        exact ⟨m, e, k, cc, hm, he, hk, a1, hcc, rfl, rfl, hu, hks⟩
      · unfold wpX_helper
        refine xe ?_
        exact br_t (o50.mpr h50) (br_t pe (nm_r (by rw [ex]) (finX post k' _ _ _ _ h)))
      · unfold wpY_maps
        refine yf ?_
        refine br_t (o50.mpr h50) (br_t pk ?_)
        rw [ey]
        exact y_hold (r := 0) rfl (by omega) kb_01.2.2.2.2.2.1 (finY post k' _ _ _ _ _ h)
    · rw [if_neg (by omega)] at hok
      have k2 : (f 2).1 = 1 := Classical.byContradiction fun z => c3 (Or.inr ⟨h51, Or.inl z⟩)
      have k3 : (f 3).1 = 1 := Classical.byContradiction fun z => c3 (Or.inr ⟨h51, Or.inr z⟩)
      obtain ⟨w2, r20, r21⟩ := sc 2 (by omega) k2
      obtain ⟨w3, r30, r31⟩ := sc 3 (by omega) k3
      refine ⟨i + 1, _, _, xce, upd xus (4 * m + e) 1, xky, _, _, _, yks, _, ymn, none, hok, ⟨⟨sc01 0 (Or.inl rfl), a, ha, ea⟩, map_upd (c' := cc) (sr' := vp_updL (vp_updL xsr (2 * (4 * m + e)) (xrg 2)) (2 * (4 * m + e) + 1) (xrg 3)) (vs' := vp_updL (vp_updL yvs (2 * (4 * m + k)) (xrg 2)) (2 * (4 * m + k) + 1) (xrg 3)) hmap hm (m1_put (x := 0) hm1' he hk hu hks ⟨r20, r21⟩ ⟨r30, r31⟩) hcc (fun _ _ => rfl) (fun j hj => ⟨pk_un (by omega), rfl, rfl⟩) (fun j hj => ⟨?_, ?_⟩), nq⟩, fun post k' h => goX post k' ?_, fun post k' h => goY post k' ?_⟩
      · rw [pk_uLn (by omega), pk_uLn (by omega)]
      · rw [pk_uLn (by omega), pk_uLn (by omega)]
      · unfold wpX_helper
        refine xe ?_
        refine br_f (fun z => by have := o50.mp z; omega) (br_f (fun z => by have := o52.mp z; omega) (nm_e ⟨1, ?_⟩))
        rw [wX_helper_80]
        have g : wX_helper_113 (fun u => match u with | (xw, xfo, xol, xfa, xpl, xle, xmo, xlw, xhg, xk2, xl2, xh2, xln, xst, xop, xd, xs, xsz, xof, xim, xth, xK, xL, xH, xS, xQ, xF, xM, xG, xrg, xce, xpk, xus, xky, xsr) => wX_run_60 post k' (nI (40 * p + i) + 1) xw xfo xol xfa xpl xle xmo xlw xhg xk2 xl2 xh2 xln xst xop xd xs xsz xof xim xth xK xL xH xS xQ xF xM xG xrg xce xpk xus xky xsr) (nI (4 * m + e)) xw xfo xol xfa xpl xle xmo xlw xhg xk2 xl2 xh2 xln (xst + 1) xop xd xs xsz xof xim xth xK xL xH xS xQ xF xM xG xrg xce xpk xus xky xsr := by
          refine x_h113 (by omega) ?_
          rw [up_id hky]
          exact finX post k' _ _ _ _ h
        exact br_c (fun _ => g) (fun _ => br_t pe g)
      · unfold wpY_maps
        refine yf ?_
        refine br_f (fun z => by have := o50.mp z; omega) (y_hold (r := 0) rfl (by omega) kb_01.2.1 (br_t (o51.mpr h51) (br_t pk (br_t pk (y_u46 rfl (by omega) ?_)))))
        rw [pk_uLn (by omega), pk_uLn (by omega), pk_uLn (by omega), w1, w2, w3, upL_id hks1]
        exact finY post k' _ _ _ _ _ h
    · rw [if_neg (by omega)] at hok
      have c1' : 1 ≤ cc := by omega
      obtain ⟨c0, rfl⟩ : ∃ c0, cc = c0 + 1 := ⟨cc - 1, by omega⟩
      have D := m1_del hm1' he hk hu hks
      rw [Nat.add_sub_cancel] at D
      have emn : ymn (nI m).toNatClampNeg - 1 = nI c0 := by rw [emc, hcc, nI_pred]
      have kb0 : z_kb (nI c0) := kb_nI (by omega)
      have e4 : (4 : Int32) * nI m + nI c0 = nI (4 * m + c0) := by rw [ix4 m 0, nI_add]
      have tw : ∀ z : Nat, (2 : Int32) * nI z = nI (2 * z) := fun z => by rw [show (2 : Int32) = nI 2 from rfl, pk_mul]
      refine ⟨i + 1, _, _, xce, upd xus (4 * m + e) 0, xky, xsr, _, _, _, _, upd ymn m (nI c0), none, hok, ⟨⟨sc01 1 (Or.inr rfl), a, ha, ea⟩, map_upd (c' := c0) hmap hm D pk_us (fun m' hm' => pk_un hm') (fun j hj => ⟨pk_un (by omega), rfl, pk_uLn (by omega)⟩) (fun j hj => ⟨rfl, ?_⟩), nq⟩, fun post k' h => goX post k' ?_, fun post k' h => goY post k' ?_⟩
      · rw [pk_uLn (by omega), pk_uLn (by omega)]
      · unfold wpX_helper
        refine xe ?_
        refine br_f (fun z => by have := o50.mp z; omega) (br_t (o52.mpr h52) (br_f (Int32.not_lt.mpr pe) ⟨vp_in_nI (by omega) (by omega), nm_r (e' := upd xus (4 * m + e) 0) (by rw [nI_clamp (by omega), nb_0]) (br_t pe (nm_e (finX post k' _ _ _ _ h)))⟩))
      · unfold wpY_maps
        refine yf ?_
        have v8 : ∀ z : Nat, z < 8 → vp_in (nI z) 8 := fun z hz => vp_in_nI hz (by omega)
        have v16 : ∀ z : Nat, z < 16 → vp_in (nI z) 16 := fun z hz => vp_in_nI hz (by omega)
        refine br_f (fun z => by have := o50.mp z; omega) (y_hold (r := 0) rfl (by omega) kb_01.2.1 (br_f (fun z => by have := o51.mp z; omega) (br_t pk (nm_r (e' := vp_updL ywd 0 1) upL_upL ⟨vm, vm, nm_r (e' := upd ymn m (nI c0)) (by rw [emn, emc, show vp_nar .byte (nI c0).toInt8.toInt32 = nI c0 from kb0]) (nm_r (e' := nI (4 * m + c0)) (by rw [emn, kb_raw kb0, e4]) ⟨v8 _ (by omega), v8 _ (by omega), nm_r (by rw [nI_clamp (by omega), nI_clamp (by omega)]) ?_⟩)⟩))))
        rw [tw, tw, nI_1, nI_1]
        refine ⟨v16 _ (by omega), v16 _ (by omega), nm_r (by rw [nI_clamp (by omega), nI_clamp (by omega)]) ⟨v16 _ (by omega), v16 _ (by omega), nm_r (by rw [nI_clamp (by omega), nI_clamp (by omega)]) ?_⟩⟩
        exact finY post k' _ _ _ _ _ h
  · have hno : ∀ e', e' < 4 → ¬ xus (4 * m + e') = 0 → ¬ xky (4 * m + e') = (xrg 1).toInt32 := fun e' h1 h2 h3 => fnd ⟨e', h1, h2, h3⟩
    have kno : ∀ k, k < cc → ¬ yks (4 * m + k) = ywd 1 := by
      intro k hk hh
      obtain ⟨e, e1, e2, e3⟩ := a4 k hk
      refine hno e e1 e2 (zu_inj ?_)
      rw [← e3, hh, w1, ux]
    have xe : ∀ {post : Int32 → Prop} {st : Int32}, post (-1) → wpX_entry post ((xw, xfo, xol, xfa, xpl, xle, xmo, xlw, xhg, xk2, xl2, xh2, xln, st, xop, xd, xs, xsz, xof, xim, xth, xK, xL, xH, xS, xQ, xF, xM, xG, xrg, xce, xpk, xus, xky, xsr)) (nI m) (xrg 1).toInt32 := fun h => x_entry hm (fun e' he' hu' hk' => absurd hk' (hno e' he' hu')) (fun _ => h)
    have yf : ∀ {post : Int32 → Prop}, post (-1) → wpY_find post ((ypl, yle, ymo, ysm, ygr, yw, yfa, yb, yok, yol, yoh, ylw, yhg, yby, yst, yop, yd, ys, yof, yim, ysz, yth, yK, yL, yH, yat, yQ, yS, yM, ytg, ywd, ypk, yks, yvs, ymn)) (nI m) (ywd 1) := fun h => y_find hm hcc a1 (fun k' hk' hh => absurd hh (kno k' hk')) (fun _ => h)
    have pe : ¬ (0 : Int32) ≤ -1 := by decide
    rcases ho with h50 | h51 | h52
    · rw [if_pos h50] at hok
      refine ⟨i + 1, _, _, xce, xus, xky, xsr, _, _, yks, yvs, ymn, none, hok, ⟨⟨st_setR (st_kill hst) (by omega) (x := 0) (t := 1) (y := 0) (rv_6 rfl (Or.inl ⟨rfl, rfl, rfl, rfl⟩)), a, ha, ea⟩, hmap, nq⟩, fun post k' h => goX post k' ?_, fun post k' h => goY post k' ?_⟩
      · unfold wpX_helper
        refine xe ?_
        exact br_t (o50.mpr h50) (br_f pe (nm_e (finX post k' _ _ _ _ h)))
      · unfold wpY_maps
        refine yf ?_
        exact br_t (o50.mpr h50) (br_f pe (y_hold (r := 0) rfl (by omega) kb_01.2.1 (finY post k' _ _ _ _ _ h)))
    · rw [if_neg (by omega)] at hok
      have k2 : (f 2).1 = 1 := Classical.byContradiction fun z => c3 (Or.inr ⟨h51, Or.inl z⟩)
      have k3 : (f 3).1 = 1 := Classical.byContradiction fun z => c3 (Or.inr ⟨h51, Or.inr z⟩)
      obtain ⟨w2, r20, r21⟩ := sc 2 (by omega) k2
      obtain ⟨w3, r30, r31⟩ := sc 3 (by omega) k3
      by_cases full : cc = 4
      · have fa : ∀ e, e < 4 → ¬ xus (4 * m + e) = 0 := cnt_full 4 (by rw [a2, full])
        refine ⟨i + 1, _, _, xce, xus, xky, xsr, _, _, yks, yvs, ymn, none, hok, ⟨⟨sc01 1 (Or.inr rfl), a, ha, ea⟩, hmap, nq⟩, fun post k' h => goX post k' ?_, fun post k' h => goY post k' ?_⟩
        · unfold wpX_helper
          refine xe ?_
          refine br_f (fun z => by have := o50.mp z; omega) (br_f (fun z => by have := o52.mp z; omega) (nm_r (ix4 m 0) ⟨6, x_freeL hm (fun e he hz _ => absurd hz (fa e he)) (fun _ => x_h113n (finX post k' _ _ _ _ h)) 4 0 (by omega) (fun e he => by omega) 6 (by omega)⟩))
        · unfold wpY_maps
          refine yf ?_
          refine br_f (fun z => by have := o50.mp z; omega) (y_hold (r := 0) rfl (by omega) kb_01.2.1 (br_t (o51.mpr h51) (br_f pe ⟨vm, br_t (by rw [emc, hcc, full]; rfl) (nm_r (e' := vp_updL ywd 0 1) upL_upL ?_)⟩)))
          exact finY post k' _ _ _ _ _ h
      · have ex : ∃ e, e < 4 ∧ xus (4 * m + e) = 0 ∧ ∀ e', e' < e → ¬ xus (4 * m + e') = 0 := by
          have : ∃ e, e < 4 ∧ xus (4 * m + e) = 0 := Classical.byContradiction fun z => full (a2.symm.trans (cnt_all 4 (fun e he hz => z ⟨e, he, hz⟩)))
          obtain ⟨e, ⟨h1, h2⟩, h3⟩ := pk_least (fun e => e < 4 ∧ xus (4 * m + e) = 0) this
          exact ⟨e, h1, h2, fun e' he' hz => h3 e' he' ⟨by omega, hz⟩⟩
        obtain ⟨e, he, hz, hbef⟩ := ex
        have N := m1_new hm1' (by omega) he hz hno ⟨r20, r21⟩ ⟨r30, r31⟩
        rw [ux] at N
        have kb1 : z_kb (nI (cc + 1)) := kb_nI (by omega)
        refine ⟨i + 1, _, _, xce, upd xus (4 * m + e) 1, upd xky (4 * m + e) (xrg 1).toInt32, _, _, _, vp_updL yks (4 * m + cc) (xrg 1), _, upd ymn m (nI (cc + 1)), none, hok, ⟨⟨sc01 0 (Or.inl rfl), a, ha, ea⟩, map_upd (c' := cc + 1) hmap hm N pk_us (fun m' hm' => pk_un hm') (fun j hj => ⟨pk_un (by omega), pk_un (by omega), pk_uLn (by omega)⟩) (fun j hj => ⟨?_, ?_⟩), nq⟩, fun post k' h => goX post k' ?_, fun post k' h => goY post k' ?_⟩
        · rw [pk_uLn (by omega), pk_uLn (by omega)]
        · rw [pk_uLn (by omega), pk_uLn (by omega)]
        · unfold wpX_helper
          refine xe ?_
          refine br_f (fun z => by have := o50.mp z; omega) (br_f (fun z => by have := o52.mp z; omega) (nm_r (ix4 m 0) ⟨6, x_freeL hm (fun e' he' hz' hb' => ?_) (fun z => absurd hz (z e he)) 4 0 (by omega) (fun e he => by omega) 6 (by omega)⟩))
          have ee : e' = e := by
            rcases Nat.lt_trichotomy e' e with y | y | y
            · exact absurd hz' (hbef e' y)
            · exact y
            · exact absurd hz (hb' e y)
          subst ee
          exact x_h113 (by omega) (finX post k' _ _ _ _ h)
        · unfold wpY_maps
          refine yf ?_
          refine br_f (fun z => by have := o50.mp z; omega) (y_hold (r := 0) rfl (by omega) kb_01.2.1 (br_t (o51.mpr h51) (br_f pe ⟨vm, br_f ?_ (br_f pe ⟨vm, vm, nm_r (e' := upd ymn m (nI (cc + 1))) (by rw [emc, hcc, nI_1, show vp_nar .byte (nI (cc + 1)).toInt8.toInt32 = nI (cc + 1) from kb1]) (y_u46 (k := 4 * m + cc) (by rw [emc, hcc, ix4 m 0, nI_add]) (by omega) ?_)⟩)⟩)))
          · rw [emc, hcc]
            exact fun z => full ((nI_eq (b := 4) (by omega) (by omega)).mp z)
          · rw [pk_uLn (by omega), pk_uLn (by omega), pk_uLn (by omega), w1, w2, w3]
            exact finY post k' _ _ _ _ _ h
    · rw [if_neg (by omega)] at hok
      refine ⟨i + 1, _, _, xce, xus, xky, xsr, _, _, yks, yvs, ymn, none, hok, ⟨⟨sc01 0 (Or.inl rfl), a, ha, ea⟩, hmap, nq⟩, fun post k' h => goX post k' ?_, fun post k' h => goY post k' ?_⟩
      · unfold wpX_helper
        refine xe ?_
        exact br_f (fun z => by have := o50.mp z; omega) (br_t (o52.mpr h52) (br_t (by decide) (br_f pe (nm_e (finX post k' _ _ _ _ h)))))
      · unfold wpY_maps
        refine yf ?_
        exact br_f (fun z => by have := o50.mp z; omega) (y_hold (r := 0) rfl (by omega) kb_01.2.1 (br_f (fun z => by have := o51.mp z; omega) (br_f pe (finY post k' _ _ _ _ _ h))))
end RI
end
section
/-! running -/
section RJ
variable {xw xfo xol xfa xpl : Int32} {xle xmo xlw xhg : Int64} {xk2 : Int32} {xl2 xh2 : Int64} {xln xst : Int32} {xop xd xs xsz xof xim xth xK : Nat → Int32} {xL xH : Nat → Int64} {xS xQ xF xM xG : Nat → Int32} {xrg xce : Nat → Int64} {xpk xus xky : Nat → Int32} {xsr : Nat → Int64}
variable {ypl : Int32} {yle ymo ysm ygr : Int64} {yw yfa yb yok : Int32} {yol yoh ylw yhg : Int64} {yby yst : Int32} {yop yd ys yof yim ysz yth yK : Nat → Int32} {yL yH : Nat → Int64} {yat yQ yS yM ytg : Nat → Int32} {ywd : Nat → Int64} {ypk : Nat → Int32} {yks yvs : Nat → Int64} {ymn : Nat → Int32}
theorem r_main {P : Nat → zC} {n p ln : Nat} {M : Nat → Prop} {L H : Int64} (hX : x_prog (40 * p) xop xd xs xof xim P n) (hY : x_prog (40 * p) yop yd ys yof yim P n) (hn : n ≤ 40) (hp : p ≤ 1) (hpk : ypk = xpk) (hln : ln ≤ 24) {i : Nat} {A : zA} (hg : z_gw P n M L H [] i A) :
    i < n ∧ (z_wf i A → ∀ (q : Option (Nat × Nat)) (st : Int32) (rg ce : Nat → Int64) (us ky : Nat → Int32) (sr : Nat → Int64) (tg : Nat → Int32) (wd ks vs : Nat → Int64) (mn : Nat → Int32), r_S q ln A rg ce us ky sr tg wd ks vs mn → ∀ (post : Int64 → SX → Prop) (Z : (Int64 → SY → Prop) → Prop), (∀ (r : Int64) (st : Int32) (rg ce : Nat → Int64) (us ky : Nat → Int32) (sr : Nat → Int64) (tg : Nat → Int32) (wd ks vs : Nat → Int64) (mn : Nat → Int32), r_map us ky sr ks vs mn → (∀ g : Int64 → SY → Prop, g r ((ypl, yle, ymo, ysm, ygr, yw, yfa, yb, yok, yol, yoh, ylw, yhg, yby, st, yop, yd, ys, yof, yim, ysz, yth, yK, yL, yH, yat, yQ, yS, yM, tg, wd, ypk, ks, vs, mn)) → Z g) → post r ((xw, xfo, xol, xfa, xpl, xle, xmo, xlw, xhg, xk2, xl2, xh2, xln, st, xop, xd, xs, xsz, xof, xim, xth, xK, xL, xH, xS, xQ, xF, xM, xG, rg, ce, xpk, us, ky, sr))) → (∀ g : Int64 → SY → Prop, (∃ k, wY_run_72 g (nI p) k (nI i) ypl yle ymo ysm ygr yw yfa yb yok yol yoh ylw yhg yby st yop yd ys yof yim ysz yth yK yL yH yat yQ yS yM tg wd ypk ks vs mn) → Z g) → ∃ k, wX_run_60 post k (nI (40 * p + i)) xw xfo xol xfa xpl xle xmo xlw xhg xk2 xl2 xh2 xln st xop xd xs xsz xof xim xth xK xL xH xS xQ xF xM xG rg ce xpk us ky sr) := by
  refine hg (fun i A => i < n ∧ (z_wf i A → ∀ (q : Option (Nat × Nat)) (st : Int32) (rg ce : Nat → Int64) (us ky : Nat → Int32) (sr : Nat → Int64) (tg : Nat → Int32) (wd ks vs : Nat → Int64) (mn : Nat → Int32), r_S q ln A rg ce us ky sr tg wd ks vs mn → ∀ (post : Int64 → SX → Prop) (Z : (Int64 → SY → Prop) → Prop), (∀ (r : Int64) (st : Int32) (rg ce : Nat → Int64) (us ky : Nat → Int32) (sr : Nat → Int64) (tg : Nat → Int32) (wd ks vs : Nat → Int64) (mn : Nat → Int32), r_map us ky sr ks vs mn → (∀ g : Int64 → SY → Prop, g r ((ypl, yle, ymo, ysm, ygr, yw, yfa, yb, yok, yol, yoh, ylw, yhg, yby, st, yop, yd, ys, yof, yim, ysz, yth, yK, yL, yH, yat, yQ, yS, yM, tg, wd, ypk, ks, vs, mn)) → Z g) → post r ((xw, xfo, xol, xfa, xpl, xle, xmo, xlw, xhg, xk2, xl2, xh2, xln, st, xop, xd, xs, xsz, xof, xim, xth, xK, xL, xH, xS, xQ, xF, xM, xG, rg, ce, xpk, us, ky, sr))) → (∀ g : Int64 → SY → Prop, (∃ k, wY_run_72 g (nI p) k (nI i) ypl yle ymo ysm ygr yw yfa yb yok yol yoh ylw yhg yby st yop yd ys yof yim ysz yth yK yL yH yat yQ yS yM tg wd ypk ks vs mn) → Z g) → ∃ k, wX_run_60 post k (nI (40 * p + i)) xw xfo xol xfa xpl xle xmo xlw xhg xk2 xl2 xh2 xln st xop xd xs xsz xof xim xth xK xL xH xS xQ xF xM xG rg ce xpk us ky sr)) (fun p hp => (List.not_mem_nil hp).elim) ?_
  intro i A o
  obtain ⟨o1, o2, o3⟩ := o
  refine ⟨o1, fun hwf q st rg ce us ky sr tg wd ks vs mn hS post Z hfin hZ => ?_⟩
  obtain ⟨cw, xx⟩ := hX i o1
  obtain ⟨-, yy⟩ := hY i o1
  have hx : x_at (40 * p + i) xop xd xs xof xim (P i) := xx
  have hy : x_at (40 * p + i) yop yd ys yof yim (P i) := yy
  have sw := stp_wf cw (by omega) hwf
  have hi : i < 40 := by omega
  have nm := cw.1
  have c120 : 40 * p + i < 120 := by omega
  by_cases h60 : (P i).1 = 60
  · have vc : vp_in (nI (40 * p + i)) 120 := vp_in_nI c120 (by omega)
    have ec : (nI (40 * p + i)).toNatClampNeg = 40 * p + i := nI_clamp (by omega)
    have o60x : xop (40 * p + i) = 60 := by rw [hx.1, h60]; rfl
    have o60y : yop (40 * p + i) = 60 := by rw [hy.1, h60]; rfl
    have es : z_stp (P i) i A = z_ext A.1 := by
      unfold z_stp
      rw [if_neg (by omega), if_neg (by omega), if_neg (by omega), if_neg (by omega), if_neg (by omega), if_neg (by omega)]
    have k1 : (A.1 0).1 = 1 := by
      rw [es] at o3
      unfold z_ext at o3
      by_cases c : (A.1 0).1 = 0
      · rw [if_pos c] at o3; exact o3.elim
      · rw [if_neg c] at o3
        by_cases d : (A.1 0).1 = 1
        · exact d
        · rw [if_neg d] at o3; exact o3.elim
    have w0 : wd 0 = rg 0 := ((st_reg hS.1.1 (show 0 < 8 by omega)).1 k1).2.1
    refine ⟨1, ?_⟩
    rw [wX_run_60]
    refine ⟨vc, br_t (by rw [ec]; exact o60x) (nm_e (hfin (rg 0) (st + 1) rg ce us ky sr tg wd ks vs mn hS.2.1 (fun g h => hZ g ⟨1, ?_⟩)))⟩
    rw [wY_run_72]
    have v : vp_in (40 * nI p + nI i) 120 := by rw [ix40]; exact vc
    refine ⟨v, br_t (by rw [ix40, ec]; exact o60y) (nm_e ?_)⟩
    rw [w0]
    exact h
  · generalize hR : (fun (j : Nat) (B : zA) => (j < n ∧ (z_wf j B → ∀ (q : Option (Nat × Nat)) (st : Int32) (rg ce : Nat → Int64) (us ky : Nat → Int32) (sr : Nat → Int64) (tg : Nat → Int32) (wd ks vs : Nat → Int64) (mn : Nat → Int32), r_S q ln B rg ce us ky sr tg wd ks vs mn → ∀ (post : Int64 → SX → Prop) (Z : (Int64 → SY → Prop) → Prop), (∀ (r : Int64) (st : Int32) (rg ce : Nat → Int64) (us ky : Nat → Int32) (sr : Nat → Int64) (tg : Nat → Int32) (wd ks vs : Nat → Int64) (mn : Nat → Int32), r_map us ky sr ks vs mn → (∀ g : Int64 → SY → Prop, g r ((ypl, yle, ymo, ysm, ygr, yw, yfa, yb, yok, yol, yoh, ylw, yhg, yby, st, yop, yd, ys, yof, yim, ysz, yth, yK, yL, yH, yat, yQ, yS, yM, tg, wd, ypk, ks, vs, mn)) → Z g) → post r ((xw, xfo, xol, xfa, xpl, xle, xmo, xlw, xhg, xk2, xl2, xh2, xln, st, xop, xd, xs, xsz, xof, xim, xth, xK, xL, xH, xS, xQ, xF, xM, xG, rg, ce, xpk, us, ky, sr))) → (∀ g : Int64 → SY → Prop, (∃ k, wY_run_72 g (nI p) k (nI j) ypl yle ymo ysm ygr yw yfa yb yok yol yoh ylw yhg yby st yop yd ys yof yim ysz yth yK yL yH yat yQ yS yM tg wd ypk ks vs mn) → Z g) → ∃ k, wX_run_60 post k (nI (40 * p + j)) xw xfo xol xfa xpl xle xmo xlw xhg xk2 xl2 xh2 xln st xop xd xs xsz xof xim xth xK xL xH xS xQ xF xM xG rg ce xpk us ky sr))) = R at o3
    have hok : z_okQ (fun j B => R j B ∧ z_wf j B) (z_stp (P i) i A) := z_el_mono (z_el_and o3 sw) (fun f h => h.1.elim) (fun _ _ _ => trivial) (fun j B h => ⟨h.1, h.2.2.2⟩) (fun j C k B h => ⟨⟨h.1.1, h.2.2.2.2.1⟩, ⟨h.1.2, h.2.2.2.2.2.1⟩⟩)
    have hQ40 : ∀ j B, (R j B ∧ z_wf j B) → j < 40 := by
      intro j B h
      have h1 := h.1
      rw [← hR] at h1
      exact Nat.lt_of_lt_of_le h1.1 hn
    obtain ⟨f, sf, lk⟩ := A
    unfold z_stp at hok
    have fin : (∃ (j : Nat) (B : zA) (rg' ce' : Nat → Int64) (us' ky' : Nat → Int32) (sr' : Nat → Int64) (tg' : Nat → Int32) (wd' ks' vs' : Nat → Int64) (mn' : Nat → Int32) (q' : Option (Nat × Nat)), (R j B ∧ z_wf j B) ∧ r_S q' ln B rg' ce' us' ky' sr' tg' wd' ks' vs' mn' ∧ (∀ (post : Int64 → SX → Prop) (k : Nat), wX_run_60 post k (nI (40 * p + j)) xw xfo xol xfa xpl xle xmo xlw xhg xk2 xl2 xh2 xln (st + 1) xop xd xs xsz xof xim xth xK xL xH xS xQ xF xM xG rg' ce' xpk us' ky' sr' → wX_run_60 post (k + 1) (nI (40 * p + i)) xw xfo xol xfa xpl xle xmo xlw xhg xk2 xl2 xh2 xln st xop xd xs xsz xof xim xth xK xL xH xS xQ xF xM xG rg ce xpk us ky sr) ∧ (∀ (post : Int64 → SY → Prop) (k : Nat), wY_run_72 post (nI p) k (nI j) ypl yle ymo ysm ygr yw yfa yb yok yol yoh ylw yhg yby (st + 1) yop yd ys yof yim ysz yth yK yL yH yat yQ yS yM tg' wd' ypk ks' vs' mn' → wY_run_72 post (nI p) (k + 1) (nI i) ypl yle ymo ysm ygr yw yfa yb yok yol yoh ylw yhg yby st yop yd ys yof yim ysz yth yK yL yH yat yQ yS yM tg wd ypk ks vs mn)) → ∃ k, wX_run_60 post k (nI (40 * p + i)) xw xfo xol xfa xpl xle xmo xlw xhg xk2 xl2 xh2 xln st xop xd xs xsz xof xim xth xK xL xH xS xQ xF xM xG rg ce xpk us ky sr := by
      rintro ⟨j, B, rg', ce', us', ky', sr', tg', wd', ks', vs', mn', q', ⟨hj, hjw⟩, hS', hx', hy'⟩
      rw [← hR] at hj
      obtain ⟨k, hk⟩ := hj.2 hjw q' (st + 1) rg' ce' us' ky' sr' tg' wd' ks' vs' mn' hS' post Z hfin (fun g ⟨k, h⟩ => hZ g ⟨k + 1, hy' g k h⟩)
      exact ⟨k + 1, hx' post k hk⟩
    apply fin
    clear fin hfin hZ
    by_cases c1 : (P i).1 < 20
    · rw [if_pos c1] at hok
      exact r_alu (c := P i) hx hy cw hp hi hS hwf hln c1 hok
    rw [if_neg c1] at hok
    by_cases c2 : (P i).1 < 40
    · rw [if_pos c2] at hok
      exact r_jmp (c := P i) hx hy cw hp hi hS hwf hln hQ40 (by omega) c2 hok
    rw [if_neg c2] at hok
    by_cases c3 : (P i).1 = 40
    · rw [if_pos c3] at hok
      exact r_ld (c := P i) hx hy cw hp hi hS hwf hln c3 hok
    rw [if_neg c3] at hok
    by_cases c4 : (P i).1 = 41
    · rw [if_pos c4] at hok
      exact r_sto (c := P i) hx hy cw hp hi hS hwf hln c4 hok
    rw [if_neg c4] at hok
    by_cases c5 : (P i).1 = 42
    · rw [if_pos c5] at hok
      exact r_pkt (c := P i) hx hy cw hp hi hS hwf hln hpk c5 hok
    rw [if_neg c5, if_pos (by unfold z_nm at nm; omega)] at hok
    exact r_hlp (c := P i) hx hy cw hp hi hS hwf hln (by unfold z_nm at nm; omega) hok
end RJ
end
section
/-! running, from the start -/
def y_z (f : Nat → Int32) (i : Nat) : Nat → Int32 := fun j => if j < i then 0 else f j
def y_zL (f : Nat → Int64) (i : Nat) : Nat → Int64 := fun j => if j < i then 0 else f j
theorem yz_s {f : Nat → Int32} {i : Nat} : upd (y_z f i) i 0 = y_z f (i + 1) := by
  funext j
  show _ = if j < i + 1 then 0 else f j
  by_cases e : j = i
  · rw [e, pk_us, if_pos (by omega)]
  · rw [pk_un e]
    show (if j < i then 0 else f j) = _
    by_cases c : j < i
    · rw [if_pos c, if_pos (by omega)]
    · rw [if_neg c, if_neg (by omega)]
theorem yzL_s {f : Nat → Int64} {i : Nat} : vp_updL (y_zL f i) i 0 = y_zL f (i + 1) := by
  funext j
  show _ = if j < i + 1 then 0 else f j
  by_cases e : j = i
  · rw [e, pk_uLs, if_pos (by omega)]
  · rw [pk_uLn e]
    show (if j < i then 0 else f j) = _
    by_cases c : j < i
    · rw [if_pos c, if_pos (by omega)]
    · rw [if_neg c, if_neg (by omega)]
theorem yz_0 {f : Nat → Int32} : y_z f 0 = f := funext fun j => if_neg (by omega)
theorem yzL_0 {f : Nat → Int64} : y_zL f 0 = f := funext fun j => if_neg (by omega)
section RK
variable {ypl : Int32} {yle ymo ysm ygr : Int64} {yw yfa yb yok : Int32} {yol yoh ylw yhg : Int64} {yby yst : Int32} {yop yd ys yof yim ysz yth yK : Nat → Int32} {yL yH : Nat → Int64} {yat yQ yS yM ytg : Nat → Int32} {ywd : Nat → Int64} {ypk : Nat → Int32} {yks yvs : Nat → Int64} {ymn : Nat → Int32}
theorem y_run28 {post : Int64 → SY → Prop} {x1 : Int32} (hh : ∃ n, wY_run_72 post x1 n 0 ypl yle ymo ysm ygr yw yfa yb yok yol yoh ylw yhg yby 0 yop yd ys yof yim ysz yth yK yL yH yat yQ yS yM (upd (upd (y_z ytg 14) 1 2) 2 3) (vp_updL (vp_updL (y_zL ywd 14) 1 0) 2 yby.toInt64) ypk yks yvs ymn) :
    ∀ (m j : Nat), j + m = 14 → wY_run_28 post x1 (m + 1) (nI j) ypl yle ymo ysm ygr yw yfa yb yok yol yoh ylw yhg yby yst yop yd ys yof yim ysz yth yK yL yH yat yQ yS yM (y_z ytg j) (y_zL ywd j) ypk yks yvs ymn := by
  intro m
  induction m with
  | zero =>
    intro j hj
    obtain rfl : j = 14 := by omega
    rw [wY_run_28]
    exact br_t (nI_le (a := 14) (b := 14) (by omega) (by omega)) (y_hold (r := 1) rfl (by omega) kb_01.2.2.1 (y_hold (r := 2) rfl (by omega) kb_01.2.2.2.1 hh))
  | succ m ih =>
    intro j hj
    rw [wY_run_28]
    refine br_f (nI_ge (b := 14) (by omega) (by omega)) (y_hold rfl (by omega) kb_01.1 (nm_r (nI_1 j) ?_))
    rw [yz_s, yzL_s]
    exact ih (j + 1) (by omega)
end RK
section RKZ
variable {xw xfo xol xfa xpl : Int32} {xle xmo xlw xhg : Int64} {xk2 : Int32} {xl2 xh2 : Int64} {xln xst : Int32} {xop xd xs xsz xof xim xth xK : Nat → Int32} {xL xH : Nat → Int64} {xS xQ xF xM xG : Nat → Int32} {xrg xce : Nat → Int64} {xpk xus xky : Nat → Int32} {xsr : Nat → Int64}
variable {ypl : Int32} {yle ymo ysm ygr : Int64} {yw yfa yb yok : Int32} {yol yoh ylw yhg : Int64} {yby yst : Int32} {yop yd ys yof yim ysz yth yK : Nat → Int32} {yL yH : Nat → Int64} {yat yQ yS yM ytg : Nat → Int32} {ywd : Nat → Int64} {ypk : Nat → Int32} {yks yvs : Nat → Int64} {ymn : Nat → Int32}
theorem xy_run {P : Nat → zC} {n p ln : Nat} {M : Nat → Prop} {L H : Int64} {F : Int64 → SX → Int64 → SY → Prop} (hX : x_prog (40 * p) xop xd xs xof xim P n) (hY : x_prog (40 * p) yop yd ys yof yim P n) (hn : n ≤ 40) (hp : p ≤ 1) (hpk : ypk = xpk) (hln : ln ≤ 24) (eln : xln = nI ln) (ebn : yby = nI ln) (hmap : r_map xus xky xsr yks yvs ymn) (tx : ¬ xth p = 0) (ty : ¬ yth p = 0) (hg : z_gw P n M L H [] 0 z_A0)
    (hF : ∀ (r : Int64) (st : Int32) (rg ce : Nat → Int64) (us ky : Nat → Int32) (sr : Nat → Int64) (tg : Nat → Int32) (wd ks vs : Nat → Int64) (mn : Nat → Int32), r_map us ky sr ks vs mn → F r ((xw, xfo, xol, xfa, xpl, xle, xmo, xlw, xhg, xk2, xl2, xh2, xln, st, xop, xd, xs, xsz, xof, xim, xth, xK, xL, xH, xS, xQ, xF, xM, xG, rg, ce, xpk, us, ky, sr)) r ((ypl, yle, ymo, ysm, ygr, yw, yfa, yb, yok, yol, yoh, ylw, yhg, yby, st, yop, yd, ys, yof, yim, ysz, yth, yK, yL, yH, yat, yQ, yS, yM, tg, wd, ypk, ks, vs, mn))) :
    wpX_run (fun r u => wpY_run (fun r' v => F r u r' v) ((ypl, yle, ymo, ysm, ygr, yw, yfa, yb, yok, yol, yoh, ylw, yhg, yby, yst, yop, yd, ys, yof, yim, ysz, yth, yK, yL, yH, yat, yQ, yS, yM, ytg, ywd, ypk, yks, yvs, ymn)) (nI p)) ((xw, xfo, xol, xfa, xpl, xle, xmo, xlw, xhg, xk2, xl2, xh2, xln, xst, xop, xd, xs, xsz, xof, xim, xth, xK, xL, xH, xS, xQ, xF, xM, xG, xrg, xce, xpk, xus, xky, xsr)) (nI p) := by
  have cp : (nI p).toNatClampNeg = p := nI_clamp (by omega)
  have v2 : vp_in (nI p) 2 := vp_in_nI (by omega) (by omega)
  refine br_f (nI_pos (by omega)) (br_t (nI_le (b := 1) hp (by omega)) ⟨v2, br_f (by rw [cp]; exact tx) (nm_e (nm_e (nm_r (e' := nI (40 * p + 0)) (by rw [show (40 : Int32) = nI 40 from rfl, pk_mul]; rfl) ?_)))⟩)
  refine (r_main hX hY hn hp hpk hln hg).2 A0_wf none 0 _ xce xus xky xsr (upd (upd (y_z ytg 14) 1 2) 2 3) (vp_updL (vp_updL (y_zL ywd 14) 1 0) 2 yby.toInt64) yks yvs ymn ⟨⟨?_, 0, by omega, rfl⟩, hmap, fun e k z => by cases z⟩ _ (fun g => ∃ k, wY_run_72 g (nI p) k (nI 0) ypl yle ymo ysm ygr yw yfa yb yok yol yoh ylw yhg yby 0 yop yd ys yof yim ysz yth yK yL yH yat yQ yS yM (upd (upd (y_z ytg 14) 1 2) 2 3) (vp_updL (vp_updL (y_zL ywd 14) 1 0) 2 yby.toInt64) ypk yks yvs ymn) ?_ (fun g h => h)
  · intro k hk
    show r_v none ln (if k = 2 then (3, 0, 0) else if k = 1 then (2, 0, 0) else (0, 0, 0)) _ _ _
    unfold r_x
    by_cases c2 : k = 2
    · subst c2
      rw [if_pos rfl, if_pos (by omega), pk_uLs, pk_us, pk_uLs, eln, ebn, nI_l (by omega)]
      exact rv_3 rfl rfl rfl
    · rw [if_neg c2]
      by_cases c1 : k = 1
      · subst c1
        rw [if_pos rfl, if_pos (by omega), pk_uLn (by omega), pk_uLs, pk_un (by omega), pk_us, pk_uLn (by omega), pk_uLs]
        exact rv_2 rfl rfl ⟨Int.le_refl _, Int.le_refl _⟩
      · rw [if_neg c1]
        exact rv_0 rfl
  · intro r st rg ce us ky sr tg wd ks vs mn hm hz
    refine br_f (nI_pos (by omega)) (br_t (nI_le (b := 1) hp (by omega)) ⟨v2, br_f (by rw [cp]; exact ty) ⟨15, ?_⟩⟩)
    have h := y_run28 (yst := yst) (ytg := ytg) (ywd := ywd) (hz _ (hF r st rg ce us ky sr tg wd ks vs mn hm)) 14 0 (by omega)
    rw [yz_0, yzL_0] at h
    exact h
end RKZ
end
section
/-! the relation -/
def z_end (P : Nat → zC) (n : Nat) : Prop := ∀ i, n ≤ i → P i = (60, 0, 0, 0, 0)
theorem end_cj {P : Nat → zC} {n : Nat} (h : z_end P n) : ∀ j, z_cj P j ≤ z_cj P n := by
  intro j
  by_cases c : j ≤ n
  · exact cj_le P c
  · have : ∀ d, z_cj P (n + d) = z_cj P n := by
      intro d
      induction d with
      | zero => rfl
      | succ d ih =>
        rw [← Nat.add_assoc, z_cj, h (n + d) (by omega), ih]
        rfl
    have e := this (j - n)
    rw [show n + (j - n) = j by omega] at e
    omega
/-- a program that was verified -/
def z_good (p : Nat) (op d s of im : Nat → Int32) : Prop := ∃ (P : Nat → zC) (n : Nat) (M : Nat → Prop) (L H : Int64), n ≤ 40 ∧ x_prog (40 * p) op d s of im P n ∧ z_gw P n M L H [] 0 z_A0
def z_Rel (xpl : Int32) (xle xmo : Int64) (xln xst : Int32) (xop xd xs xsz xof xim xth xpk xus xky : Nat → Int32) (xsr : Nat → Int64) (ypl : Int32) (yle ymo : Int64) (yby yst : Int32) (yop yd ys ysz yof yim yth ypk : Nat → Int32) (yks yvs : Nat → Int64) (ymn : Nat → Int32) : Prop :=
  ypl = xpl ∧ yle = xle ∧ ymo = xmo ∧ yby = xln ∧ yst = xst ∧ yop = xop ∧ yd = xd ∧ ys = xs ∧ ysz = xsz ∧ yof = xof ∧ yim = xim ∧ yth = xth ∧ ypk = xpk ∧
  (∃ ln, ln ≤ 24 ∧ xln = nI ln) ∧ r_map xus xky xsr yks yvs ymn ∧ (∃ P n, n ≤ 40 ∧ xsz 2 = nI n ∧ x_prog 80 xop xd xs xof xim P n ∧ z_end P n) ∧ ∀ p, p < 2 → xth p = 0 ∨ z_good p xop xd xs xof xim
/-- the relation at the head of a turn -/
def i_Rel (_k : Nat) (u : SX) (v : SY) : Prop := match u with | (xw, xfo, xol, xfa, xpl, xle, xmo, xlw, xhg, xk2, xl2, xh2, xln, xst, xop, xd, xs, xsz, xof, xim, xth, xK, xL, xH, xS, xQ, xF, xM, xG, xrg, xce, xpk, xus, xky, xsr) => match v with | (ypl, yle, ymo, ysm, ygr, yw, yfa, yb, yok, yol, yoh, ylw, yhg, yby, yst, yop, yd, ys, yof, yim, ysz, yth, yK, yL, yH, yat, yQ, yS, yM, ytg, ywd, ypk, yks, yvs, ymn) => z_Rel xpl xle xmo xln xst xop xd xs xsz xof xim xth xpk xus xky xsr ypl yle ymo yby yst yop yd ys ysz yof yim yth ypk yks yvs ymn
theorem i_el {P : SX → SY → Prop} {k : Nat} (h : ∀ xw xfo xol xfa xpl xle xmo xlw xhg xk2 xl2 xh2 xln xst xop xd xs xsz xof xim xth xK xL xH xS xQ xF xM xG xrg xce xpk xus xky xsr ypl yle ymo ysm ygr yw yfa yb yok yol yoh ylw yhg yby yst yop yd ys yof yim ysz yth yK yL yH yat yQ yS yM ytg ywd ypk yks yvs ymn, z_Rel xpl xle xmo xln xst xop xd xs xsz xof xim xth xpk xus xky xsr ypl yle ymo yby yst yop yd ys ysz yof yim yth ypk yks yvs ymn → P ((xw, xfo, xol, xfa, xpl, xle, xmo, xlw, xhg, xk2, xl2, xh2, xln, xst, xop, xd, xs, xsz, xof, xim, xth, xK, xL, xH, xS, xQ, xF, xM, xG, xrg, xce, xpk, xus, xky, xsr)) ((ypl, yle, ymo, ysm, ygr, yw, yfa, yb, yok, yol, yoh, ylw, yhg, yby, yst, yop, yd, ys, yof, yim, ysz, yth, yK, yL, yH, yat, yQ, yS, yM, ytg, ywd, ypk, yks, yvs, ymn))) : ∀ (u : SX) (v : SY), i_Rel k u v → P u v
  | (xw, xfo, xol, xfa, xpl, xle, xmo, xlw, xhg, xk2, xl2, xh2, xln, xst, xop, xd, xs, xsz, xof, xim, xth, xK, xL, xH, xS, xQ, xF, xM, xG, xrg, xce, xpk, xus, xky, xsr), (ypl, yle, ymo, ysm, ygr, yw, yfa, yb, yok, yol, yoh, ylw, yhg, yby, yst, yop, yd, ys, yof, yim, ysz, yth, yK, yL, yH, yat, yQ, yS, yM, ytg, ywd, ypk, yks, yvs, ymn), I => h xw xfo xol xfa xpl xle xmo xlw xhg xk2 xl2 xh2 xln xst xop xd xs xsz xof xim xth xK xL xH xS xQ xF xM xG xrg xce xpk xus xky xsr ypl yle ymo ysm ygr yw yfa yb yok yol yoh ylw yhg yby yst yop yd ys yof yim ysz yth yK yL yH yat yQ yS yM ytg ywd ypk yks yvs ymn I
theorem i_up {k : Nat} {u : SX} {v : SY} (h : i_Rel k u v) : i_Rel (k + 6) u v := h
theorem map_0 {us ky : Nat → Int32} {sr ks vs : Nat → Int64} {mn : Nat → Int32} (h0 : ∀ j, j < 8 → us j = 0) (h1 : ∀ m, m < 2 → mn m = 0) : r_map us ky sr ks vs mn := by
  intro m hm
  refine ⟨0, h1 m hm, by omega, ?_, fun e he hu => absurd (h0 _ (by omega)) hu, fun k hk => by omega, fun e e' he he' hu => absurd (h0 _ (by omega)) hu, fun k k' hk => by omega, fun e k b he hk => by omega⟩
  have : ∀ j, j ≤ 4 → r_cnt us m j = 0 := by
    intro j
    induction j with
    | zero => intro _; rfl
    | succ j ih => intro hj; rw [r_cnt, ih (by omega), if_pos (h0 _ (by omega))]
  exact this 4 (by omega)
theorem i_vc0 : wpX_init (fun u => wpY_init (fun v => i_Rel 0 u v)) := by
  show z_Rel _ _ _ _ _ _ _ _ _ _ _ _ _ _ _ _ _ _ _ _ _ _ _ _ _ _ _ _ _ _ _ _
  refine ⟨rfl, rfl, rfl, rfl, rfl, rfl, rfl, rfl, rfl, rfl, rfl, rfl, rfl, ⟨0, by omega, rfl⟩, map_0 (fun _ _ => rfl) (fun _ _ => rfl), ⟨fun _ => (60, 0, 0, 0, 0), 0, by omega, rfl, fun i hi => by omega, fun _ _ => rfl⟩, fun p hp => Or.inl rfl⟩
theorem i_vc_place {k : Nat} {u : SX} {v : SY} (I : i_Rel k u v) (hk : k + 6 ≤ 3072) : wpX_place (fun r => wpY_place (fun r' => r' = r ∧ i_Rel (k + 6) u v) v) u := by
  refine i_el (P := fun u v => wpX_place (fun r => wpY_place (fun r' => r' = r ∧ i_Rel (k + 6) u v) v) u) ?_ u v I
  intro xw xfo xol xfa xpl xle xmo xlw xhg xk2 xl2 xh2 xln xst xop xd xs xsz xof xim xth xK xL xH xS xQ xF xM xG xrg xce xpk xus xky xsr ypl yle ymo ysm ygr yw yfa yb yok yol yoh ylw yhg yby yst yop yd ys yof yim ysz yth yK yL yH yat yQ yS yM ytg ywd ypk yks yvs ymn R
  exact ⟨R.1, R⟩
theorem i_vc_least {k : Nat} {u : SX} {v : SY} (I : i_Rel k u v) (hk : k + 6 ≤ 3072) : wpX_least (fun r => wpY_least (fun r' => r' = r ∧ i_Rel (k + 6) u v) v) u := by
  refine i_el (P := fun u v => wpX_least (fun r => wpY_least (fun r' => r' = r ∧ i_Rel (k + 6) u v) v) u) ?_ u v I
  intro xw xfo xol xfa xpl xle xmo xlw xhg xk2 xl2 xh2 xln xst xop xd xs xsz xof xim xth xK xL xH xS xQ xF xM xG xrg xce xpk xus xky xsr ypl yle ymo ysm ygr yw yfa yb yok yol yoh ylw yhg yby yst yop yd ys yof yim ysz yth yK yL yH yat yQ yS yM ytg ywd ypk yks yvs ymn R
  exact ⟨R.2.1, R⟩
theorem i_vc_most {k : Nat} {u : SX} {v : SY} (I : i_Rel k u v) (hk : k + 6 ≤ 3072) : wpX_most (fun r => wpY_most (fun r' => r' = r ∧ i_Rel (k + 6) u v) v) u := by
  refine i_el (P := fun u v => wpX_most (fun r => wpY_most (fun r' => r' = r ∧ i_Rel (k + 6) u v) v) u) ?_ u v I
  intro xw xfo xol xfa xpl xle xmo xlw xhg xk2 xl2 xh2 xln xst xop xd xs xsz xof xim xth xK xL xH xS xQ xF xM xG xrg xce xpk xus xky xsr ypl yle ymo ysm ygr yw yfa yb yok yol yoh ylw yhg yby yst yop yd ys yof yim ysz yth yK yL yH yat yQ yS yM ytg ywd ypk yks yvs ymn R
  exact ⟨R.2.2.1, R⟩
theorem i_vc_steps {k : Nat} {u : SX} {v : SY} (I : i_Rel k u v) (hk : k + 6 ≤ 3072) : wpX_steps (fun r => wpY_steps (fun r' => r' = r ∧ i_Rel (k + 6) u v) v) u := by
  refine i_el (P := fun u v => wpX_steps (fun r => wpY_steps (fun r' => r' = r ∧ i_Rel (k + 6) u v) v) u) ?_ u v I
  intro xw xfo xol xfa xpl xle xmo xlw xhg xk2 xl2 xh2 xln xst xop xd xs xsz xof xim xth xK xL xH xS xQ xF xM xG xrg xce xpk xus xky xsr ypl yle ymo ysm ygr yw yfa yb yok yol yoh ylw yhg yby yst yop yd ys yof yim ysz yth yK yL yH yat yQ yS yM ytg ywd ypk yks yvs ymn R
  exact ⟨R.2.2.2.2.1, R⟩
theorem i_vc_feed {k : Nat} {u : SX} {v : SY} (I : i_Rel k u v) (hk : k + 6 ≤ 3072) (v1 : Int32) : wpX_feed (fun r u' => wpY_feed (fun r' v' => r' = r ∧ i_Rel (k + 6) u' v') v v1) u v1 := by
  refine i_el (P := fun u v => wpX_feed (fun r u' => wpY_feed (fun r' v' => r' = r ∧ i_Rel (k + 6) u' v') v v1) u v1) ?_ u v I
  intro xw xfo xol xfa xpl xle xmo xlw xhg xk2 xl2 xh2 xln xst xop xd xs xsz xof xim xth xK xL xH xS xQ xF xM xG xrg xce xpk xus xky xsr ypl yle ymo ysm ygr yw yfa yb yok yol yoh ylw yhg yby yst yop yd ys yof yim ysz yth yK yL yH yat yQ yS yM ytg ywd ypk yks yvs ymn R
  obtain ⟨rfl, rfl, rfl, rfl, rfl, rfl, rfl, rfl, rfl, rfl, rfl, rfl, rfl, ⟨ln, hln, rfl⟩, hr⟩ := R
  by_cases c : ln = 24
  · have e : nI ln = 24 := by rw [c]; rfl
    exact br_t e (br_t e ⟨rfl, rfl, rfl, rfl, rfl, rfl, rfl, rfl, rfl, rfl, rfl, rfl, rfl, rfl, ⟨ln, hln, rfl⟩, hr⟩)
  · have e : ¬ nI ln = 24 := fun z => c ((nI_eq (b := 24) (by omega) (by omega)).mp z)
    have vi : vp_in (nI ln) 24 := vp_in_nI (by omega) (by omega)
    exact br_f e (nm_e ⟨vi, nm_e (br_f e (nm_e ⟨vi, nm_e ⟨rfl, rfl, rfl, rfl, rfl, rfl, rfl, rfl, rfl, rfl, rfl, rfl, rfl, rfl, ⟨ln + 1, by omega, nI_1 ln⟩, hr⟩⟩))⟩)
theorem i_vc_next {k : Nat} {u : SX} {v : SY} (I : i_Rel k u v) (hk : k + 6 ≤ 3072) : wpX_next (fun r u' => wpY_next (fun r' v' => r' = r ∧ i_Rel (k + 6) u' v') v) u := by
  refine i_el (P := fun u v => wpX_next (fun r u' => wpY_next (fun r' v' => r' = r ∧ i_Rel (k + 6) u' v') v) u) ?_ u v I
  intro xw xfo xol xfa xpl xle xmo xlw xhg xk2 xl2 xh2 xln xst xop xd xs xsz xof xim xth xK xL xH xS xQ xF xM xG xrg xce xpk xus xky xsr ypl yle ymo ysm ygr yw yfa yb yok yol yoh ylw yhg yby yst yop yd ys yof yim ysz yth yK yL yH yat yQ yS yM ytg ywd ypk yks yvs ymn R
  obtain ⟨rfl, rfl, rfl, rfl, rfl, rfl, rfl, rfl, rfl, rfl, rfl, rfl, rfl, hl, hr⟩ := R
  exact ⟨rfl, rfl, rfl, rfl, rfl, rfl, rfl, rfl, rfl, rfl, rfl, rfl, rfl, rfl, ⟨0, by omega, rfl⟩, hr⟩
theorem i_vc_wipe {k : Nat} {u : SX} {v : SY} (I : i_Rel k u v) (hk : k + 6 ≤ 3072) : wpX_wipe (fun r u' => wpY_wipe (fun r' v' => r' = r ∧ i_Rel (k + 6) u' v') v) u := by
  refine i_el (P := fun u v => wpX_wipe (fun r u' => wpY_wipe (fun r' v' => r' = r ∧ i_Rel (k + 6) u' v') v) u) ?_ u v I
  intro xw xfo xol xfa xpl xle xmo xlw xhg xk2 xl2 xh2 xln xst xop xd xs xsz xof xim xth xK xL xH xS xQ xF xM xG xrg xce xpk xus xky xsr ypl yle ymo ysm ygr yw yfa yb yok yol yoh ylw yhg yby yst yop yd ys yof yim ysz yth yK yL yH yat yQ yS yM ytg ywd ypk yks yvs ymn R
  obtain ⟨rfl, rfl, rfl, rfl, rfl, rfl, rfl, rfl, rfl, rfl, rfl, rfl, rfl, hl, hm, hd, hg⟩ := R
  refine nm_e (nm_e (nm_e (nm_e ⟨rfl, rfl, rfl, rfl, rfl, rfl, rfl, rfl, rfl, rfl, rfl, rfl, rfl, rfl, hl, hm, ⟨fun _ => (60, 0, 0, 0, 0), 0, by omega, ?_, fun i hi => by omega, fun _ _ => rfl⟩, hg⟩)))
  rw [pk_us]
  exact kb_n kb_01.1
end
section
/-! the draft's methods, maps' methods -/
theorem rng {x a b : Int32} {K J : Prop} (hK : a ≤ x → x ≤ b → K) (hJ : ¬ (a ≤ x ∧ x ≤ b) → J) : ((x < a → J) ∧ (¬ x < a → ((x ≤ b → K) ∧ (¬ x ≤ b → J)))) :=
  br_c (fun z => hJ (fun q => absurd z (Int32.not_lt.mpr q.1))) (fun z => br_c (fun y => hK (Int32.not_lt.mp z) y) (fun y => hJ (fun q => y q.2)))
def z_N (o : Int32) : Prop := (0 ≤ o ∧ o ≤ 6) ∨ (10 ≤ o ∧ o ≤ 16) ∨ (20 ≤ o ∧ o ≤ 24) ∨ (31 ≤ o ∧ o ≤ 34) ∨ (40 ≤ o ∧ o ≤ 42) ∨ (50 ≤ o ∧ o ≤ 52) ∨ o = 60
theorem rng_N {o a b : Int32} (x y : Nat) (ha : a = nI x) (hb : b = nI y) (hy : y < 2 ^ 31) (hxy : x ≤ y) (h : a ≤ o ∧ o ≤ b) : ∃ j : Nat, x ≤ j ∧ j ≤ y ∧ o = nI j := by
  have h0 : ¬ o < 0 := by
    rw [Int32.lt_iff_toInt_lt]
    have h1 := h.1
    rw [ha, Int32.le_iff_toInt_le, nI_toInt (by omega)] at h1
    rw [show (0 : Int32).toInt = 0 from by decide]
    omega
  obtain ⟨j, hj, rfl⟩ := nI_of h0
  have h1 := h.1
  have h2 := h.2
  rw [ha, nI_leI (by omega) hj] at h1
  rw [hb, nI_leI hj hy] at h2
  exact ⟨j, h1, h2, rfl⟩
theorem N_nm {o : Int32} (h : z_N o) : ∃ j : Nat, o = nI j ∧ z_nm j := by
  rcases h with h | h | h | h | h | h | h
  · obtain ⟨j, h1, h2, e⟩ := rng_N 0 6 rfl rfl (by omega) (by omega) h
    exact ⟨j, e, by unfold z_nm; omega⟩
  · obtain ⟨j, h1, h2, e⟩ := rng_N 10 16 rfl rfl (by omega) (by omega) h
    exact ⟨j, e, by unfold z_nm; omega⟩
  · obtain ⟨j, h1, h2, e⟩ := rng_N 20 24 rfl rfl (by omega) (by omega) h
    exact ⟨j, e, by unfold z_nm; omega⟩
  · obtain ⟨j, h1, h2, e⟩ := rng_N 31 34 rfl rfl (by omega) (by omega) h
    exact ⟨j, e, by unfold z_nm; omega⟩
  · obtain ⟨j, h1, h2, e⟩ := rng_N 40 42 rfl rfl (by omega) (by omega) h
    exact ⟨j, e, by unfold z_nm; omega⟩
  · obtain ⟨j, h1, h2, e⟩ := rng_N 50 52 rfl rfl (by omega) (by omega) h
    exact ⟨j, e, by unfold z_nm; omega⟩
  · exact ⟨60, h, by unfold z_nm; omega⟩
theorem x_named {post : Int32 → Prop} {o : Int32} (h1 : z_N o → post 1) (h0 : ¬ z_N o → post 0) : wpX_named post o := by
  refine rng (fun a b => h1 (Or.inl ⟨a, b⟩)) (fun n1 => rng (fun a b => h1 (Or.inr (Or.inl ⟨a, b⟩))) (fun n2 => rng (fun a b => h1 (Or.inr (Or.inr (Or.inl ⟨a, b⟩)))) (fun n3 => rng (fun a b => h1 (Or.inr (Or.inr (Or.inr (Or.inl ⟨a, b⟩))))) (fun n4 => rng (fun a b => h1 (Or.inr (Or.inr (Or.inr (Or.inr (Or.inl ⟨a, b⟩)))))) (fun n5 => rng (fun a b => h1 (Or.inr (Or.inr (Or.inr (Or.inr (Or.inr (Or.inl ⟨a, b⟩))))))) (fun n6 => br_c (fun z => h1 (Or.inr (Or.inr (Or.inr (Or.inr (Or.inr (Or.inr z))))))) (fun n7 => h0 (fun q => ?_))))))))
  rcases q with q | q | q | q | q | q | q
  · exact n1 q
  · exact n2 q
  · exact n3 q
  · exact n4 q
  · exact n5 q
  · exact n6 q
  · exact n7 q
def z_cok (o d s im : Int32) (sz : Nat → Int32) : Prop := z_N o ∧ ¬ d < 0 ∧ ¬ 7 < d ∧ ¬ s < 0 ∧ ¬ 8 < s ∧ (o = 6 → ¬ im < 0 ∧ ¬ 31 < im) ∧ ¬ sz 2 = 40
section VX
variable {xw xfo xol xfa xpl : Int32} {xle xmo xlw xhg : Int64} {xk2 : Int32} {xl2 xh2 : Int64} {xln xst : Int32} {xop xd xs xsz xof xim xth xK : Nat → Int32} {xL xH : Nat → Int64} {xS xQ xF xM xG : Nat → Int32} {xrg xce : Nat → Int64} {xpk xus xky : Nat → Int32} {xsr : Nat → Int64}
theorem x_code {post : Int32 → SX → Prop} {o d s of im : Int32} {n : Nat} (hsz : xsz 2 = nI n) (hn : n ≤ 40) (h0 : ¬ z_cok o d s im xsz → post 0 ((xw, xfo, xol, xfa, xpl, xle, xmo, xlw, xhg, xk2, xl2, xh2, xln, xst, xop, xd, xs, xsz, xof, xim, xth, xK, xL, xH, xS, xQ, xF, xM, xG, xrg, xce, xpk, xus, xky, xsr))) (h1 : z_cok o d s im xsz → post 1 ((xw, xfo, xol, xfa, xpl, xle, xmo, xlw, xhg, xk2, xl2, xh2, xln, xst, upd xop (80 + n) (vp_nar .byte o.toInt8.toInt32), upd xd (80 + n) (vp_nar .byte d.toInt8.toInt32), upd xs (80 + n) (vp_nar .byte s.toInt8.toInt32), upd xsz 2 (nI (n + 1)), upd xof (80 + n) of, upd xim (80 + n) im, xth, xK, xL, xH, xS, xQ, xF, xM, xG, xrg, xce, xpk, xus, xky, xsr))) : wpX_code post ((xw, xfo, xol, xfa, xpl, xle, xmo, xlw, xhg, xk2, xl2, xh2, xln, xst, xop, xd, xs, xsz, xof, xim, xth, xK, xL, xH, xS, xQ, xF, xM, xG, xrg, xce, xpk, xus, xky, xsr)) o d s of im := by
  unfold wpX_code
  refine x_named (fun hN => br_f (by decide) ?_) (fun hN => br_t rfl (h0 (fun q => hN q.1)))
  refine br_c (fun z => h0 (fun q => q.2.1 z)) (fun c1 => br_c (fun z => h0 (fun q => q.2.2.1 z)) (fun c2 => br_c (fun z => h0 (fun q => q.2.2.2.1 z)) (fun c3 => br_c (fun z => h0 (fun q => q.2.2.2.2.1 z)) (fun c4 => ?_))))
  have g45 : (o = 6 → ¬ im < 0 ∧ ¬ 31 < im) → wX_code_45 post o d s of im xw xfo xol xfa xpl xle xmo xlw xhg xk2 xl2 xh2 xln xst xop xd xs xsz xof xim xth xK xL xH xS xQ xF xM xG xrg xce xpk xus xky xsr := by
    intro c5
    refine br_c (fun z => h0 (fun q => q.2.2.2.2.2.2 z)) (fun c6 => ?_)
    have n39 : n < 40 := by
      by_cases c : n = 40
      · rw [hsz, c] at c6; exact absurd rfl c6
      · omega
    have e80 : (80 : Int32) + xsz 2 = nI (80 + n) := by rw [hsz, ix80]
    have v : vp_in (nI (80 + n)) 120 := vp_in_nI (by omega) (by omega)
    have ec : (nI (80 + n)).toNatClampNeg = 80 + n := nI_clamp (by omega)
    refine nm_r (e' := upd xsz 2 (nI (n + 1))) (by rw [hsz, nI_1, show vp_nar .byte (nI (n + 1)).toInt8.toInt32 = nI (n + 1) from kb_nI (by omega)]) (nm_r e80 ⟨v, nm_r (by rw [ec]) ⟨v, nm_r (by rw [ec]) ⟨v, nm_r (by rw [ec]) ⟨v, nm_r (by rw [ec]) ⟨v, nm_r (by rw [ec]) (h1 ⟨hN, c1, c2, c3, c4, c5, c6⟩)⟩⟩⟩⟩⟩)
  exact br_c (fun z => br_c (fun y => h0 (fun q => (q.2.2.2.2.2.1 z).1 y)) (fun y => br_c (fun w => h0 (fun q => (q.2.2.2.2.2.1 z).2 w)) (fun w => g45 (fun _ => ⟨y, w⟩)))) (fun z => g45 (fun y => absurd y z))
theorem x_forgetL {post : SX → Prop} (hh : ∀ us, (∀ j, j < 8 → us j = 0) → post ((xw, xfo, xol, xfa, xpl, xle, xmo, xlw, xhg, xk2, xl2, xh2, xln, xst, xop, xd, xs, xsz, xof, xim, xth, xK, xL, xH, xS, xQ, xF, xM, xG, xrg, xce, xpk, us, xky, xsr))) :
    ∀ (m j : Nat) (us : Nat → Int32), j + m = 8 → (∀ k, k < j → us k = 0) → wX_forget_2 post xw xfo xol xfa xpl xle xmo xlw xhg xk2 xl2 xh2 xln xst (m + 1) (nI j) xop xd xs xsz xof xim xth xK xL xH xS xQ xF xM xG xrg xce xpk us xky xsr := by
  intro m
  induction m with
  | zero =>
    intro j us hj hc
    obtain rfl : j = 8 := by omega
    rw [wX_forget_2]
    exact br_t (nI_le (a := 8) (b := 8) (by omega) (by omega)) (hh us hc)
  | succ m ih =>
    intro j us hj hc
    rw [wX_forget_2]
    have ei : (nI j).toNatClampNeg = j := nI_clamp (by omega)
    refine br_f (nI_ge (b := 8) (by omega) (by omega)) ⟨vp_in_nI (by omega) (by omega), nm_r (e' := upd us j 0) (by rw [ei, nb_0]) (nm_r (nI_1 j) (ih (j + 1) _ (by omega) (fun k hk => ?_)))⟩
    by_cases e : k = j
    · rw [e, pk_us]
    · rw [pk_un e]; exact hc k (by omega)
theorem x_keysL {post : Int32 → Prop} {m : Nat} (hm : m < 2) (hh : post (nI (r_cnt xus m 4))) :
    ∀ (d j : Nat), j + d = 4 → wX_keys_17 post (nI m) xw xfo xol xfa xpl xle xmo xlw xhg xk2 xl2 xh2 xln xst xop xd xs xsz xof xim xth xK xL xH xS xQ xF xM xG xrg xce xpk xus xky xsr (d + 1) (nI (r_cnt xus m j)) (nI (4 * m + j)) := by
  have e4 : (4 : Int32) * nI m + 4 = nI (4 * m + 4) := by rw [ix4 m 0, show (4 : Int32) = nI 4 from rfl, nI_add]
  intro d
  induction d with
  | zero =>
    intro j hj
    obtain rfl : j = 4 := by omega
    rw [wX_keys_17]
    exact br_t (by rw [e4]; exact nI_le (Nat.le_refl _) (by omega)) hh
  | succ d ih =>
    intro j hj
    rw [wX_keys_17]
    have ei : (nI (4 * m + j)).toNatClampNeg = 4 * m + j := nI_clamp (by omega)
    have nx := ih (j + 1) (by omega)
    rw [r_cnt] at nx
    refine br_f (by rw [e4]; exact nI_ge (by omega) (by omega)) ⟨vp_in_nI (by omega) (by omega), ?_⟩
    rw [ei]
    refine br_c (fun z => nm_r (nI_1 _) ?_) (fun z => nm_r (nI_1 _) (nm_r (nI_1 _) ?_))
    · rw [if_pos z] at nx; exact nx
    · rw [if_neg z] at nx; exact nx
end VX
section VY
variable {ypl : Int32} {yle ymo ysm ygr : Int64} {yw yfa yb yok : Int32} {yol yoh ylw yhg : Int64} {yby yst : Int32} {yop yd ys yof yim ysz yth yK : Nat → Int32} {yL yH : Nat → Int64} {yat yQ yS yM ytg : Nat → Int32} {ywd : Nat → Int64} {ypk : Nat → Int32} {yks yvs : Nat → Int64} {ymn : Nat → Int32}
theorem y_code {post : Int32 → SY → Prop} {o d s of im : Int32} {n : Nat} (hsz : ysz 2 = nI n) (hn : n ≤ 40) (h0 : ¬ z_cok o d s im ysz → post 0 ((ypl, yle, ymo, ysm, ygr, yw, yfa, yb, yok, yol, yoh, ylw, yhg, yby, yst, yop, yd, ys, yof, yim, ysz, yth, yK, yL, yH, yat, yQ, yS, yM, ytg, ywd, ypk, yks, yvs, ymn))) (h1 : z_cok o d s im ysz → post 1 ((ypl, yle, ymo, ysm, ygr, yw, yfa, yb, yok, yol, yoh, ylw, yhg, yby, yst, upd yop (80 + n) (vp_nar .byte o.toInt8.toInt32), upd yd (80 + n) (vp_nar .byte d.toInt8.toInt32), upd ys (80 + n) (vp_nar .byte s.toInt8.toInt32), upd yof (80 + n) of, upd yim (80 + n) im, upd ysz 2 (nI (n + 1)), yth, yK, yL, yH, yat, yQ, yS, yM, ytg, ywd, ypk, yks, yvs, ymn))) : wpY_code post ((ypl, yle, ymo, ysm, ygr, yw, yfa, yb, yok, yol, yoh, ylw, yhg, yby, yst, yop, yd, ys, yof, yim, ysz, yth, yK, yL, yH, yat, yQ, yS, yM, ytg, ywd, ypk, yks, yvs, ymn)) o d s of im := by
  have g76 : z_N o → wY_code_76 post o d s of im ypl yle ymo ysm ygr yw yfa yb yok yol yoh ylw yhg yby yst yop yd ys yof yim ysz yth yK yL yH yat yQ yS yM ytg ywd ypk yks yvs ymn := by
    intro hN
    refine br_f (by decide) ?_
    refine br_c (fun z => h0 (fun q => q.2.1 z)) (fun c1 => br_c (fun z => h0 (fun q => q.2.2.1 z)) (fun c2 => br_c (fun z => h0 (fun q => q.2.2.2.1 z)) (fun c3 => br_c (fun z => h0 (fun q => q.2.2.2.2.1 z)) (fun c4 => ?_))))
    have g126 : (o = 6 → ¬ im < 0 ∧ ¬ 31 < im) → wY_code_126 post o d s of im ypl yle ymo ysm ygr yw yfa yb yok yol yoh ylw yhg yby yst yop yd ys yof yim ysz yth yK yL yH yat yQ yS yM ytg ywd ypk yks yvs ymn := by
      intro c5
      refine br_c (fun z => h0 (fun q => q.2.2.2.2.2.2 z)) (fun c6 => ?_)
      have n39 : n < 40 := by
        by_cases c : n = 40
        · rw [hsz, c] at c6; exact absurd rfl c6
        · omega
      have e80 : (80 : Int32) + ysz 2 = nI (80 + n) := by rw [hsz, ix80]
      have v : vp_in (nI (80 + n)) 120 := vp_in_nI (by omega) (by omega)
      have ec : (nI (80 + n)).toNatClampNeg = 80 + n := nI_clamp (by omega)
      refine nm_r (e' := upd ysz 2 (nI (n + 1))) (by rw [hsz, nI_1, show vp_nar .byte (nI (n + 1)).toInt8.toInt32 = nI (n + 1) from kb_nI (by omega)]) (nm_r e80 ⟨v, nm_r (by rw [ec]) ⟨v, nm_r (by rw [ec]) ⟨v, nm_r (by rw [ec]) ⟨v, nm_r (by rw [ec]) ⟨v, nm_r (by rw [ec]) (h1 ⟨hN, c1, c2, c3, c4, c5, c6⟩)⟩⟩⟩⟩⟩)
    exact br_c (fun z => br_c (fun y => h0 (fun q => (q.2.2.2.2.2.1 z).1 y)) (fun y => br_c (fun w => h0 (fun q => (q.2.2.2.2.2.1 z).2 w)) (fun w => g126 (fun _ => ⟨y, w⟩)))) (fun z => g126 (fun y => absurd y z))
  refine rng (fun a b => g76 (Or.inl ⟨a, b⟩)) (fun n1 => rng (fun a b => g76 (Or.inr (Or.inl ⟨a, b⟩))) (fun n2 => rng (fun a b => g76 (Or.inr (Or.inr (Or.inl ⟨a, b⟩)))) (fun n3 => rng (fun a b => g76 (Or.inr (Or.inr (Or.inr (Or.inl ⟨a, b⟩))))) (fun n4 => rng (fun a b => g76 (Or.inr (Or.inr (Or.inr (Or.inr (Or.inl ⟨a, b⟩)))))) (fun n5 => rng (fun a b => g76 (Or.inr (Or.inr (Or.inr (Or.inr (Or.inr (Or.inl ⟨a, b⟩))))))) (fun n6 => br_c (fun z => g76 (Or.inr (Or.inr (Or.inr (Or.inr (Or.inr (Or.inr z))))))) (fun n7 => br_t rfl (h0 (fun q => ?_)))))))))
  rcases q.1 with q | q | q | q | q | q | q
  · exact n1 q
  · exact n2 q
  · exact n3 q
  · exact n4 q
  · exact n5 q
  · exact n6 q
  · exact n7 q
end VY
theorem i_vc_code {k : Nat} {u : SX} {v : SY} (I : i_Rel k u v) (hk : k + 6 ≤ 3072) (v1 : Int32) (v2 : Int32) (v3 : Int32) (v4 : Int32) (v5 : Int32) : wpX_code (fun r u' => wpY_code (fun r' v' => r' = r ∧ i_Rel (k + 6) u' v') v v1 v2 v3 v4 v5) u v1 v2 v3 v4 v5 := by
  refine i_el (P := fun u v => wpX_code (fun r u' => wpY_code (fun r' v' => r' = r ∧ i_Rel (k + 6) u' v') v v1 v2 v3 v4 v5) u v1 v2 v3 v4 v5) ?_ u v I
  intro xw xfo xol xfa xpl xle xmo xlw xhg xk2 xl2 xh2 xln xst xop xd xs xsz xof xim xth xK xL xH xS xQ xF xM xG xrg xce xpk xus xky xsr ypl yle ymo ysm ygr yw yfa yb yok yol yoh ylw yhg yby yst yop yd ys yof yim ysz yth yK yL yH yat yQ yS yM ytg ywd ypk yks yvs ymn R
  obtain ⟨rfl, rfl, rfl, rfl, rfl, rfl, rfl, rfl, rfl, rfl, rfl, rfl, rfl, hl, hm, ⟨P, n, hn, hsz, hp, he⟩, hg⟩ := R
  refine x_code hsz hn (fun z => y_code hsz hn (fun _ => ⟨rfl, rfl, rfl, rfl, rfl, rfl, rfl, rfl, rfl, rfl, rfl, rfl, rfl, rfl, hl, hm, ⟨P, n, hn, hsz, hp, he⟩, hg⟩) (fun z1 => absurd z1 z)) (fun z => y_code hsz hn (fun z1 => absurd z z1) (fun _ => ⟨rfl, rfl, rfl, rfl, rfl, rfl, rfl, rfl, rfl, rfl, rfl, rfl, rfl, rfl, hl, hm, ?_, ?_⟩))
  · obtain ⟨c0, c1, c2, c3, c4, c5, c6⟩ := z
    obtain ⟨o, rfl, ho⟩ := N_nm c0
    obtain ⟨d, hd, rfl⟩ := nI_of2 (M := 7) (n := 7) (by decide) c1 (Int32.not_lt.mp c2)
    obtain ⟨s, hs, rfl⟩ := nI_of2 (M := 8) (n := 8) (by decide) c3 (Int32.not_lt.mp c4)
    have n39 : n < 40 := by
      by_cases c : n = 40
      · rw [hsz, c] at c6; exact absurd rfl c6
      · omega
    refine ⟨fun i => if i = n then (o, d, s, v4, v5) else P i, n + 1, by omega, pk_us, fun i hi => ?_, fun i hi => ?_⟩
    · by_cases e : i = n
      · rw [e]
        simp only [if_pos rfl, pk_us, if_true]
        exact ⟨⟨ho, by dsimp only; omega, by dsimp only; omega⟩, kb_nI (by unfold z_nm at ho; omega), kb_nI (by omega), kb_nI (by omega), by trivial⟩
      · simp only [if_neg e]
        rw [pk_un (by omega), pk_un (by omega), pk_un (by omega), pk_un (by omega), pk_un (by omega)]
        exact hp i (by omega)
    · show (if i = n then (o, d, s, v4, v5) else P i) = _
      rw [if_neg (by omega)]
      exact he i (by omega)
  · intro p hp2
    rcases hg p hp2 with g | ⟨P', n', M', L', H', q1, q2, q3⟩
    · exact Or.inl g
    · refine Or.inr ⟨P', n', M', L', H', q1, fun i hi => ?_, q3⟩
      rw [pk_un (by omega), pk_un (by omega), pk_un (by omega), pk_un (by omega), pk_un (by omega)]
      exact q2 i hi
theorem i_vc_forget {k : Nat} {u : SX} {v : SY} (I : i_Rel k u v) (hk : k + 6 ≤ 3072) : wpX_forget (fun u' => wpY_forget (fun v' => i_Rel (k + 6) u' v') v) u := by
  refine i_el (P := fun u v => wpX_forget (fun u' => wpY_forget (fun v' => i_Rel (k + 6) u' v') v) u) ?_ u v I
  intro xw xfo xol xfa xpl xle xmo xlw xhg xk2 xl2 xh2 xln xst xop xd xs xsz xof xim xth xK xL xH xS xQ xF xM xG xrg xce xpk xus xky xsr ypl yle ymo ysm ygr yw yfa yb yok yol yoh ylw yhg yby yst yop yd ys yof yim ysz yth yK yL yH yat yQ yS yM ytg ywd ypk yks yvs ymn R
  obtain ⟨rfl, rfl, rfl, rfl, rfl, rfl, rfl, rfl, rfl, rfl, rfl, rfl, rfl, hl, hm, hd, hg⟩ := R
  refine ⟨9, x_forgetL (fun us hus => nm_e (nm_e ⟨rfl, rfl, rfl, rfl, rfl, rfl, rfl, rfl, rfl, rfl, rfl, rfl, rfl, hl, map_0 hus (fun m hm => ?_), hd, hg⟩)) 8 0 xus (by omega) (fun k hk => by omega)⟩
  have : m = 0 ∨ m = 1 := by omega
  rcases this with rfl | rfl
  · rw [pk_un (by omega), pk_us]; exact kb_n kb_01.1
  · rw [pk_us]; exact kb_n kb_01.1
theorem i_vc_keys {k : Nat} {u : SX} {v : SY} (I : i_Rel k u v) (hk : k + 6 ≤ 3072) (v1 : Int32) : wpX_keys (fun r => wpY_keys (fun r' => r' = r ∧ i_Rel (k + 6) u v) v v1) u v1 := by
  refine i_el (P := fun u v => wpX_keys (fun r => wpY_keys (fun r' => r' = r ∧ i_Rel (k + 6) u v) v v1) u v1) ?_ u v I
  intro xw xfo xol xfa xpl xle xmo xlw xhg xk2 xl2 xh2 xln xst xop xd xs xsz xof xim xth xK xL xH xS xQ xF xM xG xrg xce xpk xus xky xsr ypl yle ymo ysm ygr yw yfa yb yok yol yoh ylw yhg yby yst yop yd ys yof yim ysz yth yK yL yH yat yQ yS yM ytg ywd ypk yks yvs ymn R
  have hm := R.2.2.2.2.2.2.2.2.2.2.2.2.2.2.1
  have bad : (v1 < 0 ∨ ¬ v1 ≤ 1) → wpY_keys (fun r' => r' = (-1) ∧ i_Rel (k + 6) ((xw, xfo, xol, xfa, xpl, xle, xmo, xlw, xhg, xk2, xl2, xh2, xln, xst, xop, xd, xs, xsz, xof, xim, xth, xK, xL, xH, xS, xQ, xF, xM, xG, xrg, xce, xpk, xus, xky, xsr)) ((ypl, yle, ymo, ysm, ygr, yw, yfa, yb, yok, yol, yoh, ylw, yhg, yby, yst, yop, yd, ys, yof, yim, ysz, yth, yK, yL, yH, yat, yQ, yS, yM, ytg, ywd, ypk, yks, yvs, ymn))) ((ypl, yle, ymo, ysm, ygr, yw, yfa, yb, yok, yol, yoh, ylw, yhg, yby, yst, yop, yd, ys, yof, yim, ysz, yth, yK, yL, yH, yat, yQ, yS, yM, ytg, ywd, ypk, yks, yvs, ymn)) v1 := fun z => br_f (fun q => (im_01 v1).mp q z) ⟨rfl, R⟩
  refine br_c (fun z => bad (Or.inl z)) (fun z => br_c (fun z1 => ?_) (fun z1 => bad (Or.inr z1)))
  obtain ⟨m, hm1, rfl⟩ := nI_of2 (M := 1) (n := 1) (by decide) z z1
  obtain ⟨c, e1, e2⟩ := hm m (by omega)
  refine nm_r (ix4 m 0) ⟨5, x_keysL (by omega) (br_t ((im_01 _).mpr (fun q => by rcases q with q | q; exact z q; exact q z1)) ⟨vp_in_nI (by omega) (by omega), ?_, R⟩) 4 0 (by omega)⟩
  rw [nI_clamp (by omega), e1, e2.2.1]
theorem i_vc_value {k : Nat} {u : SX} {v : SY} (I : i_Rel k u v) (hk : k + 6 ≤ 3072) (v1 : Int32) (v2 : Int32) (v3 : Int32) : wpX_value (fun r => wpY_value (fun r' => r' = r ∧ i_Rel (k + 6) u v) v v1 v2 v3) u v1 v2 v3 := by
  refine i_el (P := fun u v => wpX_value (fun r => wpY_value (fun r' => r' = r ∧ i_Rel (k + 6) u v) v v1 v2 v3) u v1 v2 v3) ?_ u v I
  intro xw xfo xol xfa xpl xle xmo xlw xhg xk2 xl2 xh2 xln xst xop xd xs xsz xof xim xth xK xL xH xS xQ xF xM xG xrg xce xpk xus xky xsr ypl yle ymo ysm ygr yw yfa yb yok yol yoh ylw yhg yby yst yop yd ys yof yim ysz yth yK yL yH yat yQ yS yM ytg ywd ypk yks yvs ymn R
  have hm := R.2.2.2.2.2.2.2.2.2.2.2.2.2.2.1
  have bad1 : (v1 < 0 ∨ ¬ v1 ≤ 1) → wpY_value (fun r' => r' = (-1) ∧ i_Rel (k + 6) ((xw, xfo, xol, xfa, xpl, xle, xmo, xlw, xhg, xk2, xl2, xh2, xln, xst, xop, xd, xs, xsz, xof, xim, xth, xK, xL, xH, xS, xQ, xF, xM, xG, xrg, xce, xpk, xus, xky, xsr)) ((ypl, yle, ymo, ysm, ygr, yw, yfa, yb, yok, yol, yoh, ylw, yhg, yby, yst, yop, yd, ys, yof, yim, ysz, yth, yK, yL, yH, yat, yQ, yS, yM, ytg, ywd, ypk, yks, yvs, ymn))) ((ypl, yle, ymo, ysm, ygr, yw, yfa, yb, yok, yol, yoh, ylw, yhg, yby, yst, yop, yd, ys, yof, yim, ysz, yth, yK, yL, yH, yat, yQ, yS, yM, ytg, ywd, ypk, yks, yvs, ymn)) v1 v2 v3 := fun z => br_f (fun q => (im_01 v1).mp q z) ⟨rfl, R⟩
  have bad2 : (v3 < 0 ∨ ¬ v3 ≤ 1) → wpY_value (fun r' => r' = (-1) ∧ i_Rel (k + 6) ((xw, xfo, xol, xfa, xpl, xle, xmo, xlw, xhg, xk2, xl2, xh2, xln, xst, xop, xd, xs, xsz, xof, xim, xth, xK, xL, xH, xS, xQ, xF, xM, xG, xrg, xce, xpk, xus, xky, xsr)) ((ypl, yle, ymo, ysm, ygr, yw, yfa, yb, yok, yol, yoh, ylw, yhg, yby, yst, yop, yd, ys, yof, yim, ysz, yth, yK, yL, yH, yat, yQ, yS, yM, ytg, ywd, ypk, yks, yvs, ymn))) ((ypl, yle, ymo, ysm, ygr, yw, yfa, yb, yok, yol, yoh, ylw, yhg, yby, yst, yop, yd, ys, yof, yim, ysz, yth, yK, yL, yH, yat, yQ, yS, yM, ytg, ywd, ypk, yks, yvs, ymn)) v1 v2 v3 := fun z => br_c (fun _ => br_f (fun q => (im_01 v3).mp q z) ⟨rfl, R⟩) (fun _ => ⟨rfl, R⟩)
  refine br_c (fun z => bad1 (Or.inl z)) (fun z => br_c (fun z1 => bad1 (Or.inr (Int32.not_le.mpr z1))) (fun z1 => br_c (fun y => bad2 (Or.inl y)) (fun y => br_c (fun y1 => ?_) (fun y1 => bad2 (Or.inr y1)))))
  obtain ⟨m, hm1, rfl⟩ := nI_of2 (M := 1) (n := 1) (by decide) z (Int32.not_lt.mp z1)
  obtain ⟨b, hb1, rfl⟩ := nI_of2 (M := 1) (n := 1) (by decide) y y1
  obtain ⟨c, e1, e2⟩ := hm m (by omega)
  obtain ⟨a1, a2, a3, a4, a5, a6, a7⟩ := e2
  have ok : (nI m &&& (-2)) = 0 ∧ (nI b &&& (-2)) = 0 := ⟨(im_01 _).mpr (fun q => by rcases q with q | q; exact z q; exact q (Int32.not_lt.mp z1)), (im_01 _).mpr (fun q => by rcases q with q | q; exact y q; exact q y1)⟩
  have ix : ∀ e : Nat, (2 : Int32) * nI e + nI b = nI (2 * e + b) := fun e => by rw [show (2 : Int32) = nI 2 from rfl, pk_mul, nI_add]
  refine x_entry (by omega) (fun e he hu hky => br_t (nI_pos' (by omega)) ?_) (fun hno => br_f (by decide) ?_)
  · rw [ix]
    refine ⟨vp_in_nI (by omega) (by omega), br_t ok.1 (br_t ok.2 (y_find (by omega) e1 a1 (fun k' hk' hks => br_t (nI_pos' (by omega)) ?_) (fun hno => ?_)))⟩
    · rw [ix]
      refine ⟨vp_in_nI (by omega) (by omega), ?_, R⟩
      rw [nI_clamp (by omega), nI_clamp (by omega)]
      have hks' : yks (4 * m + k') = z_u (xky (4 * m + e)) := by rw [hky]; exact hks
      exact (a7 e k' b he hk' (by omega) hu hks').1.symm
    · obtain ⟨k', k1, k2⟩ := a3 e he hu
      rw [hky] at k2
      exact absurd k2 (hno k' k1)
  · refine br_t ok.1 (br_t ok.2 (y_find (by omega) e1 a1 (fun k' hk' hks => ?_) (fun _ => br_f (by decide) ⟨rfl, R⟩)))
    obtain ⟨e, q1, q2, q3⟩ := a4 k' hk'
    exact absurd (zu_inj (q3.symm.trans hks)) (hno e q1 q2)
end
section
/-! verify and run -/
theorem cp_in {f : Nat → Int32} {p n i : Nat} (hi : i < n) : z_cp f p n (40 * p + i) = f (80 + i) := by
  show (if 40 * p ≤ 40 * p + i ∧ 40 * p + i < 40 * p + n then f (80 + (40 * p + i - 40 * p)) else f (40 * p + i)) = _
  rw [if_pos (by omega), show 40 * p + i - 40 * p = i by omega]
theorem cp_out {f : Nat → Int32} {p q n i : Nat} (hn : n ≤ 40) (hi : i < 40) (hpq : q ≠ p) : z_cp f p n (40 * q + i) = f (40 * q + i) := if_neg (by omega)
theorem prog_cp {op d s of im : Nat → Int32} {P : Nat → zC} {n p : Nat} (h : x_prog 80 op d s of im P n) : x_prog (40 * p) (z_cp op p n) (z_cp d p n) (z_cp s p n) (z_cp of p n) (z_cp im p n) P n := by
  intro i hi
  rw [cp_in hi, cp_in hi, cp_in hi, cp_in hi, cp_in hi]
  exact h i hi
theorem prog_80 {op d s of im : Nat → Int32} {P : Nat → zC} {n m p : Nat} (hp : p ≤ 1) (hm : m ≤ 40) (h : x_prog 80 op d s of im P n) : x_prog 80 (z_cp op p m) (z_cp d p m) (z_cp s p m) (z_cp of p m) (z_cp im p m) P n := by
  intro i hi
  rw [cp_src hp hm, cp_src hp hm, cp_src hp hm, cp_src hp hm, cp_src hp hm]
  exact h i hi
theorem good_cp {op d s of im : Nat → Int32} {p q n : Nat} (hn : n ≤ 40) (hpq : q ≠ p) (h : z_good q op d s of im) : z_good q (z_cp op p n) (z_cp d p n) (z_cp s p n) (z_cp of p n) (z_cp im p n) := by
  obtain ⟨P, n', M, L, H, h1, h2, h3⟩ := h
  refine ⟨P, n', M, L, H, h1, fun i hi => ?_, h3⟩
  rw [cp_out hn (by omega) hpq, cp_out hn (by omega) hpq, cp_out hn (by omega) hpq, cp_out hn (by omega) hpq, cp_out hn (by omega) hpq]
  exact h2 i hi
theorem i_vc_verify {k : Nat} {u : SX} {v : SY} (I : i_Rel k u v) (hk : k + 6 ≤ 3072) (v1 : Int32) : wpX_verify (fun r u' => wpY_verify (fun r' v' => r' = r ∧ i_Rel (k + 6) u' v') v v1) u v1 := by
  refine i_el (P := fun u v => wpX_verify (fun r u' => wpY_verify (fun r' v' => r' = r ∧ i_Rel (k + 6) u' v') v v1) u v1) ?_ u v I
  intro xw xfo xol xfa xpl xle xmo xlw xhg xk2 xl2 xh2 xln xst xop xd xs xsz xof xim xth xK xL xH xS xQ xF xM xG xrg xce xpk xus xky xsr ypl yle ymo ysm ygr yw yfa yb yok yol yoh ylw yhg yby yst yop yd ys yof yim ysz yth yK yL yH yat yQ yS yM ytg ywd ypk yks yvs ymn R
  by_cases z : v1 < 0
  · exact br_t z (br_t z ⟨rfl, R⟩)
  by_cases z1 : v1 ≤ 1
  · obtain ⟨p, hp1, rfl⟩ := nI_of2 (M := 1) (n := 1) (by decide) z z1
    obtain ⟨rfl, rfl, rfl, rfl, rfl, rfl, rfl, rfl, rfl, rfl, rfl, rfl, rfl, hl, hm, ⟨P, n, hn, hsz, hp, he⟩, hg⟩ := R
    refine x_verify hp (end_cj he) hn hsz hp1 (fun f q hv w fo ol lw hg' k2 l2 h2 K L H S Q F Mt G => ?_) (fun lw hg' k2 l2 h2 K L H S Q F Mt G w fo ol hv hgw => ?_)
    · refine y_verify hp (end_cj he) hn hsz hp1 hv (fun f' q' e sm gr ww bb ok ol' oh lw' hg'' K' L' H' At Q' S' Mt' => ?_) (fun Lo Hi e => by cases e)
      injection e with e
      injection e with e1 e2
      subst e1
      subst e2
      exact ⟨rfl, rfl, rfl, rfl, rfl, rfl, rfl, rfl, rfl, rfl, rfl, rfl, rfl, rfl, hl, hm, ⟨P, n, hn, hsz, hp, he⟩, hg⟩
    · refine y_verify hp (end_cj he) hn hsz hp1 hv (fun f' q' e => by cases e) (fun Lo Hi e sm gr ww bb ok ol' oh lw' hg'' K' L' H' At Q' S' Mt' => ?_)
      injection e with e
      injection e with e1 e2
      subst e1
      subst e2
      obtain ⟨M, gw⟩ := hgw
      have hP : ∀ i, i < n → z_cw (P i) := fun i hi => (hp i hi).1
      obtain ⟨lo, hi, x1, x2, _⟩ := gw_exit hP hn gw A0_wf
      have esm : y_sm lw = lw := by
        refine if_neg (fun q => ?_)
        rw [q, li_le, show (4294967296 : Int64).toInt = 4294967296 from by decide] at x1
        omega
      refine ⟨rfl, rfl, esm, rfl, rfl, rfl, rfl, rfl, rfl, rfl, rfl, rfl, rfl, rfl, hl, hm, ⟨P, n, hn, ?_, prog_80 hp1 hn hp, he⟩, fun q hq => ?_⟩
      · rw [pk_un (by omega)]; exact hsz
      · by_cases c : q = p
        · rw [c]; exact Or.inr ⟨P, n, M, lw, hg', hn, prog_cp hp, gw⟩
        · rw [pk_un c]
          rcases hg q hq with g | g
          · exact Or.inl g
          · exact Or.inr (good_cp hn c g)
  · exact br_f z (br_f z1 (br_f z (br_f z1 ⟨rfl, R⟩)))
theorem i_vc_run {k : Nat} {u : SX} {v : SY} (I : i_Rel k u v) (hk : k + 6 ≤ 3072) (v1 : Int32) : wpX_run (fun r u' => wpY_run (fun r' v' => r' = r ∧ i_Rel (k + 6) u' v') v v1) u v1 := by
  refine i_el (P := fun u v => wpX_run (fun r u' => wpY_run (fun r' v' => r' = r ∧ i_Rel (k + 6) u' v') v v1) u v1) ?_ u v I
  intro xw xfo xol xfa xpl xle xmo xlw xhg xk2 xl2 xh2 xln xst xop xd xs xsz xof xim xth xK xL xH xS xQ xF xM xG xrg xce xpk xus xky xsr ypl yle ymo ysm ygr yw yfa yb yok yol yoh ylw yhg yby yst yop yd ys yof yim ysz yth yK yL yH yat yQ yS yM ytg ywd ypk yks yvs ymn R
  by_cases z : v1 < 0
  · exact br_t z (br_t z ⟨rfl, R⟩)
  by_cases z1 : v1 ≤ 1
  · obtain ⟨p, hp1, rfl⟩ := nI_of2 (M := 1) (n := 1) (by decide) z z1
    have cp : (nI p).toNatClampNeg = p := nI_clamp (by omega)
    have v2 : vp_in (nI p) 2 := vp_in_nI (by omega) (by omega)
    have R' := R
    obtain ⟨rfl, rfl, rfl, rfl, rfl, rfl, rfl, rfl, rfl, rfl, rfl, rfl, rfl, ⟨ln, hln, eln⟩, hm, hd, hg⟩ := R
    by_cases t : yth p = 0
    · have t' : yth (nI p).toNatClampNeg = 0 := by rw [cp]; exact t
      exact br_f z (br_t z1 ⟨v2, br_t t' (br_f z (br_t z1 ⟨v2, br_t t' ⟨rfl, R'⟩⟩))⟩)
    · rcases hg p (by omega) with g | ⟨P, n, M, L, H, q1, q2, q3⟩
      · exact absurd g t
      · exact xy_run (F := fun r u r' v => r' = r ∧ i_Rel (k + 6) u v) q2 q2 q1 hp1 rfl hln eln eln hm t t q3 (fun r st rg ce us ky sr tg wd ks vs mn hmap => ⟨rfl, rfl, rfl, rfl, rfl, rfl, rfl, rfl, rfl, rfl, rfl, rfl, rfl, rfl, ⟨ln, hln, eln⟩, hmap, hd, hg⟩)
  · exact br_f z (br_f z1 (br_f z (br_f z1 ⟨rfl, R⟩)))
end
